section
-- ===== PART A: goes FIRST, ahead of the names: the tables' words, and 'selects' of the private methods out of them =====
/-- a private method of a class that the tables say can be made, by its rows of tables_1 -/
def lw_okq (q : MethodName × Nat) : Prop := (q.1.cls ≠ "java/lang/invoke/MethodHandle" ∧ q.1.cls ≠ "java/lang/invoke/VarHandle") ∧ Cond.instantiable q.1.cls q.2 ∈ tables_1 ∧ Cond.privateMethod q.1 ∈ tables_1 ∧ Cond.instanceMethod q.1 ∈ tables_1
set_option maxRecDepth 100000
theorem lw_p0 : lw_okq (⟨"FlameTree", "childWith", "(II)I"⟩, 10) := ⟨⟨by decide +kernel, by decide +kernel⟩, List.mem_of_getElem? (i := 4) rfl, List.mem_of_getElem? (i := 59) rfl, List.mem_of_getElem? (i := 60) rfl⟩
theorem lw_p1 : lw_okq (⟨"FlameTree", "addChild", "(II)I"⟩, 10) := ⟨⟨by decide +kernel, by decide +kernel⟩, List.mem_of_getElem? (i := 4) rfl, List.mem_of_getElem? (i := 63) rfl, List.mem_of_getElem? (i := 64) rfl⟩
theorem lw_p2 : lw_okq (⟨"FlameTree", "nodeOfStack", "()I"⟩, 10) := ⟨⟨by decide +kernel, by decide +kernel⟩, List.mem_of_getElem? (i := 4) rfl, List.mem_of_getElem? (i := 71) rfl, List.mem_of_getElem? (i := 72) rfl⟩
theorem lw_p3 : lw_okq (⟨"FlameTree", "standsAbove", "(III)Z"⟩, 10) := ⟨⟨by decide +kernel, by decide +kernel⟩, List.mem_of_getElem? (i := 4) rfl, List.mem_of_getElem? (i := 87) rfl, List.mem_of_getElem? (i := 88) rfl⟩
theorem lw_p4 : lw_okq (⟨"FlameTree", "depthOf", "(I)I"⟩, 10) := ⟨⟨by decide +kernel, by decide +kernel⟩, List.mem_of_getElem? (i := 4) rfl, List.mem_of_getElem? (i := 107) rfl, List.mem_of_getElem? (i := 108) rfl⟩
theorem lw_p5 : lw_okq (⟨"FlameTreeModel", "over", "(I)Z"⟩, 6) := ⟨⟨by decide +kernel, by decide +kernel⟩, List.mem_of_getElem? (i := 111) rfl, List.mem_of_getElem? (i := 155) rfl, List.mem_of_getElem? (i := 156) rfl⟩
theorem lw_p6 : lw_okq (⟨"FlameTreeModel", "totalWith", "(I)I"⟩, 6) := ⟨⟨by decide +kernel, by decide +kernel⟩, List.mem_of_getElem? (i := 111) rfl, List.mem_of_getElem? (i := 167) rfl, List.mem_of_getElem? (i := 168) rfl⟩
theorem lw_p7 : lw_okq (⟨"FlameTreeModel", "standing", "(II)I"⟩, 6) := ⟨⟨by decide +kernel, by decide +kernel⟩, List.mem_of_getElem? (i := 111) rfl, List.mem_of_getElem? (i := 175) rfl, List.mem_of_getElem? (i := 176) rfl⟩
theorem lw_p8 : lw_okq (⟨"FlameTreeModel", "stands", "(III)Z"⟩, 6) := ⟨⟨by decide +kernel, by decide +kernel⟩, List.mem_of_getElem? (i := 111) rfl, List.mem_of_getElem? (i := 179) rfl, List.mem_of_getElem? (i := 180) rfl⟩
theorem lw_p9 : lw_okq (⟨"FlameTreeModel", "newTotal", "(II)I"⟩, 6) := ⟨⟨by decide +kernel, by decide +kernel⟩, List.mem_of_getElem? (i := 111) rfl, List.mem_of_getElem? (i := 195) rfl, List.mem_of_getElem? (i := 196) rfl⟩
theorem lw_p10 : lw_okq (⟨"FlameTreeModel", "share", "(III)Z"⟩, 6) := ⟨⟨by decide +kernel, by decide +kernel⟩, List.mem_of_getElem? (i := 111) rfl, List.mem_of_getElem? (i := 199) rfl, List.mem_of_getElem? (i := 200) rfl⟩
def lw_privs_1 : List (MethodName × Nat) := [(⟨"FlameTree", "childWith", "(II)I"⟩, 10), (⟨"FlameTree", "addChild", "(II)I"⟩, 10), (⟨"FlameTree", "nodeOfStack", "()I"⟩, 10), (⟨"FlameTree", "standsAbove", "(III)Z"⟩, 10), (⟨"FlameTree", "depthOf", "(I)I"⟩, 10), (⟨"FlameTreeModel", "over", "(I)Z"⟩, 6), (⟨"FlameTreeModel", "totalWith", "(I)I"⟩, 6), (⟨"FlameTreeModel", "standing", "(II)I"⟩, 6), (⟨"FlameTreeModel", "stands", "(III)Z"⟩, 6), (⟨"FlameTreeModel", "newTotal", "(II)I"⟩, 6), (⟨"FlameTreeModel", "share", "(III)Z"⟩, 6)]
theorem lw_r1 : ∀ q ∈ lw_privs_1, lw_okq q := List.forall_mem_cons.mpr ⟨lw_p0, List.forall_mem_cons.mpr ⟨lw_p1, List.forall_mem_cons.mpr ⟨lw_p2, List.forall_mem_cons.mpr ⟨lw_p3, List.forall_mem_cons.mpr ⟨lw_p4, List.forall_mem_cons.mpr ⟨lw_p5, List.forall_mem_cons.mpr ⟨lw_p6, List.forall_mem_cons.mpr ⟨lw_p7, List.forall_mem_cons.mpr ⟨lw_p8, List.forall_mem_cons.mpr ⟨lw_p9, List.forall_mem_cons.mpr ⟨lw_p10, fun _ h => absurd h List.not_mem_nil⟩⟩⟩⟩⟩⟩⟩⟩⟩⟩⟩
def lw_privs : List (MethodName × Nat) := lw_privs_1
def lw_tbl : List Cond := k2_sels lw_privs ++ tables_1
theorem lw_privs_ok : ∀ q ∈ lw_privs, lw_okq q := lw_r1
-- ===== ONE list of words for every method: the tables' words that hold all through a run =====
def lw_all : List Cond := lw_tbl.filter goodWord
/-- a word of the tables by its place: claim/WORDS.tsv -/
theorem lw_w {w : Cond} (i : Nat) (h : lw_tbl[i]? = some w) (g : goodWord w = true) : w ∈ lw_all := List.mem_filter.mpr ⟨List.mem_of_getElem? h, g⟩
theorem lw_all_tbl {w : Cond} (h : w ∈ lw_all) : w ∈ lw_tbl := (List.mem_filter.mp h).1
theorem lw_self : GoodIn lw_all lw_all := fun w h => ⟨h, good_of_word (List.mem_filter.mp h).2⟩
/-- a class's field words, by their places -/
theorem lw_in (ws : List Cond) (ps : List Nat) (hp : ws = ps.filterMap (fun i => lw_tbl[i]?)) (hg : ws.all goodWord = true) : ∀ w ∈ ws, w ∈ lw_all := by
  intro w h
  have h1 := List.all_eq_true.mp hg w h
  rw [hp] at h
  obtain ⟨i, -, hi⟩ := List.mem_filterMap.mp h
  exact lw_w i hi h1
/-- the words of a contract for the method y with code b, L locals, answer r -/
abbrev ws_ (y : MethodName) (b : ByteArray) (L : Nat) (r : Option FieldType) : List Cond := Cond.code y b L r :: lw_all
theorem lw_meth {y : MethodName} {b : ByteArray} {L : Nat} {r : Option FieldType} (h : Cond.code y b L r ∈ lw_all) : GoodIn lw_all (ws_ y b L r) := by
  intro w hw
  rcases List.mem_cons.mp hw with e | e
  · rw [e]
    exact lw_self _ h
  · exact lw_self _ e
theorem lw_app {a c : List Cond} (ha : ∀ w ∈ a, w ∈ lw_all) (hc : GoodIn lw_all c) : GoodIn lw_all (a ++ c) := by
  intro w hw
  rcases List.mem_append.mp hw with e | e
  · exact lw_self w (ha w e)
  · exact hc w e
/-- what a call through an object asks: cwV n hts (lw_V ..) -/
theorem lw_V {own : String} {idx : Nat} {C : String} {y : MethodName} {b : ByteArray} {L : Nat} {r : Option FieldType} (h1 : Cond.methodLink own idx y ∈ lw_all) (h2 : Cond.instanceMethod y ∈ lw_all) (h3 : Cond.selects C y y ∈ lw_all) (h4 : Cond.initialized C ∈ lw_all) (h5 : Cond.code y b L r ∈ lw_all) : GoodIn lw_all (wsV own idx C y (ws_ y b L r)) := by
  refine lw_app ?_ (lw_meth h5)
  intro w hw
  simp only [List.mem_cons, List.not_mem_nil, or_false] at hw
  rcases hw with e | e | e | e
  · rw [e]; exact h1
  · rw [e]; exact h2
  · rw [e]; exact h3
  · rw [e]; exact h4
/-- what a static call asks: va_cwS n hts (lw_S ..) -/
theorem lw_S {own : String} {idx : Nat} {y : MethodName} {b : ByteArray} {L : Nat} {r : Option FieldType} (h1 : Cond.methodLink own idx y ∈ lw_all) (h2 : Cond.static y ∈ lw_all) (h3 : Cond.initialized y.cls ∈ lw_all) (h4 : Cond.code y b L r ∈ lw_all) : GoodIn lw_all (va_wsS own idx y (ws_ y b L r)) := by
  refine lw_app ?_ (lw_meth h4)
  intro w hw
  simp only [List.mem_cons, List.not_mem_nil, or_false] at hw
  rcases hw with e | e | e
  · rw [e]; exact h1
  · rw [e]; exact h2
  · rw [e]; exact h3
/-- the words of a contract for a method WITH HANDLERS (hh: its table) -/
abbrev wsW_ (y : MethodName) (b : ByteArray) (L : Nat) (r : Option FieldType) (hh : List (Nat × Nat × Nat × Nat)) : List Cond := Cond.codeWith y b L r hh :: lw_all
theorem lw_methW {y : MethodName} {b : ByteArray} {L : Nat} {r : Option FieldType} {hh : List (Nat × Nat × Nat × Nat)} (h : Cond.codeWith y b L r hh ∈ lw_all) : GoodIn lw_all (wsW_ y b L r hh) := by
  intro w hw
  rcases List.mem_cons.mp hw with e | e
  · rw [e]
    exact lw_self _ h
  · exact lw_self _ e
/-- any list of words by their places (lw_in), good -/
theorem lw_good {ws : List Cond} (h : ∀ w ∈ ws, w ∈ lw_all) : GoodIn lw_all ws := fun w hw => lw_self w (h w hw)
/-- what a call of a method with handlers asks: vx_cwVW n hts (lw_VW ..), vx_cwSW n hts (lw_SW ..) -/
theorem lw_VW {own : String} {idx : Nat} {C : String} {y : MethodName} {b : ByteArray} {L : Nat} {r : Option FieldType} {hh : List (Nat × Nat × Nat × Nat)} (h1 : Cond.methodLink own idx y ∈ lw_all) (h2 : Cond.instanceMethod y ∈ lw_all) (h3 : Cond.selects C y y ∈ lw_all) (h4 : Cond.initialized C ∈ lw_all) (h5 : Cond.codeWith y b L r hh ∈ lw_all) : GoodIn lw_all (wsV own idx C y (wsW_ y b L r hh)) := by
  refine lw_app ?_ (lw_methW h5)
  intro w hw
  simp only [List.mem_cons, List.not_mem_nil, or_false] at hw
  rcases hw with e | e | e | e
  · rw [e]; exact h1
  · rw [e]; exact h2
  · rw [e]; exact h3
  · rw [e]; exact h4
theorem lw_SW {own : String} {idx : Nat} {y : MethodName} {b : ByteArray} {L : Nat} {r : Option FieldType} {hh : List (Nat × Nat × Nat × Nat)} (h1 : Cond.methodLink own idx y ∈ lw_all) (h2 : Cond.static y ∈ lw_all) (h3 : Cond.initialized y.cls ∈ lw_all) (h4 : Cond.codeWith y b L r hh ∈ lw_all) : GoodIn lw_all (va_wsS own idx y (wsW_ y b L r hh)) := by
  refine lw_app ?_ (lw_methW h4)
  intro w hw
  simp only [List.mem_cons, List.not_mem_nil, or_false] at hw
  rcases hw with e | e | e
  · rw [e]; exact h1
  · rw [e]; exact h2
  · rw [e]; exact h3
/-- a word by its place in its run of the tables -/
theorem lw_at {r : List Cond} (hr : ∀ w ∈ r, w ∈ lw_tbl) {w : Cond} (i : Nat) (h : r[i]? = some w) : w ∈ lw_tbl := hr w (List.mem_of_getElem? h)
theorem lw_g {w : Cond} (h : w ∈ lw_tbl) (g : goodWord w = true) : w ∈ lw_all := List.mem_filter.mpr ⟨h, g⟩
theorem lw_ms : ∀ w ∈ k2_sels lw_privs, w ∈ lw_tbl := fun w h => show w ∈ k2_sels lw_privs ++ tables_1 from List.mem_append_left _ h
theorem lw_m0 : ∀ w ∈ tables_1, w ∈ lw_tbl := fun w h => show w ∈ k2_sels lw_privs ++ tables_1 from List.mem_append_right (k2_sels lw_privs) h
theorem qs0 : (Cond.selects "FlameTree" ⟨"FlameTree", "childWith", "(II)I"⟩ ⟨"FlameTree", "childWith", "(II)I"⟩) ∈ lw_all := lw_g (lw_at lw_ms 0 rfl) rfl
theorem qs1 : (Cond.selects "FlameTree" ⟨"FlameTree", "addChild", "(II)I"⟩ ⟨"FlameTree", "addChild", "(II)I"⟩) ∈ lw_all := lw_g (lw_at lw_ms 1 rfl) rfl
theorem qs2 : (Cond.selects "FlameTree" ⟨"FlameTree", "nodeOfStack", "()I"⟩ ⟨"FlameTree", "nodeOfStack", "()I"⟩) ∈ lw_all := lw_g (lw_at lw_ms 2 rfl) rfl
theorem qs3 : (Cond.selects "FlameTree" ⟨"FlameTree", "standsAbove", "(III)Z"⟩ ⟨"FlameTree", "standsAbove", "(III)Z"⟩) ∈ lw_all := lw_g (lw_at lw_ms 3 rfl) rfl
theorem qs4 : (Cond.selects "FlameTree" ⟨"FlameTree", "depthOf", "(I)I"⟩ ⟨"FlameTree", "depthOf", "(I)I"⟩) ∈ lw_all := lw_g (lw_at lw_ms 4 rfl) rfl
theorem qs5 : (Cond.selects "FlameTreeModel" ⟨"FlameTreeModel", "over", "(I)Z"⟩ ⟨"FlameTreeModel", "over", "(I)Z"⟩) ∈ lw_all := lw_g (lw_at lw_ms 5 rfl) rfl
theorem qs6 : (Cond.selects "FlameTreeModel" ⟨"FlameTreeModel", "totalWith", "(I)I"⟩ ⟨"FlameTreeModel", "totalWith", "(I)I"⟩) ∈ lw_all := lw_g (lw_at lw_ms 6 rfl) rfl
theorem qs7 : (Cond.selects "FlameTreeModel" ⟨"FlameTreeModel", "standing", "(II)I"⟩ ⟨"FlameTreeModel", "standing", "(II)I"⟩) ∈ lw_all := lw_g (lw_at lw_ms 7 rfl) rfl
theorem qs8 : (Cond.selects "FlameTreeModel" ⟨"FlameTreeModel", "stands", "(III)Z"⟩ ⟨"FlameTreeModel", "stands", "(III)Z"⟩) ∈ lw_all := lw_g (lw_at lw_ms 8 rfl) rfl
theorem qs9 : (Cond.selects "FlameTreeModel" ⟨"FlameTreeModel", "newTotal", "(II)I"⟩ ⟨"FlameTreeModel", "newTotal", "(II)I"⟩) ∈ lw_all := lw_g (lw_at lw_ms 9 rfl) rfl
theorem qs10 : (Cond.selects "FlameTreeModel" ⟨"FlameTreeModel", "share", "(III)Z"⟩ ⟨"FlameTreeModel", "share", "(III)Z"⟩) ∈ lw_all := lw_g (lw_at lw_ms 10 rfl) rfl
end
section
/-! FlameTree -/
set_option maxRecDepth 100000
def RX0 : String := "FlameTree"
def TX0 : u_T := fun k => match k with
  | 0 => ("FlameTree", "depth", "I", false)
  | 1 => ("FlameTree", "stack", "[I", true)
  | 2 => ("FlameTree", "samples", "I", false)
  | 3 => ("FlameTree", "nodes", "I", false)
  | 4 => ("FlameTree", "functionOf", "[I", true)
  | 5 => ("FlameTree", "above", "[I", true)
  | 6 => ("FlameTree", "child", "[I", true)
  | 7 => ("FlameTree", "sister", "[I", true)
  | 8 => ("FlameTree", "ownWeight", "[I", true)
  | _ => ("FlameTree", "totalWeight", "[I", true)
def tyX0 : Nat → FieldType := fun k => match k with
  | 0 => .int
  | 1 => .array .int
  | 2 => .int
  | 3 => .int
  | 4 => .array .int
  | 5 => .array .int
  | 6 => .array .int
  | 7 => .array .int
  | 8 => .array .int
  | _ => .array .int
abbrev wsX00 : List Cond := u_ws RX0 TX0 10
theorem nmX0 : ∀ a, a < 10 → ∀ b, b < 10 → a ≠ b → (TX0 a).2.1 ≠ (TX0 b).2.1 := by decide +kernel
theorem tyX0_ok : ∀ k, k < 10 → parseFieldDescriptor (TX0 k).2.2.1 = some (tyX0 k) := by decide +kernel
abbrev cX0_init : ByteArray := prog_1_method_1_code
def yX0_init : MethodName := ⟨RX0, "<init>", "()V"⟩
theorem dX0_init_0 : decode cX0_init 0 = .ok (.aload_n 0, 1) := by decide +kernel
theorem dX0_init_1 : decode cX0_init 1 = .ok (.invokespecial 1, 3) := by decide +kernel
theorem dX0_init_4 : decode cX0_init 4 = .ok (.aload_n 0, 1) := by decide +kernel
theorem dX0_init_5 : decode cX0_init 5 = .ok (.bipush 8, 2) := by decide +kernel
theorem dX0_init_7 : decode cX0_init 7 = .ok (.newarray .int, 2) := by decide +kernel
theorem dX0_init_9 : decode cX0_init 9 = .ok (.putfield 7, 3) := by decide +kernel
theorem dX0_init_12 : decode cX0_init 12 = .ok (.aload_n 0, 1) := by decide +kernel
theorem dX0_init_13 : decode cX0_init 13 = .ok (.sipush 321, 3) := by decide +kernel
theorem dX0_init_16 : decode cX0_init 16 = .ok (.newarray .int, 2) := by decide +kernel
theorem dX0_init_18 : decode cX0_init 18 = .ok (.putfield 13, 3) := by decide +kernel
theorem dX0_init_21 : decode cX0_init 21 = .ok (.aload_n 0, 1) := by decide +kernel
theorem dX0_init_22 : decode cX0_init 22 = .ok (.sipush 321, 3) := by decide +kernel
theorem dX0_init_25 : decode cX0_init 25 = .ok (.newarray .int, 2) := by decide +kernel
theorem dX0_init_27 : decode cX0_init 27 = .ok (.putfield 16, 3) := by decide +kernel
theorem dX0_init_30 : decode cX0_init 30 = .ok (.aload_n 0, 1) := by decide +kernel
theorem dX0_init_31 : decode cX0_init 31 = .ok (.sipush 321, 3) := by decide +kernel
theorem dX0_init_34 : decode cX0_init 34 = .ok (.newarray .int, 2) := by decide +kernel
theorem dX0_init_36 : decode cX0_init 36 = .ok (.putfield 19, 3) := by decide +kernel
theorem dX0_init_39 : decode cX0_init 39 = .ok (.aload_n 0, 1) := by decide +kernel
theorem dX0_init_40 : decode cX0_init 40 = .ok (.sipush 321, 3) := by decide +kernel
theorem dX0_init_43 : decode cX0_init 43 = .ok (.newarray .int, 2) := by decide +kernel
theorem dX0_init_45 : decode cX0_init 45 = .ok (.putfield 22, 3) := by decide +kernel
theorem dX0_init_48 : decode cX0_init 48 = .ok (.aload_n 0, 1) := by decide +kernel
theorem dX0_init_49 : decode cX0_init 49 = .ok (.sipush 321, 3) := by decide +kernel
theorem dX0_init_52 : decode cX0_init 52 = .ok (.newarray .int, 2) := by decide +kernel
theorem dX0_init_54 : decode cX0_init 54 = .ok (.putfield 25, 3) := by decide +kernel
theorem dX0_init_57 : decode cX0_init 57 = .ok (.aload_n 0, 1) := by decide +kernel
theorem dX0_init_58 : decode cX0_init 58 = .ok (.sipush 321, 3) := by decide +kernel
theorem dX0_init_61 : decode cX0_init 61 = .ok (.newarray .int, 2) := by decide +kernel
theorem dX0_init_63 : decode cX0_init 63 = .ok (.putfield 28, 3) := by decide +kernel
theorem dX0_init_66 : decode cX0_init 66 = .ok (.aload_n 0, 1) := by decide +kernel
theorem dX0_init_67 : decode cX0_init 67 = .ok (.iconst 1, 1) := by decide +kernel
theorem dX0_init_68 : decode cX0_init 68 = .ok (.putfield 31, 3) := by decide +kernel
theorem dX0_init_71 : decode cX0_init 71 = .ok (.aload_n 0, 1) := by decide +kernel
theorem dX0_init_72 : decode cX0_init 72 = .ok (.getfield 13, 3) := by decide +kernel
theorem dX0_init_75 : decode cX0_init 75 = .ok (.iconst 0, 1) := by decide +kernel
theorem dX0_init_76 : decode cX0_init 76 = .ok (.iconst (-1), 1) := by decide +kernel
theorem dX0_init_77 : decode cX0_init 77 = .ok (.iastore, 1) := by decide +kernel
theorem dX0_init_78 : decode cX0_init 78 = .ok (.return_, 1) := by decide +kernel
abbrev cX0_call : ByteArray := prog_1_method_2_code
def yX0_call : MethodName := ⟨RX0, "call", "(I)I"⟩
theorem dX0_call_0 : decode cX0_call 0 = .ok (.iload_n 1, 1) := by decide +kernel
theorem dX0_call_1 : decode cX0_call 1 = .ok (.invokestatic 35, 3) := by decide +kernel
theorem dX0_call_4 : decode cX0_call 4 = .ok (.ifCond .eq 12, 3) := by decide +kernel
theorem dX0_call_7 : decode cX0_call 7 = .ok (.aload_n 0, 1) := by decide +kernel
theorem dX0_call_8 : decode cX0_call 8 = .ok (.getfield 39, 3) := by decide +kernel
theorem dX0_call_11 : decode cX0_call 11 = .ok (.bipush 8, 2) := by decide +kernel
theorem dX0_call_13 : decode cX0_call 13 = .ok (.if_icmp .lt 5, 3) := by decide +kernel
theorem dX0_call_16 : decode cX0_call 16 = .ok (.iconst (-1), 1) := by decide +kernel
theorem dX0_call_17 : decode cX0_call 17 = .ok (.ireturn, 1) := by decide +kernel
theorem dX0_call_18 : decode cX0_call 18 = .ok (.aload_n 0, 1) := by decide +kernel
theorem dX0_call_19 : decode cX0_call 19 = .ok (.getfield 7, 3) := by decide +kernel
theorem dX0_call_22 : decode cX0_call 22 = .ok (.aload_n 0, 1) := by decide +kernel
theorem dX0_call_23 : decode cX0_call 23 = .ok (.getfield 39, 3) := by decide +kernel
theorem dX0_call_26 : decode cX0_call 26 = .ok (.iload_n 1, 1) := by decide +kernel
theorem dX0_call_27 : decode cX0_call 27 = .ok (.iastore, 1) := by decide +kernel
theorem dX0_call_28 : decode cX0_call 28 = .ok (.aload_n 0, 1) := by decide +kernel
theorem dX0_call_29 : decode cX0_call 29 = .ok (.dup, 1) := by decide +kernel
theorem dX0_call_30 : decode cX0_call 30 = .ok (.getfield 39, 3) := by decide +kernel
theorem dX0_call_33 : decode cX0_call 33 = .ok (.iconst 1, 1) := by decide +kernel
theorem dX0_call_34 : decode cX0_call 34 = .ok (.iadd, 1) := by decide +kernel
theorem dX0_call_35 : decode cX0_call 35 = .ok (.putfield 39, 3) := by decide +kernel
theorem dX0_call_38 : decode cX0_call 38 = .ok (.aload_n 0, 1) := by decide +kernel
theorem dX0_call_39 : decode cX0_call 39 = .ok (.getfield 39, 3) := by decide +kernel
theorem dX0_call_42 : decode cX0_call 42 = .ok (.ireturn, 1) := by decide +kernel
abbrev cX0_isFunction : ByteArray := prog_1_method_13_code
def yX0_isFunction : MethodName := ⟨RX0, "isFunction", "(I)Z"⟩
theorem dX0_isFunction_0 : decode cX0_isFunction 0 = .ok (.iload_n 0, 1) := by decide +kernel
theorem dX0_isFunction_1 : decode cX0_isFunction 1 = .ok (.ifCond .lt 13, 3) := by decide +kernel
theorem dX0_isFunction_4 : decode cX0_isFunction 4 = .ok (.iload_n 0, 1) := by decide +kernel
theorem dX0_isFunction_5 : decode cX0_isFunction 5 = .ok (.bipush 7, 2) := by decide +kernel
theorem dX0_isFunction_7 : decode cX0_isFunction 7 = .ok (.if_icmp .gt 7, 3) := by decide +kernel
theorem dX0_isFunction_10 : decode cX0_isFunction 10 = .ok (.iconst 1, 1) := by decide +kernel
theorem dX0_isFunction_11 : decode cX0_isFunction 11 = .ok (.goto 4, 3) := by decide +kernel
theorem dX0_isFunction_14 : decode cX0_isFunction 14 = .ok (.iconst 0, 1) := by decide +kernel
theorem dX0_isFunction_15 : decode cX0_isFunction 15 = .ok (.ireturn, 1) := by decide +kernel
abbrev cX0_leave : ByteArray := prog_1_method_3_code
def yX0_leave : MethodName := ⟨RX0, "leave", "()I"⟩
theorem dX0_leave_0 : decode cX0_leave 0 = .ok (.aload_n 0, 1) := by decide +kernel
theorem dX0_leave_1 : decode cX0_leave 1 = .ok (.getfield 39, 3) := by decide +kernel
theorem dX0_leave_4 : decode cX0_leave 4 = .ok (.ifCond .ne 5, 3) := by decide +kernel
theorem dX0_leave_7 : decode cX0_leave 7 = .ok (.iconst (-1), 1) := by decide +kernel
theorem dX0_leave_8 : decode cX0_leave 8 = .ok (.ireturn, 1) := by decide +kernel
theorem dX0_leave_9 : decode cX0_leave 9 = .ok (.aload_n 0, 1) := by decide +kernel
theorem dX0_leave_10 : decode cX0_leave 10 = .ok (.dup, 1) := by decide +kernel
theorem dX0_leave_11 : decode cX0_leave 11 = .ok (.getfield 39, 3) := by decide +kernel
theorem dX0_leave_14 : decode cX0_leave 14 = .ok (.iconst 1, 1) := by decide +kernel
theorem dX0_leave_15 : decode cX0_leave 15 = .ok (.isub, 1) := by decide +kernel
theorem dX0_leave_16 : decode cX0_leave 16 = .ok (.putfield 39, 3) := by decide +kernel
theorem dX0_leave_19 : decode cX0_leave 19 = .ok (.aload_n 0, 1) := by decide +kernel
theorem dX0_leave_20 : decode cX0_leave 20 = .ok (.getfield 7, 3) := by decide +kernel
theorem dX0_leave_23 : decode cX0_leave 23 = .ok (.aload_n 0, 1) := by decide +kernel
theorem dX0_leave_24 : decode cX0_leave 24 = .ok (.getfield 39, 3) := by decide +kernel
theorem dX0_leave_27 : decode cX0_leave 27 = .ok (.iaload, 1) := by decide +kernel
theorem dX0_leave_28 : decode cX0_leave 28 = .ok (.ireturn, 1) := by decide +kernel
abbrev cX0_sample : ByteArray := prog_1_method_4_code
def yX0_sample : MethodName := ⟨RX0, "sample", "(I)I"⟩
theorem dX0_sample_0 : decode cX0_sample 0 = .ok (.iload_n 1, 1) := by decide +kernel
theorem dX0_sample_1 : decode cX0_sample 1 = .ok (.iconst 1, 1) := by decide +kernel
theorem dX0_sample_2 : decode cX0_sample 2 = .ok (.if_icmp .lt 18, 3) := by decide +kernel
theorem dX0_sample_5 : decode cX0_sample 5 = .ok (.iload_n 1, 1) := by decide +kernel
theorem dX0_sample_6 : decode cX0_sample 6 = .ok (.bipush 100, 2) := by decide +kernel
theorem dX0_sample_8 : decode cX0_sample 8 = .ok (.if_icmp .gt 12, 3) := by decide +kernel
theorem dX0_sample_11 : decode cX0_sample 11 = .ok (.aload_n 0, 1) := by decide +kernel
theorem dX0_sample_12 : decode cX0_sample 12 = .ok (.getfield 42, 3) := by decide +kernel
theorem dX0_sample_15 : decode cX0_sample 15 = .ok (.bipush 40, 2) := by decide +kernel
theorem dX0_sample_17 : decode cX0_sample 17 = .ok (.if_icmp .lt 5, 3) := by decide +kernel
theorem dX0_sample_20 : decode cX0_sample 20 = .ok (.iconst (-1), 1) := by decide +kernel
theorem dX0_sample_21 : decode cX0_sample 21 = .ok (.ireturn, 1) := by decide +kernel
theorem dX0_sample_22 : decode cX0_sample 22 = .ok (.iconst 0, 1) := by decide +kernel
theorem dX0_sample_23 : decode cX0_sample 23 = .ok (.istore_n 2, 1) := by decide +kernel
theorem dX0_sample_24 : decode cX0_sample 24 = .ok (.aload_n 0, 1) := by decide +kernel
theorem dX0_sample_25 : decode cX0_sample 25 = .ok (.getfield 28, 3) := by decide +kernel
theorem dX0_sample_28 : decode cX0_sample 28 = .ok (.iconst 0, 1) := by decide +kernel
theorem dX0_sample_29 : decode cX0_sample 29 = .ok (.dup2, 1) := by decide +kernel
theorem dX0_sample_30 : decode cX0_sample 30 = .ok (.iaload, 1) := by decide +kernel
theorem dX0_sample_31 : decode cX0_sample 31 = .ok (.iload_n 1, 1) := by decide +kernel
theorem dX0_sample_32 : decode cX0_sample 32 = .ok (.iadd, 1) := by decide +kernel
theorem dX0_sample_33 : decode cX0_sample 33 = .ok (.iastore, 1) := by decide +kernel
theorem dX0_sample_34 : decode cX0_sample 34 = .ok (.iconst 0, 1) := by decide +kernel
theorem dX0_sample_35 : decode cX0_sample 35 = .ok (.istore_n 3, 1) := by decide +kernel
theorem dX0_sample_36 : decode cX0_sample 36 = .ok (.iload_n 3, 1) := by decide +kernel
theorem dX0_sample_37 : decode cX0_sample 37 = .ok (.aload_n 0, 1) := by decide +kernel
theorem dX0_sample_38 : decode cX0_sample 38 = .ok (.getfield 39, 3) := by decide +kernel
theorem dX0_sample_41 : decode cX0_sample 41 = .ok (.if_icmp .ge 53, 3) := by decide +kernel
theorem dX0_sample_44 : decode cX0_sample 44 = .ok (.aload_n 0, 1) := by decide +kernel
theorem dX0_sample_45 : decode cX0_sample 45 = .ok (.iload_n 2, 1) := by decide +kernel
theorem dX0_sample_46 : decode cX0_sample 46 = .ok (.aload_n 0, 1) := by decide +kernel
theorem dX0_sample_47 : decode cX0_sample 47 = .ok (.getfield 7, 3) := by decide +kernel
theorem dX0_sample_50 : decode cX0_sample 50 = .ok (.iload_n 3, 1) := by decide +kernel
theorem dX0_sample_51 : decode cX0_sample 51 = .ok (.iaload, 1) := by decide +kernel
theorem dX0_sample_52 : decode cX0_sample 52 = .ok (.invokevirtual 45, 3) := by decide +kernel
theorem dX0_sample_55 : decode cX0_sample 55 = .ok (.istore 4, 2) := by decide +kernel
theorem dX0_sample_57 : decode cX0_sample 57 = .ok (.iload 4, 2) := by decide +kernel
theorem dX0_sample_59 : decode cX0_sample 59 = .ok (.ifCond .ne 16, 3) := by decide +kernel
theorem dX0_sample_62 : decode cX0_sample 62 = .ok (.aload_n 0, 1) := by decide +kernel
theorem dX0_sample_63 : decode cX0_sample 63 = .ok (.iload_n 2, 1) := by decide +kernel
theorem dX0_sample_64 : decode cX0_sample 64 = .ok (.aload_n 0, 1) := by decide +kernel
theorem dX0_sample_65 : decode cX0_sample 65 = .ok (.getfield 7, 3) := by decide +kernel
theorem dX0_sample_68 : decode cX0_sample 68 = .ok (.iload_n 3, 1) := by decide +kernel
theorem dX0_sample_69 : decode cX0_sample 69 = .ok (.iaload, 1) := by decide +kernel
theorem dX0_sample_70 : decode cX0_sample 70 = .ok (.invokevirtual 49, 3) := by decide +kernel
theorem dX0_sample_73 : decode cX0_sample 73 = .ok (.istore 4, 2) := by decide +kernel
theorem dX0_sample_75 : decode cX0_sample 75 = .ok (.iload 4, 2) := by decide +kernel
theorem dX0_sample_77 : decode cX0_sample 77 = .ok (.istore_n 2, 1) := by decide +kernel
theorem dX0_sample_78 : decode cX0_sample 78 = .ok (.aload_n 0, 1) := by decide +kernel
theorem dX0_sample_79 : decode cX0_sample 79 = .ok (.getfield 28, 3) := by decide +kernel
theorem dX0_sample_82 : decode cX0_sample 82 = .ok (.iload_n 2, 1) := by decide +kernel
theorem dX0_sample_83 : decode cX0_sample 83 = .ok (.dup2, 1) := by decide +kernel
theorem dX0_sample_84 : decode cX0_sample 84 = .ok (.iaload, 1) := by decide +kernel
theorem dX0_sample_85 : decode cX0_sample 85 = .ok (.iload_n 1, 1) := by decide +kernel
theorem dX0_sample_86 : decode cX0_sample 86 = .ok (.iadd, 1) := by decide +kernel
theorem dX0_sample_87 : decode cX0_sample 87 = .ok (.iastore, 1) := by decide +kernel
theorem dX0_sample_88 : decode cX0_sample 88 = .ok (.iinc 3 1, 3) := by decide +kernel
theorem dX0_sample_91 : decode cX0_sample 91 = .ok (.goto (-55), 3) := by decide +kernel
theorem dX0_sample_94 : decode cX0_sample 94 = .ok (.aload_n 0, 1) := by decide +kernel
theorem dX0_sample_95 : decode cX0_sample 95 = .ok (.getfield 25, 3) := by decide +kernel
theorem dX0_sample_98 : decode cX0_sample 98 = .ok (.iload_n 2, 1) := by decide +kernel
theorem dX0_sample_99 : decode cX0_sample 99 = .ok (.dup2, 1) := by decide +kernel
theorem dX0_sample_100 : decode cX0_sample 100 = .ok (.iaload, 1) := by decide +kernel
theorem dX0_sample_101 : decode cX0_sample 101 = .ok (.iload_n 1, 1) := by decide +kernel
theorem dX0_sample_102 : decode cX0_sample 102 = .ok (.iadd, 1) := by decide +kernel
theorem dX0_sample_103 : decode cX0_sample 103 = .ok (.iastore, 1) := by decide +kernel
theorem dX0_sample_104 : decode cX0_sample 104 = .ok (.aload_n 0, 1) := by decide +kernel
theorem dX0_sample_105 : decode cX0_sample 105 = .ok (.dup, 1) := by decide +kernel
theorem dX0_sample_106 : decode cX0_sample 106 = .ok (.getfield 42, 3) := by decide +kernel
theorem dX0_sample_109 : decode cX0_sample 109 = .ok (.iconst 1, 1) := by decide +kernel
theorem dX0_sample_110 : decode cX0_sample 110 = .ok (.iadd, 1) := by decide +kernel
theorem dX0_sample_111 : decode cX0_sample 111 = .ok (.putfield 42, 3) := by decide +kernel
theorem dX0_sample_114 : decode cX0_sample 114 = .ok (.aload_n 0, 1) := by decide +kernel
theorem dX0_sample_115 : decode cX0_sample 115 = .ok (.getfield 42, 3) := by decide +kernel
theorem dX0_sample_118 : decode cX0_sample 118 = .ok (.ireturn, 1) := by decide +kernel
abbrev cX0_childWith : ByteArray := prog_1_method_14_code
def yX0_childWith : MethodName := ⟨RX0, "childWith", "(II)I"⟩
theorem dX0_childWith_0 : decode cX0_childWith 0 = .ok (.aload_n 0, 1) := by decide +kernel
theorem dX0_childWith_1 : decode cX0_childWith 1 = .ok (.getfield 19, 3) := by decide +kernel
theorem dX0_childWith_4 : decode cX0_childWith 4 = .ok (.iload_n 1, 1) := by decide +kernel
theorem dX0_childWith_5 : decode cX0_childWith 5 = .ok (.iaload, 1) := by decide +kernel
theorem dX0_childWith_6 : decode cX0_childWith 6 = .ok (.istore_n 3, 1) := by decide +kernel
theorem dX0_childWith_7 : decode cX0_childWith 7 = .ok (.iload_n 3, 1) := by decide +kernel
theorem dX0_childWith_8 : decode cX0_childWith 8 = .ok (.ifCond .le 25, 3) := by decide +kernel
theorem dX0_childWith_11 : decode cX0_childWith 11 = .ok (.aload_n 0, 1) := by decide +kernel
theorem dX0_childWith_12 : decode cX0_childWith 12 = .ok (.getfield 13, 3) := by decide +kernel
theorem dX0_childWith_15 : decode cX0_childWith 15 = .ok (.iload_n 3, 1) := by decide +kernel
theorem dX0_childWith_16 : decode cX0_childWith 16 = .ok (.iaload, 1) := by decide +kernel
theorem dX0_childWith_17 : decode cX0_childWith 17 = .ok (.iload_n 2, 1) := by decide +kernel
theorem dX0_childWith_18 : decode cX0_childWith 18 = .ok (.if_icmp .ne 5, 3) := by decide +kernel
theorem dX0_childWith_21 : decode cX0_childWith 21 = .ok (.iload_n 3, 1) := by decide +kernel
theorem dX0_childWith_22 : decode cX0_childWith 22 = .ok (.ireturn, 1) := by decide +kernel
theorem dX0_childWith_23 : decode cX0_childWith 23 = .ok (.aload_n 0, 1) := by decide +kernel
theorem dX0_childWith_24 : decode cX0_childWith 24 = .ok (.getfield 22, 3) := by decide +kernel
theorem dX0_childWith_27 : decode cX0_childWith 27 = .ok (.iload_n 3, 1) := by decide +kernel
theorem dX0_childWith_28 : decode cX0_childWith 28 = .ok (.iaload, 1) := by decide +kernel
theorem dX0_childWith_29 : decode cX0_childWith 29 = .ok (.istore_n 3, 1) := by decide +kernel
theorem dX0_childWith_30 : decode cX0_childWith 30 = .ok (.goto (-23), 3) := by decide +kernel
theorem dX0_childWith_33 : decode cX0_childWith 33 = .ok (.iconst 0, 1) := by decide +kernel
theorem dX0_childWith_34 : decode cX0_childWith 34 = .ok (.ireturn, 1) := by decide +kernel
abbrev cX0_addChild : ByteArray := prog_1_method_15_code
def yX0_addChild : MethodName := ⟨RX0, "addChild", "(II)I"⟩
theorem dX0_addChild_0 : decode cX0_addChild 0 = .ok (.aload_n 0, 1) := by decide +kernel
theorem dX0_addChild_1 : decode cX0_addChild 1 = .ok (.getfield 31, 3) := by decide +kernel
theorem dX0_addChild_4 : decode cX0_addChild 4 = .ok (.istore_n 3, 1) := by decide +kernel
theorem dX0_addChild_5 : decode cX0_addChild 5 = .ok (.aload_n 0, 1) := by decide +kernel
theorem dX0_addChild_6 : decode cX0_addChild 6 = .ok (.dup, 1) := by decide +kernel
theorem dX0_addChild_7 : decode cX0_addChild 7 = .ok (.getfield 31, 3) := by decide +kernel
theorem dX0_addChild_10 : decode cX0_addChild 10 = .ok (.iconst 1, 1) := by decide +kernel
theorem dX0_addChild_11 : decode cX0_addChild 11 = .ok (.iadd, 1) := by decide +kernel
theorem dX0_addChild_12 : decode cX0_addChild 12 = .ok (.putfield 31, 3) := by decide +kernel
theorem dX0_addChild_15 : decode cX0_addChild 15 = .ok (.aload_n 0, 1) := by decide +kernel
theorem dX0_addChild_16 : decode cX0_addChild 16 = .ok (.getfield 13, 3) := by decide +kernel
theorem dX0_addChild_19 : decode cX0_addChild 19 = .ok (.iload_n 3, 1) := by decide +kernel
theorem dX0_addChild_20 : decode cX0_addChild 20 = .ok (.iload_n 2, 1) := by decide +kernel
theorem dX0_addChild_21 : decode cX0_addChild 21 = .ok (.iastore, 1) := by decide +kernel
theorem dX0_addChild_22 : decode cX0_addChild 22 = .ok (.aload_n 0, 1) := by decide +kernel
theorem dX0_addChild_23 : decode cX0_addChild 23 = .ok (.getfield 16, 3) := by decide +kernel
theorem dX0_addChild_26 : decode cX0_addChild 26 = .ok (.iload_n 3, 1) := by decide +kernel
theorem dX0_addChild_27 : decode cX0_addChild 27 = .ok (.iload_n 1, 1) := by decide +kernel
theorem dX0_addChild_28 : decode cX0_addChild 28 = .ok (.iastore, 1) := by decide +kernel
theorem dX0_addChild_29 : decode cX0_addChild 29 = .ok (.aload_n 0, 1) := by decide +kernel
theorem dX0_addChild_30 : decode cX0_addChild 30 = .ok (.getfield 22, 3) := by decide +kernel
theorem dX0_addChild_33 : decode cX0_addChild 33 = .ok (.iload_n 3, 1) := by decide +kernel
theorem dX0_addChild_34 : decode cX0_addChild 34 = .ok (.aload_n 0, 1) := by decide +kernel
theorem dX0_addChild_35 : decode cX0_addChild 35 = .ok (.getfield 19, 3) := by decide +kernel
theorem dX0_addChild_38 : decode cX0_addChild 38 = .ok (.iload_n 1, 1) := by decide +kernel
theorem dX0_addChild_39 : decode cX0_addChild 39 = .ok (.iaload, 1) := by decide +kernel
theorem dX0_addChild_40 : decode cX0_addChild 40 = .ok (.iastore, 1) := by decide +kernel
theorem dX0_addChild_41 : decode cX0_addChild 41 = .ok (.aload_n 0, 1) := by decide +kernel
theorem dX0_addChild_42 : decode cX0_addChild 42 = .ok (.getfield 19, 3) := by decide +kernel
theorem dX0_addChild_45 : decode cX0_addChild 45 = .ok (.iload_n 1, 1) := by decide +kernel
theorem dX0_addChild_46 : decode cX0_addChild 46 = .ok (.iload_n 3, 1) := by decide +kernel
theorem dX0_addChild_47 : decode cX0_addChild 47 = .ok (.iastore, 1) := by decide +kernel
theorem dX0_addChild_48 : decode cX0_addChild 48 = .ok (.iload_n 3, 1) := by decide +kernel
theorem dX0_addChild_49 : decode cX0_addChild 49 = .ok (.ireturn, 1) := by decide +kernel
abbrev cX0_total : ByteArray := prog_1_method_5_code
def yX0_total : MethodName := ⟨RX0, "total", "()I"⟩
theorem dX0_total_0 : decode cX0_total 0 = .ok (.aload_n 0, 1) := by decide +kernel
theorem dX0_total_1 : decode cX0_total 1 = .ok (.invokevirtual 52, 3) := by decide +kernel
theorem dX0_total_4 : decode cX0_total 4 = .ok (.istore_n 1, 1) := by decide +kernel
theorem dX0_total_5 : decode cX0_total 5 = .ok (.iload_n 1, 1) := by decide +kernel
theorem dX0_total_6 : decode cX0_total 6 = .ok (.ifCond .ge 7, 3) := by decide +kernel
theorem dX0_total_9 : decode cX0_total 9 = .ok (.iconst 0, 1) := by decide +kernel
theorem dX0_total_10 : decode cX0_total 10 = .ok (.goto 9, 3) := by decide +kernel
theorem dX0_total_13 : decode cX0_total 13 = .ok (.aload_n 0, 1) := by decide +kernel
theorem dX0_total_14 : decode cX0_total 14 = .ok (.getfield 28, 3) := by decide +kernel
theorem dX0_total_17 : decode cX0_total 17 = .ok (.iload_n 1, 1) := by decide +kernel
theorem dX0_total_18 : decode cX0_total 18 = .ok (.iaload, 1) := by decide +kernel
theorem dX0_total_19 : decode cX0_total 19 = .ok (.ireturn, 1) := by decide +kernel
abbrev cX0_nodeOfStack : ByteArray := prog_1_method_16_code
def yX0_nodeOfStack : MethodName := ⟨RX0, "nodeOfStack", "()I"⟩
theorem dX0_nodeOfStack_0 : decode cX0_nodeOfStack 0 = .ok (.iconst 0, 1) := by decide +kernel
theorem dX0_nodeOfStack_1 : decode cX0_nodeOfStack 1 = .ok (.istore_n 1, 1) := by decide +kernel
theorem dX0_nodeOfStack_2 : decode cX0_nodeOfStack 2 = .ok (.iconst 0, 1) := by decide +kernel
theorem dX0_nodeOfStack_3 : decode cX0_nodeOfStack 3 = .ok (.istore_n 2, 1) := by decide +kernel
theorem dX0_nodeOfStack_4 : decode cX0_nodeOfStack 4 = .ok (.iload_n 2, 1) := by decide +kernel
theorem dX0_nodeOfStack_5 : decode cX0_nodeOfStack 5 = .ok (.aload_n 0, 1) := by decide +kernel
theorem dX0_nodeOfStack_6 : decode cX0_nodeOfStack 6 = .ok (.getfield 39, 3) := by decide +kernel
theorem dX0_nodeOfStack_9 : decode cX0_nodeOfStack 9 = .ok (.if_icmp .ge 27, 3) := by decide +kernel
theorem dX0_nodeOfStack_12 : decode cX0_nodeOfStack 12 = .ok (.aload_n 0, 1) := by decide +kernel
theorem dX0_nodeOfStack_13 : decode cX0_nodeOfStack 13 = .ok (.iload_n 1, 1) := by decide +kernel
theorem dX0_nodeOfStack_14 : decode cX0_nodeOfStack 14 = .ok (.aload_n 0, 1) := by decide +kernel
theorem dX0_nodeOfStack_15 : decode cX0_nodeOfStack 15 = .ok (.getfield 7, 3) := by decide +kernel
theorem dX0_nodeOfStack_18 : decode cX0_nodeOfStack 18 = .ok (.iload_n 2, 1) := by decide +kernel
theorem dX0_nodeOfStack_19 : decode cX0_nodeOfStack 19 = .ok (.iaload, 1) := by decide +kernel
theorem dX0_nodeOfStack_20 : decode cX0_nodeOfStack 20 = .ok (.invokevirtual 45, 3) := by decide +kernel
theorem dX0_nodeOfStack_23 : decode cX0_nodeOfStack 23 = .ok (.istore_n 1, 1) := by decide +kernel
theorem dX0_nodeOfStack_24 : decode cX0_nodeOfStack 24 = .ok (.iload_n 1, 1) := by decide +kernel
theorem dX0_nodeOfStack_25 : decode cX0_nodeOfStack 25 = .ok (.ifCond .ne 5, 3) := by decide +kernel
theorem dX0_nodeOfStack_28 : decode cX0_nodeOfStack 28 = .ok (.iconst (-1), 1) := by decide +kernel
theorem dX0_nodeOfStack_29 : decode cX0_nodeOfStack 29 = .ok (.ireturn, 1) := by decide +kernel
theorem dX0_nodeOfStack_30 : decode cX0_nodeOfStack 30 = .ok (.iinc 2 1, 3) := by decide +kernel
theorem dX0_nodeOfStack_33 : decode cX0_nodeOfStack 33 = .ok (.goto (-29), 3) := by decide +kernel
theorem dX0_nodeOfStack_36 : decode cX0_nodeOfStack 36 = .ok (.iload_n 1, 1) := by decide +kernel
theorem dX0_nodeOfStack_37 : decode cX0_nodeOfStack 37 = .ok (.ireturn, 1) := by decide +kernel
abbrev cX0_own : ByteArray := prog_1_method_6_code
def yX0_own : MethodName := ⟨RX0, "own", "()I"⟩
theorem dX0_own_0 : decode cX0_own 0 = .ok (.aload_n 0, 1) := by decide +kernel
theorem dX0_own_1 : decode cX0_own 1 = .ok (.invokevirtual 52, 3) := by decide +kernel
theorem dX0_own_4 : decode cX0_own 4 = .ok (.istore_n 1, 1) := by decide +kernel
theorem dX0_own_5 : decode cX0_own 5 = .ok (.iload_n 1, 1) := by decide +kernel
theorem dX0_own_6 : decode cX0_own 6 = .ok (.ifCond .ge 7, 3) := by decide +kernel
theorem dX0_own_9 : decode cX0_own 9 = .ok (.iconst 0, 1) := by decide +kernel
theorem dX0_own_10 : decode cX0_own 10 = .ok (.goto 9, 3) := by decide +kernel
theorem dX0_own_13 : decode cX0_own 13 = .ok (.aload_n 0, 1) := by decide +kernel
theorem dX0_own_14 : decode cX0_own 14 = .ok (.getfield 25, 3) := by decide +kernel
theorem dX0_own_17 : decode cX0_own 17 = .ok (.iload_n 1, 1) := by decide +kernel
theorem dX0_own_18 : decode cX0_own 18 = .ok (.iaload, 1) := by decide +kernel
theorem dX0_own_19 : decode cX0_own 19 = .ok (.ireturn, 1) := by decide +kernel
abbrev cX0_hottest : ByteArray := prog_1_method_7_code
def yX0_hottest : MethodName := ⟨RX0, "hottest", "()I"⟩
theorem dX0_hottest_0 : decode cX0_hottest 0 = .ok (.aload_n 0, 1) := by decide +kernel
theorem dX0_hottest_1 : decode cX0_hottest 1 = .ok (.invokevirtual 52, 3) := by decide +kernel
theorem dX0_hottest_4 : decode cX0_hottest 4 = .ok (.istore_n 1, 1) := by decide +kernel
theorem dX0_hottest_5 : decode cX0_hottest 5 = .ok (.iload_n 1, 1) := by decide +kernel
theorem dX0_hottest_6 : decode cX0_hottest 6 = .ok (.ifCond .lt 12, 3) := by decide +kernel
theorem dX0_hottest_9 : decode cX0_hottest 9 = .ok (.aload_n 0, 1) := by decide +kernel
theorem dX0_hottest_10 : decode cX0_hottest 10 = .ok (.getfield 39, 3) := by decide +kernel
theorem dX0_hottest_13 : decode cX0_hottest 13 = .ok (.bipush 8, 2) := by decide +kernel
theorem dX0_hottest_15 : decode cX0_hottest 15 = .ok (.if_icmp .ne 5, 3) := by decide +kernel
theorem dX0_hottest_18 : decode cX0_hottest 18 = .ok (.iconst (-1), 1) := by decide +kernel
theorem dX0_hottest_19 : decode cX0_hottest 19 = .ok (.ireturn, 1) := by decide +kernel
theorem dX0_hottest_20 : decode cX0_hottest 20 = .ok (.iconst 0, 1) := by decide +kernel
theorem dX0_hottest_21 : decode cX0_hottest 21 = .ok (.istore_n 2, 1) := by decide +kernel
theorem dX0_hottest_22 : decode cX0_hottest 22 = .ok (.aload_n 0, 1) := by decide +kernel
theorem dX0_hottest_23 : decode cX0_hottest 23 = .ok (.getfield 19, 3) := by decide +kernel
theorem dX0_hottest_26 : decode cX0_hottest 26 = .ok (.iload_n 1, 1) := by decide +kernel
theorem dX0_hottest_27 : decode cX0_hottest 27 = .ok (.iaload, 1) := by decide +kernel
theorem dX0_hottest_28 : decode cX0_hottest 28 = .ok (.istore_n 3, 1) := by decide +kernel
theorem dX0_hottest_29 : decode cX0_hottest 29 = .ok (.iload_n 3, 1) := by decide +kernel
theorem dX0_hottest_30 : decode cX0_hottest 30 = .ok (.ifCond .le 80, 3) := by decide +kernel
theorem dX0_hottest_33 : decode cX0_hottest 33 = .ok (.aload_n 0, 1) := by decide +kernel
theorem dX0_hottest_34 : decode cX0_hottest 34 = .ok (.getfield 28, 3) := by decide +kernel
theorem dX0_hottest_37 : decode cX0_hottest 37 = .ok (.iload_n 3, 1) := by decide +kernel
theorem dX0_hottest_38 : decode cX0_hottest 38 = .ok (.iaload, 1) := by decide +kernel
theorem dX0_hottest_39 : decode cX0_hottest 39 = .ok (.aload_n 0, 1) := by decide +kernel
theorem dX0_hottest_40 : decode cX0_hottest 40 = .ok (.getfield 28, 3) := by decide +kernel
theorem dX0_hottest_43 : decode cX0_hottest 43 = .ok (.iload_n 2, 1) := by decide +kernel
theorem dX0_hottest_44 : decode cX0_hottest 44 = .ok (.iaload, 1) := by decide +kernel
theorem dX0_hottest_45 : decode cX0_hottest 45 = .ok (.if_icmp .gt 33, 3) := by decide +kernel
theorem dX0_hottest_48 : decode cX0_hottest 48 = .ok (.aload_n 0, 1) := by decide +kernel
theorem dX0_hottest_49 : decode cX0_hottest 49 = .ok (.getfield 28, 3) := by decide +kernel
theorem dX0_hottest_52 : decode cX0_hottest 52 = .ok (.iload_n 3, 1) := by decide +kernel
theorem dX0_hottest_53 : decode cX0_hottest 53 = .ok (.iaload, 1) := by decide +kernel
theorem dX0_hottest_54 : decode cX0_hottest 54 = .ok (.aload_n 0, 1) := by decide +kernel
theorem dX0_hottest_55 : decode cX0_hottest 55 = .ok (.getfield 28, 3) := by decide +kernel
theorem dX0_hottest_58 : decode cX0_hottest 58 = .ok (.iload_n 2, 1) := by decide +kernel
theorem dX0_hottest_59 : decode cX0_hottest 59 = .ok (.iaload, 1) := by decide +kernel
theorem dX0_hottest_60 : decode cX0_hottest 60 = .ok (.if_icmp .ne 22, 3) := by decide +kernel
theorem dX0_hottest_63 : decode cX0_hottest 63 = .ok (.aload_n 0, 1) := by decide +kernel
theorem dX0_hottest_64 : decode cX0_hottest 64 = .ok (.getfield 13, 3) := by decide +kernel
theorem dX0_hottest_67 : decode cX0_hottest 67 = .ok (.iload_n 3, 1) := by decide +kernel
theorem dX0_hottest_68 : decode cX0_hottest 68 = .ok (.iaload, 1) := by decide +kernel
theorem dX0_hottest_69 : decode cX0_hottest 69 = .ok (.aload_n 0, 1) := by decide +kernel
theorem dX0_hottest_70 : decode cX0_hottest 70 = .ok (.getfield 13, 3) := by decide +kernel
theorem dX0_hottest_73 : decode cX0_hottest 73 = .ok (.iload_n 2, 1) := by decide +kernel
theorem dX0_hottest_74 : decode cX0_hottest 74 = .ok (.iaload, 1) := by decide +kernel
theorem dX0_hottest_75 : decode cX0_hottest 75 = .ok (.if_icmp .ge 7, 3) := by decide +kernel
theorem dX0_hottest_78 : decode cX0_hottest 78 = .ok (.iconst 1, 1) := by decide +kernel
theorem dX0_hottest_79 : decode cX0_hottest 79 = .ok (.goto 4, 3) := by decide +kernel
theorem dX0_hottest_82 : decode cX0_hottest 82 = .ok (.iconst 0, 1) := by decide +kernel
theorem dX0_hottest_83 : decode cX0_hottest 83 = .ok (.istore 4, 2) := by decide +kernel
theorem dX0_hottest_85 : decode cX0_hottest 85 = .ok (.iload_n 2, 1) := by decide +kernel
theorem dX0_hottest_86 : decode cX0_hottest 86 = .ok (.ifCond .eq 8, 3) := by decide +kernel
theorem dX0_hottest_89 : decode cX0_hottest 89 = .ok (.iload 4, 2) := by decide +kernel
theorem dX0_hottest_91 : decode cX0_hottest 91 = .ok (.ifCond .eq 7, 3) := by decide +kernel
theorem dX0_hottest_94 : decode cX0_hottest 94 = .ok (.iload_n 3, 1) := by decide +kernel
theorem dX0_hottest_95 : decode cX0_hottest 95 = .ok (.goto 4, 3) := by decide +kernel
theorem dX0_hottest_98 : decode cX0_hottest 98 = .ok (.iload_n 2, 1) := by decide +kernel
theorem dX0_hottest_99 : decode cX0_hottest 99 = .ok (.istore_n 2, 1) := by decide +kernel
theorem dX0_hottest_100 : decode cX0_hottest 100 = .ok (.aload_n 0, 1) := by decide +kernel
theorem dX0_hottest_101 : decode cX0_hottest 101 = .ok (.getfield 22, 3) := by decide +kernel
theorem dX0_hottest_104 : decode cX0_hottest 104 = .ok (.iload_n 3, 1) := by decide +kernel
theorem dX0_hottest_105 : decode cX0_hottest 105 = .ok (.iaload, 1) := by decide +kernel
theorem dX0_hottest_106 : decode cX0_hottest 106 = .ok (.istore_n 3, 1) := by decide +kernel
theorem dX0_hottest_107 : decode cX0_hottest 107 = .ok (.goto (-78), 3) := by decide +kernel
theorem dX0_hottest_110 : decode cX0_hottest 110 = .ok (.iload_n 2, 1) := by decide +kernel
theorem dX0_hottest_111 : decode cX0_hottest 111 = .ok (.ifCond .ne 7, 3) := by decide +kernel
theorem dX0_hottest_114 : decode cX0_hottest 114 = .ok (.iconst (-1), 1) := by decide +kernel
theorem dX0_hottest_115 : decode cX0_hottest 115 = .ok (.goto 9, 3) := by decide +kernel
theorem dX0_hottest_118 : decode cX0_hottest 118 = .ok (.aload_n 0, 1) := by decide +kernel
theorem dX0_hottest_119 : decode cX0_hottest 119 = .ok (.getfield 13, 3) := by decide +kernel
theorem dX0_hottest_122 : decode cX0_hottest 122 = .ok (.iload_n 2, 1) := by decide +kernel
theorem dX0_hottest_123 : decode cX0_hottest 123 = .ok (.iaload, 1) := by decide +kernel
theorem dX0_hottest_124 : decode cX0_hottest 124 = .ok (.ireturn, 1) := by decide +kernel
abbrev cX0_inclusive : ByteArray := prog_1_method_8_code
def yX0_inclusive : MethodName := ⟨RX0, "inclusive", "(I)I"⟩
theorem dX0_inclusive_0 : decode cX0_inclusive 0 = .ok (.iload_n 1, 1) := by decide +kernel
theorem dX0_inclusive_1 : decode cX0_inclusive 1 = .ok (.invokestatic 35, 3) := by decide +kernel
theorem dX0_inclusive_4 : decode cX0_inclusive 4 = .ok (.ifCond .ne 5, 3) := by decide +kernel
theorem dX0_inclusive_7 : decode cX0_inclusive 7 = .ok (.iconst (-1), 1) := by decide +kernel
theorem dX0_inclusive_8 : decode cX0_inclusive 8 = .ok (.ireturn, 1) := by decide +kernel
theorem dX0_inclusive_9 : decode cX0_inclusive 9 = .ok (.iconst 0, 1) := by decide +kernel
theorem dX0_inclusive_10 : decode cX0_inclusive 10 = .ok (.istore_n 2, 1) := by decide +kernel
theorem dX0_inclusive_11 : decode cX0_inclusive 11 = .ok (.iconst 1, 1) := by decide +kernel
theorem dX0_inclusive_12 : decode cX0_inclusive 12 = .ok (.istore_n 3, 1) := by decide +kernel
theorem dX0_inclusive_13 : decode cX0_inclusive 13 = .ok (.iload_n 3, 1) := by decide +kernel
theorem dX0_inclusive_14 : decode cX0_inclusive 14 = .ok (.aload_n 0, 1) := by decide +kernel
theorem dX0_inclusive_15 : decode cX0_inclusive 15 = .ok (.getfield 31, 3) := by decide +kernel
theorem dX0_inclusive_18 : decode cX0_inclusive 18 = .ok (.if_icmp .ge 42, 3) := by decide +kernel
theorem dX0_inclusive_21 : decode cX0_inclusive 21 = .ok (.iload_n 2, 1) := by decide +kernel
theorem dX0_inclusive_22 : decode cX0_inclusive 22 = .ok (.aload_n 0, 1) := by decide +kernel
theorem dX0_inclusive_23 : decode cX0_inclusive 23 = .ok (.getfield 13, 3) := by decide +kernel
theorem dX0_inclusive_26 : decode cX0_inclusive 26 = .ok (.iload_n 3, 1) := by decide +kernel
theorem dX0_inclusive_27 : decode cX0_inclusive 27 = .ok (.iaload, 1) := by decide +kernel
theorem dX0_inclusive_28 : decode cX0_inclusive 28 = .ok (.iload_n 1, 1) := by decide +kernel
theorem dX0_inclusive_29 : decode cX0_inclusive 29 = .ok (.if_icmp .ne 22, 3) := by decide +kernel
theorem dX0_inclusive_32 : decode cX0_inclusive 32 = .ok (.aload_n 0, 1) := by decide +kernel
theorem dX0_inclusive_33 : decode cX0_inclusive 33 = .ok (.iload_n 3, 1) := by decide +kernel
theorem dX0_inclusive_34 : decode cX0_inclusive 34 = .ok (.iconst (-1), 1) := by decide +kernel
theorem dX0_inclusive_35 : decode cX0_inclusive 35 = .ok (.iload_n 1, 1) := by decide +kernel
theorem dX0_inclusive_36 : decode cX0_inclusive 36 = .ok (.invokevirtual 56, 3) := by decide +kernel
theorem dX0_inclusive_39 : decode cX0_inclusive 39 = .ok (.ifCond .ne 12, 3) := by decide +kernel
theorem dX0_inclusive_42 : decode cX0_inclusive 42 = .ok (.aload_n 0, 1) := by decide +kernel
theorem dX0_inclusive_43 : decode cX0_inclusive 43 = .ok (.getfield 28, 3) := by decide +kernel
theorem dX0_inclusive_46 : decode cX0_inclusive 46 = .ok (.iload_n 3, 1) := by decide +kernel
theorem dX0_inclusive_47 : decode cX0_inclusive 47 = .ok (.iaload, 1) := by decide +kernel
theorem dX0_inclusive_48 : decode cX0_inclusive 48 = .ok (.goto 4, 3) := by decide +kernel
theorem dX0_inclusive_51 : decode cX0_inclusive 51 = .ok (.iconst 0, 1) := by decide +kernel
theorem dX0_inclusive_52 : decode cX0_inclusive 52 = .ok (.iadd, 1) := by decide +kernel
theorem dX0_inclusive_53 : decode cX0_inclusive 53 = .ok (.istore_n 2, 1) := by decide +kernel
theorem dX0_inclusive_54 : decode cX0_inclusive 54 = .ok (.iinc 3 1, 3) := by decide +kernel
theorem dX0_inclusive_57 : decode cX0_inclusive 57 = .ok (.goto (-44), 3) := by decide +kernel
theorem dX0_inclusive_60 : decode cX0_inclusive 60 = .ok (.iload_n 2, 1) := by decide +kernel
theorem dX0_inclusive_61 : decode cX0_inclusive 61 = .ok (.ireturn, 1) := by decide +kernel
abbrev cX0_standsAbove : ByteArray := prog_1_method_17_code
def yX0_standsAbove : MethodName := ⟨RX0, "standsAbove", "(III)Z"⟩
theorem dX0_standsAbove_0 : decode cX0_standsAbove 0 = .ok (.aload_n 0, 1) := by decide +kernel
theorem dX0_standsAbove_1 : decode cX0_standsAbove 1 = .ok (.getfield 16, 3) := by decide +kernel
theorem dX0_standsAbove_4 : decode cX0_standsAbove 4 = .ok (.iload_n 1, 1) := by decide +kernel
theorem dX0_standsAbove_5 : decode cX0_standsAbove 5 = .ok (.iaload, 1) := by decide +kernel
theorem dX0_standsAbove_6 : decode cX0_standsAbove 6 = .ok (.istore 4, 2) := by decide +kernel
theorem dX0_standsAbove_8 : decode cX0_standsAbove 8 = .ok (.iconst 0, 1) := by decide +kernel
theorem dX0_standsAbove_9 : decode cX0_standsAbove 9 = .ok (.istore 5, 2) := by decide +kernel
theorem dX0_standsAbove_11 : decode cX0_standsAbove 11 = .ok (.iload 5, 2) := by decide +kernel
theorem dX0_standsAbove_13 : decode cX0_standsAbove 13 = .ok (.bipush 8, 2) := by decide +kernel
theorem dX0_standsAbove_15 : decode cX0_standsAbove 15 = .ok (.if_icmp .ge 56, 3) := by decide +kernel
theorem dX0_standsAbove_18 : decode cX0_standsAbove 18 = .ok (.iload 4, 2) := by decide +kernel
theorem dX0_standsAbove_20 : decode cX0_standsAbove 20 = .ok (.ifCond .le 51, 3) := by decide +kernel
theorem dX0_standsAbove_23 : decode cX0_standsAbove 23 = .ok (.aload_n 0, 1) := by decide +kernel
theorem dX0_standsAbove_24 : decode cX0_standsAbove 24 = .ok (.getfield 13, 3) := by decide +kernel
theorem dX0_standsAbove_27 : decode cX0_standsAbove 27 = .ok (.iload 4, 2) := by decide +kernel
theorem dX0_standsAbove_29 : decode cX0_standsAbove 29 = .ok (.iaload, 1) := by decide +kernel
theorem dX0_standsAbove_30 : decode cX0_standsAbove 30 = .ok (.iload_n 3, 1) := by decide +kernel
theorem dX0_standsAbove_31 : decode cX0_standsAbove 31 = .ok (.if_icmp .ne 25, 3) := by decide +kernel
theorem dX0_standsAbove_34 : decode cX0_standsAbove 34 = .ok (.iload_n 2, 1) := by decide +kernel
theorem dX0_standsAbove_35 : decode cX0_standsAbove 35 = .ok (.ifCond .lt 19, 3) := by decide +kernel
theorem dX0_standsAbove_38 : decode cX0_standsAbove 38 = .ok (.aload_n 0, 1) := by decide +kernel
theorem dX0_standsAbove_39 : decode cX0_standsAbove 39 = .ok (.getfield 13, 3) := by decide +kernel
theorem dX0_standsAbove_42 : decode cX0_standsAbove 42 = .ok (.aload_n 0, 1) := by decide +kernel
theorem dX0_standsAbove_43 : decode cX0_standsAbove 43 = .ok (.getfield 16, 3) := by decide +kernel
theorem dX0_standsAbove_46 : decode cX0_standsAbove 46 = .ok (.iload 4, 2) := by decide +kernel
theorem dX0_standsAbove_48 : decode cX0_standsAbove 48 = .ok (.iaload, 1) := by decide +kernel
theorem dX0_standsAbove_49 : decode cX0_standsAbove 49 = .ok (.iaload, 1) := by decide +kernel
theorem dX0_standsAbove_50 : decode cX0_standsAbove 50 = .ok (.iload_n 2, 1) := by decide +kernel
theorem dX0_standsAbove_51 : decode cX0_standsAbove 51 = .ok (.if_icmp .ne 5, 3) := by decide +kernel
theorem dX0_standsAbove_54 : decode cX0_standsAbove 54 = .ok (.iconst 1, 1) := by decide +kernel
theorem dX0_standsAbove_55 : decode cX0_standsAbove 55 = .ok (.ireturn, 1) := by decide +kernel
theorem dX0_standsAbove_56 : decode cX0_standsAbove 56 = .ok (.aload_n 0, 1) := by decide +kernel
theorem dX0_standsAbove_57 : decode cX0_standsAbove 57 = .ok (.getfield 16, 3) := by decide +kernel
theorem dX0_standsAbove_60 : decode cX0_standsAbove 60 = .ok (.iload 4, 2) := by decide +kernel
theorem dX0_standsAbove_62 : decode cX0_standsAbove 62 = .ok (.iaload, 1) := by decide +kernel
theorem dX0_standsAbove_63 : decode cX0_standsAbove 63 = .ok (.istore 4, 2) := by decide +kernel
theorem dX0_standsAbove_65 : decode cX0_standsAbove 65 = .ok (.iinc 5 1, 3) := by decide +kernel
theorem dX0_standsAbove_68 : decode cX0_standsAbove 68 = .ok (.goto (-57), 3) := by decide +kernel
theorem dX0_standsAbove_71 : decode cX0_standsAbove 71 = .ok (.iconst 0, 1) := by decide +kernel
theorem dX0_standsAbove_72 : decode cX0_standsAbove 72 = .ok (.ireturn, 1) := by decide +kernel
abbrev cX0_exclusive : ByteArray := prog_1_method_9_code
def yX0_exclusive : MethodName := ⟨RX0, "exclusive", "(I)I"⟩
theorem dX0_exclusive_0 : decode cX0_exclusive 0 = .ok (.iload_n 1, 1) := by decide +kernel
theorem dX0_exclusive_1 : decode cX0_exclusive 1 = .ok (.invokestatic 35, 3) := by decide +kernel
theorem dX0_exclusive_4 : decode cX0_exclusive 4 = .ok (.ifCond .ne 5, 3) := by decide +kernel
theorem dX0_exclusive_7 : decode cX0_exclusive 7 = .ok (.iconst (-1), 1) := by decide +kernel
theorem dX0_exclusive_8 : decode cX0_exclusive 8 = .ok (.ireturn, 1) := by decide +kernel
theorem dX0_exclusive_9 : decode cX0_exclusive 9 = .ok (.iconst 0, 1) := by decide +kernel
theorem dX0_exclusive_10 : decode cX0_exclusive 10 = .ok (.istore_n 2, 1) := by decide +kernel
theorem dX0_exclusive_11 : decode cX0_exclusive 11 = .ok (.iconst 1, 1) := by decide +kernel
theorem dX0_exclusive_12 : decode cX0_exclusive 12 = .ok (.istore_n 3, 1) := by decide +kernel
theorem dX0_exclusive_13 : decode cX0_exclusive 13 = .ok (.iload_n 3, 1) := by decide +kernel
theorem dX0_exclusive_14 : decode cX0_exclusive 14 = .ok (.aload_n 0, 1) := by decide +kernel
theorem dX0_exclusive_15 : decode cX0_exclusive 15 = .ok (.getfield 31, 3) := by decide +kernel
theorem dX0_exclusive_18 : decode cX0_exclusive 18 = .ok (.if_icmp .ge 32, 3) := by decide +kernel
theorem dX0_exclusive_21 : decode cX0_exclusive 21 = .ok (.iload_n 2, 1) := by decide +kernel
theorem dX0_exclusive_22 : decode cX0_exclusive 22 = .ok (.aload_n 0, 1) := by decide +kernel
theorem dX0_exclusive_23 : decode cX0_exclusive 23 = .ok (.getfield 13, 3) := by decide +kernel
theorem dX0_exclusive_26 : decode cX0_exclusive 26 = .ok (.iload_n 3, 1) := by decide +kernel
theorem dX0_exclusive_27 : decode cX0_exclusive 27 = .ok (.iaload, 1) := by decide +kernel
theorem dX0_exclusive_28 : decode cX0_exclusive 28 = .ok (.iload_n 1, 1) := by decide +kernel
theorem dX0_exclusive_29 : decode cX0_exclusive 29 = .ok (.if_icmp .ne 12, 3) := by decide +kernel
theorem dX0_exclusive_32 : decode cX0_exclusive 32 = .ok (.aload_n 0, 1) := by decide +kernel
theorem dX0_exclusive_33 : decode cX0_exclusive 33 = .ok (.getfield 25, 3) := by decide +kernel
theorem dX0_exclusive_36 : decode cX0_exclusive 36 = .ok (.iload_n 3, 1) := by decide +kernel
theorem dX0_exclusive_37 : decode cX0_exclusive 37 = .ok (.iaload, 1) := by decide +kernel
theorem dX0_exclusive_38 : decode cX0_exclusive 38 = .ok (.goto 4, 3) := by decide +kernel
theorem dX0_exclusive_41 : decode cX0_exclusive 41 = .ok (.iconst 0, 1) := by decide +kernel
theorem dX0_exclusive_42 : decode cX0_exclusive 42 = .ok (.iadd, 1) := by decide +kernel
theorem dX0_exclusive_43 : decode cX0_exclusive 43 = .ok (.istore_n 2, 1) := by decide +kernel
theorem dX0_exclusive_44 : decode cX0_exclusive 44 = .ok (.iinc 3 1, 3) := by decide +kernel
theorem dX0_exclusive_47 : decode cX0_exclusive 47 = .ok (.goto (-34), 3) := by decide +kernel
theorem dX0_exclusive_50 : decode cX0_exclusive 50 = .ok (.iload_n 2, 1) := by decide +kernel
theorem dX0_exclusive_51 : decode cX0_exclusive 51 = .ok (.ireturn, 1) := by decide +kernel
abbrev cX0_edge : ByteArray := prog_1_method_10_code
def yX0_edge : MethodName := ⟨RX0, "edge", "(II)I"⟩
theorem dX0_edge_0 : decode cX0_edge 0 = .ok (.iload_n 1, 1) := by decide +kernel
theorem dX0_edge_1 : decode cX0_edge 1 = .ok (.invokestatic 35, 3) := by decide +kernel
theorem dX0_edge_4 : decode cX0_edge 4 = .ok (.ifCond .eq 10, 3) := by decide +kernel
theorem dX0_edge_7 : decode cX0_edge 7 = .ok (.iload_n 2, 1) := by decide +kernel
theorem dX0_edge_8 : decode cX0_edge 8 = .ok (.invokestatic 35, 3) := by decide +kernel
theorem dX0_edge_11 : decode cX0_edge 11 = .ok (.ifCond .ne 5, 3) := by decide +kernel
theorem dX0_edge_14 : decode cX0_edge 14 = .ok (.iconst (-1), 1) := by decide +kernel
theorem dX0_edge_15 : decode cX0_edge 15 = .ok (.ireturn, 1) := by decide +kernel
theorem dX0_edge_16 : decode cX0_edge 16 = .ok (.iconst 0, 1) := by decide +kernel
theorem dX0_edge_17 : decode cX0_edge 17 = .ok (.istore_n 3, 1) := by decide +kernel
theorem dX0_edge_18 : decode cX0_edge 18 = .ok (.iconst 1, 1) := by decide +kernel
theorem dX0_edge_19 : decode cX0_edge 19 = .ok (.istore 4, 2) := by decide +kernel
theorem dX0_edge_21 : decode cX0_edge 21 = .ok (.iload 4, 2) := by decide +kernel
theorem dX0_edge_23 : decode cX0_edge 23 = .ok (.aload_n 0, 1) := by decide +kernel
theorem dX0_edge_24 : decode cX0_edge 24 = .ok (.getfield 31, 3) := by decide +kernel
theorem dX0_edge_27 : decode cX0_edge 27 = .ok (.if_icmp .ge 73, 3) := by decide +kernel
theorem dX0_edge_30 : decode cX0_edge 30 = .ok (.aload_n 0, 1) := by decide +kernel
theorem dX0_edge_31 : decode cX0_edge 31 = .ok (.getfield 13, 3) := by decide +kernel
theorem dX0_edge_34 : decode cX0_edge 34 = .ok (.iload 4, 2) := by decide +kernel
theorem dX0_edge_36 : decode cX0_edge 36 = .ok (.iaload, 1) := by decide +kernel
theorem dX0_edge_37 : decode cX0_edge 37 = .ok (.iload_n 2, 1) := by decide +kernel
theorem dX0_edge_38 : decode cX0_edge 38 = .ok (.if_icmp .ne 23, 3) := by decide +kernel
theorem dX0_edge_41 : decode cX0_edge 41 = .ok (.aload_n 0, 1) := by decide +kernel
theorem dX0_edge_42 : decode cX0_edge 42 = .ok (.getfield 13, 3) := by decide +kernel
theorem dX0_edge_45 : decode cX0_edge 45 = .ok (.aload_n 0, 1) := by decide +kernel
theorem dX0_edge_46 : decode cX0_edge 46 = .ok (.getfield 16, 3) := by decide +kernel
theorem dX0_edge_49 : decode cX0_edge 49 = .ok (.iload 4, 2) := by decide +kernel
theorem dX0_edge_51 : decode cX0_edge 51 = .ok (.iaload, 1) := by decide +kernel
theorem dX0_edge_52 : decode cX0_edge 52 = .ok (.iaload, 1) := by decide +kernel
theorem dX0_edge_53 : decode cX0_edge 53 = .ok (.iload_n 1, 1) := by decide +kernel
theorem dX0_edge_54 : decode cX0_edge 54 = .ok (.if_icmp .ne 7, 3) := by decide +kernel
theorem dX0_edge_57 : decode cX0_edge 57 = .ok (.iconst 1, 1) := by decide +kernel
theorem dX0_edge_58 : decode cX0_edge 58 = .ok (.goto 4, 3) := by decide +kernel
theorem dX0_edge_61 : decode cX0_edge 61 = .ok (.iconst 0, 1) := by decide +kernel
theorem dX0_edge_62 : decode cX0_edge 62 = .ok (.istore 5, 2) := by decide +kernel
theorem dX0_edge_64 : decode cX0_edge 64 = .ok (.iload_n 3, 1) := by decide +kernel
theorem dX0_edge_65 : decode cX0_edge 65 = .ok (.iload 5, 2) := by decide +kernel
theorem dX0_edge_67 : decode cX0_edge 67 = .ok (.ifCond .eq 24, 3) := by decide +kernel
theorem dX0_edge_70 : decode cX0_edge 70 = .ok (.aload_n 0, 1) := by decide +kernel
theorem dX0_edge_71 : decode cX0_edge 71 = .ok (.iload 4, 2) := by decide +kernel
theorem dX0_edge_73 : decode cX0_edge 73 = .ok (.iload_n 1, 1) := by decide +kernel
theorem dX0_edge_74 : decode cX0_edge 74 = .ok (.iload_n 2, 1) := by decide +kernel
theorem dX0_edge_75 : decode cX0_edge 75 = .ok (.invokevirtual 56, 3) := by decide +kernel
theorem dX0_edge_78 : decode cX0_edge 78 = .ok (.ifCond .ne 13, 3) := by decide +kernel
theorem dX0_edge_81 : decode cX0_edge 81 = .ok (.aload_n 0, 1) := by decide +kernel
theorem dX0_edge_82 : decode cX0_edge 82 = .ok (.getfield 28, 3) := by decide +kernel
theorem dX0_edge_85 : decode cX0_edge 85 = .ok (.iload 4, 2) := by decide +kernel
theorem dX0_edge_87 : decode cX0_edge 87 = .ok (.iaload, 1) := by decide +kernel
theorem dX0_edge_88 : decode cX0_edge 88 = .ok (.goto 4, 3) := by decide +kernel
theorem dX0_edge_91 : decode cX0_edge 91 = .ok (.iconst 0, 1) := by decide +kernel
theorem dX0_edge_92 : decode cX0_edge 92 = .ok (.iadd, 1) := by decide +kernel
theorem dX0_edge_93 : decode cX0_edge 93 = .ok (.istore_n 3, 1) := by decide +kernel
theorem dX0_edge_94 : decode cX0_edge 94 = .ok (.iinc 4 1, 3) := by decide +kernel
theorem dX0_edge_97 : decode cX0_edge 97 = .ok (.goto (-76), 3) := by decide +kernel
theorem dX0_edge_100 : decode cX0_edge 100 = .ok (.iload_n 3, 1) := by decide +kernel
theorem dX0_edge_101 : decode cX0_edge 101 = .ok (.ireturn, 1) := by decide +kernel
abbrev cX0_paths : ByteArray := prog_1_method_11_code
def yX0_paths : MethodName := ⟨RX0, "paths", "(I)I"⟩
theorem dX0_paths_0 : decode cX0_paths 0 = .ok (.iload_n 1, 1) := by decide +kernel
theorem dX0_paths_1 : decode cX0_paths 1 = .ok (.iconst 1, 1) := by decide +kernel
theorem dX0_paths_2 : decode cX0_paths 2 = .ok (.if_icmp .ge 7, 3) := by decide +kernel
theorem dX0_paths_5 : decode cX0_paths 5 = .ok (.iconst 1, 1) := by decide +kernel
theorem dX0_paths_6 : decode cX0_paths 6 = .ok (.goto 4, 3) := by decide +kernel
theorem dX0_paths_9 : decode cX0_paths 9 = .ok (.iload_n 1, 1) := by decide +kernel
theorem dX0_paths_10 : decode cX0_paths 10 = .ok (.istore_n 2, 1) := by decide +kernel
theorem dX0_paths_11 : decode cX0_paths 11 = .ok (.iconst 0, 1) := by decide +kernel
theorem dX0_paths_12 : decode cX0_paths 12 = .ok (.istore_n 3, 1) := by decide +kernel
theorem dX0_paths_13 : decode cX0_paths 13 = .ok (.iconst 1, 1) := by decide +kernel
theorem dX0_paths_14 : decode cX0_paths 14 = .ok (.istore 4, 2) := by decide +kernel
theorem dX0_paths_16 : decode cX0_paths 16 = .ok (.iload 4, 2) := by decide +kernel
theorem dX0_paths_18 : decode cX0_paths 18 = .ok (.aload_n 0, 1) := by decide +kernel
theorem dX0_paths_19 : decode cX0_paths 19 = .ok (.getfield 31, 3) := by decide +kernel
theorem dX0_paths_22 : decode cX0_paths 22 = .ok (.if_icmp .ge 28, 3) := by decide +kernel
theorem dX0_paths_25 : decode cX0_paths 25 = .ok (.iload_n 3, 1) := by decide +kernel
theorem dX0_paths_26 : decode cX0_paths 26 = .ok (.aload_n 0, 1) := by decide +kernel
theorem dX0_paths_27 : decode cX0_paths 27 = .ok (.getfield 28, 3) := by decide +kernel
theorem dX0_paths_30 : decode cX0_paths 30 = .ok (.iload 4, 2) := by decide +kernel
theorem dX0_paths_32 : decode cX0_paths 32 = .ok (.iaload, 1) := by decide +kernel
theorem dX0_paths_33 : decode cX0_paths 33 = .ok (.iload_n 2, 1) := by decide +kernel
theorem dX0_paths_34 : decode cX0_paths 34 = .ok (.if_icmp .lt 7, 3) := by decide +kernel
theorem dX0_paths_37 : decode cX0_paths 37 = .ok (.iconst 1, 1) := by decide +kernel
theorem dX0_paths_38 : decode cX0_paths 38 = .ok (.goto 4, 3) := by decide +kernel
theorem dX0_paths_41 : decode cX0_paths 41 = .ok (.iconst 0, 1) := by decide +kernel
theorem dX0_paths_42 : decode cX0_paths 42 = .ok (.iadd, 1) := by decide +kernel
theorem dX0_paths_43 : decode cX0_paths 43 = .ok (.istore_n 3, 1) := by decide +kernel
theorem dX0_paths_44 : decode cX0_paths 44 = .ok (.iinc 4 1, 3) := by decide +kernel
theorem dX0_paths_47 : decode cX0_paths 47 = .ok (.goto (-31), 3) := by decide +kernel
theorem dX0_paths_50 : decode cX0_paths 50 = .ok (.iload_n 3, 1) := by decide +kernel
theorem dX0_paths_51 : decode cX0_paths 51 = .ok (.ireturn, 1) := by decide +kernel
abbrev cX0_deepest : ByteArray := prog_1_method_12_code
def yX0_deepest : MethodName := ⟨RX0, "deepest", "(I)I"⟩
theorem dX0_deepest_0 : decode cX0_deepest 0 = .ok (.iload_n 1, 1) := by decide +kernel
theorem dX0_deepest_1 : decode cX0_deepest 1 = .ok (.iconst 1, 1) := by decide +kernel
theorem dX0_deepest_2 : decode cX0_deepest 2 = .ok (.if_icmp .ge 7, 3) := by decide +kernel
theorem dX0_deepest_5 : decode cX0_deepest 5 = .ok (.iconst 1, 1) := by decide +kernel
theorem dX0_deepest_6 : decode cX0_deepest 6 = .ok (.goto 4, 3) := by decide +kernel
theorem dX0_deepest_9 : decode cX0_deepest 9 = .ok (.iload_n 1, 1) := by decide +kernel
theorem dX0_deepest_10 : decode cX0_deepest 10 = .ok (.istore_n 2, 1) := by decide +kernel
theorem dX0_deepest_11 : decode cX0_deepest 11 = .ok (.iconst 0, 1) := by decide +kernel
theorem dX0_deepest_12 : decode cX0_deepest 12 = .ok (.istore_n 3, 1) := by decide +kernel
theorem dX0_deepest_13 : decode cX0_deepest 13 = .ok (.iconst 1, 1) := by decide +kernel
theorem dX0_deepest_14 : decode cX0_deepest 14 = .ok (.istore 4, 2) := by decide +kernel
theorem dX0_deepest_16 : decode cX0_deepest 16 = .ok (.iload 4, 2) := by decide +kernel
theorem dX0_deepest_18 : decode cX0_deepest 18 = .ok (.aload_n 0, 1) := by decide +kernel
theorem dX0_deepest_19 : decode cX0_deepest 19 = .ok (.getfield 31, 3) := by decide +kernel
theorem dX0_deepest_22 : decode cX0_deepest 22 = .ok (.if_icmp .ge 45, 3) := by decide +kernel
theorem dX0_deepest_25 : decode cX0_deepest 25 = .ok (.aload_n 0, 1) := by decide +kernel
theorem dX0_deepest_26 : decode cX0_deepest 26 = .ok (.getfield 28, 3) := by decide +kernel
theorem dX0_deepest_29 : decode cX0_deepest 29 = .ok (.iload 4, 2) := by decide +kernel
theorem dX0_deepest_31 : decode cX0_deepest 31 = .ok (.iaload, 1) := by decide +kernel
theorem dX0_deepest_32 : decode cX0_deepest 32 = .ok (.iload_n 2, 1) := by decide +kernel
theorem dX0_deepest_33 : decode cX0_deepest 33 = .ok (.if_icmp .lt 12, 3) := by decide +kernel
theorem dX0_deepest_36 : decode cX0_deepest 36 = .ok (.aload_n 0, 1) := by decide +kernel
theorem dX0_deepest_37 : decode cX0_deepest 37 = .ok (.iload 4, 2) := by decide +kernel
theorem dX0_deepest_39 : decode cX0_deepest 39 = .ok (.invokevirtual 60, 3) := by decide +kernel
theorem dX0_deepest_42 : decode cX0_deepest 42 = .ok (.goto 4, 3) := by decide +kernel
theorem dX0_deepest_45 : decode cX0_deepest 45 = .ok (.iconst 0, 1) := by decide +kernel
theorem dX0_deepest_46 : decode cX0_deepest 46 = .ok (.istore 5, 2) := by decide +kernel
theorem dX0_deepest_48 : decode cX0_deepest 48 = .ok (.iload 5, 2) := by decide +kernel
theorem dX0_deepest_50 : decode cX0_deepest 50 = .ok (.iload_n 3, 1) := by decide +kernel
theorem dX0_deepest_51 : decode cX0_deepest 51 = .ok (.if_icmp .le 8, 3) := by decide +kernel
theorem dX0_deepest_54 : decode cX0_deepest 54 = .ok (.iload 5, 2) := by decide +kernel
theorem dX0_deepest_56 : decode cX0_deepest 56 = .ok (.goto 4, 3) := by decide +kernel
theorem dX0_deepest_59 : decode cX0_deepest 59 = .ok (.iload_n 3, 1) := by decide +kernel
theorem dX0_deepest_60 : decode cX0_deepest 60 = .ok (.istore_n 3, 1) := by decide +kernel
theorem dX0_deepest_61 : decode cX0_deepest 61 = .ok (.iinc 4 1, 3) := by decide +kernel
theorem dX0_deepest_64 : decode cX0_deepest 64 = .ok (.goto (-48), 3) := by decide +kernel
theorem dX0_deepest_67 : decode cX0_deepest 67 = .ok (.iload_n 3, 1) := by decide +kernel
theorem dX0_deepest_68 : decode cX0_deepest 68 = .ok (.ireturn, 1) := by decide +kernel
abbrev cX0_depthOf : ByteArray := prog_1_method_18_code
def yX0_depthOf : MethodName := ⟨RX0, "depthOf", "(I)I"⟩
theorem dX0_depthOf_0 : decode cX0_depthOf 0 = .ok (.iconst 0, 1) := by decide +kernel
theorem dX0_depthOf_1 : decode cX0_depthOf 1 = .ok (.istore_n 2, 1) := by decide +kernel
theorem dX0_depthOf_2 : decode cX0_depthOf 2 = .ok (.iload_n 1, 1) := by decide +kernel
theorem dX0_depthOf_3 : decode cX0_depthOf 3 = .ok (.istore_n 3, 1) := by decide +kernel
theorem dX0_depthOf_4 : decode cX0_depthOf 4 = .ok (.iconst 0, 1) := by decide +kernel
theorem dX0_depthOf_5 : decode cX0_depthOf 5 = .ok (.istore 4, 2) := by decide +kernel
theorem dX0_depthOf_7 : decode cX0_depthOf 7 = .ok (.iload 4, 2) := by decide +kernel
theorem dX0_depthOf_9 : decode cX0_depthOf 9 = .ok (.bipush 8, 2) := by decide +kernel
theorem dX0_depthOf_11 : decode cX0_depthOf 11 = .ok (.if_icmp .ge 23, 3) := by decide +kernel
theorem dX0_depthOf_14 : decode cX0_depthOf 14 = .ok (.iload_n 3, 1) := by decide +kernel
theorem dX0_depthOf_15 : decode cX0_depthOf 15 = .ok (.ifCond .le 19, 3) := by decide +kernel
theorem dX0_depthOf_18 : decode cX0_depthOf 18 = .ok (.iinc 2 1, 3) := by decide +kernel
theorem dX0_depthOf_21 : decode cX0_depthOf 21 = .ok (.aload_n 0, 1) := by decide +kernel
theorem dX0_depthOf_22 : decode cX0_depthOf 22 = .ok (.getfield 16, 3) := by decide +kernel
theorem dX0_depthOf_25 : decode cX0_depthOf 25 = .ok (.iload_n 3, 1) := by decide +kernel
theorem dX0_depthOf_26 : decode cX0_depthOf 26 = .ok (.iaload, 1) := by decide +kernel
theorem dX0_depthOf_27 : decode cX0_depthOf 27 = .ok (.istore_n 3, 1) := by decide +kernel
theorem dX0_depthOf_28 : decode cX0_depthOf 28 = .ok (.iinc 4 1, 3) := by decide +kernel
theorem dX0_depthOf_31 : decode cX0_depthOf 31 = .ok (.goto (-24), 3) := by decide +kernel
theorem dX0_depthOf_34 : decode cX0_depthOf 34 = .ok (.iload_n 2, 1) := by decide +kernel
theorem dX0_depthOf_35 : decode cX0_depthOf 35 = .ok (.ireturn, 1) := by decide +kernel
theorem q12 : (Jvm.Cond.initialized "FlameTree") ∈ lw_all := lw_g (lw_at lw_m0 1 rfl) rfl
theorem q15 : (Jvm.Cond.instantiable "FlameTree" (10 : Nat)) ∈ lw_all := lw_g (lw_at lw_m0 4 rfl) rfl
theorem q17 : (Jvm.Cond.instanceMethod ({ cls := "FlameTree", name := "<init>", desc := "()V" } : Jvm.MethodName)) ∈ lw_all := lw_g (lw_at lw_m0 6 rfl) rfl
theorem q18 : (Jvm.Cond.code ({ cls := "FlameTree", name := "<init>", desc := "()V" } : Jvm.MethodName) prog_1_method_1_code (1 : Nat) (Option.none : Option Jvm.ClassFile.FieldType)) ∈ lw_all := lw_g (lw_at lw_m0 7 rfl) rfl
theorem q19 : (Jvm.Cond.methodLink "FlameTree" (1 : Nat) ({ cls := "java/lang/Object", name := "<init>", desc := "()V" } : Jvm.MethodName)) ∈ lw_all := lw_g (lw_at lw_m0 8 rfl) rfl
theorem q22 : (Jvm.Cond.fieldLink "FlameTree" (39 : Nat) "FlameTree" "depth" "I") ∈ lw_all := lw_g (lw_at lw_m0 11 rfl) rfl
theorem q23 : (Jvm.Cond.fieldLink "FlameTree" (7 : Nat) "FlameTree" "stack" "[I") ∈ lw_all := lw_g (lw_at lw_m0 12 rfl) rfl
theorem q24 : (Jvm.Cond.fieldLink "FlameTree" (42 : Nat) "FlameTree" "samples" "I") ∈ lw_all := lw_g (lw_at lw_m0 13 rfl) rfl
theorem q25 : (Jvm.Cond.fieldLink "FlameTree" (31 : Nat) "FlameTree" "nodes" "I") ∈ lw_all := lw_g (lw_at lw_m0 14 rfl) rfl
theorem q26 : (Jvm.Cond.fieldLink "FlameTree" (13 : Nat) "FlameTree" "functionOf" "[I") ∈ lw_all := lw_g (lw_at lw_m0 15 rfl) rfl
theorem q27 : (Jvm.Cond.fieldLink "FlameTree" (16 : Nat) "FlameTree" "above" "[I") ∈ lw_all := lw_g (lw_at lw_m0 16 rfl) rfl
theorem q28 : (Jvm.Cond.fieldLink "FlameTree" (19 : Nat) "FlameTree" "child" "[I") ∈ lw_all := lw_g (lw_at lw_m0 17 rfl) rfl
theorem q29 : (Jvm.Cond.fieldLink "FlameTree" (22 : Nat) "FlameTree" "sister" "[I") ∈ lw_all := lw_g (lw_at lw_m0 18 rfl) rfl
theorem q30 : (Jvm.Cond.fieldLink "FlameTree" (25 : Nat) "FlameTree" "ownWeight" "[I") ∈ lw_all := lw_g (lw_at lw_m0 19 rfl) rfl
theorem q31 : (Jvm.Cond.fieldLink "FlameTree" (28 : Nat) "FlameTree" "totalWeight" "[I") ∈ lw_all := lw_g (lw_at lw_m0 20 rfl) rfl
theorem q32 : (Jvm.Cond.lays "FlameTree" "FlameTree" "depth" "I") ∈ lw_all := lw_g (lw_at lw_m0 21 rfl) rfl
theorem q33 : (Jvm.Cond.soleField "FlameTree" "depth") ∈ lw_all := lw_g (lw_at lw_m0 22 rfl) rfl
theorem q34 : (Jvm.Cond.laysFinal "FlameTree" "FlameTree" "stack" "[I") ∈ lw_all := lw_g (lw_at lw_m0 23 rfl) rfl
theorem q35 : (Jvm.Cond.soleField "FlameTree" "stack") ∈ lw_all := lw_g (lw_at lw_m0 24 rfl) rfl
theorem q36 : (Jvm.Cond.lays "FlameTree" "FlameTree" "samples" "I") ∈ lw_all := lw_g (lw_at lw_m0 25 rfl) rfl
theorem q37 : (Jvm.Cond.soleField "FlameTree" "samples") ∈ lw_all := lw_g (lw_at lw_m0 26 rfl) rfl
theorem q38 : (Jvm.Cond.lays "FlameTree" "FlameTree" "nodes" "I") ∈ lw_all := lw_g (lw_at lw_m0 27 rfl) rfl
theorem q39 : (Jvm.Cond.soleField "FlameTree" "nodes") ∈ lw_all := lw_g (lw_at lw_m0 28 rfl) rfl
theorem q40 : (Jvm.Cond.laysFinal "FlameTree" "FlameTree" "functionOf" "[I") ∈ lw_all := lw_g (lw_at lw_m0 29 rfl) rfl
theorem q41 : (Jvm.Cond.soleField "FlameTree" "functionOf") ∈ lw_all := lw_g (lw_at lw_m0 30 rfl) rfl
theorem q42 : (Jvm.Cond.laysFinal "FlameTree" "FlameTree" "above" "[I") ∈ lw_all := lw_g (lw_at lw_m0 31 rfl) rfl
theorem q43 : (Jvm.Cond.soleField "FlameTree" "above") ∈ lw_all := lw_g (lw_at lw_m0 32 rfl) rfl
theorem q44 : (Jvm.Cond.laysFinal "FlameTree" "FlameTree" "child" "[I") ∈ lw_all := lw_g (lw_at lw_m0 33 rfl) rfl
theorem q45 : (Jvm.Cond.soleField "FlameTree" "child") ∈ lw_all := lw_g (lw_at lw_m0 34 rfl) rfl
theorem q46 : (Jvm.Cond.laysFinal "FlameTree" "FlameTree" "sister" "[I") ∈ lw_all := lw_g (lw_at lw_m0 35 rfl) rfl
theorem q47 : (Jvm.Cond.soleField "FlameTree" "sister") ∈ lw_all := lw_g (lw_at lw_m0 36 rfl) rfl
theorem q48 : (Jvm.Cond.laysFinal "FlameTree" "FlameTree" "ownWeight" "[I") ∈ lw_all := lw_g (lw_at lw_m0 37 rfl) rfl
theorem q49 : (Jvm.Cond.soleField "FlameTree" "ownWeight") ∈ lw_all := lw_g (lw_at lw_m0 38 rfl) rfl
theorem q50 : (Jvm.Cond.laysFinal "FlameTree" "FlameTree" "totalWeight" "[I") ∈ lw_all := lw_g (lw_at lw_m0 39 rfl) rfl
theorem q51 : (Jvm.Cond.soleField "FlameTree" "totalWeight") ∈ lw_all := lw_g (lw_at lw_m0 40 rfl) rfl
theorem q52 : (Jvm.Cond.superclass "FlameTree" "java/lang/Object") ∈ lw_all := lw_g (lw_at lw_m0 41 rfl) rfl
theorem q55 : (Jvm.Cond.instanceMethod ({ cls := "FlameTree", name := "call", desc := "(I)I" } : Jvm.MethodName)) ∈ lw_all := lw_g (lw_at lw_m0 44 rfl) rfl
theorem q56 : (Jvm.Cond.selects "FlameTree" ({ cls := "FlameTree", name := "call", desc := "(I)I" } : Jvm.MethodName) ({ cls := "FlameTree", name := "call", desc := "(I)I" } : Jvm.MethodName)) ∈ lw_all := lw_g (lw_at lw_m0 45 rfl) rfl
theorem q57 : (Jvm.Cond.code ({ cls := "FlameTree", name := "call", desc := "(I)I" } : Jvm.MethodName) prog_1_method_2_code (2 : Nat) (Option.some Jvm.ClassFile.FieldType.int)) ∈ lw_all := lw_g (lw_at lw_m0 46 rfl) rfl
theorem q58 : (Jvm.Cond.methodLink "FlameTree" (35 : Nat) ({ cls := "FlameTree", name := "isFunction", desc := "(I)Z" } : Jvm.MethodName)) ∈ lw_all := lw_g (lw_at lw_m0 47 rfl) rfl
theorem q59 : (Jvm.Cond.static ({ cls := "FlameTree", name := "isFunction", desc := "(I)Z" } : Jvm.MethodName)) ∈ lw_all := lw_g (lw_at lw_m0 48 rfl) rfl
theorem q60 : (Jvm.Cond.code ({ cls := "FlameTree", name := "isFunction", desc := "(I)Z" } : Jvm.MethodName) prog_1_method_13_code (1 : Nat) (Option.some Jvm.ClassFile.FieldType.boolean)) ∈ lw_all := lw_g (lw_at lw_m0 49 rfl) rfl
theorem q62 : (Jvm.Cond.instanceMethod ({ cls := "FlameTree", name := "leave", desc := "()I" } : Jvm.MethodName)) ∈ lw_all := lw_g (lw_at lw_m0 51 rfl) rfl
theorem q63 : (Jvm.Cond.selects "FlameTree" ({ cls := "FlameTree", name := "leave", desc := "()I" } : Jvm.MethodName) ({ cls := "FlameTree", name := "leave", desc := "()I" } : Jvm.MethodName)) ∈ lw_all := lw_g (lw_at lw_m0 52 rfl) rfl
theorem q64 : (Jvm.Cond.code ({ cls := "FlameTree", name := "leave", desc := "()I" } : Jvm.MethodName) prog_1_method_3_code (1 : Nat) (Option.some Jvm.ClassFile.FieldType.int)) ∈ lw_all := lw_g (lw_at lw_m0 53 rfl) rfl
theorem q66 : (Jvm.Cond.instanceMethod ({ cls := "FlameTree", name := "sample", desc := "(I)I" } : Jvm.MethodName)) ∈ lw_all := lw_g (lw_at lw_m0 55 rfl) rfl
theorem q67 : (Jvm.Cond.selects "FlameTree" ({ cls := "FlameTree", name := "sample", desc := "(I)I" } : Jvm.MethodName) ({ cls := "FlameTree", name := "sample", desc := "(I)I" } : Jvm.MethodName)) ∈ lw_all := lw_g (lw_at lw_m0 56 rfl) rfl
theorem q68 : (Jvm.Cond.code ({ cls := "FlameTree", name := "sample", desc := "(I)I" } : Jvm.MethodName) prog_1_method_4_code (5 : Nat) (Option.some Jvm.ClassFile.FieldType.int)) ∈ lw_all := lw_g (lw_at lw_m0 57 rfl) rfl
theorem q69 : (Jvm.Cond.methodLink "FlameTree" (45 : Nat) ({ cls := "FlameTree", name := "childWith", desc := "(II)I" } : Jvm.MethodName)) ∈ lw_all := lw_g (lw_at lw_m0 58 rfl) rfl
theorem q70 : (Jvm.Cond.privateMethod ({ cls := "FlameTree", name := "childWith", desc := "(II)I" } : Jvm.MethodName)) ∈ lw_tbl := lw_at lw_m0 59 rfl
theorem q71 : (Jvm.Cond.instanceMethod ({ cls := "FlameTree", name := "childWith", desc := "(II)I" } : Jvm.MethodName)) ∈ lw_all := lw_g (lw_at lw_m0 60 rfl) rfl
theorem q72 : (Jvm.Cond.code ({ cls := "FlameTree", name := "childWith", desc := "(II)I" } : Jvm.MethodName) prog_1_method_14_code (4 : Nat) (Option.some Jvm.ClassFile.FieldType.int)) ∈ lw_all := lw_g (lw_at lw_m0 61 rfl) rfl
theorem q73 : (Jvm.Cond.methodLink "FlameTree" (49 : Nat) ({ cls := "FlameTree", name := "addChild", desc := "(II)I" } : Jvm.MethodName)) ∈ lw_all := lw_g (lw_at lw_m0 62 rfl) rfl
theorem q74 : (Jvm.Cond.privateMethod ({ cls := "FlameTree", name := "addChild", desc := "(II)I" } : Jvm.MethodName)) ∈ lw_tbl := lw_at lw_m0 63 rfl
theorem q75 : (Jvm.Cond.instanceMethod ({ cls := "FlameTree", name := "addChild", desc := "(II)I" } : Jvm.MethodName)) ∈ lw_all := lw_g (lw_at lw_m0 64 rfl) rfl
theorem q76 : (Jvm.Cond.code ({ cls := "FlameTree", name := "addChild", desc := "(II)I" } : Jvm.MethodName) prog_1_method_15_code (4 : Nat) (Option.some Jvm.ClassFile.FieldType.int)) ∈ lw_all := lw_g (lw_at lw_m0 65 rfl) rfl
theorem q78 : (Jvm.Cond.instanceMethod ({ cls := "FlameTree", name := "total", desc := "()I" } : Jvm.MethodName)) ∈ lw_all := lw_g (lw_at lw_m0 67 rfl) rfl
theorem q79 : (Jvm.Cond.selects "FlameTree" ({ cls := "FlameTree", name := "total", desc := "()I" } : Jvm.MethodName) ({ cls := "FlameTree", name := "total", desc := "()I" } : Jvm.MethodName)) ∈ lw_all := lw_g (lw_at lw_m0 68 rfl) rfl
theorem q80 : (Jvm.Cond.code ({ cls := "FlameTree", name := "total", desc := "()I" } : Jvm.MethodName) prog_1_method_5_code (2 : Nat) (Option.some Jvm.ClassFile.FieldType.int)) ∈ lw_all := lw_g (lw_at lw_m0 69 rfl) rfl
theorem q81 : (Jvm.Cond.methodLink "FlameTree" (52 : Nat) ({ cls := "FlameTree", name := "nodeOfStack", desc := "()I" } : Jvm.MethodName)) ∈ lw_all := lw_g (lw_at lw_m0 70 rfl) rfl
theorem q82 : (Jvm.Cond.privateMethod ({ cls := "FlameTree", name := "nodeOfStack", desc := "()I" } : Jvm.MethodName)) ∈ lw_tbl := lw_at lw_m0 71 rfl
theorem q83 : (Jvm.Cond.instanceMethod ({ cls := "FlameTree", name := "nodeOfStack", desc := "()I" } : Jvm.MethodName)) ∈ lw_all := lw_g (lw_at lw_m0 72 rfl) rfl
theorem q84 : (Jvm.Cond.code ({ cls := "FlameTree", name := "nodeOfStack", desc := "()I" } : Jvm.MethodName) prog_1_method_16_code (3 : Nat) (Option.some Jvm.ClassFile.FieldType.int)) ∈ lw_all := lw_g (lw_at lw_m0 73 rfl) rfl
theorem q86 : (Jvm.Cond.instanceMethod ({ cls := "FlameTree", name := "own", desc := "()I" } : Jvm.MethodName)) ∈ lw_all := lw_g (lw_at lw_m0 75 rfl) rfl
theorem q87 : (Jvm.Cond.selects "FlameTree" ({ cls := "FlameTree", name := "own", desc := "()I" } : Jvm.MethodName) ({ cls := "FlameTree", name := "own", desc := "()I" } : Jvm.MethodName)) ∈ lw_all := lw_g (lw_at lw_m0 76 rfl) rfl
theorem q88 : (Jvm.Cond.code ({ cls := "FlameTree", name := "own", desc := "()I" } : Jvm.MethodName) prog_1_method_6_code (2 : Nat) (Option.some Jvm.ClassFile.FieldType.int)) ∈ lw_all := lw_g (lw_at lw_m0 77 rfl) rfl
theorem q90 : (Jvm.Cond.instanceMethod ({ cls := "FlameTree", name := "hottest", desc := "()I" } : Jvm.MethodName)) ∈ lw_all := lw_g (lw_at lw_m0 79 rfl) rfl
theorem q91 : (Jvm.Cond.selects "FlameTree" ({ cls := "FlameTree", name := "hottest", desc := "()I" } : Jvm.MethodName) ({ cls := "FlameTree", name := "hottest", desc := "()I" } : Jvm.MethodName)) ∈ lw_all := lw_g (lw_at lw_m0 80 rfl) rfl
theorem q92 : (Jvm.Cond.code ({ cls := "FlameTree", name := "hottest", desc := "()I" } : Jvm.MethodName) prog_1_method_7_code (5 : Nat) (Option.some Jvm.ClassFile.FieldType.int)) ∈ lw_all := lw_g (lw_at lw_m0 81 rfl) rfl
theorem q94 : (Jvm.Cond.instanceMethod ({ cls := "FlameTree", name := "inclusive", desc := "(I)I" } : Jvm.MethodName)) ∈ lw_all := lw_g (lw_at lw_m0 83 rfl) rfl
theorem q95 : (Jvm.Cond.selects "FlameTree" ({ cls := "FlameTree", name := "inclusive", desc := "(I)I" } : Jvm.MethodName) ({ cls := "FlameTree", name := "inclusive", desc := "(I)I" } : Jvm.MethodName)) ∈ lw_all := lw_g (lw_at lw_m0 84 rfl) rfl
theorem q96 : (Jvm.Cond.code ({ cls := "FlameTree", name := "inclusive", desc := "(I)I" } : Jvm.MethodName) prog_1_method_8_code (4 : Nat) (Option.some Jvm.ClassFile.FieldType.int)) ∈ lw_all := lw_g (lw_at lw_m0 85 rfl) rfl
theorem q97 : (Jvm.Cond.methodLink "FlameTree" (56 : Nat) ({ cls := "FlameTree", name := "standsAbove", desc := "(III)Z" } : Jvm.MethodName)) ∈ lw_all := lw_g (lw_at lw_m0 86 rfl) rfl
theorem q98 : (Jvm.Cond.privateMethod ({ cls := "FlameTree", name := "standsAbove", desc := "(III)Z" } : Jvm.MethodName)) ∈ lw_tbl := lw_at lw_m0 87 rfl
theorem q99 : (Jvm.Cond.instanceMethod ({ cls := "FlameTree", name := "standsAbove", desc := "(III)Z" } : Jvm.MethodName)) ∈ lw_all := lw_g (lw_at lw_m0 88 rfl) rfl
theorem q100 : (Jvm.Cond.code ({ cls := "FlameTree", name := "standsAbove", desc := "(III)Z" } : Jvm.MethodName) prog_1_method_17_code (6 : Nat) (Option.some Jvm.ClassFile.FieldType.boolean)) ∈ lw_all := lw_g (lw_at lw_m0 89 rfl) rfl
theorem q102 : (Jvm.Cond.instanceMethod ({ cls := "FlameTree", name := "exclusive", desc := "(I)I" } : Jvm.MethodName)) ∈ lw_all := lw_g (lw_at lw_m0 91 rfl) rfl
theorem q103 : (Jvm.Cond.selects "FlameTree" ({ cls := "FlameTree", name := "exclusive", desc := "(I)I" } : Jvm.MethodName) ({ cls := "FlameTree", name := "exclusive", desc := "(I)I" } : Jvm.MethodName)) ∈ lw_all := lw_g (lw_at lw_m0 92 rfl) rfl
theorem q104 : (Jvm.Cond.code ({ cls := "FlameTree", name := "exclusive", desc := "(I)I" } : Jvm.MethodName) prog_1_method_9_code (4 : Nat) (Option.some Jvm.ClassFile.FieldType.int)) ∈ lw_all := lw_g (lw_at lw_m0 93 rfl) rfl
theorem q106 : (Jvm.Cond.instanceMethod ({ cls := "FlameTree", name := "edge", desc := "(II)I" } : Jvm.MethodName)) ∈ lw_all := lw_g (lw_at lw_m0 95 rfl) rfl
theorem q107 : (Jvm.Cond.selects "FlameTree" ({ cls := "FlameTree", name := "edge", desc := "(II)I" } : Jvm.MethodName) ({ cls := "FlameTree", name := "edge", desc := "(II)I" } : Jvm.MethodName)) ∈ lw_all := lw_g (lw_at lw_m0 96 rfl) rfl
theorem q108 : (Jvm.Cond.code ({ cls := "FlameTree", name := "edge", desc := "(II)I" } : Jvm.MethodName) prog_1_method_10_code (6 : Nat) (Option.some Jvm.ClassFile.FieldType.int)) ∈ lw_all := lw_g (lw_at lw_m0 97 rfl) rfl
theorem q110 : (Jvm.Cond.instanceMethod ({ cls := "FlameTree", name := "paths", desc := "(I)I" } : Jvm.MethodName)) ∈ lw_all := lw_g (lw_at lw_m0 99 rfl) rfl
theorem q111 : (Jvm.Cond.selects "FlameTree" ({ cls := "FlameTree", name := "paths", desc := "(I)I" } : Jvm.MethodName) ({ cls := "FlameTree", name := "paths", desc := "(I)I" } : Jvm.MethodName)) ∈ lw_all := lw_g (lw_at lw_m0 100 rfl) rfl
theorem q112 : (Jvm.Cond.code ({ cls := "FlameTree", name := "paths", desc := "(I)I" } : Jvm.MethodName) prog_1_method_11_code (5 : Nat) (Option.some Jvm.ClassFile.FieldType.int)) ∈ lw_all := lw_g (lw_at lw_m0 101 rfl) rfl
theorem q114 : (Jvm.Cond.instanceMethod ({ cls := "FlameTree", name := "deepest", desc := "(I)I" } : Jvm.MethodName)) ∈ lw_all := lw_g (lw_at lw_m0 103 rfl) rfl
theorem q115 : (Jvm.Cond.selects "FlameTree" ({ cls := "FlameTree", name := "deepest", desc := "(I)I" } : Jvm.MethodName) ({ cls := "FlameTree", name := "deepest", desc := "(I)I" } : Jvm.MethodName)) ∈ lw_all := lw_g (lw_at lw_m0 104 rfl) rfl
theorem q116 : (Jvm.Cond.code ({ cls := "FlameTree", name := "deepest", desc := "(I)I" } : Jvm.MethodName) prog_1_method_12_code (6 : Nat) (Option.some Jvm.ClassFile.FieldType.int)) ∈ lw_all := lw_g (lw_at lw_m0 105 rfl) rfl
theorem q117 : (Jvm.Cond.methodLink "FlameTree" (60 : Nat) ({ cls := "FlameTree", name := "depthOf", desc := "(I)I" } : Jvm.MethodName)) ∈ lw_all := lw_g (lw_at lw_m0 106 rfl) rfl
theorem q118 : (Jvm.Cond.privateMethod ({ cls := "FlameTree", name := "depthOf", desc := "(I)I" } : Jvm.MethodName)) ∈ lw_tbl := lw_at lw_m0 107 rfl
theorem q119 : (Jvm.Cond.instanceMethod ({ cls := "FlameTree", name := "depthOf", desc := "(I)I" } : Jvm.MethodName)) ∈ lw_all := lw_g (lw_at lw_m0 108 rfl) rfl
theorem q120 : (Jvm.Cond.code ({ cls := "FlameTree", name := "depthOf", desc := "(I)I" } : Jvm.MethodName) prog_1_method_18_code (5 : Nat) (Option.some Jvm.ClassFile.FieldType.int)) ∈ lw_all := lw_g (lw_at lw_m0 109 rfl) rfl
theorem in_X0 : ∀ w ∈ wsX00, w ∈ lw_all := lw_in wsX00 [32, 34, 36, 38, 40, 42, 44, 46, 48, 50] (by decide +kernel) (by decide +kernel)
end
section
/-! java/lang/Object -/
set_option maxRecDepth 100000
def RJ0 : String := "java/lang/Object"
abbrev cJ0_init : ByteArray := object_method_1_code
def yJ0_init : MethodName := ⟨RJ0, "<init>", "()V"⟩
theorem dJ0_init_0 : decode cJ0_init 0 = .ok (.return_, 1) := by decide +kernel
theorem q20 : (Jvm.Cond.instanceMethod ({ cls := "java/lang/Object", name := "<init>", desc := "()V" } : Jvm.MethodName)) ∈ lw_all := lw_g (lw_at lw_m0 9 rfl) rfl
theorem q21 : (Jvm.Cond.code ({ cls := "java/lang/Object", name := "<init>", desc := "()V" } : Jvm.MethodName) object_method_1_code (1 : Nat) (Option.none : Option Jvm.ClassFile.FieldType)) ∈ lw_all := lw_g (lw_at lw_m0 10 rfl) rfl
/-! FlameTreeModel -/
set_option maxRecDepth 100000
def RX1 : String := "FlameTreeModel"
def TX1 : u_T := fun k => match k with
  | 0 => ("FlameTreeModel", "depth", "I", false)
  | 1 => ("FlameTreeModel", "stack", "[I", true)
  | 2 => ("FlameTreeModel", "samples", "I", false)
  | 3 => ("FlameTreeModel", "copies", "[I", true)
  | 4 => ("FlameTreeModel", "lengths", "[I", true)
  | _ => ("FlameTreeModel", "weights", "[I", true)
def tyX1 : Nat → FieldType := fun k => match k with
  | 0 => .int
  | 1 => .array .int
  | 2 => .int
  | 3 => .array .int
  | 4 => .array .int
  | _ => .array .int
abbrev wsX10 : List Cond := u_ws RX1 TX1 6
theorem nmX1 : ∀ a, a < 6 → ∀ b, b < 6 → a ≠ b → (TX1 a).2.1 ≠ (TX1 b).2.1 := by decide +kernel
theorem tyX1_ok : ∀ k, k < 6 → parseFieldDescriptor (TX1 k).2.2.1 = some (tyX1 k) := by decide +kernel
abbrev cX1_init : ByteArray := prog_3_method_1_code
def yX1_init : MethodName := ⟨RX1, "<init>", "()V"⟩
theorem dX1_init_0 : decode cX1_init 0 = .ok (.aload_n 0, 1) := by decide +kernel
theorem dX1_init_1 : decode cX1_init 1 = .ok (.invokespecial 1, 3) := by decide +kernel
theorem dX1_init_4 : decode cX1_init 4 = .ok (.aload_n 0, 1) := by decide +kernel
theorem dX1_init_5 : decode cX1_init 5 = .ok (.bipush 8, 2) := by decide +kernel
theorem dX1_init_7 : decode cX1_init 7 = .ok (.newarray .int, 2) := by decide +kernel
theorem dX1_init_9 : decode cX1_init 9 = .ok (.putfield 7, 3) := by decide +kernel
theorem dX1_init_12 : decode cX1_init 12 = .ok (.aload_n 0, 1) := by decide +kernel
theorem dX1_init_13 : decode cX1_init 13 = .ok (.sipush 320, 3) := by decide +kernel
theorem dX1_init_16 : decode cX1_init 16 = .ok (.newarray .int, 2) := by decide +kernel
theorem dX1_init_18 : decode cX1_init 18 = .ok (.putfield 13, 3) := by decide +kernel
theorem dX1_init_21 : decode cX1_init 21 = .ok (.aload_n 0, 1) := by decide +kernel
theorem dX1_init_22 : decode cX1_init 22 = .ok (.bipush 40, 2) := by decide +kernel
theorem dX1_init_24 : decode cX1_init 24 = .ok (.newarray .int, 2) := by decide +kernel
theorem dX1_init_26 : decode cX1_init 26 = .ok (.putfield 16, 3) := by decide +kernel
theorem dX1_init_29 : decode cX1_init 29 = .ok (.aload_n 0, 1) := by decide +kernel
theorem dX1_init_30 : decode cX1_init 30 = .ok (.bipush 40, 2) := by decide +kernel
theorem dX1_init_32 : decode cX1_init 32 = .ok (.newarray .int, 2) := by decide +kernel
theorem dX1_init_34 : decode cX1_init 34 = .ok (.putfield 19, 3) := by decide +kernel
theorem dX1_init_37 : decode cX1_init 37 = .ok (.return_, 1) := by decide +kernel
abbrev cX1_call : ByteArray := prog_3_method_3_code
def yX1_call : MethodName := ⟨RX1, "call", "(I)I"⟩
theorem dX1_call_0 : decode cX1_call 0 = .ok (.iload_n 1, 1) := by decide +kernel
theorem dX1_call_1 : decode cX1_call 1 = .ok (.invokestatic 22, 3) := by decide +kernel
theorem dX1_call_4 : decode cX1_call 4 = .ok (.ifCond .ne 12, 3) := by decide +kernel
theorem dX1_call_7 : decode cX1_call 7 = .ok (.aload_n 0, 1) := by decide +kernel
theorem dX1_call_8 : decode cX1_call 8 = .ok (.getfield 26, 3) := by decide +kernel
theorem dX1_call_11 : decode cX1_call 11 = .ok (.bipush 8, 2) := by decide +kernel
theorem dX1_call_13 : decode cX1_call 13 = .ok (.if_icmp .ne 5, 3) := by decide +kernel
theorem dX1_call_16 : decode cX1_call 16 = .ok (.iconst (-1), 1) := by decide +kernel
theorem dX1_call_17 : decode cX1_call 17 = .ok (.ireturn, 1) := by decide +kernel
theorem dX1_call_18 : decode cX1_call 18 = .ok (.aload_n 0, 1) := by decide +kernel
theorem dX1_call_19 : decode cX1_call 19 = .ok (.getfield 7, 3) := by decide +kernel
theorem dX1_call_22 : decode cX1_call 22 = .ok (.aload_n 0, 1) := by decide +kernel
theorem dX1_call_23 : decode cX1_call 23 = .ok (.getfield 26, 3) := by decide +kernel
theorem dX1_call_26 : decode cX1_call 26 = .ok (.iload_n 1, 1) := by decide +kernel
theorem dX1_call_27 : decode cX1_call 27 = .ok (.iastore, 1) := by decide +kernel
theorem dX1_call_28 : decode cX1_call 28 = .ok (.aload_n 0, 1) := by decide +kernel
theorem dX1_call_29 : decode cX1_call 29 = .ok (.dup, 1) := by decide +kernel
theorem dX1_call_30 : decode cX1_call 30 = .ok (.getfield 26, 3) := by decide +kernel
theorem dX1_call_33 : decode cX1_call 33 = .ok (.iconst 1, 1) := by decide +kernel
theorem dX1_call_34 : decode cX1_call 34 = .ok (.iadd, 1) := by decide +kernel
theorem dX1_call_35 : decode cX1_call 35 = .ok (.putfield 26, 3) := by decide +kernel
theorem dX1_call_38 : decode cX1_call 38 = .ok (.aload_n 0, 1) := by decide +kernel
theorem dX1_call_39 : decode cX1_call 39 = .ok (.getfield 26, 3) := by decide +kernel
theorem dX1_call_42 : decode cX1_call 42 = .ok (.ireturn, 1) := by decide +kernel
abbrev cX1_bad : ByteArray := prog_3_method_2_code
def yX1_bad : MethodName := ⟨RX1, "bad", "(I)Z"⟩
theorem dX1_bad_0 : decode cX1_bad 0 = .ok (.iload_n 0, 1) := by decide +kernel
theorem dX1_bad_1 : decode cX1_bad 1 = .ok (.ifCond .lt 9, 3) := by decide +kernel
theorem dX1_bad_4 : decode cX1_bad 4 = .ok (.iload_n 0, 1) := by decide +kernel
theorem dX1_bad_5 : decode cX1_bad 5 = .ok (.bipush 7, 2) := by decide +kernel
theorem dX1_bad_7 : decode cX1_bad 7 = .ok (.if_icmp .le 7, 3) := by decide +kernel
theorem dX1_bad_10 : decode cX1_bad 10 = .ok (.iconst 1, 1) := by decide +kernel
theorem dX1_bad_11 : decode cX1_bad 11 = .ok (.goto 4, 3) := by decide +kernel
theorem dX1_bad_14 : decode cX1_bad 14 = .ok (.iconst 0, 1) := by decide +kernel
theorem dX1_bad_15 : decode cX1_bad 15 = .ok (.ireturn, 1) := by decide +kernel
abbrev cX1_leave : ByteArray := prog_3_method_4_code
def yX1_leave : MethodName := ⟨RX1, "leave", "()I"⟩
theorem dX1_leave_0 : decode cX1_leave 0 = .ok (.aload_n 0, 1) := by decide +kernel
theorem dX1_leave_1 : decode cX1_leave 1 = .ok (.getfield 26, 3) := by decide +kernel
theorem dX1_leave_4 : decode cX1_leave 4 = .ok (.ifCond .ne 5, 3) := by decide +kernel
theorem dX1_leave_7 : decode cX1_leave 7 = .ok (.iconst (-1), 1) := by decide +kernel
theorem dX1_leave_8 : decode cX1_leave 8 = .ok (.ireturn, 1) := by decide +kernel
theorem dX1_leave_9 : decode cX1_leave 9 = .ok (.aload_n 0, 1) := by decide +kernel
theorem dX1_leave_10 : decode cX1_leave 10 = .ok (.dup, 1) := by decide +kernel
theorem dX1_leave_11 : decode cX1_leave 11 = .ok (.getfield 26, 3) := by decide +kernel
theorem dX1_leave_14 : decode cX1_leave 14 = .ok (.iconst 1, 1) := by decide +kernel
theorem dX1_leave_15 : decode cX1_leave 15 = .ok (.isub, 1) := by decide +kernel
theorem dX1_leave_16 : decode cX1_leave 16 = .ok (.putfield 26, 3) := by decide +kernel
theorem dX1_leave_19 : decode cX1_leave 19 = .ok (.aload_n 0, 1) := by decide +kernel
theorem dX1_leave_20 : decode cX1_leave 20 = .ok (.getfield 7, 3) := by decide +kernel
theorem dX1_leave_23 : decode cX1_leave 23 = .ok (.aload_n 0, 1) := by decide +kernel
theorem dX1_leave_24 : decode cX1_leave 24 = .ok (.getfield 26, 3) := by decide +kernel
theorem dX1_leave_27 : decode cX1_leave 27 = .ok (.iaload, 1) := by decide +kernel
theorem dX1_leave_28 : decode cX1_leave 28 = .ok (.ireturn, 1) := by decide +kernel
abbrev cX1_sample : ByteArray := prog_3_method_5_code
def yX1_sample : MethodName := ⟨RX1, "sample", "(I)I"⟩
theorem dX1_sample_0 : decode cX1_sample 0 = .ok (.iload_n 1, 1) := by decide +kernel
theorem dX1_sample_1 : decode cX1_sample 1 = .ok (.iconst 1, 1) := by decide +kernel
theorem dX1_sample_2 : decode cX1_sample 2 = .ok (.if_icmp .lt 18, 3) := by decide +kernel
theorem dX1_sample_5 : decode cX1_sample 5 = .ok (.iload_n 1, 1) := by decide +kernel
theorem dX1_sample_6 : decode cX1_sample 6 = .ok (.bipush 100, 2) := by decide +kernel
theorem dX1_sample_8 : decode cX1_sample 8 = .ok (.if_icmp .gt 12, 3) := by decide +kernel
theorem dX1_sample_11 : decode cX1_sample 11 = .ok (.aload_n 0, 1) := by decide +kernel
theorem dX1_sample_12 : decode cX1_sample 12 = .ok (.getfield 30, 3) := by decide +kernel
theorem dX1_sample_15 : decode cX1_sample 15 = .ok (.bipush 40, 2) := by decide +kernel
theorem dX1_sample_17 : decode cX1_sample 17 = .ok (.if_icmp .ne 5, 3) := by decide +kernel
theorem dX1_sample_20 : decode cX1_sample 20 = .ok (.iconst (-1), 1) := by decide +kernel
theorem dX1_sample_21 : decode cX1_sample 21 = .ok (.ireturn, 1) := by decide +kernel
theorem dX1_sample_22 : decode cX1_sample 22 = .ok (.iconst 0, 1) := by decide +kernel
theorem dX1_sample_23 : decode cX1_sample 23 = .ok (.istore_n 2, 1) := by decide +kernel
theorem dX1_sample_24 : decode cX1_sample 24 = .ok (.iload_n 2, 1) := by decide +kernel
theorem dX1_sample_25 : decode cX1_sample 25 = .ok (.aload_n 0, 1) := by decide +kernel
theorem dX1_sample_26 : decode cX1_sample 26 = .ok (.getfield 26, 3) := by decide +kernel
theorem dX1_sample_29 : decode cX1_sample 29 = .ok (.if_icmp .ge 29, 3) := by decide +kernel
theorem dX1_sample_32 : decode cX1_sample 32 = .ok (.aload_n 0, 1) := by decide +kernel
theorem dX1_sample_33 : decode cX1_sample 33 = .ok (.getfield 13, 3) := by decide +kernel
theorem dX1_sample_36 : decode cX1_sample 36 = .ok (.bipush 8, 2) := by decide +kernel
theorem dX1_sample_38 : decode cX1_sample 38 = .ok (.aload_n 0, 1) := by decide +kernel
theorem dX1_sample_39 : decode cX1_sample 39 = .ok (.getfield 30, 3) := by decide +kernel
theorem dX1_sample_42 : decode cX1_sample 42 = .ok (.imul, 1) := by decide +kernel
theorem dX1_sample_43 : decode cX1_sample 43 = .ok (.iload_n 2, 1) := by decide +kernel
theorem dX1_sample_44 : decode cX1_sample 44 = .ok (.iadd, 1) := by decide +kernel
theorem dX1_sample_45 : decode cX1_sample 45 = .ok (.aload_n 0, 1) := by decide +kernel
theorem dX1_sample_46 : decode cX1_sample 46 = .ok (.getfield 7, 3) := by decide +kernel
theorem dX1_sample_49 : decode cX1_sample 49 = .ok (.iload_n 2, 1) := by decide +kernel
theorem dX1_sample_50 : decode cX1_sample 50 = .ok (.iaload, 1) := by decide +kernel
theorem dX1_sample_51 : decode cX1_sample 51 = .ok (.iastore, 1) := by decide +kernel
theorem dX1_sample_52 : decode cX1_sample 52 = .ok (.iinc 2 1, 3) := by decide +kernel
theorem dX1_sample_55 : decode cX1_sample 55 = .ok (.goto (-31), 3) := by decide +kernel
theorem dX1_sample_58 : decode cX1_sample 58 = .ok (.aload_n 0, 1) := by decide +kernel
theorem dX1_sample_59 : decode cX1_sample 59 = .ok (.getfield 16, 3) := by decide +kernel
theorem dX1_sample_62 : decode cX1_sample 62 = .ok (.aload_n 0, 1) := by decide +kernel
theorem dX1_sample_63 : decode cX1_sample 63 = .ok (.getfield 30, 3) := by decide +kernel
theorem dX1_sample_66 : decode cX1_sample 66 = .ok (.aload_n 0, 1) := by decide +kernel
theorem dX1_sample_67 : decode cX1_sample 67 = .ok (.getfield 26, 3) := by decide +kernel
theorem dX1_sample_70 : decode cX1_sample 70 = .ok (.iastore, 1) := by decide +kernel
theorem dX1_sample_71 : decode cX1_sample 71 = .ok (.aload_n 0, 1) := by decide +kernel
theorem dX1_sample_72 : decode cX1_sample 72 = .ok (.getfield 19, 3) := by decide +kernel
theorem dX1_sample_75 : decode cX1_sample 75 = .ok (.aload_n 0, 1) := by decide +kernel
theorem dX1_sample_76 : decode cX1_sample 76 = .ok (.getfield 30, 3) := by decide +kernel
theorem dX1_sample_79 : decode cX1_sample 79 = .ok (.iload_n 1, 1) := by decide +kernel
theorem dX1_sample_80 : decode cX1_sample 80 = .ok (.iastore, 1) := by decide +kernel
theorem dX1_sample_81 : decode cX1_sample 81 = .ok (.aload_n 0, 1) := by decide +kernel
theorem dX1_sample_82 : decode cX1_sample 82 = .ok (.dup, 1) := by decide +kernel
theorem dX1_sample_83 : decode cX1_sample 83 = .ok (.getfield 30, 3) := by decide +kernel
theorem dX1_sample_86 : decode cX1_sample 86 = .ok (.iconst 1, 1) := by decide +kernel
theorem dX1_sample_87 : decode cX1_sample 87 = .ok (.iadd, 1) := by decide +kernel
theorem dX1_sample_88 : decode cX1_sample 88 = .ok (.putfield 30, 3) := by decide +kernel
theorem dX1_sample_91 : decode cX1_sample 91 = .ok (.aload_n 0, 1) := by decide +kernel
theorem dX1_sample_92 : decode cX1_sample 92 = .ok (.getfield 30, 3) := by decide +kernel
theorem dX1_sample_95 : decode cX1_sample 95 = .ok (.ireturn, 1) := by decide +kernel
abbrev cX1_total : ByteArray := prog_3_method_7_code
def yX1_total : MethodName := ⟨RX1, "total", "()I"⟩
theorem dX1_total_0 : decode cX1_total 0 = .ok (.iconst 0, 1) := by decide +kernel
theorem dX1_total_1 : decode cX1_total 1 = .ok (.istore_n 1, 1) := by decide +kernel
theorem dX1_total_2 : decode cX1_total 2 = .ok (.iconst 0, 1) := by decide +kernel
theorem dX1_total_3 : decode cX1_total 3 = .ok (.istore_n 2, 1) := by decide +kernel
theorem dX1_total_4 : decode cX1_total 4 = .ok (.iload_n 2, 1) := by decide +kernel
theorem dX1_total_5 : decode cX1_total 5 = .ok (.aload_n 0, 1) := by decide +kernel
theorem dX1_total_6 : decode cX1_total 6 = .ok (.getfield 30, 3) := by decide +kernel
theorem dX1_total_9 : decode cX1_total 9 = .ok (.if_icmp .ge 26, 3) := by decide +kernel
theorem dX1_total_12 : decode cX1_total 12 = .ok (.aload_n 0, 1) := by decide +kernel
theorem dX1_total_13 : decode cX1_total 13 = .ok (.iload_n 2, 1) := by decide +kernel
theorem dX1_total_14 : decode cX1_total 14 = .ok (.invokevirtual 33, 3) := by decide +kernel
theorem dX1_total_17 : decode cX1_total 17 = .ok (.ifCond .eq 12, 3) := by decide +kernel
theorem dX1_total_20 : decode cX1_total 20 = .ok (.iload_n 1, 1) := by decide +kernel
theorem dX1_total_21 : decode cX1_total 21 = .ok (.aload_n 0, 1) := by decide +kernel
theorem dX1_total_22 : decode cX1_total 22 = .ok (.getfield 19, 3) := by decide +kernel
theorem dX1_total_25 : decode cX1_total 25 = .ok (.iload_n 2, 1) := by decide +kernel
theorem dX1_total_26 : decode cX1_total 26 = .ok (.iaload, 1) := by decide +kernel
theorem dX1_total_27 : decode cX1_total 27 = .ok (.iadd, 1) := by decide +kernel
theorem dX1_total_28 : decode cX1_total 28 = .ok (.istore_n 1, 1) := by decide +kernel
theorem dX1_total_29 : decode cX1_total 29 = .ok (.iinc 2 1, 3) := by decide +kernel
theorem dX1_total_32 : decode cX1_total 32 = .ok (.goto (-28), 3) := by decide +kernel
theorem dX1_total_35 : decode cX1_total 35 = .ok (.iload_n 1, 1) := by decide +kernel
theorem dX1_total_36 : decode cX1_total 36 = .ok (.ireturn, 1) := by decide +kernel
abbrev cX1_over : ByteArray := prog_3_method_6_code
def yX1_over : MethodName := ⟨RX1, "over", "(I)Z"⟩
theorem dX1_over_0 : decode cX1_over 0 = .ok (.aload_n 0, 1) := by decide +kernel
theorem dX1_over_1 : decode cX1_over 1 = .ok (.getfield 16, 3) := by decide +kernel
theorem dX1_over_4 : decode cX1_over 4 = .ok (.iload_n 1, 1) := by decide +kernel
theorem dX1_over_5 : decode cX1_over 5 = .ok (.iaload, 1) := by decide +kernel
theorem dX1_over_6 : decode cX1_over 6 = .ok (.aload_n 0, 1) := by decide +kernel
theorem dX1_over_7 : decode cX1_over 7 = .ok (.getfield 26, 3) := by decide +kernel
theorem dX1_over_10 : decode cX1_over 10 = .ok (.if_icmp .ge 5, 3) := by decide +kernel
theorem dX1_over_13 : decode cX1_over 13 = .ok (.iconst 0, 1) := by decide +kernel
theorem dX1_over_14 : decode cX1_over 14 = .ok (.ireturn, 1) := by decide +kernel
theorem dX1_over_15 : decode cX1_over 15 = .ok (.iconst 0, 1) := by decide +kernel
theorem dX1_over_16 : decode cX1_over 16 = .ok (.istore_n 2, 1) := by decide +kernel
theorem dX1_over_17 : decode cX1_over 17 = .ok (.iload_n 2, 1) := by decide +kernel
theorem dX1_over_18 : decode cX1_over 18 = .ok (.aload_n 0, 1) := by decide +kernel
theorem dX1_over_19 : decode cX1_over 19 = .ok (.getfield 26, 3) := by decide +kernel
theorem dX1_over_22 : decode cX1_over 22 = .ok (.if_icmp .ge 31, 3) := by decide +kernel
theorem dX1_over_25 : decode cX1_over 25 = .ok (.aload_n 0, 1) := by decide +kernel
theorem dX1_over_26 : decode cX1_over 26 = .ok (.getfield 13, 3) := by decide +kernel
theorem dX1_over_29 : decode cX1_over 29 = .ok (.bipush 8, 2) := by decide +kernel
theorem dX1_over_31 : decode cX1_over 31 = .ok (.iload_n 1, 1) := by decide +kernel
theorem dX1_over_32 : decode cX1_over 32 = .ok (.imul, 1) := by decide +kernel
theorem dX1_over_33 : decode cX1_over 33 = .ok (.iload_n 2, 1) := by decide +kernel
theorem dX1_over_34 : decode cX1_over 34 = .ok (.iadd, 1) := by decide +kernel
theorem dX1_over_35 : decode cX1_over 35 = .ok (.iaload, 1) := by decide +kernel
theorem dX1_over_36 : decode cX1_over 36 = .ok (.aload_n 0, 1) := by decide +kernel
theorem dX1_over_37 : decode cX1_over 37 = .ok (.getfield 7, 3) := by decide +kernel
theorem dX1_over_40 : decode cX1_over 40 = .ok (.iload_n 2, 1) := by decide +kernel
theorem dX1_over_41 : decode cX1_over 41 = .ok (.iaload, 1) := by decide +kernel
theorem dX1_over_42 : decode cX1_over 42 = .ok (.if_icmp .eq 5, 3) := by decide +kernel
theorem dX1_over_45 : decode cX1_over 45 = .ok (.iconst 0, 1) := by decide +kernel
theorem dX1_over_46 : decode cX1_over 46 = .ok (.ireturn, 1) := by decide +kernel
theorem dX1_over_47 : decode cX1_over 47 = .ok (.iinc 2 1, 3) := by decide +kernel
theorem dX1_over_50 : decode cX1_over 50 = .ok (.goto (-33), 3) := by decide +kernel
theorem dX1_over_53 : decode cX1_over 53 = .ok (.iconst 1, 1) := by decide +kernel
theorem dX1_over_54 : decode cX1_over 54 = .ok (.ireturn, 1) := by decide +kernel
abbrev cX1_own : ByteArray := prog_3_method_8_code
def yX1_own : MethodName := ⟨RX1, "own", "()I"⟩
theorem dX1_own_0 : decode cX1_own 0 = .ok (.iconst 0, 1) := by decide +kernel
theorem dX1_own_1 : decode cX1_own 1 = .ok (.istore_n 1, 1) := by decide +kernel
theorem dX1_own_2 : decode cX1_own 2 = .ok (.iconst 0, 1) := by decide +kernel
theorem dX1_own_3 : decode cX1_own 3 = .ok (.istore_n 2, 1) := by decide +kernel
theorem dX1_own_4 : decode cX1_own 4 = .ok (.iload_n 2, 1) := by decide +kernel
theorem dX1_own_5 : decode cX1_own 5 = .ok (.aload_n 0, 1) := by decide +kernel
theorem dX1_own_6 : decode cX1_own 6 = .ok (.getfield 30, 3) := by decide +kernel
theorem dX1_own_9 : decode cX1_own 9 = .ok (.if_icmp .ge 39, 3) := by decide +kernel
theorem dX1_own_12 : decode cX1_own 12 = .ok (.aload_n 0, 1) := by decide +kernel
theorem dX1_own_13 : decode cX1_own 13 = .ok (.iload_n 2, 1) := by decide +kernel
theorem dX1_own_14 : decode cX1_own 14 = .ok (.invokevirtual 33, 3) := by decide +kernel
theorem dX1_own_17 : decode cX1_own 17 = .ok (.ifCond .eq 25, 3) := by decide +kernel
theorem dX1_own_20 : decode cX1_own 20 = .ok (.aload_n 0, 1) := by decide +kernel
theorem dX1_own_21 : decode cX1_own 21 = .ok (.getfield 16, 3) := by decide +kernel
theorem dX1_own_24 : decode cX1_own 24 = .ok (.iload_n 2, 1) := by decide +kernel
theorem dX1_own_25 : decode cX1_own 25 = .ok (.iaload, 1) := by decide +kernel
theorem dX1_own_26 : decode cX1_own 26 = .ok (.aload_n 0, 1) := by decide +kernel
theorem dX1_own_27 : decode cX1_own 27 = .ok (.getfield 26, 3) := by decide +kernel
theorem dX1_own_30 : decode cX1_own 30 = .ok (.if_icmp .ne 12, 3) := by decide +kernel
theorem dX1_own_33 : decode cX1_own 33 = .ok (.iload_n 1, 1) := by decide +kernel
theorem dX1_own_34 : decode cX1_own 34 = .ok (.aload_n 0, 1) := by decide +kernel
theorem dX1_own_35 : decode cX1_own 35 = .ok (.getfield 19, 3) := by decide +kernel
theorem dX1_own_38 : decode cX1_own 38 = .ok (.iload_n 2, 1) := by decide +kernel
theorem dX1_own_39 : decode cX1_own 39 = .ok (.iaload, 1) := by decide +kernel
theorem dX1_own_40 : decode cX1_own 40 = .ok (.iadd, 1) := by decide +kernel
theorem dX1_own_41 : decode cX1_own 41 = .ok (.istore_n 1, 1) := by decide +kernel
theorem dX1_own_42 : decode cX1_own 42 = .ok (.iinc 2 1, 3) := by decide +kernel
theorem dX1_own_45 : decode cX1_own 45 = .ok (.goto (-41), 3) := by decide +kernel
theorem dX1_own_48 : decode cX1_own 48 = .ok (.iload_n 1, 1) := by decide +kernel
theorem dX1_own_49 : decode cX1_own 49 = .ok (.ireturn, 1) := by decide +kernel
abbrev cX1_hottest : ByteArray := prog_3_method_10_code
def yX1_hottest : MethodName := ⟨RX1, "hottest", "()I"⟩
theorem dX1_hottest_0 : decode cX1_hottest 0 = .ok (.iconst (-1), 1) := by decide +kernel
theorem dX1_hottest_1 : decode cX1_hottest 1 = .ok (.istore_n 1, 1) := by decide +kernel
theorem dX1_hottest_2 : decode cX1_hottest 2 = .ok (.iconst 0, 1) := by decide +kernel
theorem dX1_hottest_3 : decode cX1_hottest 3 = .ok (.istore_n 2, 1) := by decide +kernel
theorem dX1_hottest_4 : decode cX1_hottest 4 = .ok (.iconst 0, 1) := by decide +kernel
theorem dX1_hottest_5 : decode cX1_hottest 5 = .ok (.istore_n 3, 1) := by decide +kernel
theorem dX1_hottest_6 : decode cX1_hottest 6 = .ok (.iload_n 3, 1) := by decide +kernel
theorem dX1_hottest_7 : decode cX1_hottest 7 = .ok (.bipush 8, 2) := by decide +kernel
theorem dX1_hottest_9 : decode cX1_hottest 9 = .ok (.if_icmp .ge 36, 3) := by decide +kernel
theorem dX1_hottest_12 : decode cX1_hottest 12 = .ok (.aload_n 0, 1) := by decide +kernel
theorem dX1_hottest_13 : decode cX1_hottest 13 = .ok (.getfield 26, 3) := by decide +kernel
theorem dX1_hottest_16 : decode cX1_hottest 16 = .ok (.bipush 8, 2) := by decide +kernel
theorem dX1_hottest_18 : decode cX1_hottest 18 = .ok (.if_icmp .ge 27, 3) := by decide +kernel
theorem dX1_hottest_21 : decode cX1_hottest 21 = .ok (.aload_n 0, 1) := by decide +kernel
theorem dX1_hottest_22 : decode cX1_hottest 22 = .ok (.iload_n 3, 1) := by decide +kernel
theorem dX1_hottest_23 : decode cX1_hottest 23 = .ok (.invokevirtual 36, 3) := by decide +kernel
theorem dX1_hottest_26 : decode cX1_hottest 26 = .ok (.istore 4, 2) := by decide +kernel
theorem dX1_hottest_28 : decode cX1_hottest 28 = .ok (.iload 4, 2) := by decide +kernel
theorem dX1_hottest_30 : decode cX1_hottest 30 = .ok (.iload_n 2, 1) := by decide +kernel
theorem dX1_hottest_31 : decode cX1_hottest 31 = .ok (.if_icmp .le 8, 3) := by decide +kernel
theorem dX1_hottest_34 : decode cX1_hottest 34 = .ok (.iload 4, 2) := by decide +kernel
theorem dX1_hottest_36 : decode cX1_hottest 36 = .ok (.istore_n 2, 1) := by decide +kernel
theorem dX1_hottest_37 : decode cX1_hottest 37 = .ok (.iload_n 3, 1) := by decide +kernel
theorem dX1_hottest_38 : decode cX1_hottest 38 = .ok (.istore_n 1, 1) := by decide +kernel
theorem dX1_hottest_39 : decode cX1_hottest 39 = .ok (.iinc 3 1, 3) := by decide +kernel
theorem dX1_hottest_42 : decode cX1_hottest 42 = .ok (.goto (-36), 3) := by decide +kernel
theorem dX1_hottest_45 : decode cX1_hottest 45 = .ok (.iload_n 1, 1) := by decide +kernel
theorem dX1_hottest_46 : decode cX1_hottest 46 = .ok (.ireturn, 1) := by decide +kernel
abbrev cX1_totalWith : ByteArray := prog_3_method_9_code
def yX1_totalWith : MethodName := ⟨RX1, "totalWith", "(I)I"⟩
theorem dX1_totalWith_0 : decode cX1_totalWith 0 = .ok (.iconst 0, 1) := by decide +kernel
theorem dX1_totalWith_1 : decode cX1_totalWith 1 = .ok (.istore_n 2, 1) := by decide +kernel
theorem dX1_totalWith_2 : decode cX1_totalWith 2 = .ok (.iconst 0, 1) := by decide +kernel
theorem dX1_totalWith_3 : decode cX1_totalWith 3 = .ok (.istore_n 3, 1) := by decide +kernel
theorem dX1_totalWith_4 : decode cX1_totalWith 4 = .ok (.iload_n 3, 1) := by decide +kernel
theorem dX1_totalWith_5 : decode cX1_totalWith 5 = .ok (.aload_n 0, 1) := by decide +kernel
theorem dX1_totalWith_6 : decode cX1_totalWith 6 = .ok (.getfield 30, 3) := by decide +kernel
theorem dX1_totalWith_9 : decode cX1_totalWith 9 = .ok (.if_icmp .ge 57, 3) := by decide +kernel
theorem dX1_totalWith_12 : decode cX1_totalWith 12 = .ok (.aload_n 0, 1) := by decide +kernel
theorem dX1_totalWith_13 : decode cX1_totalWith 13 = .ok (.iload_n 3, 1) := by decide +kernel
theorem dX1_totalWith_14 : decode cX1_totalWith 14 = .ok (.invokevirtual 33, 3) := by decide +kernel
theorem dX1_totalWith_17 : decode cX1_totalWith 17 = .ok (.ifCond .eq 43, 3) := by decide +kernel
theorem dX1_totalWith_20 : decode cX1_totalWith 20 = .ok (.aload_n 0, 1) := by decide +kernel
theorem dX1_totalWith_21 : decode cX1_totalWith 21 = .ok (.getfield 16, 3) := by decide +kernel
theorem dX1_totalWith_24 : decode cX1_totalWith 24 = .ok (.iload_n 3, 1) := by decide +kernel
theorem dX1_totalWith_25 : decode cX1_totalWith 25 = .ok (.iaload, 1) := by decide +kernel
theorem dX1_totalWith_26 : decode cX1_totalWith 26 = .ok (.aload_n 0, 1) := by decide +kernel
theorem dX1_totalWith_27 : decode cX1_totalWith 27 = .ok (.getfield 26, 3) := by decide +kernel
theorem dX1_totalWith_30 : decode cX1_totalWith 30 = .ok (.if_icmp .le 30, 3) := by decide +kernel
theorem dX1_totalWith_33 : decode cX1_totalWith 33 = .ok (.aload_n 0, 1) := by decide +kernel
theorem dX1_totalWith_34 : decode cX1_totalWith 34 = .ok (.getfield 13, 3) := by decide +kernel
theorem dX1_totalWith_37 : decode cX1_totalWith 37 = .ok (.bipush 8, 2) := by decide +kernel
theorem dX1_totalWith_39 : decode cX1_totalWith 39 = .ok (.iload_n 3, 1) := by decide +kernel
theorem dX1_totalWith_40 : decode cX1_totalWith 40 = .ok (.imul, 1) := by decide +kernel
theorem dX1_totalWith_41 : decode cX1_totalWith 41 = .ok (.aload_n 0, 1) := by decide +kernel
theorem dX1_totalWith_42 : decode cX1_totalWith 42 = .ok (.getfield 26, 3) := by decide +kernel
theorem dX1_totalWith_45 : decode cX1_totalWith 45 = .ok (.iadd, 1) := by decide +kernel
theorem dX1_totalWith_46 : decode cX1_totalWith 46 = .ok (.iaload, 1) := by decide +kernel
theorem dX1_totalWith_47 : decode cX1_totalWith 47 = .ok (.iload_n 1, 1) := by decide +kernel
theorem dX1_totalWith_48 : decode cX1_totalWith 48 = .ok (.if_icmp .ne 12, 3) := by decide +kernel
theorem dX1_totalWith_51 : decode cX1_totalWith 51 = .ok (.iload_n 2, 1) := by decide +kernel
theorem dX1_totalWith_52 : decode cX1_totalWith 52 = .ok (.aload_n 0, 1) := by decide +kernel
theorem dX1_totalWith_53 : decode cX1_totalWith 53 = .ok (.getfield 19, 3) := by decide +kernel
theorem dX1_totalWith_56 : decode cX1_totalWith 56 = .ok (.iload_n 3, 1) := by decide +kernel
theorem dX1_totalWith_57 : decode cX1_totalWith 57 = .ok (.iaload, 1) := by decide +kernel
theorem dX1_totalWith_58 : decode cX1_totalWith 58 = .ok (.iadd, 1) := by decide +kernel
theorem dX1_totalWith_59 : decode cX1_totalWith 59 = .ok (.istore_n 2, 1) := by decide +kernel
theorem dX1_totalWith_60 : decode cX1_totalWith 60 = .ok (.iinc 3 1, 3) := by decide +kernel
theorem dX1_totalWith_63 : decode cX1_totalWith 63 = .ok (.goto (-59), 3) := by decide +kernel
theorem dX1_totalWith_66 : decode cX1_totalWith 66 = .ok (.iload_n 2, 1) := by decide +kernel
theorem dX1_totalWith_67 : decode cX1_totalWith 67 = .ok (.ireturn, 1) := by decide +kernel
abbrev cX1_inclusive : ByteArray := prog_3_method_13_code
def yX1_inclusive : MethodName := ⟨RX1, "inclusive", "(I)I"⟩
theorem dX1_inclusive_0 : decode cX1_inclusive 0 = .ok (.iload_n 1, 1) := by decide +kernel
theorem dX1_inclusive_1 : decode cX1_inclusive 1 = .ok (.invokestatic 22, 3) := by decide +kernel
theorem dX1_inclusive_4 : decode cX1_inclusive 4 = .ok (.ifCond .eq 7, 3) := by decide +kernel
theorem dX1_inclusive_7 : decode cX1_inclusive 7 = .ok (.iconst (-1), 1) := by decide +kernel
theorem dX1_inclusive_8 : decode cX1_inclusive 8 = .ok (.goto 9, 3) := by decide +kernel
theorem dX1_inclusive_11 : decode cX1_inclusive 11 = .ok (.aload_n 0, 1) := by decide +kernel
theorem dX1_inclusive_12 : decode cX1_inclusive 12 = .ok (.iconst (-1), 1) := by decide +kernel
theorem dX1_inclusive_13 : decode cX1_inclusive 13 = .ok (.iload_n 1, 1) := by decide +kernel
theorem dX1_inclusive_14 : decode cX1_inclusive 14 = .ok (.invokevirtual 44, 3) := by decide +kernel
theorem dX1_inclusive_17 : decode cX1_inclusive 17 = .ok (.ireturn, 1) := by decide +kernel
abbrev cX1_standing : ByteArray := prog_3_method_12_code
def yX1_standing : MethodName := ⟨RX1, "standing", "(II)I"⟩
theorem dX1_standing_0 : decode cX1_standing 0 = .ok (.iconst 0, 1) := by decide +kernel
theorem dX1_standing_1 : decode cX1_standing 1 = .ok (.istore_n 3, 1) := by decide +kernel
theorem dX1_standing_2 : decode cX1_standing 2 = .ok (.iconst 0, 1) := by decide +kernel
theorem dX1_standing_3 : decode cX1_standing 3 = .ok (.istore 4, 2) := by decide +kernel
theorem dX1_standing_5 : decode cX1_standing 5 = .ok (.iload 4, 2) := by decide +kernel
theorem dX1_standing_7 : decode cX1_standing 7 = .ok (.aload_n 0, 1) := by decide +kernel
theorem dX1_standing_8 : decode cX1_standing 8 = .ok (.getfield 30, 3) := by decide +kernel
theorem dX1_standing_11 : decode cX1_standing 11 = .ok (.if_icmp .ge 30, 3) := by decide +kernel
theorem dX1_standing_14 : decode cX1_standing 14 = .ok (.aload_n 0, 1) := by decide +kernel
theorem dX1_standing_15 : decode cX1_standing 15 = .ok (.iload 4, 2) := by decide +kernel
theorem dX1_standing_17 : decode cX1_standing 17 = .ok (.iload_n 1, 1) := by decide +kernel
theorem dX1_standing_18 : decode cX1_standing 18 = .ok (.iload_n 2, 1) := by decide +kernel
theorem dX1_standing_19 : decode cX1_standing 19 = .ok (.invokevirtual 40, 3) := by decide +kernel
theorem dX1_standing_22 : decode cX1_standing 22 = .ok (.ifCond .eq 13, 3) := by decide +kernel
theorem dX1_standing_25 : decode cX1_standing 25 = .ok (.iload_n 3, 1) := by decide +kernel
theorem dX1_standing_26 : decode cX1_standing 26 = .ok (.aload_n 0, 1) := by decide +kernel
theorem dX1_standing_27 : decode cX1_standing 27 = .ok (.getfield 19, 3) := by decide +kernel
theorem dX1_standing_30 : decode cX1_standing 30 = .ok (.iload 4, 2) := by decide +kernel
theorem dX1_standing_32 : decode cX1_standing 32 = .ok (.iaload, 1) := by decide +kernel
theorem dX1_standing_33 : decode cX1_standing 33 = .ok (.iadd, 1) := by decide +kernel
theorem dX1_standing_34 : decode cX1_standing 34 = .ok (.istore_n 3, 1) := by decide +kernel
theorem dX1_standing_35 : decode cX1_standing 35 = .ok (.iinc 4 1, 3) := by decide +kernel
theorem dX1_standing_38 : decode cX1_standing 38 = .ok (.goto (-33), 3) := by decide +kernel
theorem dX1_standing_41 : decode cX1_standing 41 = .ok (.iload_n 3, 1) := by decide +kernel
theorem dX1_standing_42 : decode cX1_standing 42 = .ok (.ireturn, 1) := by decide +kernel
abbrev cX1_stands : ByteArray := prog_3_method_11_code
def yX1_stands : MethodName := ⟨RX1, "stands", "(III)Z"⟩
theorem dX1_stands_0 : decode cX1_stands 0 = .ok (.iconst 0, 1) := by decide +kernel
theorem dX1_stands_1 : decode cX1_stands 1 = .ok (.istore 4, 2) := by decide +kernel
theorem dX1_stands_3 : decode cX1_stands 3 = .ok (.iload 4, 2) := by decide +kernel
theorem dX1_stands_5 : decode cX1_stands 5 = .ok (.aload_n 0, 1) := by decide +kernel
theorem dX1_stands_6 : decode cX1_stands 6 = .ok (.getfield 16, 3) := by decide +kernel
theorem dX1_stands_9 : decode cX1_stands 9 = .ok (.iload_n 1, 1) := by decide +kernel
theorem dX1_stands_10 : decode cX1_stands 10 = .ok (.iaload, 1) := by decide +kernel
theorem dX1_stands_11 : decode cX1_stands 11 = .ok (.if_icmp .ge 66, 3) := by decide +kernel
theorem dX1_stands_14 : decode cX1_stands 14 = .ok (.iload_n 2, 1) := by decide +kernel
theorem dX1_stands_15 : decode cX1_stands 15 = .ok (.ifCond .lt 26, 3) := by decide +kernel
theorem dX1_stands_18 : decode cX1_stands 18 = .ok (.iload 4, 2) := by decide +kernel
theorem dX1_stands_20 : decode cX1_stands 20 = .ok (.ifCond .le 25, 3) := by decide +kernel
theorem dX1_stands_23 : decode cX1_stands 23 = .ok (.aload_n 0, 1) := by decide +kernel
theorem dX1_stands_24 : decode cX1_stands 24 = .ok (.getfield 13, 3) := by decide +kernel
theorem dX1_stands_27 : decode cX1_stands 27 = .ok (.bipush 8, 2) := by decide +kernel
theorem dX1_stands_29 : decode cX1_stands 29 = .ok (.iload_n 1, 1) := by decide +kernel
theorem dX1_stands_30 : decode cX1_stands 30 = .ok (.imul, 1) := by decide +kernel
theorem dX1_stands_31 : decode cX1_stands 31 = .ok (.iload 4, 2) := by decide +kernel
theorem dX1_stands_33 : decode cX1_stands 33 = .ok (.iadd, 1) := by decide +kernel
theorem dX1_stands_34 : decode cX1_stands 34 = .ok (.iconst 1, 1) := by decide +kernel
theorem dX1_stands_35 : decode cX1_stands 35 = .ok (.isub, 1) := by decide +kernel
theorem dX1_stands_36 : decode cX1_stands 36 = .ok (.iaload, 1) := by decide +kernel
theorem dX1_stands_37 : decode cX1_stands 37 = .ok (.iload_n 2, 1) := by decide +kernel
theorem dX1_stands_38 : decode cX1_stands 38 = .ok (.if_icmp .ne 7, 3) := by decide +kernel
theorem dX1_stands_41 : decode cX1_stands 41 = .ok (.iconst 1, 1) := by decide +kernel
theorem dX1_stands_42 : decode cX1_stands 42 = .ok (.goto 4, 3) := by decide +kernel
theorem dX1_stands_45 : decode cX1_stands 45 = .ok (.iconst 0, 1) := by decide +kernel
theorem dX1_stands_46 : decode cX1_stands 46 = .ok (.istore 5, 2) := by decide +kernel
theorem dX1_stands_48 : decode cX1_stands 48 = .ok (.aload_n 0, 1) := by decide +kernel
theorem dX1_stands_49 : decode cX1_stands 49 = .ok (.getfield 13, 3) := by decide +kernel
theorem dX1_stands_52 : decode cX1_stands 52 = .ok (.bipush 8, 2) := by decide +kernel
theorem dX1_stands_54 : decode cX1_stands 54 = .ok (.iload_n 1, 1) := by decide +kernel
theorem dX1_stands_55 : decode cX1_stands 55 = .ok (.imul, 1) := by decide +kernel
theorem dX1_stands_56 : decode cX1_stands 56 = .ok (.iload 4, 2) := by decide +kernel
theorem dX1_stands_58 : decode cX1_stands 58 = .ok (.iadd, 1) := by decide +kernel
theorem dX1_stands_59 : decode cX1_stands 59 = .ok (.iaload, 1) := by decide +kernel
theorem dX1_stands_60 : decode cX1_stands 60 = .ok (.iload_n 3, 1) := by decide +kernel
theorem dX1_stands_61 : decode cX1_stands 61 = .ok (.if_icmp .ne 10, 3) := by decide +kernel
theorem dX1_stands_64 : decode cX1_stands 64 = .ok (.iload 5, 2) := by decide +kernel
theorem dX1_stands_66 : decode cX1_stands 66 = .ok (.ifCond .eq 5, 3) := by decide +kernel
theorem dX1_stands_69 : decode cX1_stands 69 = .ok (.iconst 1, 1) := by decide +kernel
theorem dX1_stands_70 : decode cX1_stands 70 = .ok (.ireturn, 1) := by decide +kernel
theorem dX1_stands_71 : decode cX1_stands 71 = .ok (.iinc 4 1, 3) := by decide +kernel
theorem dX1_stands_74 : decode cX1_stands 74 = .ok (.goto (-71), 3) := by decide +kernel
theorem dX1_stands_77 : decode cX1_stands 77 = .ok (.iconst 0, 1) := by decide +kernel
theorem dX1_stands_78 : decode cX1_stands 78 = .ok (.ireturn, 1) := by decide +kernel
abbrev cX1_exclusive : ByteArray := prog_3_method_14_code
def yX1_exclusive : MethodName := ⟨RX1, "exclusive", "(I)I"⟩
theorem dX1_exclusive_0 : decode cX1_exclusive 0 = .ok (.iload_n 1, 1) := by decide +kernel
theorem dX1_exclusive_1 : decode cX1_exclusive 1 = .ok (.invokestatic 22, 3) := by decide +kernel
theorem dX1_exclusive_4 : decode cX1_exclusive 4 = .ok (.ifCond .eq 5, 3) := by decide +kernel
theorem dX1_exclusive_7 : decode cX1_exclusive 7 = .ok (.iconst (-1), 1) := by decide +kernel
theorem dX1_exclusive_8 : decode cX1_exclusive 8 = .ok (.ireturn, 1) := by decide +kernel
theorem dX1_exclusive_9 : decode cX1_exclusive 9 = .ok (.iconst 0, 1) := by decide +kernel
theorem dX1_exclusive_10 : decode cX1_exclusive 10 = .ok (.istore_n 2, 1) := by decide +kernel
theorem dX1_exclusive_11 : decode cX1_exclusive 11 = .ok (.iconst 0, 1) := by decide +kernel
theorem dX1_exclusive_12 : decode cX1_exclusive 12 = .ok (.istore_n 3, 1) := by decide +kernel
theorem dX1_exclusive_13 : decode cX1_exclusive 13 = .ok (.iload_n 3, 1) := by decide +kernel
theorem dX1_exclusive_14 : decode cX1_exclusive 14 = .ok (.aload_n 0, 1) := by decide +kernel
theorem dX1_exclusive_15 : decode cX1_exclusive 15 = .ok (.getfield 30, 3) := by decide +kernel
theorem dX1_exclusive_18 : decode cX1_exclusive 18 = .ok (.if_icmp .ge 49, 3) := by decide +kernel
theorem dX1_exclusive_21 : decode cX1_exclusive 21 = .ok (.aload_n 0, 1) := by decide +kernel
theorem dX1_exclusive_22 : decode cX1_exclusive 22 = .ok (.getfield 16, 3) := by decide +kernel
theorem dX1_exclusive_25 : decode cX1_exclusive 25 = .ok (.iload_n 3, 1) := by decide +kernel
theorem dX1_exclusive_26 : decode cX1_exclusive 26 = .ok (.iaload, 1) := by decide +kernel
theorem dX1_exclusive_27 : decode cX1_exclusive 27 = .ok (.ifCond .le 34, 3) := by decide +kernel
theorem dX1_exclusive_30 : decode cX1_exclusive 30 = .ok (.aload_n 0, 1) := by decide +kernel
theorem dX1_exclusive_31 : decode cX1_exclusive 31 = .ok (.getfield 13, 3) := by decide +kernel
theorem dX1_exclusive_34 : decode cX1_exclusive 34 = .ok (.bipush 8, 2) := by decide +kernel
theorem dX1_exclusive_36 : decode cX1_exclusive 36 = .ok (.iload_n 3, 1) := by decide +kernel
theorem dX1_exclusive_37 : decode cX1_exclusive 37 = .ok (.imul, 1) := by decide +kernel
theorem dX1_exclusive_38 : decode cX1_exclusive 38 = .ok (.aload_n 0, 1) := by decide +kernel
theorem dX1_exclusive_39 : decode cX1_exclusive 39 = .ok (.getfield 16, 3) := by decide +kernel
theorem dX1_exclusive_42 : decode cX1_exclusive 42 = .ok (.iload_n 3, 1) := by decide +kernel
theorem dX1_exclusive_43 : decode cX1_exclusive 43 = .ok (.iaload, 1) := by decide +kernel
theorem dX1_exclusive_44 : decode cX1_exclusive 44 = .ok (.iadd, 1) := by decide +kernel
theorem dX1_exclusive_45 : decode cX1_exclusive 45 = .ok (.iconst 1, 1) := by decide +kernel
theorem dX1_exclusive_46 : decode cX1_exclusive 46 = .ok (.isub, 1) := by decide +kernel
theorem dX1_exclusive_47 : decode cX1_exclusive 47 = .ok (.iaload, 1) := by decide +kernel
theorem dX1_exclusive_48 : decode cX1_exclusive 48 = .ok (.iload_n 1, 1) := by decide +kernel
theorem dX1_exclusive_49 : decode cX1_exclusive 49 = .ok (.if_icmp .ne 12, 3) := by decide +kernel
theorem dX1_exclusive_52 : decode cX1_exclusive 52 = .ok (.iload_n 2, 1) := by decide +kernel
theorem dX1_exclusive_53 : decode cX1_exclusive 53 = .ok (.aload_n 0, 1) := by decide +kernel
theorem dX1_exclusive_54 : decode cX1_exclusive 54 = .ok (.getfield 19, 3) := by decide +kernel
theorem dX1_exclusive_57 : decode cX1_exclusive 57 = .ok (.iload_n 3, 1) := by decide +kernel
theorem dX1_exclusive_58 : decode cX1_exclusive 58 = .ok (.iaload, 1) := by decide +kernel
theorem dX1_exclusive_59 : decode cX1_exclusive 59 = .ok (.iadd, 1) := by decide +kernel
theorem dX1_exclusive_60 : decode cX1_exclusive 60 = .ok (.istore_n 2, 1) := by decide +kernel
theorem dX1_exclusive_61 : decode cX1_exclusive 61 = .ok (.iinc 3 1, 3) := by decide +kernel
theorem dX1_exclusive_64 : decode cX1_exclusive 64 = .ok (.goto (-51), 3) := by decide +kernel
theorem dX1_exclusive_67 : decode cX1_exclusive 67 = .ok (.iload_n 2, 1) := by decide +kernel
theorem dX1_exclusive_68 : decode cX1_exclusive 68 = .ok (.ireturn, 1) := by decide +kernel
abbrev cX1_edge : ByteArray := prog_3_method_15_code
def yX1_edge : MethodName := ⟨RX1, "edge", "(II)I"⟩
theorem dX1_edge_0 : decode cX1_edge 0 = .ok (.iload_n 1, 1) := by decide +kernel
theorem dX1_edge_1 : decode cX1_edge 1 = .ok (.invokestatic 22, 3) := by decide +kernel
theorem dX1_edge_4 : decode cX1_edge 4 = .ok (.ifCond .ne 10, 3) := by decide +kernel
theorem dX1_edge_7 : decode cX1_edge 7 = .ok (.iload_n 2, 1) := by decide +kernel
theorem dX1_edge_8 : decode cX1_edge 8 = .ok (.invokestatic 22, 3) := by decide +kernel
theorem dX1_edge_11 : decode cX1_edge 11 = .ok (.ifCond .eq 7, 3) := by decide +kernel
theorem dX1_edge_14 : decode cX1_edge 14 = .ok (.iconst (-1), 1) := by decide +kernel
theorem dX1_edge_15 : decode cX1_edge 15 = .ok (.goto 9, 3) := by decide +kernel
theorem dX1_edge_18 : decode cX1_edge 18 = .ok (.aload_n 0, 1) := by decide +kernel
theorem dX1_edge_19 : decode cX1_edge 19 = .ok (.iload_n 1, 1) := by decide +kernel
theorem dX1_edge_20 : decode cX1_edge 20 = .ok (.iload_n 2, 1) := by decide +kernel
theorem dX1_edge_21 : decode cX1_edge 21 = .ok (.invokevirtual 44, 3) := by decide +kernel
theorem dX1_edge_24 : decode cX1_edge 24 = .ok (.ireturn, 1) := by decide +kernel
abbrev cX1_paths : ByteArray := prog_3_method_18_code
def yX1_paths : MethodName := ⟨RX1, "paths", "(I)I"⟩
theorem dX1_paths_0 : decode cX1_paths 0 = .ok (.iload_n 1, 1) := by decide +kernel
theorem dX1_paths_1 : decode cX1_paths 1 = .ok (.iconst 1, 1) := by decide +kernel
theorem dX1_paths_2 : decode cX1_paths 2 = .ok (.if_icmp .ge 7, 3) := by decide +kernel
theorem dX1_paths_5 : decode cX1_paths 5 = .ok (.iconst 1, 1) := by decide +kernel
theorem dX1_paths_6 : decode cX1_paths 6 = .ok (.goto 4, 3) := by decide +kernel
theorem dX1_paths_9 : decode cX1_paths 9 = .ok (.iload_n 1, 1) := by decide +kernel
theorem dX1_paths_10 : decode cX1_paths 10 = .ok (.istore_n 2, 1) := by decide +kernel
theorem dX1_paths_11 : decode cX1_paths 11 = .ok (.iconst 0, 1) := by decide +kernel
theorem dX1_paths_12 : decode cX1_paths 12 = .ok (.istore_n 3, 1) := by decide +kernel
theorem dX1_paths_13 : decode cX1_paths 13 = .ok (.iconst 0, 1) := by decide +kernel
theorem dX1_paths_14 : decode cX1_paths 14 = .ok (.istore 4, 2) := by decide +kernel
theorem dX1_paths_16 : decode cX1_paths 16 = .ok (.iload 4, 2) := by decide +kernel
theorem dX1_paths_18 : decode cX1_paths 18 = .ok (.aload_n 0, 1) := by decide +kernel
theorem dX1_paths_19 : decode cX1_paths 19 = .ok (.getfield 30, 3) := by decide +kernel
theorem dX1_paths_22 : decode cX1_paths 22 = .ok (.if_icmp .ge 45, 3) := by decide +kernel
theorem dX1_paths_25 : decode cX1_paths 25 = .ok (.iconst 1, 1) := by decide +kernel
theorem dX1_paths_26 : decode cX1_paths 26 = .ok (.istore 5, 2) := by decide +kernel
theorem dX1_paths_28 : decode cX1_paths 28 = .ok (.iload 5, 2) := by decide +kernel
theorem dX1_paths_30 : decode cX1_paths 30 = .ok (.aload_n 0, 1) := by decide +kernel
theorem dX1_paths_31 : decode cX1_paths 31 = .ok (.getfield 16, 3) := by decide +kernel
theorem dX1_paths_34 : decode cX1_paths 34 = .ok (.iload 4, 2) := by decide +kernel
theorem dX1_paths_36 : decode cX1_paths 36 = .ok (.iaload, 1) := by decide +kernel
theorem dX1_paths_37 : decode cX1_paths 37 = .ok (.if_icmp .gt 24, 3) := by decide +kernel
theorem dX1_paths_40 : decode cX1_paths 40 = .ok (.aload_n 0, 1) := by decide +kernel
theorem dX1_paths_41 : decode cX1_paths 41 = .ok (.iload 4, 2) := by decide +kernel
theorem dX1_paths_43 : decode cX1_paths 43 = .ok (.iload 5, 2) := by decide +kernel
theorem dX1_paths_45 : decode cX1_paths 45 = .ok (.invokevirtual 51, 3) := by decide +kernel
theorem dX1_paths_48 : decode cX1_paths 48 = .ok (.iload_n 2, 1) := by decide +kernel
theorem dX1_paths_49 : decode cX1_paths 49 = .ok (.if_icmp .lt 6, 3) := by decide +kernel
theorem dX1_paths_52 : decode cX1_paths 52 = .ok (.iinc 3 1, 3) := by decide +kernel
theorem dX1_paths_55 : decode cX1_paths 55 = .ok (.iinc 5 1, 3) := by decide +kernel
theorem dX1_paths_58 : decode cX1_paths 58 = .ok (.goto (-30), 3) := by decide +kernel
theorem dX1_paths_61 : decode cX1_paths 61 = .ok (.iinc 4 1, 3) := by decide +kernel
theorem dX1_paths_64 : decode cX1_paths 64 = .ok (.goto (-48), 3) := by decide +kernel
theorem dX1_paths_67 : decode cX1_paths 67 = .ok (.iload_n 3, 1) := by decide +kernel
theorem dX1_paths_68 : decode cX1_paths 68 = .ok (.ireturn, 1) := by decide +kernel
abbrev cX1_newTotal : ByteArray := prog_3_method_17_code
def yX1_newTotal : MethodName := ⟨RX1, "newTotal", "(II)I"⟩
theorem dX1_newTotal_0 : decode cX1_newTotal 0 = .ok (.iconst 0, 1) := by decide +kernel
theorem dX1_newTotal_1 : decode cX1_newTotal 1 = .ok (.istore_n 3, 1) := by decide +kernel
theorem dX1_newTotal_2 : decode cX1_newTotal 2 = .ok (.iconst 0, 1) := by decide +kernel
theorem dX1_newTotal_3 : decode cX1_newTotal 3 = .ok (.istore 4, 2) := by decide +kernel
theorem dX1_newTotal_5 : decode cX1_newTotal 5 = .ok (.iload 4, 2) := by decide +kernel
theorem dX1_newTotal_7 : decode cX1_newTotal 7 = .ok (.aload_n 0, 1) := by decide +kernel
theorem dX1_newTotal_8 : decode cX1_newTotal 8 = .ok (.getfield 30, 3) := by decide +kernel
theorem dX1_newTotal_11 : decode cX1_newTotal 11 = .ok (.if_icmp .ge 38, 3) := by decide +kernel
theorem dX1_newTotal_14 : decode cX1_newTotal 14 = .ok (.aload_n 0, 1) := by decide +kernel
theorem dX1_newTotal_15 : decode cX1_newTotal 15 = .ok (.iload_n 1, 1) := by decide +kernel
theorem dX1_newTotal_16 : decode cX1_newTotal 16 = .ok (.iload 4, 2) := by decide +kernel
theorem dX1_newTotal_18 : decode cX1_newTotal 18 = .ok (.iload_n 2, 1) := by decide +kernel
theorem dX1_newTotal_19 : decode cX1_newTotal 19 = .ok (.invokevirtual 48, 3) := by decide +kernel
theorem dX1_newTotal_22 : decode cX1_newTotal 22 = .ok (.ifCond .eq 21, 3) := by decide +kernel
theorem dX1_newTotal_25 : decode cX1_newTotal 25 = .ok (.iload 4, 2) := by decide +kernel
theorem dX1_newTotal_27 : decode cX1_newTotal 27 = .ok (.iload_n 1, 1) := by decide +kernel
theorem dX1_newTotal_28 : decode cX1_newTotal 28 = .ok (.if_icmp .ge 5, 3) := by decide +kernel
theorem dX1_newTotal_31 : decode cX1_newTotal 31 = .ok (.iconst 0, 1) := by decide +kernel
theorem dX1_newTotal_32 : decode cX1_newTotal 32 = .ok (.ireturn, 1) := by decide +kernel
theorem dX1_newTotal_33 : decode cX1_newTotal 33 = .ok (.iload_n 3, 1) := by decide +kernel
theorem dX1_newTotal_34 : decode cX1_newTotal 34 = .ok (.aload_n 0, 1) := by decide +kernel
theorem dX1_newTotal_35 : decode cX1_newTotal 35 = .ok (.getfield 19, 3) := by decide +kernel
theorem dX1_newTotal_38 : decode cX1_newTotal 38 = .ok (.iload 4, 2) := by decide +kernel
theorem dX1_newTotal_40 : decode cX1_newTotal 40 = .ok (.iaload, 1) := by decide +kernel
theorem dX1_newTotal_41 : decode cX1_newTotal 41 = .ok (.iadd, 1) := by decide +kernel
theorem dX1_newTotal_42 : decode cX1_newTotal 42 = .ok (.istore_n 3, 1) := by decide +kernel
theorem dX1_newTotal_43 : decode cX1_newTotal 43 = .ok (.iinc 4 1, 3) := by decide +kernel
theorem dX1_newTotal_46 : decode cX1_newTotal 46 = .ok (.goto (-41), 3) := by decide +kernel
theorem dX1_newTotal_49 : decode cX1_newTotal 49 = .ok (.iload_n 3, 1) := by decide +kernel
theorem dX1_newTotal_50 : decode cX1_newTotal 50 = .ok (.ireturn, 1) := by decide +kernel
abbrev cX1_share : ByteArray := prog_3_method_16_code
def yX1_share : MethodName := ⟨RX1, "share", "(III)Z"⟩
theorem dX1_share_0 : decode cX1_share 0 = .ok (.aload_n 0, 1) := by decide +kernel
theorem dX1_share_1 : decode cX1_share 1 = .ok (.getfield 16, 3) := by decide +kernel
theorem dX1_share_4 : decode cX1_share 4 = .ok (.iload_n 1, 1) := by decide +kernel
theorem dX1_share_5 : decode cX1_share 5 = .ok (.iaload, 1) := by decide +kernel
theorem dX1_share_6 : decode cX1_share 6 = .ok (.iload_n 3, 1) := by decide +kernel
theorem dX1_share_7 : decode cX1_share 7 = .ok (.if_icmp .lt 13, 3) := by decide +kernel
theorem dX1_share_10 : decode cX1_share 10 = .ok (.aload_n 0, 1) := by decide +kernel
theorem dX1_share_11 : decode cX1_share 11 = .ok (.getfield 16, 3) := by decide +kernel
theorem dX1_share_14 : decode cX1_share 14 = .ok (.iload_n 2, 1) := by decide +kernel
theorem dX1_share_15 : decode cX1_share 15 = .ok (.iaload, 1) := by decide +kernel
theorem dX1_share_16 : decode cX1_share 16 = .ok (.iload_n 3, 1) := by decide +kernel
theorem dX1_share_17 : decode cX1_share 17 = .ok (.if_icmp .ge 5, 3) := by decide +kernel
theorem dX1_share_20 : decode cX1_share 20 = .ok (.iconst 0, 1) := by decide +kernel
theorem dX1_share_21 : decode cX1_share 21 = .ok (.ireturn, 1) := by decide +kernel
theorem dX1_share_22 : decode cX1_share 22 = .ok (.iconst 0, 1) := by decide +kernel
theorem dX1_share_23 : decode cX1_share 23 = .ok (.istore 4, 2) := by decide +kernel
theorem dX1_share_25 : decode cX1_share 25 = .ok (.iload 4, 2) := by decide +kernel
theorem dX1_share_27 : decode cX1_share 27 = .ok (.iload_n 3, 1) := by decide +kernel
theorem dX1_share_28 : decode cX1_share 28 = .ok (.if_icmp .ge 38, 3) := by decide +kernel
theorem dX1_share_31 : decode cX1_share 31 = .ok (.aload_n 0, 1) := by decide +kernel
theorem dX1_share_32 : decode cX1_share 32 = .ok (.getfield 13, 3) := by decide +kernel
theorem dX1_share_35 : decode cX1_share 35 = .ok (.bipush 8, 2) := by decide +kernel
theorem dX1_share_37 : decode cX1_share 37 = .ok (.iload_n 1, 1) := by decide +kernel
theorem dX1_share_38 : decode cX1_share 38 = .ok (.imul, 1) := by decide +kernel
theorem dX1_share_39 : decode cX1_share 39 = .ok (.iload 4, 2) := by decide +kernel
theorem dX1_share_41 : decode cX1_share 41 = .ok (.iadd, 1) := by decide +kernel
theorem dX1_share_42 : decode cX1_share 42 = .ok (.iaload, 1) := by decide +kernel
theorem dX1_share_43 : decode cX1_share 43 = .ok (.aload_n 0, 1) := by decide +kernel
theorem dX1_share_44 : decode cX1_share 44 = .ok (.getfield 13, 3) := by decide +kernel
theorem dX1_share_47 : decode cX1_share 47 = .ok (.bipush 8, 2) := by decide +kernel
theorem dX1_share_49 : decode cX1_share 49 = .ok (.iload_n 2, 1) := by decide +kernel
theorem dX1_share_50 : decode cX1_share 50 = .ok (.imul, 1) := by decide +kernel
theorem dX1_share_51 : decode cX1_share 51 = .ok (.iload 4, 2) := by decide +kernel
theorem dX1_share_53 : decode cX1_share 53 = .ok (.iadd, 1) := by decide +kernel
theorem dX1_share_54 : decode cX1_share 54 = .ok (.iaload, 1) := by decide +kernel
theorem dX1_share_55 : decode cX1_share 55 = .ok (.if_icmp .eq 5, 3) := by decide +kernel
theorem dX1_share_58 : decode cX1_share 58 = .ok (.iconst 0, 1) := by decide +kernel
theorem dX1_share_59 : decode cX1_share 59 = .ok (.ireturn, 1) := by decide +kernel
theorem dX1_share_60 : decode cX1_share 60 = .ok (.iinc 4 1, 3) := by decide +kernel
theorem dX1_share_63 : decode cX1_share 63 = .ok (.goto (-38), 3) := by decide +kernel
theorem dX1_share_66 : decode cX1_share 66 = .ok (.iconst 1, 1) := by decide +kernel
theorem dX1_share_67 : decode cX1_share 67 = .ok (.ireturn, 1) := by decide +kernel
abbrev cX1_deepest : ByteArray := prog_3_method_19_code
def yX1_deepest : MethodName := ⟨RX1, "deepest", "(I)I"⟩
theorem dX1_deepest_0 : decode cX1_deepest 0 = .ok (.iload_n 1, 1) := by decide +kernel
theorem dX1_deepest_1 : decode cX1_deepest 1 = .ok (.iconst 1, 1) := by decide +kernel
theorem dX1_deepest_2 : decode cX1_deepest 2 = .ok (.if_icmp .ge 7, 3) := by decide +kernel
theorem dX1_deepest_5 : decode cX1_deepest 5 = .ok (.iconst 1, 1) := by decide +kernel
theorem dX1_deepest_6 : decode cX1_deepest 6 = .ok (.goto 4, 3) := by decide +kernel
theorem dX1_deepest_9 : decode cX1_deepest 9 = .ok (.iload_n 1, 1) := by decide +kernel
theorem dX1_deepest_10 : decode cX1_deepest 10 = .ok (.istore_n 2, 1) := by decide +kernel
theorem dX1_deepest_11 : decode cX1_deepest 11 = .ok (.iconst 0, 1) := by decide +kernel
theorem dX1_deepest_12 : decode cX1_deepest 12 = .ok (.istore_n 3, 1) := by decide +kernel
theorem dX1_deepest_13 : decode cX1_deepest 13 = .ok (.iconst 0, 1) := by decide +kernel
theorem dX1_deepest_14 : decode cX1_deepest 14 = .ok (.istore 4, 2) := by decide +kernel
theorem dX1_deepest_16 : decode cX1_deepest 16 = .ok (.iload 4, 2) := by decide +kernel
theorem dX1_deepest_18 : decode cX1_deepest 18 = .ok (.aload_n 0, 1) := by decide +kernel
theorem dX1_deepest_19 : decode cX1_deepest 19 = .ok (.getfield 30, 3) := by decide +kernel
theorem dX1_deepest_22 : decode cX1_deepest 22 = .ok (.if_icmp .ge 51, 3) := by decide +kernel
theorem dX1_deepest_25 : decode cX1_deepest 25 = .ok (.iconst 1, 1) := by decide +kernel
theorem dX1_deepest_26 : decode cX1_deepest 26 = .ok (.istore 5, 2) := by decide +kernel
theorem dX1_deepest_28 : decode cX1_deepest 28 = .ok (.iload 5, 2) := by decide +kernel
theorem dX1_deepest_30 : decode cX1_deepest 30 = .ok (.aload_n 0, 1) := by decide +kernel
theorem dX1_deepest_31 : decode cX1_deepest 31 = .ok (.getfield 16, 3) := by decide +kernel
theorem dX1_deepest_34 : decode cX1_deepest 34 = .ok (.iload 4, 2) := by decide +kernel
theorem dX1_deepest_36 : decode cX1_deepest 36 = .ok (.iaload, 1) := by decide +kernel
theorem dX1_deepest_37 : decode cX1_deepest 37 = .ok (.if_icmp .gt 30, 3) := by decide +kernel
theorem dX1_deepest_40 : decode cX1_deepest 40 = .ok (.aload_n 0, 1) := by decide +kernel
theorem dX1_deepest_41 : decode cX1_deepest 41 = .ok (.iload 4, 2) := by decide +kernel
theorem dX1_deepest_43 : decode cX1_deepest 43 = .ok (.iload 5, 2) := by decide +kernel
theorem dX1_deepest_45 : decode cX1_deepest 45 = .ok (.invokevirtual 51, 3) := by decide +kernel
theorem dX1_deepest_48 : decode cX1_deepest 48 = .ok (.iload_n 2, 1) := by decide +kernel
theorem dX1_deepest_49 : decode cX1_deepest 49 = .ok (.if_icmp .lt 12, 3) := by decide +kernel
theorem dX1_deepest_52 : decode cX1_deepest 52 = .ok (.iload 5, 2) := by decide +kernel
theorem dX1_deepest_54 : decode cX1_deepest 54 = .ok (.iload_n 3, 1) := by decide +kernel
theorem dX1_deepest_55 : decode cX1_deepest 55 = .ok (.if_icmp .le 6, 3) := by decide +kernel
theorem dX1_deepest_58 : decode cX1_deepest 58 = .ok (.iload 5, 2) := by decide +kernel
theorem dX1_deepest_60 : decode cX1_deepest 60 = .ok (.istore_n 3, 1) := by decide +kernel
theorem dX1_deepest_61 : decode cX1_deepest 61 = .ok (.iinc 5 1, 3) := by decide +kernel
theorem dX1_deepest_64 : decode cX1_deepest 64 = .ok (.goto (-36), 3) := by decide +kernel
theorem dX1_deepest_67 : decode cX1_deepest 67 = .ok (.iinc 4 1, 3) := by decide +kernel
theorem dX1_deepest_70 : decode cX1_deepest 70 = .ok (.goto (-54), 3) := by decide +kernel
theorem dX1_deepest_73 : decode cX1_deepest 73 = .ok (.iload_n 3, 1) := by decide +kernel
theorem dX1_deepest_74 : decode cX1_deepest 74 = .ok (.ireturn, 1) := by decide +kernel
theorem q13 : (Jvm.Cond.initialized "FlameTreeModel") ∈ lw_all := lw_g (lw_at lw_m0 2 rfl) rfl
theorem q122 : (Jvm.Cond.instantiable "FlameTreeModel" (6 : Nat)) ∈ lw_all := lw_g (lw_at lw_m0 111 rfl) rfl
theorem q124 : (Jvm.Cond.instanceMethod ({ cls := "FlameTreeModel", name := "<init>", desc := "()V" } : Jvm.MethodName)) ∈ lw_all := lw_g (lw_at lw_m0 113 rfl) rfl
theorem q125 : (Jvm.Cond.code ({ cls := "FlameTreeModel", name := "<init>", desc := "()V" } : Jvm.MethodName) prog_3_method_1_code (1 : Nat) (Option.none : Option Jvm.ClassFile.FieldType)) ∈ lw_all := lw_g (lw_at lw_m0 114 rfl) rfl
theorem q126 : (Jvm.Cond.methodLink "FlameTreeModel" (1 : Nat) ({ cls := "java/lang/Object", name := "<init>", desc := "()V" } : Jvm.MethodName)) ∈ lw_all := lw_g (lw_at lw_m0 115 rfl) rfl
theorem q127 : (Jvm.Cond.fieldLink "FlameTreeModel" (26 : Nat) "FlameTreeModel" "depth" "I") ∈ lw_all := lw_g (lw_at lw_m0 116 rfl) rfl
theorem q128 : (Jvm.Cond.fieldLink "FlameTreeModel" (7 : Nat) "FlameTreeModel" "stack" "[I") ∈ lw_all := lw_g (lw_at lw_m0 117 rfl) rfl
theorem q129 : (Jvm.Cond.fieldLink "FlameTreeModel" (30 : Nat) "FlameTreeModel" "samples" "I") ∈ lw_all := lw_g (lw_at lw_m0 118 rfl) rfl
theorem q130 : (Jvm.Cond.fieldLink "FlameTreeModel" (13 : Nat) "FlameTreeModel" "copies" "[I") ∈ lw_all := lw_g (lw_at lw_m0 119 rfl) rfl
theorem q131 : (Jvm.Cond.fieldLink "FlameTreeModel" (16 : Nat) "FlameTreeModel" "lengths" "[I") ∈ lw_all := lw_g (lw_at lw_m0 120 rfl) rfl
theorem q132 : (Jvm.Cond.fieldLink "FlameTreeModel" (19 : Nat) "FlameTreeModel" "weights" "[I") ∈ lw_all := lw_g (lw_at lw_m0 121 rfl) rfl
theorem q133 : (Jvm.Cond.lays "FlameTreeModel" "FlameTreeModel" "depth" "I") ∈ lw_all := lw_g (lw_at lw_m0 122 rfl) rfl
theorem q134 : (Jvm.Cond.soleField "FlameTreeModel" "depth") ∈ lw_all := lw_g (lw_at lw_m0 123 rfl) rfl
theorem q135 : (Jvm.Cond.laysFinal "FlameTreeModel" "FlameTreeModel" "stack" "[I") ∈ lw_all := lw_g (lw_at lw_m0 124 rfl) rfl
theorem q136 : (Jvm.Cond.soleField "FlameTreeModel" "stack") ∈ lw_all := lw_g (lw_at lw_m0 125 rfl) rfl
theorem q137 : (Jvm.Cond.lays "FlameTreeModel" "FlameTreeModel" "samples" "I") ∈ lw_all := lw_g (lw_at lw_m0 126 rfl) rfl
theorem q138 : (Jvm.Cond.soleField "FlameTreeModel" "samples") ∈ lw_all := lw_g (lw_at lw_m0 127 rfl) rfl
theorem q139 : (Jvm.Cond.laysFinal "FlameTreeModel" "FlameTreeModel" "copies" "[I") ∈ lw_all := lw_g (lw_at lw_m0 128 rfl) rfl
theorem q140 : (Jvm.Cond.soleField "FlameTreeModel" "copies") ∈ lw_all := lw_g (lw_at lw_m0 129 rfl) rfl
theorem q141 : (Jvm.Cond.laysFinal "FlameTreeModel" "FlameTreeModel" "lengths" "[I") ∈ lw_all := lw_g (lw_at lw_m0 130 rfl) rfl
theorem q142 : (Jvm.Cond.soleField "FlameTreeModel" "lengths") ∈ lw_all := lw_g (lw_at lw_m0 131 rfl) rfl
theorem q143 : (Jvm.Cond.laysFinal "FlameTreeModel" "FlameTreeModel" "weights" "[I") ∈ lw_all := lw_g (lw_at lw_m0 132 rfl) rfl
theorem q144 : (Jvm.Cond.soleField "FlameTreeModel" "weights") ∈ lw_all := lw_g (lw_at lw_m0 133 rfl) rfl
theorem q145 : (Jvm.Cond.superclass "FlameTreeModel" "java/lang/Object") ∈ lw_all := lw_g (lw_at lw_m0 134 rfl) rfl
theorem q147 : (Jvm.Cond.instanceMethod ({ cls := "FlameTreeModel", name := "call", desc := "(I)I" } : Jvm.MethodName)) ∈ lw_all := lw_g (lw_at lw_m0 136 rfl) rfl
theorem q148 : (Jvm.Cond.selects "FlameTreeModel" ({ cls := "FlameTreeModel", name := "call", desc := "(I)I" } : Jvm.MethodName) ({ cls := "FlameTreeModel", name := "call", desc := "(I)I" } : Jvm.MethodName)) ∈ lw_all := lw_g (lw_at lw_m0 137 rfl) rfl
theorem q149 : (Jvm.Cond.code ({ cls := "FlameTreeModel", name := "call", desc := "(I)I" } : Jvm.MethodName) prog_3_method_3_code (2 : Nat) (Option.some Jvm.ClassFile.FieldType.int)) ∈ lw_all := lw_g (lw_at lw_m0 138 rfl) rfl
theorem q150 : (Jvm.Cond.methodLink "FlameTreeModel" (22 : Nat) ({ cls := "FlameTreeModel", name := "bad", desc := "(I)Z" } : Jvm.MethodName)) ∈ lw_all := lw_g (lw_at lw_m0 139 rfl) rfl
theorem q151 : (Jvm.Cond.static ({ cls := "FlameTreeModel", name := "bad", desc := "(I)Z" } : Jvm.MethodName)) ∈ lw_all := lw_g (lw_at lw_m0 140 rfl) rfl
theorem q152 : (Jvm.Cond.code ({ cls := "FlameTreeModel", name := "bad", desc := "(I)Z" } : Jvm.MethodName) prog_3_method_2_code (1 : Nat) (Option.some Jvm.ClassFile.FieldType.boolean)) ∈ lw_all := lw_g (lw_at lw_m0 141 rfl) rfl
theorem q154 : (Jvm.Cond.instanceMethod ({ cls := "FlameTreeModel", name := "leave", desc := "()I" } : Jvm.MethodName)) ∈ lw_all := lw_g (lw_at lw_m0 143 rfl) rfl
theorem q155 : (Jvm.Cond.selects "FlameTreeModel" ({ cls := "FlameTreeModel", name := "leave", desc := "()I" } : Jvm.MethodName) ({ cls := "FlameTreeModel", name := "leave", desc := "()I" } : Jvm.MethodName)) ∈ lw_all := lw_g (lw_at lw_m0 144 rfl) rfl
theorem q156 : (Jvm.Cond.code ({ cls := "FlameTreeModel", name := "leave", desc := "()I" } : Jvm.MethodName) prog_3_method_4_code (1 : Nat) (Option.some Jvm.ClassFile.FieldType.int)) ∈ lw_all := lw_g (lw_at lw_m0 145 rfl) rfl
theorem q158 : (Jvm.Cond.instanceMethod ({ cls := "FlameTreeModel", name := "sample", desc := "(I)I" } : Jvm.MethodName)) ∈ lw_all := lw_g (lw_at lw_m0 147 rfl) rfl
theorem q159 : (Jvm.Cond.selects "FlameTreeModel" ({ cls := "FlameTreeModel", name := "sample", desc := "(I)I" } : Jvm.MethodName) ({ cls := "FlameTreeModel", name := "sample", desc := "(I)I" } : Jvm.MethodName)) ∈ lw_all := lw_g (lw_at lw_m0 148 rfl) rfl
theorem q160 : (Jvm.Cond.code ({ cls := "FlameTreeModel", name := "sample", desc := "(I)I" } : Jvm.MethodName) prog_3_method_5_code (3 : Nat) (Option.some Jvm.ClassFile.FieldType.int)) ∈ lw_all := lw_g (lw_at lw_m0 149 rfl) rfl
theorem q162 : (Jvm.Cond.instanceMethod ({ cls := "FlameTreeModel", name := "total", desc := "()I" } : Jvm.MethodName)) ∈ lw_all := lw_g (lw_at lw_m0 151 rfl) rfl
theorem q163 : (Jvm.Cond.selects "FlameTreeModel" ({ cls := "FlameTreeModel", name := "total", desc := "()I" } : Jvm.MethodName) ({ cls := "FlameTreeModel", name := "total", desc := "()I" } : Jvm.MethodName)) ∈ lw_all := lw_g (lw_at lw_m0 152 rfl) rfl
theorem q164 : (Jvm.Cond.code ({ cls := "FlameTreeModel", name := "total", desc := "()I" } : Jvm.MethodName) prog_3_method_7_code (3 : Nat) (Option.some Jvm.ClassFile.FieldType.int)) ∈ lw_all := lw_g (lw_at lw_m0 153 rfl) rfl
theorem q165 : (Jvm.Cond.methodLink "FlameTreeModel" (33 : Nat) ({ cls := "FlameTreeModel", name := "over", desc := "(I)Z" } : Jvm.MethodName)) ∈ lw_all := lw_g (lw_at lw_m0 154 rfl) rfl
theorem q166 : (Jvm.Cond.privateMethod ({ cls := "FlameTreeModel", name := "over", desc := "(I)Z" } : Jvm.MethodName)) ∈ lw_tbl := lw_at lw_m0 155 rfl
theorem q167 : (Jvm.Cond.instanceMethod ({ cls := "FlameTreeModel", name := "over", desc := "(I)Z" } : Jvm.MethodName)) ∈ lw_all := lw_g (lw_at lw_m0 156 rfl) rfl
theorem q168 : (Jvm.Cond.code ({ cls := "FlameTreeModel", name := "over", desc := "(I)Z" } : Jvm.MethodName) prog_3_method_6_code (3 : Nat) (Option.some Jvm.ClassFile.FieldType.boolean)) ∈ lw_all := lw_g (lw_at lw_m0 157 rfl) rfl
theorem q170 : (Jvm.Cond.instanceMethod ({ cls := "FlameTreeModel", name := "own", desc := "()I" } : Jvm.MethodName)) ∈ lw_all := lw_g (lw_at lw_m0 159 rfl) rfl
theorem q171 : (Jvm.Cond.selects "FlameTreeModel" ({ cls := "FlameTreeModel", name := "own", desc := "()I" } : Jvm.MethodName) ({ cls := "FlameTreeModel", name := "own", desc := "()I" } : Jvm.MethodName)) ∈ lw_all := lw_g (lw_at lw_m0 160 rfl) rfl
theorem q172 : (Jvm.Cond.code ({ cls := "FlameTreeModel", name := "own", desc := "()I" } : Jvm.MethodName) prog_3_method_8_code (3 : Nat) (Option.some Jvm.ClassFile.FieldType.int)) ∈ lw_all := lw_g (lw_at lw_m0 161 rfl) rfl
theorem q174 : (Jvm.Cond.instanceMethod ({ cls := "FlameTreeModel", name := "hottest", desc := "()I" } : Jvm.MethodName)) ∈ lw_all := lw_g (lw_at lw_m0 163 rfl) rfl
theorem q175 : (Jvm.Cond.selects "FlameTreeModel" ({ cls := "FlameTreeModel", name := "hottest", desc := "()I" } : Jvm.MethodName) ({ cls := "FlameTreeModel", name := "hottest", desc := "()I" } : Jvm.MethodName)) ∈ lw_all := lw_g (lw_at lw_m0 164 rfl) rfl
theorem q176 : (Jvm.Cond.code ({ cls := "FlameTreeModel", name := "hottest", desc := "()I" } : Jvm.MethodName) prog_3_method_10_code (5 : Nat) (Option.some Jvm.ClassFile.FieldType.int)) ∈ lw_all := lw_g (lw_at lw_m0 165 rfl) rfl
theorem q177 : (Jvm.Cond.methodLink "FlameTreeModel" (36 : Nat) ({ cls := "FlameTreeModel", name := "totalWith", desc := "(I)I" } : Jvm.MethodName)) ∈ lw_all := lw_g (lw_at lw_m0 166 rfl) rfl
theorem q178 : (Jvm.Cond.privateMethod ({ cls := "FlameTreeModel", name := "totalWith", desc := "(I)I" } : Jvm.MethodName)) ∈ lw_tbl := lw_at lw_m0 167 rfl
theorem q179 : (Jvm.Cond.instanceMethod ({ cls := "FlameTreeModel", name := "totalWith", desc := "(I)I" } : Jvm.MethodName)) ∈ lw_all := lw_g (lw_at lw_m0 168 rfl) rfl
theorem q180 : (Jvm.Cond.code ({ cls := "FlameTreeModel", name := "totalWith", desc := "(I)I" } : Jvm.MethodName) prog_3_method_9_code (4 : Nat) (Option.some Jvm.ClassFile.FieldType.int)) ∈ lw_all := lw_g (lw_at lw_m0 169 rfl) rfl
theorem q182 : (Jvm.Cond.instanceMethod ({ cls := "FlameTreeModel", name := "inclusive", desc := "(I)I" } : Jvm.MethodName)) ∈ lw_all := lw_g (lw_at lw_m0 171 rfl) rfl
theorem q183 : (Jvm.Cond.selects "FlameTreeModel" ({ cls := "FlameTreeModel", name := "inclusive", desc := "(I)I" } : Jvm.MethodName) ({ cls := "FlameTreeModel", name := "inclusive", desc := "(I)I" } : Jvm.MethodName)) ∈ lw_all := lw_g (lw_at lw_m0 172 rfl) rfl
theorem q184 : (Jvm.Cond.code ({ cls := "FlameTreeModel", name := "inclusive", desc := "(I)I" } : Jvm.MethodName) prog_3_method_13_code (2 : Nat) (Option.some Jvm.ClassFile.FieldType.int)) ∈ lw_all := lw_g (lw_at lw_m0 173 rfl) rfl
theorem q185 : (Jvm.Cond.methodLink "FlameTreeModel" (44 : Nat) ({ cls := "FlameTreeModel", name := "standing", desc := "(II)I" } : Jvm.MethodName)) ∈ lw_all := lw_g (lw_at lw_m0 174 rfl) rfl
theorem q186 : (Jvm.Cond.privateMethod ({ cls := "FlameTreeModel", name := "standing", desc := "(II)I" } : Jvm.MethodName)) ∈ lw_tbl := lw_at lw_m0 175 rfl
theorem q187 : (Jvm.Cond.instanceMethod ({ cls := "FlameTreeModel", name := "standing", desc := "(II)I" } : Jvm.MethodName)) ∈ lw_all := lw_g (lw_at lw_m0 176 rfl) rfl
theorem q188 : (Jvm.Cond.code ({ cls := "FlameTreeModel", name := "standing", desc := "(II)I" } : Jvm.MethodName) prog_3_method_12_code (5 : Nat) (Option.some Jvm.ClassFile.FieldType.int)) ∈ lw_all := lw_g (lw_at lw_m0 177 rfl) rfl
theorem q189 : (Jvm.Cond.methodLink "FlameTreeModel" (40 : Nat) ({ cls := "FlameTreeModel", name := "stands", desc := "(III)Z" } : Jvm.MethodName)) ∈ lw_all := lw_g (lw_at lw_m0 178 rfl) rfl
theorem q190 : (Jvm.Cond.privateMethod ({ cls := "FlameTreeModel", name := "stands", desc := "(III)Z" } : Jvm.MethodName)) ∈ lw_tbl := lw_at lw_m0 179 rfl
theorem q191 : (Jvm.Cond.instanceMethod ({ cls := "FlameTreeModel", name := "stands", desc := "(III)Z" } : Jvm.MethodName)) ∈ lw_all := lw_g (lw_at lw_m0 180 rfl) rfl
theorem q192 : (Jvm.Cond.code ({ cls := "FlameTreeModel", name := "stands", desc := "(III)Z" } : Jvm.MethodName) prog_3_method_11_code (6 : Nat) (Option.some Jvm.ClassFile.FieldType.boolean)) ∈ lw_all := lw_g (lw_at lw_m0 181 rfl) rfl
theorem q194 : (Jvm.Cond.instanceMethod ({ cls := "FlameTreeModel", name := "exclusive", desc := "(I)I" } : Jvm.MethodName)) ∈ lw_all := lw_g (lw_at lw_m0 183 rfl) rfl
theorem q195 : (Jvm.Cond.selects "FlameTreeModel" ({ cls := "FlameTreeModel", name := "exclusive", desc := "(I)I" } : Jvm.MethodName) ({ cls := "FlameTreeModel", name := "exclusive", desc := "(I)I" } : Jvm.MethodName)) ∈ lw_all := lw_g (lw_at lw_m0 184 rfl) rfl
theorem q196 : (Jvm.Cond.code ({ cls := "FlameTreeModel", name := "exclusive", desc := "(I)I" } : Jvm.MethodName) prog_3_method_14_code (4 : Nat) (Option.some Jvm.ClassFile.FieldType.int)) ∈ lw_all := lw_g (lw_at lw_m0 185 rfl) rfl
theorem q198 : (Jvm.Cond.instanceMethod ({ cls := "FlameTreeModel", name := "edge", desc := "(II)I" } : Jvm.MethodName)) ∈ lw_all := lw_g (lw_at lw_m0 187 rfl) rfl
theorem q199 : (Jvm.Cond.selects "FlameTreeModel" ({ cls := "FlameTreeModel", name := "edge", desc := "(II)I" } : Jvm.MethodName) ({ cls := "FlameTreeModel", name := "edge", desc := "(II)I" } : Jvm.MethodName)) ∈ lw_all := lw_g (lw_at lw_m0 188 rfl) rfl
theorem q200 : (Jvm.Cond.code ({ cls := "FlameTreeModel", name := "edge", desc := "(II)I" } : Jvm.MethodName) prog_3_method_15_code (3 : Nat) (Option.some Jvm.ClassFile.FieldType.int)) ∈ lw_all := lw_g (lw_at lw_m0 189 rfl) rfl
theorem q202 : (Jvm.Cond.instanceMethod ({ cls := "FlameTreeModel", name := "paths", desc := "(I)I" } : Jvm.MethodName)) ∈ lw_all := lw_g (lw_at lw_m0 191 rfl) rfl
theorem q203 : (Jvm.Cond.selects "FlameTreeModel" ({ cls := "FlameTreeModel", name := "paths", desc := "(I)I" } : Jvm.MethodName) ({ cls := "FlameTreeModel", name := "paths", desc := "(I)I" } : Jvm.MethodName)) ∈ lw_all := lw_g (lw_at lw_m0 192 rfl) rfl
theorem q204 : (Jvm.Cond.code ({ cls := "FlameTreeModel", name := "paths", desc := "(I)I" } : Jvm.MethodName) prog_3_method_18_code (6 : Nat) (Option.some Jvm.ClassFile.FieldType.int)) ∈ lw_all := lw_g (lw_at lw_m0 193 rfl) rfl
theorem q205 : (Jvm.Cond.methodLink "FlameTreeModel" (51 : Nat) ({ cls := "FlameTreeModel", name := "newTotal", desc := "(II)I" } : Jvm.MethodName)) ∈ lw_all := lw_g (lw_at lw_m0 194 rfl) rfl
theorem q206 : (Jvm.Cond.privateMethod ({ cls := "FlameTreeModel", name := "newTotal", desc := "(II)I" } : Jvm.MethodName)) ∈ lw_tbl := lw_at lw_m0 195 rfl
theorem q207 : (Jvm.Cond.instanceMethod ({ cls := "FlameTreeModel", name := "newTotal", desc := "(II)I" } : Jvm.MethodName)) ∈ lw_all := lw_g (lw_at lw_m0 196 rfl) rfl
theorem q208 : (Jvm.Cond.code ({ cls := "FlameTreeModel", name := "newTotal", desc := "(II)I" } : Jvm.MethodName) prog_3_method_17_code (5 : Nat) (Option.some Jvm.ClassFile.FieldType.int)) ∈ lw_all := lw_g (lw_at lw_m0 197 rfl) rfl
theorem q209 : (Jvm.Cond.methodLink "FlameTreeModel" (48 : Nat) ({ cls := "FlameTreeModel", name := "share", desc := "(III)Z" } : Jvm.MethodName)) ∈ lw_all := lw_g (lw_at lw_m0 198 rfl) rfl
theorem q210 : (Jvm.Cond.privateMethod ({ cls := "FlameTreeModel", name := "share", desc := "(III)Z" } : Jvm.MethodName)) ∈ lw_tbl := lw_at lw_m0 199 rfl
theorem q211 : (Jvm.Cond.instanceMethod ({ cls := "FlameTreeModel", name := "share", desc := "(III)Z" } : Jvm.MethodName)) ∈ lw_all := lw_g (lw_at lw_m0 200 rfl) rfl
theorem q212 : (Jvm.Cond.code ({ cls := "FlameTreeModel", name := "share", desc := "(III)Z" } : Jvm.MethodName) prog_3_method_16_code (5 : Nat) (Option.some Jvm.ClassFile.FieldType.boolean)) ∈ lw_all := lw_g (lw_at lw_m0 201 rfl) rfl
theorem q214 : (Jvm.Cond.instanceMethod ({ cls := "FlameTreeModel", name := "deepest", desc := "(I)I" } : Jvm.MethodName)) ∈ lw_all := lw_g (lw_at lw_m0 203 rfl) rfl
theorem q215 : (Jvm.Cond.selects "FlameTreeModel" ({ cls := "FlameTreeModel", name := "deepest", desc := "(I)I" } : Jvm.MethodName) ({ cls := "FlameTreeModel", name := "deepest", desc := "(I)I" } : Jvm.MethodName)) ∈ lw_all := lw_g (lw_at lw_m0 204 rfl) rfl
theorem q216 : (Jvm.Cond.code ({ cls := "FlameTreeModel", name := "deepest", desc := "(I)I" } : Jvm.MethodName) prog_3_method_19_code (6 : Nat) (Option.some Jvm.ClassFile.FieldType.int)) ∈ lw_all := lw_g (lw_at lw_m0 205 rfl) rfl
theorem in_X1 : ∀ w ∈ wsX10, w ∈ lw_all := lw_in wsX10 [133, 135, 137, 139, 141, 143] (by decide +kernel) (by decide +kernel)
theorem q11 : (Jvm.Cond.initialized "FlameTreeLaw") ∈ lw_all := lw_g (lw_at lw_m0 0 rfl) rfl
set_option maxRecDepth 100000
theorem q14 : (Jvm.Cond.classLink "FlameTreeLaw" (7 : Nat) "FlameTree") ∈ lw_all := lw_g (lw_at lw_m0 3 rfl) rfl
theorem q16 : (Jvm.Cond.methodLink "FlameTreeLaw" (9 : Nat) ({ cls := "FlameTree", name := "<init>", desc := "()V" } : Jvm.MethodName)) ∈ lw_all := lw_g (lw_at lw_m0 5 rfl) rfl
theorem q54 : (Jvm.Cond.methodLink "FlameTreeLaw" (13 : Nat) ({ cls := "FlameTree", name := "call", desc := "(I)I" } : Jvm.MethodName)) ∈ lw_all := lw_g (lw_at lw_m0 43 rfl) rfl
theorem q61 : (Jvm.Cond.methodLink "FlameTreeLaw" (18 : Nat) ({ cls := "FlameTree", name := "leave", desc := "()I" } : Jvm.MethodName)) ∈ lw_all := lw_g (lw_at lw_m0 50 rfl) rfl
theorem q65 : (Jvm.Cond.methodLink "FlameTreeLaw" (23 : Nat) ({ cls := "FlameTree", name := "sample", desc := "(I)I" } : Jvm.MethodName)) ∈ lw_all := lw_g (lw_at lw_m0 54 rfl) rfl
theorem q77 : (Jvm.Cond.methodLink "FlameTreeLaw" (27 : Nat) ({ cls := "FlameTree", name := "total", desc := "()I" } : Jvm.MethodName)) ∈ lw_all := lw_g (lw_at lw_m0 66 rfl) rfl
theorem q85 : (Jvm.Cond.methodLink "FlameTreeLaw" (31 : Nat) ({ cls := "FlameTree", name := "own", desc := "()I" } : Jvm.MethodName)) ∈ lw_all := lw_g (lw_at lw_m0 74 rfl) rfl
theorem q89 : (Jvm.Cond.methodLink "FlameTreeLaw" (35 : Nat) ({ cls := "FlameTree", name := "hottest", desc := "()I" } : Jvm.MethodName)) ∈ lw_all := lw_g (lw_at lw_m0 78 rfl) rfl
theorem q93 : (Jvm.Cond.methodLink "FlameTreeLaw" (39 : Nat) ({ cls := "FlameTree", name := "inclusive", desc := "(I)I" } : Jvm.MethodName)) ∈ lw_all := lw_g (lw_at lw_m0 82 rfl) rfl
theorem q101 : (Jvm.Cond.methodLink "FlameTreeLaw" (43 : Nat) ({ cls := "FlameTree", name := "exclusive", desc := "(I)I" } : Jvm.MethodName)) ∈ lw_all := lw_g (lw_at lw_m0 90 rfl) rfl
theorem q105 : (Jvm.Cond.methodLink "FlameTreeLaw" (47 : Nat) ({ cls := "FlameTree", name := "edge", desc := "(II)I" } : Jvm.MethodName)) ∈ lw_all := lw_g (lw_at lw_m0 94 rfl) rfl
theorem q109 : (Jvm.Cond.methodLink "FlameTreeLaw" (52 : Nat) ({ cls := "FlameTree", name := "paths", desc := "(I)I" } : Jvm.MethodName)) ∈ lw_all := lw_g (lw_at lw_m0 98 rfl) rfl
theorem q113 : (Jvm.Cond.methodLink "FlameTreeLaw" (56 : Nat) ({ cls := "FlameTree", name := "deepest", desc := "(I)I" } : Jvm.MethodName)) ∈ lw_all := lw_g (lw_at lw_m0 102 rfl) rfl
theorem q121 : (Jvm.Cond.classLink "FlameTreeLaw" (10 : Nat) "FlameTreeModel") ∈ lw_all := lw_g (lw_at lw_m0 110 rfl) rfl
theorem q123 : (Jvm.Cond.methodLink "FlameTreeLaw" (12 : Nat) ({ cls := "FlameTreeModel", name := "<init>", desc := "()V" } : Jvm.MethodName)) ∈ lw_all := lw_g (lw_at lw_m0 112 rfl) rfl
theorem q146 : (Jvm.Cond.methodLink "FlameTreeLaw" (17 : Nat) ({ cls := "FlameTreeModel", name := "call", desc := "(I)I" } : Jvm.MethodName)) ∈ lw_all := lw_g (lw_at lw_m0 135 rfl) rfl
theorem q153 : (Jvm.Cond.methodLink "FlameTreeLaw" (22 : Nat) ({ cls := "FlameTreeModel", name := "leave", desc := "()I" } : Jvm.MethodName)) ∈ lw_all := lw_g (lw_at lw_m0 142 rfl) rfl
theorem q157 : (Jvm.Cond.methodLink "FlameTreeLaw" (26 : Nat) ({ cls := "FlameTreeModel", name := "sample", desc := "(I)I" } : Jvm.MethodName)) ∈ lw_all := lw_g (lw_at lw_m0 146 rfl) rfl
theorem q161 : (Jvm.Cond.methodLink "FlameTreeLaw" (30 : Nat) ({ cls := "FlameTreeModel", name := "total", desc := "()I" } : Jvm.MethodName)) ∈ lw_all := lw_g (lw_at lw_m0 150 rfl) rfl
theorem q169 : (Jvm.Cond.methodLink "FlameTreeLaw" (34 : Nat) ({ cls := "FlameTreeModel", name := "own", desc := "()I" } : Jvm.MethodName)) ∈ lw_all := lw_g (lw_at lw_m0 158 rfl) rfl
theorem q173 : (Jvm.Cond.methodLink "FlameTreeLaw" (38 : Nat) ({ cls := "FlameTreeModel", name := "hottest", desc := "()I" } : Jvm.MethodName)) ∈ lw_all := lw_g (lw_at lw_m0 162 rfl) rfl
theorem q181 : (Jvm.Cond.methodLink "FlameTreeLaw" (42 : Nat) ({ cls := "FlameTreeModel", name := "inclusive", desc := "(I)I" } : Jvm.MethodName)) ∈ lw_all := lw_g (lw_at lw_m0 170 rfl) rfl
theorem q193 : (Jvm.Cond.methodLink "FlameTreeLaw" (46 : Nat) ({ cls := "FlameTreeModel", name := "exclusive", desc := "(I)I" } : Jvm.MethodName)) ∈ lw_all := lw_g (lw_at lw_m0 182 rfl) rfl
theorem q197 : (Jvm.Cond.methodLink "FlameTreeLaw" (51 : Nat) ({ cls := "FlameTreeModel", name := "edge", desc := "(II)I" } : Jvm.MethodName)) ∈ lw_all := lw_g (lw_at lw_m0 186 rfl) rfl
theorem q201 : (Jvm.Cond.methodLink "FlameTreeLaw" (55 : Nat) ({ cls := "FlameTreeModel", name := "paths", desc := "(I)I" } : Jvm.MethodName)) ∈ lw_all := lw_g (lw_at lw_m0 190 rfl) rfl
theorem q213 : (Jvm.Cond.methodLink "FlameTreeLaw" (59 : Nat) ({ cls := "FlameTreeModel", name := "deepest", desc := "(I)I" } : Jvm.MethodName)) ∈ lw_all := lw_g (lw_at lw_m0 202 rfl) rfl
theorem q53 : (Jvm.Cond.arrayClass Jvm.ClassFile.FieldType.int) ∈ lw_all := lw_g (lw_at lw_m0 42 rfl) rfl
set_option maxRecDepth 100000
end
section
/-! PLAIN: sums, paths (a path is a list, its last function first), samples, the tree's invariant; no program in sight -/
def ft_up {α : Type} (f : Nat → α) (k : Nat) (v : α) : Nat → α := fun j => if j = k then v else f j
theorem ft_up_s {α : Type} (f : Nat → α) (k : Nat) (v : α) : ft_up f k v k = v := if_pos rfl
theorem ft_up_n {α : Type} (f : Nat → α) {k j : Nat} (v : α) (h : j ≠ k) : ft_up f k v j = f j := if_neg h
def ft_sum : Nat → (Nat → Nat) → Nat
  | 0, _ => 0
  | n + 1, g => ft_sum n g + g n
theorem ft_sum_c {n : Nat} {f g : Nat → Nat} (h : ∀ i, i < n → f i = g i) : ft_sum n f = ft_sum n g := by
  induction n with
  | zero => rfl
  | succ n ih =>
    show ft_sum n f + f n = ft_sum n g + g n
    rw [ih (fun i hi => h i (by omega)), h n (by omega)]
theorem ft_sum_add (n : Nat) (f g : Nat → Nat) : ft_sum n (fun i => f i + g i) = ft_sum n f + ft_sum n g := by
  induction n with
  | zero => rfl
  | succ n ih =>
    show ft_sum n (fun i => f i + g i) + (f n + g n) = (ft_sum n f + f n) + (ft_sum n g + g n)
    rw [ih]; omega
theorem ft_sum_0 {n : Nat} {f : Nat → Nat} (h : ∀ i, i < n → f i = 0) : ft_sum n f = 0 := by
  induction n with
  | zero => rfl
  | succ n ih =>
    show ft_sum n f + f n = 0
    rw [ih (fun i hi => h i (by omega)), h n (by omega)]
theorem ft_sum_swap (n m : Nat) (f : Nat → Nat → Nat) : ft_sum n (fun i => ft_sum m (fun j => f i j)) = ft_sum m (fun j => ft_sum n (fun i => f i j)) := by
  induction n with
  | zero => exact (ft_sum_0 (fun _ _ => rfl)).symm
  | succ n ih =>
    show ft_sum n (fun i => ft_sum m (fun j => f i j)) + ft_sum m (fun j => f n j) = ft_sum m (fun j => ft_sum n (fun i => f i j) + f n j)
    rw [ih, ft_sum_add]
theorem ft_sum_le {n c : Nat} {f : Nat → Nat} (h : ∀ i, i < n → f i ≤ c) : ft_sum n f ≤ n * c := by
  induction n with
  | zero => exact Nat.zero_le _
  | succ n ih =>
    show ft_sum n f + f n ≤ (n + 1) * c
    have h1 := ih (fun i hi => h i (by omega))
    have h2 := h n (by omega)
    rw [Nat.succ_mul]; omega
theorem ft_sum_one {n i : Nat} {f : Nat → Nat} (hi : i < n) (h : ∀ j, j < n → j ≠ i → f j = 0) : ft_sum n f = f i := by
  induction n with
  | zero => omega
  | succ n ih =>
    show ft_sum n f + f n = f i
    by_cases e : i = n
    · subst e
      rw [ft_sum_0 (fun j hj => h j (by omega) (by omega))]; omega
    · rw [ih (by omega) (fun j hj => h j (by omega)), h n (by omega) (fun z => e z.symm)]; omega
theorem ft_sum_ext {m n : Nat} (h : m ≤ n) (g : Nat → Nat) : ft_sum m g = ft_sum n (fun i => if i < m then g i else 0) := by
  induction n with
  | zero =>
    have : m = 0 := by omega
    subst this
    rfl
  | succ n ih =>
    show _ = ft_sum n (fun i => if i < m then g i else 0) + (if n < m then g n else 0)
    by_cases e : m = n + 1
    · subst e
      rw [if_pos (by omega)]
      show ft_sum n g + g n = _
      rw [ft_sum_c (f := g) (g := fun i => if i < n + 1 then g i else 0) (fun i hi => (if_pos (by omega)).symm)]
    · rw [← ih (by omega), if_neg (by omega)]; omega
def ft_max : Nat → (Nat → Nat) → Nat
  | 0, _ => 0
  | n + 1, g => if ft_max n g < g n then g n else ft_max n g
theorem ft_max_le {n c : Nat} {g : Nat → Nat} (h : ∀ i, i < n → g i ≤ c) : ft_max n g ≤ c := by
  induction n with
  | zero => exact Nat.zero_le _
  | succ n ih =>
    show (if ft_max n g < g n then g n else ft_max n g) ≤ c
    have h1 := ih (fun i hi => h i (by omega))
    have h2 := h n (by omega)
    split <;> omega
theorem ft_le_max {n i : Nat} {g : Nat → Nat} (hi : i < n) : g i ≤ ft_max n g := by
  induction n with
  | zero => omega
  | succ n ih =>
    show g i ≤ (if ft_max n g < g n then g n else ft_max n g)
    by_cases e : i = n
    · subst e
      split <;> omega
    · have := ih (by omega)
      split <;> omega
/-! paths -/
def ft_rp (q : Nat → Nat) : Nat → List Nat
  | 0 => []
  | n + 1 => q n :: ft_rp q n
theorem ft_rp_len (q : Nat → Nat) (n : Nat) : (ft_rp q n).length = n := by
  induction n with
  | zero => rfl
  | succ n ih =>
    show (ft_rp q n).length + 1 = n + 1
    rw [ih]
theorem ft_rp_eq {q r : Nat → Nat} {n : Nat} : ft_rp q n = ft_rp r n ↔ ∀ i, i < n → q i = r i := by
  induction n with
  | zero => exact ⟨fun _ i h => absurd h (Nat.not_lt_zero i), fun _ => rfl⟩
  | succ n ih =>
    show q n :: ft_rp q n = r n :: ft_rp r n ↔ _
    rw [List.cons.injEq, ih]
    constructor
    · intro h i hi
      by_cases e : i = n
      · rw [e]; exact h.1
      · exact h.2 i (by omega)
    · intro h
      exact ⟨h n (by omega), fun i hi => h i (by omega)⟩
abbrev ft_ov (pa : Nat → Nat → Nat) (ln : Nat → Nat) (p : List Nat) (s : Nat) : Prop := p.length ≤ ln s ∧ ft_rp (pa s) p.length = p
theorem ft_ov_rp {pa : Nat → Nat → Nat} {ln q : Nat → Nat} {n s : Nat} : ft_ov pa ln (ft_rp q n) s ↔ n ≤ ln s ∧ ∀ i, i < n → pa s i = q i := by
  show (ft_rp q n).length ≤ ln s ∧ ft_rp (pa s) (ft_rp q n).length = ft_rp q n ↔ _
  rw [ft_rp_len, ft_rp_eq]
theorem ft_ov_self {pa : Nat → Nat → Nat} {ln : Nat → Nat} {n s : Nat} (h : n ≤ ln s) : ft_ov pa ln (ft_rp (pa s) n) s := ft_ov_rp.mpr ⟨h, fun _ _ => rfl⟩
theorem ft_ov_cons {pa : Nat → Nat → Nat} {ln : Nat → Nat} {f : Nat} {p : List Nat} {s : Nat} : ft_ov pa ln (f :: p) s ↔ ft_ov pa ln p s ∧ p.length < ln s ∧ pa s p.length = f := by
  show p.length + 1 ≤ ln s ∧ pa s p.length :: ft_rp (pa s) p.length = f :: p ↔ _
  rw [List.cons.injEq]
  constructor
  · rintro ⟨h1, h2, h3⟩
    exact ⟨⟨by omega, h3⟩, by omega, h2⟩
  · rintro ⟨⟨h1, h3⟩, h2, h4⟩
    exact ⟨by omega, h4, h3⟩
def ft_tot (ns : Nat) (pa : Nat → Nat → Nat) (ln wt : Nat → Nat) (p : List Nat) : Nat := ft_sum ns (fun s => if ft_ov pa ln p s then wt s else 0)
def ft_own (ns : Nat) (pa : Nat → Nat → Nat) (ln wt : Nat → Nat) (p : List Nat) : Nat := ft_sum ns (fun s => if ft_ov pa ln p s ∧ ln s = p.length then wt s else 0)
theorem ft_tot_le {ns : Nat} {pa : Nat → Nat → Nat} {ln wt : Nat → Nat} (h : ∀ s, wt s ≤ 100) (p : List Nat) : ft_tot ns pa ln wt p ≤ ns * 100 := ft_sum_le (fun i _ => by
  show (if ft_ov pa ln p i then wt i else 0) ≤ 100
  have := h i
  split <;> omega)
theorem ft_own_le {ns : Nat} {pa : Nat → Nat → Nat} {ln wt : Nat → Nat} (h : ∀ s, wt s ≤ 100) (p : List Nat) : ft_own ns pa ln wt p ≤ ns * 100 := ft_sum_le (fun i _ => by
  show (if ft_ov pa ln p i ∧ ln i = p.length then wt i else 0) ≤ 100
  have := h i
  split <;> omega)
/-! a function in a path; with a caller (some c) right behind that -/
def ft_be (c : Option Nat) (p : List Nat) : Bool := match c with
  | none => true
  | some k => decide (p.head? = some k)
def ft_occ (c : Option Nat) (f : Nat) : List Nat → Bool
  | [] => false
  | x :: p => (decide (x = f) && ft_be c p) || ft_occ c f p
def ft_new (c : Option Nat) (f : Nat) : List Nat → Bool
  | [] => false
  | x :: p => (decide (x = f) && ft_be c p) && !ft_occ c f p
theorem ft_new_occ {c : Option Nat} {f : Nat} {p : List Nat} (h : ft_new c f p = true) : ft_occ c f p = true := by
  cases p with
  | nil => exact h
  | cons x p =>
    simp only [ft_new, ft_occ, Bool.and_eq_true, Bool.or_eq_true] at h ⊢
    exact Or.inl h.1
theorem ft_occ_mono {c : Option Nat} {f : Nat} {q : Nat → Nat} {m n : Nat} (hmn : m ≤ n) (h : ft_occ c f (ft_rp q m) = true) : ft_occ c f (ft_rp q n) = true := by
  induction n with
  | zero =>
    have : m = 0 := by omega
    subst this
    exact h
  | succ n ih =>
    by_cases e : m = n + 1
    · subst e
      exact h
    · have := ih (by omega)
      simp only [ft_rp, ft_occ, Bool.or_eq_true]
      exact Or.inr this
theorem ft_occ_new {c : Option Nat} {f : Nat} {q : Nat → Nat} {n : Nat} (h : ft_occ c f (ft_rp q n) = true) : ∃ m, m ≤ n ∧ ft_new c f (ft_rp q m) = true := by
  induction n with
  | zero => cases h
  | succ n ih =>
    by_cases e : ft_occ c f (ft_rp q n) = true
    · obtain ⟨m, h1, h2⟩ := ih e
      exact ⟨m, by omega, h2⟩
    · refine ⟨n + 1, Nat.le_refl _, ?_⟩
      simp only [ft_rp, ft_occ, ft_new, Bool.and_eq_true, Bool.or_eq_true, Bool.not_eq_true] at h e ⊢
      rcases h with h | h
      · exact ⟨h, by rw [e]; rfl⟩
      · rw [e] at h
        cases h
theorem ft_new_lt {c : Option Nat} {f : Nat} {q : Nat → Nat} {m n : Nat} (hm : ft_new c f (ft_rp q m) = true) (hn : ft_new c f (ft_rp q n) = true) : ¬ m < n := by
  intro h
  obtain ⟨n', rfl⟩ : ∃ n', n = n' + 1 := ⟨n - 1, by omega⟩
  have h1 := ft_occ_mono (n := n') (by omega) (ft_new_occ hm)
  simp only [ft_rp, ft_new, Bool.and_eq_true, Bool.not_eq_true'] at hn
  rw [hn.2] at h1
  cases h1
theorem ft_new_eq {c : Option Nat} {f : Nat} {q : Nat → Nat} {m n : Nat} (hm : ft_new c f (ft_rp q m) = true) (hn : ft_new c f (ft_rp q n) = true) : m = n := by
  have h1 := ft_new_lt hm hn
  have h2 := ft_new_lt hn hm
  omega
def ft_std (ns : Nat) (pa : Nat → Nat → Nat) (ln wt : Nat → Nat) (c : Option Nat) (f : Nat) : Nat := ft_sum ns (fun s => if ft_occ c f (ft_rp (pa s) (ln s)) = true then wt s else 0)
def ft_exc (ns : Nat) (pa : Nat → Nat → Nat) (ln wt : Nat → Nat) (f : Nat) : Nat := ft_sum ns (fun s => if 0 < ln s ∧ pa s (ln s - 1) = f then wt s else 0)
abbrev ft_fst (pa : Nat → Nat → Nat) (ln : Nat → Nat) (s n : Nat) : Prop := ∀ t, t < s → ¬ ft_ov pa ln (ft_rp (pa s) n) t
def ft_nt (ns : Nat) (pa : Nat → Nat → Nat) (ln wt : Nat → Nat) (s n : Nat) : Nat := if ft_fst pa ln s n then ft_tot ns pa ln wt (ft_rp (pa s) n) else 0
def ft_pth (ns : Nat) (pa : Nat → Nat → Nat) (ln wt : Nat → Nat) (L : Nat) : Nat := ft_sum ns (fun s => ft_sum (ln s) (fun n => if L ≤ ft_nt ns pa ln wt s (n + 1) then 1 else 0))
def ft_dp (ns : Nat) (pa : Nat → Nat → Nat) (ln wt : Nat → Nat) (L : Nat) : Nat := ft_max ns (fun s => ft_max (ln s) (fun n => if L ≤ ft_nt ns pa ln wt s (n + 1) then n + 1 else 0))
theorem ft_nt_le {ns : Nat} {pa : Nat → Nat → Nat} {ln wt : Nat → Nat} (h : ∀ s, wt s ≤ 100) (s n : Nat) : ft_nt ns pa ln wt s n ≤ ns * 100 := by
  unfold ft_nt
  have := ft_tot_le (ns := ns) (pa := pa) (ln := ln) h (ft_rp (pa s) n)
  split <;> omega
theorem ft_nt_iff {ns : Nat} {pa : Nat → Nat → Nat} {ln wt : Nat → Nat} {s n L : Nat} (hL : 1 ≤ L) : L ≤ ft_nt ns pa ln wt s n ↔ ft_fst pa ln s n ∧ L ≤ ft_tot ns pa ln wt (ft_rp (pa s) n) := by
  unfold ft_nt
  by_cases h : ft_fst pa ln s n
  · rw [if_pos h]
    exact ⟨fun z => ⟨h, z⟩, fun z => z.2⟩
  · rw [if_neg h]
    exact ⟨fun z => by omega, fun z => absurd z.1 h⟩
/-! the hottest child -/
def ft_hot (n : Nat) (t : Nat → Nat) (r : Int32) (mo : Nat) : Prop := (r = -1 ∧ mo = 0 ∧ ∀ g, g < n → t g = 0) ∨ ∃ f, f < n ∧ r = nI f ∧ mo = t f ∧ 0 < t f ∧ ∀ g, g < n → t g < t f ∨ (t g = t f ∧ f ≤ g)
theorem ft_hot_u {n : Nat} {t : Nat → Nat} {r r' : Int32} {mo mo' : Nat} (h : ft_hot n t r mo) (h' : ft_hot n t r' mo') : r = r' := by
  rcases h with ⟨h1, -, h3⟩ | ⟨f, h1, h2, -, h4, h5⟩
  · rcases h' with ⟨g1, -, -⟩ | ⟨f', g1, g2, -, g4, g5⟩
    · rw [h1, g1]
    · have := h3 f' g1
      omega
  · rcases h' with ⟨g1, -, g3⟩ | ⟨f', g1, g2, -, g4, g5⟩
    · have := g3 f h1
      omega
    · have a := h5 f' g1
      have b := g5 f h1
      have : f = f' := by omega
      rw [h2, g2, this]
theorem ft_hot_0 (t : Nat → Nat) : ft_hot 0 t (-1) 0 := Or.inl ⟨rfl, rfl, fun g h => absurd h (Nat.not_lt_zero g)⟩
theorem ft_hot_gt {n : Nat} {t : Nat → Nat} {r : Int32} {mo : Nat} (h : ft_hot n t r mo) (hg : mo < t n) : ft_hot (n + 1) t (nI n) (t n) := by
  refine Or.inr ⟨n, by omega, rfl, rfl, by omega, fun g hgn => ?_⟩
  by_cases e : g = n
  · subst e
    exact Or.inr ⟨rfl, Nat.le_refl _⟩
  · rcases h with ⟨-, h2, h3⟩ | ⟨f, h1, -, h3, h4, h5⟩
    · have := h3 g (by omega)
      omega
    · have := h5 g (by omega)
      omega
theorem ft_hot_le {n : Nat} {t : Nat → Nat} {r : Int32} {mo : Nat} (h : ft_hot n t r mo) (hg : t n ≤ mo) : ft_hot (n + 1) t r mo := by
  rcases h with ⟨h1, h2, h3⟩ | ⟨f, h1, h2, h3, h4, h5⟩
  · refine Or.inl ⟨h1, h2, fun g hgn => ?_⟩
    by_cases e : g = n
    · subst e
      omega
    · exact h3 g (by omega)
  · refine Or.inr ⟨f, by omega, h2, h3, h4, fun g hgn => ?_⟩
    by_cases e : g = n
    · subst e
      omega
    · exact h5 g (by omega)
end
section
/-! PLAIN: the tree's invariant, and what follows of it -/
def ft_L (ab : Nat → Nat) (i n c : Nat) : Prop := (c = 0 ∧ ∀ j, 1 ≤ j → j < n → ab j ≠ i) ∨ (1 ≤ c ∧ c < n ∧ ab c = i ∧ ∀ j, c < j → j < n → ab j ≠ i)
/-- the arrays of nodes: N of them; child: the last node with that one above; sister: the last earlier one -/
def ft_T (N : Nat) (fn ab ch si : Nat → Nat) : Prop := 1 ≤ N ∧ (∀ j, 1 ≤ j → j < N → ab j < j ∧ fn j ≤ 7) ∧ (∀ i, ft_L ab i N (ch i)) ∧ (∀ j, 1 ≤ j → j < N → ft_L ab (ab j) j (si j))
/-- the paths of the nodes -/
def ft_R (N : Nat) (fn ab : Nat → Nat) (ps : Nat → List Nat) : Prop := ps 0 = [] ∧ (∀ j, 1 ≤ j → j < N → ps j = fn j :: ps (ab j)) ∧ (∀ i j, i < N → j < N → ps i = ps j → i = j)
/-- the nodes are the samples' prefixes -/
def ft_V (N : Nat) (ps : Nat → List Nat) (ns : Nat) (pa : Nat → Nat → Nat) (ln : Nat → Nat) : Prop := (∀ s n, s < ns → n ≤ ln s → ∃ j, j < N ∧ ps j = ft_rp (pa s) n) ∧ (∀ j, 1 ≤ j → j < N → ∃ s, s < ns ∧ ft_ov pa ln (ps j) s)
def ft_Wt (N : Nat) (to : Nat → Nat) (ps : Nat → List Nat) (ns : Nat) (pa : Nat → Nat → Nat) (ln wt : Nat → Nat) : Prop := (∀ j, j < N → to j = ft_tot ns pa ln wt (ps j)) ∧ (∀ j, N ≤ j → to j = 0)
def ft_Wo (N : Nat) (ow : Nat → Nat) (ps : Nat → List Nat) (ns : Nat) (pa : Nat → Nat → Nat) (ln wt : Nat → Nat) : Prop := (∀ j, j < N → ow j = ft_own ns pa ln wt (ps j)) ∧ (∀ j, N ≤ j → ow j = 0)
def ft_SI (ns : Nat) (pa : Nat → Nat → Nat) (ln wt : Nat → Nat) : Prop := ns ≤ 40 ∧ (∀ s, ln s ≤ 8) ∧ (∀ s, wt s ≤ 100) ∧ (∀ s, s < ns → 1 ≤ wt s) ∧ (∀ s i, s < ns → i < ln s → pa s i ≤ 7)
def ft_FI (N : Nat) (fn ab ch si ow to : Nat → Nat) (ps : Nat → List Nat) (ns : Nat) (pa : Nat → Nat → Nat) (ln wt : Nat → Nat) : Prop :=
  ft_T N fn ab ch si ∧ ft_R N fn ab ps ∧ ft_V N ps ns pa ln ∧ ft_Wt N to ps ns pa ln wt ∧ ft_Wo N ow ps ns pa ln wt ∧ N ≤ 1 + ft_sum ns ln
theorem ft_N_le {N ns : Nat} {pa : Nat → Nat → Nat} {ln wt : Nat → Nat} (hS : ft_SI ns pa ln wt) (h : N ≤ 1 + ft_sum ns ln) : N ≤ 321 := by
  have h1 := ft_sum_le (n := ns) (c := 8) (f := ln) (fun i _ => hS.2.1 i)
  have h2 := hS.1
  omega
theorem ft_tot_4000 {ns : Nat} {pa : Nat → Nat → Nat} {ln wt : Nat → Nat} (hS : ft_SI ns pa ln wt) (p : List Nat) : ft_tot ns pa ln wt p ≤ 4000 := by
  have h1 := ft_tot_le (ns := ns) (pa := pa) (ln := ln) hS.2.2.1 p
  have h2 := hS.1
  omega
theorem ft_own_4000 {ns : Nat} {pa : Nat → Nat → Nat} {ln wt : Nat → Nat} (hS : ft_SI ns pa ln wt) (p : List Nat) : ft_own ns pa ln wt p ≤ 4000 := by
  have h1 := ft_own_le (ns := ns) (pa := pa) (ln := ln) hS.2.2.1 p
  have h2 := hS.1
  omega
section
variable {N : Nat} {fn ab ch si ow to : Nat → Nat} {ps : Nat → List Nat} {ns : Nat} {pa : Nat → Nat → Nat} {ln wt : Nat → Nat}
/-- no node, no weight -/
theorem ft_tot_none (hV : ft_V N ps ns pa ln) {p : List Nat} (h : ∀ j, j < N → ps j ≠ p) : ft_tot ns pa ln wt p = 0 := ft_sum_0 (fun s hs => if_neg (fun z => by
  obtain ⟨j, h1, h2⟩ := hV.1 s p.length hs z.1
  exact h j h1 (h2.trans z.2)))
theorem ft_own_none (hV : ft_V N ps ns pa ln) {p : List Nat} (h : ∀ j, j < N → ps j ≠ p) : ft_own ns pa ln wt p = 0 := ft_sum_0 (fun s hs => if_neg (fun z => by
  obtain ⟨j, h1, h2⟩ := hV.1 s p.length hs z.1.1
  exact h j h1 (h2.trans z.1.2)))
theorem ft_ps0 (hR : ft_R N fn ab ps) {j : Nat} (hj : j < N) (hN : 1 ≤ N) : ps j = [] ↔ j = 0 := by
  constructor
  · intro h
    exact hR.2.2 j 0 hj (by omega) (h.trans hR.1.symm)
  · intro h
    rw [h]; exact hR.1
theorem ft_len (hV : ft_V N ps ns pa ln) (hR : ft_R N fn ab ps) (hS : ft_SI ns pa ln wt) {j : Nat} (hj : j < N) : (ps j).length ≤ 8 := by
  by_cases e : j = 0
  · rw [e, hR.1]; exact Nat.zero_le _
  · obtain ⟨s, h1, h2⟩ := hV.2 j (by omega) hj
    have := hS.2.1 s
    have := h2.1
    omega
/-- the child's node, by its path -/
theorem ft_cw0 (hT : ft_T N fn ab ch si) (hR : ft_R N fn ab ps) {i f : Nat} (hi : i < N) (h : ∀ k, 1 ≤ k → k < N → ab k = i → fn k ≠ f) : ∀ j, j < N → ps j ≠ f :: ps i := by
  intro j hj e
  by_cases z : j = 0
  · rw [z, hR.1] at e
    cases e
  · rw [hR.2.1 j (by omega) hj, List.cons.injEq] at e
    have h1 := (hT.2.1 j (by omega) hj).1
    exact h j (by omega) hj (hR.2.2 _ _ (by omega) hi e.2) e.1
/-- no node for a part of a path, none for the path -/
theorem ft_up_path (hT : ft_T N fn ab ch si) (hR : ft_R N fn ab ps) {q : Nat → Nat} {k d : Nat} (hkd : k ≤ d) : ∀ j, j < N → ps j = ft_rp q d → ∃ j, j < N ∧ ps j = ft_rp q k := by
  induction d with
  | zero =>
    intro j hj e
    have : k = 0 := by omega
    subst this
    exact ⟨j, hj, e⟩
  | succ d ih =>
    intro j hj e
    by_cases z : k = d + 1
    · subst z
      exact ⟨j, hj, e⟩
    · have hj0 : j ≠ 0 := fun z => by
        rw [z, hR.1] at e
        cases e
      rw [hR.2.1 j (by omega) hj] at e
      have h1 := (hT.2.1 j (by omega) hj).1
      exact ih (by omega) (ab j) (by omega) (List.cons.inj e).2
/-- sums over nodes are sums over samples -/
theorem ft_law_std (hI : ft_FI N fn ab ch si ow to ps ns pa ln wt) (c : Option Nat) (f : Nat) : ft_sum N (fun j => if ft_new c f (ps j) = true then to j else 0) = ft_std ns pa ln wt c f := by
  obtain ⟨hT, hR, hV, hWt, -, -⟩ := hI
  have h1 : ft_sum N (fun j => if ft_new c f (ps j) = true then to j else 0) = ft_sum N (fun j => ft_sum ns (fun s => if ft_new c f (ps j) = true ∧ ft_ov pa ln (ps j) s then wt s else 0)) := by
    refine ft_sum_c (fun j hj => ?_)
    show (if ft_new c f (ps j) = true then to j else 0) = _
    by_cases e : ft_new c f (ps j) = true
    · rw [if_pos e, hWt.1 j hj]
      refine ft_sum_c (fun s hs => ?_)
      show (if ft_ov pa ln (ps j) s then wt s else 0) = _
      by_cases z : ft_ov pa ln (ps j) s
      · rw [if_pos z, if_pos ⟨e, z⟩]
      · rw [if_neg z, if_neg (fun y => z y.2)]
    · rw [if_neg e]
      exact (ft_sum_0 (fun s hs => if_neg (fun y => e y.1))).symm
  rw [h1, ft_sum_swap]
  refine ft_sum_c (fun s hs => ?_)
  show ft_sum N (fun j => if ft_new c f (ps j) = true ∧ ft_ov pa ln (ps j) s then wt s else 0) = (if ft_occ c f (ft_rp (pa s) (ln s)) = true then wt s else 0)
  by_cases e : ft_occ c f (ft_rp (pa s) (ln s)) = true
  · rw [if_pos e]
    obtain ⟨m, hm, hnew⟩ := ft_occ_new e
    obtain ⟨j, hj, hpj⟩ := hV.1 s m hs hm
    rw [ft_sum_one (i := j) hj]
    · exact if_pos ⟨by rw [hpj]; exact hnew, by rw [hpj]; exact ft_ov_self hm⟩
    · intro j' hj' hne
      refine if_neg (fun z => hne ?_)
      have z1 := z.1
      rw [← z.2.2] at z1
      have := ft_new_eq hnew z1
      refine hR.2.2 _ _ hj' hj ?_
      rw [hpj, ← z.2.2, this]
  · rw [if_neg e]
    refine ft_sum_0 (fun j hj => if_neg (fun z => e ?_))
    have z1 := z.1
    rw [← z.2.2] at z1
    exact ft_occ_mono z.2.1 (ft_new_occ z1)
theorem ft_law_exc (hI : ft_FI N fn ab ch si ow to ps ns pa ln wt) (f : Nat) : ft_sum N (fun j => if 1 ≤ j ∧ fn j = f then ow j else 0) = ft_exc ns pa ln wt f := by
  obtain ⟨hT, hR, hV, -, hWo, -⟩ := hI
  have h1 : ft_sum N (fun j => if 1 ≤ j ∧ fn j = f then ow j else 0) = ft_sum N (fun j => ft_sum ns (fun s => if (1 ≤ j ∧ fn j = f) ∧ ft_ov pa ln (ps j) s ∧ ln s = (ps j).length then wt s else 0)) := by
    refine ft_sum_c (fun j hj => ?_)
    show (if 1 ≤ j ∧ fn j = f then ow j else 0) = _
    by_cases e : 1 ≤ j ∧ fn j = f
    · rw [if_pos e, hWo.1 j hj]
      refine ft_sum_c (fun s hs => ?_)
      show (if ft_ov pa ln (ps j) s ∧ ln s = (ps j).length then wt s else 0) = _
      by_cases z : ft_ov pa ln (ps j) s ∧ ln s = (ps j).length
      · rw [if_pos z, if_pos ⟨e, z⟩]
      · rw [if_neg z, if_neg (fun y => z y.2)]
    · rw [if_neg e]
      exact (ft_sum_0 (fun s hs => if_neg (fun y => e y.1))).symm
  rw [h1, ft_sum_swap]
  refine ft_sum_c (fun s hs => ?_)
  show ft_sum N (fun j => if (1 ≤ j ∧ fn j = f) ∧ ft_ov pa ln (ps j) s ∧ ln s = (ps j).length then wt s else 0) = (if 0 < ln s ∧ pa s (ln s - 1) = f then wt s else 0)
  have key : ∀ j, 1 ≤ j → j < N → ∀ n, ps j = ft_rp (pa s) (n + 1) → fn j = pa s n := by
    intro j h1 hj n hn
    rw [hR.2.1 j h1 hj] at hn
    exact (List.cons.inj hn).1
  by_cases e : 0 < ln s ∧ pa s (ln s - 1) = f
  · rw [if_pos e]
    obtain ⟨j, hj, hpj⟩ := hV.1 s (ln s) hs (Nat.le_refl _)
    have hj1 : 1 ≤ j := by
      have : j ≠ 0 := fun z => by
        have h3 := congrArg List.length hpj
        rw [z, hR.1, ft_rp_len] at h3
        have h4 : (0 : Nat) = ln s := h3
        omega
      omega
    rw [ft_sum_one (i := j) hj]
    · refine if_pos ⟨⟨hj1, ?_⟩, by rw [hpj]; exact ft_ov_self (Nat.le_refl _), by rw [hpj, ft_rp_len]⟩
      rw [key j hj1 hj (ln s - 1) (by rw [hpj, Nat.sub_add_cancel (by omega)])]
      exact e.2
    · intro j' hj' hne
      refine if_neg (fun z => hne ?_)
      refine hR.2.2 _ _ hj' hj ?_
      rw [hpj, ← z.2.1.2, z.2.2]
  · rw [if_neg e]
    refine ft_sum_0 (fun j hj => if_neg (fun z => e ?_))
    have z1 := z.2.1.2
    rw [← z.2.2] at z1
    have hl : ln s ≠ 0 := fun y => by
      rw [y] at z1
      have := (ft_ps0 hR hj hT.1).mp z1.symm
      omega
    refine ⟨by omega, ?_⟩
    rw [← key j z.1.1 hj (ln s - 1) (by rw [Nat.sub_add_cancel (by omega)]; exact z1.symm)]
    exact z.1.2
/-- the sample that brought a node in -/
theorem ft_first (hV : ft_V N ps ns pa ln) {j : Nat} (h1 : 1 ≤ j) (hj : j < N) : ∃ s, s < ns ∧ ft_ov pa ln (ps j) s ∧ ∀ t, t < s → ¬ ft_ov pa ln (ps j) t := by
  obtain ⟨s, h1, h2⟩ := hV.2 j h1 hj
  obtain ⟨k, ⟨k1, k2⟩, k3⟩ := pk_least (fun s => s < ns ∧ ft_ov pa ln (ps j) s) ⟨s, h1, h2⟩
  exact ⟨k, k1, k2, fun t ht z => k3 t ht ⟨by omega, z⟩⟩
theorem ft_law_pth (hI : ft_FI N fn ab ch si ow to ps ns pa ln wt) (hS : ft_SI ns pa ln wt) {L : Nat} (hL : 1 ≤ L) : ft_sum N (fun j => if 1 ≤ j ∧ L ≤ to j then 1 else 0) = ft_pth ns pa ln wt L := by
  have hlen := fun j (hj : j < N) => ft_len hI.2.2.1 hI.2.1 hS hj
  obtain ⟨hT, hR, hV, hWt, -, -⟩ := hI
  have h1 : ft_sum N (fun j => if 1 ≤ j ∧ L ≤ to j then 1 else 0) = ft_sum N (fun j => ft_sum ns (fun s => ft_sum 8 (fun n => if (1 ≤ j ∧ L ≤ to j) ∧ n < ln s ∧ ft_fst pa ln s (n + 1) ∧ ps j = ft_rp (pa s) (n + 1) then 1 else 0))) := by
    refine ft_sum_c (fun j hj => ?_)
    show (if 1 ≤ j ∧ L ≤ to j then 1 else 0) = _
    by_cases e : 1 ≤ j ∧ L ≤ to j
    · rw [if_pos e]
      obtain ⟨s, hs, hov, hmin⟩ := ft_first hV e.1 hj
      have hp0 : (ps j).length ≠ 0 := fun z => by
        have := (ft_ps0 hR hj hT.1).mp (List.eq_nil_of_length_eq_zero z)
        omega
      have h8 := hlen j hj
      have hov1 := hov.1
      have hln : (ps j).length - 1 + 1 = (ps j).length := Nat.sub_add_cancel (by omega)
      symm
      rw [ft_sum_one (i := s) hs, ft_sum_one (i := (ps j).length - 1) (by omega)]
      · refine if_pos ⟨e, by omega, ?_, by rw [hln]; exact hov.2.symm⟩
        intro t ht
        rw [hln, hov.2]
        exact hmin t ht
      · intro n hn hne
        refine if_neg (fun z => hne ?_)
        have := congrArg List.length z.2.2.2
        rw [ft_rp_len] at this
        omega
      · intro s' hs' hne
        refine ft_sum_0 (fun n hn => if_neg (fun z => hne ?_))
        have zf := z.2.2.1
        have a1 : ¬ s < s' := fun q => by
          have := zf s q
          rw [← z.2.2.2] at this
          exact this hov
        have a2 : ¬ s' < s := fun q => by
          refine hmin s' q ?_
          rw [z.2.2.2]
          exact ft_ov_self (by omega)
        omega
    · rw [if_neg e]
      exact (ft_sum_0 (fun s hs => ft_sum_0 (fun n hn => if_neg (fun y => e y.1)))).symm
  rw [h1, ft_sum_swap]
  refine ft_sum_c (fun s hs => ?_)
  show ft_sum N (fun j => ft_sum 8 (fun n => if (1 ≤ j ∧ L ≤ to j) ∧ n < ln s ∧ ft_fst pa ln s (n + 1) ∧ ps j = ft_rp (pa s) (n + 1) then 1 else 0)) = ft_sum (ln s) (fun n => if L ≤ ft_nt ns pa ln wt s (n + 1) then 1 else 0)
  rw [ft_sum_swap, ft_sum_ext (hS.2.1 s)]
  refine ft_sum_c (fun n hn => ?_)
  show ft_sum N (fun j => if (1 ≤ j ∧ L ≤ to j) ∧ n < ln s ∧ ft_fst pa ln s (n + 1) ∧ ps j = ft_rp (pa s) (n + 1) then 1 else 0) = (if n < ln s then (if L ≤ ft_nt ns pa ln wt s (n + 1) then 1 else 0) else 0)
  by_cases e : n < ln s
  · rw [if_pos e]
    obtain ⟨j, hj, hpj⟩ := hV.1 s (n + 1) hs (by omega)
    have hj1 : 1 ≤ j := by
      have : j ≠ 0 := fun z => by
        rw [z, hR.1] at hpj
        cases hpj
      omega
    by_cases g : L ≤ ft_nt ns pa ln wt s (n + 1)
    · rw [if_pos g]
      have g2 := (ft_nt_iff hL).mp g
      rw [ft_sum_one (i := j) hj]
      · exact if_pos ⟨⟨hj1, by rw [hWt.1 j hj, hpj]; exact g2.2⟩, e, g2.1, hpj⟩
      · intro j' hj' hne
        exact if_neg (fun z => hne (hR.2.2 _ _ hj' hj (z.2.2.2.trans hpj.symm)))
    · rw [if_neg g]
      refine ft_sum_0 (fun j' hj' => if_neg (fun z => g ((ft_nt_iff hL).mpr ⟨z.2.2.1, ?_⟩)))
      rw [← z.2.2.2, ← hWt.1 j' hj']
      exact z.1.2
  · rw [if_neg e]
    exact ft_sum_0 (fun j hj => if_neg (fun z => e z.2.1))
theorem ft_law_dp (hI : ft_FI N fn ab ch si ow to ps ns pa ln wt) {L : Nat} (hL : 1 ≤ L) : ft_max N (fun j => if 1 ≤ j ∧ L ≤ to j then (ps j).length else 0) = ft_dp ns pa ln wt L := by
  obtain ⟨hT, hR, hV, hWt, -, -⟩ := hI
  refine Nat.le_antisymm (ft_max_le (fun j hj => ?_)) (ft_max_le (fun s hs => ft_max_le (fun n hn => ?_)))
  · show (if 1 ≤ j ∧ L ≤ to j then (ps j).length else 0) ≤ _
    by_cases e : 1 ≤ j ∧ L ≤ to j
    · rw [if_pos e]
      obtain ⟨s, hs, hov, hmin⟩ := ft_first hV e.1 hj
      have hp0 : (ps j).length ≠ 0 := fun z => by
        have := (ft_ps0 hR hj hT.1).mp (List.eq_nil_of_length_eq_zero z)
        omega
      have hov1 := hov.1
      have hln : (ps j).length - 1 + 1 = (ps j).length := Nat.sub_add_cancel (by omega)
      have a1 : ft_max (ln s) (fun n => if L ≤ ft_nt ns pa ln wt s (n + 1) then n + 1 else 0) ≤ ft_dp ns pa ln wt L := ft_le_max (g := fun s => ft_max (ln s) (fun n => if L ≤ ft_nt ns pa ln wt s (n + 1) then n + 1 else 0)) hs
      have a2 := ft_le_max (g := fun n => if L ≤ ft_nt ns pa ln wt s (n + 1) then n + 1 else 0) (i := (ps j).length - 1) (n := ln s) (by omega)
      have a3 : L ≤ ft_nt ns pa ln wt s ((ps j).length - 1 + 1) := (ft_nt_iff hL).mpr ⟨by
        intro t ht
        rw [hln, hov.2]
        exact hmin t ht, by
        rw [hln, hov.2, ← hWt.1 j hj]
        exact e.2⟩
      have a4 : (if L ≤ ft_nt ns pa ln wt s ((ps j).length - 1 + 1) then (ps j).length - 1 + 1 else 0) ≤ ft_max (ln s) (fun n => if L ≤ ft_nt ns pa ln wt s (n + 1) then n + 1 else 0) := a2
      rw [if_pos a3, hln] at a4
      exact Nat.le_trans a4 a1
    · rw [if_neg e]
      exact Nat.zero_le _
  · show (if L ≤ ft_nt ns pa ln wt s (n + 1) then n + 1 else 0) ≤ _
    by_cases g : L ≤ ft_nt ns pa ln wt s (n + 1)
    · rw [if_pos g]
      have g2 := (ft_nt_iff hL).mp g
      obtain ⟨j, hj, hpj⟩ := hV.1 s (n + 1) hs (by omega)
      have hj1 : 1 ≤ j := by
        have : j ≠ 0 := fun z => by
          rw [z, hR.1] at hpj
          cases hpj
        omega
      have a1 := ft_le_max (g := fun j => if 1 ≤ j ∧ L ≤ to j then (ps j).length else 0) hj
      have a2 : (if 1 ≤ j ∧ L ≤ to j then (ps j).length else 0) ≤ ft_max N (fun j => if 1 ≤ j ∧ L ≤ to j then (ps j).length else 0) := a1
      rw [if_pos ⟨hj1, by rw [hWt.1 j hj, hpj]; exact g2.2⟩, hpj, ft_rp_len] at a2
      exact a2
    · rw [if_neg g]
      exact Nat.zero_le _
theorem ft_law_hot (hI : ft_FI N fn ab ch si ow to ps ns pa ln wt) (hS : ft_SI ns pa ln wt) {i : Nat} (hi : i < N) {r : Int32}
    (h : (r = -1 ∧ ∀ j, 1 ≤ j → j < N → ab j ≠ i) ∨ ∃ b, 1 ≤ b ∧ b < N ∧ ab b = i ∧ r = nI (fn b) ∧ ∀ j, 1 ≤ j → j < N → ab j = i → to j < to b ∨ (to j = to b ∧ fn b ≤ fn j)) : ∃ mo, ft_hot 8 (fun f => ft_tot ns pa ln wt (f :: ps i)) r mo := by
  obtain ⟨hT, hR, hV, hWt, -, -⟩ := hI
  rcases h with ⟨h1, h2⟩ | ⟨b, b1, b2, b3, b4, b5⟩
  · refine ⟨0, Or.inl ⟨h1, rfl, fun g hg => ?_⟩⟩
    exact ft_tot_none hV (ft_cw0 hT hR hi (fun k k1 k2 k3 => absurd k3 (h2 k k1 k2)))
  · have eb : ∀ j, 1 ≤ j → j < N → ab j = i → to j = ft_tot ns pa ln wt (fn j :: ps i) := fun j j1 j2 j3 => by rw [hWt.1 j j2, hR.2.1 j j1 j2, j3]
    refine ⟨to b, Or.inr ⟨fn b, ?_, b4, eb b b1 b2 b3, ?_, fun g hg => ?_⟩⟩
    · have := (hT.2.1 b b1 b2).2
      omega
    · show 0 < ft_tot ns pa ln wt (fn b :: ps i)
      rw [← eb b b1 b2 b3, hWt.1 b b2]
      obtain ⟨s, hs, hov⟩ := hV.2 b b1 b2
      have h5 : ∀ (n : Nat) (f : Nat → Nat) (k : Nat), k < n → f k ≤ ft_sum n f := by
        intro n f
        induction n with
        | zero => intro k hk; omega
        | succ n ih =>
          intro k hk
          show f k ≤ ft_sum n f + f n
          by_cases e : k = n
          · subst e
            omega
          · have := ih k (by omega)
            omega
      have h6 : (if ft_ov pa ln (ps b) s then wt s else 0) ≤ ft_tot ns pa ln wt (ps b) := h5 ns (fun s => if ft_ov pa ln (ps b) s then wt s else 0) s hs
      rw [if_pos hov] at h6
      have := hS.2.2.2.1 s hs
      omega
    · show ft_tot ns pa ln wt (g :: ps i) < ft_tot ns pa ln wt (fn b :: ps i) ∨ (ft_tot ns pa ln wt (g :: ps i) = ft_tot ns pa ln wt (fn b :: ps i) ∧ fn b ≤ g)
      by_cases e : ∃ j, 1 ≤ j ∧ j < N ∧ ab j = i ∧ fn j = g
      · obtain ⟨j, j1, j2, j3, j4⟩ := e
        have := b5 j j1 j2 j3
        rw [eb j j1 j2 j3, eb b b1 b2 b3, j4] at this
        exact this
      · left
        rw [ft_tot_none hV (p := g :: ps i) (ft_cw0 hT hR hi (fun k k1 k2 k3 k4 => e ⟨k, k1, k2, k3, k4⟩)), ← eb b b1 b2 b3, hWt.1 b b2]
        obtain ⟨s, hs, hov⟩ := hV.2 b b1 b2
        have h5 : ∀ (n : Nat) (f : Nat → Nat) (k : Nat), k < n → f k ≤ ft_sum n f := by
          intro n f
          induction n with
          | zero => intro k hk; omega
          | succ n ih =>
            intro k hk
            show f k ≤ ft_sum n f + f n
            by_cases e : k = n
            · subst e
              omega
            · have := ih k (by omega)
              omega
        have h6 : (if ft_ov pa ln (ps b) s then wt s else 0) ≤ ft_tot ns pa ln wt (ps b) := h5 ns (fun s => if ft_ov pa ln (ps b) s then wt s else 0) s hs
        rw [if_pos hov] at h6
        have := hS.2.2.2.1 s hs
        omega
end
end
section
/-! PLAIN: one more sample: the tree stage by stage -/
theorem ft_if {α : Type} {a b : Prop} [Decidable a] [Decidable b] {x y : α} (h : a ↔ b) : (if a then x else y) = (if b then x else y) := by
  by_cases z : a
  · rw [if_pos z, if_pos (h.mp z)]
  · rw [if_neg z, if_neg (fun q => z (h.mpr q))]
section
variable {N : Nat} {fn ab ch si ow to : Nat → Nat} {ps : Nat → List Nat} {ns : Nat} {pa : Nat → Nat → Nat} {ln wt : Nat → Nat} {sk : Nat → Nat} {k w : Nat} {p : List Nat}
theorem ft_ov_old {s : Nat} (h : s ≠ ns) : ft_ov (ft_up pa ns sk) (ft_up ln ns k) p s ↔ ft_ov pa ln p s := by
  show p.length ≤ ft_up ln ns k s ∧ ft_rp (ft_up pa ns sk s) p.length = p ↔ _
  rw [ft_up_n ln k h, ft_up_n pa sk h]
theorem ft_ov_at : ft_ov (ft_up pa ns sk) (ft_up ln ns k) p ns ↔ p.length ≤ k ∧ ft_rp sk p.length = p := by
  show p.length ≤ ft_up ln ns k ns ∧ ft_rp (ft_up pa ns sk ns) p.length = p ↔ _
  rw [ft_up_s ln, ft_up_s pa]
theorem ft_ov_up {s : Nat} (h : ft_ov (ft_up pa ns sk) (ft_up ln ns k) p s) : ft_ov (ft_up pa ns sk) (ft_up ln ns (k + 1)) p s := by
  by_cases e : s = ns
  · subst e
    have := ft_ov_at.mp h
    exact ft_ov_at.mpr ⟨by omega, this.2⟩
  · exact (ft_ov_old e).mpr ((ft_ov_old e).mp h)
theorem ft_tot_s : ft_tot (ns + 1) (ft_up pa ns sk) (ft_up ln ns k) (ft_up wt ns w) p = ft_tot ns pa ln wt p + (if p.length ≤ k ∧ ft_rp sk p.length = p then w else 0) := by
  show ft_sum ns (fun s => if ft_ov (ft_up pa ns sk) (ft_up ln ns k) p s then ft_up wt ns w s else 0) + (if ft_ov (ft_up pa ns sk) (ft_up ln ns k) p ns then ft_up wt ns w ns else 0) = _
  have h1 : ft_sum ns (fun s => if ft_ov (ft_up pa ns sk) (ft_up ln ns k) p s then ft_up wt ns w s else 0) = ft_tot ns pa ln wt p := ft_sum_c (fun s hs => by
    show (if ft_ov (ft_up pa ns sk) (ft_up ln ns k) p s then ft_up wt ns w s else 0) = (if ft_ov pa ln p s then wt s else 0)
    have hne : s ≠ ns := by omega
    rw [ft_up_n wt w hne]
    exact ft_if (ft_ov_old hne))
  rw [h1, ft_up_s wt]
  exact congrArg (fun x => ft_tot ns pa ln wt p + x) (ft_if ft_ov_at)
theorem ft_own_s : ft_own (ns + 1) (ft_up pa ns sk) (ft_up ln ns k) (ft_up wt ns w) p = ft_own ns pa ln wt p + (if (p.length ≤ k ∧ ft_rp sk p.length = p) ∧ k = p.length then w else 0) := by
  show ft_sum ns (fun s => if ft_ov (ft_up pa ns sk) (ft_up ln ns k) p s ∧ ft_up ln ns k s = p.length then ft_up wt ns w s else 0) + (if ft_ov (ft_up pa ns sk) (ft_up ln ns k) p ns ∧ ft_up ln ns k ns = p.length then ft_up wt ns w ns else 0) = _
  have h1 : ft_sum ns (fun s => if ft_ov (ft_up pa ns sk) (ft_up ln ns k) p s ∧ ft_up ln ns k s = p.length then ft_up wt ns w s else 0) = ft_own ns pa ln wt p := ft_sum_c (fun s hs => by
    show (if ft_ov (ft_up pa ns sk) (ft_up ln ns k) p s ∧ ft_up ln ns k s = p.length then ft_up wt ns w s else 0) = (if ft_ov pa ln p s ∧ ln s = p.length then wt s else 0)
    have hne : s ≠ ns := by omega
    rw [ft_up_n wt w hne]
    exact ft_if (and_congr (ft_ov_old hne) (by rw [ft_up_n ln k hne])))
  rw [h1, ft_up_s wt]
  exact congrArg (fun x => ft_own ns pa ln wt p + x) (ft_if (and_congr ft_ov_at (by rw [ft_up_s ln])))
end
def ft_St (k N : Nat) (fn ab ch si ow to : Nat → Nat) (ps : Nat → List Nat) (ns : Nat) (pa : Nat → Nat → Nat) (ln wt sk : Nat → Nat) (w node : Nat) : Prop :=
  ft_T N fn ab ch si ∧ ft_R N fn ab ps ∧ ft_V N ps (ns + 1) (ft_up pa ns sk) (ft_up ln ns k) ∧ ft_Wt N to ps (ns + 1) (ft_up pa ns sk) (ft_up ln ns k) (ft_up wt ns w) ∧ ft_Wo N ow ps ns pa ln wt ∧ N ≤ 1 + ft_sum ns ln + k ∧ node < N ∧ ps node = ft_rp sk k
section
variable {N : Nat} {fn ab ch si ow to : Nat → Nat} {ps : Nat → List Nat} {ns : Nat} {pa : Nat → Nat → Nat} {ln wt : Nat → Nat} {sk : Nat → Nat} {k w node : Nat}
theorem ft_St_0 (sk : Nat → Nat) (w : Nat) (hI : ft_FI N fn ab ch si ow to ps ns pa ln wt) : ft_St 0 N fn ab ch si ow (ft_up to 0 (to 0 + w)) ps ns pa ln wt sk w 0 := by
  obtain ⟨hT, hR, hV, hWt, hWo, hN⟩ := hI
  have hN1 := hT.1
  refine ⟨hT, hR, ⟨fun s n hs hn => ?_, fun j h1 hj => ?_⟩, ⟨fun j hj => ?_, fun j hj => ?_⟩, hWo, by omega, hT.1, hR.1⟩
  · by_cases e : s = ns
    · subst e
      rw [ft_up_s ln] at hn
      have : n = 0 := by omega
      subst this
      exact ⟨0, hT.1, hR.1⟩
    · rw [ft_up_n ln 0 e] at hn
      rw [ft_up_n pa sk e]
      exact hV.1 s n (by omega) hn
  · obtain ⟨s, hs, hov⟩ := hV.2 j h1 hj
    exact ⟨s, by omega, (ft_ov_old (by omega)).mpr hov⟩
  · rw [ft_tot_s]
    by_cases e : j = 0
    · subst e
      rw [ft_up_s to, hWt.1 0 hj, if_pos (by rw [hR.1]; exact ⟨Nat.le_refl 0, rfl⟩)]
    · rw [ft_up_n to _ e, hWt.1 j hj, if_neg]
      · omega
      · intro z
        exact e ((ft_ps0 hR hj hT.1).mp (List.eq_nil_of_length_eq_zero (by omega)))
  · rw [ft_up_n to _ (by omega)]
    exact hWt.2 j hj
theorem ft_St_found (h : ft_St k N fn ab ch si ow to ps ns pa ln wt sk w node) {j' : Nat} (h1 : 1 ≤ j') (hj' : j' < N) (hab : ab j' = node) (hfn : fn j' = sk k) : ft_St (k + 1) N fn ab ch si ow (ft_up to j' (to j' + w)) ps ns pa ln wt sk w j' := by
  obtain ⟨hT, hR, hV, hWt, hWo, hN, hn, hp⟩ := h
  have hpj : ps j' = ft_rp sk (k + 1) := by
    rw [hR.2.1 j' h1 hj', hab, hfn, hp]
    rfl
  refine ⟨hT, hR, ⟨fun s n hs hn => ?_, fun j h1 hj => ?_⟩, ⟨fun j hj => ?_, fun j hj => ?_⟩, hWo, by omega, hj', hpj⟩
  · have hv := hV.1 s n hs
    by_cases e : s = ns
    · subst e
      rw [ft_up_s ln] at hn hv
      rw [ft_up_s pa] at hv ⊢
      by_cases z : n = k + 1
      · subst z
        exact ⟨j', hj', hpj⟩
      · exact hv (by omega)
    · rw [ft_up_n ln _ e] at hn hv
      exact hv hn
  · obtain ⟨s, hs, hov⟩ := hV.2 j h1 hj
    exact ⟨s, hs, ft_ov_up hov⟩
  · have hw := hWt.1 j hj
    rw [ft_tot_s] at hw ⊢
    by_cases e : j = j'
    · subst e
      rw [ft_up_s to, hw, if_neg, if_pos]
      · omega
      · rw [hpj, ft_rp_len]
        exact ⟨Nat.le_refl _, rfl⟩
      · rw [hpj, ft_rp_len]
        omega
    · rw [ft_up_n to _ e, hw]
      refine congrArg (fun x => ft_tot ns pa ln wt (ps j) + x) (ft_if ⟨fun z => ⟨by omega, z.2⟩, fun z => ⟨?_, z.2⟩⟩)
      have : (ps j).length ≠ k + 1 := fun q => by
        have z2 := z.2
        rw [q] at z2
        exact e (hR.2.2 _ _ hj hj' (z2.symm.trans hpj.symm))
      omega
  · rw [ft_up_n to _ (by omega)]
    exact hWt.2 j hj
theorem ft_St_new (h : ft_St k N fn ab ch si ow to ps ns pa ln wt sk w node) (hno : ∀ j, 1 ≤ j → j < N → ab j = node → fn j ≠ sk k) (hsk : sk k ≤ 7) :
    ft_St (k + 1) (N + 1) (ft_up fn N (sk k)) (ft_up ab N node) (ft_up ch node N) (ft_up si N (ch node)) ow (ft_up to N (to N + w)) (ft_up ps N (ft_rp sk (k + 1))) ns pa ln wt sk w N := by
  obtain ⟨hT, hR, hV, hWt, hWo, hN, hn, hp⟩ := h
  have hN1 := hT.1
  have hfresh : ∀ j, j < N → ps j ≠ ft_rp sk (k + 1) := by
    have := ft_cw0 hT hR hn hno
    rw [hp] at this
    exact this
  refine ⟨⟨by omega, fun j h1 hj => ?_, fun i => ?_, fun j h1 hj => ?_⟩, ⟨?_, fun j h1 hj => ?_, fun i j hi hj e => ?_⟩, ⟨fun s n hs hn => ?_, fun j h1 hj => ?_⟩, ⟨fun j hj => ?_, fun j hj => ?_⟩, ⟨fun j hj => ?_, fun j hj => ?_⟩, by omega, by omega, ft_up_s ps _ _⟩
  · by_cases e : j = N
    · subst e
      rw [ft_up_s ab, ft_up_s fn]
      exact ⟨hn, hsk⟩
    · rw [ft_up_n ab _ e, ft_up_n fn _ e]
      exact hT.2.1 j h1 (by omega)
  · by_cases e : i = node
    · subst e
      rw [ft_up_s ch]
      exact Or.inr ⟨hN1, by omega, ft_up_s ab _ _, fun j a b => by omega⟩
    · rw [ft_up_n ch _ e]
      rcases hT.2.2.1 i with ⟨c1, c2⟩ | ⟨c1, c2, c3, c4⟩
      · refine Or.inl ⟨c1, fun j h1 hj => ?_⟩
        by_cases z : j = N
        · subst z
          rw [ft_up_s ab]
          exact fun q => e q.symm
        · rw [ft_up_n ab _ z]
          exact c2 j h1 (by omega)
      · refine Or.inr ⟨c1, by omega, by rw [ft_up_n ab _ (by omega)]; exact c3, fun j h1 hj => ?_⟩
        by_cases z : j = N
        · subst z
          rw [ft_up_s ab]
          exact fun q => e q.symm
        · rw [ft_up_n ab _ z]
          exact c4 j h1 (by omega)
  · have conv : ∀ i n c, n ≤ N → ft_L ab i n c → ft_L (ft_up ab N node) i n c := by
      intro i n c hnN hL
      rcases hL with ⟨c1, c2⟩ | ⟨c1, c2, c3, c4⟩
      · exact Or.inl ⟨c1, fun j h1 hj => by rw [ft_up_n ab _ (by omega)]; exact c2 j h1 hj⟩
      · exact Or.inr ⟨c1, c2, by rw [ft_up_n ab _ (by omega)]; exact c3, fun j h1 hj => by rw [ft_up_n ab _ (by omega)]; exact c4 j h1 hj⟩
    by_cases e : j = N
    · subst e
      rw [ft_up_s si, ft_up_s ab]
      exact conv _ _ _ (Nat.le_refl _) (hT.2.2.1 node)
    · rw [ft_up_n si _ e, ft_up_n ab _ e]
      exact conv _ _ _ (by omega) (hT.2.2.2 j h1 (by omega))
  · rw [ft_up_n ps _ (by omega)]
    exact hR.1
  · by_cases e : j = N
    · subst e
      rw [ft_up_s ps, ft_up_s fn, ft_up_s ab, ft_up_n ps _ (by omega), hp]
      rfl
    · have := (hT.2.1 j h1 (by omega)).1
      rw [ft_up_n ps _ e, ft_up_n fn _ e, ft_up_n ab _ e, ft_up_n ps _ (by omega)]
      exact hR.2.1 j h1 (by omega)
  · by_cases ei : i = N
    · by_cases ej : j = N
      · omega
      · subst ei
        rw [ft_up_s ps, ft_up_n ps _ ej] at e
        exact absurd e.symm (hfresh j (by omega))
    · by_cases ej : j = N
      · subst ej
        rw [ft_up_s ps, ft_up_n ps _ ei] at e
        exact absurd e (hfresh i (by omega))
      · rw [ft_up_n ps _ ei, ft_up_n ps _ ej] at e
        exact hR.2.2 i j (by omega) (by omega) e
  · have old : (∃ j, j < N ∧ ps j = ft_rp (ft_up pa ns sk s) n) → ∃ j, j < N + 1 ∧ ft_up ps N (ft_rp sk (k + 1)) j = ft_rp (ft_up pa ns sk s) n := by
      rintro ⟨j, a, b⟩
      exact ⟨j, by omega, by rw [ft_up_n ps _ (by omega)]; exact b⟩
    have hv := hV.1 s n hs
    by_cases e : s = ns
    · subst e
      rw [ft_up_s ln] at hn hv
      by_cases z : n = k + 1
      · subst z
        exact ⟨N, by omega, by rw [ft_up_s ps, ft_up_s pa]⟩
      · exact old (hv (by omega))
    · rw [ft_up_n ln _ e] at hn hv
      exact old (hv hn)
  · by_cases e : j = N
    · subst e
      refine ⟨ns, by omega, ft_ov_at.mpr ?_⟩
      rw [ft_up_s ps, ft_rp_len]
      exact ⟨Nat.le_refl _, rfl⟩
    · obtain ⟨s, hs, hov⟩ := hV.2 j h1 (by omega)
      refine ⟨s, hs, ?_⟩
      rw [ft_up_n ps _ e]
      exact ft_ov_up hov
  · by_cases e : j = N
    · subst e
      have h0 := ft_tot_none (wt := ft_up wt ns w) hV hfresh
      rw [ft_tot_s] at h0
      rw [ft_tot_s, ft_up_s to, ft_up_s ps, hWt.2 j (Nat.le_refl _), if_pos (by rw [ft_rp_len]; exact ⟨Nat.le_refl _, rfl⟩)]
      omega
    · have hw := hWt.1 j (by omega)
      rw [ft_tot_s] at hw ⊢
      rw [ft_up_n to _ e, ft_up_n ps _ e, hw]
      refine congrArg (fun x => ft_tot ns pa ln wt (ps j) + x) (ft_if ⟨fun z => ⟨by omega, z.2⟩, fun z => ⟨?_, z.2⟩⟩)
      have : (ps j).length ≠ k + 1 := fun q => by
        have z2 := z.2
        rw [q] at z2
        exact hfresh j (by omega) z2.symm
      omega
  · rw [ft_up_n to _ (by omega)]
    exact hWt.2 j (by omega)
  · by_cases e : j = N
    · subst e
      rw [hWo.2 j (Nat.le_refl _), ft_up_s ps]
      symm
      refine ft_sum_0 (fun s hs => if_neg (fun z => ?_))
      have e : s ≠ ns := by omega
      have z1 := z.1.1
      have z2 := z.1.2
      rw [ft_rp_len] at z1 z2
      have hv := hV.1 s (k + 1) (by omega)
      rw [ft_up_n ln _ e, ft_up_n pa _ e] at hv
      obtain ⟨j, a, b⟩ := hv z1
      exact hfresh j a (b.trans z2)
    · rw [ft_up_n ps _ e]
      exact hWo.1 j (by omega)
  · exact hWo.2 j (by omega)
theorem ft_St_end (h : ft_St k N fn ab ch si ow to ps ns pa ln wt sk w node) : ft_FI N fn ab ch si (ft_up ow node (ow node + w)) to ps (ns + 1) (ft_up pa ns sk) (ft_up ln ns k) (ft_up wt ns w) := by
  obtain ⟨hT, hR, hV, hWt, hWo, hN, hn, hp⟩ := h
  refine ⟨hT, hR, hV, hWt, ⟨fun j hj => ?_, fun j hj => ?_⟩, ?_⟩
  · rw [ft_own_s]
    by_cases e : j = node
    · subst e
      rw [ft_up_s ow, hWo.1 j hj, if_pos]
      rw [hp, ft_rp_len]
      exact ⟨⟨Nat.le_refl _, rfl⟩, rfl⟩
    · rw [ft_up_n ow _ e, hWo.1 j hj, if_neg]
      · omega
      · intro z
        have z2 := z.1.2
        rw [← z.2] at z2
        exact e (hR.2.2 _ _ hj hn (z2.symm.trans hp.symm))
  · rw [ft_up_n ow _ (by omega)]
    exact hWo.2 j hj
  · show N ≤ 1 + (ft_sum ns (ft_up ln ns k) + ft_up ln ns k ns)
    rw [ft_up_s ln, ft_sum_c (f := ft_up ln ns k) (g := ln) (fun i hi => ft_up_n ln _ (by omega))]
    omega
theorem ft_SI_s (h : ft_SI ns pa ln wt) (h1 : ns < 40) (h2 : k ≤ 8) (h3 : 1 ≤ w) (h4 : w ≤ 100) (h5 : ∀ i, sk i ≤ 7) : ft_SI (ns + 1) (ft_up pa ns sk) (ft_up ln ns k) (ft_up wt ns w) := by
  refine ⟨by omega, fun s => ?_, fun s => ?_, fun s hs => ?_, fun s i hs hi => ?_⟩
  · by_cases e : s = ns
    · subst e
      rw [ft_up_s ln]; exact h2
    · rw [ft_up_n ln _ e]; exact h.2.1 s
  · by_cases e : s = ns
    · subst e
      rw [ft_up_s wt]; exact h4
    · rw [ft_up_n wt _ e]; exact h.2.2.1 s
  · by_cases e : s = ns
    · subst e
      rw [ft_up_s wt]; exact h3
    · rw [ft_up_n wt _ e]; exact h.2.2.2.1 s (by omega)
  · by_cases e : s = ns
    · subst e
      rw [ft_up_s pa]; exact h5 i
    · rw [ft_up_n ln _ e] at hi
      rw [ft_up_n pa _ e]; exact h.2.2.2.2 s i (by omega) hi
/-- the empty tree -/
theorem ft_FI_0 : ft_FI 1 (fun _ => 0) (fun _ => 0) (fun _ => 0) (fun _ => 0) (fun _ => 0) (fun _ => 0) (fun _ => []) 0 (fun _ _ => 0) (fun _ => 0) (fun _ => 0) := by
  refine ⟨⟨Nat.le_refl _, fun j a b => by omega, fun i => Or.inl ⟨rfl, fun j a b => by omega⟩, fun j a b => by omega⟩, ⟨rfl, fun j a b => by omega, fun i j a b _ => by omega⟩, ⟨fun s n a => by omega, fun j a b => by omega⟩, ⟨fun j _ => rfl, fun j _ => rfl⟩, ⟨fun j _ => rfl, fun j _ => rfl⟩, Nat.le_refl _⟩
theorem ft_SI_0 : ft_SI 0 (fun _ _ => 0) (fun _ => 0) (fun _ => 0) := ⟨by omega, fun _ => Nat.zero_le _, fun _ => Nat.zero_le _, fun s h => absurd h (Nat.not_lt_zero s), fun s i h => absurd h (Nat.not_lt_zero s)⟩
end
end
section
/-! ROWS: short forms of the kit's rows, pictures of the two objects, calls -/
abbrev vwCl : List vw_C := [(RX0, TX0, 10), (RX1, TX1, 6)]
theorem fx_z0 {n : Nat} (h : n < 2 ^ 31) : nI n = 0 ↔ n = 0 := by
  rw [← nI_0, nI_eq h (by decide)]
theorem fx_zl {n : Nat} (h : n < 2 ^ 31) : nI n ≤ 0 ↔ n = 0 := by
  rw [← nI_0, nI_leI h (by decide)]; omega
theorem fx_zn {n : Nat} (h : n < 2 ^ 31) : nI n < 0 ↔ False := by
  rw [← nI_0, nI_ltI h (by decide)]; exact ⟨fun z => absurd z (Nat.not_lt_zero n), False.elim⟩
theorem fx_zp {n : Nat} (h : n < 2 ^ 31) : 0 ≤ nI n ↔ True := by
  rw [← nI_0, nI_leI (by decide) h]; exact ⟨fun _ => trivial, fun _ => Nat.zero_le _⟩
theorem fx_b {P : Prop} [Decidable P] : (if P then (1 : Int32) else 0) = 0 ↔ ¬ P := by
  by_cases h : P
  · rw [if_pos h]; exact ⟨fun z => absurd z (by decide), fun z => absurd h z⟩
  · rw [if_neg h]; exact ⟨fun _ => h, fun _ => rfl⟩
/-- is it a function: 0 .. 7 -/
theorem fx_fun (x : Int32) : (0 ≤ x ∧ x ≤ 7) ∨ ¬ (0 ≤ x ∧ x ≤ 7) := Decidable.em _
theorem fx_fun_n {x : Int32} (h : 0 ≤ x ∧ x ≤ 7) : ∃ f : Nat, f ≤ 7 ∧ x = nI f := by
  refine nI_of2 (M := 7) (n := 7) (by decide) ?_ h.2
  intro z
  have h0 := h.1
  rw [Int32.lt_iff_toInt_lt] at z
  rw [Int32.le_iff_toInt_le] at h0
  omega
section
variable {p : Program} {l : Launch} {e : Env} {R : Room} {s : State} {m : MethodId} {args : Array Value} {below : List Frame} {meth : Method} {c : Code} {H : Heap} {locs : List Loc} {cells slots : Nat} {Q : State → Prop}
variable {cc : ByteArray} {pc : Nat} {ls : Array Slot} {rest : List Value}
variable {D : va_G} {cl : List vw_C} {tys : List (ClassId × FieldType)} {ws : va_W} {A : Nat → Prop} {H0 : Heap} {a : Nat}
theorem fx_add (hx : p.tables.exec = Jvm.exec) (hb : c.code = cc) {x y v : Int32} (hdg : decode cc pc = .ok (.iadd, 1)) (hv : x + y = v) (k : W p l e R s m args below meth c H locs cells slots Q (F0 m (pc + 1) ls (.int v :: rest))) : W p l e R s m args below meth c H locs cells slots Q (F0 m pc ls (.int y :: .int x :: rest)) := by
  subst hv
  exact lv_iadd hx hb hdg k
theorem fx_sub (hx : p.tables.exec = Jvm.exec) (hb : c.code = cc) {x y v : Int32} (hdg : decode cc pc = .ok (.isub, 1)) (hv : x - y = v) (k : W p l e R s m args below meth c H locs cells slots Q (F0 m (pc + 1) ls (.int v :: rest))) : W p l e R s m args below meth c H locs cells slots Q (F0 m pc ls (.int y :: .int x :: rest)) := by
  subst hv
  exact lv_isub hx hb hdg k
theorem fx_mul (hx : p.tables.exec = Jvm.exec) (hb : c.code = cc) {x y v : Int32} (hdg : decode cc pc = .ok (.imul, 1)) (hv : x * y = v) (k : W p l e R s m args below meth c H locs cells slots Q (F0 m (pc + 1) ls (.int v :: rest))) : W p l e R s m args below meth c H locs cells slots Q (F0 m pc ls (.int y :: .int x :: rest)) := by
  subst hv
  exact lv_imul hx hb hdg k
theorem fx_inc (hx : p.tables.exec = Jvm.exec) (hb : c.code = cc) {i nL k0 : Nat} {x v : Int32} {lv lv' : List (Nat × Value)} (hdg : decode cc pc = .ok (.iinc i 1, 3)) (h : lv_has ls nL lv) (hk : lv[k0]? = some (i, .int x)) (hv : x + 1 = v) (hn : i < nL) (hl : (i, Value.int v) :: lv.filter (fun q => !(q.1 == i) && !(q.1 + 1 == i && q.2.category == 2)) = lv')
    (kk : ∀ ls' : Array Slot, lv_has ls' nL lv' → W p l e R s m args below meth c H locs cells slots Q (F0 m (pc + 3) ls' rest)) : W p l e R s m args below meth c H locs cells slots Q (F0 m pc ls rest) :=
  lv_iinc (x := x) (v := v) hx hb hdg h hk (by rw [← hv]; rfl) hn hl kk
theorem fx_ald (hx : p.tables.exec = Jvm.exec) (hb : c.code = cc) (hK : va_K D cl tys s) (hP : va_P D cl ws H) (q0 : Nat) {cA : ClassId} {n : Nat} {f : Nat → Int32} (ha : ws[q0]? = some (a, .inl (cA, n, .inl f))) (ht : tys[0]? = some (cA, .int)) {k : Nat} {v : Int32} (hk : k < n) (hn : n < 2 ^ 31) (hv : f k = v) (hdg : decode cc pc = .ok (.iaload, 1))
    (kk : W p l e R s m args below meth c H locs cells slots Q (F0 m (pc + 1) ls (.int v :: rest))) : W p l e R s m args below meth c H locs cells slots Q (F0 m pc ls (.int (nI k) :: .ref a :: rest)) := by
  subst hv
  refine va_iald hx hb hK hP q0 0 ha ht (vp_in_nI hk hn) hdg ?_
  rw [nI_clamp (by omega)]
  exact kk
theorem fx_ast (hx : p.tables.exec = Jvm.exec) (hb : c.code = cc) (hK : va_K D cl tys s) (hP : va_P D cl ws H) (hD : va_D A ws) (hS : va_S A H0 H locs) (q0 : Nat) {cA : ClassId} {n : Nat} {f g : Nat → Int32} (ha : ws[q0]? = some (a, .inl (cA, n, .inl f))) (ht : tys[0]? = some (cA, .int)) {k : Nat} {x : Int32} (hk : k < n) (hn : n < 2 ^ 31) (hg : upd f k x = g) {ws' : va_W} (hw : ws.set q0 (a, .inl (cA, n, .inl g)) = ws') (hdg : decode cc pc = .ok (.iastore, 1))
    (kk : ∀ (H1 : Heap) (locs1 : List Loc), va_P D cl ws' H1 → va_D A ws' → va_S A H0 H1 locs1 → W p l e R s m args below meth c H1 locs1 cells slots Q (F0 m (pc + 1) ls rest)) : W p l e R s m args below meth c H locs cells slots Q (F0 m pc ls (.int x :: .int (nI k) :: .ref a :: rest)) := by
  subst hg
  subst hw
  refine va_iast hx hb hK hP hD hS q0 0 ha ht (vp_in_nI hk hn) hdg ?_
  rw [nI_clamp (by omega)]
  exact kk
theorem fx_ge (hx : p.tables.exec = Jvm.exec) (hb : c.code = cc) {x y : Int32} {off : Int} {tgt : Nat} {P : Prop} (hdg : decode cc pc = .ok (.if_icmp .ge off, 3)) (ht : (pc : Int) + off = (tgt : Int)) (hP : y ≤ x ↔ P)
    (kt : P → W p l e R s m args below meth c H locs cells slots Q (F0 m tgt ls rest)) (kf : ¬ P → W p l e R s m args below meth c H locs cells slots Q (F0 m (pc + 3) ls rest)) : W p l e R s m args below meth c H locs cells slots Q (F0 m pc ls (.int y :: .int x :: rest)) := lv_icmp_ge hx hb hdg ht (fun h => kt (hP.mp h)) (fun h => kf (fun z => h (hP.mpr z)))
theorem fx_lt (hx : p.tables.exec = Jvm.exec) (hb : c.code = cc) {x y : Int32} {off : Int} {tgt : Nat} {P : Prop} (hdg : decode cc pc = .ok (.if_icmp .lt off, 3)) (ht : (pc : Int) + off = (tgt : Int)) (hP : x < y ↔ P)
    (kt : P → W p l e R s m args below meth c H locs cells slots Q (F0 m tgt ls rest)) (kf : ¬ P → W p l e R s m args below meth c H locs cells slots Q (F0 m (pc + 3) ls rest)) : W p l e R s m args below meth c H locs cells slots Q (F0 m pc ls (.int y :: .int x :: rest)) := lv_icmp_lt hx hb hdg ht (fun h => kt (hP.mp h)) (fun h => kf (fun z => h (hP.mpr z)))
theorem fx_gt (hx : p.tables.exec = Jvm.exec) (hb : c.code = cc) {x y : Int32} {off : Int} {tgt : Nat} {P : Prop} (hdg : decode cc pc = .ok (.if_icmp .gt off, 3)) (ht : (pc : Int) + off = (tgt : Int)) (hP : y < x ↔ P)
    (kt : P → W p l e R s m args below meth c H locs cells slots Q (F0 m tgt ls rest)) (kf : ¬ P → W p l e R s m args below meth c H locs cells slots Q (F0 m (pc + 3) ls rest)) : W p l e R s m args below meth c H locs cells slots Q (F0 m pc ls (.int y :: .int x :: rest)) := lv_icmp_gt hx hb hdg ht (fun h => kt (hP.mp h)) (fun h => kf (fun z => h (hP.mpr z)))
theorem fx_le (hx : p.tables.exec = Jvm.exec) (hb : c.code = cc) {x y : Int32} {off : Int} {tgt : Nat} {P : Prop} (hdg : decode cc pc = .ok (.if_icmp .le off, 3)) (ht : (pc : Int) + off = (tgt : Int)) (hP : x ≤ y ↔ P)
    (kt : P → W p l e R s m args below meth c H locs cells slots Q (F0 m tgt ls rest)) (kf : ¬ P → W p l e R s m args below meth c H locs cells slots Q (F0 m (pc + 3) ls rest)) : W p l e R s m args below meth c H locs cells slots Q (F0 m pc ls (.int y :: .int x :: rest)) := lv_icmp_le hx hb hdg ht (fun h => kt (hP.mp h)) (fun h => kf (fun z => h (hP.mpr z)))
theorem fx_eq (hx : p.tables.exec = Jvm.exec) (hb : c.code = cc) {x y : Int32} {off : Int} {tgt : Nat} {P : Prop} (hdg : decode cc pc = .ok (.if_icmp .eq off, 3)) (ht : (pc : Int) + off = (tgt : Int)) (hP : x = y ↔ P)
    (kt : P → W p l e R s m args below meth c H locs cells slots Q (F0 m tgt ls rest)) (kf : ¬ P → W p l e R s m args below meth c H locs cells slots Q (F0 m (pc + 3) ls rest)) : W p l e R s m args below meth c H locs cells slots Q (F0 m pc ls (.int y :: .int x :: rest)) := lv_icmp_eq hx hb hdg ht (fun h => kt (hP.mp h)) (fun h => kf (fun z => h (hP.mpr z)))
theorem fx_ne (hx : p.tables.exec = Jvm.exec) (hb : c.code = cc) {x y : Int32} {off : Int} {tgt : Nat} {P : Prop} (hdg : decode cc pc = .ok (.if_icmp .ne off, 3)) (ht : (pc : Int) + off = (tgt : Int)) (hP : x = y ↔ P)
    (kt : ¬ P → W p l e R s m args below meth c H locs cells slots Q (F0 m tgt ls rest)) (kf : P → W p l e R s m args below meth c H locs cells slots Q (F0 m (pc + 3) ls rest)) : W p l e R s m args below meth c H locs cells slots Q (F0 m pc ls (.int y :: .int x :: rest)) := lv_icmp_ne hx hb hdg ht (fun h => kt (fun z => h (hP.mpr z))) (fun h => kf (hP.mp h))
theorem fz_eq (hx : p.tables.exec = Jvm.exec) (hb : c.code = cc) {x : Int32} {off : Int} {tgt : Nat} {P : Prop} (hdg : decode cc pc = .ok (.ifCond .eq off, 3)) (ht : (pc : Int) + off = (tgt : Int)) (hP : x = 0 ↔ P)
    (kt : P → W p l e R s m args below meth c H locs cells slots Q (F0 m tgt ls rest)) (kf : ¬ P → W p l e R s m args below meth c H locs cells slots Q (F0 m (pc + 3) ls rest)) : W p l e R s m args below meth c H locs cells slots Q (F0 m pc ls (.int x :: rest)) := lv_if_eq hx hb hdg ht (fun h => kt (hP.mp h)) (fun h => kf (fun z => h (hP.mpr z)))
theorem fz_ne (hx : p.tables.exec = Jvm.exec) (hb : c.code = cc) {x : Int32} {off : Int} {tgt : Nat} {P : Prop} (hdg : decode cc pc = .ok (.ifCond .ne off, 3)) (ht : (pc : Int) + off = (tgt : Int)) (hP : x = 0 ↔ P)
    (kt : ¬ P → W p l e R s m args below meth c H locs cells slots Q (F0 m tgt ls rest)) (kf : P → W p l e R s m args below meth c H locs cells slots Q (F0 m (pc + 3) ls rest)) : W p l e R s m args below meth c H locs cells slots Q (F0 m pc ls (.int x :: rest)) := lv_if_ne hx hb hdg ht (fun h => kt (fun z => h (hP.mpr z))) (fun h => kf (hP.mp h))
theorem fz_lt (hx : p.tables.exec = Jvm.exec) (hb : c.code = cc) {x : Int32} {off : Int} {tgt : Nat} {P : Prop} (hdg : decode cc pc = .ok (.ifCond .lt off, 3)) (ht : (pc : Int) + off = (tgt : Int)) (hP : x < 0 ↔ P)
    (kt : P → W p l e R s m args below meth c H locs cells slots Q (F0 m tgt ls rest)) (kf : ¬ P → W p l e R s m args below meth c H locs cells slots Q (F0 m (pc + 3) ls rest)) : W p l e R s m args below meth c H locs cells slots Q (F0 m pc ls (.int x :: rest)) := lv_if_lt hx hb hdg ht (fun h => kt (hP.mp h)) (fun h => kf (fun z => h (hP.mpr z)))
theorem fz_ge (hx : p.tables.exec = Jvm.exec) (hb : c.code = cc) {x : Int32} {off : Int} {tgt : Nat} {P : Prop} (hdg : decode cc pc = .ok (.ifCond .ge off, 3)) (ht : (pc : Int) + off = (tgt : Int)) (hP : 0 ≤ x ↔ P)
    (kt : P → W p l e R s m args below meth c H locs cells slots Q (F0 m tgt ls rest)) (kf : ¬ P → W p l e R s m args below meth c H locs cells slots Q (F0 m (pc + 3) ls rest)) : W p l e R s m args below meth c H locs cells slots Q (F0 m pc ls (.int x :: rest)) := lv_if_ge hx hb hdg ht (fun h => kt (hP.mp h)) (fun h => kf (fun z => h (hP.mpr z)))
theorem fz_le (hx : p.tables.exec = Jvm.exec) (hb : c.code = cc) {x : Int32} {off : Int} {tgt : Nat} {P : Prop} (hdg : decode cc pc = .ok (.ifCond .le off, 3)) (ht : (pc : Int) + off = (tgt : Int)) (hP : x ≤ 0 ↔ P)
    (kt : P → W p l e R s m args below meth c H locs cells slots Q (F0 m tgt ls rest)) (kf : ¬ P → W p l e R s m args below meth c H locs cells slots Q (F0 m (pc + 3) ls rest)) : W p l e R s m args below meth c H locs cells slots Q (F0 m pc ls (.int x :: rest)) := lv_if_le hx hb hdg ht (fun h => kt (hP.mp h)) (fun h => kf (fun z => h (hP.mpr z)))
/-- a field of the tree's object, of the model's object -/
theorem fx_g0 (hx : p.tables.exec = Jvm.exec) (hb : c.code = cc) (hts : ∀ w ∈ lw_all, w.before args s = true) (hown : s.vm.findClass RX0 = some m.cls) (hK : va_K D vwCl tys s) (hP : va_P D vwCl ws H) {fs : List Value} (he : ws[0]? = some (a, .inr (0, fs))) (k : Nat) (hk : k < 10) {index : Nat} (hl : Cond.fieldLink RX0 index RX0 (TX0 k).2.1 (TX0 k).2.2.1 ∈ lw_all) (hsame : (TX0 k).1 = RX0) {v : Value} (hv : fs[k]? = some v) (hdg : decode cc pc = .ok (.getfield index, 3))
    (kk : W p l e R s m args below meth c H locs cells slots Q (F0 m (pc + 3) ls (v :: rest))) : W p l e R s m args below meth c H locs cells slots Q (F0 m pc ls (.ref a :: rest)) :=
  va_get hx hb hts in_X0 hown hK hP 0 he rfl k hk (hts _ hl) (fun x h => by rw [hsame] at h; exact h) hv hdg kk
theorem fx_g1 (hx : p.tables.exec = Jvm.exec) (hb : c.code = cc) (hts : ∀ w ∈ lw_all, w.before args s = true) (hown : s.vm.findClass RX1 = some m.cls) (hK : va_K D vwCl tys s) (hP : va_P D vwCl ws H) {fs : List Value} (he : ws[0]? = some (a, .inr (1, fs))) (k : Nat) (hk : k < 6) {index : Nat} (hl : Cond.fieldLink RX1 index RX1 (TX1 k).2.1 (TX1 k).2.2.1 ∈ lw_all) (hsame : (TX1 k).1 = RX1) {v : Value} (hv : fs[k]? = some v) (hdg : decode cc pc = .ok (.getfield index, 3))
    (kk : W p l e R s m args below meth c H locs cells slots Q (F0 m (pc + 3) ls (v :: rest))) : W p l e R s m args below meth c H locs cells slots Q (F0 m pc ls (.ref a :: rest)) :=
  va_get hx hb hts in_X1 hown hK hP 0 he rfl k hk (hts _ hl) (fun x h => by rw [hsame] at h; exact h) hv hdg kk
theorem fx_p0 (hx : p.tables.exec = Jvm.exec) (hb : c.code = cc) (hts : ∀ w ∈ lw_all, w.before args s = true) (hown : s.vm.findClass RX0 = some m.cls) (hK : va_K D vwCl tys s) (hP : va_P D vwCl ws H) (hD : va_D A ws) (hS : va_S A H0 H locs) {fs : List Value} (he : ws[0]? = some (a, .inr (0, fs))) (k : Nat) (hk : k < 10) {index : Nat} (hl : Cond.fieldLink RX0 index RX0 (TX0 k).2.1 (TX0 k).2.2.1 ∈ lw_all) (hsame : (TX0 k).1 = RX0) (hfin : (TX0 k).2.2.2 = false) (hd : parseFieldDescriptor (TX0 k).2.2.1 = some .int) {x : Int32} (hlen : k < fs.length) {ws' : va_W} (hw : ws.set 0 (a, .inr (0, fs.set k (.int x))) = ws') (hdg : decode cc pc = .ok (.putfield index, 3))
    (kk : ∀ (H1 : Heap) (locs1 : List Loc), va_P D vwCl ws' H1 → va_D A ws' → va_S A H0 H1 locs1 → W p l e R s m args below meth c H1 locs1 cells slots Q (F0 m (pc + 3) ls rest)) : W p l e R s m args below meth c H locs cells slots Q (F0 m pc ls (.int x :: .ref a :: rest)) := by
  subst hw
  exact va_put hx hb hts in_X0 tyX0 tyX0_ok nmX0 hown hK hP hD hS 0 he rfl k hk (hts _ hl) (fun x h => by rw [hsame] at h; exact h) hfin hd rfl rfl hlen hdg kk
theorem fx_p1 (hx : p.tables.exec = Jvm.exec) (hb : c.code = cc) (hts : ∀ w ∈ lw_all, w.before args s = true) (hown : s.vm.findClass RX1 = some m.cls) (hK : va_K D vwCl tys s) (hP : va_P D vwCl ws H) (hD : va_D A ws) (hS : va_S A H0 H locs) {fs : List Value} (he : ws[0]? = some (a, .inr (1, fs))) (k : Nat) (hk : k < 6) {index : Nat} (hl : Cond.fieldLink RX1 index RX1 (TX1 k).2.1 (TX1 k).2.2.1 ∈ lw_all) (hsame : (TX1 k).1 = RX1) (hfin : (TX1 k).2.2.2 = false) (hd : parseFieldDescriptor (TX1 k).2.2.1 = some .int) {x : Int32} (hlen : k < fs.length) {ws' : va_W} (hw : ws.set 0 (a, .inr (1, fs.set k (.int x))) = ws') (hdg : decode cc pc = .ok (.putfield index, 3))
    (kk : ∀ (H1 : Heap) (locs1 : List Loc), va_P D vwCl ws' H1 → va_D A ws' → va_S A H0 H1 locs1 → W p l e R s m args below meth c H1 locs1 cells slots Q (F0 m (pc + 3) ls rest)) : W p l e R s m args below meth c H locs cells slots Q (F0 m pc ls (.int x :: .ref a :: rest)) := by
  subst hw
  exact va_put hx hb hts in_X1 tyX1 tyX1_ok nmX1 hown hK hP hD hS 0 he rfl k hk (hts _ hl) (fun x h => by rw [hsame] at h; exact h) hfin hd rfl rfl hlen hdg kk
end
/-! pictures -/
def ft_fi (fn : Nat → Nat) : Nat → Int32 := fun k => if k = 0 then -1 else nI (fn k)
theorem ft_fi_p {fn : Nat → Nat} {k : Nat} (h : 1 ≤ k) : ft_fi fn k = nI (fn k) := if_neg (by omega)
theorem ft_fi_up (fn : Nat → Nat) {k : Nat} (h : 1 ≤ k) (v : Nat) : upd (ft_fi fn) k (nI v) = ft_fi (ft_up fn k v) := by
  funext j
  show (if j = k then nI v else if j = 0 then -1 else nI (fn j)) = if j = 0 then -1 else nI (if j = k then v else fn j)
  by_cases e : j = k
  · subst e
    rw [if_pos rfl, if_neg (by omega), if_pos rfl]
  · rw [if_neg e, if_neg e]
theorem ft_nI_up (f : Nat → Nat) (k v : Nat) : upd (fun j => nI (f j)) k (nI v) = fun j => nI (ft_up f k v j) := by
  funext j
  show (if j = k then nI v else nI (f j)) = nI (if j = k then v else f j)
  by_cases e : j = k
  · rw [if_pos e, if_pos e]
  · rw [if_neg e, if_neg e]
abbrev ft_FW (cA : ClassId) (ad : Nat → Nat) (d ns N : Nat) (sk fn ab ch si ow to : Nat → Nat) : va_W :=
  [(ad 0, .inr (0, [.int (nI d), .ref (ad 1), .int (nI ns), .int (nI N), .ref (ad 2), .ref (ad 3), .ref (ad 4), .ref (ad 5), .ref (ad 6), .ref (ad 7)])),
   (ad 1, .inl (cA, 8, .inl (fun k => nI (sk k)))), (ad 2, .inl (cA, 321, .inl (ft_fi fn))), (ad 3, .inl (cA, 321, .inl (fun k => nI (ab k)))), (ad 4, .inl (cA, 321, .inl (fun k => nI (ch k)))),
   (ad 5, .inl (cA, 321, .inl (fun k => nI (si k)))), (ad 6, .inl (cA, 321, .inl (fun k => nI (ow k)))), (ad 7, .inl (cA, 321, .inl (fun k => nI (to k))))]
abbrev ft_MW (cA : ClassId) (am : Nat → Nat) (d ns : Nat) (sk cp ln wt : Nat → Nat) : va_W :=
  [(am 0, .inr (1, [.int (nI d), .ref (am 1), .int (nI ns), .ref (am 2), .ref (am 3), .ref (am 4)])),
   (am 1, .inl (cA, 8, .inl (fun k => nI (sk k)))), (am 2, .inl (cA, 320, .inl (fun k => nI (cp k)))), (am 3, .inl (cA, 40, .inl (fun k => nI (ln k)))), (am 4, .inl (cA, 40, .inl (fun k => nI (wt k))))]
def ft_A (ad : Nat → Nat) (n : Nat) : Nat → Prop := fun q => ∃ k, k < n ∧ q = ad k
/-- the tree's world, the model's world -/
def ft_FT (D : va_G) (cA : ClassId) (ad : Nat → Nat) (d : Nat) (sk : Nat → Nat) (ns : Nat) (pa : Nat → Nat → Nat) (ln wt : Nat → Nat) (H : Heap) : Prop :=
  ∃ (N : Nat) (fn ab ch si ow to : Nat → Nat) (ps : Nat → List Nat), ft_FI N fn ab ch si ow to ps ns pa ln wt ∧ va_P D vwCl (ft_FW cA ad d ns N sk fn ab ch si ow to) H ∧ va_D (ft_A ad 8) (ft_FW cA ad d ns N sk fn ab ch si ow to)
def ft_MT (D : va_G) (cA : ClassId) (am : Nat → Nat) (d : Nat) (sk : Nat → Nat) (ns : Nat) (pa : Nat → Nat → Nat) (ln wt : Nat → Nat) (H : Heap) : Prop :=
  ∃ cp : Nat → Nat, (∀ s i, s < ns → i < ln s → cp (8 * s + i) = pa s i) ∧ va_P D vwCl (ft_MW cA am d ns sk cp ln wt) H ∧ va_D (ft_A am 5) (ft_MW cA am d ns sk cp ln wt)
def ft_SK (d : Nat) (sk : Nat → Nat) : Prop := d ≤ 8 ∧ ∀ k, sk k ≤ 7
def ft_pre (Φ : Heap → Prop) (D : va_G) (cA : ClassId) : State → Prop := fun U => Φ U.heap ∧ va_K D vwCl [(cA, .int)] U
/-! a method's start -/
def fx_C (cc : ByteArray) (nL : Nat) (own : String) (ret : Option FieldType) (p : Program) (s : State) (m : MethodId) (args : Array Value) (meth : Method) (c : Code) : Prop :=
  p.tables.exec = Jvm.exec ∧ c.code = cc ∧ c.maxLocals = nL ∧ s.vm.findClass own = some m.cls ∧ (∀ w ∈ lw_all, w.before args s = true) ∧ meth.sig.returnType = ret ∧ meth.locks = false
theorem fx_met {l : Launch} {y : MethodName} {cc : ByteArray} {maxL : Nat} {ret : Option FieldType} {rm : Room} {av : List Value} {B : State → Prop} {Qc : Array Value → State → Outcome → State → Prop} {mc ms : Nat} {free : Addr → Prop} (hy : plainName y.cls = true) (hlen : (lg_sl av).length ≤ maxL)
    (body : ∀ (p : Program) (e : Env) (s : State) (m : MethodId) (below : List Frame) (meth : Method) (c : Code) (ls : Array Slot), fx_C cc maxL y.cls ret p s m av.toArray meth c → (meth.name = y.name) → B s → lv_has ls maxL (lv_args 0 av) → W p l e rm s m av.toArray below meth c s.heap [] 0 0 (MQ below Qc av.toArray s mc ms free) (F0 m 0 ls [])) : Met l y (ws_ y cc maxL ret) rm (va_Pc av B) Qc mc ms free := by
  refine Met.ofW (cc := cc) (maxL := maxL) (ret := ret) hy rfl ?_
  intro p e s m args below meth c s₁ Bd hml hv
  obtain ⟨rfl, hB⟩ := hv
  have hts := atoms_spec (ws := ws_ y cc maxL ret) Bd.pre
  have hl := lv_entry av (n := maxL) hlen
  rw [lg_entry_eq]
  exact body p e s m below meth c _ ⟨Bd.exec, Bd.bytes, hml, findClass_of_methodNamed Bd.named, fun w h => hts w (List.mem_cons_of_mem _ h), Bd.returns, Bd.notSynchronized⟩ (name_of_methodNamed Bd.named Bd.method).1 hB hl
section
variable {p : Program} {l : Launch} {e : Env} {R : Room} {s : State} {m : MethodId} {args : Array Value} {below : List Frame} {meth : Method} {c : Code} {H : Heap} {locs : List Loc} {cells slots : Nat} {Q : State → Prop}
variable {cc : ByteArray} {pc : Nat} {ls : Array Slot} {rest : List Value}
variable {D : va_G} {A : Nat → Prop} {H0 : Heap} {a nL : Nat} {own : String} {ret0 : Option FieldType}
/-- the machine in a method that only reads -/
abbrev fx_W (p : Program) (l : Launch) (e : Env) (R : Room) (s : State) (m : MethodId) (args : Array Value) (below : List Frame) (meth : Method) (c : Code) (post : Int32 → Prop) (g : JFrame) : Prop := W p l e R s m args below meth c s.heap [] 0 0 (MQ below (vp_Si post) args s 0 0 (fun _ => False)) g
theorem fx_ri (C0 : fx_C cc nL own (some .int) p s m args meth c) {post : Int32 → Prop} {v : Int32} (hdg : decode cc pc = .ok (.ireturn, 1)) (hp : post v) : fx_W p l e R s m args below meth c post (F0 m pc ls [.int v]) :=
  W.iret C0.1 C0.2.1 C0.2.2.2.2.2.1 (fun t ht _ => ⟨v, rfl, hp, ht⟩) t_nil hdg C0.2.2.2.2.2.2
theorem fx_rz (C0 : fx_C cc nL own (some .boolean) p s m args meth c) {post : Int32 → Prop} {v : Int32} (hdg : decode cc pc = .ok (.ireturn, 1)) (hn : narrow .boolean (.int v) = .int v) (hp : post v) : fx_W p l e R s m args below meth c post (F0 m pc ls [.int v]) :=
  W.zret C0.1 C0.2.1 C0.2.2.2.2.2.1 hn (fun t ht _ => ⟨v, rfl, hp, ht⟩) t_nil hdg C0.2.2.2.2.2.2
theorem fx_rm (C0 : fx_C cc nL own (some .int) p s m args meth c) {S : Type} {post : Int32 → S → Prop} {B : S → State → Prop} {v : Int32} (u : S) (hdg : decode cc pc = .ok (.ireturn, 1)) (hp : post v u) (hB : ∀ t : State, t.heap = H → B u t) (hS : va_S A s.heap H locs) : W p l e R s m args below meth c H locs cells slots (MQ below (va_Qi post B A) args s cells slots A) (F0 m pc ls [.int v]) :=
  W.iret C0.1 C0.2.1 C0.2.2.2.2.2.1 (fun t ht _ => ⟨⟨v, u, rfl, hp, hB t ht⟩, hS.F ht⟩) hS.2.2 hdg C0.2.2.2.2.2.2
theorem fx_blind (Φ : Heap → Prop) (D : va_G) (cA : ClassId) (av : List Value) : FrameBlind (va_Pc av (ft_pre Φ D cA)) := fun a U g mk q => ⟨q.1, q.2.1, va_K.moved (u := U) (U := U.calling g mk a) (Vm.Alike.refl U.vm) q.2.2⟩
/-- a call that reads -/
theorem fx_callV (C0 : fx_C cc nL own ret0 p s m args meth c) {cA : ClassId} {Φ : Heap → Prop} {y : MethodName} {b : ByteArray} {L : Nat} {r : Option FieldType} {rm : Room} {post : Int32 → Prop} {C : String} {As : List Value} {idx n : Nat} {st0 : List Value} (hM : Met l y (ws_ y b L r) rm (va_Pc (.ref a :: As) (ft_pre Φ D cA)) (vp_Si post) 0 0 (fun _ => False)) (hΦ : Φ H) (hK : va_K D vwCl [(cA, .int)] s)
    (hrecv : ∃ cellB : Cell, H[a]? = some cellB ∧ cellB.vm.isStatics = false ∧ s.vm.findClass C = some cellB.cls) (hG : GoodIn lw_all (wsV own idx C y (ws_ y b L r))) (hrc : rm.cells = 0 ∧ rm.slots = 0)
    (hd : y.cls = C ∧ y.cls ≠ "java/lang/invoke/MethodHandle" ∧ y.cls ≠ "java/lang/invoke/VarHandle" ∧ (parseMethodDescriptor y.desc).map (fun d => d.parameters.length) = some n) (hR : rm.frames + 1 ≤ R.frames ∧ 8 + (L + 11) + rm.locals ≤ R.locals)
    (hn : As.length = n) (hsize : ls.size = nL) (hst : st0 = As.reverse ++ .ref a :: rest) (hroom : (rest.map fun v => v.category).sum ≤ 8) (hdg : decode cc pc = .ok (.invokevirtual idx, 3)) (hcs : cells ≤ R.cells ∧ slots ≤ R.slots)
    (kk : ∀ r : Int32, post r → W p l e R s m args below meth c H locs cells slots Q (F0 m (pc + 3) ls (.int r :: rest))) : W p l e R s m args below meth c H locs cells slots Q (F0 m pc ls st0) := by
  subst hst
  obtain ⟨hx, hb, hml, hown, hts, -, -⟩ := C0
  exact vp_callSi (va_Run.run (va_runV (As := As) (rest := rest) ⟨hx, hb, hml, hown, hts⟩ hM (cwV n hts hG rfl hrc.1 hrc.2 hd hR) ⟨fx_blind Φ D cA _, hrecv, fun U hU hW => ⟨rfl, by rw [hU]; exact hΦ, va_K.moved hW.alike hK⟩⟩ rfl hn hsize rfl (lv_room hroom) hdg ⟨hcs.1, hcs.2⟩)) kk
theorem fx_callS (C0 : fx_C cc nL own ret0 p s m args meth c) {y : MethodName} {b : ByteArray} {L : Nat} {r : Option FieldType} {rm : Room} {post : Int32 → Prop} {As : List Value} {idx n : Nat} {st0 : List Value} (hM : Met l y (ws_ y b L r) rm (va_Pc As (fun _ => True)) (vp_Si post) 0 0 (fun _ => False))
    (hG : GoodIn lw_all (va_wsS own idx y (ws_ y b L r))) (hrc : rm.cells = 0 ∧ rm.slots = 0)
    (hd : y.cls ≠ "java/lang/invoke/MethodHandle" ∧ y.cls ≠ "java/lang/invoke/VarHandle" ∧ (parseMethodDescriptor y.desc).map (fun d => d.parameters.length) = some n) (hR : rm.frames + 1 ≤ R.frames ∧ 8 + (L + 11) + rm.locals ≤ R.locals)
    (hn : As.length = n) (hsize : ls.size = nL) (hst : st0 = As.reverse ++ rest) (hroom : (rest.map fun v => v.category).sum ≤ 8) (hdg : decode cc pc = .ok (.invokestatic idx, 3)) (hcs : cells ≤ R.cells ∧ slots ≤ R.slots)
    (kk : ∀ r : Int32, post r → W p l e R s m args below meth c H locs cells slots Q (F0 m (pc + 3) ls (.int r :: rest))) : W p l e R s m args below meth c H locs cells slots Q (F0 m pc ls st0) := by
  subst hst
  obtain ⟨hx, hb, hml, hown, hts, -, -⟩ := C0
  exact vp_callSi (va_Run.run (va_runS (As := As) (rest := rest) ⟨hx, hb, hml, hown, hts⟩ hM (va_cwS n hts hG rfl hrc.1 hrc.2 hd hR) ⟨fun a U g mk q => ⟨q.1, trivial⟩, fun U hU hW => ⟨rfl, trivial⟩⟩ rfl hn hsize rfl (lv_room hroom) hdg ⟨hcs.1, hcs.2⟩)) kk
/-- a call that writes its own cells A1 alone -/
theorem fx_callM (C0 : fx_C cc nL own ret0 p s m args meth c) {cA : ClassId} {Φ : Heap → Prop} {y : MethodName} {b : ByteArray} {L : Nat} {r : Option FieldType} {rm : Room} {S : Type} {post : Int32 → S → Prop} {Ψ : S → Heap → Prop} {A1 : Nat → Prop} {C : String} {As : List Value} {idx n : Nat} {st0 : List Value} (hM : Met l y (ws_ y b L r) rm (va_Pc (.ref a :: As) (ft_pre Φ D cA)) (va_Qi post (fun u t => Ψ u t.heap) A1) 0 0 A1) (hΦ : Φ H) (hK : va_K D vwCl [(cA, .int)] s)
    (hrecv : ∃ cellB : Cell, H[a]? = some cellB ∧ cellB.vm.isStatics = false ∧ s.vm.findClass C = some cellB.cls) (hG : GoodIn lw_all (wsV own idx C y (ws_ y b L r))) (hrc : rm.cells = 0 ∧ rm.slots = 0)
    (hd : y.cls = C ∧ y.cls ≠ "java/lang/invoke/MethodHandle" ∧ y.cls ≠ "java/lang/invoke/VarHandle" ∧ (parseMethodDescriptor y.desc).map (fun d => d.parameters.length) = some n) (hR : rm.frames + 1 ≤ R.frames ∧ 8 + (L + 11) + rm.locals ≤ R.locals)
    (hn : As.length = n) (hsize : ls.size = nL) (hst : st0 = As.reverse ++ .ref a :: rest) (hroom : (rest.map fun v => v.category).sum ≤ 8) (hdg : decode cc pc = .ok (.invokevirtual idx, 3)) (hcs : cells ≤ R.cells ∧ slots ≤ R.slots) (hS : va_S A H0 H locs) (hA : ∀ q, A1 q → A q)
    (kk : ∀ (r : Int32) (u : S) (H1 : Heap) (locs1 : List Loc), post r u → Ψ u H1 → H.size ≤ H1.size → (∀ q : Nat, q < H.size → ¬ A1 q → H1[q]? = H[q]?) → va_S A H0 H1 locs1 → W p l e R s m args below meth c H1 locs1 cells slots Q (F0 m (pc + 3) ls (.int r :: rest))) : W p l e R s m args below meth c H locs cells slots Q (F0 m pc ls st0) := by
  subst hst
  obtain ⟨hx, hb, hml, hown, hts, -, -⟩ := C0
  exact va_calli (va_runV (As := As) (rest := rest) ⟨hx, hb, hml, hown, hts⟩ hM (cwV n hts hG rfl hrc.1 hrc.2 hd hR) ⟨fx_blind Φ D cA _, hrecv, fun U hU hW => ⟨rfl, by rw [hU]; exact hΦ, va_K.moved hW.alike hK⟩⟩ rfl hn hsize rfl (lv_room hroom) hdg ⟨hcs.1, hcs.2⟩) hS (fun q _ h => hA q h) hA
    (fun r u t H1 locs1 ht hvm hp hB hz hk hS1 => kk r u H1 locs1 hp (by rw [← ht]; exact hB) hz hk hS1)
end
end
section
/-! THE MODEL's methods that only read -/
abbrev fx_r0 : Room := { frames := 0, cells := 0, slots := 0, locals := 0 }
abbrev fx_r1 : Room := { frames := 1, cells := 0, slots := 0, locals := 30 }
abbrev fx_r2 : Room := { frames := 2, cells := 0, slots := 0, locals := 60 }
def ft_MI (d ns : Nat) (sk cp ln wt : Nat → Nat) (pa : Nat → Nat → Nat) : Prop := ft_SK d sk ∧ ft_SI ns pa ln wt ∧ ∀ s i, s < ns → i < ln s → cp (8 * s + i) = pa s i
theorem fx_i1 {f : Int32} (h : f < 0) : ¬ (0 ≤ f ∧ f ≤ 7) := by
  rw [Int32.lt_iff_toInt_lt] at h
  rw [Int32.le_iff_toInt_le]
  intro z
  omega
theorem fx_i3 {f : Int32} (h : ¬ f < 0) : 0 ≤ f := by
  rw [Int32.lt_iff_toInt_lt] at h
  rw [Int32.le_iff_toInt_le]
  omega
theorem fx_i7 {f : Nat} (h : f ≤ 7) : 0 ≤ nI f ∧ nI f ≤ 7 := ⟨nI_pos' (by omega), (nI_leI (b := 7) (by omega) (by omega)).mpr h⟩
theorem fx_iN {P : Prop} [Decidable P] : (if ¬ P then (1 : Int32) else 0) = 0 ↔ P := fx_b.trans Decidable.not_not
theorem ft_sum_t {x y i : Nat} {g : Nat → Nat} (h : x = ft_sum i g) (hg : g i = y) : x + y = ft_sum (i + 1) g := by
  show x + y = ft_sum i g + g i
  rw [h, hg]
theorem ft_sum_f {x i : Nat} {g : Nat → Nat} (h : x = ft_sum i g) (hg : g i = 0) : x = ft_sum (i + 1) g := by
  show x = ft_sum i g + g i
  rw [h, hg]; rfl
theorem ft_ov_c2 {pa : Nat → Nat → Nat} {ln sk : Nat → Nat} {f d s : Nat} : ft_ov pa ln (f :: ft_rp sk d) s ↔ ft_ov pa ln (ft_rp sk d) s ∧ d < ln s ∧ pa s d = f := by rw [ft_ov_cons, ft_rp_len]
def ft_ci : Option Nat → Int32
  | none => -1
  | some k => nI k
theorem ft_ci_lt {cN : Option Nat} (h : ∀ k, cN = some k → k ≤ 7) : ft_ci cN < 0 ↔ cN = none := by
  cases cN with
  | none => exact ⟨fun _ => rfl, fun _ => by decide⟩
  | some k =>
    have := h k rfl
    exact ⟨fun z => absurd z (nI_pos (by omega)), fun z => by cases z⟩
theorem ft_be_0 {k : Nat} {q : Nat → Nat} : ft_be (some k) (ft_rp q 0) = false := rfl
theorem ft_be_s {k i : Nat} {q : Nat → Nat} (h : 1 ≤ i) : ft_be (some k) (ft_rp q i) = decide (q (i - 1) = k) := by
  obtain ⟨j, rfl⟩ : ∃ j, i = j + 1 := ⟨i - 1, by omega⟩
  show decide ((q j :: ft_rp q j).head? = some k) = decide (q (j + 1 - 1) = k)
  rw [List.head?_cons, Nat.add_sub_cancel]
  exact decide_eq_decide.mpr ⟨fun z => Option.some.inj z, fun z => by rw [z]⟩
section
variable {p : Program} {l : Launch} {e : Env} {R : Room} {s : State} {m : MethodId} {args : Array Value} {below : List Frame} {meth : Method} {c : Code}
variable {D : va_G} {cA : ClassId} {am : Nat → Nat} {d ns : Nat} {sk cp ln wt : Nat → Nat} {pa : Nat → Nat → Nat}
set_option maxHeartbeats 4000000 in
set_option maxRecDepth 100000 in
theorem m1_bad (l : Launch) (f : Int32) : Met l yX1_bad (ws_ yX1_bad cX1_bad 1 (some .boolean)) fx_r0 (va_Pc [.int f] (fun _ => True)) (vp_Si (fun r => r = if ¬ (0 ≤ f ∧ f ≤ 7) then 1 else 0)) 0 0 (fun _ => False) := by
  refine fx_met (by decide) (Nat.le_of_ble_eq_true rfl) ?_
  intro p e s m below meth c ls C0 _ hB hl
  have C0 : fx_C cX1_bad 1 RX1 (some .boolean) p s m _ meth c := C0
  obtain ⟨hx, hb, hml, hown, hts, hr, hlocks⟩ := id C0
  have hl : lv_has ls 1 [(0, .int f)] := hl
  refine lv_iload_n hx hb dX1_bad_0 rfl (lv_at hl 0 rfl) ?_
  refine fz_lt (tgt := 10) hx hb dX1_bad_1 (by decide) Iff.rfl (fun c_1 => ?_) (fun c_1 => ?_)
  · refine lv_iconst (v := 1) hx hb dX1_bad_10 (by decide) ?_
    refine lv_goto (tgt := 15) hx hb dX1_bad_11 (by decide) ?_
    exact fx_rz C0 dX1_bad_15 rfl (if_pos (fun z => (by first | exact fx_i1 c_1 z | exact c_7 z.2))).symm
  · refine lv_iload_n hx hb dX1_bad_4 rfl (lv_at hl 0 rfl) ?_
    refine lv_bipush (v := 7) hx hb dX1_bad_5 (by decide) ?_
    refine fx_le (tgt := 14) hx hb dX1_bad_7 (by decide) Iff.rfl (fun c_7 => ?_) (fun c_7 => ?_)
    · refine lv_iconst (v := 0) hx hb dX1_bad_14 (by decide) ?_
      exact fx_rz C0 dX1_bad_15 rfl (if_neg (fun z => z ⟨fx_i3 c_1, c_7⟩)).symm
    · refine lv_iconst (v := 1) hx hb dX1_bad_10 (by decide) ?_
      refine lv_goto (tgt := 15) hx hb dX1_bad_11 (by decide) ?_
      exact fx_rz C0 dX1_bad_15 rfl (if_pos (fun z => (by first | exact fx_i1 c_1 z | exact c_7 z.2))).symm
set_option maxHeartbeats 4000000 in
set_option maxRecDepth 100000 in
theorem m1_over_l (C0 : fx_C cX1_over 3 RX1 (some .boolean) p s m args meth c) (hI : ft_MI d ns sk cp ln wt pa) (hK : va_K D vwCl [(cA, .int)] s) (hP : va_P D vwCl (ft_MW cA am d ns sk cp ln wt) s.heap) {s0 : Nat} (hs : s0 < ns) (hle : d ≤ ln s0) : ∀ (n i : Nat), i ≤ d → d - i < n → (∀ j, j < i → pa s0 j = sk j) → ∀ ls : Array Slot, lv_has ls 3 [(0, .ref (am 0)), (1, .int (nI s0)), (2, .int (nI i))] → fx_W p l e R s m args below meth c (fun r => r = if ft_ov pa ln (ft_rp sk d) s0 then 1 else 0) (F0 m 17 ls []) := by
  have hd8 := hI.1.1
  have hsk := hI.1.2
  have hns := hI.2.1.1
  have hln := hI.2.1.2.1
  have hwt := hI.2.1.2.2.1
  have hpa := hI.2.1.2.2.2.2
  have hcp := hI.2.2
  obtain ⟨hx, hb, hml, hown, hts, hr, hlocks⟩ := id C0
  intro n
  induction n with
  | zero =>
    intro i h1 h2
    exact absurd h2 (by omega)
  | succ n ih =>
    intro i hi hn hinv ls hl
    refine lv_iload_n hx hb dX1_over_17 rfl (lv_at hl 2 rfl) ?_
    refine lv_aload_n hx hb dX1_over_18 rfl (lv_at hl 0 rfl) ?_
    refine fx_g1 (v := .int (nI d)) hx hb hts hown hK hP rfl 0 (by decide) q127 rfl rfl dX1_over_19 ?_
    refine fx_ge (tgt := 53) hx hb dX1_over_22 (by decide) (nI_leI (a := d) (b := i) (by omega) (by omega)) (fun c_22 => ?_) (fun c_22 => ?_)
    · refine lv_iconst (v := 1) hx hb dX1_over_53 (by decide) ?_
      exact fx_rz C0 dX1_over_54 rfl (if_pos (ft_ov_rp.mpr ⟨hle, fun j hj => hinv j (by omega)⟩)).symm
    · have b1 := hpa s0 i hs (by omega)
      have b2 := hsk i
      refine lv_aload_n hx hb dX1_over_25 rfl (lv_at hl 0 rfl) ?_
      refine fx_g1 (v := .ref (am 2)) hx hb hts hown hK hP rfl 3 (by decide) q130 rfl rfl dX1_over_26 ?_
      refine lv_bipush (v := nI 8) hx hb dX1_over_29 (by decide) ?_
      refine lv_iload_n hx hb dX1_over_31 rfl (lv_at hl 1 rfl) ?_
      refine fx_mul (v := nI (8 * s0)) hx hb dX1_over_32 (pk_mul _ _) ?_
      refine lv_iload_n hx hb dX1_over_33 rfl (lv_at hl 2 rfl) ?_
      refine fx_add (v := nI (8 * s0 + i)) hx hb dX1_over_34 (nI_add _ _) ?_
      refine fx_ald (k := 8 * s0 + i) (v := nI (pa s0 i)) hx hb hK hP 2 rfl rfl (by omega) (by decide) (congrArg nI (hcp s0 i hs (by omega))) dX1_over_35 ?_
      refine lv_aload_n hx hb dX1_over_36 rfl (lv_at hl 0 rfl) ?_
      refine fx_g1 (v := .ref (am 1)) hx hb hts hown hK hP rfl 1 (by decide) q128 rfl rfl dX1_over_37 ?_
      refine lv_iload_n hx hb dX1_over_40 rfl (lv_at hl 2 rfl) ?_
      refine fx_ald (k := i) (v := nI (sk i)) hx hb hK hP 1 rfl rfl (by omega) (by decide) rfl dX1_over_41 ?_
      refine fx_eq (tgt := 47) hx hb dX1_over_42 (by decide) (nI_eq (a := pa s0 i) (b := sk i) (by omega) (by omega)) (fun c_42 => ?_) (fun c_42 => ?_)
      · refine fx_inc (v := nI (i + 1)) (lv' := [(2, .int (nI (i + 1))), (0, .ref (am 0)), (1, .int (nI s0))]) (k0 := 2) hx hb dX1_over_47 hl rfl (nI_1 _) (by decide) rfl (fun ls hl => ?_)
        refine lv_goto (tgt := 17) hx hb dX1_over_50 (by decide) ?_
        exact ih (i + 1) (by omega) (by omega) (lt_s hinv c_42) ls (lv_sub hl [1, 2, 0] rfl)
      · refine lv_iconst (v := 0) hx hb dX1_over_45 (by decide) ?_
        exact fx_rz C0 dX1_over_46 rfl (if_neg (fun z => c_42 ((ft_ov_rp.mp z).2 i (by omega)))).symm
set_option maxHeartbeats 4000000 in
set_option maxRecDepth 100000 in
theorem m1_over (l : Launch) (hI : ft_MI d ns sk cp ln wt pa) {s0 : Nat} (hs : s0 < ns) : Met l yX1_over (ws_ yX1_over cX1_over 3 (some .boolean)) fx_r0 (va_Pc [.ref (am 0), .int (nI s0)] (ft_pre (va_P D vwCl (ft_MW cA am d ns sk cp ln wt)) D cA)) (vp_Si (fun r => r = if ft_ov pa ln (ft_rp sk d) s0 then 1 else 0)) 0 0 (fun _ => False) := by
  refine fx_met (by decide) (Nat.le_of_ble_eq_true rfl) ?_
  intro p e s m below meth c ls C0 _ hB hl
  obtain ⟨hP, hK⟩ := hB
  have C0 : fx_C cX1_over 3 RX1 (some .boolean) p s m _ meth c := C0
  obtain ⟨hx, hb, hml, hown, hts, hr, hlocks⟩ := id C0
  have hl : lv_has ls 3 [(0, .ref (am 0)), (1, .int (nI s0))] := hl
  have hd8 := hI.1.1
  have hsk := hI.1.2
  have hns := hI.2.1.1
  have hln := hI.2.1.2.1
  have hwt := hI.2.1.2.2.1
  have hpa := hI.2.1.2.2.2.2
  have hcp := hI.2.2
  refine lv_aload_n hx hb dX1_over_0 rfl (lv_at hl 0 rfl) ?_
  refine fx_g1 (v := .ref (am 3)) hx hb hts hown hK hP rfl 4 (by decide) q131 rfl rfl dX1_over_1 ?_
  refine lv_iload_n hx hb dX1_over_4 rfl (lv_at hl 1 rfl) ?_
  refine fx_ald (k := s0) (v := nI (ln s0)) hx hb hK hP 3 rfl rfl (by omega) (by decide) rfl dX1_over_5 ?_
  refine lv_aload_n hx hb dX1_over_6 rfl (lv_at hl 0 rfl) ?_
  refine fx_g1 (v := .int (nI d)) hx hb hts hown hK hP rfl 0 (by decide) q127 rfl rfl dX1_over_7 ?_
  have b0 := hln s0
  refine fx_ge (tgt := 15) hx hb dX1_over_10 (by decide) (nI_leI (a := d) (b := ln s0) (by omega) (by omega)) (fun c_10 => ?_) (fun c_10 => ?_)
  · refine lv_iconst (v := nI 0) hx hb dX1_over_15 (by decide) ?_
    refine lv_istore_n (lv' := [(2, .int (nI 0)), (0, .ref (am 0)), (1, .int (nI s0))]) hx hb dX1_over_16 rfl hl (by decide) rfl (fun ls hl => ?_)
    exact m1_over_l C0 hI hK hP hs c_10 (d + 1) 0 (by omega) (by omega) lt_0 ls (lv_sub hl [1, 2, 0] rfl)
  · refine lv_iconst (v := 0) hx hb dX1_over_13 (by decide) ?_
    exact fx_rz C0 dX1_over_14 rfl (if_neg (fun z => c_10 (ft_ov_rp.mp z).1)).symm
set_option maxHeartbeats 4000000 in
set_option maxRecDepth 100000 in
theorem m1_total_l (C0 : fx_C cX1_total 3 RX1 (some .int) p s m args meth c) (hI : ft_MI d ns sk cp ln wt pa) (hK : va_K D vwCl [(cA, .int)] s) (hP : va_P D vwCl (ft_MW cA am d ns sk cp ln wt) s.heap) : ∀ (n i x : Nat), i ≤ ns → ns - i < n → x = ft_sum i (fun s => if ft_ov pa ln (ft_rp sk d) s then wt s else 0) → ∀ ls : Array Slot, lv_has ls 3 [(0, .ref (am 0)), (1, .int (nI x)), (2, .int (nI i))] → fx_W p l e fx_r1 s m args below meth c (fun r => r = nI (ft_tot ns pa ln wt (ft_rp sk d))) (F0 m 4 ls []) := by
  have hd8 := hI.1.1
  have hsk := hI.1.2
  have hns := hI.2.1.1
  have hln := hI.2.1.2.1
  have hwt := hI.2.1.2.2.1
  have hpa := hI.2.1.2.2.2.2
  have hcp := hI.2.2
  obtain ⟨hx, hb, hml, hown, hts, hr, hlocks⟩ := id C0
  intro n
  induction n with
  | zero =>
    intro i x h1 h2
    exact absurd h2 (by omega)
  | succ n ih =>
    intro i x hi hn hxs ls hl
    refine lv_iload_n hx hb dX1_total_4 rfl (lv_at hl 2 rfl) ?_
    refine lv_aload_n hx hb dX1_total_5 rfl (lv_at hl 0 rfl) ?_
    refine fx_g1 (v := .int (nI ns)) hx hb hts hown hK hP rfl 2 (by decide) q129 rfl rfl dX1_total_6 ?_
    refine fx_ge (tgt := 35) hx hb dX1_total_9 (by decide) (nI_leI (a := ns) (b := i) (by omega) (by omega)) (fun c_9 => ?_) (fun c_9 => ?_)
    · refine lv_iload_n hx hb dX1_total_35 rfl (lv_at hl 1 rfl) ?_
      exact fx_ri C0 dX1_total_36 (by rw [hxs, (by omega : i = ns)]; rfl)
    · refine lv_aload_n hx hb dX1_total_12 rfl (lv_at hl 0 rfl) ?_
      refine lv_iload_n hx hb dX1_total_13 rfl (lv_at hl 2 rfl) ?_
      refine fx_callV (As := [.int (nI i)]) (rest := []) (n := 1) C0 (m1_over l hI (s0 := i) (by omega)) hP hK (va_recv hK hP (ci := 1) (q0 := 0) rfl rfl) (lw_V q165 q167 qs5 q13 q168) ⟨rfl, rfl⟩ (by decide +kernel) ⟨Nat.le_of_ble_eq_true rfl, Nat.le_of_ble_eq_true rfl⟩ rfl hl.1 rfl (Nat.le_of_ble_eq_true rfl) dX1_total_14 ⟨Nat.zero_le _, Nat.zero_le _⟩ (fun r hr => ?_)
      subst hr
      refine fz_eq (tgt := 29) hx hb dX1_total_17 (by decide) fx_b (fun c_17 => ?_) (fun c_17 => ?_)
      · have g0 : (fun s => if ft_ov pa ln (ft_rp sk d) s then wt s else 0) i = 0 := if_neg c_17
        refine fx_inc (v := nI (i + 1)) (lv' := [(2, .int (nI (i + 1))), (0, .ref (am 0)), (1, .int (nI x))]) (k0 := 2) hx hb dX1_total_29 hl rfl (nI_1 _) (by decide) rfl (fun ls hl => ?_)
        refine lv_goto (tgt := 4) hx hb dX1_total_32 (by decide) ?_
        exact ih (i + 1) _ (by omega) (by omega) (ft_sum_f hxs g0) ls (lv_sub hl [1, 2, 0] rfl)
      · have g0 : (fun s => if ft_ov pa ln (ft_rp sk d) s then wt s else 0) i = wt i := if_pos (Decidable.not_not.mp c_17)
        refine lv_iload_n hx hb dX1_total_20 rfl (lv_at hl 1 rfl) ?_
        refine lv_aload_n hx hb dX1_total_21 rfl (lv_at hl 0 rfl) ?_
        refine fx_g1 (v := .ref (am 4)) hx hb hts hown hK hP rfl 5 (by decide) q132 rfl rfl dX1_total_22 ?_
        refine lv_iload_n hx hb dX1_total_25 rfl (lv_at hl 2 rfl) ?_
        refine fx_ald (k := i) (v := nI (wt i)) hx hb hK hP 4 rfl rfl (by omega) (by decide) rfl dX1_total_26 ?_
        refine fx_add (v := nI (x + (wt i))) hx hb dX1_total_27 (nI_add _ _) ?_
        refine lv_istore_n (lv' := [(1, .int (nI (x + (wt i)))), (0, .ref (am 0)), (2, .int (nI i))]) hx hb dX1_total_28 rfl hl (by decide) rfl (fun ls hl => ?_)
        refine fx_inc (v := nI (i + 1)) (lv' := [(2, .int (nI (i + 1))), (1, .int (nI (x + (wt i)))), (0, .ref (am 0))]) (k0 := 2) hx hb dX1_total_29 hl rfl (nI_1 _) (by decide) rfl (fun ls hl => ?_)
        refine lv_goto (tgt := 4) hx hb dX1_total_32 (by decide) ?_
        exact ih (i + 1) _ (by omega) (by omega) (ft_sum_t hxs g0) ls (lv_sub hl [2, 1, 0] rfl)
set_option maxHeartbeats 4000000 in
set_option maxRecDepth 100000 in
theorem m1_total (l : Launch) (hSK : ft_SK d sk) (hSI : ft_SI ns pa ln wt) : Met l yX1_total (ws_ yX1_total cX1_total 3 (some .int)) fx_r1 (va_Pc [.ref (am 0)] (ft_pre (ft_MT D cA am d sk ns pa ln wt) D cA)) (vp_Si (fun r => r = nI (ft_tot ns pa ln wt (ft_rp sk d)))) 0 0 (fun _ => False) := by
  refine fx_met (by decide) (Nat.le_of_ble_eq_true rfl) ?_
  intro p e s m below meth c ls C0 _ hB hl
  obtain ⟨⟨cp, hcp0, hP, hDD⟩, hK⟩ := hB
  have hI : ft_MI d ns sk cp ln wt pa := ⟨hSK, hSI, hcp0⟩
  have C0 : fx_C cX1_total 3 RX1 (some .int) p s m _ meth c := C0
  obtain ⟨hx, hb, hml, hown, hts, hr, hlocks⟩ := id C0
  have hl : lv_has ls 3 [(0, .ref (am 0))] := hl
  have hd8 := hI.1.1
  have hsk := hI.1.2
  have hns := hI.2.1.1
  have hln := hI.2.1.2.1
  have hwt := hI.2.1.2.2.1
  have hpa := hI.2.1.2.2.2.2
  have hcp := hI.2.2
  refine lv_iconst (v := nI 0) hx hb dX1_total_0 (by decide) ?_
  refine lv_istore_n (lv' := [(1, .int (nI 0)), (0, .ref (am 0))]) hx hb dX1_total_1 rfl hl (by decide) rfl (fun ls hl => ?_)
  refine lv_iconst (v := nI 0) hx hb dX1_total_2 (by decide) ?_
  refine lv_istore_n (lv' := [(2, .int (nI 0)), (1, .int (nI 0)), (0, .ref (am 0))]) hx hb dX1_total_3 rfl hl (by decide) rfl (fun ls hl => ?_)
  exact m1_total_l C0 hI hK hP (ns + 1) 0 0 (by omega) (by omega) rfl ls (lv_sub hl [2, 1, 0] rfl)
set_option maxHeartbeats 4000000 in
set_option maxRecDepth 100000 in
theorem m1_own_l (C0 : fx_C cX1_own 3 RX1 (some .int) p s m args meth c) (hI : ft_MI d ns sk cp ln wt pa) (hK : va_K D vwCl [(cA, .int)] s) (hP : va_P D vwCl (ft_MW cA am d ns sk cp ln wt) s.heap) : ∀ (n i x : Nat), i ≤ ns → ns - i < n → x = ft_sum i (fun s => if ft_ov pa ln (ft_rp sk d) s ∧ ln s = (ft_rp sk d).length then wt s else 0) → ∀ ls : Array Slot, lv_has ls 3 [(0, .ref (am 0)), (1, .int (nI x)), (2, .int (nI i))] → fx_W p l e fx_r1 s m args below meth c (fun r => r = nI (ft_own ns pa ln wt (ft_rp sk d))) (F0 m 4 ls []) := by
  have hd8 := hI.1.1
  have hsk := hI.1.2
  have hns := hI.2.1.1
  have hln := hI.2.1.2.1
  have hwt := hI.2.1.2.2.1
  have hpa := hI.2.1.2.2.2.2
  have hcp := hI.2.2
  obtain ⟨hx, hb, hml, hown, hts, hr, hlocks⟩ := id C0
  intro n
  induction n with
  | zero =>
    intro i x h1 h2
    exact absurd h2 (by omega)
  | succ n ih =>
    intro i x hi hn hxs ls hl
    refine lv_iload_n hx hb dX1_own_4 rfl (lv_at hl 2 rfl) ?_
    refine lv_aload_n hx hb dX1_own_5 rfl (lv_at hl 0 rfl) ?_
    refine fx_g1 (v := .int (nI ns)) hx hb hts hown hK hP rfl 2 (by decide) q129 rfl rfl dX1_own_6 ?_
    refine fx_ge (tgt := 48) hx hb dX1_own_9 (by decide) (nI_leI (a := ns) (b := i) (by omega) (by omega)) (fun c_9 => ?_) (fun c_9 => ?_)
    · refine lv_iload_n hx hb dX1_own_48 rfl (lv_at hl 1 rfl) ?_
      exact fx_ri C0 dX1_own_49 (by rw [hxs, (by omega : i = ns)]; rfl)
    · refine lv_aload_n hx hb dX1_own_12 rfl (lv_at hl 0 rfl) ?_
      refine lv_iload_n hx hb dX1_own_13 rfl (lv_at hl 2 rfl) ?_
      refine fx_callV (As := [.int (nI i)]) (rest := []) (n := 1) C0 (m1_over l hI (s0 := i) (by omega)) hP hK (va_recv hK hP (ci := 1) (q0 := 0) rfl rfl) (lw_V q165 q167 qs5 q13 q168) ⟨rfl, rfl⟩ (by decide +kernel) ⟨Nat.le_of_ble_eq_true rfl, Nat.le_of_ble_eq_true rfl⟩ rfl hl.1 rfl (Nat.le_of_ble_eq_true rfl) dX1_own_14 ⟨Nat.zero_le _, Nat.zero_le _⟩ (fun r hr => ?_)
      subst hr
      refine fz_eq (tgt := 42) hx hb dX1_own_17 (by decide) fx_b (fun c_17 => ?_) (fun c_17 => ?_)
      · have g0 : (fun s => if ft_ov pa ln (ft_rp sk d) s ∧ ln s = (ft_rp sk d).length then wt s else 0) i = 0 := if_neg (fun z => c_17 z.1)
        refine fx_inc (v := nI (i + 1)) (lv' := [(2, .int (nI (i + 1))), (0, .ref (am 0)), (1, .int (nI x))]) (k0 := 2) hx hb dX1_own_42 hl rfl (nI_1 _) (by decide) rfl (fun ls hl => ?_)
        refine lv_goto (tgt := 4) hx hb dX1_own_45 (by decide) ?_
        exact ih (i + 1) _ (by omega) (by omega) (ft_sum_f hxs g0) ls (lv_sub hl [1, 2, 0] rfl)
      · have b1 := hln i
        refine lv_aload_n hx hb dX1_own_20 rfl (lv_at hl 0 rfl) ?_
        refine fx_g1 (v := .ref (am 3)) hx hb hts hown hK hP rfl 4 (by decide) q131 rfl rfl dX1_own_21 ?_
        refine lv_iload_n hx hb dX1_own_24 rfl (lv_at hl 2 rfl) ?_
        refine fx_ald (k := i) (v := nI (ln i)) hx hb hK hP 3 rfl rfl (by omega) (by decide) rfl dX1_own_25 ?_
        refine lv_aload_n hx hb dX1_own_26 rfl (lv_at hl 0 rfl) ?_
        refine fx_g1 (v := .int (nI d)) hx hb hts hown hK hP rfl 0 (by decide) q127 rfl rfl dX1_own_27 ?_
        refine fx_ne (tgt := 42) hx hb dX1_own_30 (by decide) (nI_eq (a := ln i) (b := d) (by omega) (by omega)) (fun c_30 => ?_) (fun c_30 => ?_)
        · have g0 : (fun s => if ft_ov pa ln (ft_rp sk d) s ∧ ln s = (ft_rp sk d).length then wt s else 0) i = 0 := if_neg (fun z => c_30 (by rw [z.2, ft_rp_len]))
          refine fx_inc (v := nI (i + 1)) (lv' := [(2, .int (nI (i + 1))), (0, .ref (am 0)), (1, .int (nI x))]) (k0 := 2) hx hb dX1_own_42 hl rfl (nI_1 _) (by decide) rfl (fun ls hl => ?_)
          refine lv_goto (tgt := 4) hx hb dX1_own_45 (by decide) ?_
          exact ih (i + 1) _ (by omega) (by omega) (ft_sum_f hxs g0) ls (lv_sub hl [1, 2, 0] rfl)
        · have g0 : (fun s => if ft_ov pa ln (ft_rp sk d) s ∧ ln s = (ft_rp sk d).length then wt s else 0) i = wt i := if_pos ⟨Decidable.not_not.mp c_17, by rw [ft_rp_len]; exact c_30⟩
          refine lv_iload_n hx hb dX1_own_33 rfl (lv_at hl 1 rfl) ?_
          refine lv_aload_n hx hb dX1_own_34 rfl (lv_at hl 0 rfl) ?_
          refine fx_g1 (v := .ref (am 4)) hx hb hts hown hK hP rfl 5 (by decide) q132 rfl rfl dX1_own_35 ?_
          refine lv_iload_n hx hb dX1_own_38 rfl (lv_at hl 2 rfl) ?_
          refine fx_ald (k := i) (v := nI (wt i)) hx hb hK hP 4 rfl rfl (by omega) (by decide) rfl dX1_own_39 ?_
          refine fx_add (v := nI (x + (wt i))) hx hb dX1_own_40 (nI_add _ _) ?_
          refine lv_istore_n (lv' := [(1, .int (nI (x + (wt i)))), (0, .ref (am 0)), (2, .int (nI i))]) hx hb dX1_own_41 rfl hl (by decide) rfl (fun ls hl => ?_)
          refine fx_inc (v := nI (i + 1)) (lv' := [(2, .int (nI (i + 1))), (1, .int (nI (x + (wt i)))), (0, .ref (am 0))]) (k0 := 2) hx hb dX1_own_42 hl rfl (nI_1 _) (by decide) rfl (fun ls hl => ?_)
          refine lv_goto (tgt := 4) hx hb dX1_own_45 (by decide) ?_
          exact ih (i + 1) _ (by omega) (by omega) (ft_sum_t hxs g0) ls (lv_sub hl [2, 1, 0] rfl)
set_option maxHeartbeats 4000000 in
set_option maxRecDepth 100000 in
theorem m1_own (l : Launch) (hSK : ft_SK d sk) (hSI : ft_SI ns pa ln wt) : Met l yX1_own (ws_ yX1_own cX1_own 3 (some .int)) fx_r1 (va_Pc [.ref (am 0)] (ft_pre (ft_MT D cA am d sk ns pa ln wt) D cA)) (vp_Si (fun r => r = nI (ft_own ns pa ln wt (ft_rp sk d)))) 0 0 (fun _ => False) := by
  refine fx_met (by decide) (Nat.le_of_ble_eq_true rfl) ?_
  intro p e s m below meth c ls C0 _ hB hl
  obtain ⟨⟨cp, hcp0, hP, hDD⟩, hK⟩ := hB
  have hI : ft_MI d ns sk cp ln wt pa := ⟨hSK, hSI, hcp0⟩
  have C0 : fx_C cX1_own 3 RX1 (some .int) p s m _ meth c := C0
  obtain ⟨hx, hb, hml, hown, hts, hr, hlocks⟩ := id C0
  have hl : lv_has ls 3 [(0, .ref (am 0))] := hl
  have hd8 := hI.1.1
  have hsk := hI.1.2
  have hns := hI.2.1.1
  have hln := hI.2.1.2.1
  have hwt := hI.2.1.2.2.1
  have hpa := hI.2.1.2.2.2.2
  have hcp := hI.2.2
  refine lv_iconst (v := nI 0) hx hb dX1_own_0 (by decide) ?_
  refine lv_istore_n (lv' := [(1, .int (nI 0)), (0, .ref (am 0))]) hx hb dX1_own_1 rfl hl (by decide) rfl (fun ls hl => ?_)
  refine lv_iconst (v := nI 0) hx hb dX1_own_2 (by decide) ?_
  refine lv_istore_n (lv' := [(2, .int (nI 0)), (1, .int (nI 0)), (0, .ref (am 0))]) hx hb dX1_own_3 rfl hl (by decide) rfl (fun ls hl => ?_)
  exact m1_own_l C0 hI hK hP (ns + 1) 0 0 (by omega) (by omega) rfl ls (lv_sub hl [2, 1, 0] rfl)
set_option maxHeartbeats 4000000 in
set_option maxRecDepth 100000 in
theorem m1_totalWith_l (C0 : fx_C cX1_totalWith 4 RX1 (some .int) p s m args meth c) (hI : ft_MI d ns sk cp ln wt pa) (hK : va_K D vwCl [(cA, .int)] s) (hP : va_P D vwCl (ft_MW cA am d ns sk cp ln wt) s.heap) {f : Nat} (hf : f ≤ 7) : ∀ (n i x : Nat), i ≤ ns → ns - i < n → x = ft_sum i (fun s => if ft_ov pa ln (f :: ft_rp sk d) s then wt s else 0) → ∀ ls : Array Slot, lv_has ls 4 [(0, .ref (am 0)), (1, .int (nI f)), (2, .int (nI x)), (3, .int (nI i))] → fx_W p l e fx_r1 s m args below meth c (fun r => r = nI (ft_tot ns pa ln wt (f :: ft_rp sk d))) (F0 m 4 ls []) := by
  have hd8 := hI.1.1
  have hsk := hI.1.2
  have hns := hI.2.1.1
  have hln := hI.2.1.2.1
  have hwt := hI.2.1.2.2.1
  have hpa := hI.2.1.2.2.2.2
  have hcp := hI.2.2
  obtain ⟨hx, hb, hml, hown, hts, hr, hlocks⟩ := id C0
  intro n
  induction n with
  | zero =>
    intro i x h1 h2
    exact absurd h2 (by omega)
  | succ n ih =>
    intro i x hi hn hxs ls hl
    refine lv_iload_n hx hb dX1_totalWith_4 rfl (lv_at hl 3 rfl) ?_
    refine lv_aload_n hx hb dX1_totalWith_5 rfl (lv_at hl 0 rfl) ?_
    refine fx_g1 (v := .int (nI ns)) hx hb hts hown hK hP rfl 2 (by decide) q129 rfl rfl dX1_totalWith_6 ?_
    refine fx_ge (tgt := 66) hx hb dX1_totalWith_9 (by decide) (nI_leI (a := ns) (b := i) (by omega) (by omega)) (fun c_9 => ?_) (fun c_9 => ?_)
    · refine lv_iload_n hx hb dX1_totalWith_66 rfl (lv_at hl 2 rfl) ?_
      exact fx_ri C0 dX1_totalWith_67 (by rw [hxs, (by omega : i = ns)]; rfl)
    · refine lv_aload_n hx hb dX1_totalWith_12 rfl (lv_at hl 0 rfl) ?_
      refine lv_iload_n hx hb dX1_totalWith_13 rfl (lv_at hl 3 rfl) ?_
      refine fx_callV (As := [.int (nI i)]) (rest := []) (n := 1) C0 (m1_over l hI (s0 := i) (by omega)) hP hK (va_recv hK hP (ci := 1) (q0 := 0) rfl rfl) (lw_V q165 q167 qs5 q13 q168) ⟨rfl, rfl⟩ (by decide +kernel) ⟨Nat.le_of_ble_eq_true rfl, Nat.le_of_ble_eq_true rfl⟩ rfl hl.1 rfl (Nat.le_of_ble_eq_true rfl) dX1_totalWith_14 ⟨Nat.zero_le _, Nat.zero_le _⟩ (fun r hr => ?_)
      subst hr
      refine fz_eq (tgt := 60) hx hb dX1_totalWith_17 (by decide) fx_b (fun c_17 => ?_) (fun c_17 => ?_)
      · have g0 : (fun s => if ft_ov pa ln (f :: ft_rp sk d) s then wt s else 0) i = 0 := if_neg (fun z => c_17 (ft_ov_c2.mp z).1)
        refine fx_inc (v := nI (i + 1)) (lv' := [(3, .int (nI (i + 1))), (0, .ref (am 0)), (1, .int (nI f)), (2, .int (nI x))]) (k0 := 3) hx hb dX1_totalWith_60 hl rfl (nI_1 _) (by decide) rfl (fun ls hl => ?_)
        refine lv_goto (tgt := 4) hx hb dX1_totalWith_63 (by decide) ?_
        exact ih (i + 1) _ (by omega) (by omega) (ft_sum_f hxs g0) ls (lv_sub hl [1, 2, 3, 0] rfl)
      · have b1 := hln i
        refine lv_aload_n hx hb dX1_totalWith_20 rfl (lv_at hl 0 rfl) ?_
        refine fx_g1 (v := .ref (am 3)) hx hb hts hown hK hP rfl 4 (by decide) q131 rfl rfl dX1_totalWith_21 ?_
        refine lv_iload_n hx hb dX1_totalWith_24 rfl (lv_at hl 3 rfl) ?_
        refine fx_ald (k := i) (v := nI (ln i)) hx hb hK hP 3 rfl rfl (by omega) (by decide) rfl dX1_totalWith_25 ?_
        refine lv_aload_n hx hb dX1_totalWith_26 rfl (lv_at hl 0 rfl) ?_
        refine fx_g1 (v := .int (nI d)) hx hb hts hown hK hP rfl 0 (by decide) q127 rfl rfl dX1_totalWith_27 ?_
        refine fx_le (tgt := 60) hx hb dX1_totalWith_30 (by decide) (nI_leI (a := ln i) (b := d) (by omega) (by omega)) (fun c_30 => ?_) (fun c_30 => ?_)
        · have g0 : (fun s => if ft_ov pa ln (f :: ft_rp sk d) s then wt s else 0) i = 0 := if_neg (fun z => Nat.lt_irrefl _ (Nat.lt_of_lt_of_le (ft_ov_c2.mp z).2.1 c_30))
          refine fx_inc (v := nI (i + 1)) (lv' := [(3, .int (nI (i + 1))), (0, .ref (am 0)), (1, .int (nI f)), (2, .int (nI x))]) (k0 := 3) hx hb dX1_totalWith_60 hl rfl (nI_1 _) (by decide) rfl (fun ls hl => ?_)
          refine lv_goto (tgt := 4) hx hb dX1_totalWith_63 (by decide) ?_
          exact ih (i + 1) _ (by omega) (by omega) (ft_sum_f hxs g0) ls (lv_sub hl [1, 2, 3, 0] rfl)
        · have b2 := hpa i d (by omega) (by omega)
          refine lv_aload_n hx hb dX1_totalWith_33 rfl (lv_at hl 0 rfl) ?_
          refine fx_g1 (v := .ref (am 2)) hx hb hts hown hK hP rfl 3 (by decide) q130 rfl rfl dX1_totalWith_34 ?_
          refine lv_bipush (v := nI 8) hx hb dX1_totalWith_37 (by decide) ?_
          refine lv_iload_n hx hb dX1_totalWith_39 rfl (lv_at hl 3 rfl) ?_
          refine fx_mul (v := nI (8 * i)) hx hb dX1_totalWith_40 (pk_mul _ _) ?_
          refine lv_aload_n hx hb dX1_totalWith_41 rfl (lv_at hl 0 rfl) ?_
          refine fx_g1 (v := .int (nI d)) hx hb hts hown hK hP rfl 0 (by decide) q127 rfl rfl dX1_totalWith_42 ?_
          refine fx_add (v := nI (8 * i + d)) hx hb dX1_totalWith_45 (nI_add _ _) ?_
          refine fx_ald (k := 8 * i + d) (v := nI (pa i d)) hx hb hK hP 2 rfl rfl (by omega) (by decide) (congrArg nI (hcp i d (by omega) (by omega))) dX1_totalWith_46 ?_
          refine lv_iload_n hx hb dX1_totalWith_47 rfl (lv_at hl 1 rfl) ?_
          refine fx_ne (tgt := 60) hx hb dX1_totalWith_48 (by decide) (nI_eq (a := pa i d) (b := f) (by omega) (by omega)) (fun c_48 => ?_) (fun c_48 => ?_)
          · have g0 : (fun s => if ft_ov pa ln (f :: ft_rp sk d) s then wt s else 0) i = 0 := if_neg (fun z => c_48 (ft_ov_c2.mp z).2.2)
            refine fx_inc (v := nI (i + 1)) (lv' := [(3, .int (nI (i + 1))), (0, .ref (am 0)), (1, .int (nI f)), (2, .int (nI x))]) (k0 := 3) hx hb dX1_totalWith_60 hl rfl (nI_1 _) (by decide) rfl (fun ls hl => ?_)
            refine lv_goto (tgt := 4) hx hb dX1_totalWith_63 (by decide) ?_
            exact ih (i + 1) _ (by omega) (by omega) (ft_sum_f hxs g0) ls (lv_sub hl [1, 2, 3, 0] rfl)
          · have g0 : (fun s => if ft_ov pa ln (f :: ft_rp sk d) s then wt s else 0) i = wt i := if_pos (ft_ov_c2.mpr ⟨Decidable.not_not.mp c_17, by omega, c_48⟩)
            refine lv_iload_n hx hb dX1_totalWith_51 rfl (lv_at hl 2 rfl) ?_
            refine lv_aload_n hx hb dX1_totalWith_52 rfl (lv_at hl 0 rfl) ?_
            refine fx_g1 (v := .ref (am 4)) hx hb hts hown hK hP rfl 5 (by decide) q132 rfl rfl dX1_totalWith_53 ?_
            refine lv_iload_n hx hb dX1_totalWith_56 rfl (lv_at hl 3 rfl) ?_
            refine fx_ald (k := i) (v := nI (wt i)) hx hb hK hP 4 rfl rfl (by omega) (by decide) rfl dX1_totalWith_57 ?_
            refine fx_add (v := nI (x + (wt i))) hx hb dX1_totalWith_58 (nI_add _ _) ?_
            refine lv_istore_n (lv' := [(2, .int (nI (x + (wt i)))), (0, .ref (am 0)), (1, .int (nI f)), (3, .int (nI i))]) hx hb dX1_totalWith_59 rfl hl (by decide) rfl (fun ls hl => ?_)
            refine fx_inc (v := nI (i + 1)) (lv' := [(3, .int (nI (i + 1))), (2, .int (nI (x + (wt i)))), (0, .ref (am 0)), (1, .int (nI f))]) (k0 := 3) hx hb dX1_totalWith_60 hl rfl (nI_1 _) (by decide) rfl (fun ls hl => ?_)
            refine lv_goto (tgt := 4) hx hb dX1_totalWith_63 (by decide) ?_
            exact ih (i + 1) _ (by omega) (by omega) (ft_sum_t hxs g0) ls (lv_sub hl [2, 3, 1, 0] rfl)
set_option maxHeartbeats 4000000 in
set_option maxRecDepth 100000 in
theorem m1_totalWith (l : Launch) (hI : ft_MI d ns sk cp ln wt pa) {f : Nat} (hf : f ≤ 7) : Met l yX1_totalWith (ws_ yX1_totalWith cX1_totalWith 4 (some .int)) fx_r1 (va_Pc [.ref (am 0), .int (nI f)] (ft_pre (va_P D vwCl (ft_MW cA am d ns sk cp ln wt)) D cA)) (vp_Si (fun r => r = nI (ft_tot ns pa ln wt (f :: ft_rp sk d)))) 0 0 (fun _ => False) := by
  refine fx_met (by decide) (Nat.le_of_ble_eq_true rfl) ?_
  intro p e s m below meth c ls C0 _ hB hl
  obtain ⟨hP, hK⟩ := hB
  have C0 : fx_C cX1_totalWith 4 RX1 (some .int) p s m _ meth c := C0
  obtain ⟨hx, hb, hml, hown, hts, hr, hlocks⟩ := id C0
  have hl : lv_has ls 4 [(0, .ref (am 0)), (1, .int (nI f))] := hl
  have hd8 := hI.1.1
  have hsk := hI.1.2
  have hns := hI.2.1.1
  have hln := hI.2.1.2.1
  have hwt := hI.2.1.2.2.1
  have hpa := hI.2.1.2.2.2.2
  have hcp := hI.2.2
  refine lv_iconst (v := nI 0) hx hb dX1_totalWith_0 (by decide) ?_
  refine lv_istore_n (lv' := [(2, .int (nI 0)), (0, .ref (am 0)), (1, .int (nI f))]) hx hb dX1_totalWith_1 rfl hl (by decide) rfl (fun ls hl => ?_)
  refine lv_iconst (v := nI 0) hx hb dX1_totalWith_2 (by decide) ?_
  refine lv_istore_n (lv' := [(3, .int (nI 0)), (2, .int (nI 0)), (0, .ref (am 0)), (1, .int (nI f))]) hx hb dX1_totalWith_3 rfl hl (by decide) rfl (fun ls hl => ?_)
  exact m1_totalWith_l C0 hI hK hP hf (ns + 1) 0 0 (by omega) (by omega) rfl ls (lv_sub hl [2, 3, 1, 0] rfl)
set_option maxHeartbeats 4000000 in
set_option maxRecDepth 100000 in
theorem m1_hottest_l (C0 : fx_C cX1_hottest 5 RX1 (some .int) p s m args meth c) (hI : ft_MI d ns sk cp ln wt pa) (hK : va_K D vwCl [(cA, .int)] s) (hP : va_P D vwCl (ft_MW cA am d ns sk cp ln wt) s.heap) (hd : d < 8) : ∀ (n f : Nat) (be : Int32) (mo : Nat), f ≤ 8 → 8 - f < n → mo ≤ 4000 → ft_hot f (fun f => ft_tot ns pa ln wt (f :: ft_rp sk d)) be mo → ∀ ls : Array Slot, lv_has ls 5 [(0, .ref (am 0)), (1, .int be), (2, .int (nI mo)), (3, .int (nI f))] → fx_W p l e fx_r2 s m args below meth c (fun r => (d = 8 → r = -1) ∧ (d < 8 → ∃ mo, ft_hot 8 (fun f => ft_tot ns pa ln wt (f :: ft_rp sk d)) r mo)) (F0 m 6 ls []) := by
  have hd8 := hI.1.1
  have hsk := hI.1.2
  have hns := hI.2.1.1
  have hln := hI.2.1.2.1
  have hwt := hI.2.1.2.2.1
  have hpa := hI.2.1.2.2.2.2
  have hcp := hI.2.2
  obtain ⟨hx, hb, hml, hown, hts, hr, hlocks⟩ := id C0
  intro n
  induction n with
  | zero =>
    intro f be mo h1 h2
    exact absurd h2 (by omega)
  | succ n ih =>
    intro f be mo hi hn hmo hh ls hl
    refine lv_iload_n hx hb dX1_hottest_6 rfl (lv_at hl 3 rfl) ?_
    refine lv_bipush (v := nI 8) hx hb dX1_hottest_7 (by decide) ?_
    refine fx_ge (tgt := 45) hx hb dX1_hottest_9 (by decide) (nI_leI (a := 8) (b := f) (by omega) (by omega)) (fun c_9 => ?_) (fun c_9 => ?_)
    · have e8 : f = 8 := by omega
      refine lv_iload_n hx hb dX1_hottest_45 rfl (lv_at hl 1 rfl) ?_
      exact fx_ri C0 dX1_hottest_46 ⟨fun z => absurd z (by omega), fun _ => ⟨mo, e8 ▸ hh⟩⟩
    · refine lv_aload_n hx hb dX1_hottest_12 rfl (lv_at hl 0 rfl) ?_
      refine fx_g1 (v := .int (nI d)) hx hb hts hown hK hP rfl 0 (by decide) q127 rfl rfl dX1_hottest_13 ?_
      refine lv_bipush (v := nI 8) hx hb dX1_hottest_16 (by decide) ?_
      refine fx_ge (tgt := 45) hx hb dX1_hottest_18 (by decide) (nI_leI (a := 8) (b := d) (by omega) (by omega)) (fun c_18 => ?_) (fun c_18 => ?_)
      · exact absurd c_18 (by omega)
      · refine lv_aload_n hx hb dX1_hottest_21 rfl (lv_at hl 0 rfl) ?_
        refine lv_iload_n hx hb dX1_hottest_22 rfl (lv_at hl 3 rfl) ?_
        refine fx_callV (As := [.int (nI f)]) (rest := []) (n := 1) C0 (m1_totalWith l hI (f := f) (by omega)) hP hK (va_recv hK hP (ci := 1) (q0 := 0) rfl rfl) (lw_V q177 q179 qs6 q13 q180) ⟨rfl, rfl⟩ (by decide +kernel) ⟨Nat.le_of_ble_eq_true rfl, Nat.le_of_ble_eq_true rfl⟩ rfl hl.1 rfl (Nat.le_of_ble_eq_true rfl) dX1_hottest_23 ⟨Nat.zero_le _, Nat.zero_le _⟩ (fun r hr => ?_)
        subst hr
        refine lv_istore (lv' := [(4, .int (nI (ft_tot ns pa ln wt (f :: ft_rp sk d)))), (0, .ref (am 0)), (1, .int be), (2, .int (nI mo)), (3, .int (nI f))]) hx hb dX1_hottest_26 hl (by decide) rfl (fun ls hl => ?_)
        refine lv_iload hx hb dX1_hottest_28 (lv_at hl 0 rfl) ?_
        refine lv_iload_n hx hb dX1_hottest_30 rfl (lv_at hl 3 rfl) ?_
        have b1 := ft_tot_4000 hI.2.1 (f :: ft_rp sk d)
        refine fx_le (tgt := 39) hx hb dX1_hottest_31 (by decide) (nI_leI (a := ft_tot ns pa ln wt (f :: ft_rp sk d)) (b := mo) (by omega) (by omega)) (fun c_31 => ?_) (fun c_31 => ?_)
        · refine fx_inc (v := nI (f + 1)) (lv' := [(3, .int (nI (f + 1))), (4, .int (nI (ft_tot ns pa ln wt (f :: ft_rp sk d)))), (0, .ref (am 0)), (1, .int be), (2, .int (nI mo))]) (k0 := 4) hx hb dX1_hottest_39 hl rfl (nI_1 _) (by decide) rfl (fun ls hl => ?_)
          refine lv_goto (tgt := 6) hx hb dX1_hottest_42 (by decide) ?_
          exact ih (f + 1) _ _ (by omega) (by omega) (by omega) (ft_hot_le hh c_31) ls (lv_sub hl [2, 3, 4, 0] rfl)
        · refine lv_iload hx hb dX1_hottest_34 (lv_at hl 0 rfl) ?_
          refine lv_istore_n (lv' := [(2, .int (nI (ft_tot ns pa ln wt (f :: ft_rp sk d)))), (4, .int (nI (ft_tot ns pa ln wt (f :: ft_rp sk d)))), (0, .ref (am 0)), (1, .int be), (3, .int (nI f))]) hx hb dX1_hottest_36 rfl hl (by decide) rfl (fun ls hl => ?_)
          refine lv_iload_n hx hb dX1_hottest_37 rfl (lv_at hl 4 rfl) ?_
          refine lv_istore_n (lv' := [(1, .int (nI f)), (2, .int (nI (ft_tot ns pa ln wt (f :: ft_rp sk d)))), (4, .int (nI (ft_tot ns pa ln wt (f :: ft_rp sk d)))), (0, .ref (am 0)), (3, .int (nI f))]) hx hb dX1_hottest_38 rfl hl (by decide) rfl (fun ls hl => ?_)
          refine fx_inc (v := nI (f + 1)) (lv' := [(3, .int (nI (f + 1))), (1, .int (nI f)), (2, .int (nI (ft_tot ns pa ln wt (f :: ft_rp sk d)))), (4, .int (nI (ft_tot ns pa ln wt (f :: ft_rp sk d)))), (0, .ref (am 0))]) (k0 := 4) hx hb dX1_hottest_39 hl rfl (nI_1 _) (by decide) rfl (fun ls hl => ?_)
          refine lv_goto (tgt := 6) hx hb dX1_hottest_42 (by decide) ?_
          exact ih (f + 1) _ _ (by omega) (by omega) (by omega) (ft_hot_gt hh (Nat.lt_of_not_le c_31)) ls (lv_sub hl [4, 1, 2, 0] rfl)
set_option maxHeartbeats 4000000 in
set_option maxRecDepth 100000 in
theorem m1_hottest (l : Launch) (hSK : ft_SK d sk) (hSI : ft_SI ns pa ln wt) : Met l yX1_hottest (ws_ yX1_hottest cX1_hottest 5 (some .int)) fx_r2 (va_Pc [.ref (am 0)] (ft_pre (ft_MT D cA am d sk ns pa ln wt) D cA)) (vp_Si (fun r => (d = 8 → r = -1) ∧ (d < 8 → ∃ mo, ft_hot 8 (fun f => ft_tot ns pa ln wt (f :: ft_rp sk d)) r mo))) 0 0 (fun _ => False) := by
  refine fx_met (by decide) (Nat.le_of_ble_eq_true rfl) ?_
  intro p e s m below meth c ls C0 _ hB hl
  obtain ⟨⟨cp, hcp0, hP, hDD⟩, hK⟩ := hB
  have hI : ft_MI d ns sk cp ln wt pa := ⟨hSK, hSI, hcp0⟩
  have C0 : fx_C cX1_hottest 5 RX1 (some .int) p s m _ meth c := C0
  obtain ⟨hx, hb, hml, hown, hts, hr, hlocks⟩ := id C0
  have hl : lv_has ls 5 [(0, .ref (am 0))] := hl
  have hd8 := hI.1.1
  have hsk := hI.1.2
  have hns := hI.2.1.1
  have hln := hI.2.1.2.1
  have hwt := hI.2.1.2.2.1
  have hpa := hI.2.1.2.2.2.2
  have hcp := hI.2.2
  refine lv_iconst (v := -1) hx hb dX1_hottest_0 (by decide) ?_
  refine lv_istore_n (lv' := [(1, .int (-1)), (0, .ref (am 0))]) hx hb dX1_hottest_1 rfl hl (by decide) rfl (fun ls hl => ?_)
  refine lv_iconst (v := nI 0) hx hb dX1_hottest_2 (by decide) ?_
  refine lv_istore_n (lv' := [(2, .int (nI 0)), (1, .int (-1)), (0, .ref (am 0))]) hx hb dX1_hottest_3 rfl hl (by decide) rfl (fun ls hl => ?_)
  refine lv_iconst (v := nI 0) hx hb dX1_hottest_4 (by decide) ?_
  refine lv_istore_n (lv' := [(3, .int (nI 0)), (2, .int (nI 0)), (1, .int (-1)), (0, .ref (am 0))]) hx hb dX1_hottest_5 rfl hl (by decide) rfl (fun ls hl => ?_)
  by_cases e8 : d < 8
  · exact m1_hottest_l C0 hI hK hP e8 9 0 (-1) 0 (by omega) (by omega) (by omega) (ft_hot_0 _) ls (lv_sub hl [3, 2, 1, 0] rfl)
  · refine lv_iload_n hx hb dX1_hottest_6 rfl (lv_at hl 0 rfl) ?_
    refine lv_bipush (v := nI 8) hx hb dX1_hottest_7 (by decide) ?_
    refine fx_ge (tgt := 45) hx hb dX1_hottest_9 (by decide) (nI_leI (a := 8) (b := 0) (by omega) (by omega)) (fun c_9 => ?_) (fun c_9 => ?_)
    · exact absurd c_9 (by decide)
    · have b8 := hd8
      refine lv_aload_n hx hb dX1_hottest_12 rfl (lv_at hl 3 rfl) ?_
      refine fx_g1 (v := .int (nI d)) hx hb hts hown hK hP rfl 0 (by decide) q127 rfl rfl dX1_hottest_13 ?_
      refine lv_bipush (v := nI 8) hx hb dX1_hottest_16 (by decide) ?_
      refine fx_ge (tgt := 45) hx hb dX1_hottest_18 (by decide) (nI_leI (a := 8) (b := d) (by omega) (by omega)) (fun c_18 => ?_) (fun c_18 => ?_)
      · refine lv_iload_n hx hb dX1_hottest_45 rfl (lv_at hl 2 rfl) ?_
        exact fx_ri C0 dX1_hottest_46 ⟨fun _ => rfl, fun z => absurd z (by omega)⟩
      · exact absurd (by omega : 8 ≤ d) c_18
set_option maxHeartbeats 4000000 in
set_option maxRecDepth 100000 in
theorem m1_stands_l (C0 : fx_C cX1_stands 6 RX1 (some .boolean) p s m args meth c) (hI : ft_MI d ns sk cp ln wt pa) (hK : va_K D vwCl [(cA, .int)] s) (hP : va_P D vwCl (ft_MW cA am d ns sk cp ln wt) s.heap) {s0 f : Nat} {cN : Option Nat} (hs : s0 < ns) (hf : f ≤ 7) (hc : ∀ k, cN = some k → k ≤ 7) : ∀ (n i : Nat), i ≤ ln s0 → ln s0 - i < n → ft_occ cN f (ft_rp (pa s0) i) = false → ∀ ls : Array Slot, lv_has ls 6 [(0, .ref (am 0)), (1, .int (nI s0)), (2, .int (ft_ci cN)), (3, .int (nI f)), (4, .int (nI i))] → fx_W p l e R s m args below meth c (fun r => r = if ft_occ cN f (ft_rp (pa s0) (ln s0)) = true then 1 else 0) (F0 m 3 ls []) := by
  have hd8 := hI.1.1
  have hsk := hI.1.2
  have hns := hI.2.1.1
  have hln := hI.2.1.2.1
  have hwt := hI.2.1.2.2.1
  have hpa := hI.2.1.2.2.2.2
  have hcp := hI.2.2
  obtain ⟨hx, hb, hml, hown, hts, hr, hlocks⟩ := id C0
  intro n
  induction n with
  | zero =>
    intro i h1 h2
    exact absurd h2 (by omega)
  | succ n ih =>
    intro i hi hn hinv ls hl
    have b0 := hln s0
    refine lv_iload hx hb dX1_stands_3 (lv_at hl 4 rfl) ?_
    refine lv_aload_n hx hb dX1_stands_5 rfl (lv_at hl 0 rfl) ?_
    refine fx_g1 (v := .ref (am 3)) hx hb hts hown hK hP rfl 4 (by decide) q131 rfl rfl dX1_stands_6 ?_
    refine lv_iload_n hx hb dX1_stands_9 rfl (lv_at hl 1 rfl) ?_
    refine fx_ald (k := s0) (v := nI (ln s0)) hx hb hK hP 3 rfl rfl (by omega) (by decide) rfl dX1_stands_10 ?_
    refine fx_ge (tgt := 77) hx hb dX1_stands_11 (by decide) (nI_leI (a := ln s0) (b := i) (by omega) (by omega)) (fun c_11 => ?_) (fun c_11 => ?_)
    · have e0 : i = ln s0 := by omega
      refine lv_iconst (v := 0) hx hb dX1_stands_77 (by decide) ?_
      exact fx_rz C0 dX1_stands_78 rfl (if_neg (by rw [← e0, hinv]; decide)).symm
    · refine lv_iload_n hx hb dX1_stands_14 rfl (lv_at hl 2 rfl) ?_
      have j46 : ∀ z : Int32, z = (if ft_be cN (ft_rp (pa s0) i) = true then 1 else 0) → fx_W p l e R s m args below meth c (fun r => r = if ft_occ cN f (ft_rp (pa s0) (ln s0)) = true then 1 else 0) (F0 m 46 ls [.int z]) := by
        intro z hz
        subst hz
        refine lv_istore (lv' := [(5, .int ((if ft_be cN (ft_rp (pa s0) i) = true then 1 else 0))), (0, .ref (am 0)), (1, .int (nI s0)), (2, .int (ft_ci cN)), (3, .int (nI f)), (4, .int (nI i))]) hx hb dX1_stands_46 hl (by decide) rfl (fun ls hl => ?_)
        have b1 := hpa s0 i hs (by omega)
        refine lv_aload_n hx hb dX1_stands_48 rfl (lv_at hl 1 rfl) ?_
        refine fx_g1 (v := .ref (am 2)) hx hb hts hown hK hP rfl 3 (by decide) q130 rfl rfl dX1_stands_49 ?_
        refine lv_bipush (v := nI 8) hx hb dX1_stands_52 (by decide) ?_
        refine lv_iload_n hx hb dX1_stands_54 rfl (lv_at hl 2 rfl) ?_
        refine fx_mul (v := nI (8 * s0)) hx hb dX1_stands_55 (pk_mul _ _) ?_
        refine lv_iload hx hb dX1_stands_56 (lv_at hl 5 rfl) ?_
        refine fx_add (v := nI (8 * s0 + i)) hx hb dX1_stands_58 (nI_add _ _) ?_
        refine fx_ald (k := 8 * s0 + i) (v := nI (pa s0 i)) hx hb hK hP 2 rfl rfl (by omega) (by decide) (congrArg nI (hcp s0 i hs (by omega))) dX1_stands_59 ?_
        refine lv_iload_n hx hb dX1_stands_60 rfl (lv_at hl 4 rfl) ?_
        refine fx_ne (tgt := 71) hx hb dX1_stands_61 (by decide) (nI_eq (a := pa s0 i) (b := f) (by omega) (by omega)) (fun c_61 => ?_) (fun c_61 => ?_)
        · have g0 : ft_occ cN f (ft_rp (pa s0) (i + 1)) = false := by simp [ft_rp, ft_occ, hinv, c_61]
          refine fx_inc (v := nI (i + 1)) (lv' := [(4, .int (nI (i + 1))), (5, .int ((if ft_be cN (ft_rp (pa s0) i) = true then 1 else 0))), (0, .ref (am 0)), (1, .int (nI s0)), (2, .int (ft_ci cN)), (3, .int (nI f))]) (k0 := 5) hx hb dX1_stands_71 hl rfl (nI_1 _) (by decide) rfl (fun ls hl => ?_)
          refine lv_goto (tgt := 3) hx hb dX1_stands_74 (by decide) ?_
          exact ih (i + 1) (by omega) (by omega) g0 ls (lv_sub hl [2, 3, 4, 5, 0] rfl)
        · refine lv_iload hx hb dX1_stands_64 (lv_at hl 0 rfl) ?_
          refine fz_eq (tgt := 71) hx hb dX1_stands_66 (by decide) fx_b (fun c_66 => ?_) (fun c_66 => ?_)
          · have g0 : ft_occ cN f (ft_rp (pa s0) (i + 1)) = false := by simp [ft_rp, ft_occ, hinv, c_66]
            refine fx_inc (v := nI (i + 1)) (lv' := [(4, .int (nI (i + 1))), (5, .int ((if ft_be cN (ft_rp (pa s0) i) = true then 1 else 0))), (0, .ref (am 0)), (1, .int (nI s0)), (2, .int (ft_ci cN)), (3, .int (nI f))]) (k0 := 5) hx hb dX1_stands_71 hl rfl (nI_1 _) (by decide) rfl (fun ls hl => ?_)
            refine lv_goto (tgt := 3) hx hb dX1_stands_74 (by decide) ?_
            exact ih (i + 1) (by omega) (by omega) g0 ls (lv_sub hl [2, 3, 4, 5, 0] rfl)
          · have g1 : ft_occ cN f (ft_rp (pa s0) (i + 1)) = true := by simp [ft_rp, ft_occ, c_61, Decidable.not_not.mp c_66]
            refine lv_iconst (v := 1) hx hb dX1_stands_69 (by decide) ?_
            exact fx_rz C0 dX1_stands_70 rfl (if_pos (ft_occ_mono (by omega) g1)).symm
      refine fz_lt (tgt := 41) hx hb dX1_stands_15 (by decide) (ft_ci_lt hc) (fun c_15 => ?_) (fun c_15 => ?_)
      · refine lv_iconst (v := 1) hx hb dX1_stands_41 (by decide) ?_
        refine lv_goto (tgt := 46) hx hb dX1_stands_42 (by decide) ?_
        exact j46 _ (by first | (rw [c_15]; rfl) | (rw [ft_be_s (by omega), c_38]; simp))
      · obtain ⟨k, rfl⟩ : ∃ k, cN = some k := Option.ne_none_iff_exists'.mp c_15
        have bk := hc k rfl
        refine lv_iload hx hb dX1_stands_18 (lv_at hl 4 rfl) ?_
        refine fz_le (tgt := 45) hx hb dX1_stands_20 (by decide) (fx_zl (n := i) (by omega)) (fun c_20 => ?_) (fun c_20 => ?_)
        · subst c_20
          refine lv_iconst (v := 0) hx hb dX1_stands_45 (by decide) ?_
          exact j46 _ (by first | rfl | (rw [ft_be_s (by omega)]; simp [c_38]))
        · have b2 := hpa s0 (i - 1) hs (by omega)
          refine lv_aload_n hx hb dX1_stands_23 rfl (lv_at hl 0 rfl) ?_
          refine fx_g1 (v := .ref (am 2)) hx hb hts hown hK hP rfl 3 (by decide) q130 rfl rfl dX1_stands_24 ?_
          refine lv_bipush (v := nI 8) hx hb dX1_stands_27 (by decide) ?_
          refine lv_iload_n hx hb dX1_stands_29 rfl (lv_at hl 1 rfl) ?_
          refine fx_mul (v := nI (8 * s0)) hx hb dX1_stands_30 (pk_mul _ _) ?_
          refine lv_iload hx hb dX1_stands_31 (lv_at hl 4 rfl) ?_
          refine fx_add (v := nI (8 * s0 + i)) hx hb dX1_stands_33 (nI_add _ _) ?_
          refine lv_iconst (v := nI 1) hx hb dX1_stands_34 (by decide) ?_
          refine fx_sub (v := nI ((8 * s0 + i) - 1)) hx hb dX1_stands_35 (pk_sub (by omega)) ?_
          refine fx_ald (k := (8 * s0 + i) - 1) (v := nI (pa s0 (i - 1))) hx hb hK hP 2 rfl rfl (by omega) (by decide) (by rw [show 8 * s0 + i - 1 = 8 * s0 + (i - 1) by omega]; exact congrArg nI (hcp s0 (i - 1) hs (by omega))) dX1_stands_36 ?_
          refine lv_iload_n hx hb dX1_stands_37 rfl (lv_at hl 2 rfl) ?_
          refine fx_ne (tgt := 45) hx hb dX1_stands_38 (by decide) (nI_eq (a := pa s0 (i - 1)) (b := k) (by omega) (by omega)) (fun c_38 => ?_) (fun c_38 => ?_)
          · refine lv_iconst (v := 0) hx hb dX1_stands_45 (by decide) ?_
            exact j46 _ (by first | rfl | (rw [ft_be_s (by omega)]; simp [c_38]))
          · refine lv_iconst (v := 1) hx hb dX1_stands_41 (by decide) ?_
            refine lv_goto (tgt := 46) hx hb dX1_stands_42 (by decide) ?_
            exact j46 _ (by first | (rw [c_15]; rfl) | (rw [ft_be_s (by omega), c_38]; simp))
set_option maxHeartbeats 4000000 in
set_option maxRecDepth 100000 in
theorem m1_stands (l : Launch) (hI : ft_MI d ns sk cp ln wt pa) {s0 f : Nat} {cN : Option Nat} (hs : s0 < ns) (hf : f ≤ 7) (hc : ∀ k, cN = some k → k ≤ 7) : Met l yX1_stands (ws_ yX1_stands cX1_stands 6 (some .boolean)) fx_r0 (va_Pc [.ref (am 0), .int (nI s0), .int (ft_ci cN), .int (nI f)] (ft_pre (va_P D vwCl (ft_MW cA am d ns sk cp ln wt)) D cA)) (vp_Si (fun r => r = if ft_occ cN f (ft_rp (pa s0) (ln s0)) = true then 1 else 0)) 0 0 (fun _ => False) := by
  refine fx_met (by decide) (Nat.le_of_ble_eq_true rfl) ?_
  intro p e s m below meth c ls C0 _ hB hl
  obtain ⟨hP, hK⟩ := hB
  have C0 : fx_C cX1_stands 6 RX1 (some .boolean) p s m _ meth c := C0
  obtain ⟨hx, hb, hml, hown, hts, hr, hlocks⟩ := id C0
  have hl : lv_has ls 6 [(0, .ref (am 0)), (1, .int (nI s0)), (2, .int (ft_ci cN)), (3, .int (nI f))] := hl
  have hd8 := hI.1.1
  have hsk := hI.1.2
  have hns := hI.2.1.1
  have hln := hI.2.1.2.1
  have hwt := hI.2.1.2.2.1
  have hpa := hI.2.1.2.2.2.2
  have hcp := hI.2.2
  refine lv_iconst (v := nI 0) hx hb dX1_stands_0 (by decide) ?_
  refine lv_istore (lv' := [(4, .int (nI 0)), (0, .ref (am 0)), (1, .int (nI s0)), (2, .int (ft_ci cN)), (3, .int (nI f))]) hx hb dX1_stands_1 hl (by decide) rfl (fun ls hl => ?_)
  exact m1_stands_l C0 hI hK hP hs hf hc (ln s0 + 1) 0 (by omega) (by omega) rfl ls (lv_sub hl [1, 2, 3, 4, 0] rfl)
set_option maxHeartbeats 4000000 in
set_option maxRecDepth 100000 in
theorem m1_standing_l (C0 : fx_C cX1_standing 5 RX1 (some .int) p s m args meth c) (hI : ft_MI d ns sk cp ln wt pa) (hK : va_K D vwCl [(cA, .int)] s) (hP : va_P D vwCl (ft_MW cA am d ns sk cp ln wt) s.heap) {f : Nat} {cN : Option Nat} (hf : f ≤ 7) (hc : ∀ k, cN = some k → k ≤ 7) : ∀ (n i x : Nat), i ≤ ns → ns - i < n → x = ft_sum i (fun s => if ft_occ cN f (ft_rp (pa s) (ln s)) = true then wt s else 0) → ∀ ls : Array Slot, lv_has ls 5 [(0, .ref (am 0)), (1, .int (ft_ci cN)), (2, .int (nI f)), (3, .int (nI x)), (4, .int (nI i))] → fx_W p l e fx_r1 s m args below meth c (fun r => r = nI (ft_std ns pa ln wt cN f)) (F0 m 5 ls []) := by
  have hd8 := hI.1.1
  have hsk := hI.1.2
  have hns := hI.2.1.1
  have hln := hI.2.1.2.1
  have hwt := hI.2.1.2.2.1
  have hpa := hI.2.1.2.2.2.2
  have hcp := hI.2.2
  obtain ⟨hx, hb, hml, hown, hts, hr, hlocks⟩ := id C0
  intro n
  induction n with
  | zero =>
    intro i x h1 h2
    exact absurd h2 (by omega)
  | succ n ih =>
    intro i x hi hn hxs ls hl
    refine lv_iload hx hb dX1_standing_5 (lv_at hl 4 rfl) ?_
    refine lv_aload_n hx hb dX1_standing_7 rfl (lv_at hl 0 rfl) ?_
    refine fx_g1 (v := .int (nI ns)) hx hb hts hown hK hP rfl 2 (by decide) q129 rfl rfl dX1_standing_8 ?_
    refine fx_ge (tgt := 41) hx hb dX1_standing_11 (by decide) (nI_leI (a := ns) (b := i) (by omega) (by omega)) (fun c_11 => ?_) (fun c_11 => ?_)
    · refine lv_iload_n hx hb dX1_standing_41 rfl (lv_at hl 3 rfl) ?_
      exact fx_ri C0 dX1_standing_42 (by rw [hxs, (by omega : i = ns)]; rfl)
    · refine lv_aload_n hx hb dX1_standing_14 rfl (lv_at hl 0 rfl) ?_
      refine lv_iload hx hb dX1_standing_15 (lv_at hl 4 rfl) ?_
      refine lv_iload_n hx hb dX1_standing_17 rfl (lv_at hl 1 rfl) ?_
      refine lv_iload_n hx hb dX1_standing_18 rfl (lv_at hl 2 rfl) ?_
      refine fx_callV (As := [.int (nI i), .int (ft_ci cN), .int (nI f)]) (rest := []) (n := 3) C0 (m1_stands l hI (s0 := i) (f := f) (cN := cN) (by omega) hf hc) hP hK (va_recv hK hP (ci := 1) (q0 := 0) rfl rfl) (lw_V q189 q191 qs8 q13 q192) ⟨rfl, rfl⟩ (by decide +kernel) ⟨Nat.le_of_ble_eq_true rfl, Nat.le_of_ble_eq_true rfl⟩ rfl hl.1 rfl (Nat.le_of_ble_eq_true rfl) dX1_standing_19 ⟨Nat.zero_le _, Nat.zero_le _⟩ (fun r hr => ?_)
      subst hr
      refine fz_eq (tgt := 35) hx hb dX1_standing_22 (by decide) fx_b (fun c_22 => ?_) (fun c_22 => ?_)
      · have g0 : (fun s => if ft_occ cN f (ft_rp (pa s) (ln s)) = true then wt s else 0) i = 0 := if_neg c_22
        refine fx_inc (v := nI (i + 1)) (lv' := [(4, .int (nI (i + 1))), (0, .ref (am 0)), (1, .int (ft_ci cN)), (2, .int (nI f)), (3, .int (nI x))]) (k0 := 4) hx hb dX1_standing_35 hl rfl (nI_1 _) (by decide) rfl (fun ls hl => ?_)
        refine lv_goto (tgt := 5) hx hb dX1_standing_38 (by decide) ?_
        exact ih (i + 1) _ (by omega) (by omega) (ft_sum_f hxs g0) ls (lv_sub hl [1, 2, 3, 4, 0] rfl)
      · have g0 : (fun s => if ft_occ cN f (ft_rp (pa s) (ln s)) = true then wt s else 0) i = wt i := if_pos (Decidable.not_not.mp c_22)
        refine lv_iload_n hx hb dX1_standing_25 rfl (lv_at hl 3 rfl) ?_
        refine lv_aload_n hx hb dX1_standing_26 rfl (lv_at hl 0 rfl) ?_
        refine fx_g1 (v := .ref (am 4)) hx hb hts hown hK hP rfl 5 (by decide) q132 rfl rfl dX1_standing_27 ?_
        refine lv_iload hx hb dX1_standing_30 (lv_at hl 4 rfl) ?_
        refine fx_ald (k := i) (v := nI (wt i)) hx hb hK hP 4 rfl rfl (by omega) (by decide) rfl dX1_standing_32 ?_
        refine fx_add (v := nI (x + (wt i))) hx hb dX1_standing_33 (nI_add _ _) ?_
        refine lv_istore_n (lv' := [(3, .int (nI (x + (wt i)))), (0, .ref (am 0)), (1, .int (ft_ci cN)), (2, .int (nI f)), (4, .int (nI i))]) hx hb dX1_standing_34 rfl hl (by decide) rfl (fun ls hl => ?_)
        refine fx_inc (v := nI (i + 1)) (lv' := [(4, .int (nI (i + 1))), (3, .int (nI (x + (wt i)))), (0, .ref (am 0)), (1, .int (ft_ci cN)), (2, .int (nI f))]) (k0 := 4) hx hb dX1_standing_35 hl rfl (nI_1 _) (by decide) rfl (fun ls hl => ?_)
        refine lv_goto (tgt := 5) hx hb dX1_standing_38 (by decide) ?_
        exact ih (i + 1) _ (by omega) (by omega) (ft_sum_t hxs g0) ls (lv_sub hl [2, 3, 4, 1, 0] rfl)
set_option maxHeartbeats 4000000 in
set_option maxRecDepth 100000 in
theorem m1_standing (l : Launch) (hI : ft_MI d ns sk cp ln wt pa) {f : Nat} {cN : Option Nat} (hf : f ≤ 7) (hc : ∀ k, cN = some k → k ≤ 7) : Met l yX1_standing (ws_ yX1_standing cX1_standing 5 (some .int)) fx_r1 (va_Pc [.ref (am 0), .int (ft_ci cN), .int (nI f)] (ft_pre (va_P D vwCl (ft_MW cA am d ns sk cp ln wt)) D cA)) (vp_Si (fun r => r = nI (ft_std ns pa ln wt cN f))) 0 0 (fun _ => False) := by
  refine fx_met (by decide) (Nat.le_of_ble_eq_true rfl) ?_
  intro p e s m below meth c ls C0 _ hB hl
  obtain ⟨hP, hK⟩ := hB
  have C0 : fx_C cX1_standing 5 RX1 (some .int) p s m _ meth c := C0
  obtain ⟨hx, hb, hml, hown, hts, hr, hlocks⟩ := id C0
  have hl : lv_has ls 5 [(0, .ref (am 0)), (1, .int (ft_ci cN)), (2, .int (nI f))] := hl
  have hd8 := hI.1.1
  have hsk := hI.1.2
  have hns := hI.2.1.1
  have hln := hI.2.1.2.1
  have hwt := hI.2.1.2.2.1
  have hpa := hI.2.1.2.2.2.2
  have hcp := hI.2.2
  refine lv_iconst (v := nI 0) hx hb dX1_standing_0 (by decide) ?_
  refine lv_istore_n (lv' := [(3, .int (nI 0)), (0, .ref (am 0)), (1, .int (ft_ci cN)), (2, .int (nI f))]) hx hb dX1_standing_1 rfl hl (by decide) rfl (fun ls hl => ?_)
  refine lv_iconst (v := nI 0) hx hb dX1_standing_2 (by decide) ?_
  refine lv_istore (lv' := [(4, .int (nI 0)), (3, .int (nI 0)), (0, .ref (am 0)), (1, .int (ft_ci cN)), (2, .int (nI f))]) hx hb dX1_standing_3 hl (by decide) rfl (fun ls hl => ?_)
  exact m1_standing_l C0 hI hK hP hf hc (ns + 1) 0 0 (by omega) (by omega) rfl ls (lv_sub hl [2, 3, 4, 1, 0] rfl)
set_option maxHeartbeats 4000000 in
set_option maxRecDepth 100000 in
theorem m1_inclusive (l : Launch) (hSK : ft_SK d sk) (hSI : ft_SI ns pa ln wt) {f : Nat} (hf : f ≤ 7) : Met l yX1_inclusive (ws_ yX1_inclusive cX1_inclusive 2 (some .int)) fx_r2 (va_Pc [.ref (am 0), .int (nI f)] (ft_pre (ft_MT D cA am d sk ns pa ln wt) D cA)) (vp_Si (fun r => r = nI (ft_std ns pa ln wt none f))) 0 0 (fun _ => False) := by
  refine fx_met (by decide) (Nat.le_of_ble_eq_true rfl) ?_
  intro p e s m below meth c ls C0 _ hB hl
  obtain ⟨⟨cp, hcp0, hP, hDD⟩, hK⟩ := hB
  have hI : ft_MI d ns sk cp ln wt pa := ⟨hSK, hSI, hcp0⟩
  have C0 : fx_C cX1_inclusive 2 RX1 (some .int) p s m _ meth c := C0
  obtain ⟨hx, hb, hml, hown, hts, hr, hlocks⟩ := id C0
  have hl : lv_has ls 2 [(0, .ref (am 0)), (1, .int (nI f))] := hl
  have hd8 := hI.1.1
  have hsk := hI.1.2
  have hns := hI.2.1.1
  have hln := hI.2.1.2.1
  have hwt := hI.2.1.2.2.1
  have hpa := hI.2.1.2.2.2.2
  have hcp := hI.2.2
  refine lv_iload_n hx hb dX1_inclusive_0 rfl (lv_at hl 1 rfl) ?_
  refine fx_callS (As := [.int (nI f)]) (rest := []) (n := 1) C0 (m1_bad l (nI f)) (lw_S q150 q151 q13 q152) ⟨rfl, rfl⟩ (by decide +kernel) ⟨Nat.le_of_ble_eq_true rfl, Nat.le_of_ble_eq_true rfl⟩ rfl hl.1 rfl (Nat.le_of_ble_eq_true rfl) dX1_inclusive_1 ⟨Nat.zero_le _, Nat.zero_le _⟩ (fun r hr => ?_)
  subst hr
  refine fz_eq (tgt := 11) hx hb dX1_inclusive_4 (by decide) fx_iN (fun c_4 => ?_) (fun c_4 => ?_)
  · refine lv_aload_n hx hb dX1_inclusive_11 rfl (lv_at hl 0 rfl) ?_
    refine lv_iconst (v := ft_ci none) hx hb dX1_inclusive_12 (by decide) ?_
    refine lv_iload_n hx hb dX1_inclusive_13 rfl (lv_at hl 1 rfl) ?_
    refine fx_callV (As := [.int (ft_ci none), .int (nI f)]) (rest := []) (n := 2) C0 (m1_standing l hI (f := f) (cN := none) hf (fun k z => by cases z)) hP hK (va_recv hK hP (ci := 1) (q0 := 0) rfl rfl) (lw_V q185 q187 qs7 q13 q188) ⟨rfl, rfl⟩ (by decide +kernel) ⟨Nat.le_of_ble_eq_true rfl, Nat.le_of_ble_eq_true rfl⟩ rfl hl.1 rfl (Nat.le_of_ble_eq_true rfl) dX1_inclusive_14 ⟨Nat.zero_le _, Nat.zero_le _⟩ (fun r hr => ?_)
    subst hr
    exact fx_ri C0 dX1_inclusive_17 rfl
  · exact absurd (fx_i7 hf) c_4
set_option maxHeartbeats 4000000 in
set_option maxRecDepth 100000 in
theorem m1_inclusive0 (l : Launch) (hSK : ft_SK d sk) (hSI : ft_SI ns pa ln wt) {f : Int32} (hf : ¬ (0 ≤ f ∧ f ≤ 7)) : Met l yX1_inclusive (ws_ yX1_inclusive cX1_inclusive 2 (some .int)) fx_r2 (va_Pc [.ref (am 0), .int f] (ft_pre (ft_MT D cA am d sk ns pa ln wt) D cA)) (vp_Si (fun r => r = -1)) 0 0 (fun _ => False) := by
  refine fx_met (by decide) (Nat.le_of_ble_eq_true rfl) ?_
  intro p e s m below meth c ls C0 _ hB hl
  obtain ⟨⟨cp, hcp0, hP, hDD⟩, hK⟩ := hB
  have hI : ft_MI d ns sk cp ln wt pa := ⟨hSK, hSI, hcp0⟩
  have C0 : fx_C cX1_inclusive 2 RX1 (some .int) p s m _ meth c := C0
  obtain ⟨hx, hb, hml, hown, hts, hr, hlocks⟩ := id C0
  have hl : lv_has ls 2 [(0, .ref (am 0)), (1, .int f)] := hl
  have hd8 := hI.1.1
  have hsk := hI.1.2
  have hns := hI.2.1.1
  have hln := hI.2.1.2.1
  have hwt := hI.2.1.2.2.1
  have hpa := hI.2.1.2.2.2.2
  have hcp := hI.2.2
  refine lv_iload_n hx hb dX1_inclusive_0 rfl (lv_at hl 1 rfl) ?_
  refine fx_callS (As := [.int f]) (rest := []) (n := 1) C0 (m1_bad l f) (lw_S q150 q151 q13 q152) ⟨rfl, rfl⟩ (by decide +kernel) ⟨Nat.le_of_ble_eq_true rfl, Nat.le_of_ble_eq_true rfl⟩ rfl hl.1 rfl (Nat.le_of_ble_eq_true rfl) dX1_inclusive_1 ⟨Nat.zero_le _, Nat.zero_le _⟩ (fun r hr => ?_)
  subst hr
  refine fz_eq (tgt := 11) hx hb dX1_inclusive_4 (by decide) fx_iN (fun c_4 => ?_) (fun c_4 => ?_)
  · exact absurd c_4 hf
  · refine lv_iconst (v := -1) hx hb dX1_inclusive_7 (by decide) ?_
    refine lv_goto (tgt := 17) hx hb dX1_inclusive_8 (by decide) ?_
    exact fx_ri C0 dX1_inclusive_17 rfl
set_option maxHeartbeats 4000000 in
set_option maxRecDepth 100000 in
theorem m1_edge (l : Launch) (hSK : ft_SK d sk) (hSI : ft_SI ns pa ln wt) {a f : Nat} (ha : a ≤ 7) (hf : f ≤ 7) : Met l yX1_edge (ws_ yX1_edge cX1_edge 3 (some .int)) fx_r2 (va_Pc [.ref (am 0), .int (nI a), .int (nI f)] (ft_pre (ft_MT D cA am d sk ns pa ln wt) D cA)) (vp_Si (fun r => r = nI (ft_std ns pa ln wt (some a) f))) 0 0 (fun _ => False) := by
  refine fx_met (by decide) (Nat.le_of_ble_eq_true rfl) ?_
  intro p e s m below meth c ls C0 _ hB hl
  obtain ⟨⟨cp, hcp0, hP, hDD⟩, hK⟩ := hB
  have hI : ft_MI d ns sk cp ln wt pa := ⟨hSK, hSI, hcp0⟩
  have C0 : fx_C cX1_edge 3 RX1 (some .int) p s m _ meth c := C0
  obtain ⟨hx, hb, hml, hown, hts, hr, hlocks⟩ := id C0
  have hl : lv_has ls 3 [(0, .ref (am 0)), (1, .int (nI a)), (2, .int (nI f))] := hl
  have hd8 := hI.1.1
  have hsk := hI.1.2
  have hns := hI.2.1.1
  have hln := hI.2.1.2.1
  have hwt := hI.2.1.2.2.1
  have hpa := hI.2.1.2.2.2.2
  have hcp := hI.2.2
  refine lv_iload_n hx hb dX1_edge_0 rfl (lv_at hl 1 rfl) ?_
  refine fx_callS (As := [.int (nI a)]) (rest := []) (n := 1) C0 (m1_bad l (nI a)) (lw_S q150 q151 q13 q152) ⟨rfl, rfl⟩ (by decide +kernel) ⟨Nat.le_of_ble_eq_true rfl, Nat.le_of_ble_eq_true rfl⟩ rfl hl.1 rfl (Nat.le_of_ble_eq_true rfl) dX1_edge_1 ⟨Nat.zero_le _, Nat.zero_le _⟩ (fun r hr => ?_)
  subst hr
  refine fz_ne (tgt := 14) hx hb dX1_edge_4 (by decide) fx_iN (fun c_4 => ?_) (fun c_4 => ?_)
  · exact absurd (fx_i7 ha) c_4
  · refine lv_iload_n hx hb dX1_edge_7 rfl (lv_at hl 2 rfl) ?_
    refine fx_callS (As := [.int (nI f)]) (rest := []) (n := 1) C0 (m1_bad l (nI f)) (lw_S q150 q151 q13 q152) ⟨rfl, rfl⟩ (by decide +kernel) ⟨Nat.le_of_ble_eq_true rfl, Nat.le_of_ble_eq_true rfl⟩ rfl hl.1 rfl (Nat.le_of_ble_eq_true rfl) dX1_edge_8 ⟨Nat.zero_le _, Nat.zero_le _⟩ (fun r hr => ?_)
    subst hr
    refine fz_eq (tgt := 18) hx hb dX1_edge_11 (by decide) fx_iN (fun c_11 => ?_) (fun c_11 => ?_)
    · refine lv_aload_n hx hb dX1_edge_18 rfl (lv_at hl 0 rfl) ?_
      refine lv_iload_n hx hb dX1_edge_19 rfl (lv_at hl 1 rfl) ?_
      refine lv_iload_n hx hb dX1_edge_20 rfl (lv_at hl 2 rfl) ?_
      refine fx_callV (As := [.int (nI a), .int (nI f)]) (rest := []) (n := 2) C0 (m1_standing l hI (f := f) (cN := some a) hf (fun k z => by cases z; exact ha)) hP hK (va_recv hK hP (ci := 1) (q0 := 0) rfl rfl) (lw_V q185 q187 qs7 q13 q188) ⟨rfl, rfl⟩ (by decide +kernel) ⟨Nat.le_of_ble_eq_true rfl, Nat.le_of_ble_eq_true rfl⟩ rfl hl.1 rfl (Nat.le_of_ble_eq_true rfl) dX1_edge_21 ⟨Nat.zero_le _, Nat.zero_le _⟩ (fun r hr => ?_)
      subst hr
      exact fx_ri C0 dX1_edge_24 rfl
    · exact absurd (fx_i7 hf) c_11
set_option maxHeartbeats 4000000 in
set_option maxRecDepth 100000 in
theorem m1_edge0 (l : Launch) (hSK : ft_SK d sk) (hSI : ft_SI ns pa ln wt) {a f : Int32} (hf : ¬ ((0 ≤ a ∧ a ≤ 7) ∧ (0 ≤ f ∧ f ≤ 7))) : Met l yX1_edge (ws_ yX1_edge cX1_edge 3 (some .int)) fx_r2 (va_Pc [.ref (am 0), .int a, .int f] (ft_pre (ft_MT D cA am d sk ns pa ln wt) D cA)) (vp_Si (fun r => r = -1)) 0 0 (fun _ => False) := by
  refine fx_met (by decide) (Nat.le_of_ble_eq_true rfl) ?_
  intro p e s m below meth c ls C0 _ hB hl
  obtain ⟨⟨cp, hcp0, hP, hDD⟩, hK⟩ := hB
  have hI : ft_MI d ns sk cp ln wt pa := ⟨hSK, hSI, hcp0⟩
  have C0 : fx_C cX1_edge 3 RX1 (some .int) p s m _ meth c := C0
  obtain ⟨hx, hb, hml, hown, hts, hr, hlocks⟩ := id C0
  have hl : lv_has ls 3 [(0, .ref (am 0)), (1, .int a), (2, .int f)] := hl
  have hd8 := hI.1.1
  have hsk := hI.1.2
  have hns := hI.2.1.1
  have hln := hI.2.1.2.1
  have hwt := hI.2.1.2.2.1
  have hpa := hI.2.1.2.2.2.2
  have hcp := hI.2.2
  refine lv_iload_n hx hb dX1_edge_0 rfl (lv_at hl 1 rfl) ?_
  refine fx_callS (As := [.int a]) (rest := []) (n := 1) C0 (m1_bad l a) (lw_S q150 q151 q13 q152) ⟨rfl, rfl⟩ (by decide +kernel) ⟨Nat.le_of_ble_eq_true rfl, Nat.le_of_ble_eq_true rfl⟩ rfl hl.1 rfl (Nat.le_of_ble_eq_true rfl) dX1_edge_1 ⟨Nat.zero_le _, Nat.zero_le _⟩ (fun r hr => ?_)
  subst hr
  refine fz_ne (tgt := 14) hx hb dX1_edge_4 (by decide) fx_iN (fun c_4 => ?_) (fun c_4 => ?_)
  · refine lv_iconst (v := -1) hx hb dX1_edge_14 (by decide) ?_
    refine lv_goto (tgt := 24) hx hb dX1_edge_15 (by decide) ?_
    exact fx_ri C0 dX1_edge_24 rfl
  · refine lv_iload_n hx hb dX1_edge_7 rfl (lv_at hl 2 rfl) ?_
    refine fx_callS (As := [.int f]) (rest := []) (n := 1) C0 (m1_bad l f) (lw_S q150 q151 q13 q152) ⟨rfl, rfl⟩ (by decide +kernel) ⟨Nat.le_of_ble_eq_true rfl, Nat.le_of_ble_eq_true rfl⟩ rfl hl.1 rfl (Nat.le_of_ble_eq_true rfl) dX1_edge_8 ⟨Nat.zero_le _, Nat.zero_le _⟩ (fun r hr => ?_)
    subst hr
    refine fz_eq (tgt := 18) hx hb dX1_edge_11 (by decide) fx_iN (fun c_11 => ?_) (fun c_11 => ?_)
    · exact absurd ⟨c_4, c_11⟩ hf
    · refine lv_iconst (v := -1) hx hb dX1_edge_14 (by decide) ?_
      refine lv_goto (tgt := 24) hx hb dX1_edge_15 (by decide) ?_
      exact fx_ri C0 dX1_edge_24 rfl
set_option maxHeartbeats 4000000 in
set_option maxRecDepth 100000 in
theorem m1_exclusive_l (C0 : fx_C cX1_exclusive 4 RX1 (some .int) p s m args meth c) (hI : ft_MI d ns sk cp ln wt pa) (hK : va_K D vwCl [(cA, .int)] s) (hP : va_P D vwCl (ft_MW cA am d ns sk cp ln wt) s.heap) {f : Nat} (hf : f ≤ 7) : ∀ (n i x : Nat), i ≤ ns → ns - i < n → x = ft_sum i (fun s => if 0 < ln s ∧ pa s (ln s - 1) = f then wt s else 0) → ∀ ls : Array Slot, lv_has ls 4 [(0, .ref (am 0)), (1, .int (nI f)), (2, .int (nI x)), (3, .int (nI i))] → fx_W p l e R s m args below meth c (fun r => r = nI (ft_exc ns pa ln wt f)) (F0 m 13 ls []) := by
  have hd8 := hI.1.1
  have hsk := hI.1.2
  have hns := hI.2.1.1
  have hln := hI.2.1.2.1
  have hwt := hI.2.1.2.2.1
  have hpa := hI.2.1.2.2.2.2
  have hcp := hI.2.2
  obtain ⟨hx, hb, hml, hown, hts, hr, hlocks⟩ := id C0
  intro n
  induction n with
  | zero =>
    intro i x h1 h2
    exact absurd h2 (by omega)
  | succ n ih =>
    intro i x hi hn hxs ls hl
    refine lv_iload_n hx hb dX1_exclusive_13 rfl (lv_at hl 3 rfl) ?_
    refine lv_aload_n hx hb dX1_exclusive_14 rfl (lv_at hl 0 rfl) ?_
    refine fx_g1 (v := .int (nI ns)) hx hb hts hown hK hP rfl 2 (by decide) q129 rfl rfl dX1_exclusive_15 ?_
    refine fx_ge (tgt := 67) hx hb dX1_exclusive_18 (by decide) (nI_leI (a := ns) (b := i) (by omega) (by omega)) (fun c_18 => ?_) (fun c_18 => ?_)
    · refine lv_iload_n hx hb dX1_exclusive_67 rfl (lv_at hl 2 rfl) ?_
      exact fx_ri C0 dX1_exclusive_68 (by rw [hxs, (by omega : i = ns)]; rfl)
    · have b1 := hln i
      refine lv_aload_n hx hb dX1_exclusive_21 rfl (lv_at hl 0 rfl) ?_
      refine fx_g1 (v := .ref (am 3)) hx hb hts hown hK hP rfl 4 (by decide) q131 rfl rfl dX1_exclusive_22 ?_
      refine lv_iload_n hx hb dX1_exclusive_25 rfl (lv_at hl 3 rfl) ?_
      refine fx_ald (k := i) (v := nI (ln i)) hx hb hK hP 3 rfl rfl (by omega) (by decide) rfl dX1_exclusive_26 ?_
      refine fz_le (tgt := 61) hx hb dX1_exclusive_27 (by decide) (fx_zl (n := ln i) (by omega)) (fun c_27 => ?_) (fun c_27 => ?_)
      · have g0 : (fun s => if 0 < ln s ∧ pa s (ln s - 1) = f then wt s else 0) i = 0 := if_neg (fun z => by omega)
        refine fx_inc (v := nI (i + 1)) (lv' := [(3, .int (nI (i + 1))), (0, .ref (am 0)), (1, .int (nI f)), (2, .int (nI x))]) (k0 := 3) hx hb dX1_exclusive_61 hl rfl (nI_1 _) (by decide) rfl (fun ls hl => ?_)
        refine lv_goto (tgt := 13) hx hb dX1_exclusive_64 (by decide) ?_
        exact ih (i + 1) _ (by omega) (by omega) (ft_sum_f hxs g0) ls (lv_sub hl [1, 2, 3, 0] rfl)
      · have b2 := hpa i (ln i - 1) (by omega) (by omega)
        refine lv_aload_n hx hb dX1_exclusive_30 rfl (lv_at hl 0 rfl) ?_
        refine fx_g1 (v := .ref (am 2)) hx hb hts hown hK hP rfl 3 (by decide) q130 rfl rfl dX1_exclusive_31 ?_
        refine lv_bipush (v := nI 8) hx hb dX1_exclusive_34 (by decide) ?_
        refine lv_iload_n hx hb dX1_exclusive_36 rfl (lv_at hl 3 rfl) ?_
        refine fx_mul (v := nI (8 * i)) hx hb dX1_exclusive_37 (pk_mul _ _) ?_
        refine lv_aload_n hx hb dX1_exclusive_38 rfl (lv_at hl 0 rfl) ?_
        refine fx_g1 (v := .ref (am 3)) hx hb hts hown hK hP rfl 4 (by decide) q131 rfl rfl dX1_exclusive_39 ?_
        refine lv_iload_n hx hb dX1_exclusive_42 rfl (lv_at hl 3 rfl) ?_
        refine fx_ald (k := i) (v := nI (ln i)) hx hb hK hP 3 rfl rfl (by omega) (by decide) rfl dX1_exclusive_43 ?_
        refine fx_add (v := nI (8 * i + (ln i))) hx hb dX1_exclusive_44 (nI_add _ _) ?_
        refine lv_iconst (v := nI 1) hx hb dX1_exclusive_45 (by decide) ?_
        refine fx_sub (v := nI ((8 * i + (ln i)) - 1)) hx hb dX1_exclusive_46 (pk_sub (by omega)) ?_
        refine fx_ald (k := (8 * i + (ln i)) - 1) (v := nI (pa i (ln i - 1))) hx hb hK hP 2 rfl rfl (by omega) (by decide) (by rw [show 8 * i + ln i - 1 = 8 * i + (ln i - 1) by omega]; exact congrArg nI (hcp i (ln i - 1) (by omega) (by omega))) dX1_exclusive_47 ?_
        refine lv_iload_n hx hb dX1_exclusive_48 rfl (lv_at hl 1 rfl) ?_
        refine fx_ne (tgt := 61) hx hb dX1_exclusive_49 (by decide) (nI_eq (a := pa i (ln i - 1)) (b := f) (by omega) (by omega)) (fun c_49 => ?_) (fun c_49 => ?_)
        · have g0 : (fun s => if 0 < ln s ∧ pa s (ln s - 1) = f then wt s else 0) i = 0 := if_neg (fun z => c_49 z.2)
          refine fx_inc (v := nI (i + 1)) (lv' := [(3, .int (nI (i + 1))), (0, .ref (am 0)), (1, .int (nI f)), (2, .int (nI x))]) (k0 := 3) hx hb dX1_exclusive_61 hl rfl (nI_1 _) (by decide) rfl (fun ls hl => ?_)
          refine lv_goto (tgt := 13) hx hb dX1_exclusive_64 (by decide) ?_
          exact ih (i + 1) _ (by omega) (by omega) (ft_sum_f hxs g0) ls (lv_sub hl [1, 2, 3, 0] rfl)
        · have g0 : (fun s => if 0 < ln s ∧ pa s (ln s - 1) = f then wt s else 0) i = wt i := if_pos ⟨by omega, c_49⟩
          refine lv_iload_n hx hb dX1_exclusive_52 rfl (lv_at hl 2 rfl) ?_
          refine lv_aload_n hx hb dX1_exclusive_53 rfl (lv_at hl 0 rfl) ?_
          refine fx_g1 (v := .ref (am 4)) hx hb hts hown hK hP rfl 5 (by decide) q132 rfl rfl dX1_exclusive_54 ?_
          refine lv_iload_n hx hb dX1_exclusive_57 rfl (lv_at hl 3 rfl) ?_
          refine fx_ald (k := i) (v := nI (wt i)) hx hb hK hP 4 rfl rfl (by omega) (by decide) rfl dX1_exclusive_58 ?_
          refine fx_add (v := nI (x + (wt i))) hx hb dX1_exclusive_59 (nI_add _ _) ?_
          refine lv_istore_n (lv' := [(2, .int (nI (x + (wt i)))), (0, .ref (am 0)), (1, .int (nI f)), (3, .int (nI i))]) hx hb dX1_exclusive_60 rfl hl (by decide) rfl (fun ls hl => ?_)
          refine fx_inc (v := nI (i + 1)) (lv' := [(3, .int (nI (i + 1))), (2, .int (nI (x + (wt i)))), (0, .ref (am 0)), (1, .int (nI f))]) (k0 := 3) hx hb dX1_exclusive_61 hl rfl (nI_1 _) (by decide) rfl (fun ls hl => ?_)
          refine lv_goto (tgt := 13) hx hb dX1_exclusive_64 (by decide) ?_
          exact ih (i + 1) _ (by omega) (by omega) (ft_sum_t hxs g0) ls (lv_sub hl [2, 3, 1, 0] rfl)
set_option maxHeartbeats 4000000 in
set_option maxRecDepth 100000 in
theorem m1_exclusive (l : Launch) (hSK : ft_SK d sk) (hSI : ft_SI ns pa ln wt) {f : Nat} (hf : f ≤ 7) : Met l yX1_exclusive (ws_ yX1_exclusive cX1_exclusive 4 (some .int)) fx_r1 (va_Pc [.ref (am 0), .int (nI f)] (ft_pre (ft_MT D cA am d sk ns pa ln wt) D cA)) (vp_Si (fun r => r = nI (ft_exc ns pa ln wt f))) 0 0 (fun _ => False) := by
  refine fx_met (by decide) (Nat.le_of_ble_eq_true rfl) ?_
  intro p e s m below meth c ls C0 _ hB hl
  obtain ⟨⟨cp, hcp0, hP, hDD⟩, hK⟩ := hB
  have hI : ft_MI d ns sk cp ln wt pa := ⟨hSK, hSI, hcp0⟩
  have C0 : fx_C cX1_exclusive 4 RX1 (some .int) p s m _ meth c := C0
  obtain ⟨hx, hb, hml, hown, hts, hr, hlocks⟩ := id C0
  have hl : lv_has ls 4 [(0, .ref (am 0)), (1, .int (nI f))] := hl
  have hd8 := hI.1.1
  have hsk := hI.1.2
  have hns := hI.2.1.1
  have hln := hI.2.1.2.1
  have hwt := hI.2.1.2.2.1
  have hpa := hI.2.1.2.2.2.2
  have hcp := hI.2.2
  refine lv_iload_n hx hb dX1_exclusive_0 rfl (lv_at hl 1 rfl) ?_
  refine fx_callS (As := [.int (nI f)]) (rest := []) (n := 1) C0 (m1_bad l (nI f)) (lw_S q150 q151 q13 q152) ⟨rfl, rfl⟩ (by decide +kernel) ⟨Nat.le_of_ble_eq_true rfl, Nat.le_of_ble_eq_true rfl⟩ rfl hl.1 rfl (Nat.le_of_ble_eq_true rfl) dX1_exclusive_1 ⟨Nat.zero_le _, Nat.zero_le _⟩ (fun r hr => ?_)
  subst hr
  refine fz_eq (tgt := 9) hx hb dX1_exclusive_4 (by decide) fx_iN (fun c_4 => ?_) (fun c_4 => ?_)
  · refine lv_iconst (v := nI 0) hx hb dX1_exclusive_9 (by decide) ?_
    refine lv_istore_n (lv' := [(2, .int (nI 0)), (0, .ref (am 0)), (1, .int (nI f))]) hx hb dX1_exclusive_10 rfl hl (by decide) rfl (fun ls hl => ?_)
    refine lv_iconst (v := nI 0) hx hb dX1_exclusive_11 (by decide) ?_
    refine lv_istore_n (lv' := [(3, .int (nI 0)), (2, .int (nI 0)), (0, .ref (am 0)), (1, .int (nI f))]) hx hb dX1_exclusive_12 rfl hl (by decide) rfl (fun ls hl => ?_)
    exact m1_exclusive_l C0 hI hK hP hf (ns + 1) 0 0 (by omega) (by omega) rfl ls (lv_sub hl [2, 3, 1, 0] rfl)
  · exact absurd (fx_i7 hf) c_4
set_option maxHeartbeats 4000000 in
set_option maxRecDepth 100000 in
theorem m1_exclusive0 (l : Launch) (hSK : ft_SK d sk) (hSI : ft_SI ns pa ln wt) {f : Int32} (hf : ¬ (0 ≤ f ∧ f ≤ 7)) : Met l yX1_exclusive (ws_ yX1_exclusive cX1_exclusive 4 (some .int)) fx_r1 (va_Pc [.ref (am 0), .int f] (ft_pre (ft_MT D cA am d sk ns pa ln wt) D cA)) (vp_Si (fun r => r = -1)) 0 0 (fun _ => False) := by
  refine fx_met (by decide) (Nat.le_of_ble_eq_true rfl) ?_
  intro p e s m below meth c ls C0 _ hB hl
  obtain ⟨⟨cp, hcp0, hP, hDD⟩, hK⟩ := hB
  have hI : ft_MI d ns sk cp ln wt pa := ⟨hSK, hSI, hcp0⟩
  have C0 : fx_C cX1_exclusive 4 RX1 (some .int) p s m _ meth c := C0
  obtain ⟨hx, hb, hml, hown, hts, hr, hlocks⟩ := id C0
  have hl : lv_has ls 4 [(0, .ref (am 0)), (1, .int f)] := hl
  have hd8 := hI.1.1
  have hsk := hI.1.2
  have hns := hI.2.1.1
  have hln := hI.2.1.2.1
  have hwt := hI.2.1.2.2.1
  have hpa := hI.2.1.2.2.2.2
  have hcp := hI.2.2
  refine lv_iload_n hx hb dX1_exclusive_0 rfl (lv_at hl 1 rfl) ?_
  refine fx_callS (As := [.int f]) (rest := []) (n := 1) C0 (m1_bad l f) (lw_S q150 q151 q13 q152) ⟨rfl, rfl⟩ (by decide +kernel) ⟨Nat.le_of_ble_eq_true rfl, Nat.le_of_ble_eq_true rfl⟩ rfl hl.1 rfl (Nat.le_of_ble_eq_true rfl) dX1_exclusive_1 ⟨Nat.zero_le _, Nat.zero_le _⟩ (fun r hr => ?_)
  subst hr
  refine fz_eq (tgt := 9) hx hb dX1_exclusive_4 (by decide) fx_iN (fun c_4 => ?_) (fun c_4 => ?_)
  · exact absurd c_4 hf
  · refine lv_iconst (v := -1) hx hb dX1_exclusive_7 (by decide) ?_
    exact fx_ri C0 dX1_exclusive_8 rfl
end
end
section
/-! THE MODEL: share, newTotal, paths, deepest -/
def ft_ls (w : Int32) : Nat := if w < 1 then 1 else w.toNatClampNeg
theorem ft_ls_1 {w : Int32} (h : w < 1) : nI (ft_ls w) = 1 := by
  unfold ft_ls
  rw [if_pos h]
  rfl
theorem ft_ls_2 {w : Int32} (h : ¬ w < 1) : nI (ft_ls w) = w := by
  unfold ft_ls
  rw [if_neg h]
  have h0 : ¬ w < 0 := fun z => h (by
    rw [Int32.lt_iff_toInt_lt] at z ⊢
    have e0 : (0 : Int32).toInt = 0 := by decide
    have e1 : (1 : Int32).toInt = 1 := by decide
    omega)
  obtain ⟨j, hj, rfl⟩ := nI_of h0
  rw [nI_clamp hj]
theorem ft_ls_b (w : Int32) : 1 ≤ ft_ls w ∧ ft_ls w < 2 ^ 31 := by
  by_cases h : w < 1
  · unfold ft_ls
    rw [if_pos h]
    omega
  · have h0 : ¬ w < 0 := fun z => h (by
      rw [Int32.lt_iff_toInt_lt] at z ⊢
      have e0 : (0 : Int32).toInt = 0 := by decide
      have e1 : (1 : Int32).toInt = 1 := by decide
      omega)
    unfold ft_ls
    rw [if_neg h]
    obtain ⟨j, hj, rfl⟩ := nI_of h0
    rw [nI_clamp hj]
    refine ⟨?_, hj⟩
    rcases Nat.eq_zero_or_pos j with z | z
    · subst z
      exact absurd (by decide : nI 0 < 1) h
    · exact z
theorem ft_ge1 {w : Int32} : (1 : Int32) ≤ w ↔ ¬ w < 1 := by
  rw [Int32.lt_iff_toInt_lt, Int32.le_iff_toInt_le]
  omega
section
variable {p : Program} {l : Launch} {e : Env} {R : Room} {s : State} {m : MethodId} {args : Array Value} {below : List Frame} {meth : Method} {c : Code}
variable {D : va_G} {cA : ClassId} {am : Nat → Nat} {d ns : Nat} {sk cp ln wt : Nat → Nat} {pa : Nat → Nat → Nat}
set_option maxHeartbeats 4000000 in
set_option maxRecDepth 100000 in
theorem m1_share_l (C0 : fx_C cX1_share 5 RX1 (some .boolean) p s m args meth c) (hI : ft_MI d ns sk cp ln wt pa) (hK : va_K D vwCl [(cA, .int)] s) (hP : va_P D vwCl (ft_MW cA am d ns sk cp ln wt) s.heap) {s0 t0 k : Nat} (hs : s0 < ns) (ht : t0 < ns) (hk : k ≤ ln s0) (hle : k ≤ ln t0) : ∀ (n i : Nat), i ≤ k → k - i < n → (∀ j, j < i → pa t0 j = pa s0 j) → ∀ ls : Array Slot, lv_has ls 5 [(0, .ref (am 0)), (1, .int (nI s0)), (2, .int (nI t0)), (3, .int (nI k)), (4, .int (nI i))] → fx_W p l e R s m args below meth c (fun r => r = if ft_ov pa ln (ft_rp (pa s0) k) t0 then 1 else 0) (F0 m 25 ls []) := by
  have hd8 := hI.1.1
  have hsk := hI.1.2
  have hns := hI.2.1.1
  have hln := hI.2.1.2.1
  have hwt := hI.2.1.2.2.1
  have hpa := hI.2.1.2.2.2.2
  have hcp := hI.2.2
  obtain ⟨hx, hb, hml, hown, hts, hr, hlocks⟩ := id C0
  have b0 := hln s0
  intro n
  induction n with
  | zero =>
    intro i h1 h2
    exact absurd h2 (by omega)
  | succ n ih =>
    intro i hi hn hinv ls hl
    refine lv_iload hx hb dX1_share_25 (lv_at hl 4 rfl) ?_
    refine lv_iload_n hx hb dX1_share_27 rfl (lv_at hl 3 rfl) ?_
    refine fx_ge (tgt := 66) hx hb dX1_share_28 (by decide) (nI_leI (a := k) (b := i) (by omega) (by omega)) (fun c_28 => ?_) (fun c_28 => ?_)
    · refine lv_iconst (v := 1) hx hb dX1_share_66 (by decide) ?_
      exact fx_rz C0 dX1_share_67 rfl (if_pos (ft_ov_rp.mpr ⟨hle, fun j hj => hinv j (by omega)⟩)).symm
    · have b1 := hpa s0 i hs (by omega)
      have b2 := hpa t0 i ht (by omega)
      refine lv_aload_n hx hb dX1_share_31 rfl (lv_at hl 0 rfl) ?_
      refine fx_g1 (v := .ref (am 2)) hx hb hts hown hK hP rfl 3 (by decide) q130 rfl rfl dX1_share_32 ?_
      refine lv_bipush (v := nI 8) hx hb dX1_share_35 (by decide) ?_
      refine lv_iload_n hx hb dX1_share_37 rfl (lv_at hl 1 rfl) ?_
      refine fx_mul (v := nI (8 * s0)) hx hb dX1_share_38 (pk_mul _ _) ?_
      refine lv_iload hx hb dX1_share_39 (lv_at hl 4 rfl) ?_
      refine fx_add (v := nI (8 * s0 + i)) hx hb dX1_share_41 (nI_add _ _) ?_
      refine fx_ald (k := 8 * s0 + i) (v := nI (pa s0 i)) hx hb hK hP 2 rfl rfl (by omega) (by decide) (congrArg nI (hcp s0 i hs (by omega))) dX1_share_42 ?_
      refine lv_aload_n hx hb dX1_share_43 rfl (lv_at hl 0 rfl) ?_
      refine fx_g1 (v := .ref (am 2)) hx hb hts hown hK hP rfl 3 (by decide) q130 rfl rfl dX1_share_44 ?_
      refine lv_bipush (v := nI 8) hx hb dX1_share_47 (by decide) ?_
      refine lv_iload_n hx hb dX1_share_49 rfl (lv_at hl 2 rfl) ?_
      refine fx_mul (v := nI (8 * t0)) hx hb dX1_share_50 (pk_mul _ _) ?_
      refine lv_iload hx hb dX1_share_51 (lv_at hl 4 rfl) ?_
      refine fx_add (v := nI (8 * t0 + i)) hx hb dX1_share_53 (nI_add _ _) ?_
      refine fx_ald (k := 8 * t0 + i) (v := nI (pa t0 i)) hx hb hK hP 2 rfl rfl (by omega) (by decide) (congrArg nI (hcp t0 i ht (by omega))) dX1_share_54 ?_
      refine fx_eq (tgt := 60) hx hb dX1_share_55 (by decide) (nI_eq (a := pa s0 i) (b := pa t0 i) (by omega) (by omega)) (fun c_55 => ?_) (fun c_55 => ?_)
      · refine fx_inc (v := nI (i + 1)) (lv' := [(4, .int (nI (i + 1))), (0, .ref (am 0)), (1, .int (nI s0)), (2, .int (nI t0)), (3, .int (nI k))]) (k0 := 4) hx hb dX1_share_60 hl rfl (nI_1 _) (by decide) rfl (fun ls hl => ?_)
        refine lv_goto (tgt := 25) hx hb dX1_share_63 (by decide) ?_
        exact ih (i + 1) (by omega) (by omega) (lt_s hinv c_55.symm) ls (lv_sub hl [1, 2, 3, 4, 0] rfl)
      · refine lv_iconst (v := 0) hx hb dX1_share_58 (by decide) ?_
        exact fx_rz C0 dX1_share_59 rfl (if_neg (fun z => c_55 ((ft_ov_rp.mp z).2 i (by omega)).symm)).symm
set_option maxHeartbeats 4000000 in
set_option maxRecDepth 100000 in
theorem m1_share (l : Launch) (hI : ft_MI d ns sk cp ln wt pa) {s0 t0 k : Nat} (hs : s0 < ns) (ht : t0 < ns) (hk : k ≤ ln s0) : Met l yX1_share (ws_ yX1_share cX1_share 5 (some .boolean)) fx_r0 (va_Pc [.ref (am 0), .int (nI s0), .int (nI t0), .int (nI k)] (ft_pre (va_P D vwCl (ft_MW cA am d ns sk cp ln wt)) D cA)) (vp_Si (fun r => r = if ft_ov pa ln (ft_rp (pa s0) k) t0 then 1 else 0)) 0 0 (fun _ => False) := by
  refine fx_met (by decide) (Nat.le_of_ble_eq_true rfl) ?_
  intro p e s m below meth c ls C0 _ hB hl
  obtain ⟨hP, hK⟩ := hB
  have C0 : fx_C cX1_share 5 RX1 (some .boolean) p s m _ meth c := C0
  obtain ⟨hx, hb, hml, hown, hts, hr, hlocks⟩ := id C0
  have hl : lv_has ls 5 [(0, .ref (am 0)), (1, .int (nI s0)), (2, .int (nI t0)), (3, .int (nI k))] := hl
  have hd8 := hI.1.1
  have hsk := hI.1.2
  have hns := hI.2.1.1
  have hln := hI.2.1.2.1
  have hwt := hI.2.1.2.2.1
  have hpa := hI.2.1.2.2.2.2
  have hcp := hI.2.2
  have b0 := hln s0
  have b1 := hln t0
  refine lv_aload_n hx hb dX1_share_0 rfl (lv_at hl 0 rfl) ?_
  refine fx_g1 (v := .ref (am 3)) hx hb hts hown hK hP rfl 4 (by decide) q131 rfl rfl dX1_share_1 ?_
  refine lv_iload_n hx hb dX1_share_4 rfl (lv_at hl 1 rfl) ?_
  refine fx_ald (k := s0) (v := nI (ln s0)) hx hb hK hP 3 rfl rfl (by omega) (by decide) rfl dX1_share_5 ?_
  refine lv_iload_n hx hb dX1_share_6 rfl (lv_at hl 3 rfl) ?_
  refine fx_lt (tgt := 20) hx hb dX1_share_7 (by decide) (nI_ltI (a := ln s0) (b := k) (by omega) (by omega)) (fun c_7 => ?_) (fun c_7 => ?_)
  · exact absurd c_7 (by omega)
  · refine lv_aload_n hx hb dX1_share_10 rfl (lv_at hl 0 rfl) ?_
    refine fx_g1 (v := .ref (am 3)) hx hb hts hown hK hP rfl 4 (by decide) q131 rfl rfl dX1_share_11 ?_
    refine lv_iload_n hx hb dX1_share_14 rfl (lv_at hl 2 rfl) ?_
    refine fx_ald (k := t0) (v := nI (ln t0)) hx hb hK hP 3 rfl rfl (by omega) (by decide) rfl dX1_share_15 ?_
    refine lv_iload_n hx hb dX1_share_16 rfl (lv_at hl 3 rfl) ?_
    refine fx_ge (tgt := 22) hx hb dX1_share_17 (by decide) (nI_leI (a := k) (b := ln t0) (by omega) (by omega)) (fun c_17 => ?_) (fun c_17 => ?_)
    · refine lv_iconst (v := nI 0) hx hb dX1_share_22 (by decide) ?_
      refine lv_istore (lv' := [(4, .int (nI 0)), (0, .ref (am 0)), (1, .int (nI s0)), (2, .int (nI t0)), (3, .int (nI k))]) hx hb dX1_share_23 hl (by decide) rfl (fun ls hl => ?_)
      exact m1_share_l C0 hI hK hP hs ht hk c_17 (k + 1) 0 (by omega) (by omega) lt_0 ls (lv_sub hl [1, 2, 3, 4, 0] rfl)
    · refine lv_iconst (v := 0) hx hb dX1_share_20 (by decide) ?_
      exact fx_rz C0 dX1_share_21 rfl (if_neg (fun z => c_17 (ft_ov_rp.mp z).1)).symm
set_option maxHeartbeats 4000000 in
set_option maxRecDepth 100000 in
theorem m1_newTotal_l (C0 : fx_C cX1_newTotal 5 RX1 (some .int) p s m args meth c) (hI : ft_MI d ns sk cp ln wt pa) (hK : va_K D vwCl [(cA, .int)] s) (hP : va_P D vwCl (ft_MW cA am d ns sk cp ln wt) s.heap) {s0 k : Nat} (hs : s0 < ns) (hk : k ≤ ln s0) : ∀ (n i x : Nat), i ≤ ns → ns - i < n → (∀ t, t < i → t < s0 → ¬ ft_ov pa ln (ft_rp (pa s0) k) t) → x = ft_sum i (fun t => if ft_ov pa ln (ft_rp (pa s0) k) t then wt t else 0) → ∀ ls : Array Slot, lv_has ls 5 [(0, .ref (am 0)), (1, .int (nI s0)), (2, .int (nI k)), (3, .int (nI x)), (4, .int (nI i))] → fx_W p l e fx_r1 s m args below meth c (fun r => r = nI (ft_nt ns pa ln wt s0 k)) (F0 m 5 ls []) := by
  have hd8 := hI.1.1
  have hsk := hI.1.2
  have hns := hI.2.1.1
  have hln := hI.2.1.2.1
  have hwt := hI.2.1.2.2.1
  have hpa := hI.2.1.2.2.2.2
  have hcp := hI.2.2
  obtain ⟨hx, hb, hml, hown, hts, hr, hlocks⟩ := id C0
  intro n
  induction n with
  | zero =>
    intro i x h1 h2
    exact absurd h2 (by omega)
  | succ n ih =>
    intro i x hi hn hinv hxs ls hl
    refine lv_iload hx hb dX1_newTotal_5 (lv_at hl 4 rfl) ?_
    refine lv_aload_n hx hb dX1_newTotal_7 rfl (lv_at hl 0 rfl) ?_
    refine fx_g1 (v := .int (nI ns)) hx hb hts hown hK hP rfl 2 (by decide) q129 rfl rfl dX1_newTotal_8 ?_
    refine fx_ge (tgt := 49) hx hb dX1_newTotal_11 (by decide) (nI_leI (a := ns) (b := i) (by omega) (by omega)) (fun c_11 => ?_) (fun c_11 => ?_)
    · refine lv_iload_n hx hb dX1_newTotal_49 rfl (lv_at hl 3 rfl) ?_
      exact fx_ri C0 dX1_newTotal_50 (by
        have e0 : i = ns := by omega
        rw [ft_nt, if_pos (fun t ht => hinv t (by omega) ht), hxs, e0]
        rfl)
    · refine lv_aload_n hx hb dX1_newTotal_14 rfl (lv_at hl 0 rfl) ?_
      refine lv_iload_n hx hb dX1_newTotal_15 rfl (lv_at hl 1 rfl) ?_
      refine lv_iload hx hb dX1_newTotal_16 (lv_at hl 4 rfl) ?_
      refine lv_iload_n hx hb dX1_newTotal_18 rfl (lv_at hl 2 rfl) ?_
      refine fx_callV (As := [.int (nI s0), .int (nI i), .int (nI k)]) (rest := []) (n := 3) C0 (m1_share l hI (s0 := s0) (t0 := i) (k := k) hs (by omega) hk) hP hK (va_recv hK hP (ci := 1) (q0 := 0) rfl rfl) (lw_V q209 q211 qs10 q13 q212) ⟨rfl, rfl⟩ (by decide +kernel) ⟨Nat.le_of_ble_eq_true rfl, Nat.le_of_ble_eq_true rfl⟩ rfl hl.1 rfl (Nat.le_of_ble_eq_true rfl) dX1_newTotal_19 ⟨Nat.zero_le _, Nat.zero_le _⟩ (fun r hr => ?_)
      subst hr
      refine fz_eq (tgt := 43) hx hb dX1_newTotal_22 (by decide) fx_b (fun c_22 => ?_) (fun c_22 => ?_)
      · have g0 : (fun t => if ft_ov pa ln (ft_rp (pa s0) k) t then wt t else 0) i = 0 := if_neg c_22
        have g1 : ∀ t, t < i + 1 → t < s0 → ¬ ft_ov pa ln (ft_rp (pa s0) k) t := lt_s hinv (fun _ => c_22)
        refine fx_inc (v := nI (i + 1)) (lv' := [(4, .int (nI (i + 1))), (0, .ref (am 0)), (1, .int (nI s0)), (2, .int (nI k)), (3, .int (nI x))]) (k0 := 4) hx hb dX1_newTotal_43 hl rfl (nI_1 _) (by decide) rfl (fun ls hl => ?_)
        refine lv_goto (tgt := 5) hx hb dX1_newTotal_46 (by decide) ?_
        exact ih (i + 1) _ (by omega) (by omega) g1 (ft_sum_f hxs g0) ls (lv_sub hl [1, 2, 3, 4, 0] rfl)
      · refine lv_iload hx hb dX1_newTotal_25 (lv_at hl 4 rfl) ?_
        refine lv_iload_n hx hb dX1_newTotal_27 rfl (lv_at hl 1 rfl) ?_
        refine fx_ge (tgt := 33) hx hb dX1_newTotal_28 (by decide) (nI_leI (a := s0) (b := i) (by omega) (by omega)) (fun c_28 => ?_) (fun c_28 => ?_)
        · have g0 : (fun t => if ft_ov pa ln (ft_rp (pa s0) k) t then wt t else 0) i = wt i := if_pos (Decidable.not_not.mp c_22)
          have g1 : ∀ t, t < i + 1 → t < s0 → ¬ ft_ov pa ln (ft_rp (pa s0) k) t := lt_s hinv (fun z => absurd z (by omega))
          refine lv_iload_n hx hb dX1_newTotal_33 rfl (lv_at hl 3 rfl) ?_
          refine lv_aload_n hx hb dX1_newTotal_34 rfl (lv_at hl 0 rfl) ?_
          refine fx_g1 (v := .ref (am 4)) hx hb hts hown hK hP rfl 5 (by decide) q132 rfl rfl dX1_newTotal_35 ?_
          refine lv_iload hx hb dX1_newTotal_38 (lv_at hl 4 rfl) ?_
          refine fx_ald (k := i) (v := nI (wt i)) hx hb hK hP 4 rfl rfl (by omega) (by decide) rfl dX1_newTotal_40 ?_
          refine fx_add (v := nI (x + (wt i))) hx hb dX1_newTotal_41 (nI_add _ _) ?_
          refine lv_istore_n (lv' := [(3, .int (nI (x + (wt i)))), (0, .ref (am 0)), (1, .int (nI s0)), (2, .int (nI k)), (4, .int (nI i))]) hx hb dX1_newTotal_42 rfl hl (by decide) rfl (fun ls hl => ?_)
          refine fx_inc (v := nI (i + 1)) (lv' := [(4, .int (nI (i + 1))), (3, .int (nI (x + (wt i)))), (0, .ref (am 0)), (1, .int (nI s0)), (2, .int (nI k))]) (k0 := 4) hx hb dX1_newTotal_43 hl rfl (nI_1 _) (by decide) rfl (fun ls hl => ?_)
          refine lv_goto (tgt := 5) hx hb dX1_newTotal_46 (by decide) ?_
          exact ih (i + 1) _ (by omega) (by omega) g1 (ft_sum_t hxs g0) ls (lv_sub hl [2, 3, 4, 1, 0] rfl)
        · refine lv_iconst (v := 0) hx hb dX1_newTotal_31 (by decide) ?_
          exact fx_ri C0 dX1_newTotal_32 (by rw [ft_nt, if_neg (fun z => z i (by omega) (Decidable.not_not.mp c_22))]; rfl)
set_option maxHeartbeats 4000000 in
set_option maxRecDepth 100000 in
theorem m1_newTotal (l : Launch) (hI : ft_MI d ns sk cp ln wt pa) {s0 k : Nat} (hs : s0 < ns) (hk : k ≤ ln s0) : Met l yX1_newTotal (ws_ yX1_newTotal cX1_newTotal 5 (some .int)) fx_r1 (va_Pc [.ref (am 0), .int (nI s0), .int (nI k)] (ft_pre (va_P D vwCl (ft_MW cA am d ns sk cp ln wt)) D cA)) (vp_Si (fun r => r = nI (ft_nt ns pa ln wt s0 k))) 0 0 (fun _ => False) := by
  refine fx_met (by decide) (Nat.le_of_ble_eq_true rfl) ?_
  intro p e s m below meth c ls C0 _ hB hl
  obtain ⟨hP, hK⟩ := hB
  have C0 : fx_C cX1_newTotal 5 RX1 (some .int) p s m _ meth c := C0
  obtain ⟨hx, hb, hml, hown, hts, hr, hlocks⟩ := id C0
  have hl : lv_has ls 5 [(0, .ref (am 0)), (1, .int (nI s0)), (2, .int (nI k))] := hl
  have hd8 := hI.1.1
  have hsk := hI.1.2
  have hns := hI.2.1.1
  have hln := hI.2.1.2.1
  have hwt := hI.2.1.2.2.1
  have hpa := hI.2.1.2.2.2.2
  have hcp := hI.2.2
  refine lv_iconst (v := nI 0) hx hb dX1_newTotal_0 (by decide) ?_
  refine lv_istore_n (lv' := [(3, .int (nI 0)), (0, .ref (am 0)), (1, .int (nI s0)), (2, .int (nI k))]) hx hb dX1_newTotal_1 rfl hl (by decide) rfl (fun ls hl => ?_)
  refine lv_iconst (v := nI 0) hx hb dX1_newTotal_2 (by decide) ?_
  refine lv_istore (lv' := [(4, .int (nI 0)), (3, .int (nI 0)), (0, .ref (am 0)), (1, .int (nI s0)), (2, .int (nI k))]) hx hb dX1_newTotal_3 hl (by decide) rfl (fun ls hl => ?_)
  exact m1_newTotal_l C0 hI hK hP hs hk (ns + 1) 0 0 (by omega) (by omega) lt_0 rfl ls (lv_sub hl [2, 3, 4, 1, 0] rfl)
set_option maxHeartbeats 4000000 in
set_option maxRecDepth 100000 in
theorem m1_paths_i (C0 : fx_C cX1_paths 6 RX1 (some .int) p s m args meth c) (hI : ft_MI d ns sk cp ln wt pa) (hK : va_K D vwCl [(cA, .int)] s) (hP : va_P D vwCl (ft_MW cA am d ns sk cp ln wt) s.heap) {w : Int32} {L s0 x0 : Nat} (hs : s0 < ns) (hL : L < 2 ^ 31) (kk : ∀ (x : Nat) (ls : Array Slot), x = x0 + ft_sum (ln s0) (fun n => if L ≤ ft_nt ns pa ln wt s0 (n + 1) then 1 else 0) → lv_has ls 6 [(0, .ref (am 0)), (1, .int w), (2, .int (nI L)), (3, .int (nI x)), (4, .int (nI s0))] → fx_W p l e fx_r2 s m args below meth c (fun r => r = nI (ft_pth ns pa ln wt L)) (F0 m 61 ls [])) : ∀ (n i x : Nat), i ≤ ln s0 → ln s0 - i < n → x = x0 + ft_sum i (fun n => if L ≤ ft_nt ns pa ln wt s0 (n + 1) then 1 else 0) → ∀ ls : Array Slot, lv_has ls 6 [(0, .ref (am 0)), (1, .int w), (2, .int (nI L)), (3, .int (nI x)), (4, .int (nI s0)), (5, .int (nI (i + 1)))] → fx_W p l e fx_r2 s m args below meth c (fun r => r = nI (ft_pth ns pa ln wt L)) (F0 m 28 ls []) := by
  have hd8 := hI.1.1
  have hsk := hI.1.2
  have hns := hI.2.1.1
  have hln := hI.2.1.2.1
  have hwt := hI.2.1.2.2.1
  have hpa := hI.2.1.2.2.2.2
  have hcp := hI.2.2
  obtain ⟨hx, hb, hml, hown, hts, hr, hlocks⟩ := id C0
  intro n
  induction n with
  | zero =>
    intro i x h1 h2
    exact absurd h2 (by omega)
  | succ n ih =>
    intro i x hi hn hxs ls hl
    have b0 := hln s0
    refine lv_iload hx hb dX1_paths_28 (lv_at hl 5 rfl) ?_
    refine lv_aload_n hx hb dX1_paths_30 rfl (lv_at hl 0 rfl) ?_
    refine fx_g1 (v := .ref (am 3)) hx hb hts hown hK hP rfl 4 (by decide) q131 rfl rfl dX1_paths_31 ?_
    refine lv_iload hx hb dX1_paths_34 (lv_at hl 4 rfl) ?_
    refine fx_ald (k := s0) (v := nI (ln s0)) hx hb hK hP 3 rfl rfl (by omega) (by decide) rfl dX1_paths_36 ?_
    refine fx_gt (tgt := 61) hx hb dX1_paths_37 (by decide) (nI_ltI (a := ln s0) (b := i + 1) (by omega) (by omega)) (fun c_37 => ?_) (fun c_37 => ?_)
    · have e0 : i = ln s0 := by omega
      exact kk x ls (e0 ▸ hxs) (lv_sub hl [0, 1, 2, 3, 4] rfl)
    · refine lv_aload_n hx hb dX1_paths_40 rfl (lv_at hl 0 rfl) ?_
      refine lv_iload hx hb dX1_paths_41 (lv_at hl 4 rfl) ?_
      refine lv_iload hx hb dX1_paths_43 (lv_at hl 5 rfl) ?_
      refine fx_callV (As := [.int (nI s0), .int (nI (i + 1))]) (rest := []) (n := 2) C0 (m1_newTotal l hI (s0 := s0) (k := i + 1) hs (by omega)) hP hK (va_recv hK hP (ci := 1) (q0 := 0) rfl rfl) (lw_V q205 q207 qs9 q13 q208) ⟨rfl, rfl⟩ (by decide +kernel) ⟨Nat.le_of_ble_eq_true rfl, Nat.le_of_ble_eq_true rfl⟩ rfl hl.1 rfl (Nat.le_of_ble_eq_true rfl) dX1_paths_45 ⟨Nat.zero_le _, Nat.zero_le _⟩ (fun r hr => ?_)
      subst hr
      have b2 := ft_nt_le (ns := ns) (pa := pa) (ln := ln) hwt s0 (i + 1)
      refine lv_iload_n hx hb dX1_paths_48 rfl (lv_at hl 2 rfl) ?_
      refine fx_lt (tgt := 55) hx hb dX1_paths_49 (by decide) (nI_ltI (a := ft_nt ns pa ln wt s0 (i + 1)) (b := L) (by omega) (by omega)) (fun c_49 => ?_) (fun c_49 => ?_)
      · have g0 : x = x0 + ft_sum (i + 1) (fun n => if L ≤ ft_nt ns pa ln wt s0 (n + 1) then 1 else 0) := by
          show x = x0 + (ft_sum i (fun n => if L ≤ ft_nt ns pa ln wt s0 (n + 1) then 1 else 0) + (if L ≤ ft_nt ns pa ln wt s0 (i + 1) then 1 else 0))
          rw [if_neg (by omega), hxs]; rfl
        refine fx_inc (v := nI (i + 1 + 1)) (lv' := [(5, .int (nI (i + 1 + 1))), (0, .ref (am 0)), (1, .int w), (2, .int (nI L)), (3, .int (nI x)), (4, .int (nI s0))]) (k0 := 5) hx hb dX1_paths_55 hl rfl (nI_1 _) (by decide) rfl (fun ls hl => ?_)
        refine lv_goto (tgt := 28) hx hb dX1_paths_58 (by decide) ?_
        exact ih (i + 1) _ (by omega) (by omega) g0 ls (lv_sub hl [1, 2, 3, 4, 5, 0] rfl)
      · have g0 : x + 1 = x0 + ft_sum (i + 1) (fun n => if L ≤ ft_nt ns pa ln wt s0 (n + 1) then 1 else 0) := by
          show x + 1 = x0 + (ft_sum i (fun n => if L ≤ ft_nt ns pa ln wt s0 (n + 1) then 1 else 0) + (if L ≤ ft_nt ns pa ln wt s0 (i + 1) then 1 else 0))
          rw [if_pos (by omega), hxs]; rfl
        refine fx_inc (v := nI (x + 1)) (lv' := [(3, .int (nI (x + 1))), (0, .ref (am 0)), (1, .int w), (2, .int (nI L)), (4, .int (nI s0)), (5, .int (nI (i + 1)))]) (k0 := 3) hx hb dX1_paths_52 hl rfl (nI_1 _) (by decide) rfl (fun ls hl => ?_)
        refine fx_inc (v := nI (i + 1 + 1)) (lv' := [(5, .int (nI (i + 1 + 1))), (3, .int (nI (x + 1))), (0, .ref (am 0)), (1, .int w), (2, .int (nI L)), (4, .int (nI s0))]) (k0 := 5) hx hb dX1_paths_55 hl rfl (nI_1 _) (by decide) rfl (fun ls hl => ?_)
        refine lv_goto (tgt := 28) hx hb dX1_paths_58 (by decide) ?_
        exact ih (i + 1) _ (by omega) (by omega) g0 ls (lv_sub hl [2, 3, 4, 1, 5, 0] rfl)
set_option maxHeartbeats 4000000 in
set_option maxRecDepth 100000 in
theorem m1_paths_l (C0 : fx_C cX1_paths 6 RX1 (some .int) p s m args meth c) (hI : ft_MI d ns sk cp ln wt pa) (hK : va_K D vwCl [(cA, .int)] s) (hP : va_P D vwCl (ft_MW cA am d ns sk cp ln wt) s.heap) {w : Int32} {L : Nat} (hL : L < 2 ^ 31) : ∀ (n i x : Nat), i ≤ ns → ns - i < n → x = ft_sum i (fun s => ft_sum (ln s) (fun n => if L ≤ ft_nt ns pa ln wt s (n + 1) then 1 else 0)) → ∀ ls : Array Slot, lv_has ls 6 [(0, .ref (am 0)), (1, .int w), (2, .int (nI L)), (3, .int (nI x)), (4, .int (nI i))] → fx_W p l e fx_r2 s m args below meth c (fun r => r = nI (ft_pth ns pa ln wt L)) (F0 m 16 ls []) := by
  have hd8 := hI.1.1
  have hsk := hI.1.2
  have hns := hI.2.1.1
  have hln := hI.2.1.2.1
  have hwt := hI.2.1.2.2.1
  have hpa := hI.2.1.2.2.2.2
  have hcp := hI.2.2
  obtain ⟨hx, hb, hml, hown, hts, hr, hlocks⟩ := id C0
  intro n
  induction n with
  | zero =>
    intro i x h1 h2
    exact absurd h2 (by omega)
  | succ n ih =>
    intro i x hi hn hxs ls hl
    refine lv_iload hx hb dX1_paths_16 (lv_at hl 4 rfl) ?_
    refine lv_aload_n hx hb dX1_paths_18 rfl (lv_at hl 0 rfl) ?_
    refine fx_g1 (v := .int (nI ns)) hx hb hts hown hK hP rfl 2 (by decide) q129 rfl rfl dX1_paths_19 ?_
    refine fx_ge (tgt := 67) hx hb dX1_paths_22 (by decide) (nI_leI (a := ns) (b := i) (by omega) (by omega)) (fun c_22 => ?_) (fun c_22 => ?_)
    · refine lv_iload_n hx hb dX1_paths_67 rfl (lv_at hl 3 rfl) ?_
      exact fx_ri C0 dX1_paths_68 (by rw [hxs, (by omega : i = ns)]; rfl)
    · refine lv_iconst (v := nI 1) hx hb dX1_paths_25 (by decide) ?_
      refine lv_istore (lv' := [(5, .int (nI 1)), (0, .ref (am 0)), (1, .int w), (2, .int (nI L)), (3, .int (nI x)), (4, .int (nI i))]) hx hb dX1_paths_26 hl (by decide) rfl (fun ls hl => ?_)
      refine m1_paths_i C0 hI hK hP (x0 := x) (by omega) hL (fun x2 ls hx2 hl => ?_) (ln i + 1) 0 x (by omega) (by omega) rfl ls (lv_sub hl [1, 2, 3, 4, 5, 0] rfl)
      refine fx_inc (v := nI (i + 1)) (lv' := [(4, .int (nI (i + 1))), (0, .ref (am 0)), (1, .int w), (2, .int (nI L)), (3, .int (nI x2))]) (k0 := 4) hx hb dX1_paths_61 hl rfl (nI_1 _) (by decide) rfl (fun ls hl => ?_)
      refine lv_goto (tgt := 16) hx hb dX1_paths_64 (by decide) ?_
      exact ih (i + 1) x2 (by omega) (by omega) (by rw [hx2, hxs]; rfl) ls (lv_sub hl [1, 2, 3, 4, 0] rfl)
set_option maxHeartbeats 4000000 in
set_option maxRecDepth 100000 in
theorem m1_paths (l : Launch) (hSK : ft_SK d sk) (hSI : ft_SI ns pa ln wt) (w : Int32) : Met l yX1_paths (ws_ yX1_paths cX1_paths 6 (some .int)) fx_r2 (va_Pc [.ref (am 0), .int w] (ft_pre (ft_MT D cA am d sk ns pa ln wt) D cA)) (vp_Si (fun r => r = nI (ft_pth ns pa ln wt (ft_ls w)))) 0 0 (fun _ => False) := by
  refine fx_met (by decide) (Nat.le_of_ble_eq_true rfl) ?_
  intro p e s m below meth c ls C0 _ hB hl
  obtain ⟨⟨cp, hcp0, hP, hDD⟩, hK⟩ := hB
  have hI : ft_MI d ns sk cp ln wt pa := ⟨hSK, hSI, hcp0⟩
  have C0 : fx_C cX1_paths 6 RX1 (some .int) p s m _ meth c := C0
  obtain ⟨hx, hb, hml, hown, hts, hr, hlocks⟩ := id C0
  have hl : lv_has ls 6 [(0, .ref (am 0)), (1, .int w)] := hl
  have hd8 := hI.1.1
  have hsk := hI.1.2
  have hns := hI.2.1.1
  have hln := hI.2.1.2.1
  have hwt := hI.2.1.2.2.1
  have hpa := hI.2.1.2.2.2.2
  have hcp := hI.2.2
  have bL := ft_ls_b w
  have j10 : ∀ (z : Int32) (ls : Array Slot), z = nI (ft_ls w) → lv_has ls 6 [(0, .ref (am 0)), (1, .int w)] → fx_W p l e fx_r2 s m (#[.ref (am 0), .int w] : Array Value) below meth c (fun r => r = nI (ft_pth ns pa ln wt (ft_ls w))) (F0 m 10 ls [.int z]) := by
    intro z ls hz hl
    subst hz
    refine lv_istore_n (lv' := [(2, .int (nI (ft_ls w))), (0, .ref (am 0)), (1, .int w)]) hx hb dX1_paths_10 rfl hl (by decide) rfl (fun ls hl => ?_)
    refine lv_iconst (v := nI 0) hx hb dX1_paths_11 (by decide) ?_
    refine lv_istore_n (lv' := [(3, .int (nI 0)), (2, .int (nI (ft_ls w))), (0, .ref (am 0)), (1, .int w)]) hx hb dX1_paths_12 rfl hl (by decide) rfl (fun ls hl => ?_)
    refine lv_iconst (v := nI 0) hx hb dX1_paths_13 (by decide) ?_
    refine lv_istore (lv' := [(4, .int (nI 0)), (3, .int (nI 0)), (2, .int (nI (ft_ls w))), (0, .ref (am 0)), (1, .int w)]) hx hb dX1_paths_14 hl (by decide) rfl (fun ls hl => ?_)
    exact m1_paths_l C0 hI hK hP bL.2 (ns + 1) 0 0 (by omega) (by omega) rfl ls (lv_sub hl [3, 4, 2, 1, 0] rfl)
  refine lv_iload_n hx hb dX1_paths_0 rfl (lv_at hl 1 rfl) ?_
  refine lv_iconst (v := 1) hx hb dX1_paths_1 (by decide) ?_
  refine fx_ge (tgt := 9) hx hb dX1_paths_2 (by decide) ft_ge1 (fun c_2 => ?_) (fun c_2 => ?_)
  · have e1 := ft_ls_2 c_2
    refine lv_iload_n hx hb dX1_paths_9 rfl (lv_at hl 1 rfl) ?_
    exact j10 _ ls e1.symm hl
  · have e1 := ft_ls_1 (Decidable.not_not.mp c_2)
    refine lv_iconst (v := 1) hx hb dX1_paths_5 (by decide) ?_
    refine lv_goto (tgt := 10) hx hb dX1_paths_6 (by decide) ?_
    exact j10 _ ls e1.symm hl
set_option maxHeartbeats 4000000 in
set_option maxRecDepth 100000 in
theorem m1_deepest_i (C0 : fx_C cX1_deepest 6 RX1 (some .int) p s m args meth c) (hI : ft_MI d ns sk cp ln wt pa) (hK : va_K D vwCl [(cA, .int)] s) (hP : va_P D vwCl (ft_MW cA am d ns sk cp ln wt) s.heap) {w : Int32} {L s0 x0 : Nat} (hs : s0 < ns) (hL : L < 2 ^ 31) (hx0 : x0 ≤ 8) (kk : ∀ (x : Nat) (ls : Array Slot), (x0 ≤ x ∧ ft_max (ln s0) (fun n => if L ≤ ft_nt ns pa ln wt s0 (n + 1) then n + 1 else 0) ≤ x ∧ (x = x0 ∨ x = ft_max (ln s0) (fun n => if L ≤ ft_nt ns pa ln wt s0 (n + 1) then n + 1 else 0))) → lv_has ls 6 [(0, .ref (am 0)), (1, .int w), (2, .int (nI L)), (3, .int (nI x)), (4, .int (nI s0))] → fx_W p l e fx_r2 s m args below meth c (fun r => r = nI (ft_dp ns pa ln wt L)) (F0 m 67 ls [])) : ∀ (n i x : Nat), i ≤ ln s0 → ln s0 - i < n → (x0 ≤ x ∧ ft_max i (fun n => if L ≤ ft_nt ns pa ln wt s0 (n + 1) then n + 1 else 0) ≤ x ∧ (x = x0 ∨ x = ft_max i (fun n => if L ≤ ft_nt ns pa ln wt s0 (n + 1) then n + 1 else 0))) → ∀ ls : Array Slot, lv_has ls 6 [(0, .ref (am 0)), (1, .int w), (2, .int (nI L)), (3, .int (nI x)), (4, .int (nI s0)), (5, .int (nI (i + 1)))] → fx_W p l e fx_r2 s m args below meth c (fun r => r = nI (ft_dp ns pa ln wt L)) (F0 m 28 ls []) := by
  have hd8 := hI.1.1
  have hsk := hI.1.2
  have hns := hI.2.1.1
  have hln := hI.2.1.2.1
  have hwt := hI.2.1.2.2.1
  have hpa := hI.2.1.2.2.2.2
  have hcp := hI.2.2
  obtain ⟨hx, hb, hml, hown, hts, hr, hlocks⟩ := id C0
  intro n
  induction n with
  | zero =>
    intro i x h1 h2
    exact absurd h2 (by omega)
  | succ n ih =>
    intro i x hi hn hxs ls hl
    have b0 := hln s0
    refine lv_iload hx hb dX1_deepest_28 (lv_at hl 5 rfl) ?_
    refine lv_aload_n hx hb dX1_deepest_30 rfl (lv_at hl 0 rfl) ?_
    refine fx_g1 (v := .ref (am 3)) hx hb hts hown hK hP rfl 4 (by decide) q131 rfl rfl dX1_deepest_31 ?_
    refine lv_iload hx hb dX1_deepest_34 (lv_at hl 4 rfl) ?_
    refine fx_ald (k := s0) (v := nI (ln s0)) hx hb hK hP 3 rfl rfl (by omega) (by decide) rfl dX1_deepest_36 ?_
    refine fx_gt (tgt := 67) hx hb dX1_deepest_37 (by decide) (nI_ltI (a := ln s0) (b := i + 1) (by omega) (by omega)) (fun c_37 => ?_) (fun c_37 => ?_)
    · have e0 : i = ln s0 := by omega
      exact kk x ls (e0 ▸ hxs) (lv_sub hl [0, 1, 2, 3, 4] rfl)
    · refine lv_aload_n hx hb dX1_deepest_40 rfl (lv_at hl 0 rfl) ?_
      refine lv_iload hx hb dX1_deepest_41 (lv_at hl 4 rfl) ?_
      refine lv_iload hx hb dX1_deepest_43 (lv_at hl 5 rfl) ?_
      refine fx_callV (As := [.int (nI s0), .int (nI (i + 1))]) (rest := []) (n := 2) C0 (m1_newTotal l hI (s0 := s0) (k := i + 1) hs (by omega)) hP hK (va_recv hK hP (ci := 1) (q0 := 0) rfl rfl) (lw_V q205 q207 qs9 q13 q208) ⟨rfl, rfl⟩ (by decide +kernel) ⟨Nat.le_of_ble_eq_true rfl, Nat.le_of_ble_eq_true rfl⟩ rfl hl.1 rfl (Nat.le_of_ble_eq_true rfl) dX1_deepest_45 ⟨Nat.zero_le _, Nat.zero_le _⟩ (fun r hr => ?_)
      subst hr
      have b2 := ft_nt_le (ns := ns) (pa := pa) (ln := ln) hwt s0 (i + 1)
      refine lv_iload_n hx hb dX1_deepest_48 rfl (lv_at hl 2 rfl) ?_
      refine fx_lt (tgt := 61) hx hb dX1_deepest_49 (by decide) (nI_ltI (a := ft_nt ns pa ln wt s0 (i + 1)) (b := L) (by omega) (by omega)) (fun c_49 => ?_) (fun c_49 => ?_)
      · have g0 : (x0 ≤ x ∧ ft_max (i + 1) (fun n => if L ≤ ft_nt ns pa ln wt s0 (n + 1) then n + 1 else 0) ≤ x ∧ (x = x0 ∨ x = ft_max (i + 1) (fun n => if L ≤ ft_nt ns pa ln wt s0 (n + 1) then n + 1 else 0))) := by
          have e1 : ft_max (i + 1) (fun n => if L ≤ ft_nt ns pa ln wt s0 (n + 1) then n + 1 else 0) = (if ft_max i (fun n => if L ≤ ft_nt ns pa ln wt s0 (n + 1) then n + 1 else 0) < (if L ≤ ft_nt ns pa ln wt s0 (i + 1) then i + 1 else 0) then (if L ≤ ft_nt ns pa ln wt s0 (i + 1) then i + 1 else 0) else ft_max i (fun n => if L ≤ ft_nt ns pa ln wt s0 (n + 1) then n + 1 else 0)) := rfl
          have e2 : (if L ≤ ft_nt ns pa ln wt s0 (i + 1) then i + 1 else 0) = 0 := if_neg (by omega)
          rw [e2, if_neg (Nat.not_lt_zero _)] at e1
          rw [e1]; exact hxs
        refine fx_inc (v := nI (i + 1 + 1)) (lv' := [(5, .int (nI (i + 1 + 1))), (0, .ref (am 0)), (1, .int w), (2, .int (nI L)), (3, .int (nI x)), (4, .int (nI s0))]) (k0 := 5) hx hb dX1_deepest_61 hl rfl (nI_1 _) (by decide) rfl (fun ls hl => ?_)
        refine lv_goto (tgt := 28) hx hb dX1_deepest_64 (by decide) ?_
        exact ih (i + 1) _ (by omega) (by omega) g0 ls (lv_sub hl [1, 2, 3, 4, 5, 0] rfl)
      · have bx : ft_max i (fun n => if L ≤ ft_nt ns pa ln wt s0 (n + 1) then n + 1 else 0) ≤ 8 ∧ x ≤ x0 + 8 := by
          have := ft_max_le (n := i) (c := 8) (g := (fun n => if L ≤ ft_nt ns pa ln wt s0 (n + 1) then n + 1 else 0)) (fun j hj => by
            show (if L ≤ ft_nt ns pa ln wt s0 (j + 1) then j + 1 else 0) ≤ 8
            split <;> omega)
          omega
        refine lv_iload hx hb dX1_deepest_52 (lv_at hl 5 rfl) ?_
        refine lv_iload_n hx hb dX1_deepest_54 rfl (lv_at hl 3 rfl) ?_
        refine fx_le (tgt := 61) hx hb dX1_deepest_55 (by decide) (nI_leI (a := i + 1) (b := x) (by omega) (by omega)) (fun c_55 => ?_) (fun c_55 => ?_)
        · have g0 : (x0 ≤ x ∧ ft_max (i + 1) (fun n => if L ≤ ft_nt ns pa ln wt s0 (n + 1) then n + 1 else 0) ≤ x ∧ (x = x0 ∨ x = ft_max (i + 1) (fun n => if L ≤ ft_nt ns pa ln wt s0 (n + 1) then n + 1 else 0))) := by
            have e1 : ft_max (i + 1) (fun n => if L ≤ ft_nt ns pa ln wt s0 (n + 1) then n + 1 else 0) = (if ft_max i (fun n => if L ≤ ft_nt ns pa ln wt s0 (n + 1) then n + 1 else 0) < (if L ≤ ft_nt ns pa ln wt s0 (i + 1) then i + 1 else 0) then (if L ≤ ft_nt ns pa ln wt s0 (i + 1) then i + 1 else 0) else ft_max i (fun n => if L ≤ ft_nt ns pa ln wt s0 (n + 1) then n + 1 else 0)) := rfl
            have e2 : (if L ≤ ft_nt ns pa ln wt s0 (i + 1) then i + 1 else 0) = i + 1 := if_pos (by omega)
            rw [e2] at e1
            split at e1 <;> omega
          refine fx_inc (v := nI (i + 1 + 1)) (lv' := [(5, .int (nI (i + 1 + 1))), (0, .ref (am 0)), (1, .int w), (2, .int (nI L)), (3, .int (nI x)), (4, .int (nI s0))]) (k0 := 5) hx hb dX1_deepest_61 hl rfl (nI_1 _) (by decide) rfl (fun ls hl => ?_)
          refine lv_goto (tgt := 28) hx hb dX1_deepest_64 (by decide) ?_
          exact ih (i + 1) _ (by omega) (by omega) g0 ls (lv_sub hl [1, 2, 3, 4, 5, 0] rfl)
        · have g0 : (x0 ≤ (i + 1) ∧ ft_max (i + 1) (fun n => if L ≤ ft_nt ns pa ln wt s0 (n + 1) then n + 1 else 0) ≤ (i + 1) ∧ ((i + 1) = x0 ∨ (i + 1) = ft_max (i + 1) (fun n => if L ≤ ft_nt ns pa ln wt s0 (n + 1) then n + 1 else 0))) := by
            have e1 : ft_max (i + 1) (fun n => if L ≤ ft_nt ns pa ln wt s0 (n + 1) then n + 1 else 0) = (if ft_max i (fun n => if L ≤ ft_nt ns pa ln wt s0 (n + 1) then n + 1 else 0) < (if L ≤ ft_nt ns pa ln wt s0 (i + 1) then i + 1 else 0) then (if L ≤ ft_nt ns pa ln wt s0 (i + 1) then i + 1 else 0) else ft_max i (fun n => if L ≤ ft_nt ns pa ln wt s0 (n + 1) then n + 1 else 0)) := rfl
            have e2 : (if L ≤ ft_nt ns pa ln wt s0 (i + 1) then i + 1 else 0) = i + 1 := if_pos (by omega)
            rw [e2] at e1
            split at e1 <;> omega
          refine lv_iload hx hb dX1_deepest_58 (lv_at hl 5 rfl) ?_
          refine lv_istore_n (lv' := [(3, .int (nI (i + 1))), (0, .ref (am 0)), (1, .int w), (2, .int (nI L)), (4, .int (nI s0)), (5, .int (nI (i + 1)))]) hx hb dX1_deepest_60 rfl hl (by decide) rfl (fun ls hl => ?_)
          refine fx_inc (v := nI (i + 1 + 1)) (lv' := [(5, .int (nI (i + 1 + 1))), (3, .int (nI (i + 1))), (0, .ref (am 0)), (1, .int w), (2, .int (nI L)), (4, .int (nI s0))]) (k0 := 5) hx hb dX1_deepest_61 hl rfl (nI_1 _) (by decide) rfl (fun ls hl => ?_)
          refine lv_goto (tgt := 28) hx hb dX1_deepest_64 (by decide) ?_
          exact ih (i + 1) _ (by omega) (by omega) g0 ls (lv_sub hl [2, 3, 4, 1, 5, 0] rfl)
set_option maxHeartbeats 4000000 in
set_option maxRecDepth 100000 in
theorem m1_deepest_l (C0 : fx_C cX1_deepest 6 RX1 (some .int) p s m args meth c) (hI : ft_MI d ns sk cp ln wt pa) (hK : va_K D vwCl [(cA, .int)] s) (hP : va_P D vwCl (ft_MW cA am d ns sk cp ln wt) s.heap) {w : Int32} {L : Nat} (hL : L < 2 ^ 31) : ∀ (n i x : Nat), i ≤ ns → ns - i < n → x = ft_max i (fun s => ft_max (ln s) (fun n => if L ≤ ft_nt ns pa ln wt s (n + 1) then n + 1 else 0)) → ∀ ls : Array Slot, lv_has ls 6 [(0, .ref (am 0)), (1, .int w), (2, .int (nI L)), (3, .int (nI x)), (4, .int (nI i))] → fx_W p l e fx_r2 s m args below meth c (fun r => r = nI (ft_dp ns pa ln wt L)) (F0 m 16 ls []) := by
  have hd8 := hI.1.1
  have hsk := hI.1.2
  have hns := hI.2.1.1
  have hln := hI.2.1.2.1
  have hwt := hI.2.1.2.2.1
  have hpa := hI.2.1.2.2.2.2
  have hcp := hI.2.2
  obtain ⟨hx, hb, hml, hown, hts, hr, hlocks⟩ := id C0
  intro n
  induction n with
  | zero =>
    intro i x h1 h2
    exact absurd h2 (by omega)
  | succ n ih =>
    intro i x hi hn hxs ls hl
    have bx : x ≤ 8 := by
      rw [hxs]
      refine ft_max_le (fun j hj => ft_max_le (fun k hk => ?_))
      have := hln j
      show (if L ≤ ft_nt ns pa ln wt j (k + 1) then k + 1 else 0) ≤ 8
      split <;> omega
    refine lv_iload hx hb dX1_deepest_16 (lv_at hl 4 rfl) ?_
    refine lv_aload_n hx hb dX1_deepest_18 rfl (lv_at hl 0 rfl) ?_
    refine fx_g1 (v := .int (nI ns)) hx hb hts hown hK hP rfl 2 (by decide) q129 rfl rfl dX1_deepest_19 ?_
    refine fx_ge (tgt := 73) hx hb dX1_deepest_22 (by decide) (nI_leI (a := ns) (b := i) (by omega) (by omega)) (fun c_22 => ?_) (fun c_22 => ?_)
    · refine lv_iload_n hx hb dX1_deepest_73 rfl (lv_at hl 3 rfl) ?_
      exact fx_ri C0 dX1_deepest_74 (by rw [hxs, (by omega : i = ns)]; rfl)
    · refine lv_iconst (v := nI 1) hx hb dX1_deepest_25 (by decide) ?_
      refine lv_istore (lv' := [(5, .int (nI 1)), (0, .ref (am 0)), (1, .int w), (2, .int (nI L)), (3, .int (nI x)), (4, .int (nI i))]) hx hb dX1_deepest_26 hl (by decide) rfl (fun ls hl => ?_)
      refine m1_deepest_i C0 hI hK hP (x0 := x) (by omega) hL bx (fun x2 ls hx2 hl => ?_) (ln i + 1) 0 x (by omega) (by omega) ⟨Nat.le_refl _, Nat.zero_le _, Or.inl rfl⟩ ls (lv_sub hl [1, 2, 3, 4, 5, 0] rfl)
      refine fx_inc (v := nI (i + 1)) (lv' := [(4, .int (nI (i + 1))), (0, .ref (am 0)), (1, .int w), (2, .int (nI L)), (3, .int (nI x2))]) (k0 := 4) hx hb dX1_deepest_67 hl rfl (nI_1 _) (by decide) rfl (fun ls hl => ?_)
      refine lv_goto (tgt := 16) hx hb dX1_deepest_70 (by decide) ?_
      exact ih (i + 1) x2 (by omega) (by omega) (by
      have e1 : ft_max (i + 1) (fun s => ft_max (ln s) (fun n => if L ≤ ft_nt ns pa ln wt s (n + 1) then n + 1 else 0)) = (if ft_max i (fun s => ft_max (ln s) (fun n => if L ≤ ft_nt ns pa ln wt s (n + 1) then n + 1 else 0)) < ft_max (ln i) (fun n => if L ≤ ft_nt ns pa ln wt i (n + 1) then n + 1 else 0) then ft_max (ln i) (fun n => if L ≤ ft_nt ns pa ln wt i (n + 1) then n + 1 else 0) else ft_max i (fun s => ft_max (ln s) (fun n => if L ≤ ft_nt ns pa ln wt s (n + 1) then n + 1 else 0))) := rfl
      rw [e1]
      split <;> omega) ls (lv_sub hl [1, 2, 3, 4, 0] rfl)
set_option maxHeartbeats 4000000 in
set_option maxRecDepth 100000 in
theorem m1_deepest (l : Launch) (hSK : ft_SK d sk) (hSI : ft_SI ns pa ln wt) (w : Int32) : Met l yX1_deepest (ws_ yX1_deepest cX1_deepest 6 (some .int)) fx_r2 (va_Pc [.ref (am 0), .int w] (ft_pre (ft_MT D cA am d sk ns pa ln wt) D cA)) (vp_Si (fun r => r = nI (ft_dp ns pa ln wt (ft_ls w)))) 0 0 (fun _ => False) := by
  refine fx_met (by decide) (Nat.le_of_ble_eq_true rfl) ?_
  intro p e s m below meth c ls C0 _ hB hl
  obtain ⟨⟨cp, hcp0, hP, hDD⟩, hK⟩ := hB
  have hI : ft_MI d ns sk cp ln wt pa := ⟨hSK, hSI, hcp0⟩
  have C0 : fx_C cX1_deepest 6 RX1 (some .int) p s m _ meth c := C0
  obtain ⟨hx, hb, hml, hown, hts, hr, hlocks⟩ := id C0
  have hl : lv_has ls 6 [(0, .ref (am 0)), (1, .int w)] := hl
  have hd8 := hI.1.1
  have hsk := hI.1.2
  have hns := hI.2.1.1
  have hln := hI.2.1.2.1
  have hwt := hI.2.1.2.2.1
  have hpa := hI.2.1.2.2.2.2
  have hcp := hI.2.2
  have bL := ft_ls_b w
  have j10 : ∀ (z : Int32) (ls : Array Slot), z = nI (ft_ls w) → lv_has ls 6 [(0, .ref (am 0)), (1, .int w)] → fx_W p l e fx_r2 s m (#[.ref (am 0), .int w] : Array Value) below meth c (fun r => r = nI (ft_dp ns pa ln wt (ft_ls w))) (F0 m 10 ls [.int z]) := by
    intro z ls hz hl
    subst hz
    refine lv_istore_n (lv' := [(2, .int (nI (ft_ls w))), (0, .ref (am 0)), (1, .int w)]) hx hb dX1_deepest_10 rfl hl (by decide) rfl (fun ls hl => ?_)
    refine lv_iconst (v := nI 0) hx hb dX1_deepest_11 (by decide) ?_
    refine lv_istore_n (lv' := [(3, .int (nI 0)), (2, .int (nI (ft_ls w))), (0, .ref (am 0)), (1, .int w)]) hx hb dX1_deepest_12 rfl hl (by decide) rfl (fun ls hl => ?_)
    refine lv_iconst (v := nI 0) hx hb dX1_deepest_13 (by decide) ?_
    refine lv_istore (lv' := [(4, .int (nI 0)), (3, .int (nI 0)), (2, .int (nI (ft_ls w))), (0, .ref (am 0)), (1, .int w)]) hx hb dX1_deepest_14 hl (by decide) rfl (fun ls hl => ?_)
    exact m1_deepest_l C0 hI hK hP bL.2 (ns + 1) 0 0 (by omega) (by omega) rfl ls (lv_sub hl [3, 4, 2, 1, 0] rfl)
  refine lv_iload_n hx hb dX1_deepest_0 rfl (lv_at hl 1 rfl) ?_
  refine lv_iconst (v := 1) hx hb dX1_deepest_1 (by decide) ?_
  refine fx_ge (tgt := 9) hx hb dX1_deepest_2 (by decide) ft_ge1 (fun c_2 => ?_) (fun c_2 => ?_)
  · have e1 := ft_ls_2 c_2
    refine lv_iload_n hx hb dX1_deepest_9 rfl (lv_at hl 1 rfl) ?_
    exact j10 _ ls e1.symm hl
  · have e1 := ft_ls_1 (Decidable.not_not.mp c_2)
    refine lv_iconst (v := 1) hx hb dX1_deepest_5 (by decide) ?_
    refine lv_goto (tgt := 10) hx hb dX1_deepest_6 (by decide) ?_
    exact j10 _ ls e1.symm hl
end
end
section
/-! THE MODEL: call, leave, sample -/
section
variable {p : Program} {l : Launch} {e : Env} {R : Room} {s : State} {m : MethodId} {args : Array Value} {below : List Frame} {meth : Method} {c : Code}
variable {D : va_G} {cA : ClassId} {am : Nat → Nat} {d ns : Nat} {sk cp ln wt : Nat → Nat} {pa : Nat → Nat → Nat}
set_option maxHeartbeats 4000000 in
set_option maxRecDepth 100000 in
theorem m1_call (l : Launch) (hSK : ft_SK d sk) (hSI : ft_SI ns pa ln wt) {f : Nat} (hf : f ≤ 7) (hd : d < 8) : Met l yX1_call (ws_ yX1_call cX1_call 2 (some .int)) fx_r1 (va_Pc [.ref (am 0), .int (nI f)] (ft_pre (ft_MT D cA am d sk ns pa ln wt) D cA)) (va_Qi (fun r (_ : Unit) => r = nI (d + 1)) (fun _ t => ft_MT D cA am (d + 1) (ft_up sk d f) ns pa ln wt t.heap) (ft_A am 5)) 0 0 (ft_A am 5) := by
  refine fx_met (by decide) (Nat.le_of_ble_eq_true rfl) ?_
  intro p e s m below meth c ls C0 _ hB hl
  obtain ⟨⟨cp, hcp0, hP, hD⟩, hK⟩ := hB
  have hI : ft_MI d ns sk cp ln wt pa := ⟨hSK, hSI, hcp0⟩
  have hS : va_S (ft_A am 5) s.heap s.heap [] := va_S.rf
  have C0 : fx_C cX1_call 2 RX1 (some .int) p s m _ meth c := C0
  obtain ⟨hx, hb, hml, hown, hts, hr, hlocks⟩ := id C0
  have hl : lv_has ls 2 [(0, .ref (am 0)), (1, .int (nI f))] := hl
  have hd8 := hI.1.1
  have hsk := hI.1.2
  have hns := hI.2.1.1
  have hln := hI.2.1.2.1
  have hwt := hI.2.1.2.2.1
  have hpa := hI.2.1.2.2.2.2
  have hcp := hI.2.2
  refine lv_iload_n hx hb dX1_call_0 rfl (lv_at hl 1 rfl) ?_
  refine fx_callS (As := [.int (nI f)]) (rest := []) (n := 1) C0 (m1_bad l (nI f)) (lw_S q150 q151 q13 q152) ⟨rfl, rfl⟩ (by decide +kernel) ⟨Nat.le_of_ble_eq_true rfl, Nat.le_of_ble_eq_true rfl⟩ rfl hl.1 rfl (Nat.le_of_ble_eq_true rfl) dX1_call_1 ⟨Nat.zero_le _, Nat.zero_le _⟩ (fun r hr => ?_)
  subst hr
  refine fz_ne (tgt := 16) hx hb dX1_call_4 (by decide) fx_iN (fun c_4 => ?_) (fun c_4 => ?_)
  · exact absurd (fx_i7 hf) c_4
  · refine lv_aload_n hx hb dX1_call_7 rfl (lv_at hl 0 rfl) ?_
    refine fx_g1 (v := .int (nI d)) hx hb hts hown hK hP rfl 0 (by decide) q127 rfl rfl dX1_call_8 ?_
    refine lv_bipush (v := nI 8) hx hb dX1_call_11 (by decide) ?_
    refine fx_ne (tgt := 18) hx hb dX1_call_13 (by decide) (nI_eq (a := d) (b := 8) (by omega) (by omega)) (fun c_13 => ?_) (fun c_13 => ?_)
    · refine lv_aload_n hx hb dX1_call_18 rfl (lv_at hl 0 rfl) ?_
      refine fx_g1 (v := .ref (am 1)) hx hb hts hown hK hP rfl 1 (by decide) q128 rfl rfl dX1_call_19 ?_
      refine lv_aload_n hx hb dX1_call_22 rfl (lv_at hl 0 rfl) ?_
      refine fx_g1 (v := .int (nI d)) hx hb hts hown hK hP rfl 0 (by decide) q127 rfl rfl dX1_call_23 ?_
      refine lv_iload_n hx hb dX1_call_26 rfl (lv_at hl 1 rfl) ?_
      refine fx_ast (k := d) (ws' := ft_MW cA am d ns (ft_up sk d f) cp ln wt) hx hb hK hP hD hS 1 rfl rfl (by omega) (by decide) (ft_nI_up _ _ _) rfl dX1_call_27 (fun H locs hP hD hS => ?_)
      refine lv_aload_n hx hb dX1_call_28 rfl (lv_at hl 0 rfl) ?_
      refine lv_dup hx hb dX1_call_29 rfl ?_
      refine fx_g1 (v := .int (nI d)) hx hb hts hown hK hP rfl 0 (by decide) q127 rfl rfl dX1_call_30 ?_
      refine lv_iconst (v := nI 1) hx hb dX1_call_33 (by decide) ?_
      refine fx_add (v := nI (d + 1)) hx hb dX1_call_34 (nI_add _ _) ?_
      refine fx_p1 (ws' := ft_MW cA am (d + 1) ns (ft_up sk d f) cp ln wt) hx hb hts hown hK hP hD hS rfl 0 (by decide) q127 rfl rfl (by decide +kernel) (Nat.le_of_ble_eq_true rfl) rfl dX1_call_35 (fun H locs hP hD hS => ?_)
      refine lv_aload_n hx hb dX1_call_38 rfl (lv_at hl 0 rfl) ?_
      refine fx_g1 (v := .int (nI (d + 1))) hx hb hts hown hK hP rfl 0 (by decide) q127 rfl rfl dX1_call_39 ?_
      exact fx_rm C0 () dX1_call_42 rfl (fun t ht => ⟨cp, hcp, by rw [ht]; exact hP, hD⟩) hS
    · exact absurd c_13 (by omega)
set_option maxHeartbeats 4000000 in
set_option maxRecDepth 100000 in
theorem m1_call0 (l : Launch) (hSK : ft_SK d sk) (hSI : ft_SI ns pa ln wt) {f : Int32} (hf : ¬ ((0 ≤ f ∧ f ≤ 7) ∧ d < 8)) : Met l yX1_call (ws_ yX1_call cX1_call 2 (some .int)) fx_r1 (va_Pc [.ref (am 0), .int f] (ft_pre (ft_MT D cA am d sk ns pa ln wt) D cA)) (vp_Si (fun r => r = -1)) 0 0 (fun _ => False) := by
  refine fx_met (by decide) (Nat.le_of_ble_eq_true rfl) ?_
  intro p e s m below meth c ls C0 _ hB hl
  obtain ⟨⟨cp, hcp0, hP, hDD⟩, hK⟩ := hB
  have hI : ft_MI d ns sk cp ln wt pa := ⟨hSK, hSI, hcp0⟩
  have C0 : fx_C cX1_call 2 RX1 (some .int) p s m _ meth c := C0
  obtain ⟨hx, hb, hml, hown, hts, hr, hlocks⟩ := id C0
  have hl : lv_has ls 2 [(0, .ref (am 0)), (1, .int f)] := hl
  have hd8 := hI.1.1
  have hsk := hI.1.2
  have hns := hI.2.1.1
  have hln := hI.2.1.2.1
  have hwt := hI.2.1.2.2.1
  have hpa := hI.2.1.2.2.2.2
  have hcp := hI.2.2
  refine lv_iload_n hx hb dX1_call_0 rfl (lv_at hl 1 rfl) ?_
  refine fx_callS (As := [.int f]) (rest := []) (n := 1) C0 (m1_bad l f) (lw_S q150 q151 q13 q152) ⟨rfl, rfl⟩ (by decide +kernel) ⟨Nat.le_of_ble_eq_true rfl, Nat.le_of_ble_eq_true rfl⟩ rfl hl.1 rfl (Nat.le_of_ble_eq_true rfl) dX1_call_1 ⟨Nat.zero_le _, Nat.zero_le _⟩ (fun r hr => ?_)
  subst hr
  refine fz_ne (tgt := 16) hx hb dX1_call_4 (by decide) fx_iN (fun c_4 => ?_) (fun c_4 => ?_)
  · refine lv_iconst (v := -1) hx hb dX1_call_16 (by decide) ?_
    exact fx_ri C0 dX1_call_17 rfl
  · refine lv_aload_n hx hb dX1_call_7 rfl (lv_at hl 0 rfl) ?_
    refine fx_g1 (v := .int (nI d)) hx hb hts hown hK hP rfl 0 (by decide) q127 rfl rfl dX1_call_8 ?_
    refine lv_bipush (v := nI 8) hx hb dX1_call_11 (by decide) ?_
    refine fx_ne (tgt := 18) hx hb dX1_call_13 (by decide) (nI_eq (a := d) (b := 8) (by omega) (by omega)) (fun c_13 => ?_) (fun c_13 => ?_)
    · exact absurd ⟨c_4, by omega⟩ hf
    · refine lv_iconst (v := -1) hx hb dX1_call_16 (by decide) ?_
      exact fx_ri C0 dX1_call_17 rfl
set_option maxHeartbeats 4000000 in
set_option maxRecDepth 100000 in
theorem m1_leave (l : Launch) (hSK : ft_SK d sk) (hSI : ft_SI ns pa ln wt) (hd : 0 < d) : Met l yX1_leave (ws_ yX1_leave cX1_leave 1 (some .int)) fx_r0 (va_Pc [.ref (am 0)] (ft_pre (ft_MT D cA am d sk ns pa ln wt) D cA)) (va_Qi (fun r (_ : Unit) => r = nI (sk (d - 1))) (fun _ t => ft_MT D cA am (d - 1) sk ns pa ln wt t.heap) (ft_A am 5)) 0 0 (ft_A am 5) := by
  refine fx_met (by decide) (Nat.le_of_ble_eq_true rfl) ?_
  intro p e s m below meth c ls C0 _ hB hl
  obtain ⟨⟨cp, hcp0, hP, hD⟩, hK⟩ := hB
  have hI : ft_MI d ns sk cp ln wt pa := ⟨hSK, hSI, hcp0⟩
  have hS : va_S (ft_A am 5) s.heap s.heap [] := va_S.rf
  have C0 : fx_C cX1_leave 1 RX1 (some .int) p s m _ meth c := C0
  obtain ⟨hx, hb, hml, hown, hts, hr, hlocks⟩ := id C0
  have hl : lv_has ls 1 [(0, .ref (am 0))] := hl
  have hd8 := hI.1.1
  have hsk := hI.1.2
  have hns := hI.2.1.1
  have hln := hI.2.1.2.1
  have hwt := hI.2.1.2.2.1
  have hpa := hI.2.1.2.2.2.2
  have hcp := hI.2.2
  refine lv_aload_n hx hb dX1_leave_0 rfl (lv_at hl 0 rfl) ?_
  refine fx_g1 (v := .int (nI d)) hx hb hts hown hK hP rfl 0 (by decide) q127 rfl rfl dX1_leave_1 ?_
  refine fz_ne (tgt := 9) hx hb dX1_leave_4 (by decide) (fx_z0 (n := d) (by omega)) (fun c_4 => ?_) (fun c_4 => ?_)
  · refine lv_aload_n hx hb dX1_leave_9 rfl (lv_at hl 0 rfl) ?_
    refine lv_dup hx hb dX1_leave_10 rfl ?_
    refine fx_g1 (v := .int (nI d)) hx hb hts hown hK hP rfl 0 (by decide) q127 rfl rfl dX1_leave_11 ?_
    refine lv_iconst (v := nI 1) hx hb dX1_leave_14 (by decide) ?_
    refine fx_sub (v := nI (d - 1)) hx hb dX1_leave_15 (pk_sub (by omega)) ?_
    refine fx_p1 (ws' := ft_MW cA am (d - 1) ns sk cp ln wt) hx hb hts hown hK hP hD hS rfl 0 (by decide) q127 rfl rfl (by decide +kernel) (Nat.le_of_ble_eq_true rfl) rfl dX1_leave_16 (fun H locs hP hD hS => ?_)
    refine lv_aload_n hx hb dX1_leave_19 rfl (lv_at hl 0 rfl) ?_
    refine fx_g1 (v := .ref (am 1)) hx hb hts hown hK hP rfl 1 (by decide) q128 rfl rfl dX1_leave_20 ?_
    refine lv_aload_n hx hb dX1_leave_23 rfl (lv_at hl 0 rfl) ?_
    refine fx_g1 (v := .int (nI (d - 1))) hx hb hts hown hK hP rfl 0 (by decide) q127 rfl rfl dX1_leave_24 ?_
    refine fx_ald (k := d - 1) (v := nI (sk (d - 1))) hx hb hK hP 1 rfl rfl (by omega) (by decide) rfl dX1_leave_27 ?_
    exact fx_rm C0 () dX1_leave_28 rfl (fun t ht => ⟨cp, hcp, by rw [ht]; exact hP, hD⟩) hS
  · exact absurd c_4 (by omega)
set_option maxHeartbeats 4000000 in
set_option maxRecDepth 100000 in
theorem m1_leave0 (l : Launch) (hSK : ft_SK d sk) (hSI : ft_SI ns pa ln wt) (hd : d = 0) : Met l yX1_leave (ws_ yX1_leave cX1_leave 1 (some .int)) fx_r0 (va_Pc [.ref (am 0)] (ft_pre (ft_MT D cA am d sk ns pa ln wt) D cA)) (vp_Si (fun r => r = -1)) 0 0 (fun _ => False) := by
  refine fx_met (by decide) (Nat.le_of_ble_eq_true rfl) ?_
  intro p e s m below meth c ls C0 _ hB hl
  obtain ⟨⟨cp, hcp0, hP, hDD⟩, hK⟩ := hB
  have hI : ft_MI d ns sk cp ln wt pa := ⟨hSK, hSI, hcp0⟩
  have C0 : fx_C cX1_leave 1 RX1 (some .int) p s m _ meth c := C0
  obtain ⟨hx, hb, hml, hown, hts, hr, hlocks⟩ := id C0
  have hl : lv_has ls 1 [(0, .ref (am 0))] := hl
  have hd8 := hI.1.1
  have hsk := hI.1.2
  have hns := hI.2.1.1
  have hln := hI.2.1.2.1
  have hwt := hI.2.1.2.2.1
  have hpa := hI.2.1.2.2.2.2
  have hcp := hI.2.2
  refine lv_aload_n hx hb dX1_leave_0 rfl (lv_at hl 0 rfl) ?_
  refine fx_g1 (v := .int (nI d)) hx hb hts hown hK hP rfl 0 (by decide) q127 rfl rfl dX1_leave_1 ?_
  refine fz_ne (tgt := 9) hx hb dX1_leave_4 (by decide) (fx_z0 (n := d) (by omega)) (fun c_4 => ?_) (fun c_4 => ?_)
  · exact absurd hd c_4
  · refine lv_iconst (v := -1) hx hb dX1_leave_7 (by decide) ?_
    exact fx_ri C0 dX1_leave_8 rfl
set_option maxHeartbeats 4000000 in
set_option maxRecDepth 100000 in
theorem m1_sample_l (C0 : fx_C cX1_sample 3 RX1 (some .int) p s m args meth c) (hSK : ft_SK d sk) (hSI : ft_SI ns pa ln wt) (hK : va_K D vwCl [(cA, .int)] s) {w : Nat} (hns : ns < 40) : ∀ (n i : Nat) (cp : Nat → Nat), i ≤ d → d - i < n → (∀ s j, s < ns → j < ln s → cp (8 * s + j) = pa s j) → (∀ j, j < i → cp (8 * ns + j) = sk j) → ∀ (H : Heap) (locs : List Loc), va_P D vwCl (ft_MW cA am d ns sk cp ln wt) H → va_D (ft_A am 5) (ft_MW cA am d ns sk cp ln wt) → va_S (ft_A am 5) s.heap H locs → ∀ ls : Array Slot, lv_has ls 3 [(0, .ref (am 0)), (1, .int (nI w)), (2, .int (nI i))] → W p l e R s m args below meth c H locs 0 0 (MQ below (va_Qi (fun r (_ : Unit) => r = nI (ns + 1)) (fun _ t => ft_MT D cA am d sk (ns + 1) (ft_up pa ns sk) (ft_up ln ns d) (ft_up wt ns w) t.heap) (ft_A am 5)) args s 0 0 (ft_A am 5)) (F0 m 24 ls []) := by
  have hd8 := hSK.1
  have hln := hSI.2.1
  obtain ⟨hx, hb, hml, hown, hts, hr, hlocks⟩ := id C0
  intro n
  induction n with
  | zero =>
    intro i cp h1 h2
    exact absurd h2 (by omega)
  | succ n ih =>
    intro i cp hi hn hcp hnew H locs hP hD hS ls hl
    refine lv_iload_n hx hb dX1_sample_24 rfl (lv_at hl 2 rfl) ?_
    refine lv_aload_n hx hb dX1_sample_25 rfl (lv_at hl 0 rfl) ?_
    refine fx_g1 (v := .int (nI d)) hx hb hts hown hK hP rfl 0 (by decide) q127 rfl rfl dX1_sample_26 ?_
    refine fx_ge (tgt := 58) hx hb dX1_sample_29 (by decide) (nI_leI (a := d) (b := i) (by omega) (by omega)) (fun c_29 => ?_) (fun c_29 => ?_)
    · refine lv_aload_n hx hb dX1_sample_58 rfl (lv_at hl 0 rfl) ?_
      refine fx_g1 (v := .ref (am 3)) hx hb hts hown hK hP rfl 4 (by decide) q131 rfl rfl dX1_sample_59 ?_
      refine lv_aload_n hx hb dX1_sample_62 rfl (lv_at hl 0 rfl) ?_
      refine fx_g1 (v := .int (nI ns)) hx hb hts hown hK hP rfl 2 (by decide) q129 rfl rfl dX1_sample_63 ?_
      refine lv_aload_n hx hb dX1_sample_66 rfl (lv_at hl 0 rfl) ?_
      refine fx_g1 (v := .int (nI d)) hx hb hts hown hK hP rfl 0 (by decide) q127 rfl rfl dX1_sample_67 ?_
      refine fx_ast (k := ns) (ws' := ft_MW cA am d ns sk cp (ft_up ln ns d) wt) hx hb hK hP hD hS 3 rfl rfl (by omega) (by decide) (ft_nI_up _ _ _) rfl dX1_sample_70 (fun H locs hP hD hS => ?_)
      refine lv_aload_n hx hb dX1_sample_71 rfl (lv_at hl 0 rfl) ?_
      refine fx_g1 (v := .ref (am 4)) hx hb hts hown hK hP rfl 5 (by decide) q132 rfl rfl dX1_sample_72 ?_
      refine lv_aload_n hx hb dX1_sample_75 rfl (lv_at hl 0 rfl) ?_
      refine fx_g1 (v := .int (nI ns)) hx hb hts hown hK hP rfl 2 (by decide) q129 rfl rfl dX1_sample_76 ?_
      refine lv_iload_n hx hb dX1_sample_79 rfl (lv_at hl 1 rfl) ?_
      refine fx_ast (k := ns) (ws' := ft_MW cA am d ns sk cp (ft_up ln ns d) (ft_up wt ns w)) hx hb hK hP hD hS 4 rfl rfl (by omega) (by decide) (ft_nI_up _ _ _) rfl dX1_sample_80 (fun H locs hP hD hS => ?_)
      refine lv_aload_n hx hb dX1_sample_81 rfl (lv_at hl 0 rfl) ?_
      refine lv_dup hx hb dX1_sample_82 rfl ?_
      refine fx_g1 (v := .int (nI ns)) hx hb hts hown hK hP rfl 2 (by decide) q129 rfl rfl dX1_sample_83 ?_
      refine lv_iconst (v := nI 1) hx hb dX1_sample_86 (by decide) ?_
      refine fx_add (v := nI (ns + 1)) hx hb dX1_sample_87 (nI_add _ _) ?_
      refine fx_p1 (ws' := ft_MW cA am d (ns + 1) sk cp (ft_up ln ns d) (ft_up wt ns w)) hx hb hts hown hK hP hD hS rfl 2 (by decide) q129 rfl rfl (by decide +kernel) (Nat.le_of_ble_eq_true rfl) rfl dX1_sample_88 (fun H locs hP hD hS => ?_)
      refine lv_aload_n hx hb dX1_sample_91 rfl (lv_at hl 0 rfl) ?_
      refine fx_g1 (v := .int (nI (ns + 1))) hx hb hts hown hK hP rfl 2 (by decide) q129 rfl rfl dX1_sample_92 ?_
      refine fx_rm C0 () dX1_sample_95 rfl (fun t ht => ⟨cp, fun s' j hs' hj => ?_, by rw [ht]; exact hP, hD⟩) hS
      by_cases e0 : s' = ns
      · subst e0
        rw [ft_up_s ln] at hj
        rw [ft_up_s pa]
        exact hnew j (by omega)
      · rw [ft_up_n ln _ e0] at hj
        rw [ft_up_n pa _ e0]
        exact hcp s' j (by omega) hj
    · refine lv_aload_n hx hb dX1_sample_32 rfl (lv_at hl 0 rfl) ?_
      refine fx_g1 (v := .ref (am 2)) hx hb hts hown hK hP rfl 3 (by decide) q130 rfl rfl dX1_sample_33 ?_
      refine lv_bipush (v := nI 8) hx hb dX1_sample_36 (by decide) ?_
      refine lv_aload_n hx hb dX1_sample_38 rfl (lv_at hl 0 rfl) ?_
      refine fx_g1 (v := .int (nI ns)) hx hb hts hown hK hP rfl 2 (by decide) q129 rfl rfl dX1_sample_39 ?_
      refine fx_mul (v := nI (8 * ns)) hx hb dX1_sample_42 (pk_mul _ _) ?_
      refine lv_iload_n hx hb dX1_sample_43 rfl (lv_at hl 2 rfl) ?_
      refine fx_add (v := nI (8 * ns + i)) hx hb dX1_sample_44 (nI_add _ _) ?_
      refine lv_aload_n hx hb dX1_sample_45 rfl (lv_at hl 0 rfl) ?_
      refine fx_g1 (v := .ref (am 1)) hx hb hts hown hK hP rfl 1 (by decide) q128 rfl rfl dX1_sample_46 ?_
      refine lv_iload_n hx hb dX1_sample_49 rfl (lv_at hl 2 rfl) ?_
      refine fx_ald (k := i) (v := nI (sk i)) hx hb hK hP 1 rfl rfl (by omega) (by decide) rfl dX1_sample_50 ?_
      refine fx_ast (k := 8 * ns + i) (ws' := ft_MW cA am d ns sk (ft_up cp (8 * ns + i) (sk i)) ln wt) hx hb hK hP hD hS 2 rfl rfl (by omega) (by decide) (ft_nI_up _ _ _) rfl dX1_sample_51 (fun H locs hP hD hS => ?_)
      refine fx_inc (v := nI (i + 1)) (lv' := [(2, .int (nI (i + 1))), (0, .ref (am 0)), (1, .int (nI w))]) (k0 := 2) hx hb dX1_sample_52 hl rfl (nI_1 _) (by decide) rfl (fun ls hl => ?_)
      refine lv_goto (tgt := 24) hx hb dX1_sample_55 (by decide) ?_
      refine ih (i + 1) (ft_up cp (8 * ns + i) (sk i)) (by omega) (by omega) (fun s' j hs' hj => ?_) (lt_s (fun j hj => ?_) (ft_up_s cp _ _)) H locs hP hD hS ls (lv_sub hl [1, 2, 0] rfl)
      · have := hln s'
        rw [ft_up_n cp _ (by omega)]
        exact hcp s' j hs' hj
      · rw [ft_up_n cp _ (by omega)]
        exact hnew j hj
set_option maxHeartbeats 4000000 in
set_option maxRecDepth 100000 in
theorem m1_sample (l : Launch) (hSK : ft_SK d sk) (hSI : ft_SI ns pa ln wt) {w : Nat} (hw1 : 1 ≤ w) (hw2 : w ≤ 100) (hns2 : ns < 40) : Met l yX1_sample (ws_ yX1_sample cX1_sample 3 (some .int)) fx_r0 (va_Pc [.ref (am 0), .int (nI w)] (ft_pre (ft_MT D cA am d sk ns pa ln wt) D cA)) (va_Qi (fun r (_ : Unit) => r = nI (ns + 1)) (fun _ t => ft_MT D cA am d sk (ns + 1) (ft_up pa ns sk) (ft_up ln ns d) (ft_up wt ns w) t.heap) (ft_A am 5)) 0 0 (ft_A am 5) := by
  refine fx_met (by decide) (Nat.le_of_ble_eq_true rfl) ?_
  intro p e s m below meth c ls C0 _ hB hl
  obtain ⟨⟨cp, hcp0, hP, hD⟩, hK⟩ := hB
  have hI : ft_MI d ns sk cp ln wt pa := ⟨hSK, hSI, hcp0⟩
  have hS : va_S (ft_A am 5) s.heap s.heap [] := va_S.rf
  have C0 : fx_C cX1_sample 3 RX1 (some .int) p s m _ meth c := C0
  obtain ⟨hx, hb, hml, hown, hts, hr, hlocks⟩ := id C0
  have hl : lv_has ls 3 [(0, .ref (am 0)), (1, .int (nI w))] := hl
  have hd8 := hI.1.1
  have hsk := hI.1.2
  have hns := hI.2.1.1
  have hln := hI.2.1.2.1
  have hwt := hI.2.1.2.2.1
  have hpa := hI.2.1.2.2.2.2
  have hcp := hI.2.2
  refine lv_iload_n hx hb dX1_sample_0 rfl (lv_at hl 1 rfl) ?_
  refine lv_iconst (v := nI 1) hx hb dX1_sample_1 (by decide) ?_
  refine fx_lt (tgt := 20) hx hb dX1_sample_2 (by decide) (nI_ltI (a := w) (b := 1) (by omega) (by omega)) (fun c_2 => ?_) (fun c_2 => ?_)
  · exact absurd c_2 (by omega)
  · refine lv_iload_n hx hb dX1_sample_5 rfl (lv_at hl 1 rfl) ?_
    refine lv_bipush (v := nI 100) hx hb dX1_sample_6 (by decide) ?_
    refine fx_gt (tgt := 20) hx hb dX1_sample_8 (by decide) (nI_ltI (a := 100) (b := w) (by omega) (by omega)) (fun c_8 => ?_) (fun c_8 => ?_)
    · exact absurd c_8 (by omega)
    · refine lv_aload_n hx hb dX1_sample_11 rfl (lv_at hl 0 rfl) ?_
      refine fx_g1 (v := .int (nI ns)) hx hb hts hown hK hP rfl 2 (by decide) q129 rfl rfl dX1_sample_12 ?_
      refine lv_bipush (v := nI 40) hx hb dX1_sample_15 (by decide) ?_
      refine fx_ne (tgt := 22) hx hb dX1_sample_17 (by decide) (nI_eq (a := ns) (b := 40) (by omega) (by omega)) (fun c_17 => ?_) (fun c_17 => ?_)
      · refine lv_iconst (v := nI 0) hx hb dX1_sample_22 (by decide) ?_
        refine lv_istore_n (lv' := [(2, .int (nI 0)), (0, .ref (am 0)), (1, .int (nI w))]) hx hb dX1_sample_23 rfl hl (by decide) rfl (fun ls hl => ?_)
        exact m1_sample_l C0 hSK hSI hK hns2 (d + 1) 0 cp (by omega) (by omega) hcp lt_0 _ _ hP hD hS ls (lv_sub hl [1, 2, 0] rfl)
      · exact absurd c_17 (by omega)
theorem ft_n100 {w : Int32} (h : ¬ (100 : Int32) < w) : w ≤ 100 := by
  rw [Int32.lt_iff_toInt_lt] at h
  rw [Int32.le_iff_toInt_le]
  omega
set_option maxHeartbeats 4000000 in
set_option maxRecDepth 100000 in
theorem m1_sample0 (l : Launch) (hSK : ft_SK d sk) (hSI : ft_SI ns pa ln wt) {w : Int32} (hw : ¬ (1 ≤ w ∧ w ≤ 100 ∧ ns < 40)) : Met l yX1_sample (ws_ yX1_sample cX1_sample 3 (some .int)) fx_r0 (va_Pc [.ref (am 0), .int w] (ft_pre (ft_MT D cA am d sk ns pa ln wt) D cA)) (vp_Si (fun r => r = -1)) 0 0 (fun _ => False) := by
  refine fx_met (by decide) (Nat.le_of_ble_eq_true rfl) ?_
  intro p e s m below meth c ls C0 _ hB hl
  obtain ⟨⟨cp, hcp0, hP, hDD⟩, hK⟩ := hB
  have hI : ft_MI d ns sk cp ln wt pa := ⟨hSK, hSI, hcp0⟩
  have C0 : fx_C cX1_sample 3 RX1 (some .int) p s m _ meth c := C0
  obtain ⟨hx, hb, hml, hown, hts, hr, hlocks⟩ := id C0
  have hl : lv_has ls 3 [(0, .ref (am 0)), (1, .int w)] := hl
  have hd8 := hI.1.1
  have hsk := hI.1.2
  have hns := hI.2.1.1
  have hln := hI.2.1.2.1
  have hwt := hI.2.1.2.2.1
  have hpa := hI.2.1.2.2.2.2
  have hcp := hI.2.2
  refine lv_iload_n hx hb dX1_sample_0 rfl (lv_at hl 1 rfl) ?_
  refine lv_iconst (v := 1) hx hb dX1_sample_1 (by decide) ?_
  refine fx_lt (tgt := 20) hx hb dX1_sample_2 (by decide) Iff.rfl (fun c_2 => ?_) (fun c_2 => ?_)
  · refine lv_iconst (v := -1) hx hb dX1_sample_20 (by decide) ?_
    exact fx_ri C0 dX1_sample_21 rfl
  · refine lv_iload_n hx hb dX1_sample_5 rfl (lv_at hl 1 rfl) ?_
    refine lv_bipush (v := 100) hx hb dX1_sample_6 (by decide) ?_
    refine fx_gt (tgt := 20) hx hb dX1_sample_8 (by decide) Iff.rfl (fun c_8 => ?_) (fun c_8 => ?_)
    · refine lv_iconst (v := -1) hx hb dX1_sample_20 (by decide) ?_
      exact fx_ri C0 dX1_sample_21 rfl
    · refine lv_aload_n hx hb dX1_sample_11 rfl (lv_at hl 0 rfl) ?_
      refine fx_g1 (v := .int (nI ns)) hx hb hts hown hK hP rfl 2 (by decide) q129 rfl rfl dX1_sample_12 ?_
      refine lv_bipush (v := nI 40) hx hb dX1_sample_15 (by decide) ?_
      refine fx_ne (tgt := 22) hx hb dX1_sample_17 (by decide) (nI_eq (a := ns) (b := 40) (by omega) (by omega)) (fun c_17 => ?_) (fun c_17 => ?_)
      · exact absurd ⟨ft_ge1.mpr c_2, ft_n100 c_8, by omega⟩ hw
      · refine lv_iconst (v := -1) hx hb dX1_sample_20 (by decide) ?_
        exact fx_ri C0 dX1_sample_21 rfl
end
/-! making objects -/
theorem ft_D1 {A : Nat → Prop} {h0 : Nat} {x : va_E} (h : A h0) : va_D A [(h0, x)] := by
  constructor
  · intro i j p q hi hj _
    have a := (List.getElem?_eq_some_iff.mp hi).1
    have b := (List.getElem?_eq_some_iff.mp hj).1
    simp at a b
    omega
  · intro k q hk
    have a := (List.getElem?_eq_some_iff.mp hk).1
    simp at a
    subst a
    cases hk
    exact h
def ft_B (h0 sz : Nat) : Nat → Prop := fun q => q = h0 ∨ sz ≤ q
theorem ft_arr {args : Array Value} {s : State} (h : (Cond.arrayClass .int).before args s = true) : ∃ cA : ClassId, ArrOfT s cA .int ∧ va_RA s cA .int := by
  obtain ⟨cA, kA, comp, h1, h2, h3⟩ := Cond.arrayClass_spec h
  exact ⟨cA, fun n z => ⟨fun k h => (by cases h), kA, h2, comp, h3⟩, h1⟩
section
variable {p : Program} {l : Launch} {e : Env} {R : Room} {s : State} {m : MethodId} {args : Array Value} {below : List Frame} {meth : Method} {c : Code} {H : Heap} {locs : List Loc} {cells slots : Nat} {Q : State → Prop}
variable {cc : ByteArray} {pc : Nat} {ls : Array Slot} {rest : List Value}
variable {D : va_G} {tys : List (ClassId × FieldType)} {ws : va_W} {A : Nat → Prop} {H0 : Heap} {a : Nat} {cA : ClassId}
theorem fx_newa (hx : p.tables.exec = Jvm.exec) (hb : c.code = cc) (hts : ∀ w ∈ lw_all, w.before args s = true) (hK : va_K D vwCl [(cA, .int)] s) (hP : va_P D vwCl ws H) (hD : va_D A ws) (hS : va_S A H0 H locs) (hA : ∀ q, H0.size ≤ q → A q)
    {n : Int32} {N' : Nat} (hn : ¬ n < 0) (hN : n.toNatClampNeg = N') (hbytes : N' * componentBytes .int ≤ 536870912) (hcells : cells + 1 ≤ R.cells) (hslots : slots + N' ≤ R.slots) {ws' : Nat → va_W} (hw : ∀ q, ws ++ [(q, .inl (cA, N', .inl (fun _ => nI 0)))] = ws' q) (hdg : decode cc pc = .ok (.newarray .int, 2))
    (kk : ∀ (q : Nat) (H1 : Heap), va_P D vwCl (ws' q) H1 → va_D A (ws' q) → va_S A H0 H1 locs → W p l e R s m args below meth c H1 locs (cells + 1) (slots + N') Q (F0 m (pc + 2) ls (.ref q :: rest))) : W p l e R s m args below meth c H locs cells slots Q (F0 m pc ls (.int n :: rest)) := by
  refine va_newa (atype := .int) (a0 := (N', .inl (fun _ => nI 0))) hx hb (hts _ q53) rfl hK hP hD hS hA (fun _ => rfl) hn hN hbytes hcells hslots hdg (fun q cA' H1 hK1 hP1 hD1 hS1 => ?_)
  have e1 : s.vm.findClass ("[" ++ FieldType.int.toString) = some cA' := (hK1.2 1 _ rfl).2
  have e2 : s.vm.findClass ("[" ++ FieldType.int.toString) = some cA := (hK.2 0 _ rfl).2
  have e3 : cA' = cA := Option.some.inj (e1.symm.trans e2)
  subst e3
  rw [hw q] at hP1 hD1
  exact kk q H1 hP1 hD1 hS1
theorem fx_q0 (hx : p.tables.exec = Jvm.exec) (hb : c.code = cc) (hts : ∀ w ∈ lw_all, w.before args s = true) (hown : s.vm.findClass RX0 = some m.cls) (hin2 : meth.name = "<init>") (hK : va_K D vwCl tys s) (hP : va_P D vwCl ws H) (hD : va_D A ws) (hS : va_S A H0 H locs) {fs : List Value} (he : ws[0]? = some (a, .inr (0, fs))) (k : Nat) (hk : k < 10) {index : Nat} (hl : Cond.fieldLink RX0 index RX0 (TX0 k).2.1 (TX0 k).2.2.1 ∈ lw_all) (hsame : (TX0 k).1 = RX0) (hfin : (TX0 k).2.2.2 = true) (hd : parseFieldDescriptor (TX0 k).2.2.1 = some (.array .int)) {x : Nat} (hlen : k < fs.length) {ws' : va_W} (hw : ws.set 0 (a, .inr (0, fs.set k (.ref x))) = ws') (hdg : decode cc pc = .ok (.putfield index, 3))
    (kk : ∀ (H1 : Heap) (locs1 : List Loc), va_P D vwCl ws' H1 → va_D A ws' → va_S A H0 H1 locs1 → W p l e R s m args below meth c H1 locs1 cells slots Q (F0 m (pc + 3) ls rest)) : W p l e R s m args below meth c H locs cells slots Q (F0 m pc ls (.ref x :: .ref a :: rest)) := by
  subst hw
  exact va_putF hx hb hts in_X0 tyX0 tyX0_ok nmX0 hown hK hP hD hS 0 he rfl k hk (hts _ hl) (fun x h => by rw [hsame] at h; exact h) hfin hin2 hsame hd rfl rfl hlen hdg kk
theorem fx_q1 (hx : p.tables.exec = Jvm.exec) (hb : c.code = cc) (hts : ∀ w ∈ lw_all, w.before args s = true) (hown : s.vm.findClass RX1 = some m.cls) (hin2 : meth.name = "<init>") (hK : va_K D vwCl tys s) (hP : va_P D vwCl ws H) (hD : va_D A ws) (hS : va_S A H0 H locs) {fs : List Value} (he : ws[0]? = some (a, .inr (1, fs))) (k : Nat) (hk : k < 6) {index : Nat} (hl : Cond.fieldLink RX1 index RX1 (TX1 k).2.1 (TX1 k).2.2.1 ∈ lw_all) (hsame : (TX1 k).1 = RX1) (hfin : (TX1 k).2.2.2 = true) (hd : parseFieldDescriptor (TX1 k).2.2.1 = some (.array .int)) {x : Nat} (hlen : k < fs.length) {ws' : va_W} (hw : ws.set 0 (a, .inr (1, fs.set k (.ref x))) = ws') (hdg : decode cc pc = .ok (.putfield index, 3))
    (kk : ∀ (H1 : Heap) (locs1 : List Loc), va_P D vwCl ws' H1 → va_D A ws' → va_S A H0 H1 locs1 → W p l e R s m args below meth c H1 locs1 cells slots Q (F0 m (pc + 3) ls rest)) : W p l e R s m args below meth c H locs cells slots Q (F0 m pc ls (.ref x :: .ref a :: rest)) := by
  subst hw
  exact va_putF hx hb hts in_X1 tyX1 tyX1_ok nmX1 hown hK hP hD hS 0 he rfl k hk (hts _ hl) (fun x h => by rw [hsame] at h; exact h) hfin hin2 hsame hd rfl rfl hlen hdg kk
end
theorem ft_fi_0 : upd (fun _ => nI 0) 0 (-1) = ft_fi (fun _ => 0) := rfl
set_option maxHeartbeats 4000000 in
set_option maxRecDepth 100000 in
theorem m1_init (l : Launch) (D : va_G) (cA : ClassId) (h0 sz : Nat) (h0sz : h0 < sz) : Met l yX1_init (ws_ yX1_init cX1_init 1 none) ({ frames := 1, cells := 4, slots := 408, locals := 12 }) (va_Pc [.ref h0] (fun U => U.heap.size = sz ∧ va_P D vwCl [(h0, .inr (1, [.int 0, .null, .int 0, .null, .null, .null]))] U.heap ∧ va_K D vwCl [(cA, .int)] U)) (va_Qv (fun (ad : Nat → Nat) => ad 0 = h0 ∧ ∀ k, 1 ≤ k → k < 5 → sz ≤ ad k) (fun ad t => ft_MT D cA ad 0 (fun _ => 0) 0 (fun _ _ => 0) (fun _ => 0) (fun _ => 0) t.heap) (ft_B h0 sz)) 4 408 (ft_B h0 sz) := by
  refine fx_met (by decide) (Nat.le_of_ble_eq_true rfl) ?_
  intro p e s m below meth c ls C0 hin hB hl
  obtain ⟨hsz, hP, hK⟩ := hB
  have C0 : fx_C cX1_init 1 RX1 none p s m _ meth c := C0
  obtain ⟨hx, hb, hml, hown, hts, hr, hlocks⟩ := id C0
  have hin : meth.name = "<init>" := hin
  subst hsz
  have hD : va_D (ft_B h0 s.heap.size) [(h0, .inr (1, [.int 0, .null, .int 0, .null, .null, .null]))] := ft_D1 (Or.inl rfl)
  have hA : ∀ q : Nat, s.heap.size ≤ q → ft_B h0 s.heap.size q := fun q h => Or.inr h
  have hS : va_S (ft_B h0 s.heap.size) s.heap s.heap [] := va_S.rf
  have hl : lv_has ls 1 [(0, .ref h0)] := hl
  refine lv_aload_n hx hb dX1_init_0 rfl (lv_at hl 0 rfl) ?_
  refine W.objInit hx hb hown (hts _ q126) (hts _ q20) (hts _ q21) rfl (by rw [hml]; exact hl.1) rfl dX1_init_1 (Nat.le_of_ble_eq_true rfl) (Nat.le_of_ble_eq_true rfl) ?_
  refine W.eq (g2 := F0 m 4 ls []) rfl ?_
  refine lv_aload_n hx hb dX1_init_4 rfl (lv_at hl 0 rfl) ?_
  refine lv_bipush (v := nI 8) hx hb dX1_init_5 (by decide) ?_
  refine fx_newa (N' := 8) (ws' := fun q => [(h0, .inr (1, [.int 0, .null, .int 0, .null, .null, .null])), (q, .inl (cA, 8, .inl (fun _ => nI 0)))]) hx hb hts hK hP hD hS hA (by decide) (by decide) (by decide) (Nat.le_of_ble_eq_true rfl) (Nat.le_of_ble_eq_true rfl) (fun _ => rfl) dX1_init_7 (fun q1 H hP hD hS => ?_)
  refine W.widen (k := 1) (n := 8) (Nat.le_of_ble_eq_true rfl) (Nat.le_of_ble_eq_true rfl) ?_
  refine fx_q1 (ws' := [(h0, .inr (1, [.int 0, .ref q1, .int 0, .null, .null, .null])), (q1, .inl (cA, 8, .inl (fun _ => nI 0)))]) hx hb hts hown hin hK hP hD hS rfl 1 (by decide) q128 rfl rfl (by decide +kernel) (Nat.le_of_ble_eq_true rfl) rfl dX1_init_9 (fun H locs hP hD hS => ?_)
  refine lv_aload_n hx hb dX1_init_12 rfl (lv_at hl 0 rfl) ?_
  refine lv_sipush (v := nI 320) hx hb dX1_init_13 (by decide) ?_
  refine fx_newa (N' := 320) (ws' := fun q => [(h0, .inr (1, [.int 0, .ref q1, .int 0, .null, .null, .null])), (q1, .inl (cA, 8, .inl (fun _ => nI 0))), (q, .inl (cA, 320, .inl (fun _ => nI 0)))]) hx hb hts hK hP hD hS hA (by decide) (by decide) (by decide) (Nat.le_of_ble_eq_true rfl) (Nat.le_of_ble_eq_true rfl) (fun _ => rfl) dX1_init_16 (fun q2 H hP hD hS => ?_)
  refine W.widen (k := 2) (n := 328) (Nat.le_of_ble_eq_true rfl) (Nat.le_of_ble_eq_true rfl) ?_
  refine fx_q1 (ws' := [(h0, .inr (1, [.int 0, .ref q1, .int 0, .ref q2, .null, .null])), (q1, .inl (cA, 8, .inl (fun _ => nI 0))), (q2, .inl (cA, 320, .inl (fun _ => nI 0)))]) hx hb hts hown hin hK hP hD hS rfl 3 (by decide) q130 rfl rfl (by decide +kernel) (Nat.le_of_ble_eq_true rfl) rfl dX1_init_18 (fun H locs hP hD hS => ?_)
  refine lv_aload_n hx hb dX1_init_21 rfl (lv_at hl 0 rfl) ?_
  refine lv_bipush (v := nI 40) hx hb dX1_init_22 (by decide) ?_
  refine fx_newa (N' := 40) (ws' := fun q => [(h0, .inr (1, [.int 0, .ref q1, .int 0, .ref q2, .null, .null])), (q1, .inl (cA, 8, .inl (fun _ => nI 0))), (q2, .inl (cA, 320, .inl (fun _ => nI 0))), (q, .inl (cA, 40, .inl (fun _ => nI 0)))]) hx hb hts hK hP hD hS hA (by decide) (by decide) (by decide) (Nat.le_of_ble_eq_true rfl) (Nat.le_of_ble_eq_true rfl) (fun _ => rfl) dX1_init_24 (fun q3 H hP hD hS => ?_)
  refine W.widen (k := 3) (n := 368) (Nat.le_of_ble_eq_true rfl) (Nat.le_of_ble_eq_true rfl) ?_
  refine fx_q1 (ws' := [(h0, .inr (1, [.int 0, .ref q1, .int 0, .ref q2, .ref q3, .null])), (q1, .inl (cA, 8, .inl (fun _ => nI 0))), (q2, .inl (cA, 320, .inl (fun _ => nI 0))), (q3, .inl (cA, 40, .inl (fun _ => nI 0)))]) hx hb hts hown hin hK hP hD hS rfl 4 (by decide) q131 rfl rfl (by decide +kernel) (Nat.le_of_ble_eq_true rfl) rfl dX1_init_26 (fun H locs hP hD hS => ?_)
  refine lv_aload_n hx hb dX1_init_29 rfl (lv_at hl 0 rfl) ?_
  refine lv_bipush (v := nI 40) hx hb dX1_init_30 (by decide) ?_
  refine fx_newa (N' := 40) (ws' := fun q => [(h0, .inr (1, [.int 0, .ref q1, .int 0, .ref q2, .ref q3, .null])), (q1, .inl (cA, 8, .inl (fun _ => nI 0))), (q2, .inl (cA, 320, .inl (fun _ => nI 0))), (q3, .inl (cA, 40, .inl (fun _ => nI 0))), (q, .inl (cA, 40, .inl (fun _ => nI 0)))]) hx hb hts hK hP hD hS hA (by decide) (by decide) (by decide) (Nat.le_of_ble_eq_true rfl) (Nat.le_of_ble_eq_true rfl) (fun _ => rfl) dX1_init_32 (fun q4 H hP hD hS => ?_)
  refine W.widen (k := 4) (n := 408) (Nat.le_of_ble_eq_true rfl) (Nat.le_of_ble_eq_true rfl) ?_
  refine fx_q1 (ws' := [(h0, .inr (1, [.int 0, .ref q1, .int 0, .ref q2, .ref q3, .ref q4])), (q1, .inl (cA, 8, .inl (fun _ => nI 0))), (q2, .inl (cA, 320, .inl (fun _ => nI 0))), (q3, .inl (cA, 40, .inl (fun _ => nI 0))), (q4, .inl (cA, 40, .inl (fun _ => nI 0)))]) hx hb hts hown hin hK hP hD hS rfl 5 (by decide) q132 rfl rfl (by decide +kernel) (Nat.le_of_ble_eq_true rfl) rfl dX1_init_34 (fun H locs hP hD hS => ?_)
  have hD9 : va_D (ft_A (fun k => [h0, q1, q2, q3, q4].getD k 0) 5) [(h0, .inr (1, [.int 0, .ref q1, .int 0, .ref q2, .ref q3, .ref q4])), (q1, .inl (cA, 8, .inl (fun _ => nI 0))), (q2, .inl (cA, 320, .inl (fun _ => nI 0))), (q3, .inl (cA, 40, .inl (fun _ => nI 0))), (q4, .inl (cA, 40, .inl (fun _ => nI 0)))] := hD.weaken (fun k q hk _ => by
    match k, hk with
    | 0, hk => cases hk; exact ⟨0, by omega, rfl⟩
    | 1, hk => cases hk; exact ⟨1, by omega, rfl⟩
    | 2, hk => cases hk; exact ⟨2, by omega, rfl⟩
    | 3, hk => cases hk; exact ⟨3, by omega, rfl⟩
    | 4, hk => cases hk; exact ⟨4, by omega, rfl⟩
    | k + 5, hk => simp at hk)
  have f1 : s.heap.size ≤ q1 := by
    rcases hD.2 1 _ rfl with z | z
    · exact absurd (hD.1 1 0 _ _ rfl rfl z) (by decide)
    · exact z
  have f2 : s.heap.size ≤ q2 := by
    rcases hD.2 2 _ rfl with z | z
    · exact absurd (hD.1 2 0 _ _ rfl rfl z) (by decide)
    · exact z
  have f3 : s.heap.size ≤ q3 := by
    rcases hD.2 3 _ rfl with z | z
    · exact absurd (hD.1 3 0 _ _ rfl rfl z) (by decide)
    · exact z
  have f4 : s.heap.size ≤ q4 := by
    rcases hD.2 4 _ rfl with z | z
    · exact absurd (hD.1 4 0 _ _ rfl rfl z) (by decide)
    · exact z
  refine W.vret hx hb hr (fun t ht hW => ⟨⟨(fun k => [h0, q1, q2, q3, q4].getD k 0), rfl, ⟨rfl, fun k k1 k2 => ?_⟩, ⟨(fun _ => 0), fun s' j hs' _ => absurd hs' (Nat.not_lt_zero _), by rw [ht]; exact hP, hD9⟩⟩, hS.F ht⟩) hS.2.2 dX1_init_37
  match k, k1, k2 with
  | 1, _, _ => exact f1
  | 2, _, _ => exact f2
  | 3, _, _ => exact f3
  | 4, _, _ => exact f4
  | 0, k1, _ => omega
  | k + 5, _, k2 => omega
end
section
set_option maxHeartbeats 4000000 in
set_option maxRecDepth 100000 in
theorem m0_init (l : Launch) (D : va_G) (cA : ClassId) (h0 sz : Nat) (h0sz : h0 < sz) : Met l yX0_init (ws_ yX0_init cX0_init 1 none) ({ frames := 1, cells := 7, slots := 1934, locals := 12 }) (va_Pc [.ref h0] (fun U => U.heap.size = sz ∧ va_P D vwCl [(h0, .inr (0, [.int 0, .null, .int 0, .int 0, .null, .null, .null, .null, .null, .null]))] U.heap ∧ va_K D vwCl [(cA, .int)] U)) (va_Qv (fun (ad : Nat → Nat) => ad 0 = h0 ∧ ∀ k, 1 ≤ k → k < 8 → sz ≤ ad k) (fun ad t => ft_FT D cA ad 0 (fun _ => 0) 0 (fun _ _ => 0) (fun _ => 0) (fun _ => 0) t.heap) (ft_B h0 sz)) 7 1934 (ft_B h0 sz) := by
  refine fx_met (by decide) (Nat.le_of_ble_eq_true rfl) ?_
  intro p e s m below meth c ls C0 hin hB hl
  obtain ⟨hsz, hP, hK⟩ := hB
  have C0 : fx_C cX0_init 1 RX0 none p s m _ meth c := C0
  obtain ⟨hx, hb, hml, hown, hts, hr, hlocks⟩ := id C0
  have hin : meth.name = "<init>" := hin
  subst hsz
  have hD : va_D (ft_B h0 s.heap.size) [(h0, .inr (0, [.int 0, .null, .int 0, .int 0, .null, .null, .null, .null, .null, .null]))] := ft_D1 (Or.inl rfl)
  have hA : ∀ q : Nat, s.heap.size ≤ q → ft_B h0 s.heap.size q := fun q h => Or.inr h
  have hS : va_S (ft_B h0 s.heap.size) s.heap s.heap [] := va_S.rf
  have hl : lv_has ls 1 [(0, .ref h0)] := hl
  refine lv_aload_n hx hb dX0_init_0 rfl (lv_at hl 0 rfl) ?_
  refine W.objInit hx hb hown (hts _ q19) (hts _ q20) (hts _ q21) rfl (by rw [hml]; exact hl.1) rfl dX0_init_1 (Nat.le_of_ble_eq_true rfl) (Nat.le_of_ble_eq_true rfl) ?_
  refine W.eq (g2 := F0 m 4 ls []) rfl ?_
  refine lv_aload_n hx hb dX0_init_4 rfl (lv_at hl 0 rfl) ?_
  refine lv_bipush (v := nI 8) hx hb dX0_init_5 (by decide) ?_
  refine fx_newa (N' := 8) (ws' := fun q => [(h0, .inr (0, [.int 0, .null, .int 0, .int 0, .null, .null, .null, .null, .null, .null])), (q, .inl (cA, 8, .inl (fun _ => nI 0)))]) hx hb hts hK hP hD hS hA (by decide) (by decide) (by decide) (Nat.le_of_ble_eq_true rfl) (Nat.le_of_ble_eq_true rfl) (fun _ => rfl) dX0_init_7 (fun q1 H hP hD hS => ?_)
  refine W.widen (k := 1) (n := 8) (Nat.le_of_ble_eq_true rfl) (Nat.le_of_ble_eq_true rfl) ?_
  refine fx_q0 (ws' := [(h0, .inr (0, [.int 0, .ref q1, .int 0, .int 0, .null, .null, .null, .null, .null, .null])), (q1, .inl (cA, 8, .inl (fun _ => nI 0)))]) hx hb hts hown hin hK hP hD hS rfl 1 (by decide) q23 rfl rfl (by decide +kernel) (Nat.le_of_ble_eq_true rfl) rfl dX0_init_9 (fun H locs hP hD hS => ?_)
  refine lv_aload_n hx hb dX0_init_12 rfl (lv_at hl 0 rfl) ?_
  refine lv_sipush (v := nI 321) hx hb dX0_init_13 (by decide) ?_
  refine fx_newa (N' := 321) (ws' := fun q => [(h0, .inr (0, [.int 0, .ref q1, .int 0, .int 0, .null, .null, .null, .null, .null, .null])), (q1, .inl (cA, 8, .inl (fun _ => nI 0))), (q, .inl (cA, 321, .inl (fun _ => nI 0)))]) hx hb hts hK hP hD hS hA (by decide) (by decide) (by decide) (Nat.le_of_ble_eq_true rfl) (Nat.le_of_ble_eq_true rfl) (fun _ => rfl) dX0_init_16 (fun q2 H hP hD hS => ?_)
  refine W.widen (k := 2) (n := 329) (Nat.le_of_ble_eq_true rfl) (Nat.le_of_ble_eq_true rfl) ?_
  refine fx_q0 (ws' := [(h0, .inr (0, [.int 0, .ref q1, .int 0, .int 0, .ref q2, .null, .null, .null, .null, .null])), (q1, .inl (cA, 8, .inl (fun _ => nI 0))), (q2, .inl (cA, 321, .inl (fun _ => nI 0)))]) hx hb hts hown hin hK hP hD hS rfl 4 (by decide) q26 rfl rfl (by decide +kernel) (Nat.le_of_ble_eq_true rfl) rfl dX0_init_18 (fun H locs hP hD hS => ?_)
  refine lv_aload_n hx hb dX0_init_21 rfl (lv_at hl 0 rfl) ?_
  refine lv_sipush (v := nI 321) hx hb dX0_init_22 (by decide) ?_
  refine fx_newa (N' := 321) (ws' := fun q => [(h0, .inr (0, [.int 0, .ref q1, .int 0, .int 0, .ref q2, .null, .null, .null, .null, .null])), (q1, .inl (cA, 8, .inl (fun _ => nI 0))), (q2, .inl (cA, 321, .inl (fun _ => nI 0))), (q, .inl (cA, 321, .inl (fun _ => nI 0)))]) hx hb hts hK hP hD hS hA (by decide) (by decide) (by decide) (Nat.le_of_ble_eq_true rfl) (Nat.le_of_ble_eq_true rfl) (fun _ => rfl) dX0_init_25 (fun q3 H hP hD hS => ?_)
  refine W.widen (k := 3) (n := 650) (Nat.le_of_ble_eq_true rfl) (Nat.le_of_ble_eq_true rfl) ?_
  refine fx_q0 (ws' := [(h0, .inr (0, [.int 0, .ref q1, .int 0, .int 0, .ref q2, .ref q3, .null, .null, .null, .null])), (q1, .inl (cA, 8, .inl (fun _ => nI 0))), (q2, .inl (cA, 321, .inl (fun _ => nI 0))), (q3, .inl (cA, 321, .inl (fun _ => nI 0)))]) hx hb hts hown hin hK hP hD hS rfl 5 (by decide) q27 rfl rfl (by decide +kernel) (Nat.le_of_ble_eq_true rfl) rfl dX0_init_27 (fun H locs hP hD hS => ?_)
  refine lv_aload_n hx hb dX0_init_30 rfl (lv_at hl 0 rfl) ?_
  refine lv_sipush (v := nI 321) hx hb dX0_init_31 (by decide) ?_
  refine fx_newa (N' := 321) (ws' := fun q => [(h0, .inr (0, [.int 0, .ref q1, .int 0, .int 0, .ref q2, .ref q3, .null, .null, .null, .null])), (q1, .inl (cA, 8, .inl (fun _ => nI 0))), (q2, .inl (cA, 321, .inl (fun _ => nI 0))), (q3, .inl (cA, 321, .inl (fun _ => nI 0))), (q, .inl (cA, 321, .inl (fun _ => nI 0)))]) hx hb hts hK hP hD hS hA (by decide) (by decide) (by decide) (Nat.le_of_ble_eq_true rfl) (Nat.le_of_ble_eq_true rfl) (fun _ => rfl) dX0_init_34 (fun q4 H hP hD hS => ?_)
  refine W.widen (k := 4) (n := 971) (Nat.le_of_ble_eq_true rfl) (Nat.le_of_ble_eq_true rfl) ?_
  refine fx_q0 (ws' := [(h0, .inr (0, [.int 0, .ref q1, .int 0, .int 0, .ref q2, .ref q3, .ref q4, .null, .null, .null])), (q1, .inl (cA, 8, .inl (fun _ => nI 0))), (q2, .inl (cA, 321, .inl (fun _ => nI 0))), (q3, .inl (cA, 321, .inl (fun _ => nI 0))), (q4, .inl (cA, 321, .inl (fun _ => nI 0)))]) hx hb hts hown hin hK hP hD hS rfl 6 (by decide) q28 rfl rfl (by decide +kernel) (Nat.le_of_ble_eq_true rfl) rfl dX0_init_36 (fun H locs hP hD hS => ?_)
  refine lv_aload_n hx hb dX0_init_39 rfl (lv_at hl 0 rfl) ?_
  refine lv_sipush (v := nI 321) hx hb dX0_init_40 (by decide) ?_
  refine fx_newa (N' := 321) (ws' := fun q => [(h0, .inr (0, [.int 0, .ref q1, .int 0, .int 0, .ref q2, .ref q3, .ref q4, .null, .null, .null])), (q1, .inl (cA, 8, .inl (fun _ => nI 0))), (q2, .inl (cA, 321, .inl (fun _ => nI 0))), (q3, .inl (cA, 321, .inl (fun _ => nI 0))), (q4, .inl (cA, 321, .inl (fun _ => nI 0))), (q, .inl (cA, 321, .inl (fun _ => nI 0)))]) hx hb hts hK hP hD hS hA (by decide) (by decide) (by decide) (Nat.le_of_ble_eq_true rfl) (Nat.le_of_ble_eq_true rfl) (fun _ => rfl) dX0_init_43 (fun q5 H hP hD hS => ?_)
  refine W.widen (k := 5) (n := 1292) (Nat.le_of_ble_eq_true rfl) (Nat.le_of_ble_eq_true rfl) ?_
  refine fx_q0 (ws' := [(h0, .inr (0, [.int 0, .ref q1, .int 0, .int 0, .ref q2, .ref q3, .ref q4, .ref q5, .null, .null])), (q1, .inl (cA, 8, .inl (fun _ => nI 0))), (q2, .inl (cA, 321, .inl (fun _ => nI 0))), (q3, .inl (cA, 321, .inl (fun _ => nI 0))), (q4, .inl (cA, 321, .inl (fun _ => nI 0))), (q5, .inl (cA, 321, .inl (fun _ => nI 0)))]) hx hb hts hown hin hK hP hD hS rfl 7 (by decide) q29 rfl rfl (by decide +kernel) (Nat.le_of_ble_eq_true rfl) rfl dX0_init_45 (fun H locs hP hD hS => ?_)
  refine lv_aload_n hx hb dX0_init_48 rfl (lv_at hl 0 rfl) ?_
  refine lv_sipush (v := nI 321) hx hb dX0_init_49 (by decide) ?_
  refine fx_newa (N' := 321) (ws' := fun q => [(h0, .inr (0, [.int 0, .ref q1, .int 0, .int 0, .ref q2, .ref q3, .ref q4, .ref q5, .null, .null])), (q1, .inl (cA, 8, .inl (fun _ => nI 0))), (q2, .inl (cA, 321, .inl (fun _ => nI 0))), (q3, .inl (cA, 321, .inl (fun _ => nI 0))), (q4, .inl (cA, 321, .inl (fun _ => nI 0))), (q5, .inl (cA, 321, .inl (fun _ => nI 0))), (q, .inl (cA, 321, .inl (fun _ => nI 0)))]) hx hb hts hK hP hD hS hA (by decide) (by decide) (by decide) (Nat.le_of_ble_eq_true rfl) (Nat.le_of_ble_eq_true rfl) (fun _ => rfl) dX0_init_52 (fun q6 H hP hD hS => ?_)
  refine W.widen (k := 6) (n := 1613) (Nat.le_of_ble_eq_true rfl) (Nat.le_of_ble_eq_true rfl) ?_
  refine fx_q0 (ws' := [(h0, .inr (0, [.int 0, .ref q1, .int 0, .int 0, .ref q2, .ref q3, .ref q4, .ref q5, .ref q6, .null])), (q1, .inl (cA, 8, .inl (fun _ => nI 0))), (q2, .inl (cA, 321, .inl (fun _ => nI 0))), (q3, .inl (cA, 321, .inl (fun _ => nI 0))), (q4, .inl (cA, 321, .inl (fun _ => nI 0))), (q5, .inl (cA, 321, .inl (fun _ => nI 0))), (q6, .inl (cA, 321, .inl (fun _ => nI 0)))]) hx hb hts hown hin hK hP hD hS rfl 8 (by decide) q30 rfl rfl (by decide +kernel) (Nat.le_of_ble_eq_true rfl) rfl dX0_init_54 (fun H locs hP hD hS => ?_)
  refine lv_aload_n hx hb dX0_init_57 rfl (lv_at hl 0 rfl) ?_
  refine lv_sipush (v := nI 321) hx hb dX0_init_58 (by decide) ?_
  refine fx_newa (N' := 321) (ws' := fun q => [(h0, .inr (0, [.int 0, .ref q1, .int 0, .int 0, .ref q2, .ref q3, .ref q4, .ref q5, .ref q6, .null])), (q1, .inl (cA, 8, .inl (fun _ => nI 0))), (q2, .inl (cA, 321, .inl (fun _ => nI 0))), (q3, .inl (cA, 321, .inl (fun _ => nI 0))), (q4, .inl (cA, 321, .inl (fun _ => nI 0))), (q5, .inl (cA, 321, .inl (fun _ => nI 0))), (q6, .inl (cA, 321, .inl (fun _ => nI 0))), (q, .inl (cA, 321, .inl (fun _ => nI 0)))]) hx hb hts hK hP hD hS hA (by decide) (by decide) (by decide) (Nat.le_of_ble_eq_true rfl) (Nat.le_of_ble_eq_true rfl) (fun _ => rfl) dX0_init_61 (fun q7 H hP hD hS => ?_)
  refine W.widen (k := 7) (n := 1934) (Nat.le_of_ble_eq_true rfl) (Nat.le_of_ble_eq_true rfl) ?_
  refine fx_q0 (ws' := [(h0, .inr (0, [.int 0, .ref q1, .int 0, .int 0, .ref q2, .ref q3, .ref q4, .ref q5, .ref q6, .ref q7])), (q1, .inl (cA, 8, .inl (fun _ => nI 0))), (q2, .inl (cA, 321, .inl (fun _ => nI 0))), (q3, .inl (cA, 321, .inl (fun _ => nI 0))), (q4, .inl (cA, 321, .inl (fun _ => nI 0))), (q5, .inl (cA, 321, .inl (fun _ => nI 0))), (q6, .inl (cA, 321, .inl (fun _ => nI 0))), (q7, .inl (cA, 321, .inl (fun _ => nI 0)))]) hx hb hts hown hin hK hP hD hS rfl 9 (by decide) q31 rfl rfl (by decide +kernel) (Nat.le_of_ble_eq_true rfl) rfl dX0_init_63 (fun H locs hP hD hS => ?_)
  refine lv_aload_n hx hb dX0_init_66 rfl (lv_at hl 0 rfl) ?_
  refine lv_iconst (v := nI 1) hx hb dX0_init_67 (by decide) ?_
  refine fx_p0 (ws' := [(h0, .inr (0, [.int 0, .ref q1, .int 0, .int (nI 1), .ref q2, .ref q3, .ref q4, .ref q5, .ref q6, .ref q7])), (q1, .inl (cA, 8, .inl (fun _ => nI 0))), (q2, .inl (cA, 321, .inl (fun _ => nI 0))), (q3, .inl (cA, 321, .inl (fun _ => nI 0))), (q4, .inl (cA, 321, .inl (fun _ => nI 0))), (q5, .inl (cA, 321, .inl (fun _ => nI 0))), (q6, .inl (cA, 321, .inl (fun _ => nI 0))), (q7, .inl (cA, 321, .inl (fun _ => nI 0)))]) hx hb hts hown hK hP hD hS rfl 3 (by decide) q25 rfl rfl (by decide +kernel) (Nat.le_of_ble_eq_true rfl) rfl dX0_init_68 (fun H locs hP hD hS => ?_)
  refine lv_aload_n hx hb dX0_init_71 rfl (lv_at hl 0 rfl) ?_
  refine fx_g0 (v := .ref q2) hx hb hts hown hK hP rfl 4 (by decide) q26 rfl rfl dX0_init_72 ?_
  refine lv_iconst (v := nI 0) hx hb dX0_init_75 (by decide) ?_
  refine lv_iconst (v := -1) hx hb dX0_init_76 (by decide) ?_
  refine fx_ast (k := 0) (ws' := [(h0, .inr (0, [.int 0, .ref q1, .int 0, .int (nI 1), .ref q2, .ref q3, .ref q4, .ref q5, .ref q6, .ref q7])), (q1, .inl (cA, 8, .inl (fun _ => nI 0))), (q2, .inl (cA, 321, .inl (ft_fi (fun _ => 0)))), (q3, .inl (cA, 321, .inl (fun _ => nI 0))), (q4, .inl (cA, 321, .inl (fun _ => nI 0))), (q5, .inl (cA, 321, .inl (fun _ => nI 0))), (q6, .inl (cA, 321, .inl (fun _ => nI 0))), (q7, .inl (cA, 321, .inl (fun _ => nI 0)))]) hx hb hK hP hD hS 2 rfl rfl (by omega) (by decide) ft_fi_0 rfl dX0_init_77 (fun H locs hP hD hS => ?_)
  have hD9 : va_D (ft_A (fun k => [h0, q1, q2, q3, q4, q5, q6, q7].getD k 0) 8) [(h0, .inr (0, [.int 0, .ref q1, .int 0, .int (nI 1), .ref q2, .ref q3, .ref q4, .ref q5, .ref q6, .ref q7])), (q1, .inl (cA, 8, .inl (fun _ => nI 0))), (q2, .inl (cA, 321, .inl (ft_fi (fun _ => 0)))), (q3, .inl (cA, 321, .inl (fun _ => nI 0))), (q4, .inl (cA, 321, .inl (fun _ => nI 0))), (q5, .inl (cA, 321, .inl (fun _ => nI 0))), (q6, .inl (cA, 321, .inl (fun _ => nI 0))), (q7, .inl (cA, 321, .inl (fun _ => nI 0)))] := hD.weaken (fun k q hk _ => by
    match k, hk with
    | 0, hk => cases hk; exact ⟨0, by omega, rfl⟩
    | 1, hk => cases hk; exact ⟨1, by omega, rfl⟩
    | 2, hk => cases hk; exact ⟨2, by omega, rfl⟩
    | 3, hk => cases hk; exact ⟨3, by omega, rfl⟩
    | 4, hk => cases hk; exact ⟨4, by omega, rfl⟩
    | 5, hk => cases hk; exact ⟨5, by omega, rfl⟩
    | 6, hk => cases hk; exact ⟨6, by omega, rfl⟩
    | 7, hk => cases hk; exact ⟨7, by omega, rfl⟩
    | k + 8, hk => simp at hk)
  have f1 : s.heap.size ≤ q1 := by
    rcases hD.2 1 _ rfl with z | z
    · exact absurd (hD.1 1 0 _ _ rfl rfl z) (by decide)
    · exact z
  have f2 : s.heap.size ≤ q2 := by
    rcases hD.2 2 _ rfl with z | z
    · exact absurd (hD.1 2 0 _ _ rfl rfl z) (by decide)
    · exact z
  have f3 : s.heap.size ≤ q3 := by
    rcases hD.2 3 _ rfl with z | z
    · exact absurd (hD.1 3 0 _ _ rfl rfl z) (by decide)
    · exact z
  have f4 : s.heap.size ≤ q4 := by
    rcases hD.2 4 _ rfl with z | z
    · exact absurd (hD.1 4 0 _ _ rfl rfl z) (by decide)
    · exact z
  have f5 : s.heap.size ≤ q5 := by
    rcases hD.2 5 _ rfl with z | z
    · exact absurd (hD.1 5 0 _ _ rfl rfl z) (by decide)
    · exact z
  have f6 : s.heap.size ≤ q6 := by
    rcases hD.2 6 _ rfl with z | z
    · exact absurd (hD.1 6 0 _ _ rfl rfl z) (by decide)
    · exact z
  have f7 : s.heap.size ≤ q7 := by
    rcases hD.2 7 _ rfl with z | z
    · exact absurd (hD.1 7 0 _ _ rfl rfl z) (by decide)
    · exact z
  refine W.vret hx hb hr (fun t ht hW => ⟨⟨(fun k => [h0, q1, q2, q3, q4, q5, q6, q7].getD k 0), rfl, ⟨rfl, fun k k1 k2 => ?_⟩, ⟨1, (fun _ => 0), (fun _ => 0), (fun _ => 0), (fun _ => 0), (fun _ => 0), (fun _ => 0), (fun _ => []), ft_FI_0, by rw [ht]; exact hP, hD9⟩⟩, hS.F ht⟩) hS.2.2 dX0_init_78
  match k, k1, k2 with
  | 1, _, _ => exact f1
  | 2, _, _ => exact f2
  | 3, _, _ => exact f3
  | 4, _, _ => exact f4
  | 5, _, _ => exact f5
  | 6, _, _ => exact f6
  | 7, _, _ => exact f7
  | 0, k1, _ => omega
  | k + 8, _, k2 => omega
end
section
section
variable {p : Program} {l : Launch} {e : Env} {R : Room} {s : State} {m : MethodId} {args : Array Value} {below : List Frame} {meth : Method} {c : Code}
variable {D : va_G} {cA : ClassId} {ad : Nat → Nat} {d ns N : Nat} {sk fn ab ch si ow to ln wt : Nat → Nat} {pa : Nat → Nat → Nat} {ps : Nat → List Nat}
/-! THE TREE's methods that only read -/
theorem ft_start (hT : ft_T N fn ab ch si) (i : Nat) : (ch i = 0 ∨ (1 ≤ ch i ∧ ch i < N ∧ ab (ch i) = i)) ∧ ∀ k, ch i < k → k < N → ab k ≠ i := by
  rcases hT.2.2.1 i with ⟨h1, h2⟩ | ⟨h1, h2, h3, h4⟩
  · exact ⟨Or.inl h1, fun k a b => h2 k (by omega) b⟩
  · exact ⟨Or.inr ⟨h1, h2, h3⟩, h4⟩
theorem ft_next (hT : ft_T N fn ab ch si) {i c : Nat} (h1 : 1 ≤ c) (h2 : c < N) (h3 : ab c = i) {X : Nat → Prop} (hseen : ∀ k, c < k → k < N → ab k = i → X k) (hc : X c) : si c < c ∧ (si c = 0 ∨ (1 ≤ si c ∧ si c < N ∧ ab (si c) = i)) ∧ ∀ k, si c < k → k < N → ab k = i → X k := by
  have fin : (∀ k, si c < k → k < c → ab k ≠ i) → ∀ k, si c < k → k < N → ab k = i → X k := by
    intro h k a b e
    by_cases z : k < c
    · exact absurd e (h k a z)
    · by_cases y : k = c
      · rw [y]; exact hc
      · exact hseen k (by omega) b e
  rcases hT.2.2.2 c h1 h2 with ⟨a1, a2⟩ | ⟨a1, a2, a3, a4⟩
  · rw [h3] at a2
    exact ⟨by omega, Or.inl a1, fin (fun k x y => a2 k (by omega) y)⟩
  · rw [h3] at a3 a4
    exact ⟨a2, Or.inr ⟨a1, by omega, a3⟩, fin a4⟩
theorem ft_hdc (hR : ft_R N fn ab ps) (hT : ft_T N fn ab ch si) {cN : Option Nat} (hc : ∀ k, cN = some k → k ≤ 7) (hne : cN ≠ none) {j : Nat} (hj : j < N) : ft_fi fn j = ft_ci cN ↔ ft_be cN (ps j) = true := by
  cases cN with
  | none => exact absurd rfl hne
  | some k =>
    have hk := hc k rfl
    show ft_fi fn j = nI k ↔ decide ((ps j).head? = some k) = true
    rw [decide_eq_true_iff]
    by_cases z : j = 0
    · subst z
      rw [hR.1]
      show (-1 : Int32) = nI k ↔ none = some k
      refine ⟨fun q => ?_, fun q => by cases q⟩
      have h0 := nI_pos (n := k) (by omega)
      rw [← q] at h0
      exact absurd (by decide) h0
    · have h7 := (hT.2.1 j (by omega) hj).2
      rw [ft_fi_p (by omega), hR.2.1 j (by omega) hj, List.head?_cons, nI_eq (by omega) (by omega)]
      exact ⟨fun q => by rw [q], fun q => Option.some.inj q⟩
theorem ft_nochild (hT : ft_T N fn ab ch si) (hR : ft_R N fn ab ps) {q : List Nat} (h : ∀ j, j < N → ps j ≠ q) (f : Nat) : ∀ j, j < N → ps j ≠ f :: q := by
  intro j hj z
  by_cases y : j = 0
  · rw [y, hR.1] at z
    cases z
  · rw [hR.2.1 j (by omega) hj] at z
    have := (hT.2.1 j (by omega) hj).1
    exact h (ab j) (by omega) (List.cons.inj z).2
theorem ft_n7 {w : Int32} (h : ¬ (7 : Int32) < w) : w ≤ 7 := by
  rw [Int32.lt_iff_toInt_lt] at h
  rw [Int32.le_iff_toInt_le]
  omega
theorem ft_n7' {w : Int32} (h : (7 : Int32) < w) : ¬ w ≤ 7 := by
  rw [Int32.lt_iff_toInt_lt] at h
  rw [Int32.le_iff_toInt_le]
  omega
set_option maxHeartbeats 4000000 in
set_option maxRecDepth 100000 in
theorem m0_isFunction (l : Launch) (f : Int32) : Met l yX0_isFunction (ws_ yX0_isFunction cX0_isFunction 1 (some .boolean)) fx_r0 (va_Pc [.int f] (fun _ => True)) (vp_Si (fun r => r = if (0 ≤ f ∧ f ≤ 7) then 1 else 0)) 0 0 (fun _ => False) := by
  refine fx_met (by decide) (Nat.le_of_ble_eq_true rfl) ?_
  intro p e s m below meth c ls C0 _ hB hl
  have C0 : fx_C cX0_isFunction 1 RX0 (some .boolean) p s m _ meth c := C0
  obtain ⟨hx, hb, hml, hown, hts, hr, hlocks⟩ := id C0
  have hl : lv_has ls 1 [(0, .int f)] := hl
  refine lv_iload_n hx hb dX0_isFunction_0 rfl (lv_at hl 0 rfl) ?_
  refine fz_lt (tgt := 14) hx hb dX0_isFunction_1 (by decide) Iff.rfl (fun c_1 => ?_) (fun c_1 => ?_)
  · refine lv_iconst (v := 0) hx hb dX0_isFunction_14 (by decide) ?_
    exact fx_rz C0 dX0_isFunction_15 rfl (if_neg (fun z => (by first | exact fx_i1 c_1 z | exact ft_n7' c_7 z.2))).symm
  · refine lv_iload_n hx hb dX0_isFunction_4 rfl (lv_at hl 0 rfl) ?_
    refine lv_bipush (v := 7) hx hb dX0_isFunction_5 (by decide) ?_
    refine fx_gt (tgt := 14) hx hb dX0_isFunction_7 (by decide) Iff.rfl (fun c_7 => ?_) (fun c_7 => ?_)
    · refine lv_iconst (v := 0) hx hb dX0_isFunction_14 (by decide) ?_
      exact fx_rz C0 dX0_isFunction_15 rfl (if_neg (fun z => (by first | exact fx_i1 c_1 z | exact ft_n7' c_7 z.2))).symm
    · refine lv_iconst (v := 1) hx hb dX0_isFunction_10 (by decide) ?_
      refine lv_goto (tgt := 15) hx hb dX0_isFunction_11 (by decide) ?_
      exact fx_rz C0 dX0_isFunction_15 rfl (if_pos ⟨fx_i3 c_1, ft_n7 c_7⟩).symm
set_option maxHeartbeats 4000000 in
set_option maxRecDepth 100000 in
theorem m0_childWith_l (C0 : fx_C cX0_childWith 4 RX0 (some .int) p s m args meth c) (hK : va_K D vwCl [(cA, .int)] s) (hP : va_P D vwCl (ft_FW cA ad d ns N sk fn ab ch si ow to) s.heap) (hT : ft_T N fn ab ch si) (hN : N ≤ 321) {i f : Nat} (hi : i < N) (hf : f ≤ 7) : ∀ (n q : Nat), q < n → (q = 0 ∨ (1 ≤ q ∧ q < N ∧ ab q = i)) → (∀ k, q < k → k < N → ab k = i → fn k ≠ f) → ∀ ls : Array Slot, lv_has ls 4 [(0, .ref (ad 0)), (1, .int (nI i)), (2, .int (nI f)), (3, .int (nI q))] → fx_W p l e R s m args below meth c (fun r => ∃ j, r = nI j ∧ ((j = 0 ∧ ∀ k, 1 ≤ k → k < N → ab k = i → fn k ≠ f) ∨ (1 ≤ j ∧ j < N ∧ ab j = i ∧ fn j = f))) (F0 m 7 ls []) := by
  obtain ⟨hx, hb, hml, hown, hts, hr, hlocks⟩ := id C0
  intro n
  induction n with
  | zero =>
    intro q h1
    exact absurd h1 (by omega)
  | succ n ih =>
    intro q hn hq hseen ls hl
    have bq : q < N := by have := hT.1; omega
    refine lv_iload_n hx hb dX0_childWith_7 rfl (lv_at hl 3 rfl) ?_
    refine fz_le (tgt := 33) hx hb dX0_childWith_8 (by decide) (fx_zl (n := q) (by omega)) (fun c_8 => ?_) (fun c_8 => ?_)
    · refine lv_iconst (v := nI 0) hx hb dX0_childWith_33 (by decide) ?_
      exact fx_ri C0 dX0_childWith_34 ⟨0, rfl, Or.inl ⟨rfl, fun k k1 k2 => hseen k (by omega) k2⟩⟩
    · have hq2 : 1 ≤ q ∧ q < N ∧ ab q = i := by omega
      have b7 := (hT.2.1 q hq2.1 hq2.2.1).2
      refine lv_aload_n hx hb dX0_childWith_11 rfl (lv_at hl 0 rfl) ?_
      refine fx_g0 (v := .ref (ad 2)) hx hb hts hown hK hP rfl 4 (by decide) q26 rfl rfl dX0_childWith_12 ?_
      refine lv_iload_n hx hb dX0_childWith_15 rfl (lv_at hl 3 rfl) ?_
      refine fx_ald (k := q) (v := nI (fn q)) hx hb hK hP 2 rfl rfl (by omega) (by decide) (ft_fi_p hq2.1) dX0_childWith_16 ?_
      refine lv_iload_n hx hb dX0_childWith_17 rfl (lv_at hl 2 rfl) ?_
      refine fx_ne (tgt := 23) hx hb dX0_childWith_18 (by decide) (nI_eq (a := fn q) (b := f) (by omega) (by omega)) (fun c_18 => ?_) (fun c_18 => ?_)
      · refine lv_aload_n hx hb dX0_childWith_23 rfl (lv_at hl 0 rfl) ?_
        refine fx_g0 (v := .ref (ad 5)) hx hb hts hown hK hP rfl 7 (by decide) q29 rfl rfl dX0_childWith_24 ?_
        refine lv_iload_n hx hb dX0_childWith_27 rfl (lv_at hl 3 rfl) ?_
        refine fx_ald (k := q) (v := nI (si q)) hx hb hK hP 5 rfl rfl (by omega) (by decide) rfl dX0_childWith_28 ?_
        refine lv_istore_n (lv' := [(3, .int (nI (si q))), (0, .ref (ad 0)), (1, .int (nI i)), (2, .int (nI f))]) hx hb dX0_childWith_29 rfl hl (by decide) rfl (fun ls hl => ?_)
        refine lv_goto (tgt := 7) hx hb dX0_childWith_30 (by decide) ?_
        have nx := ft_next hT hq2.1 hq2.2.1 hq2.2.2 (X := fun k => fn k ≠ f) hseen c_18
        exact ih (si q) (by omega) nx.2.1 nx.2.2 ls (lv_sub hl [1, 2, 3, 0] rfl)
      · refine lv_iload_n hx hb dX0_childWith_21 rfl (lv_at hl 3 rfl) ?_
        exact fx_ri C0 dX0_childWith_22 ⟨q, rfl, Or.inr ⟨hq2.1, hq2.2.1, hq2.2.2, c_18⟩⟩
set_option maxHeartbeats 4000000 in
set_option maxRecDepth 100000 in
theorem m0_childWith (l : Launch) (hT : ft_T N fn ab ch si) (hN : N ≤ 321) {i f : Nat} (hi : i < N) (hf : f ≤ 7) : Met l yX0_childWith (ws_ yX0_childWith cX0_childWith 4 (some .int)) fx_r0 (va_Pc [.ref (ad 0), .int (nI i), .int (nI f)] (ft_pre (va_P D vwCl (ft_FW cA ad d ns N sk fn ab ch si ow to)) D cA)) (vp_Si (fun r => ∃ j, r = nI j ∧ ((j = 0 ∧ ∀ k, 1 ≤ k → k < N → ab k = i → fn k ≠ f) ∨ (1 ≤ j ∧ j < N ∧ ab j = i ∧ fn j = f)))) 0 0 (fun _ => False) := by
  refine fx_met (by decide) (Nat.le_of_ble_eq_true rfl) ?_
  intro p e s m below meth c ls C0 _ hB hl
  obtain ⟨hP, hK⟩ := hB
  have C0 : fx_C cX0_childWith 4 RX0 (some .int) p s m _ meth c := C0
  obtain ⟨hx, hb, hml, hown, hts, hr, hlocks⟩ := id C0
  have hl : lv_has ls 4 [(0, .ref (ad 0)), (1, .int (nI i)), (2, .int (nI f))] := hl
  refine lv_aload_n hx hb dX0_childWith_0 rfl (lv_at hl 0 rfl) ?_
  refine fx_g0 (v := .ref (ad 4)) hx hb hts hown hK hP rfl 6 (by decide) q28 rfl rfl dX0_childWith_1 ?_
  refine lv_iload_n hx hb dX0_childWith_4 rfl (lv_at hl 1 rfl) ?_
  refine fx_ald (k := i) (v := nI (ch i)) hx hb hK hP 4 rfl rfl (by omega) (by decide) rfl dX0_childWith_5 ?_
  refine lv_istore_n (lv' := [(3, .int (nI (ch i))), (0, .ref (ad 0)), (1, .int (nI i)), (2, .int (nI f))]) hx hb dX0_childWith_6 rfl hl (by decide) rfl (fun ls hl => ?_)
  have st := ft_start hT i
  exact m0_childWith_l C0 hK hP hT hN hi hf (ch i + 1) (ch i) (by omega) st.1 (fun k a b z => absurd z (st.2 k a b)) ls (lv_sub hl [1, 2, 3, 0] rfl)
set_option maxHeartbeats 4000000 in
set_option maxRecDepth 100000 in
theorem m0_nodeOfStack_l (C0 : fx_C cX0_nodeOfStack 3 RX0 (some .int) p s m args meth c) (hK : va_K D vwCl [(cA, .int)] s) (hP : va_P D vwCl (ft_FW cA ad d ns N sk fn ab ch si ow to) s.heap) (hT : ft_T N fn ab ch si) (hR : ft_R N fn ab ps) (hN : N ≤ 321) (hSK : ft_SK d sk) : ∀ (n k j : Nat), k ≤ d → d - k < n → j < N → ps j = ft_rp sk k → ∀ ls : Array Slot, lv_has ls 3 [(0, .ref (ad 0)), (1, .int (nI j)), (2, .int (nI k))] → fx_W p l e fx_r1 s m args below meth c (fun r => (r = -1 ∧ ∀ j, j < N → ps j ≠ ft_rp sk d) ∨ (∃ j, j < N ∧ r = nI j ∧ ps j = ft_rp sk d)) (F0 m 4 ls []) := by
  obtain ⟨hx, hb, hml, hown, hts, hr, hlocks⟩ := id C0
  have hd8 := hSK.1
  intro n
  induction n with
  | zero =>
    intro k j h1 h2
    exact absurd h2 (by omega)
  | succ n ih =>
    intro k j hi hn hj hpj ls hl
    refine lv_iload_n hx hb dX0_nodeOfStack_4 rfl (lv_at hl 2 rfl) ?_
    refine lv_aload_n hx hb dX0_nodeOfStack_5 rfl (lv_at hl 0 rfl) ?_
    refine fx_g0 (v := .int (nI d)) hx hb hts hown hK hP rfl 0 (by decide) q22 rfl rfl dX0_nodeOfStack_6 ?_
    refine fx_ge (tgt := 36) hx hb dX0_nodeOfStack_9 (by decide) (nI_leI (a := d) (b := k) (by omega) (by omega)) (fun c_9 => ?_) (fun c_9 => ?_)
    · refine lv_iload_n hx hb dX0_nodeOfStack_36 rfl (lv_at hl 1 rfl) ?_
      exact fx_ri C0 dX0_nodeOfStack_37 (Or.inr ⟨j, hj, rfl, by rw [hpj, (by omega : k = d)]⟩)
    · refine lv_aload_n hx hb dX0_nodeOfStack_12 rfl (lv_at hl 0 rfl) ?_
      refine lv_iload_n hx hb dX0_nodeOfStack_13 rfl (lv_at hl 1 rfl) ?_
      refine lv_aload_n hx hb dX0_nodeOfStack_14 rfl (lv_at hl 0 rfl) ?_
      refine fx_g0 (v := .ref (ad 1)) hx hb hts hown hK hP rfl 1 (by decide) q23 rfl rfl dX0_nodeOfStack_15 ?_
      refine lv_iload_n hx hb dX0_nodeOfStack_18 rfl (lv_at hl 2 rfl) ?_
      refine fx_ald (k := k) (v := nI (sk k)) hx hb hK hP 1 rfl rfl (by omega) (by decide) rfl dX0_nodeOfStack_19 ?_
      refine fx_callV (As := [.int (nI j), .int (nI (sk k))]) (rest := []) (n := 2) C0 (m0_childWith l hT hN (i := j) (f := sk k) hj (hSK.2 k)) hP hK (va_recv hK hP (ci := 0) (q0 := 0) rfl rfl) (lw_V q69 q71 qs0 q12 q72) ⟨rfl, rfl⟩ (by decide +kernel) ⟨Nat.le_of_ble_eq_true rfl, Nat.le_of_ble_eq_true rfl⟩ rfl hl.1 rfl (Nat.le_of_ble_eq_true rfl) dX0_nodeOfStack_20 ⟨Nat.zero_le _, Nat.zero_le _⟩ (fun r hr => ?_)
      obtain ⟨j2, rfl, hj2⟩ := hr
      have b2 : j2 ≤ 321 := by omega
      refine lv_istore_n (lv' := [(1, .int (nI j2)), (0, .ref (ad 0)), (2, .int (nI k))]) hx hb dX0_nodeOfStack_23 rfl hl (by decide) rfl (fun ls hl => ?_)
      refine lv_iload_n hx hb dX0_nodeOfStack_24 rfl (lv_at hl 0 rfl) ?_
      refine fz_ne (tgt := 30) hx hb dX0_nodeOfStack_25 (by decide) (fx_z0 (n := j2) (by omega)) (fun c_25 => ?_) (fun c_25 => ?_)
      · have hj3 : 1 ≤ j2 ∧ j2 < N ∧ ab j2 = j ∧ fn j2 = sk k := by omega
        refine fx_inc (v := nI (k + 1)) (lv' := [(2, .int (nI (k + 1))), (1, .int (nI j2)), (0, .ref (ad 0))]) (k0 := 2) hx hb dX0_nodeOfStack_30 hl rfl (nI_1 _) (by decide) rfl (fun ls hl => ?_)
        refine lv_goto (tgt := 4) hx hb dX0_nodeOfStack_33 (by decide) ?_
        exact ih (k + 1) j2 (by omega) (by omega) hj3.2.1 (by rw [hR.2.1 j2 hj3.1 hj3.2.1, hj3.2.2.1, hj3.2.2.2, hpj]; rfl) ls (lv_sub hl [2, 1, 0] rfl)
      · have hj3 : ∀ x, 1 ≤ x → x < N → ab x = j → fn x ≠ sk k := by
          rcases hj2 with z | z
          · exact z.2
          · omega
        refine lv_iconst (v := -1) hx hb dX0_nodeOfStack_28 (by decide) ?_
        refine fx_ri C0 dX0_nodeOfStack_29 (Or.inl ⟨rfl, fun j' hj' z => ?_⟩)
        obtain ⟨j3, a1, a2⟩ := ft_up_path hT hR (k := k + 1) (d := d) (by omega) j' hj' z
        exact ft_cw0 hT hR hj hj3 j3 a1 (a2.trans (by rw [hpj]; rfl))
set_option maxHeartbeats 4000000 in
set_option maxRecDepth 100000 in
theorem m0_nodeOfStack (l : Launch) (hT : ft_T N fn ab ch si) (hR : ft_R N fn ab ps) (hN : N ≤ 321) (hSK : ft_SK d sk) : Met l yX0_nodeOfStack (ws_ yX0_nodeOfStack cX0_nodeOfStack 3 (some .int)) fx_r1 (va_Pc [.ref (ad 0)] (ft_pre (va_P D vwCl (ft_FW cA ad d ns N sk fn ab ch si ow to)) D cA)) (vp_Si (fun r => (r = -1 ∧ ∀ j, j < N → ps j ≠ ft_rp sk d) ∨ (∃ j, j < N ∧ r = nI j ∧ ps j = ft_rp sk d))) 0 0 (fun _ => False) := by
  refine fx_met (by decide) (Nat.le_of_ble_eq_true rfl) ?_
  intro p e s m below meth c ls C0 _ hB hl
  obtain ⟨hP, hK⟩ := hB
  have C0 : fx_C cX0_nodeOfStack 3 RX0 (some .int) p s m _ meth c := C0
  obtain ⟨hx, hb, hml, hown, hts, hr, hlocks⟩ := id C0
  have hl : lv_has ls 3 [(0, .ref (ad 0))] := hl
  refine lv_iconst (v := nI 0) hx hb dX0_nodeOfStack_0 (by decide) ?_
  refine lv_istore_n (lv' := [(1, .int (nI 0)), (0, .ref (ad 0))]) hx hb dX0_nodeOfStack_1 rfl hl (by decide) rfl (fun ls hl => ?_)
  refine lv_iconst (v := nI 0) hx hb dX0_nodeOfStack_2 (by decide) ?_
  refine lv_istore_n (lv' := [(2, .int (nI 0)), (1, .int (nI 0)), (0, .ref (ad 0))]) hx hb dX0_nodeOfStack_3 rfl hl (by decide) rfl (fun ls hl => ?_)
  exact m0_nodeOfStack_l C0 hK hP hT hR hN hSK (d + 1) 0 0 (by omega) (by omega) hT.1 hR.1 ls (lv_sub hl [2, 1, 0] rfl)
set_option maxHeartbeats 4000000 in
set_option maxRecDepth 100000 in
theorem m0_standsAbove_l (C0 : fx_C cX0_standsAbove 6 RX0 (some .boolean) p s m args meth c) (hK : va_K D vwCl [(cA, .int)] s) (hP : va_P D vwCl (ft_FW cA ad d ns N sk fn ab ch si ow to) s.heap) (hT : ft_T N fn ab ch si) (hR : ft_R N fn ab ps) (hN : N ≤ 321) (hlen : ∀ j, j < N → (ps j).length ≤ 8) {q0 f : Nat} {cN : Option Nat} (hq1 : 1 ≤ q0) (hq0 : q0 < N) (hf : f ≤ 7) (hc : ∀ k, cN = some k → k ≤ 7) : ∀ (n i st : Nat), i < N → (ps i).length < n → (ps i).length + st ≤ 8 → ft_occ cN f (ps i) = ft_occ cN f (ps (ab q0)) → ∀ ls : Array Slot, lv_has ls 6 [(0, .ref (ad 0)), (1, .int (nI q0)), (2, .int (ft_ci cN)), (3, .int (nI f)), (4, .int (nI i)), (5, .int (nI st))] → fx_W p l e R s m args below meth c (fun r => r = if ft_occ cN f (ps (ab q0)) = true then 1 else 0) (F0 m 11 ls []) := by
  obtain ⟨hx, hb, hml, hown, hts, hr, hlocks⟩ := id C0
  intro n
  induction n with
  | zero =>
    intro i st h1 h2
    exact absurd h2 (by omega)
  | succ n ih =>
    intro i st hi hn hst hocc ls hl
    refine lv_iload hx hb dX0_standsAbove_11 (lv_at hl 5 rfl) ?_
    refine lv_bipush (v := nI 8) hx hb dX0_standsAbove_13 (by decide) ?_
    refine fx_ge (tgt := 71) hx hb dX0_standsAbove_15 (by decide) (nI_leI (a := 8) (b := st) (by omega) (by omega)) (fun c_15 => ?_) (fun c_15 => ?_)
    · have e0 : ps i = [] := List.eq_nil_of_length_eq_zero (by omega)
      refine lv_iconst (v := 0) hx hb dX0_standsAbove_71 (by decide) ?_
      exact fx_rz C0 dX0_standsAbove_72 rfl (if_neg (by rw [← hocc, e0]; exact Bool.false_ne_true)).symm
    · refine lv_iload hx hb dX0_standsAbove_18 (lv_at hl 4 rfl) ?_
      refine fz_le (tgt := 71) hx hb dX0_standsAbove_20 (by decide) (fx_zl (n := i) (by omega)) (fun c_20 => ?_) (fun c_20 => ?_)
      · have e0 : ps i = [] := by rw [c_20]; exact hR.1
        refine lv_iconst (v := 0) hx hb dX0_standsAbove_71 (by decide) ?_
        exact fx_rz C0 dX0_standsAbove_72 rfl (if_neg (by rw [← hocc, e0]; exact Bool.false_ne_true)).symm
      · have b7 := hT.2.1 i (by omega) hi
        have ep := hR.2.1 i (by omega) hi
        have el : (ps i).length = (ps (ab i)).length + 1 := by rw [ep]; rfl
        refine lv_aload_n hx hb dX0_standsAbove_23 rfl (lv_at hl 0 rfl) ?_
        refine fx_g0 (v := .ref (ad 2)) hx hb hts hown hK hP rfl 4 (by decide) q26 rfl rfl dX0_standsAbove_24 ?_
        refine lv_iload hx hb dX0_standsAbove_27 (lv_at hl 4 rfl) ?_
        refine fx_ald (k := i) (v := nI (fn i)) hx hb hK hP 2 rfl rfl (by omega) (by decide) (ft_fi_p (by omega)) dX0_standsAbove_29 ?_
        refine lv_iload_n hx hb dX0_standsAbove_30 rfl (lv_at hl 3 rfl) ?_
        refine fx_ne (tgt := 56) hx hb dX0_standsAbove_31 (by decide) (nI_eq (a := fn i) (b := f) (by omega) (by omega)) (fun c_31 => ?_) (fun c_31 => ?_)
        · have g0 : ft_occ cN f (ps (ab i)) = ft_occ cN f (ps (ab q0)) := by rw [← hocc, ep]; simp [ft_occ, c_31]
          refine lv_aload_n hx hb dX0_standsAbove_56 rfl (lv_at hl 0 rfl) ?_
          refine fx_g0 (v := .ref (ad 3)) hx hb hts hown hK hP rfl 5 (by decide) q27 rfl rfl dX0_standsAbove_57 ?_
          refine lv_iload hx hb dX0_standsAbove_60 (lv_at hl 4 rfl) ?_
          refine fx_ald (k := i) (v := nI (ab i)) hx hb hK hP 3 rfl rfl (by omega) (by decide) rfl dX0_standsAbove_62 ?_
          refine lv_istore (lv' := [(4, .int (nI (ab i))), (0, .ref (ad 0)), (1, .int (nI q0)), (2, .int (ft_ci cN)), (3, .int (nI f)), (5, .int (nI st))]) hx hb dX0_standsAbove_63 hl (by decide) rfl (fun ls hl => ?_)
          refine fx_inc (v := nI (st + 1)) (lv' := [(5, .int (nI (st + 1))), (4, .int (nI (ab i))), (0, .ref (ad 0)), (1, .int (nI q0)), (2, .int (ft_ci cN)), (3, .int (nI f))]) (k0 := 5) hx hb dX0_standsAbove_65 hl rfl (nI_1 _) (by decide) rfl (fun ls hl => ?_)
          refine lv_goto (tgt := 11) hx hb dX0_standsAbove_68 (by decide) ?_
          exact ih (ab i) (st + 1) (by omega) (by omega) (by omega) g0 ls (lv_sub hl [2, 3, 4, 5, 1, 0] rfl)
        · refine lv_iload_n hx hb dX0_standsAbove_34 rfl (lv_at hl 2 rfl) ?_
          refine fz_lt (tgt := 54) hx hb dX0_standsAbove_35 (by decide) (ft_ci_lt hc) (fun c_35 => ?_) (fun c_35 => ?_)
          · have g1 : ft_occ cN f (ps (ab q0)) = true := by rw [← hocc, ep]; simp [ft_occ, c_31, c_35, ft_be]
            refine lv_iconst (v := 1) hx hb dX0_standsAbove_54 (by decide) ?_
            exact fx_rz C0 dX0_standsAbove_55 rfl (if_pos g1).symm
          · refine lv_aload_n hx hb dX0_standsAbove_38 rfl (lv_at hl 0 rfl) ?_
            refine fx_g0 (v := .ref (ad 2)) hx hb hts hown hK hP rfl 4 (by decide) q26 rfl rfl dX0_standsAbove_39 ?_
            refine lv_aload_n hx hb dX0_standsAbove_42 rfl (lv_at hl 0 rfl) ?_
            refine fx_g0 (v := .ref (ad 3)) hx hb hts hown hK hP rfl 5 (by decide) q27 rfl rfl dX0_standsAbove_43 ?_
            refine lv_iload hx hb dX0_standsAbove_46 (lv_at hl 4 rfl) ?_
            refine fx_ald (k := i) (v := nI (ab i)) hx hb hK hP 3 rfl rfl (by omega) (by decide) rfl dX0_standsAbove_48 ?_
            refine fx_ald (k := ab i) (v := ft_fi fn (ab i)) hx hb hK hP 2 rfl rfl (by omega) (by decide) rfl dX0_standsAbove_49 ?_
            refine lv_iload_n hx hb dX0_standsAbove_50 rfl (lv_at hl 2 rfl) ?_
            refine fx_ne (tgt := 56) hx hb dX0_standsAbove_51 (by decide) (ft_hdc hR hT hc c_35 (j := ab i) (by omega)) (fun c_51 => ?_) (fun c_51 => ?_)
            · have g0 : ft_occ cN f (ps (ab i)) = ft_occ cN f (ps (ab q0)) := by rw [← hocc, ep]; simp [ft_occ, c_51]
              refine lv_aload_n hx hb dX0_standsAbove_56 rfl (lv_at hl 0 rfl) ?_
              refine fx_g0 (v := .ref (ad 3)) hx hb hts hown hK hP rfl 5 (by decide) q27 rfl rfl dX0_standsAbove_57 ?_
              refine lv_iload hx hb dX0_standsAbove_60 (lv_at hl 4 rfl) ?_
              refine fx_ald (k := i) (v := nI (ab i)) hx hb hK hP 3 rfl rfl (by omega) (by decide) rfl dX0_standsAbove_62 ?_
              refine lv_istore (lv' := [(4, .int (nI (ab i))), (0, .ref (ad 0)), (1, .int (nI q0)), (2, .int (ft_ci cN)), (3, .int (nI f)), (5, .int (nI st))]) hx hb dX0_standsAbove_63 hl (by decide) rfl (fun ls hl => ?_)
              refine fx_inc (v := nI (st + 1)) (lv' := [(5, .int (nI (st + 1))), (4, .int (nI (ab i))), (0, .ref (ad 0)), (1, .int (nI q0)), (2, .int (ft_ci cN)), (3, .int (nI f))]) (k0 := 5) hx hb dX0_standsAbove_65 hl rfl (nI_1 _) (by decide) rfl (fun ls hl => ?_)
              refine lv_goto (tgt := 11) hx hb dX0_standsAbove_68 (by decide) ?_
              exact ih (ab i) (st + 1) (by omega) (by omega) (by omega) g0 ls (lv_sub hl [2, 3, 4, 5, 1, 0] rfl)
            · have g1 : ft_occ cN f (ps (ab q0)) = true := by rw [← hocc, ep]; simp [ft_occ, c_31, c_51]
              refine lv_iconst (v := 1) hx hb dX0_standsAbove_54 (by decide) ?_
              exact fx_rz C0 dX0_standsAbove_55 rfl (if_pos g1).symm
set_option maxHeartbeats 4000000 in
set_option maxRecDepth 100000 in
theorem m0_standsAbove (l : Launch) (hT : ft_T N fn ab ch si) (hR : ft_R N fn ab ps) (hN : N ≤ 321) (hlen : ∀ j, j < N → (ps j).length ≤ 8) {q0 f : Nat} {cN : Option Nat} (hq1 : 1 ≤ q0) (hq0 : q0 < N) (hf : f ≤ 7) (hc : ∀ k, cN = some k → k ≤ 7) : Met l yX0_standsAbove (ws_ yX0_standsAbove cX0_standsAbove 6 (some .boolean)) fx_r0 (va_Pc [.ref (ad 0), .int (nI q0), .int (ft_ci cN), .int (nI f)] (ft_pre (va_P D vwCl (ft_FW cA ad d ns N sk fn ab ch si ow to)) D cA)) (vp_Si (fun r => r = if ft_occ cN f (ps (ab q0)) = true then 1 else 0)) 0 0 (fun _ => False) := by
  refine fx_met (by decide) (Nat.le_of_ble_eq_true rfl) ?_
  intro p e s m below meth c ls C0 _ hB hl
  obtain ⟨hP, hK⟩ := hB
  have C0 : fx_C cX0_standsAbove 6 RX0 (some .boolean) p s m _ meth c := C0
  obtain ⟨hx, hb, hml, hown, hts, hr, hlocks⟩ := id C0
  have hl : lv_has ls 6 [(0, .ref (ad 0)), (1, .int (nI q0)), (2, .int (ft_ci cN)), (3, .int (nI f))] := hl
  have b7 := hT.2.1 q0 hq1 hq0
  have b8 := hlen (ab q0) (by omega)
  refine lv_aload_n hx hb dX0_standsAbove_0 rfl (lv_at hl 0 rfl) ?_
  refine fx_g0 (v := .ref (ad 3)) hx hb hts hown hK hP rfl 5 (by decide) q27 rfl rfl dX0_standsAbove_1 ?_
  refine lv_iload_n hx hb dX0_standsAbove_4 rfl (lv_at hl 1 rfl) ?_
  refine fx_ald (k := q0) (v := nI (ab q0)) hx hb hK hP 3 rfl rfl (by omega) (by decide) rfl dX0_standsAbove_5 ?_
  refine lv_istore (lv' := [(4, .int (nI (ab q0))), (0, .ref (ad 0)), (1, .int (nI q0)), (2, .int (ft_ci cN)), (3, .int (nI f))]) hx hb dX0_standsAbove_6 hl (by decide) rfl (fun ls hl => ?_)
  refine lv_iconst (v := nI 0) hx hb dX0_standsAbove_8 (by decide) ?_
  refine lv_istore (lv' := [(5, .int (nI 0)), (4, .int (nI (ab q0))), (0, .ref (ad 0)), (1, .int (nI q0)), (2, .int (ft_ci cN)), (3, .int (nI f))]) hx hb dX0_standsAbove_9 hl (by decide) rfl (fun ls hl => ?_)
  exact m0_standsAbove_l C0 hK hP hT hR hN hlen hq1 hq0 hf hc 9 (ab q0) 0 (by omega) (by omega) (by omega) rfl ls (lv_sub hl [2, 3, 4, 5, 1, 0] rfl)
set_option maxHeartbeats 4000000 in
set_option maxRecDepth 100000 in
theorem m0_depthOf_l (C0 : fx_C cX0_depthOf 5 RX0 (some .int) p s m args meth c) (hK : va_K D vwCl [(cA, .int)] s) (hP : va_P D vwCl (ft_FW cA ad d ns N sk fn ab ch si ow to) s.heap) (hT : ft_T N fn ab ch si) (hR : ft_R N fn ab ps) (hN : N ≤ 321) (hlen : ∀ j, j < N → (ps j).length ≤ 8) {q0 : Nat} (hq0 : q0 < N) : ∀ (n i st x : Nat), i < N → (ps i).length < n → (ps i).length + st ≤ 8 → x + (ps i).length = (ps q0).length → ∀ ls : Array Slot, lv_has ls 5 [(0, .ref (ad 0)), (1, .int (nI q0)), (2, .int (nI x)), (3, .int (nI i)), (4, .int (nI st))] → fx_W p l e R s m args below meth c (fun r => r = nI (ps q0).length) (F0 m 7 ls []) := by
  obtain ⟨hx, hb, hml, hown, hts, hr, hlocks⟩ := id C0
  intro n
  induction n with
  | zero =>
    intro i st x h1 h2
    exact absurd h2 (by omega)
  | succ n ih =>
    intro i st x hi hn hst hx2 ls hl
    refine lv_iload hx hb dX0_depthOf_7 (lv_at hl 4 rfl) ?_
    refine lv_bipush (v := nI 8) hx hb dX0_depthOf_9 (by decide) ?_
    refine fx_ge (tgt := 34) hx hb dX0_depthOf_11 (by decide) (nI_leI (a := 8) (b := st) (by omega) (by omega)) (fun c_11 => ?_) (fun c_11 => ?_)
    · have e0 : x = (ps q0).length := by omega
      refine lv_iload_n hx hb dX0_depthOf_34 rfl (lv_at hl 2 rfl) ?_
      exact fx_ri C0 dX0_depthOf_35 (by rw [e0])
    · refine lv_iload_n hx hb dX0_depthOf_14 rfl (lv_at hl 3 rfl) ?_
      refine fz_le (tgt := 34) hx hb dX0_depthOf_15 (by decide) (fx_zl (n := i) (by omega)) (fun c_15 => ?_) (fun c_15 => ?_)
      · have e0 : x = (ps q0).length := by
          rw [c_15, hR.1] at hx2
          exact hx2
        refine lv_iload_n hx hb dX0_depthOf_34 rfl (lv_at hl 2 rfl) ?_
        exact fx_ri C0 dX0_depthOf_35 (by rw [e0])
      · have b7 := hT.2.1 i (by omega) hi
        have ep := hR.2.1 i (by omega) hi
        have el : (ps i).length = (ps (ab i)).length + 1 := by rw [ep]; rfl
        refine fx_inc (v := nI (x + 1)) (lv' := [(2, .int (nI (x + 1))), (0, .ref (ad 0)), (1, .int (nI q0)), (3, .int (nI i)), (4, .int (nI st))]) (k0 := 2) hx hb dX0_depthOf_18 hl rfl (nI_1 _) (by decide) rfl (fun ls hl => ?_)
        refine lv_aload_n hx hb dX0_depthOf_21 rfl (lv_at hl 1 rfl) ?_
        refine fx_g0 (v := .ref (ad 3)) hx hb hts hown hK hP rfl 5 (by decide) q27 rfl rfl dX0_depthOf_22 ?_
        refine lv_iload_n hx hb dX0_depthOf_25 rfl (lv_at hl 3 rfl) ?_
        refine fx_ald (k := i) (v := nI (ab i)) hx hb hK hP 3 rfl rfl (by omega) (by decide) rfl dX0_depthOf_26 ?_
        refine lv_istore_n (lv' := [(3, .int (nI (ab i))), (2, .int (nI (x + 1))), (0, .ref (ad 0)), (1, .int (nI q0)), (4, .int (nI st))]) hx hb dX0_depthOf_27 rfl hl (by decide) rfl (fun ls hl => ?_)
        refine fx_inc (v := nI (st + 1)) (lv' := [(4, .int (nI (st + 1))), (3, .int (nI (ab i))), (2, .int (nI (x + 1))), (0, .ref (ad 0)), (1, .int (nI q0))]) (k0 := 4) hx hb dX0_depthOf_28 hl rfl (nI_1 _) (by decide) rfl (fun ls hl => ?_)
        refine lv_goto (tgt := 7) hx hb dX0_depthOf_31 (by decide) ?_
        exact ih (ab i) (st + 1) (x + 1) (by omega) (by omega) (by omega) (by omega) ls (lv_sub hl [3, 4, 2, 1, 0] rfl)
set_option maxHeartbeats 4000000 in
set_option maxRecDepth 100000 in
theorem m0_depthOf (l : Launch) (hT : ft_T N fn ab ch si) (hR : ft_R N fn ab ps) (hN : N ≤ 321) (hlen : ∀ j, j < N → (ps j).length ≤ 8) {q0 : Nat} (hq0 : q0 < N) : Met l yX0_depthOf (ws_ yX0_depthOf cX0_depthOf 5 (some .int)) fx_r0 (va_Pc [.ref (ad 0), .int (nI q0)] (ft_pre (va_P D vwCl (ft_FW cA ad d ns N sk fn ab ch si ow to)) D cA)) (vp_Si (fun r => r = nI (ps q0).length)) 0 0 (fun _ => False) := by
  refine fx_met (by decide) (Nat.le_of_ble_eq_true rfl) ?_
  intro p e s m below meth c ls C0 _ hB hl
  obtain ⟨hP, hK⟩ := hB
  have C0 : fx_C cX0_depthOf 5 RX0 (some .int) p s m _ meth c := C0
  obtain ⟨hx, hb, hml, hown, hts, hr, hlocks⟩ := id C0
  have hl : lv_has ls 5 [(0, .ref (ad 0)), (1, .int (nI q0))] := hl
  have b8 := hlen q0 hq0
  refine lv_iconst (v := nI 0) hx hb dX0_depthOf_0 (by decide) ?_
  refine lv_istore_n (lv' := [(2, .int (nI 0)), (0, .ref (ad 0)), (1, .int (nI q0))]) hx hb dX0_depthOf_1 rfl hl (by decide) rfl (fun ls hl => ?_)
  refine lv_iload_n hx hb dX0_depthOf_2 rfl (lv_at hl 2 rfl) ?_
  refine lv_istore_n (lv' := [(3, .int (nI q0)), (2, .int (nI 0)), (0, .ref (ad 0)), (1, .int (nI q0))]) hx hb dX0_depthOf_3 rfl hl (by decide) rfl (fun ls hl => ?_)
  refine lv_iconst (v := nI 0) hx hb dX0_depthOf_4 (by decide) ?_
  refine lv_istore (lv' := [(4, .int (nI 0)), (3, .int (nI q0)), (2, .int (nI 0)), (0, .ref (ad 0)), (1, .int (nI q0))]) hx hb dX0_depthOf_5 hl (by decide) rfl (fun ls hl => ?_)
  exact m0_depthOf_l C0 hK hP hT hR hN hlen hq0 9 q0 0 0 hq0 (by omega) (by omega) (by omega) ls (lv_sub hl [3, 4, 2, 1, 0] rfl)
end
end
section
/-! THE TREE: public methods that only read -/
section
variable {p : Program} {l : Launch} {e : Env} {R : Room} {s : State} {m : MethodId} {args : Array Value} {below : List Frame} {meth : Method} {c : Code}
variable {D : va_G} {cA : ClassId} {ad : Nat → Nat} {d ns N : Nat} {sk fn ab ch si ow to ln wt : Nat → Nat} {pa : Nat → Nat → Nat} {ps : Nat → List Nat}
set_option maxHeartbeats 4000000 in
set_option maxRecDepth 100000 in
theorem m0_total (l : Launch) (hSK : ft_SK d sk) (hSI : ft_SI ns pa ln wt) : Met l yX0_total (ws_ yX0_total cX0_total 2 (some .int)) fx_r2 (va_Pc [.ref (ad 0)] (ft_pre (ft_FT D cA ad d sk ns pa ln wt) D cA)) (vp_Si (fun r => r = nI (ft_tot ns pa ln wt (ft_rp sk d)))) 0 0 (fun _ => False) := by
  refine fx_met (by decide) (Nat.le_of_ble_eq_true rfl) ?_
  intro p e s m below meth c ls C0 _ hB hl
  obtain ⟨⟨N, fn, ab, ch, si, ow, to, ps, hI, hP, hDD⟩, hK⟩ := hB
  have hT := hI.1
  have hR := hI.2.1
  have hV := hI.2.2.1
  have hWt := hI.2.2.2.1
  have hWo := hI.2.2.2.2.1
  have hN := ft_N_le hSI hI.2.2.2.2.2
  have hN1 := hT.1
  have hd8 := hSK.1
  have hsk := hSK.2
  have hlen := fun j (hj : j < N) => ft_len hV hR hSI hj
  have hto : ∀ j, to j ≤ 4000 := fun j => by
    by_cases z : j < N
    · rw [hWt.1 j z]; exact ft_tot_4000 hSI _
    · rw [hWt.2 j (by omega)]; exact Nat.zero_le _
  have how : ∀ j, ow j ≤ 4000 := fun j => by
    by_cases z : j < N
    · rw [hWo.1 j z]; exact ft_own_4000 hSI _
    · rw [hWo.2 j (by omega)]; exact Nat.zero_le _
  have C0 : fx_C cX0_total 2 RX0 (some .int) p s m _ meth c := C0
  obtain ⟨hx, hb, hml, hown, hts, hr, hlocks⟩ := id C0
  have hl : lv_has ls 2 [(0, .ref (ad 0))] := hl
  refine lv_aload_n hx hb dX0_total_0 rfl (lv_at hl 0 rfl) ?_
  refine fx_callV (As := []) (rest := []) (n := 0) C0 (m0_nodeOfStack l hT hR hN hSK) hP hK (va_recv hK hP (ci := 0) (q0 := 0) rfl rfl) (lw_V q81 q83 qs2 q12 q84) ⟨rfl, rfl⟩ (by decide +kernel) ⟨Nat.le_of_ble_eq_true rfl, Nat.le_of_ble_eq_true rfl⟩ rfl hl.1 rfl (Nat.le_of_ble_eq_true rfl) dX0_total_1 ⟨Nat.zero_le _, Nat.zero_le _⟩ (fun r hr => ?_)
  rcases hr with ⟨rfl, hno⟩ | ⟨j, hj, rfl, hpj⟩
  · refine lv_istore_n (lv' := [(1, .int (-1)), (0, .ref (ad 0))]) hx hb dX0_total_4 rfl hl (by decide) rfl (fun ls hl => ?_)
    refine lv_iload_n hx hb dX0_total_5 rfl (lv_at hl 0 rfl) ?_
    refine fz_ge (tgt := 13) hx hb dX0_total_6 (by decide) (by decide : (0 : Int32) ≤ -1 ↔ False) (fun c_6 => ?_) (fun c_6 => ?_)
    · exact c_6.elim
    · refine lv_iconst (v := nI 0) hx hb dX0_total_9 (by decide) ?_
      refine lv_goto (tgt := 19) hx hb dX0_total_10 (by decide) ?_
      exact fx_ri C0 dX0_total_19 (by rw [ft_tot_none hV hno])
  · refine lv_istore_n (lv' := [(1, .int (nI j)), (0, .ref (ad 0))]) hx hb dX0_total_4 rfl hl (by decide) rfl (fun ls hl => ?_)
    refine lv_iload_n hx hb dX0_total_5 rfl (lv_at hl 0 rfl) ?_
    refine fz_ge (tgt := 13) hx hb dX0_total_6 (by decide) (fx_zp (n := j) (by omega)) (fun c_6 => ?_) (fun c_6 => ?_)
    · refine lv_aload_n hx hb dX0_total_13 rfl (lv_at hl 1 rfl) ?_
      refine fx_g0 (v := .ref (ad 7)) hx hb hts hown hK hP rfl 9 (by decide) q31 rfl rfl dX0_total_14 ?_
      refine lv_iload_n hx hb dX0_total_17 rfl (lv_at hl 0 rfl) ?_
      refine fx_ald (k := j) (v := nI (to j)) hx hb hK hP 7 rfl rfl (by omega) (by decide) rfl dX0_total_18 ?_
      exact fx_ri C0 dX0_total_19 (by rw [hWt.1 j hj, hpj])
    · exact absurd trivial c_6
set_option maxHeartbeats 4000000 in
set_option maxRecDepth 100000 in
theorem m0_own (l : Launch) (hSK : ft_SK d sk) (hSI : ft_SI ns pa ln wt) : Met l yX0_own (ws_ yX0_own cX0_own 2 (some .int)) fx_r2 (va_Pc [.ref (ad 0)] (ft_pre (ft_FT D cA ad d sk ns pa ln wt) D cA)) (vp_Si (fun r => r = nI (ft_own ns pa ln wt (ft_rp sk d)))) 0 0 (fun _ => False) := by
  refine fx_met (by decide) (Nat.le_of_ble_eq_true rfl) ?_
  intro p e s m below meth c ls C0 _ hB hl
  obtain ⟨⟨N, fn, ab, ch, si, ow, to, ps, hI, hP, hDD⟩, hK⟩ := hB
  have hT := hI.1
  have hR := hI.2.1
  have hV := hI.2.2.1
  have hWt := hI.2.2.2.1
  have hWo := hI.2.2.2.2.1
  have hN := ft_N_le hSI hI.2.2.2.2.2
  have hN1 := hT.1
  have hd8 := hSK.1
  have hsk := hSK.2
  have hlen := fun j (hj : j < N) => ft_len hV hR hSI hj
  have hto : ∀ j, to j ≤ 4000 := fun j => by
    by_cases z : j < N
    · rw [hWt.1 j z]; exact ft_tot_4000 hSI _
    · rw [hWt.2 j (by omega)]; exact Nat.zero_le _
  have how : ∀ j, ow j ≤ 4000 := fun j => by
    by_cases z : j < N
    · rw [hWo.1 j z]; exact ft_own_4000 hSI _
    · rw [hWo.2 j (by omega)]; exact Nat.zero_le _
  have C0 : fx_C cX0_own 2 RX0 (some .int) p s m _ meth c := C0
  obtain ⟨hx, hb, hml, hown, hts, hr, hlocks⟩ := id C0
  have hl : lv_has ls 2 [(0, .ref (ad 0))] := hl
  refine lv_aload_n hx hb dX0_own_0 rfl (lv_at hl 0 rfl) ?_
  refine fx_callV (As := []) (rest := []) (n := 0) C0 (m0_nodeOfStack l hT hR hN hSK) hP hK (va_recv hK hP (ci := 0) (q0 := 0) rfl rfl) (lw_V q81 q83 qs2 q12 q84) ⟨rfl, rfl⟩ (by decide +kernel) ⟨Nat.le_of_ble_eq_true rfl, Nat.le_of_ble_eq_true rfl⟩ rfl hl.1 rfl (Nat.le_of_ble_eq_true rfl) dX0_own_1 ⟨Nat.zero_le _, Nat.zero_le _⟩ (fun r hr => ?_)
  rcases hr with ⟨rfl, hno⟩ | ⟨j, hj, rfl, hpj⟩
  · refine lv_istore_n (lv' := [(1, .int (-1)), (0, .ref (ad 0))]) hx hb dX0_own_4 rfl hl (by decide) rfl (fun ls hl => ?_)
    refine lv_iload_n hx hb dX0_own_5 rfl (lv_at hl 0 rfl) ?_
    refine fz_ge (tgt := 13) hx hb dX0_own_6 (by decide) (by decide : (0 : Int32) ≤ -1 ↔ False) (fun c_6 => ?_) (fun c_6 => ?_)
    · exact c_6.elim
    · refine lv_iconst (v := nI 0) hx hb dX0_own_9 (by decide) ?_
      refine lv_goto (tgt := 19) hx hb dX0_own_10 (by decide) ?_
      exact fx_ri C0 dX0_own_19 (by rw [ft_own_none hV hno])
  · refine lv_istore_n (lv' := [(1, .int (nI j)), (0, .ref (ad 0))]) hx hb dX0_own_4 rfl hl (by decide) rfl (fun ls hl => ?_)
    refine lv_iload_n hx hb dX0_own_5 rfl (lv_at hl 0 rfl) ?_
    refine fz_ge (tgt := 13) hx hb dX0_own_6 (by decide) (fx_zp (n := j) (by omega)) (fun c_6 => ?_) (fun c_6 => ?_)
    · refine lv_aload_n hx hb dX0_own_13 rfl (lv_at hl 1 rfl) ?_
      refine fx_g0 (v := .ref (ad 6)) hx hb hts hown hK hP rfl 8 (by decide) q30 rfl rfl dX0_own_14 ?_
      refine lv_iload_n hx hb dX0_own_17 rfl (lv_at hl 0 rfl) ?_
      refine fx_ald (k := j) (v := nI (ow j)) hx hb hK hP 6 rfl rfl (by omega) (by decide) rfl dX0_own_18 ?_
      exact fx_ri C0 dX0_own_19 (by rw [hWo.1 j hj, hpj])
    · exact absurd trivial c_6
/-- the best child so far: those behind q are seen -/
def ft_bst (N : Nat) (fn ab to : Nat → Nat) (i q b : Nat) : Prop := (b = 0 ∧ ∀ k, q < k → k < N → ab k ≠ i) ∨ (1 ≤ b ∧ b < N ∧ ab b = i ∧ ∀ k, q < k → k < N → ab k = i → to k < to b ∨ (to k = to b ∧ fn b ≤ fn k))
/-- .. q itself seen too -/
def ft_bs2 (N : Nat) (fn ab to : Nat → Nat) (i q b : Nat) : Prop := 1 ≤ b ∧ b < N ∧ ab b = i ∧ ∀ k, q ≤ k → k < N → ab k = i → to k < to b ∨ (to k = to b ∧ fn b ≤ fn k)
theorem ft_bs2_q {i q b : Nat} (hq : 1 ≤ q ∧ q < N ∧ ab q = i) (h : ft_bst N fn ab to i q b) (hb : b = 0 ∨ to b < to q ∨ (to q = to b ∧ fn q < fn b)) : ft_bs2 N fn ab to i q q := by
  refine ⟨hq.1, hq.2.1, hq.2.2, fun k k1 k2 k3 => ?_⟩
  by_cases e : k = q
  · rw [e]; exact Or.inr ⟨rfl, Nat.le_refl _⟩
  · rcases h with ⟨-, h2⟩ | ⟨h1, h2, h3, h4⟩
    · exact absurd k3 (h2 k (by omega) k2)
    · have := h4 k (by omega) k2 k3
      omega
theorem ft_bs2_b {i q b : Nat} (hb0 : b ≠ 0) (h : ft_bst N fn ab to i q b) (hb : ¬ (to b < to q ∨ (to q = to b ∧ fn q < fn b))) : ft_bs2 N fn ab to i q b := by
  rcases h with ⟨h1, -⟩ | ⟨h1, h2, h3, h4⟩
  · exact absurd h1 hb0
  · refine ⟨h1, h2, h3, fun k k1 k2 k3 => ?_⟩
    by_cases e : k = q
    · rw [e]; omega
    · exact h4 k (by omega) k2 k3
theorem ft_bst_n (hT : ft_T N fn ab ch si) {i q b : Nat} (hq : 1 ≤ q ∧ q < N ∧ ab q = i) (h : ft_bs2 N fn ab to i q b) : ft_bst N fn ab to i (si q) b := by
  obtain ⟨h1, h2, h3, h4⟩ := h
  have nx := ft_next hT hq.1 hq.2.1 hq.2.2 (X := fun k => to k < to b ∨ (to k = to b ∧ fn b ≤ fn k)) (fun k a b c => h4 k (by omega) b c) (h4 q (Nat.le_refl _) hq.2.1 hq.2.2)
  exact Or.inr ⟨h1, h2, h3, nx.2.2⟩
set_option maxHeartbeats 4000000 in
set_option maxRecDepth 100000 in
theorem m0_hottest_l (C0 : fx_C cX0_hottest 5 RX0 (some .int) p s m args meth c) (hK : va_K D vwCl [(cA, .int)] s) (hP : va_P D vwCl (ft_FW cA ad d ns N sk fn ab ch si ow to) s.heap) (hSI : ft_SI ns pa ln wt) (hI : ft_FI N fn ab ch si ow to ps ns pa ln wt) (hN : N ≤ 321) (hd : d < 8) (hto : ∀ j, to j ≤ 4000) {i : Nat} (hi : i < N) (hpi : ps i = ft_rp sk d) : ∀ (n q b : Nat), q < n → (q = 0 ∨ (1 ≤ q ∧ q < N ∧ ab q = i)) → ft_bst N fn ab to i q b → ∀ ls : Array Slot, lv_has ls 5 [(0, .ref (ad 0)), (1, .int (nI i)), (2, .int (nI b)), (3, .int (nI q))] → fx_W p l e fx_r2 s m args below meth c (fun r => (d = 8 → r = -1) ∧ (d < 8 → ∃ mo, ft_hot 8 (fun f => ft_tot ns pa ln wt (f :: ft_rp sk d)) r mo)) (F0 m 29 ls []) := by
  obtain ⟨hx, hb, hml, hown, hts, hr, hlocks⟩ := id C0
  intro n
  induction n with
  | zero =>
    intro q b h1
    exact absurd h1 (by omega)
  | succ n ih =>
    intro q b hn hq hbst ls hl
    have hT := hI.1
    have hN1 := hT.1
    have bq : q < N := by omega
    have bb : b < N := by
      rcases hbst with z | z
      · omega
      · exact z.2.1
    refine lv_iload_n hx hb dX0_hottest_29 rfl (lv_at hl 3 rfl) ?_
    refine fz_le (tgt := 110) hx hb dX0_hottest_30 (by decide) (fx_zl (n := q) (by omega)) (fun c_30 => ?_) (fun c_30 => ?_)
    · refine lv_iload_n hx hb dX0_hottest_110 rfl (lv_at hl 2 rfl) ?_
      refine fz_ne (tgt := 118) hx hb dX0_hottest_111 (by decide) (fx_z0 (n := b) (by omega)) (fun c_111 => ?_) (fun c_111 => ?_)
      · refine lv_aload_n hx hb dX0_hottest_118 rfl (lv_at hl 0 rfl) ?_
        refine fx_g0 (v := .ref (ad 2)) hx hb hts hown hK hP rfl 4 (by decide) q26 rfl rfl dX0_hottest_119 ?_
        refine lv_iload_n hx hb dX0_hottest_122 rfl (lv_at hl 2 rfl) ?_
        refine fx_ald (k := b) (v := nI (fn b)) hx hb hK hP 2 rfl rfl (by omega) (by decide) (ft_fi_p (by omega)) dX0_hottest_123 ?_
        exact fx_ri C0 dX0_hottest_124 ⟨fun z => absurd z (by omega), fun _ => by rw [← hpi]; exact ft_law_hot hI hSI hi (Or.inr ⟨b, by omega, bb, by
          rcases hbst with z | z
          · exact absurd z.1 c_111
          · exact ⟨z.2.2.1, rfl, fun k k1 k2 => z.2.2.2 k (by omega) k2⟩⟩)⟩
      · refine lv_iconst (v := -1) hx hb dX0_hottest_114 (by decide) ?_
        refine lv_goto (tgt := 124) hx hb dX0_hottest_115 (by decide) ?_
        exact fx_ri C0 dX0_hottest_124 ⟨fun z => absurd z (by omega), fun _ => by rw [← hpi]; exact ft_law_hot hI hSI hi (Or.inl ⟨rfl, by
          rcases hbst with z | z
          · exact fun k k1 k2 => z.2 k (by omega) k2
          · omega⟩)⟩
    · have hq2 : 1 ≤ q ∧ q < N ∧ ab q = i := by omega
      have b1 := hto q
      have b2 := hto b
      have j99 : ∀ (b2 : Nat) (ls : Array Slot), ft_bs2 N fn ab to i q b2 → lv_has ls 5 [(0, .ref (ad 0)), (1, .int (nI i)), (2, .int (nI b)), (3, .int (nI q))] → fx_W p l e fx_r2 s m args below meth c (fun r => (d = 8 → r = -1) ∧ (d < 8 → ∃ mo, ft_hot 8 (fun f => ft_tot ns pa ln wt (f :: ft_rp sk d)) r mo)) (F0 m 99 ls [.int (nI b2)]) := by
        intro b2 ls hb2 hl
        refine lv_istore_n (lv' := [(2, .int (nI b2)), (0, .ref (ad 0)), (1, .int (nI i)), (3, .int (nI q))]) hx hb dX0_hottest_99 rfl hl (by decide) rfl (fun ls hl => ?_)
        refine lv_aload_n hx hb dX0_hottest_100 rfl (lv_at hl 1 rfl) ?_
        refine fx_g0 (v := .ref (ad 5)) hx hb hts hown hK hP rfl 7 (by decide) q29 rfl rfl dX0_hottest_101 ?_
        refine lv_iload_n hx hb dX0_hottest_104 rfl (lv_at hl 3 rfl) ?_
        refine fx_ald (k := q) (v := nI (si q)) hx hb hK hP 5 rfl rfl (by omega) (by decide) rfl dX0_hottest_105 ?_
        refine lv_istore_n (lv' := [(3, .int (nI (si q))), (2, .int (nI b2)), (0, .ref (ad 0)), (1, .int (nI i))]) hx hb dX0_hottest_106 rfl hl (by decide) rfl (fun ls hl => ?_)
        refine lv_goto (tgt := 29) hx hb dX0_hottest_107 (by decide) ?_
        have nx := ft_next hT hq2.1 hq2.2.1 hq2.2.2 (X := fun _ => True) (fun _ _ _ _ => trivial) trivial
        exact ih (si q) b2 (by omega) nx.2.1 (ft_bst_n hT hq2 hb2) ls (lv_sub hl [2, 3, 1, 0] rfl)
      have j83 : ∀ z : Int32, z = (if (to b < to q ∨ (to q = to b ∧ ¬ ft_fi fn b ≤ ft_fi fn q)) then 1 else 0) → fx_W p l e fx_r2 s m args below meth c (fun r => (d = 8 → r = -1) ∧ (d < 8 → ∃ mo, ft_hot 8 (fun f => ft_tot ns pa ln wt (f :: ft_rp sk d)) r mo)) (F0 m 83 ls [.int z]) := by
        intro z hz
        subst hz
        refine lv_istore (lv' := [(4, .int ((if (to b < to q ∨ (to q = to b ∧ ¬ ft_fi fn b ≤ ft_fi fn q)) then 1 else 0))), (0, .ref (ad 0)), (1, .int (nI i)), (2, .int (nI b)), (3, .int (nI q))]) hx hb dX0_hottest_83 hl (by decide) rfl (fun ls hl => ?_)
        refine lv_iload_n hx hb dX0_hottest_85 rfl (lv_at hl 3 rfl) ?_
        refine fz_eq (tgt := 94) hx hb dX0_hottest_86 (by decide) (fx_z0 (n := b) (by omega)) (fun c_86 => ?_) (fun c_86 => ?_)
        · have hb2 := ft_bs2_q hq2 hbst (Or.inl c_86)
          refine lv_iload_n hx hb dX0_hottest_94 rfl (lv_at hl 4 rfl) ?_
          refine lv_goto (tgt := 99) hx hb dX0_hottest_95 (by decide) ?_
          exact j99 _ ls hb2 (lv_sub hl [1, 2, 3, 4] rfl)
        · have e5 : ft_fi fn b ≤ ft_fi fn q ↔ fn b ≤ fn q := by
            have h5 := (hT.2.1 b (by omega) bb).2
            have h6 := (hT.2.1 q (by omega) bq).2
            rw [ft_fi_p (by omega), ft_fi_p (by omega), nI_leI (by omega) (by omega)]
          refine lv_iload hx hb dX0_hottest_89 (lv_at hl 0 rfl) ?_
          refine fz_eq (tgt := 98) hx hb dX0_hottest_91 (by decide) fx_b (fun c_91 => ?_) (fun c_91 => ?_)
          · have hb2 : ft_bs2 N fn ab to i q b := ft_bs2_b c_86 hbst (by rw [e5] at c_91; omega)
            refine lv_iload_n hx hb dX0_hottest_98 rfl (lv_at hl 3 rfl) ?_
            exact j99 _ ls hb2 (lv_sub hl [1, 2, 3, 4] rfl)
          · have hb2 := ft_bs2_q hq2 hbst (Or.inr (by have c9 := Decidable.not_not.mp c_91; rw [e5] at c9; omega))
            refine lv_iload_n hx hb dX0_hottest_94 rfl (lv_at hl 4 rfl) ?_
            refine lv_goto (tgt := 99) hx hb dX0_hottest_95 (by decide) ?_
            exact j99 _ ls hb2 (lv_sub hl [1, 2, 3, 4] rfl)
      refine lv_aload_n hx hb dX0_hottest_33 rfl (lv_at hl 0 rfl) ?_
      refine fx_g0 (v := .ref (ad 7)) hx hb hts hown hK hP rfl 9 (by decide) q31 rfl rfl dX0_hottest_34 ?_
      refine lv_iload_n hx hb dX0_hottest_37 rfl (lv_at hl 3 rfl) ?_
      refine fx_ald (k := q) (v := nI (to q)) hx hb hK hP 7 rfl rfl (by omega) (by decide) rfl dX0_hottest_38 ?_
      refine lv_aload_n hx hb dX0_hottest_39 rfl (lv_at hl 0 rfl) ?_
      refine fx_g0 (v := .ref (ad 7)) hx hb hts hown hK hP rfl 9 (by decide) q31 rfl rfl dX0_hottest_40 ?_
      refine lv_iload_n hx hb dX0_hottest_43 rfl (lv_at hl 2 rfl) ?_
      refine fx_ald (k := b) (v := nI (to b)) hx hb hK hP 7 rfl rfl (by omega) (by decide) rfl dX0_hottest_44 ?_
      refine fx_gt (tgt := 78) hx hb dX0_hottest_45 (by decide) (nI_ltI (a := to b) (b := to q) (by omega) (by omega)) (fun c_45 => ?_) (fun c_45 => ?_)
      · refine lv_iconst (v := 1) hx hb dX0_hottest_78 (by decide) ?_
        refine lv_goto (tgt := 83) hx hb dX0_hottest_79 (by decide) ?_
        exact j83 _ (if_pos (by first | exact Or.inl c_45 | exact Or.inr ⟨c_60, c_75⟩)).symm
      · refine lv_aload_n hx hb dX0_hottest_48 rfl (lv_at hl 0 rfl) ?_
        refine fx_g0 (v := .ref (ad 7)) hx hb hts hown hK hP rfl 9 (by decide) q31 rfl rfl dX0_hottest_49 ?_
        refine lv_iload_n hx hb dX0_hottest_52 rfl (lv_at hl 3 rfl) ?_
        refine fx_ald (k := q) (v := nI (to q)) hx hb hK hP 7 rfl rfl (by omega) (by decide) rfl dX0_hottest_53 ?_
        refine lv_aload_n hx hb dX0_hottest_54 rfl (lv_at hl 0 rfl) ?_
        refine fx_g0 (v := .ref (ad 7)) hx hb hts hown hK hP rfl 9 (by decide) q31 rfl rfl dX0_hottest_55 ?_
        refine lv_iload_n hx hb dX0_hottest_58 rfl (lv_at hl 2 rfl) ?_
        refine fx_ald (k := b) (v := nI (to b)) hx hb hK hP 7 rfl rfl (by omega) (by decide) rfl dX0_hottest_59 ?_
        refine fx_ne (tgt := 82) hx hb dX0_hottest_60 (by decide) (nI_eq (a := to q) (b := to b) (by omega) (by omega)) (fun c_60 => ?_) (fun c_60 => ?_)
        · refine lv_iconst (v := 0) hx hb dX0_hottest_82 (by decide) ?_
          exact j83 _ (if_neg (fun z => z.elim c_45 (fun y => by first | exact c_60 y.1 | exact y.2 c_75))).symm
        · refine lv_aload_n hx hb dX0_hottest_63 rfl (lv_at hl 0 rfl) ?_
          refine fx_g0 (v := .ref (ad 2)) hx hb hts hown hK hP rfl 4 (by decide) q26 rfl rfl dX0_hottest_64 ?_
          refine lv_iload_n hx hb dX0_hottest_67 rfl (lv_at hl 3 rfl) ?_
          refine fx_ald (k := q) (v := ft_fi fn q) hx hb hK hP 2 rfl rfl (by omega) (by decide) rfl dX0_hottest_68 ?_
          refine lv_aload_n hx hb dX0_hottest_69 rfl (lv_at hl 0 rfl) ?_
          refine fx_g0 (v := .ref (ad 2)) hx hb hts hown hK hP rfl 4 (by decide) q26 rfl rfl dX0_hottest_70 ?_
          refine lv_iload_n hx hb dX0_hottest_73 rfl (lv_at hl 2 rfl) ?_
          refine fx_ald (k := b) (v := ft_fi fn b) hx hb hK hP 2 rfl rfl (by omega) (by decide) rfl dX0_hottest_74 ?_
          refine fx_ge (tgt := 82) hx hb dX0_hottest_75 (by decide) Iff.rfl (fun c_75 => ?_) (fun c_75 => ?_)
          · refine lv_iconst (v := 0) hx hb dX0_hottest_82 (by decide) ?_
            exact j83 _ (if_neg (fun z => z.elim c_45 (fun y => by first | exact c_60 y.1 | exact y.2 c_75))).symm
          · refine lv_iconst (v := 1) hx hb dX0_hottest_78 (by decide) ?_
            refine lv_goto (tgt := 83) hx hb dX0_hottest_79 (by decide) ?_
            exact j83 _ (if_pos (by first | exact Or.inl c_45 | exact Or.inr ⟨c_60, c_75⟩)).symm
set_option maxHeartbeats 4000000 in
set_option maxRecDepth 100000 in
theorem m0_hottest (l : Launch) (hSK : ft_SK d sk) (hSI : ft_SI ns pa ln wt) : Met l yX0_hottest (ws_ yX0_hottest cX0_hottest 5 (some .int)) fx_r2 (va_Pc [.ref (ad 0)] (ft_pre (ft_FT D cA ad d sk ns pa ln wt) D cA)) (vp_Si (fun r => (d = 8 → r = -1) ∧ (d < 8 → ∃ mo, ft_hot 8 (fun f => ft_tot ns pa ln wt (f :: ft_rp sk d)) r mo))) 0 0 (fun _ => False) := by
  refine fx_met (by decide) (Nat.le_of_ble_eq_true rfl) ?_
  intro p e s m below meth c ls C0 _ hB hl
  obtain ⟨⟨N, fn, ab, ch, si, ow, to, ps, hI, hP, hDD⟩, hK⟩ := hB
  have hT := hI.1
  have hR := hI.2.1
  have hV := hI.2.2.1
  have hWt := hI.2.2.2.1
  have hWo := hI.2.2.2.2.1
  have hN := ft_N_le hSI hI.2.2.2.2.2
  have hN1 := hT.1
  have hd8 := hSK.1
  have hsk := hSK.2
  have hlen := fun j (hj : j < N) => ft_len hV hR hSI hj
  have hto : ∀ j, to j ≤ 4000 := fun j => by
    by_cases z : j < N
    · rw [hWt.1 j z]; exact ft_tot_4000 hSI _
    · rw [hWt.2 j (by omega)]; exact Nat.zero_le _
  have how : ∀ j, ow j ≤ 4000 := fun j => by
    by_cases z : j < N
    · rw [hWo.1 j z]; exact ft_own_4000 hSI _
    · rw [hWo.2 j (by omega)]; exact Nat.zero_le _
  have C0 : fx_C cX0_hottest 5 RX0 (some .int) p s m _ meth c := C0
  obtain ⟨hx, hb, hml, hown, hts, hr, hlocks⟩ := id C0
  have hl : lv_has ls 5 [(0, .ref (ad 0))] := hl
  refine lv_aload_n hx hb dX0_hottest_0 rfl (lv_at hl 0 rfl) ?_
  refine fx_callV (As := []) (rest := []) (n := 0) C0 (m0_nodeOfStack l hT hR hN hSK) hP hK (va_recv hK hP (ci := 0) (q0 := 0) rfl rfl) (lw_V q81 q83 qs2 q12 q84) ⟨rfl, rfl⟩ (by decide +kernel) ⟨Nat.le_of_ble_eq_true rfl, Nat.le_of_ble_eq_true rfl⟩ rfl hl.1 rfl (Nat.le_of_ble_eq_true rfl) dX0_hottest_1 ⟨Nat.zero_le _, Nat.zero_le _⟩ (fun r hr => ?_)
  rcases hr with ⟨rfl, hno⟩ | ⟨j, hj, rfl, hpj⟩
  · refine lv_istore_n (lv' := [(1, .int (-1)), (0, .ref (ad 0))]) hx hb dX0_hottest_4 rfl hl (by decide) rfl (fun ls hl => ?_)
    refine lv_iload_n hx hb dX0_hottest_5 rfl (lv_at hl 0 rfl) ?_
    refine fz_lt (tgt := 18) hx hb dX0_hottest_6 (by decide) (by decide : (-1 : Int32) < 0 ↔ True) (fun c_6 => ?_) (fun c_6 => ?_)
    · refine lv_iconst (v := -1) hx hb dX0_hottest_18 (by decide) ?_
      exact fx_ri C0 dX0_hottest_19 ⟨fun _ => rfl, fun _ => ⟨0, Or.inl ⟨rfl, rfl, fun g _ => ft_tot_none hV (ft_nochild hT hR hno g)⟩⟩⟩
    · exact absurd trivial c_6
  · refine lv_istore_n (lv' := [(1, .int (nI j)), (0, .ref (ad 0))]) hx hb dX0_hottest_4 rfl hl (by decide) rfl (fun ls hl => ?_)
    refine lv_iload_n hx hb dX0_hottest_5 rfl (lv_at hl 0 rfl) ?_
    refine fz_lt (tgt := 18) hx hb dX0_hottest_6 (by decide) (fx_zn (n := j) (by omega)) (fun c_6 => ?_) (fun c_6 => ?_)
    · exact c_6.elim
    · refine lv_aload_n hx hb dX0_hottest_9 rfl (lv_at hl 1 rfl) ?_
      refine fx_g0 (v := .int (nI d)) hx hb hts hown hK hP rfl 0 (by decide) q22 rfl rfl dX0_hottest_10 ?_
      refine lv_bipush (v := nI 8) hx hb dX0_hottest_13 (by decide) ?_
      refine fx_ne (tgt := 20) hx hb dX0_hottest_15 (by decide) (nI_eq (a := d) (b := 8) (by omega) (by omega)) (fun c_15 => ?_) (fun c_15 => ?_)
      · refine lv_iconst (v := nI 0) hx hb dX0_hottest_20 (by decide) ?_
        refine lv_istore_n (lv' := [(2, .int (nI 0)), (1, .int (nI j)), (0, .ref (ad 0))]) hx hb dX0_hottest_21 rfl hl (by decide) rfl (fun ls hl => ?_)
        refine lv_aload_n hx hb dX0_hottest_22 rfl (lv_at hl 2 rfl) ?_
        refine fx_g0 (v := .ref (ad 4)) hx hb hts hown hK hP rfl 6 (by decide) q28 rfl rfl dX0_hottest_23 ?_
        refine lv_iload_n hx hb dX0_hottest_26 rfl (lv_at hl 1 rfl) ?_
        refine fx_ald (k := j) (v := nI (ch j)) hx hb hK hP 4 rfl rfl (by omega) (by decide) rfl dX0_hottest_27 ?_
        refine lv_istore_n (lv' := [(3, .int (nI (ch j))), (2, .int (nI 0)), (1, .int (nI j)), (0, .ref (ad 0))]) hx hb dX0_hottest_28 rfl hl (by decide) rfl (fun ls hl => ?_)
        have st := ft_start hT j
        exact m0_hottest_l C0 hK hP hSI hI hN (by omega) hto hj hpj (ch j + 1) (ch j) 0 (by omega) st.1 (Or.inl ⟨rfl, st.2⟩) ls (lv_sub hl [3, 2, 1, 0] rfl)
      · refine lv_iconst (v := -1) hx hb dX0_hottest_18 (by decide) ?_
        exact fx_ri C0 dX0_hottest_19 ⟨fun _ => rfl, fun z => absurd z (by omega)⟩
set_option maxHeartbeats 4000000 in
set_option maxRecDepth 100000 in
theorem m0_inclusive_l (C0 : fx_C cX0_inclusive 4 RX0 (some .int) p s m args meth c) (hK : va_K D vwCl [(cA, .int)] s) (hP : va_P D vwCl (ft_FW cA ad d ns N sk fn ab ch si ow to) s.heap) (hI : ft_FI N fn ab ch si ow to ps ns pa ln wt) (hN : N ≤ 321) (hlen : ∀ j, j < N → (ps j).length ≤ 8) {f : Nat} (hf : f ≤ 7) : ∀ (n i x : Nat), 1 ≤ i → i ≤ N → N - i < n → x = ft_sum i (fun j => if ft_new none f (ps j) = true then to j else 0) → ∀ ls : Array Slot, lv_has ls 4 [(0, .ref (ad 0)), (1, .int (nI f)), (2, .int (nI x)), (3, .int (nI i))] → fx_W p l e fx_r1 s m args below meth c (fun r => r = nI (ft_std ns pa ln wt none f)) (F0 m 13 ls []) := by
  obtain ⟨hx, hb, hml, hown, hts, hr, hlocks⟩ := id C0
  have hT := hI.1
  have hR := hI.2.1
  have hN1 := hT.1
  intro n
  induction n with
  | zero =>
    intro i x h0 h1 h2
    exact absurd h2 (by omega)
  | succ n ih =>
    intro i x hi1 hi hn hxs ls hl
    refine lv_iload_n hx hb dX0_inclusive_13 rfl (lv_at hl 3 rfl) ?_
    refine lv_aload_n hx hb dX0_inclusive_14 rfl (lv_at hl 0 rfl) ?_
    refine fx_g0 (v := .int (nI N)) hx hb hts hown hK hP rfl 3 (by decide) q25 rfl rfl dX0_inclusive_15 ?_
    refine fx_ge (tgt := 60) hx hb dX0_inclusive_18 (by decide) (nI_leI (a := N) (b := i) (by omega) (by omega)) (fun c_18 => ?_) (fun c_18 => ?_)
    · refine lv_iload_n hx hb dX0_inclusive_60 rfl (lv_at hl 2 rfl) ?_
      exact fx_ri C0 dX0_inclusive_61 (by rw [hxs, (by omega : i = N)]; exact congrArg nI (ft_law_std hI none f))
    · have b7 := hT.2.1 i hi1 (by omega)
      have ep := hR.2.1 i hi1 (by omega)
      refine lv_iload_n hx hb dX0_inclusive_21 rfl (lv_at hl 2 rfl) ?_
      refine lv_aload_n hx hb dX0_inclusive_22 rfl (lv_at hl 0 rfl) ?_
      refine fx_g0 (v := .ref (ad 2)) hx hb hts hown hK hP rfl 4 (by decide) q26 rfl rfl dX0_inclusive_23 ?_
      refine lv_iload_n hx hb dX0_inclusive_26 rfl (lv_at hl 3 rfl) ?_
      refine fx_ald (k := i) (v := nI (fn i)) hx hb hK hP 2 rfl rfl (by omega) (by decide) (ft_fi_p hi1) dX0_inclusive_27 ?_
      refine lv_iload_n hx hb dX0_inclusive_28 rfl (lv_at hl 1 rfl) ?_
      refine fx_ne (tgt := 51) hx hb dX0_inclusive_29 (by decide) (nI_eq (a := fn i) (b := f) (by omega) (by omega)) (fun c_29 => ?_) (fun c_29 => ?_)
      · have g0 : (fun j => if ft_new none f (ps j) = true then to j else 0) i = 0 := if_neg (by rw [ep]; simp [ft_new, c_29])
        refine lv_iconst (v := nI 0) hx hb dX0_inclusive_51 (by decide) ?_
        refine fx_add (v := nI (x + 0)) hx hb dX0_inclusive_52 (nI_add _ _) ?_
        refine lv_istore_n (lv' := [(2, .int (nI (x + 0))), (0, .ref (ad 0)), (1, .int (nI f)), (3, .int (nI i))]) hx hb dX0_inclusive_53 rfl hl (by decide) rfl (fun ls hl => ?_)
        refine fx_inc (v := nI (i + 1)) (lv' := [(3, .int (nI (i + 1))), (2, .int (nI (x + 0))), (0, .ref (ad 0)), (1, .int (nI f))]) (k0 := 3) hx hb dX0_inclusive_54 hl rfl (nI_1 _) (by decide) rfl (fun ls hl => ?_)
        refine lv_goto (tgt := 13) hx hb dX0_inclusive_57 (by decide) ?_
        exact ih (i + 1) _ (by omega) (by omega) (by omega) (ft_sum_t hxs g0) ls (lv_sub hl [2, 3, 1, 0] rfl)
      · refine lv_aload_n hx hb dX0_inclusive_32 rfl (lv_at hl 0 rfl) ?_
        refine lv_iload_n hx hb dX0_inclusive_33 rfl (lv_at hl 3 rfl) ?_
        refine lv_iconst (v := ft_ci none) hx hb dX0_inclusive_34 (by decide) ?_
        refine lv_iload_n hx hb dX0_inclusive_35 rfl (lv_at hl 1 rfl) ?_
        refine fx_callV (As := [.int (nI i), .int (ft_ci none), .int (nI f)]) (rest := [.int (nI x)]) (n := 3) C0 (m0_standsAbove l hT hR hN hlen (q0 := i) (f := f) (cN := none) hi1 (by omega) hf (fun k z => by cases z)) hP hK (va_recv hK hP (ci := 0) (q0 := 0) rfl rfl) (lw_V q97 q99 qs3 q12 q100) ⟨rfl, rfl⟩ (by decide +kernel) ⟨Nat.le_of_ble_eq_true rfl, Nat.le_of_ble_eq_true rfl⟩ rfl hl.1 rfl (Nat.le_of_ble_eq_true rfl) dX0_inclusive_36 ⟨Nat.zero_le _, Nat.zero_le _⟩ (fun r hr => ?_)
        subst hr
        refine fz_ne (tgt := 51) hx hb dX0_inclusive_39 (by decide) fx_b (fun c_39 => ?_) (fun c_39 => ?_)
        · have g0 : (fun j => if ft_new none f (ps j) = true then to j else 0) i = 0 := if_neg (by rw [ep]; simp [ft_new, Decidable.not_not.mp c_39])
          refine lv_iconst (v := nI 0) hx hb dX0_inclusive_51 (by decide) ?_
          refine fx_add (v := nI (x + 0)) hx hb dX0_inclusive_52 (nI_add _ _) ?_
          refine lv_istore_n (lv' := [(2, .int (nI (x + 0))), (0, .ref (ad 0)), (1, .int (nI f)), (3, .int (nI i))]) hx hb dX0_inclusive_53 rfl hl (by decide) rfl (fun ls hl => ?_)
          refine fx_inc (v := nI (i + 1)) (lv' := [(3, .int (nI (i + 1))), (2, .int (nI (x + 0))), (0, .ref (ad 0)), (1, .int (nI f))]) (k0 := 3) hx hb dX0_inclusive_54 hl rfl (nI_1 _) (by decide) rfl (fun ls hl => ?_)
          refine lv_goto (tgt := 13) hx hb dX0_inclusive_57 (by decide) ?_
          exact ih (i + 1) _ (by omega) (by omega) (by omega) (ft_sum_t hxs g0) ls (lv_sub hl [2, 3, 1, 0] rfl)
        · have g0 : (fun j => if ft_new none f (ps j) = true then to j else 0) i = to i := if_pos (by rw [ep]; simp [ft_new, ft_be, c_29, c_39])
          refine lv_aload_n hx hb dX0_inclusive_42 rfl (lv_at hl 0 rfl) ?_
          refine fx_g0 (v := .ref (ad 7)) hx hb hts hown hK hP rfl 9 (by decide) q31 rfl rfl dX0_inclusive_43 ?_
          refine lv_iload_n hx hb dX0_inclusive_46 rfl (lv_at hl 3 rfl) ?_
          refine fx_ald (k := i) (v := nI (to i)) hx hb hK hP 7 rfl rfl (by omega) (by decide) rfl dX0_inclusive_47 ?_
          refine lv_goto (tgt := 52) hx hb dX0_inclusive_48 (by decide) ?_
          refine fx_add (v := nI (x + (to i))) hx hb dX0_inclusive_52 (nI_add _ _) ?_
          refine lv_istore_n (lv' := [(2, .int (nI (x + (to i)))), (0, .ref (ad 0)), (1, .int (nI f)), (3, .int (nI i))]) hx hb dX0_inclusive_53 rfl hl (by decide) rfl (fun ls hl => ?_)
          refine fx_inc (v := nI (i + 1)) (lv' := [(3, .int (nI (i + 1))), (2, .int (nI (x + (to i)))), (0, .ref (ad 0)), (1, .int (nI f))]) (k0 := 3) hx hb dX0_inclusive_54 hl rfl (nI_1 _) (by decide) rfl (fun ls hl => ?_)
          refine lv_goto (tgt := 13) hx hb dX0_inclusive_57 (by decide) ?_
          exact ih (i + 1) _ (by omega) (by omega) (by omega) (ft_sum_t hxs g0) ls (lv_sub hl [2, 3, 1, 0] rfl)
set_option maxHeartbeats 4000000 in
set_option maxRecDepth 100000 in
theorem m0_inclusive (l : Launch) (hSK : ft_SK d sk) (hSI : ft_SI ns pa ln wt) {f : Nat} (hf : f ≤ 7) : Met l yX0_inclusive (ws_ yX0_inclusive cX0_inclusive 4 (some .int)) fx_r1 (va_Pc [.ref (ad 0), .int (nI f)] (ft_pre (ft_FT D cA ad d sk ns pa ln wt) D cA)) (vp_Si (fun r => r = nI (ft_std ns pa ln wt none f))) 0 0 (fun _ => False) := by
  refine fx_met (by decide) (Nat.le_of_ble_eq_true rfl) ?_
  intro p e s m below meth c ls C0 _ hB hl
  obtain ⟨⟨N, fn, ab, ch, si, ow, to, ps, hI, hP, hDD⟩, hK⟩ := hB
  have hT := hI.1
  have hR := hI.2.1
  have hV := hI.2.2.1
  have hWt := hI.2.2.2.1
  have hWo := hI.2.2.2.2.1
  have hN := ft_N_le hSI hI.2.2.2.2.2
  have hN1 := hT.1
  have hd8 := hSK.1
  have hsk := hSK.2
  have hlen := fun j (hj : j < N) => ft_len hV hR hSI hj
  have hto : ∀ j, to j ≤ 4000 := fun j => by
    by_cases z : j < N
    · rw [hWt.1 j z]; exact ft_tot_4000 hSI _
    · rw [hWt.2 j (by omega)]; exact Nat.zero_le _
  have how : ∀ j, ow j ≤ 4000 := fun j => by
    by_cases z : j < N
    · rw [hWo.1 j z]; exact ft_own_4000 hSI _
    · rw [hWo.2 j (by omega)]; exact Nat.zero_le _
  have C0 : fx_C cX0_inclusive 4 RX0 (some .int) p s m _ meth c := C0
  obtain ⟨hx, hb, hml, hown, hts, hr, hlocks⟩ := id C0
  have hl : lv_has ls 4 [(0, .ref (ad 0)), (1, .int (nI f))] := hl
  refine lv_iload_n hx hb dX0_inclusive_0 rfl (lv_at hl 1 rfl) ?_
  refine fx_callS (As := [.int (nI f)]) (rest := []) (n := 1) C0 (m0_isFunction l (nI f)) (lw_S q58 q59 q12 q60) ⟨rfl, rfl⟩ (by decide +kernel) ⟨Nat.le_of_ble_eq_true rfl, Nat.le_of_ble_eq_true rfl⟩ rfl hl.1 rfl (Nat.le_of_ble_eq_true rfl) dX0_inclusive_1 ⟨Nat.zero_le _, Nat.zero_le _⟩ (fun r hr => ?_)
  subst hr
  refine fz_ne (tgt := 9) hx hb dX0_inclusive_4 (by decide) fx_b (fun c_4 => ?_) (fun c_4 => ?_)
  · refine lv_iconst (v := nI 0) hx hb dX0_inclusive_9 (by decide) ?_
    refine lv_istore_n (lv' := [(2, .int (nI 0)), (0, .ref (ad 0)), (1, .int (nI f))]) hx hb dX0_inclusive_10 rfl hl (by decide) rfl (fun ls hl => ?_)
    refine lv_iconst (v := nI 1) hx hb dX0_inclusive_11 (by decide) ?_
    refine lv_istore_n (lv' := [(3, .int (nI 1)), (2, .int (nI 0)), (0, .ref (ad 0)), (1, .int (nI f))]) hx hb dX0_inclusive_12 rfl hl (by decide) rfl (fun ls hl => ?_)
    exact m0_inclusive_l C0 hK hP hI hN hlen hf (N + 1) 1 0 (by omega) (by omega) (by omega) (by show 0 = 0 + (fun j => if ft_new none f (ps j) = true then to j else 0) 0; rw [Nat.zero_add]; exact (if_neg (by rw [hR.1]; simp [ft_new])).symm) ls (lv_sub hl [2, 3, 1, 0] rfl)
  · exact absurd (fx_i7 hf) c_4
set_option maxHeartbeats 4000000 in
set_option maxRecDepth 100000 in
theorem m0_inclusive0 (l : Launch) (hSK : ft_SK d sk) (hSI : ft_SI ns pa ln wt) {f : Int32} (hf : ¬ (0 ≤ f ∧ f ≤ 7)) : Met l yX0_inclusive (ws_ yX0_inclusive cX0_inclusive 4 (some .int)) fx_r1 (va_Pc [.ref (ad 0), .int f] (ft_pre (ft_FT D cA ad d sk ns pa ln wt) D cA)) (vp_Si (fun r => r = -1)) 0 0 (fun _ => False) := by
  refine fx_met (by decide) (Nat.le_of_ble_eq_true rfl) ?_
  intro p e s m below meth c ls C0 _ hB hl
  obtain ⟨⟨N, fn, ab, ch, si, ow, to, ps, hI, hP, hDD⟩, hK⟩ := hB
  have hT := hI.1
  have hR := hI.2.1
  have hV := hI.2.2.1
  have hWt := hI.2.2.2.1
  have hWo := hI.2.2.2.2.1
  have hN := ft_N_le hSI hI.2.2.2.2.2
  have hN1 := hT.1
  have hd8 := hSK.1
  have hsk := hSK.2
  have hlen := fun j (hj : j < N) => ft_len hV hR hSI hj
  have hto : ∀ j, to j ≤ 4000 := fun j => by
    by_cases z : j < N
    · rw [hWt.1 j z]; exact ft_tot_4000 hSI _
    · rw [hWt.2 j (by omega)]; exact Nat.zero_le _
  have how : ∀ j, ow j ≤ 4000 := fun j => by
    by_cases z : j < N
    · rw [hWo.1 j z]; exact ft_own_4000 hSI _
    · rw [hWo.2 j (by omega)]; exact Nat.zero_le _
  have C0 : fx_C cX0_inclusive 4 RX0 (some .int) p s m _ meth c := C0
  obtain ⟨hx, hb, hml, hown, hts, hr, hlocks⟩ := id C0
  have hl : lv_has ls 4 [(0, .ref (ad 0)), (1, .int f)] := hl
  refine lv_iload_n hx hb dX0_inclusive_0 rfl (lv_at hl 1 rfl) ?_
  refine fx_callS (As := [.int f]) (rest := []) (n := 1) C0 (m0_isFunction l f) (lw_S q58 q59 q12 q60) ⟨rfl, rfl⟩ (by decide +kernel) ⟨Nat.le_of_ble_eq_true rfl, Nat.le_of_ble_eq_true rfl⟩ rfl hl.1 rfl (Nat.le_of_ble_eq_true rfl) dX0_inclusive_1 ⟨Nat.zero_le _, Nat.zero_le _⟩ (fun r hr => ?_)
  subst hr
  refine fz_ne (tgt := 9) hx hb dX0_inclusive_4 (by decide) fx_b (fun c_4 => ?_) (fun c_4 => ?_)
  · exact absurd (Decidable.not_not.mp c_4) hf
  · refine lv_iconst (v := -1) hx hb dX0_inclusive_7 (by decide) ?_
    exact fx_ri C0 dX0_inclusive_8 rfl
set_option maxHeartbeats 4000000 in
set_option maxRecDepth 100000 in
theorem m0_exclusive_l (C0 : fx_C cX0_exclusive 4 RX0 (some .int) p s m args meth c) (hK : va_K D vwCl [(cA, .int)] s) (hP : va_P D vwCl (ft_FW cA ad d ns N sk fn ab ch si ow to) s.heap) (hI : ft_FI N fn ab ch si ow to ps ns pa ln wt) (hN : N ≤ 321) (hlen : ∀ j, j < N → (ps j).length ≤ 8) {f : Nat} (hf : f ≤ 7) : ∀ (n i x : Nat), 1 ≤ i → i ≤ N → N - i < n → x = ft_sum i (fun j => if 1 ≤ j ∧ fn j = f then ow j else 0) → ∀ ls : Array Slot, lv_has ls 4 [(0, .ref (ad 0)), (1, .int (nI f)), (2, .int (nI x)), (3, .int (nI i))] → fx_W p l e fx_r1 s m args below meth c (fun r => r = nI (ft_exc ns pa ln wt f)) (F0 m 13 ls []) := by
  obtain ⟨hx, hb, hml, hown, hts, hr, hlocks⟩ := id C0
  have hT := hI.1
  have hR := hI.2.1
  have hN1 := hT.1
  intro n
  induction n with
  | zero =>
    intro i x h0 h1 h2
    exact absurd h2 (by omega)
  | succ n ih =>
    intro i x hi1 hi hn hxs ls hl
    refine lv_iload_n hx hb dX0_exclusive_13 rfl (lv_at hl 3 rfl) ?_
    refine lv_aload_n hx hb dX0_exclusive_14 rfl (lv_at hl 0 rfl) ?_
    refine fx_g0 (v := .int (nI N)) hx hb hts hown hK hP rfl 3 (by decide) q25 rfl rfl dX0_exclusive_15 ?_
    refine fx_ge (tgt := 50) hx hb dX0_exclusive_18 (by decide) (nI_leI (a := N) (b := i) (by omega) (by omega)) (fun c_18 => ?_) (fun c_18 => ?_)
    · refine lv_iload_n hx hb dX0_exclusive_50 rfl (lv_at hl 2 rfl) ?_
      exact fx_ri C0 dX0_exclusive_51 (by rw [hxs, (by omega : i = N)]; exact congrArg nI (ft_law_exc hI f))
    · have b7 := hT.2.1 i hi1 (by omega)
      refine lv_iload_n hx hb dX0_exclusive_21 rfl (lv_at hl 2 rfl) ?_
      refine lv_aload_n hx hb dX0_exclusive_22 rfl (lv_at hl 0 rfl) ?_
      refine fx_g0 (v := .ref (ad 2)) hx hb hts hown hK hP rfl 4 (by decide) q26 rfl rfl dX0_exclusive_23 ?_
      refine lv_iload_n hx hb dX0_exclusive_26 rfl (lv_at hl 3 rfl) ?_
      refine fx_ald (k := i) (v := nI (fn i)) hx hb hK hP 2 rfl rfl (by omega) (by decide) (ft_fi_p hi1) dX0_exclusive_27 ?_
      refine lv_iload_n hx hb dX0_exclusive_28 rfl (lv_at hl 1 rfl) ?_
      refine fx_ne (tgt := 41) hx hb dX0_exclusive_29 (by decide) (nI_eq (a := fn i) (b := f) (by omega) (by omega)) (fun c_29 => ?_) (fun c_29 => ?_)
      · have g0 : (fun j => if 1 ≤ j ∧ fn j = f then ow j else 0) i = 0 := if_neg (fun z => c_29 z.2)
        refine lv_iconst (v := nI 0) hx hb dX0_exclusive_41 (by decide) ?_
        refine fx_add (v := nI (x + 0)) hx hb dX0_exclusive_42 (nI_add _ _) ?_
        refine lv_istore_n (lv' := [(2, .int (nI (x + 0))), (0, .ref (ad 0)), (1, .int (nI f)), (3, .int (nI i))]) hx hb dX0_exclusive_43 rfl hl (by decide) rfl (fun ls hl => ?_)
        refine fx_inc (v := nI (i + 1)) (lv' := [(3, .int (nI (i + 1))), (2, .int (nI (x + 0))), (0, .ref (ad 0)), (1, .int (nI f))]) (k0 := 3) hx hb dX0_exclusive_44 hl rfl (nI_1 _) (by decide) rfl (fun ls hl => ?_)
        refine lv_goto (tgt := 13) hx hb dX0_exclusive_47 (by decide) ?_
        exact ih (i + 1) _ (by omega) (by omega) (by omega) (ft_sum_t hxs g0) ls (lv_sub hl [2, 3, 1, 0] rfl)
      · have g0 : (fun j => if 1 ≤ j ∧ fn j = f then ow j else 0) i = ow i := if_pos ⟨hi1, c_29⟩
        refine lv_aload_n hx hb dX0_exclusive_32 rfl (lv_at hl 0 rfl) ?_
        refine fx_g0 (v := .ref (ad 6)) hx hb hts hown hK hP rfl 8 (by decide) q30 rfl rfl dX0_exclusive_33 ?_
        refine lv_iload_n hx hb dX0_exclusive_36 rfl (lv_at hl 3 rfl) ?_
        refine fx_ald (k := i) (v := nI (ow i)) hx hb hK hP 6 rfl rfl (by omega) (by decide) rfl dX0_exclusive_37 ?_
        refine lv_goto (tgt := 42) hx hb dX0_exclusive_38 (by decide) ?_
        refine fx_add (v := nI (x + (ow i))) hx hb dX0_exclusive_42 (nI_add _ _) ?_
        refine lv_istore_n (lv' := [(2, .int (nI (x + (ow i)))), (0, .ref (ad 0)), (1, .int (nI f)), (3, .int (nI i))]) hx hb dX0_exclusive_43 rfl hl (by decide) rfl (fun ls hl => ?_)
        refine fx_inc (v := nI (i + 1)) (lv' := [(3, .int (nI (i + 1))), (2, .int (nI (x + (ow i)))), (0, .ref (ad 0)), (1, .int (nI f))]) (k0 := 3) hx hb dX0_exclusive_44 hl rfl (nI_1 _) (by decide) rfl (fun ls hl => ?_)
        refine lv_goto (tgt := 13) hx hb dX0_exclusive_47 (by decide) ?_
        exact ih (i + 1) _ (by omega) (by omega) (by omega) (ft_sum_t hxs g0) ls (lv_sub hl [2, 3, 1, 0] rfl)
set_option maxHeartbeats 4000000 in
set_option maxRecDepth 100000 in
theorem m0_exclusive (l : Launch) (hSK : ft_SK d sk) (hSI : ft_SI ns pa ln wt) {f : Nat} (hf : f ≤ 7) : Met l yX0_exclusive (ws_ yX0_exclusive cX0_exclusive 4 (some .int)) fx_r1 (va_Pc [.ref (ad 0), .int (nI f)] (ft_pre (ft_FT D cA ad d sk ns pa ln wt) D cA)) (vp_Si (fun r => r = nI (ft_exc ns pa ln wt f))) 0 0 (fun _ => False) := by
  refine fx_met (by decide) (Nat.le_of_ble_eq_true rfl) ?_
  intro p e s m below meth c ls C0 _ hB hl
  obtain ⟨⟨N, fn, ab, ch, si, ow, to, ps, hI, hP, hDD⟩, hK⟩ := hB
  have hT := hI.1
  have hR := hI.2.1
  have hV := hI.2.2.1
  have hWt := hI.2.2.2.1
  have hWo := hI.2.2.2.2.1
  have hN := ft_N_le hSI hI.2.2.2.2.2
  have hN1 := hT.1
  have hd8 := hSK.1
  have hsk := hSK.2
  have hlen := fun j (hj : j < N) => ft_len hV hR hSI hj
  have hto : ∀ j, to j ≤ 4000 := fun j => by
    by_cases z : j < N
    · rw [hWt.1 j z]; exact ft_tot_4000 hSI _
    · rw [hWt.2 j (by omega)]; exact Nat.zero_le _
  have how : ∀ j, ow j ≤ 4000 := fun j => by
    by_cases z : j < N
    · rw [hWo.1 j z]; exact ft_own_4000 hSI _
    · rw [hWo.2 j (by omega)]; exact Nat.zero_le _
  have C0 : fx_C cX0_exclusive 4 RX0 (some .int) p s m _ meth c := C0
  obtain ⟨hx, hb, hml, hown, hts, hr, hlocks⟩ := id C0
  have hl : lv_has ls 4 [(0, .ref (ad 0)), (1, .int (nI f))] := hl
  refine lv_iload_n hx hb dX0_exclusive_0 rfl (lv_at hl 1 rfl) ?_
  refine fx_callS (As := [.int (nI f)]) (rest := []) (n := 1) C0 (m0_isFunction l (nI f)) (lw_S q58 q59 q12 q60) ⟨rfl, rfl⟩ (by decide +kernel) ⟨Nat.le_of_ble_eq_true rfl, Nat.le_of_ble_eq_true rfl⟩ rfl hl.1 rfl (Nat.le_of_ble_eq_true rfl) dX0_exclusive_1 ⟨Nat.zero_le _, Nat.zero_le _⟩ (fun r hr => ?_)
  subst hr
  refine fz_ne (tgt := 9) hx hb dX0_exclusive_4 (by decide) fx_b (fun c_4 => ?_) (fun c_4 => ?_)
  · refine lv_iconst (v := nI 0) hx hb dX0_exclusive_9 (by decide) ?_
    refine lv_istore_n (lv' := [(2, .int (nI 0)), (0, .ref (ad 0)), (1, .int (nI f))]) hx hb dX0_exclusive_10 rfl hl (by decide) rfl (fun ls hl => ?_)
    refine lv_iconst (v := nI 1) hx hb dX0_exclusive_11 (by decide) ?_
    refine lv_istore_n (lv' := [(3, .int (nI 1)), (2, .int (nI 0)), (0, .ref (ad 0)), (1, .int (nI f))]) hx hb dX0_exclusive_12 rfl hl (by decide) rfl (fun ls hl => ?_)
    exact m0_exclusive_l C0 hK hP hI hN hlen hf (N + 1) 1 0 (by omega) (by omega) (by omega) rfl ls (lv_sub hl [2, 3, 1, 0] rfl)
  · exact absurd (fx_i7 hf) c_4
set_option maxHeartbeats 4000000 in
set_option maxRecDepth 100000 in
theorem m0_exclusive0 (l : Launch) (hSK : ft_SK d sk) (hSI : ft_SI ns pa ln wt) {f : Int32} (hf : ¬ (0 ≤ f ∧ f ≤ 7)) : Met l yX0_exclusive (ws_ yX0_exclusive cX0_exclusive 4 (some .int)) fx_r1 (va_Pc [.ref (ad 0), .int f] (ft_pre (ft_FT D cA ad d sk ns pa ln wt) D cA)) (vp_Si (fun r => r = -1)) 0 0 (fun _ => False) := by
  refine fx_met (by decide) (Nat.le_of_ble_eq_true rfl) ?_
  intro p e s m below meth c ls C0 _ hB hl
  obtain ⟨⟨N, fn, ab, ch, si, ow, to, ps, hI, hP, hDD⟩, hK⟩ := hB
  have hT := hI.1
  have hR := hI.2.1
  have hV := hI.2.2.1
  have hWt := hI.2.2.2.1
  have hWo := hI.2.2.2.2.1
  have hN := ft_N_le hSI hI.2.2.2.2.2
  have hN1 := hT.1
  have hd8 := hSK.1
  have hsk := hSK.2
  have hlen := fun j (hj : j < N) => ft_len hV hR hSI hj
  have hto : ∀ j, to j ≤ 4000 := fun j => by
    by_cases z : j < N
    · rw [hWt.1 j z]; exact ft_tot_4000 hSI _
    · rw [hWt.2 j (by omega)]; exact Nat.zero_le _
  have how : ∀ j, ow j ≤ 4000 := fun j => by
    by_cases z : j < N
    · rw [hWo.1 j z]; exact ft_own_4000 hSI _
    · rw [hWo.2 j (by omega)]; exact Nat.zero_le _
  have C0 : fx_C cX0_exclusive 4 RX0 (some .int) p s m _ meth c := C0
  obtain ⟨hx, hb, hml, hown, hts, hr, hlocks⟩ := id C0
  have hl : lv_has ls 4 [(0, .ref (ad 0)), (1, .int f)] := hl
  refine lv_iload_n hx hb dX0_exclusive_0 rfl (lv_at hl 1 rfl) ?_
  refine fx_callS (As := [.int f]) (rest := []) (n := 1) C0 (m0_isFunction l f) (lw_S q58 q59 q12 q60) ⟨rfl, rfl⟩ (by decide +kernel) ⟨Nat.le_of_ble_eq_true rfl, Nat.le_of_ble_eq_true rfl⟩ rfl hl.1 rfl (Nat.le_of_ble_eq_true rfl) dX0_exclusive_1 ⟨Nat.zero_le _, Nat.zero_le _⟩ (fun r hr => ?_)
  subst hr
  refine fz_ne (tgt := 9) hx hb dX0_exclusive_4 (by decide) fx_b (fun c_4 => ?_) (fun c_4 => ?_)
  · exact absurd (Decidable.not_not.mp c_4) hf
  · refine lv_iconst (v := -1) hx hb dX0_exclusive_7 (by decide) ?_
    exact fx_ri C0 dX0_exclusive_8 rfl
set_option maxHeartbeats 4000000 in
set_option maxRecDepth 100000 in
theorem m0_edge_l (C0 : fx_C cX0_edge 6 RX0 (some .int) p s m args meth c) (hK : va_K D vwCl [(cA, .int)] s) (hP : va_P D vwCl (ft_FW cA ad d ns N sk fn ab ch si ow to) s.heap) (hI : ft_FI N fn ab ch si ow to ps ns pa ln wt) (hN : N ≤ 321) (hlen : ∀ j, j < N → (ps j).length ≤ 8) {a f : Nat} (ha : a ≤ 7) (hf : f ≤ 7) : ∀ (n i x : Nat), 1 ≤ i → i ≤ N → N - i < n → x = ft_sum i (fun j => if ft_new (some a) f (ps j) = true then to j else 0) → ∀ ls : Array Slot, lv_has ls 6 [(0, .ref (ad 0)), (1, .int (nI a)), (2, .int (nI f)), (3, .int (nI x)), (4, .int (nI i))] → fx_W p l e fx_r1 s m args below meth c (fun r => r = nI (ft_std ns pa ln wt (some a) f)) (F0 m 21 ls []) := by
  obtain ⟨hx, hb, hml, hown, hts, hr, hlocks⟩ := id C0
  have hT := hI.1
  have hR := hI.2.1
  have hN1 := hT.1
  intro n
  induction n with
  | zero =>
    intro i x h0 h1 h2
    exact absurd h2 (by omega)
  | succ n ih =>
    intro i x hi1 hi hn hxs ls hl
    refine lv_iload hx hb dX0_edge_21 (lv_at hl 4 rfl) ?_
    refine lv_aload_n hx hb dX0_edge_23 rfl (lv_at hl 0 rfl) ?_
    refine fx_g0 (v := .int (nI N)) hx hb hts hown hK hP rfl 3 (by decide) q25 rfl rfl dX0_edge_24 ?_
    refine fx_ge (tgt := 100) hx hb dX0_edge_27 (by decide) (nI_leI (a := N) (b := i) (by omega) (by omega)) (fun c_27 => ?_) (fun c_27 => ?_)
    · refine lv_iload_n hx hb dX0_edge_100 rfl (lv_at hl 3 rfl) ?_
      exact fx_ri C0 dX0_edge_101 (by rw [hxs, (by omega : i = N)]; exact congrArg nI (ft_law_std hI (some a) f))
    · have b7 := hT.2.1 i hi1 (by omega)
      have ep := hR.2.1 i hi1 (by omega)
      have j62 : ∀ z : Int32, z = (if (fn i = f ∧ ft_be (some a) (ps (ab i)) = true) then 1 else 0) → fx_W p l e fx_r1 s m args below meth c (fun r => r = nI (ft_std ns pa ln wt (some a) f)) (F0 m 62 ls [.int z]) := by
        intro z hz
        subst hz
        refine lv_istore (lv' := [(5, .int ((if (fn i = f ∧ ft_be (some a) (ps (ab i)) = true) then 1 else 0))), (0, .ref (ad 0)), (1, .int (nI a)), (2, .int (nI f)), (3, .int (nI x)), (4, .int (nI i))]) hx hb dX0_edge_62 hl (by decide) rfl (fun ls hl => ?_)
        refine lv_iload_n hx hb dX0_edge_64 rfl (lv_at hl 4 rfl) ?_
        refine lv_iload hx hb dX0_edge_65 (lv_at hl 0 rfl) ?_
        refine fz_eq (tgt := 91) hx hb dX0_edge_67 (by decide) fx_b (fun c_67 => ?_) (fun c_67 => ?_)
        · have g0 : (fun j => if ft_new (some a) f (ps j) = true then to j else 0) i = 0 := if_neg (by rw [ep]; intro z; simp [ft_new] at z; exact c_67 z.1)
          refine lv_iconst (v := nI 0) hx hb dX0_edge_91 (by decide) ?_
          refine fx_add (v := nI (x + 0)) hx hb dX0_edge_92 (nI_add _ _) ?_
          refine lv_istore_n (lv' := [(3, .int (nI (x + 0))), (5, .int ((if (fn i = f ∧ ft_be (some a) (ps (ab i)) = true) then 1 else 0))), (0, .ref (ad 0)), (1, .int (nI a)), (2, .int (nI f)), (4, .int (nI i))]) hx hb dX0_edge_93 rfl hl (by decide) rfl (fun ls hl => ?_)
          refine fx_inc (v := nI (i + 1)) (lv' := [(4, .int (nI (i + 1))), (3, .int (nI (x + 0))), (5, .int ((if (fn i = f ∧ ft_be (some a) (ps (ab i)) = true) then 1 else 0))), (0, .ref (ad 0)), (1, .int (nI a)), (2, .int (nI f))]) (k0 := 5) hx hb dX0_edge_94 hl rfl (nI_1 _) (by decide) rfl (fun ls hl => ?_)
          refine lv_goto (tgt := 21) hx hb dX0_edge_97 (by decide) ?_
          exact ih (i + 1) _ (by omega) (by omega) (by omega) (ft_sum_t hxs g0) ls (lv_sub hl [3, 4, 5, 1, 0] rfl)
        · refine lv_aload_n hx hb dX0_edge_70 rfl (lv_at hl 1 rfl) ?_
          refine lv_iload hx hb dX0_edge_71 (lv_at hl 5 rfl) ?_
          refine lv_iload_n hx hb dX0_edge_73 rfl (lv_at hl 2 rfl) ?_
          refine lv_iload_n hx hb dX0_edge_74 rfl (lv_at hl 3 rfl) ?_
          refine fx_callV (As := [.int (nI i), .int (nI a), .int (nI f)]) (rest := [.int (nI x)]) (n := 3) C0 (m0_standsAbove l hT hR hN hlen (q0 := i) (f := f) (cN := some a) hi1 (by omega) hf (fun k z => by cases z; exact ha)) hP hK (va_recv hK hP (ci := 0) (q0 := 0) rfl rfl) (lw_V q97 q99 qs3 q12 q100) ⟨rfl, rfl⟩ (by decide +kernel) ⟨Nat.le_of_ble_eq_true rfl, Nat.le_of_ble_eq_true rfl⟩ rfl hl.1 rfl (Nat.le_of_ble_eq_true rfl) dX0_edge_75 ⟨Nat.zero_le _, Nat.zero_le _⟩ (fun r hr => ?_)
          subst hr
          refine fz_ne (tgt := 91) hx hb dX0_edge_78 (by decide) fx_b (fun c_78 => ?_) (fun c_78 => ?_)
          · have g0 : (fun j => if ft_new (some a) f (ps j) = true then to j else 0) i = 0 := if_neg (by rw [ep]; simp [ft_new, Decidable.not_not.mp c_78])
            refine lv_iconst (v := nI 0) hx hb dX0_edge_91 (by decide) ?_
            refine fx_add (v := nI (x + 0)) hx hb dX0_edge_92 (nI_add _ _) ?_
            refine lv_istore_n (lv' := [(3, .int (nI (x + 0))), (5, .int ((if (fn i = f ∧ ft_be (some a) (ps (ab i)) = true) then 1 else 0))), (0, .ref (ad 0)), (1, .int (nI a)), (2, .int (nI f)), (4, .int (nI i))]) hx hb dX0_edge_93 rfl hl (by decide) rfl (fun ls hl => ?_)
            refine fx_inc (v := nI (i + 1)) (lv' := [(4, .int (nI (i + 1))), (3, .int (nI (x + 0))), (5, .int ((if (fn i = f ∧ ft_be (some a) (ps (ab i)) = true) then 1 else 0))), (0, .ref (ad 0)), (1, .int (nI a)), (2, .int (nI f))]) (k0 := 5) hx hb dX0_edge_94 hl rfl (nI_1 _) (by decide) rfl (fun ls hl => ?_)
            refine lv_goto (tgt := 21) hx hb dX0_edge_97 (by decide) ?_
            exact ih (i + 1) _ (by omega) (by omega) (by omega) (ft_sum_t hxs g0) ls (lv_sub hl [3, 4, 5, 1, 0] rfl)
          · have c6 := Decidable.not_not.mp c_67
            have g0 : (fun j => if ft_new (some a) f (ps j) = true then to j else 0) i = to i := if_pos (by rw [ep]; simp [ft_new, c6, c_78])
            refine lv_aload_n hx hb dX0_edge_81 rfl (lv_at hl 1 rfl) ?_
            refine fx_g0 (v := .ref (ad 7)) hx hb hts hown hK hP rfl 9 (by decide) q31 rfl rfl dX0_edge_82 ?_
            refine lv_iload hx hb dX0_edge_85 (lv_at hl 5 rfl) ?_
            refine fx_ald (k := i) (v := nI (to i)) hx hb hK hP 7 rfl rfl (by omega) (by decide) rfl dX0_edge_87 ?_
            refine lv_goto (tgt := 92) hx hb dX0_edge_88 (by decide) ?_
            refine fx_add (v := nI (x + (to i))) hx hb dX0_edge_92 (nI_add _ _) ?_
            refine lv_istore_n (lv' := [(3, .int (nI (x + (to i)))), (5, .int ((if (fn i = f ∧ ft_be (some a) (ps (ab i)) = true) then 1 else 0))), (0, .ref (ad 0)), (1, .int (nI a)), (2, .int (nI f)), (4, .int (nI i))]) hx hb dX0_edge_93 rfl hl (by decide) rfl (fun ls hl => ?_)
            refine fx_inc (v := nI (i + 1)) (lv' := [(4, .int (nI (i + 1))), (3, .int (nI (x + (to i)))), (5, .int ((if (fn i = f ∧ ft_be (some a) (ps (ab i)) = true) then 1 else 0))), (0, .ref (ad 0)), (1, .int (nI a)), (2, .int (nI f))]) (k0 := 5) hx hb dX0_edge_94 hl rfl (nI_1 _) (by decide) rfl (fun ls hl => ?_)
            refine lv_goto (tgt := 21) hx hb dX0_edge_97 (by decide) ?_
            exact ih (i + 1) _ (by omega) (by omega) (by omega) (ft_sum_t hxs g0) ls (lv_sub hl [3, 4, 5, 1, 0] rfl)
      refine lv_aload_n hx hb dX0_edge_30 rfl (lv_at hl 0 rfl) ?_
      refine fx_g0 (v := .ref (ad 2)) hx hb hts hown hK hP rfl 4 (by decide) q26 rfl rfl dX0_edge_31 ?_
      refine lv_iload hx hb dX0_edge_34 (lv_at hl 4 rfl) ?_
      refine fx_ald (k := i) (v := nI (fn i)) hx hb hK hP 2 rfl rfl (by omega) (by decide) (ft_fi_p hi1) dX0_edge_36 ?_
      refine lv_iload_n hx hb dX0_edge_37 rfl (lv_at hl 2 rfl) ?_
      refine fx_ne (tgt := 61) hx hb dX0_edge_38 (by decide) (nI_eq (a := fn i) (b := f) (by omega) (by omega)) (fun c_38 => ?_) (fun c_38 => ?_)
      · refine lv_iconst (v := 0) hx hb dX0_edge_61 (by decide) ?_
        exact j62 _ (if_neg (fun z => by first | exact c_38 z.1 | exact c_54 z.2)).symm
      · refine lv_aload_n hx hb dX0_edge_41 rfl (lv_at hl 0 rfl) ?_
        refine fx_g0 (v := .ref (ad 2)) hx hb hts hown hK hP rfl 4 (by decide) q26 rfl rfl dX0_edge_42 ?_
        refine lv_aload_n hx hb dX0_edge_45 rfl (lv_at hl 0 rfl) ?_
        refine fx_g0 (v := .ref (ad 3)) hx hb hts hown hK hP rfl 5 (by decide) q27 rfl rfl dX0_edge_46 ?_
        refine lv_iload hx hb dX0_edge_49 (lv_at hl 4 rfl) ?_
        refine fx_ald (k := i) (v := nI (ab i)) hx hb hK hP 3 rfl rfl (by omega) (by decide) rfl dX0_edge_51 ?_
        refine fx_ald (k := ab i) (v := ft_fi fn (ab i)) hx hb hK hP 2 rfl rfl (by omega) (by decide) rfl dX0_edge_52 ?_
        refine lv_iload_n hx hb dX0_edge_53 rfl (lv_at hl 1 rfl) ?_
        refine fx_ne (tgt := 61) hx hb dX0_edge_54 (by decide) (ft_hdc (cN := some a) hR hT (fun k z => by cases z; exact ha) (fun z => by cases z) (j := ab i) (by omega)) (fun c_54 => ?_) (fun c_54 => ?_)
        · refine lv_iconst (v := 0) hx hb dX0_edge_61 (by decide) ?_
          exact j62 _ (if_neg (fun z => by first | exact c_38 z.1 | exact c_54 z.2)).symm
        · refine lv_iconst (v := 1) hx hb dX0_edge_57 (by decide) ?_
          refine lv_goto (tgt := 62) hx hb dX0_edge_58 (by decide) ?_
          exact j62 _ (if_pos ⟨c_38, c_54⟩).symm
set_option maxHeartbeats 4000000 in
set_option maxRecDepth 100000 in
theorem m0_edge (l : Launch) (hSK : ft_SK d sk) (hSI : ft_SI ns pa ln wt) {a f : Nat} (ha : a ≤ 7) (hf : f ≤ 7) : Met l yX0_edge (ws_ yX0_edge cX0_edge 6 (some .int)) fx_r1 (va_Pc [.ref (ad 0), .int (nI a), .int (nI f)] (ft_pre (ft_FT D cA ad d sk ns pa ln wt) D cA)) (vp_Si (fun r => r = nI (ft_std ns pa ln wt (some a) f))) 0 0 (fun _ => False) := by
  refine fx_met (by decide) (Nat.le_of_ble_eq_true rfl) ?_
  intro p e s m below meth c ls C0 _ hB hl
  obtain ⟨⟨N, fn, ab, ch, si, ow, to, ps, hI, hP, hDD⟩, hK⟩ := hB
  have hT := hI.1
  have hR := hI.2.1
  have hV := hI.2.2.1
  have hWt := hI.2.2.2.1
  have hWo := hI.2.2.2.2.1
  have hN := ft_N_le hSI hI.2.2.2.2.2
  have hN1 := hT.1
  have hd8 := hSK.1
  have hsk := hSK.2
  have hlen := fun j (hj : j < N) => ft_len hV hR hSI hj
  have hto : ∀ j, to j ≤ 4000 := fun j => by
    by_cases z : j < N
    · rw [hWt.1 j z]; exact ft_tot_4000 hSI _
    · rw [hWt.2 j (by omega)]; exact Nat.zero_le _
  have how : ∀ j, ow j ≤ 4000 := fun j => by
    by_cases z : j < N
    · rw [hWo.1 j z]; exact ft_own_4000 hSI _
    · rw [hWo.2 j (by omega)]; exact Nat.zero_le _
  have C0 : fx_C cX0_edge 6 RX0 (some .int) p s m _ meth c := C0
  obtain ⟨hx, hb, hml, hown, hts, hr, hlocks⟩ := id C0
  have hl : lv_has ls 6 [(0, .ref (ad 0)), (1, .int (nI a)), (2, .int (nI f))] := hl
  refine lv_iload_n hx hb dX0_edge_0 rfl (lv_at hl 1 rfl) ?_
  refine fx_callS (As := [.int (nI a)]) (rest := []) (n := 1) C0 (m0_isFunction l (nI a)) (lw_S q58 q59 q12 q60) ⟨rfl, rfl⟩ (by decide +kernel) ⟨Nat.le_of_ble_eq_true rfl, Nat.le_of_ble_eq_true rfl⟩ rfl hl.1 rfl (Nat.le_of_ble_eq_true rfl) dX0_edge_1 ⟨Nat.zero_le _, Nat.zero_le _⟩ (fun r hr => ?_)
  subst hr
  refine fz_eq (tgt := 14) hx hb dX0_edge_4 (by decide) fx_b (fun c_4 => ?_) (fun c_4 => ?_)
  · exact absurd (fx_i7 ha) c_4
  · refine lv_iload_n hx hb dX0_edge_7 rfl (lv_at hl 2 rfl) ?_
    refine fx_callS (As := [.int (nI f)]) (rest := []) (n := 1) C0 (m0_isFunction l (nI f)) (lw_S q58 q59 q12 q60) ⟨rfl, rfl⟩ (by decide +kernel) ⟨Nat.le_of_ble_eq_true rfl, Nat.le_of_ble_eq_true rfl⟩ rfl hl.1 rfl (Nat.le_of_ble_eq_true rfl) dX0_edge_8 ⟨Nat.zero_le _, Nat.zero_le _⟩ (fun r hr => ?_)
    subst hr
    refine fz_ne (tgt := 16) hx hb dX0_edge_11 (by decide) fx_b (fun c_11 => ?_) (fun c_11 => ?_)
    · refine lv_iconst (v := nI 0) hx hb dX0_edge_16 (by decide) ?_
      refine lv_istore_n (lv' := [(3, .int (nI 0)), (0, .ref (ad 0)), (1, .int (nI a)), (2, .int (nI f))]) hx hb dX0_edge_17 rfl hl (by decide) rfl (fun ls hl => ?_)
      refine lv_iconst (v := nI 1) hx hb dX0_edge_18 (by decide) ?_
      refine lv_istore (lv' := [(4, .int (nI 1)), (3, .int (nI 0)), (0, .ref (ad 0)), (1, .int (nI a)), (2, .int (nI f))]) hx hb dX0_edge_19 hl (by decide) rfl (fun ls hl => ?_)
      exact m0_edge_l C0 hK hP hI hN hlen ha hf (N + 1) 1 0 (by omega) (by omega) (by omega) (by show 0 = 0 + (fun j => if ft_new (some a) f (ps j) = true then to j else 0) 0; rw [Nat.zero_add]; exact (if_neg (by rw [hR.1]; simp [ft_new])).symm) ls (lv_sub hl [2, 3, 4, 1, 0] rfl)
    · exact absurd (fx_i7 hf) c_11
set_option maxHeartbeats 4000000 in
set_option maxRecDepth 100000 in
theorem m0_edge0 (l : Launch) (hSK : ft_SK d sk) (hSI : ft_SI ns pa ln wt) {a f : Int32} (hf : ¬ ((0 ≤ a ∧ a ≤ 7) ∧ (0 ≤ f ∧ f ≤ 7))) : Met l yX0_edge (ws_ yX0_edge cX0_edge 6 (some .int)) fx_r1 (va_Pc [.ref (ad 0), .int a, .int f] (ft_pre (ft_FT D cA ad d sk ns pa ln wt) D cA)) (vp_Si (fun r => r = -1)) 0 0 (fun _ => False) := by
  refine fx_met (by decide) (Nat.le_of_ble_eq_true rfl) ?_
  intro p e s m below meth c ls C0 _ hB hl
  obtain ⟨⟨N, fn, ab, ch, si, ow, to, ps, hI, hP, hDD⟩, hK⟩ := hB
  have hT := hI.1
  have hR := hI.2.1
  have hV := hI.2.2.1
  have hWt := hI.2.2.2.1
  have hWo := hI.2.2.2.2.1
  have hN := ft_N_le hSI hI.2.2.2.2.2
  have hN1 := hT.1
  have hd8 := hSK.1
  have hsk := hSK.2
  have hlen := fun j (hj : j < N) => ft_len hV hR hSI hj
  have hto : ∀ j, to j ≤ 4000 := fun j => by
    by_cases z : j < N
    · rw [hWt.1 j z]; exact ft_tot_4000 hSI _
    · rw [hWt.2 j (by omega)]; exact Nat.zero_le _
  have how : ∀ j, ow j ≤ 4000 := fun j => by
    by_cases z : j < N
    · rw [hWo.1 j z]; exact ft_own_4000 hSI _
    · rw [hWo.2 j (by omega)]; exact Nat.zero_le _
  have C0 : fx_C cX0_edge 6 RX0 (some .int) p s m _ meth c := C0
  obtain ⟨hx, hb, hml, hown, hts, hr, hlocks⟩ := id C0
  have hl : lv_has ls 6 [(0, .ref (ad 0)), (1, .int a), (2, .int f)] := hl
  refine lv_iload_n hx hb dX0_edge_0 rfl (lv_at hl 1 rfl) ?_
  refine fx_callS (As := [.int a]) (rest := []) (n := 1) C0 (m0_isFunction l a) (lw_S q58 q59 q12 q60) ⟨rfl, rfl⟩ (by decide +kernel) ⟨Nat.le_of_ble_eq_true rfl, Nat.le_of_ble_eq_true rfl⟩ rfl hl.1 rfl (Nat.le_of_ble_eq_true rfl) dX0_edge_1 ⟨Nat.zero_le _, Nat.zero_le _⟩ (fun r hr => ?_)
  subst hr
  refine fz_eq (tgt := 14) hx hb dX0_edge_4 (by decide) fx_b (fun c_4 => ?_) (fun c_4 => ?_)
  · refine lv_iconst (v := -1) hx hb dX0_edge_14 (by decide) ?_
    exact fx_ri C0 dX0_edge_15 rfl
  · refine lv_iload_n hx hb dX0_edge_7 rfl (lv_at hl 2 rfl) ?_
    refine fx_callS (As := [.int f]) (rest := []) (n := 1) C0 (m0_isFunction l f) (lw_S q58 q59 q12 q60) ⟨rfl, rfl⟩ (by decide +kernel) ⟨Nat.le_of_ble_eq_true rfl, Nat.le_of_ble_eq_true rfl⟩ rfl hl.1 rfl (Nat.le_of_ble_eq_true rfl) dX0_edge_8 ⟨Nat.zero_le _, Nat.zero_le _⟩ (fun r hr => ?_)
    subst hr
    refine fz_ne (tgt := 16) hx hb dX0_edge_11 (by decide) fx_b (fun c_11 => ?_) (fun c_11 => ?_)
    · exact absurd ⟨Decidable.not_not.mp c_4, Decidable.not_not.mp c_11⟩ hf
    · refine lv_iconst (v := -1) hx hb dX0_edge_14 (by decide) ?_
      exact fx_ri C0 dX0_edge_15 rfl
set_option maxHeartbeats 4000000 in
set_option maxRecDepth 100000 in
theorem m0_paths_l (C0 : fx_C cX0_paths 5 RX0 (some .int) p s m args meth c) (hK : va_K D vwCl [(cA, .int)] s) (hP : va_P D vwCl (ft_FW cA ad d ns N sk fn ab ch si ow to) s.heap) (hI : ft_FI N fn ab ch si ow to ps ns pa ln wt) (hN : N ≤ 321) (hlen : ∀ j, j < N → (ps j).length ≤ 8) (hto : ∀ j, to j ≤ 4000) (hSI : ft_SI ns pa ln wt) {w : Int32} {L : Nat} (hL1 : 1 ≤ L) (hL : L < 2 ^ 31) : ∀ (n i x : Nat), 1 ≤ i → i ≤ N → N - i < n → x = ft_sum i (fun j => if 1 ≤ j ∧ L ≤ to j then 1 else 0) → ∀ ls : Array Slot, lv_has ls 5 [(0, .ref (ad 0)), (1, .int w), (2, .int (nI L)), (3, .int (nI x)), (4, .int (nI i))] → fx_W p l e fx_r1 s m args below meth c (fun r => r = nI (ft_pth ns pa ln wt L)) (F0 m 16 ls []) := by
  obtain ⟨hx, hb, hml, hown, hts, hr, hlocks⟩ := id C0
  have hT := hI.1
  have hR := hI.2.1
  have hN1 := hT.1
  intro n
  induction n with
  | zero =>
    intro i x h0 h1 h2
    exact absurd h2 (by omega)
  | succ n ih =>
    intro i x hi1 hi hn hxs ls hl
    refine lv_iload hx hb dX0_paths_16 (lv_at hl 4 rfl) ?_
    refine lv_aload_n hx hb dX0_paths_18 rfl (lv_at hl 0 rfl) ?_
    refine fx_g0 (v := .int (nI N)) hx hb hts hown hK hP rfl 3 (by decide) q25 rfl rfl dX0_paths_19 ?_
    refine fx_ge (tgt := 50) hx hb dX0_paths_22 (by decide) (nI_leI (a := N) (b := i) (by omega) (by omega)) (fun c_22 => ?_) (fun c_22 => ?_)
    · refine lv_iload_n hx hb dX0_paths_50 rfl (lv_at hl 3 rfl) ?_
      exact fx_ri C0 dX0_paths_51 (by rw [hxs, (by omega : i = N)]; exact congrArg nI (ft_law_pth hI hSI hL1))
    · have b1 := hto i
      refine lv_iload_n hx hb dX0_paths_25 rfl (lv_at hl 3 rfl) ?_
      refine lv_aload_n hx hb dX0_paths_26 rfl (lv_at hl 0 rfl) ?_
      refine fx_g0 (v := .ref (ad 7)) hx hb hts hown hK hP rfl 9 (by decide) q31 rfl rfl dX0_paths_27 ?_
      refine lv_iload hx hb dX0_paths_30 (lv_at hl 4 rfl) ?_
      refine fx_ald (k := i) (v := nI (to i)) hx hb hK hP 7 rfl rfl (by omega) (by decide) rfl dX0_paths_32 ?_
      refine lv_iload_n hx hb dX0_paths_33 rfl (lv_at hl 2 rfl) ?_
      refine fx_lt (tgt := 41) hx hb dX0_paths_34 (by decide) (nI_ltI (a := to i) (b := L) (by omega) (by omega)) (fun c_34 => ?_) (fun c_34 => ?_)
      · have g0 : (fun j => if 1 ≤ j ∧ L ≤ to j then 1 else 0) i = 0 := if_neg (by omega)
        refine lv_iconst (v := nI 0) hx hb dX0_paths_41 (by decide) ?_
        refine fx_add (v := nI (x + 0)) hx hb dX0_paths_42 (nI_add _ _) ?_
        refine lv_istore_n (lv' := [(3, .int (nI (x + 0))), (0, .ref (ad 0)), (1, .int w), (2, .int (nI L)), (4, .int (nI i))]) hx hb dX0_paths_43 rfl hl (by decide) rfl (fun ls hl => ?_)
        refine fx_inc (v := nI (i + 1)) (lv' := [(4, .int (nI (i + 1))), (3, .int (nI (x + 0))), (0, .ref (ad 0)), (1, .int w), (2, .int (nI L))]) (k0 := 4) hx hb dX0_paths_44 hl rfl (nI_1 _) (by decide) rfl (fun ls hl => ?_)
        refine lv_goto (tgt := 16) hx hb dX0_paths_47 (by decide) ?_
        exact ih (i + 1) _ (by omega) (by omega) (by omega) (ft_sum_t hxs g0) ls (lv_sub hl [2, 3, 4, 1, 0] rfl)
      · have g0 : (fun j => if 1 ≤ j ∧ L ≤ to j then 1 else 0) i = 1 := if_pos (by omega)
        refine lv_iconst (v := nI 1) hx hb dX0_paths_37 (by decide) ?_
        refine lv_goto (tgt := 42) hx hb dX0_paths_38 (by decide) ?_
        refine fx_add (v := nI (x + 1)) hx hb dX0_paths_42 (nI_add _ _) ?_
        refine lv_istore_n (lv' := [(3, .int (nI (x + 1))), (0, .ref (ad 0)), (1, .int w), (2, .int (nI L)), (4, .int (nI i))]) hx hb dX0_paths_43 rfl hl (by decide) rfl (fun ls hl => ?_)
        refine fx_inc (v := nI (i + 1)) (lv' := [(4, .int (nI (i + 1))), (3, .int (nI (x + 1))), (0, .ref (ad 0)), (1, .int w), (2, .int (nI L))]) (k0 := 4) hx hb dX0_paths_44 hl rfl (nI_1 _) (by decide) rfl (fun ls hl => ?_)
        refine lv_goto (tgt := 16) hx hb dX0_paths_47 (by decide) ?_
        exact ih (i + 1) _ (by omega) (by omega) (by omega) (ft_sum_t hxs g0) ls (lv_sub hl [2, 3, 4, 1, 0] rfl)
set_option maxHeartbeats 4000000 in
set_option maxRecDepth 100000 in
theorem m0_paths (l : Launch) (hSK : ft_SK d sk) (hSI : ft_SI ns pa ln wt) (w : Int32) : Met l yX0_paths (ws_ yX0_paths cX0_paths 5 (some .int)) fx_r1 (va_Pc [.ref (ad 0), .int w] (ft_pre (ft_FT D cA ad d sk ns pa ln wt) D cA)) (vp_Si (fun r => r = nI (ft_pth ns pa ln wt (ft_ls w)))) 0 0 (fun _ => False) := by
  refine fx_met (by decide) (Nat.le_of_ble_eq_true rfl) ?_
  intro p e s m below meth c ls C0 _ hB hl
  obtain ⟨⟨N, fn, ab, ch, si, ow, to, ps, hI, hP, hDD⟩, hK⟩ := hB
  have hT := hI.1
  have hR := hI.2.1
  have hV := hI.2.2.1
  have hWt := hI.2.2.2.1
  have hWo := hI.2.2.2.2.1
  have hN := ft_N_le hSI hI.2.2.2.2.2
  have hN1 := hT.1
  have hd8 := hSK.1
  have hsk := hSK.2
  have hlen := fun j (hj : j < N) => ft_len hV hR hSI hj
  have hto : ∀ j, to j ≤ 4000 := fun j => by
    by_cases z : j < N
    · rw [hWt.1 j z]; exact ft_tot_4000 hSI _
    · rw [hWt.2 j (by omega)]; exact Nat.zero_le _
  have how : ∀ j, ow j ≤ 4000 := fun j => by
    by_cases z : j < N
    · rw [hWo.1 j z]; exact ft_own_4000 hSI _
    · rw [hWo.2 j (by omega)]; exact Nat.zero_le _
  have C0 : fx_C cX0_paths 5 RX0 (some .int) p s m _ meth c := C0
  obtain ⟨hx, hb, hml, hown, hts, hr, hlocks⟩ := id C0
  have hl : lv_has ls 5 [(0, .ref (ad 0)), (1, .int w)] := hl
  have bL := ft_ls_b w
  have j10 : ∀ (z : Int32) (ls : Array Slot), z = nI (ft_ls w) → lv_has ls 5 [(0, .ref (ad 0)), (1, .int w)] → fx_W p l e fx_r1 s m (#[.ref (ad 0), .int w] : Array Value) below meth c (fun r => r = nI (ft_pth ns pa ln wt (ft_ls w))) (F0 m 10 ls [.int z]) := by
    intro z ls hz hl
    subst hz
    refine lv_istore_n (lv' := [(2, .int (nI (ft_ls w))), (0, .ref (ad 0)), (1, .int w)]) hx hb dX0_paths_10 rfl hl (by decide) rfl (fun ls hl => ?_)
    refine lv_iconst (v := nI 0) hx hb dX0_paths_11 (by decide) ?_
    refine lv_istore_n (lv' := [(3, .int (nI 0)), (2, .int (nI (ft_ls w))), (0, .ref (ad 0)), (1, .int w)]) hx hb dX0_paths_12 rfl hl (by decide) rfl (fun ls hl => ?_)
    refine lv_iconst (v := nI 1) hx hb dX0_paths_13 (by decide) ?_
    refine lv_istore (lv' := [(4, .int (nI 1)), (3, .int (nI 0)), (2, .int (nI (ft_ls w))), (0, .ref (ad 0)), (1, .int w)]) hx hb dX0_paths_14 hl (by decide) rfl (fun ls hl => ?_)
    exact m0_paths_l C0 hK hP hI hN hlen hto hSI bL.1 bL.2 (N + 1) 1 0 (by omega) (by omega) (by omega) rfl ls (lv_sub hl [3, 4, 2, 1, 0] rfl)
  refine lv_iload_n hx hb dX0_paths_0 rfl (lv_at hl 1 rfl) ?_
  refine lv_iconst (v := 1) hx hb dX0_paths_1 (by decide) ?_
  refine fx_ge (tgt := 9) hx hb dX0_paths_2 (by decide) ft_ge1 (fun c_2 => ?_) (fun c_2 => ?_)
  · have e1 := ft_ls_2 c_2
    refine lv_iload_n hx hb dX0_paths_9 rfl (lv_at hl 1 rfl) ?_
    exact j10 _ ls e1.symm hl
  · have e1 := ft_ls_1 (Decidable.not_not.mp c_2)
    refine lv_iconst (v := 1) hx hb dX0_paths_5 (by decide) ?_
    refine lv_goto (tgt := 10) hx hb dX0_paths_6 (by decide) ?_
    exact j10 _ ls e1.symm hl
set_option maxHeartbeats 4000000 in
set_option maxRecDepth 100000 in
theorem m0_deepest_l (C0 : fx_C cX0_deepest 6 RX0 (some .int) p s m args meth c) (hK : va_K D vwCl [(cA, .int)] s) (hP : va_P D vwCl (ft_FW cA ad d ns N sk fn ab ch si ow to) s.heap) (hI : ft_FI N fn ab ch si ow to ps ns pa ln wt) (hN : N ≤ 321) (hlen : ∀ j, j < N → (ps j).length ≤ 8) (hto : ∀ j, to j ≤ 4000) (hSI : ft_SI ns pa ln wt) {w : Int32} {L : Nat} (hL1 : 1 ≤ L) (hL : L < 2 ^ 31) : ∀ (n i x : Nat), 1 ≤ i → i ≤ N → N - i < n → x = ft_max i (fun j => if 1 ≤ j ∧ L ≤ to j then (ps j).length else 0) → ∀ ls : Array Slot, lv_has ls 6 [(0, .ref (ad 0)), (1, .int w), (2, .int (nI L)), (3, .int (nI x)), (4, .int (nI i))] → fx_W p l e fx_r1 s m args below meth c (fun r => r = nI (ft_dp ns pa ln wt L)) (F0 m 16 ls []) := by
  obtain ⟨hx, hb, hml, hown, hts, hr, hlocks⟩ := id C0
  have hT := hI.1
  have hR := hI.2.1
  have hN1 := hT.1
  intro n
  induction n with
  | zero =>
    intro i x h0 h1 h2
    exact absurd h2 (by omega)
  | succ n ih =>
    intro i x hi1 hi hn hxs ls hl
    refine lv_iload hx hb dX0_deepest_16 (lv_at hl 4 rfl) ?_
    refine lv_aload_n hx hb dX0_deepest_18 rfl (lv_at hl 0 rfl) ?_
    refine fx_g0 (v := .int (nI N)) hx hb hts hown hK hP rfl 3 (by decide) q25 rfl rfl dX0_deepest_19 ?_
    refine fx_ge (tgt := 67) hx hb dX0_deepest_22 (by decide) (nI_leI (a := N) (b := i) (by omega) (by omega)) (fun c_22 => ?_) (fun c_22 => ?_)
    · refine lv_iload_n hx hb dX0_deepest_67 rfl (lv_at hl 3 rfl) ?_
      exact fx_ri C0 dX0_deepest_68 (by rw [hxs, (by omega : i = N)]; exact congrArg nI (ft_law_dp hI hL1))
    · have b1 := hto i
      have b8 := hlen i (by omega)
      have bx : x ≤ 8 := by
        rw [hxs]
        refine ft_max_le (fun j hj => ?_)
        have := hlen j (by omega)
        show (if 1 ≤ j ∧ L ≤ to j then (ps j).length else 0) ≤ 8
        split <;> omega
      have eM : ft_max (i + 1) (fun j => if 1 ≤ j ∧ L ≤ to j then (ps j).length else 0) = (if x < (fun j => if 1 ≤ j ∧ L ≤ to j then (ps j).length else 0) i then (fun j => if 1 ≤ j ∧ L ≤ to j then (ps j).length else 0) i else x) := by rw [hxs]; rfl
      have j46 : ∀ v : Nat, v = (fun j => if 1 ≤ j ∧ L ≤ to j then (ps j).length else 0) i → v ≤ 8 → fx_W p l e fx_r1 s m args below meth c (fun r => r = nI (ft_dp ns pa ln wt L)) (F0 m 46 ls [.int (nI v)]) := by
        intro v hv bv
        rw [← hv] at eM
        refine lv_istore (lv' := [(5, .int (nI v)), (0, .ref (ad 0)), (1, .int w), (2, .int (nI L)), (3, .int (nI x)), (4, .int (nI i))]) hx hb dX0_deepest_46 hl (by decide) rfl (fun ls hl => ?_)
        refine lv_iload hx hb dX0_deepest_48 (lv_at hl 0 rfl) ?_
        refine lv_iload_n hx hb dX0_deepest_50 rfl (lv_at hl 4 rfl) ?_
        refine fx_le (tgt := 59) hx hb dX0_deepest_51 (by decide) (nI_leI (a := v) (b := x) (by omega) (by omega)) (fun c_51 => ?_) (fun c_51 => ?_)
        · have g0 : x = ft_max (i + 1) (fun j => if 1 ≤ j ∧ L ≤ to j then (ps j).length else 0) := by rw [eM, if_neg (by omega)]
          refine lv_iload_n hx hb dX0_deepest_59 rfl (lv_at hl 4 rfl) ?_
          refine lv_istore_n (lv' := [(3, .int (nI x)), (5, .int (nI v)), (0, .ref (ad 0)), (1, .int w), (2, .int (nI L)), (4, .int (nI i))]) hx hb dX0_deepest_60 rfl hl (by decide) rfl (fun ls hl => ?_)
          refine fx_inc (v := nI (i + 1)) (lv' := [(4, .int (nI (i + 1))), (3, .int (nI x)), (5, .int (nI v)), (0, .ref (ad 0)), (1, .int w), (2, .int (nI L))]) (k0 := 5) hx hb dX0_deepest_61 hl rfl (nI_1 _) (by decide) rfl (fun ls hl => ?_)
          refine lv_goto (tgt := 16) hx hb dX0_deepest_64 (by decide) ?_
          exact ih (i + 1) _ (by omega) (by omega) (by omega) g0 ls (lv_sub hl [3, 4, 5, 1, 0] rfl)
        · have g0 : v = ft_max (i + 1) (fun j => if 1 ≤ j ∧ L ≤ to j then (ps j).length else 0) := by rw [eM, if_pos (by omega)]
          refine lv_iload hx hb dX0_deepest_54 (lv_at hl 0 rfl) ?_
          refine lv_goto (tgt := 60) hx hb dX0_deepest_56 (by decide) ?_
          refine lv_istore_n (lv' := [(3, .int (nI v)), (5, .int (nI v)), (0, .ref (ad 0)), (1, .int w), (2, .int (nI L)), (4, .int (nI i))]) hx hb dX0_deepest_60 rfl hl (by decide) rfl (fun ls hl => ?_)
          refine fx_inc (v := nI (i + 1)) (lv' := [(4, .int (nI (i + 1))), (3, .int (nI v)), (5, .int (nI v)), (0, .ref (ad 0)), (1, .int w), (2, .int (nI L))]) (k0 := 5) hx hb dX0_deepest_61 hl rfl (nI_1 _) (by decide) rfl (fun ls hl => ?_)
          refine lv_goto (tgt := 16) hx hb dX0_deepest_64 (by decide) ?_
          exact ih (i + 1) _ (by omega) (by omega) (by omega) g0 ls (lv_sub hl [3, 4, 5, 1, 0] rfl)
      refine lv_aload_n hx hb dX0_deepest_25 rfl (lv_at hl 0 rfl) ?_
      refine fx_g0 (v := .ref (ad 7)) hx hb hts hown hK hP rfl 9 (by decide) q31 rfl rfl dX0_deepest_26 ?_
      refine lv_iload hx hb dX0_deepest_29 (lv_at hl 4 rfl) ?_
      refine fx_ald (k := i) (v := nI (to i)) hx hb hK hP 7 rfl rfl (by omega) (by decide) rfl dX0_deepest_31 ?_
      refine lv_iload_n hx hb dX0_deepest_32 rfl (lv_at hl 2 rfl) ?_
      refine fx_lt (tgt := 45) hx hb dX0_deepest_33 (by decide) (nI_ltI (a := to i) (b := L) (by omega) (by omega)) (fun c_33 => ?_) (fun c_33 => ?_)
      · refine lv_iconst (v := nI 0) hx hb dX0_deepest_45 (by decide) ?_
        exact j46 _ (if_neg (by omega)).symm (by omega)
      · refine lv_aload_n hx hb dX0_deepest_36 rfl (lv_at hl 0 rfl) ?_
        refine lv_iload hx hb dX0_deepest_37 (lv_at hl 4 rfl) ?_
        refine fx_callV (As := [.int (nI i)]) (rest := []) (n := 1) C0 (m0_depthOf l hT hR hN hlen (q0 := i) (by omega)) hP hK (va_recv hK hP (ci := 0) (q0 := 0) rfl rfl) (lw_V q117 q119 qs4 q12 q120) ⟨rfl, rfl⟩ (by decide +kernel) ⟨Nat.le_of_ble_eq_true rfl, Nat.le_of_ble_eq_true rfl⟩ rfl hl.1 rfl (Nat.le_of_ble_eq_true rfl) dX0_deepest_39 ⟨Nat.zero_le _, Nat.zero_le _⟩ (fun r hr => ?_)
        subst hr
        refine lv_goto (tgt := 46) hx hb dX0_deepest_42 (by decide) ?_
        exact j46 _ (if_pos (by omega)).symm (by omega)
set_option maxHeartbeats 4000000 in
set_option maxRecDepth 100000 in
theorem m0_deepest (l : Launch) (hSK : ft_SK d sk) (hSI : ft_SI ns pa ln wt) (w : Int32) : Met l yX0_deepest (ws_ yX0_deepest cX0_deepest 6 (some .int)) fx_r1 (va_Pc [.ref (ad 0), .int w] (ft_pre (ft_FT D cA ad d sk ns pa ln wt) D cA)) (vp_Si (fun r => r = nI (ft_dp ns pa ln wt (ft_ls w)))) 0 0 (fun _ => False) := by
  refine fx_met (by decide) (Nat.le_of_ble_eq_true rfl) ?_
  intro p e s m below meth c ls C0 _ hB hl
  obtain ⟨⟨N, fn, ab, ch, si, ow, to, ps, hI, hP, hDD⟩, hK⟩ := hB
  have hT := hI.1
  have hR := hI.2.1
  have hV := hI.2.2.1
  have hWt := hI.2.2.2.1
  have hWo := hI.2.2.2.2.1
  have hN := ft_N_le hSI hI.2.2.2.2.2
  have hN1 := hT.1
  have hd8 := hSK.1
  have hsk := hSK.2
  have hlen := fun j (hj : j < N) => ft_len hV hR hSI hj
  have hto : ∀ j, to j ≤ 4000 := fun j => by
    by_cases z : j < N
    · rw [hWt.1 j z]; exact ft_tot_4000 hSI _
    · rw [hWt.2 j (by omega)]; exact Nat.zero_le _
  have how : ∀ j, ow j ≤ 4000 := fun j => by
    by_cases z : j < N
    · rw [hWo.1 j z]; exact ft_own_4000 hSI _
    · rw [hWo.2 j (by omega)]; exact Nat.zero_le _
  have C0 : fx_C cX0_deepest 6 RX0 (some .int) p s m _ meth c := C0
  obtain ⟨hx, hb, hml, hown, hts, hr, hlocks⟩ := id C0
  have hl : lv_has ls 6 [(0, .ref (ad 0)), (1, .int w)] := hl
  have bL := ft_ls_b w
  have j10 : ∀ (z : Int32) (ls : Array Slot), z = nI (ft_ls w) → lv_has ls 6 [(0, .ref (ad 0)), (1, .int w)] → fx_W p l e fx_r1 s m (#[.ref (ad 0), .int w] : Array Value) below meth c (fun r => r = nI (ft_dp ns pa ln wt (ft_ls w))) (F0 m 10 ls [.int z]) := by
    intro z ls hz hl
    subst hz
    refine lv_istore_n (lv' := [(2, .int (nI (ft_ls w))), (0, .ref (ad 0)), (1, .int w)]) hx hb dX0_deepest_10 rfl hl (by decide) rfl (fun ls hl => ?_)
    refine lv_iconst (v := nI 0) hx hb dX0_deepest_11 (by decide) ?_
    refine lv_istore_n (lv' := [(3, .int (nI 0)), (2, .int (nI (ft_ls w))), (0, .ref (ad 0)), (1, .int w)]) hx hb dX0_deepest_12 rfl hl (by decide) rfl (fun ls hl => ?_)
    refine lv_iconst (v := nI 1) hx hb dX0_deepest_13 (by decide) ?_
    refine lv_istore (lv' := [(4, .int (nI 1)), (3, .int (nI 0)), (2, .int (nI (ft_ls w))), (0, .ref (ad 0)), (1, .int w)]) hx hb dX0_deepest_14 hl (by decide) rfl (fun ls hl => ?_)
    exact m0_deepest_l C0 hK hP hI hN hlen hto hSI bL.1 bL.2 (N + 1) 1 0 (by omega) (by omega) (by omega) (by show 0 = (if 0 < (if 1 ≤ 0 ∧ ft_ls w ≤ to 0 then (ps 0).length else 0) then _ else 0); rw [if_neg (c := 1 ≤ 0 ∧ ft_ls w ≤ to 0) (by omega)]; rfl) ls (lv_sub hl [3, 4, 2, 1, 0] rfl)
  refine lv_iload_n hx hb dX0_deepest_0 rfl (lv_at hl 1 rfl) ?_
  refine lv_iconst (v := 1) hx hb dX0_deepest_1 (by decide) ?_
  refine fx_ge (tgt := 9) hx hb dX0_deepest_2 (by decide) ft_ge1 (fun c_2 => ?_) (fun c_2 => ?_)
  · have e1 := ft_ls_2 c_2
    refine lv_iload_n hx hb dX0_deepest_9 rfl (lv_at hl 1 rfl) ?_
    exact j10 _ ls e1.symm hl
  · have e1 := ft_ls_1 (Decidable.not_not.mp c_2)
    refine lv_iconst (v := 1) hx hb dX0_deepest_5 (by decide) ?_
    refine lv_goto (tgt := 10) hx hb dX0_deepest_6 (by decide) ?_
    exact j10 _ ls e1.symm hl
end
end
section
/-! THE TREE: methods that write -/
section
variable {p : Program} {l : Launch} {e : Env} {R : Room} {s : State} {m : MethodId} {args : Array Value} {below : List Frame} {meth : Method} {c : Code}
variable {D : va_G} {cA : ClassId} {ad : Nat → Nat} {d ns N : Nat} {sk fn ab ch si ow to ln wt : Nat → Nat} {pa : Nat → Nat → Nat} {ps : Nat → List Nat}
set_option maxHeartbeats 4000000 in
set_option maxRecDepth 100000 in
theorem m0_call (l : Launch) (hSK : ft_SK d sk) (hSI : ft_SI ns pa ln wt) {f : Nat} (hf : f ≤ 7) (hd : d < 8) : Met l yX0_call (ws_ yX0_call cX0_call 2 (some .int)) fx_r1 (va_Pc [.ref (ad 0), .int (nI f)] (ft_pre (ft_FT D cA ad d sk ns pa ln wt) D cA)) (va_Qi (fun r (_ : Unit) => r = nI (d + 1)) (fun _ t => ft_FT D cA ad (d + 1) (ft_up sk d f) ns pa ln wt t.heap) (ft_A ad 8)) 0 0 (ft_A ad 8) := by
  refine fx_met (by decide) (Nat.le_of_ble_eq_true rfl) ?_
  intro p e s m below meth c ls C0 _ hB hl
  obtain ⟨⟨N, fn, ab, ch, si, ow, to, ps, hI, hP, hD⟩, hK⟩ := hB
  have hT := hI.1
  have hR := hI.2.1
  have hV := hI.2.2.1
  have hWt := hI.2.2.2.1
  have hWo := hI.2.2.2.2.1
  have hN := ft_N_le hSI hI.2.2.2.2.2
  have hN1 := hT.1
  have hd8 := hSK.1
  have hsk := hSK.2
  have hlen := fun j (hj : j < N) => ft_len hV hR hSI hj
  have hto : ∀ j, to j ≤ 4000 := fun j => by
    by_cases z : j < N
    · rw [hWt.1 j z]; exact ft_tot_4000 hSI _
    · rw [hWt.2 j (by omega)]; exact Nat.zero_le _
  have how : ∀ j, ow j ≤ 4000 := fun j => by
    by_cases z : j < N
    · rw [hWo.1 j z]; exact ft_own_4000 hSI _
    · rw [hWo.2 j (by omega)]; exact Nat.zero_le _
  have hS : va_S (ft_A ad 8) s.heap s.heap [] := va_S.rf
  have C0 : fx_C cX0_call 2 RX0 (some .int) p s m _ meth c := C0
  obtain ⟨hx, hb, hml, hown, hts, hr, hlocks⟩ := id C0
  have hl : lv_has ls 2 [(0, .ref (ad 0)), (1, .int (nI f))] := hl
  refine lv_iload_n hx hb dX0_call_0 rfl (lv_at hl 1 rfl) ?_
  refine fx_callS (As := [.int (nI f)]) (rest := []) (n := 1) C0 (m0_isFunction l (nI f)) (lw_S q58 q59 q12 q60) ⟨rfl, rfl⟩ (by decide +kernel) ⟨Nat.le_of_ble_eq_true rfl, Nat.le_of_ble_eq_true rfl⟩ rfl hl.1 rfl (Nat.le_of_ble_eq_true rfl) dX0_call_1 ⟨Nat.zero_le _, Nat.zero_le _⟩ (fun r hr => ?_)
  subst hr
  refine fz_eq (tgt := 16) hx hb dX0_call_4 (by decide) fx_b (fun c_4 => ?_) (fun c_4 => ?_)
  · exact absurd (fx_i7 hf) c_4
  · refine lv_aload_n hx hb dX0_call_7 rfl (lv_at hl 0 rfl) ?_
    refine fx_g0 (v := .int (nI d)) hx hb hts hown hK hP rfl 0 (by decide) q22 rfl rfl dX0_call_8 ?_
    refine lv_bipush (v := nI 8) hx hb dX0_call_11 (by decide) ?_
    refine fx_lt (tgt := 18) hx hb dX0_call_13 (by decide) (nI_ltI (a := d) (b := 8) (by omega) (by omega)) (fun c_13 => ?_) (fun c_13 => ?_)
    · refine lv_aload_n hx hb dX0_call_18 rfl (lv_at hl 0 rfl) ?_
      refine fx_g0 (v := .ref (ad 1)) hx hb hts hown hK hP rfl 1 (by decide) q23 rfl rfl dX0_call_19 ?_
      refine lv_aload_n hx hb dX0_call_22 rfl (lv_at hl 0 rfl) ?_
      refine fx_g0 (v := .int (nI d)) hx hb hts hown hK hP rfl 0 (by decide) q22 rfl rfl dX0_call_23 ?_
      refine lv_iload_n hx hb dX0_call_26 rfl (lv_at hl 1 rfl) ?_
      refine fx_ast (k := d) (ws' := ft_FW cA ad d ns N (ft_up sk d f) fn ab ch si ow to) hx hb hK hP hD hS 1 rfl rfl (by omega) (by decide) (ft_nI_up _ _ _) rfl dX0_call_27 (fun H locs hP hD hS => ?_)
      refine lv_aload_n hx hb dX0_call_28 rfl (lv_at hl 0 rfl) ?_
      refine lv_dup hx hb dX0_call_29 rfl ?_
      refine fx_g0 (v := .int (nI d)) hx hb hts hown hK hP rfl 0 (by decide) q22 rfl rfl dX0_call_30 ?_
      refine lv_iconst (v := nI 1) hx hb dX0_call_33 (by decide) ?_
      refine fx_add (v := nI (d + 1)) hx hb dX0_call_34 (nI_add _ _) ?_
      refine fx_p0 (ws' := ft_FW cA ad (d + 1) ns N (ft_up sk d f) fn ab ch si ow to) hx hb hts hown hK hP hD hS rfl 0 (by decide) q22 rfl rfl (by decide +kernel) (Nat.le_of_ble_eq_true rfl) rfl dX0_call_35 (fun H locs hP hD hS => ?_)
      refine lv_aload_n hx hb dX0_call_38 rfl (lv_at hl 0 rfl) ?_
      refine fx_g0 (v := .int (nI (d + 1))) hx hb hts hown hK hP rfl 0 (by decide) q22 rfl rfl dX0_call_39 ?_
      exact fx_rm C0 () dX0_call_42 rfl (fun t ht => ⟨N, fn, ab, ch, si, ow, to, ps, hI, by rw [ht]; exact hP, hD⟩) hS
    · exact absurd hd c_13
set_option maxHeartbeats 4000000 in
set_option maxRecDepth 100000 in
theorem m0_call0 (l : Launch) (hSK : ft_SK d sk) (hSI : ft_SI ns pa ln wt) {f : Int32} (hf : ¬ ((0 ≤ f ∧ f ≤ 7) ∧ d < 8)) : Met l yX0_call (ws_ yX0_call cX0_call 2 (some .int)) fx_r1 (va_Pc [.ref (ad 0), .int f] (ft_pre (ft_FT D cA ad d sk ns pa ln wt) D cA)) (vp_Si (fun r => r = -1)) 0 0 (fun _ => False) := by
  refine fx_met (by decide) (Nat.le_of_ble_eq_true rfl) ?_
  intro p e s m below meth c ls C0 _ hB hl
  obtain ⟨⟨N, fn, ab, ch, si, ow, to, ps, hI, hP, hDD⟩, hK⟩ := hB
  have hT := hI.1
  have hR := hI.2.1
  have hV := hI.2.2.1
  have hWt := hI.2.2.2.1
  have hWo := hI.2.2.2.2.1
  have hN := ft_N_le hSI hI.2.2.2.2.2
  have hN1 := hT.1
  have hd8 := hSK.1
  have hsk := hSK.2
  have hlen := fun j (hj : j < N) => ft_len hV hR hSI hj
  have hto : ∀ j, to j ≤ 4000 := fun j => by
    by_cases z : j < N
    · rw [hWt.1 j z]; exact ft_tot_4000 hSI _
    · rw [hWt.2 j (by omega)]; exact Nat.zero_le _
  have how : ∀ j, ow j ≤ 4000 := fun j => by
    by_cases z : j < N
    · rw [hWo.1 j z]; exact ft_own_4000 hSI _
    · rw [hWo.2 j (by omega)]; exact Nat.zero_le _
  have C0 : fx_C cX0_call 2 RX0 (some .int) p s m _ meth c := C0
  obtain ⟨hx, hb, hml, hown, hts, hr, hlocks⟩ := id C0
  have hl : lv_has ls 2 [(0, .ref (ad 0)), (1, .int f)] := hl
  refine lv_iload_n hx hb dX0_call_0 rfl (lv_at hl 1 rfl) ?_
  refine fx_callS (As := [.int f]) (rest := []) (n := 1) C0 (m0_isFunction l f) (lw_S q58 q59 q12 q60) ⟨rfl, rfl⟩ (by decide +kernel) ⟨Nat.le_of_ble_eq_true rfl, Nat.le_of_ble_eq_true rfl⟩ rfl hl.1 rfl (Nat.le_of_ble_eq_true rfl) dX0_call_1 ⟨Nat.zero_le _, Nat.zero_le _⟩ (fun r hr => ?_)
  subst hr
  refine fz_eq (tgt := 16) hx hb dX0_call_4 (by decide) fx_b (fun c_4 => ?_) (fun c_4 => ?_)
  · refine lv_iconst (v := -1) hx hb dX0_call_16 (by decide) ?_
    exact fx_ri C0 dX0_call_17 rfl
  · refine lv_aload_n hx hb dX0_call_7 rfl (lv_at hl 0 rfl) ?_
    refine fx_g0 (v := .int (nI d)) hx hb hts hown hK hP rfl 0 (by decide) q22 rfl rfl dX0_call_8 ?_
    refine lv_bipush (v := nI 8) hx hb dX0_call_11 (by decide) ?_
    refine fx_lt (tgt := 18) hx hb dX0_call_13 (by decide) (nI_ltI (a := d) (b := 8) (by omega) (by omega)) (fun c_13 => ?_) (fun c_13 => ?_)
    · exact absurd ⟨Decidable.not_not.mp c_4, c_13⟩ hf
    · refine lv_iconst (v := -1) hx hb dX0_call_16 (by decide) ?_
      exact fx_ri C0 dX0_call_17 rfl
set_option maxHeartbeats 4000000 in
set_option maxRecDepth 100000 in
theorem m0_leave (l : Launch) (hSK : ft_SK d sk) (hSI : ft_SI ns pa ln wt) (hd : 0 < d) : Met l yX0_leave (ws_ yX0_leave cX0_leave 1 (some .int)) fx_r0 (va_Pc [.ref (ad 0)] (ft_pre (ft_FT D cA ad d sk ns pa ln wt) D cA)) (va_Qi (fun r (_ : Unit) => r = nI (sk (d - 1))) (fun _ t => ft_FT D cA ad (d - 1) sk ns pa ln wt t.heap) (ft_A ad 8)) 0 0 (ft_A ad 8) := by
  refine fx_met (by decide) (Nat.le_of_ble_eq_true rfl) ?_
  intro p e s m below meth c ls C0 _ hB hl
  obtain ⟨⟨N, fn, ab, ch, si, ow, to, ps, hI, hP, hD⟩, hK⟩ := hB
  have hT := hI.1
  have hR := hI.2.1
  have hV := hI.2.2.1
  have hWt := hI.2.2.2.1
  have hWo := hI.2.2.2.2.1
  have hN := ft_N_le hSI hI.2.2.2.2.2
  have hN1 := hT.1
  have hd8 := hSK.1
  have hsk := hSK.2
  have hlen := fun j (hj : j < N) => ft_len hV hR hSI hj
  have hto : ∀ j, to j ≤ 4000 := fun j => by
    by_cases z : j < N
    · rw [hWt.1 j z]; exact ft_tot_4000 hSI _
    · rw [hWt.2 j (by omega)]; exact Nat.zero_le _
  have how : ∀ j, ow j ≤ 4000 := fun j => by
    by_cases z : j < N
    · rw [hWo.1 j z]; exact ft_own_4000 hSI _
    · rw [hWo.2 j (by omega)]; exact Nat.zero_le _
  have hS : va_S (ft_A ad 8) s.heap s.heap [] := va_S.rf
  have C0 : fx_C cX0_leave 1 RX0 (some .int) p s m _ meth c := C0
  obtain ⟨hx, hb, hml, hown, hts, hr, hlocks⟩ := id C0
  have hl : lv_has ls 1 [(0, .ref (ad 0))] := hl
  refine lv_aload_n hx hb dX0_leave_0 rfl (lv_at hl 0 rfl) ?_
  refine fx_g0 (v := .int (nI d)) hx hb hts hown hK hP rfl 0 (by decide) q22 rfl rfl dX0_leave_1 ?_
  refine fz_ne (tgt := 9) hx hb dX0_leave_4 (by decide) (fx_z0 (n := d) (by omega)) (fun c_4 => ?_) (fun c_4 => ?_)
  · refine lv_aload_n hx hb dX0_leave_9 rfl (lv_at hl 0 rfl) ?_
    refine lv_dup hx hb dX0_leave_10 rfl ?_
    refine fx_g0 (v := .int (nI d)) hx hb hts hown hK hP rfl 0 (by decide) q22 rfl rfl dX0_leave_11 ?_
    refine lv_iconst (v := nI 1) hx hb dX0_leave_14 (by decide) ?_
    refine fx_sub (v := nI (d - 1)) hx hb dX0_leave_15 (pk_sub (by omega)) ?_
    refine fx_p0 (ws' := ft_FW cA ad (d - 1) ns N sk fn ab ch si ow to) hx hb hts hown hK hP hD hS rfl 0 (by decide) q22 rfl rfl (by decide +kernel) (Nat.le_of_ble_eq_true rfl) rfl dX0_leave_16 (fun H locs hP hD hS => ?_)
    refine lv_aload_n hx hb dX0_leave_19 rfl (lv_at hl 0 rfl) ?_
    refine fx_g0 (v := .ref (ad 1)) hx hb hts hown hK hP rfl 1 (by decide) q23 rfl rfl dX0_leave_20 ?_
    refine lv_aload_n hx hb dX0_leave_23 rfl (lv_at hl 0 rfl) ?_
    refine fx_g0 (v := .int (nI (d - 1))) hx hb hts hown hK hP rfl 0 (by decide) q22 rfl rfl dX0_leave_24 ?_
    refine fx_ald (k := d - 1) (v := nI (sk (d - 1))) hx hb hK hP 1 rfl rfl (by omega) (by decide) rfl dX0_leave_27 ?_
    exact fx_rm C0 () dX0_leave_28 rfl (fun t ht => ⟨N, fn, ab, ch, si, ow, to, ps, hI, by rw [ht]; exact hP, hD⟩) hS
  · exact absurd c_4 (by omega)
set_option maxHeartbeats 4000000 in
set_option maxRecDepth 100000 in
theorem m0_leave0 (l : Launch) (hSK : ft_SK d sk) (hSI : ft_SI ns pa ln wt) (hd : d = 0) : Met l yX0_leave (ws_ yX0_leave cX0_leave 1 (some .int)) fx_r0 (va_Pc [.ref (ad 0)] (ft_pre (ft_FT D cA ad d sk ns pa ln wt) D cA)) (vp_Si (fun r => r = -1)) 0 0 (fun _ => False) := by
  refine fx_met (by decide) (Nat.le_of_ble_eq_true rfl) ?_
  intro p e s m below meth c ls C0 _ hB hl
  obtain ⟨⟨N, fn, ab, ch, si, ow, to, ps, hI, hP, hDD⟩, hK⟩ := hB
  have hT := hI.1
  have hR := hI.2.1
  have hV := hI.2.2.1
  have hWt := hI.2.2.2.1
  have hWo := hI.2.2.2.2.1
  have hN := ft_N_le hSI hI.2.2.2.2.2
  have hN1 := hT.1
  have hd8 := hSK.1
  have hsk := hSK.2
  have hlen := fun j (hj : j < N) => ft_len hV hR hSI hj
  have hto : ∀ j, to j ≤ 4000 := fun j => by
    by_cases z : j < N
    · rw [hWt.1 j z]; exact ft_tot_4000 hSI _
    · rw [hWt.2 j (by omega)]; exact Nat.zero_le _
  have how : ∀ j, ow j ≤ 4000 := fun j => by
    by_cases z : j < N
    · rw [hWo.1 j z]; exact ft_own_4000 hSI _
    · rw [hWo.2 j (by omega)]; exact Nat.zero_le _
  have C0 : fx_C cX0_leave 1 RX0 (some .int) p s m _ meth c := C0
  obtain ⟨hx, hb, hml, hown, hts, hr, hlocks⟩ := id C0
  have hl : lv_has ls 1 [(0, .ref (ad 0))] := hl
  refine lv_aload_n hx hb dX0_leave_0 rfl (lv_at hl 0 rfl) ?_
  refine fx_g0 (v := .int (nI d)) hx hb hts hown hK hP rfl 0 (by decide) q22 rfl rfl dX0_leave_1 ?_
  refine fz_ne (tgt := 9) hx hb dX0_leave_4 (by decide) (fx_z0 (n := d) (by omega)) (fun c_4 => ?_) (fun c_4 => ?_)
  · exact absurd hd c_4
  · refine lv_iconst (v := -1) hx hb dX0_leave_7 (by decide) ?_
    exact fx_ri C0 dX0_leave_8 rfl
def ft_PD (D : va_G) (ad : Nat → Nat) (ws : va_W) (H : Heap) : Prop := va_P D vwCl ws H ∧ va_D (ft_A ad 8) ws
set_option maxHeartbeats 4000000 in
set_option maxRecDepth 100000 in
theorem m0_addChild (l : Launch) (hN1 : 1 ≤ N) (hN : N < 321) {i f : Nat} (hi : i < N) : Met l yX0_addChild (ws_ yX0_addChild cX0_addChild 4 (some .int)) fx_r0 (va_Pc [.ref (ad 0), .int (nI i), .int (nI f)] (ft_pre (ft_PD D ad (ft_FW cA ad d ns N sk fn ab ch si ow to)) D cA)) (va_Qi (fun r (_ : Unit) => r = nI N) (fun _ t => ft_PD D ad (ft_FW cA ad d ns (N + 1) sk (ft_up fn N f) (ft_up ab N i) (ft_up ch i N) (ft_up si N (ch i)) ow to) t.heap) (ft_A ad 8)) 0 0 (ft_A ad 8) := by
  refine fx_met (by decide) (Nat.le_of_ble_eq_true rfl) ?_
  intro p e s m below meth c ls C0 _ hB hl
  obtain ⟨⟨hP, hD⟩, hK⟩ := hB
  have hS : va_S (ft_A ad 8) s.heap s.heap [] := va_S.rf
  have C0 : fx_C cX0_addChild 4 RX0 (some .int) p s m _ meth c := C0
  obtain ⟨hx, hb, hml, hown, hts, hr, hlocks⟩ := id C0
  have hl : lv_has ls 4 [(0, .ref (ad 0)), (1, .int (nI i)), (2, .int (nI f))] := hl
  refine lv_aload_n hx hb dX0_addChild_0 rfl (lv_at hl 0 rfl) ?_
  refine fx_g0 (v := .int (nI N)) hx hb hts hown hK hP rfl 3 (by decide) q25 rfl rfl dX0_addChild_1 ?_
  refine lv_istore_n (lv' := [(3, .int (nI N)), (0, .ref (ad 0)), (1, .int (nI i)), (2, .int (nI f))]) hx hb dX0_addChild_4 rfl hl (by decide) rfl (fun ls hl => ?_)
  refine lv_aload_n hx hb dX0_addChild_5 rfl (lv_at hl 1 rfl) ?_
  refine lv_dup hx hb dX0_addChild_6 rfl ?_
  refine fx_g0 (v := .int (nI N)) hx hb hts hown hK hP rfl 3 (by decide) q25 rfl rfl dX0_addChild_7 ?_
  refine lv_iconst (v := nI 1) hx hb dX0_addChild_10 (by decide) ?_
  refine fx_add (v := nI (N + 1)) hx hb dX0_addChild_11 (nI_add _ _) ?_
  refine fx_p0 (ws' := ft_FW cA ad d ns (N + 1) sk fn ab ch si ow to) hx hb hts hown hK hP hD hS rfl 3 (by decide) q25 rfl rfl (by decide +kernel) (Nat.le_of_ble_eq_true rfl) rfl dX0_addChild_12 (fun H locs hP hD hS => ?_)
  refine lv_aload_n hx hb dX0_addChild_15 rfl (lv_at hl 1 rfl) ?_
  refine fx_g0 (v := .ref (ad 2)) hx hb hts hown hK hP rfl 4 (by decide) q26 rfl rfl dX0_addChild_16 ?_
  refine lv_iload_n hx hb dX0_addChild_19 rfl (lv_at hl 0 rfl) ?_
  refine lv_iload_n hx hb dX0_addChild_20 rfl (lv_at hl 3 rfl) ?_
  refine fx_ast (k := N) (ws' := ft_FW cA ad d ns (N + 1) sk (ft_up fn N f) ab ch si ow to) hx hb hK hP hD hS 2 rfl rfl (by omega) (by decide) (ft_fi_up _ hN1 _) rfl dX0_addChild_21 (fun H locs hP hD hS => ?_)
  refine lv_aload_n hx hb dX0_addChild_22 rfl (lv_at hl 1 rfl) ?_
  refine fx_g0 (v := .ref (ad 3)) hx hb hts hown hK hP rfl 5 (by decide) q27 rfl rfl dX0_addChild_23 ?_
  refine lv_iload_n hx hb dX0_addChild_26 rfl (lv_at hl 0 rfl) ?_
  refine lv_iload_n hx hb dX0_addChild_27 rfl (lv_at hl 2 rfl) ?_
  refine fx_ast (k := N) (ws' := ft_FW cA ad d ns (N + 1) sk (ft_up fn N f) (ft_up ab N i) ch si ow to) hx hb hK hP hD hS 3 rfl rfl (by omega) (by decide) (ft_nI_up _ _ _) rfl dX0_addChild_28 (fun H locs hP hD hS => ?_)
  refine lv_aload_n hx hb dX0_addChild_29 rfl (lv_at hl 1 rfl) ?_
  refine fx_g0 (v := .ref (ad 5)) hx hb hts hown hK hP rfl 7 (by decide) q29 rfl rfl dX0_addChild_30 ?_
  refine lv_iload_n hx hb dX0_addChild_33 rfl (lv_at hl 0 rfl) ?_
  refine lv_aload_n hx hb dX0_addChild_34 rfl (lv_at hl 1 rfl) ?_
  refine fx_g0 (v := .ref (ad 4)) hx hb hts hown hK hP rfl 6 (by decide) q28 rfl rfl dX0_addChild_35 ?_
  refine lv_iload_n hx hb dX0_addChild_38 rfl (lv_at hl 2 rfl) ?_
  refine fx_ald (k := i) (v := nI (ch i)) hx hb hK hP 4 rfl rfl (by omega) (by decide) rfl dX0_addChild_39 ?_
  refine fx_ast (k := N) (ws' := ft_FW cA ad d ns (N + 1) sk (ft_up fn N f) (ft_up ab N i) ch (ft_up si N (ch i)) ow to) hx hb hK hP hD hS 5 rfl rfl (by omega) (by decide) (ft_nI_up _ _ _) rfl dX0_addChild_40 (fun H locs hP hD hS => ?_)
  refine lv_aload_n hx hb dX0_addChild_41 rfl (lv_at hl 1 rfl) ?_
  refine fx_g0 (v := .ref (ad 4)) hx hb hts hown hK hP rfl 6 (by decide) q28 rfl rfl dX0_addChild_42 ?_
  refine lv_iload_n hx hb dX0_addChild_45 rfl (lv_at hl 2 rfl) ?_
  refine lv_iload_n hx hb dX0_addChild_46 rfl (lv_at hl 0 rfl) ?_
  refine fx_ast (k := i) (ws' := ft_FW cA ad d ns (N + 1) sk (ft_up fn N f) (ft_up ab N i) (ft_up ch i N) (ft_up si N (ch i)) ow to) hx hb hK hP hD hS 4 rfl rfl (by omega) (by decide) (ft_nI_up _ _ _) rfl dX0_addChild_47 (fun H locs hP hD hS => ?_)
  refine lv_iload_n hx hb dX0_addChild_48 rfl (lv_at hl 0 rfl) ?_
  exact fx_rm C0 () dX0_addChild_49 rfl (fun t ht => ⟨by rw [ht]; exact hP, hD⟩) hS
set_option maxHeartbeats 4000000 in
set_option maxRecDepth 100000 in
theorem m0_sample_l (C0 : fx_C cX0_sample 5 RX0 (some .int) p s m args meth c) (hSK : ft_SK d sk) (hSI : ft_SI ns pa ln wt) (hK : va_K D vwCl [(cA, .int)] s) {w : Nat} (hns : ns < 40) : ∀ (n k N : Nat) (fn ab ch si to : Nat → Nat) (ps : Nat → List Nat) (q : Nat), k ≤ d → d - k < n → ft_St k N fn ab ch si ow to ps ns pa ln wt sk w q → ∀ (H : Heap) (locs : List Loc), va_P D vwCl (ft_FW cA ad d ns N sk fn ab ch si ow to) H → va_D (ft_A ad 8) (ft_FW cA ad d ns N sk fn ab ch si ow to) → va_S (ft_A ad 8) s.heap H locs → ∀ ls : Array Slot, lv_has ls 5 [(0, .ref (ad 0)), (1, .int (nI w)), (2, .int (nI q)), (3, .int (nI k))] → W p l e fx_r1 s m args below meth c H locs 0 0 (MQ below (va_Qi (fun r (_ : Unit) => r = nI (ns + 1)) (fun _ t => ft_FT D cA ad d sk (ns + 1) (ft_up pa ns sk) (ft_up ln ns d) (ft_up wt ns w) t.heap) (ft_A ad 8)) args s 0 0 (ft_A ad 8)) (F0 m 36 ls []) := by
  have hd8 := hSK.1
  have hsk := hSK.2
  have hsum := ft_sum_le (n := ns) (c := 8) (f := ln) (fun i _ => hSI.2.1 i)
  obtain ⟨hx, hb, hml, hown, hts, hr, hlocks⟩ := id C0
  intro n
  induction n with
  | zero =>
    intro k N fn ab ch si to ps q h1 h2
    exact absurd h2 (by omega)
  | succ n ih =>
    intro k N fn ab ch si to ps q hk hn hSt H locs hP hD hS ls hl
    have hT := hSt.1
    have hR := hSt.2.1
    have hN1 := hT.1
    have hNb := hSt.2.2.2.2.2.1
    have hq := hSt.2.2.2.2.2.2.1
    refine lv_iload_n hx hb dX0_sample_36 rfl (lv_at hl 3 rfl) ?_
    refine lv_aload_n hx hb dX0_sample_37 rfl (lv_at hl 0 rfl) ?_
    refine fx_g0 (v := .int (nI d)) hx hb hts hown hK hP rfl 0 (by decide) q22 rfl rfl dX0_sample_38 ?_
    refine fx_ge (tgt := 94) hx hb dX0_sample_41 (by decide) (nI_leI (a := d) (b := k) (by omega) (by omega)) (fun c_41 => ?_) (fun c_41 => ?_)
    · have ek : k = d := by omega
      refine lv_aload_n hx hb dX0_sample_94 rfl (lv_at hl 0 rfl) ?_
      refine fx_g0 (v := .ref (ad 6)) hx hb hts hown hK hP rfl 8 (by decide) q30 rfl rfl dX0_sample_95 ?_
      refine lv_iload_n hx hb dX0_sample_98 rfl (lv_at hl 2 rfl) ?_
      refine lv_dup2_11 hx hb dX0_sample_99 rfl rfl ?_
      refine fx_ald (k := q) (v := nI (ow q)) hx hb hK hP 6 rfl rfl (by omega) (by decide) rfl dX0_sample_100 ?_
      refine lv_iload_n hx hb dX0_sample_101 rfl (lv_at hl 1 rfl) ?_
      refine fx_add (v := nI (ow q + w)) hx hb dX0_sample_102 (nI_add _ _) ?_
      refine fx_ast (k := q) (ws' := ft_FW cA ad d ns N sk fn ab ch si (ft_up ow q (ow q + w)) to) hx hb hK hP hD hS 6 rfl rfl (by omega) (by decide) (ft_nI_up _ _ _) rfl dX0_sample_103 (fun H locs hP hD hS => ?_)
      refine lv_aload_n hx hb dX0_sample_104 rfl (lv_at hl 0 rfl) ?_
      refine lv_dup hx hb dX0_sample_105 rfl ?_
      refine fx_g0 (v := .int (nI ns)) hx hb hts hown hK hP rfl 2 (by decide) q24 rfl rfl dX0_sample_106 ?_
      refine lv_iconst (v := nI 1) hx hb dX0_sample_109 (by decide) ?_
      refine fx_add (v := nI (ns + 1)) hx hb dX0_sample_110 (nI_add _ _) ?_
      refine fx_p0 (ws' := ft_FW cA ad d (ns + 1) N sk fn ab ch si (ft_up ow q (ow q + w)) to) hx hb hts hown hK hP hD hS rfl 2 (by decide) q24 rfl rfl (by decide +kernel) (Nat.le_of_ble_eq_true rfl) rfl dX0_sample_111 (fun H locs hP hD hS => ?_)
      refine lv_aload_n hx hb dX0_sample_114 rfl (lv_at hl 0 rfl) ?_
      refine fx_g0 (v := .int (nI (ns + 1))) hx hb hts hown hK hP rfl 2 (by decide) q24 rfl rfl dX0_sample_115 ?_
      exact fx_rm C0 () dX0_sample_118 rfl (fun t ht => ⟨N, fn, ab, ch, si, _, to, ps, ft_St_end (ek ▸ hSt), by rw [ht]; exact hP, hD⟩) hS
    · have hN : N ≤ 321 := by omega
      have hN3 : N < 321 := by omega
      refine lv_aload_n hx hb dX0_sample_44 rfl (lv_at hl 0 rfl) ?_
      refine lv_iload_n hx hb dX0_sample_45 rfl (lv_at hl 2 rfl) ?_
      refine lv_aload_n hx hb dX0_sample_46 rfl (lv_at hl 0 rfl) ?_
      refine fx_g0 (v := .ref (ad 1)) hx hb hts hown hK hP rfl 1 (by decide) q23 rfl rfl dX0_sample_47 ?_
      refine lv_iload_n hx hb dX0_sample_50 rfl (lv_at hl 3 rfl) ?_
      refine fx_ald (k := k) (v := nI (sk k)) hx hb hK hP 1 rfl rfl (by omega) (by decide) rfl dX0_sample_51 ?_
      refine fx_callV (As := [.int (nI q), .int (nI (sk k))]) (rest := []) (n := 2) C0 (m0_childWith l hT hN (i := q) (f := sk k) hq (hsk k)) hP hK (va_recv hK hP (ci := 0) (q0 := 0) rfl rfl) (lw_V q69 q71 qs0 q12 q72) ⟨rfl, rfl⟩ (by decide +kernel) ⟨Nat.le_of_ble_eq_true rfl, Nat.le_of_ble_eq_true rfl⟩ rfl hl.1 rfl (Nat.le_of_ble_eq_true rfl) dX0_sample_52 ⟨Nat.zero_le _, Nat.zero_le _⟩ (fun r hr => ?_)
      obtain ⟨j2, rfl, hj2⟩ := hr
      have b2 : j2 ≤ 321 := by omega
      refine lv_istore (lv' := [(4, .int (nI j2)), (0, .ref (ad 0)), (1, .int (nI w)), (2, .int (nI q)), (3, .int (nI k))]) hx hb dX0_sample_55 hl (by decide) rfl (fun ls hl => ?_)
      refine lv_iload hx hb dX0_sample_57 (lv_at hl 0 rfl) ?_
      refine fz_ne (tgt := 75) hx hb dX0_sample_59 (by decide) (fx_z0 (n := j2) (by omega)) (fun c_59 => ?_) (fun c_59 => ?_)
      · have hj3 : 1 ≤ j2 ∧ j2 < N ∧ ab j2 = q ∧ fn j2 = sk k := by omega
        refine lv_iload hx hb dX0_sample_75 (lv_at hl 0 rfl) ?_
        refine lv_istore_n (lv' := [(2, .int (nI j2)), (4, .int (nI j2)), (0, .ref (ad 0)), (1, .int (nI w)), (3, .int (nI k))]) hx hb dX0_sample_77 rfl hl (by decide) rfl (fun ls hl => ?_)
        refine lv_aload_n hx hb dX0_sample_78 rfl (lv_at hl 2 rfl) ?_
        refine fx_g0 (v := .ref (ad 7)) hx hb hts hown hK hP rfl 9 (by decide) q31 rfl rfl dX0_sample_79 ?_
        refine lv_iload_n hx hb dX0_sample_82 rfl (lv_at hl 0 rfl) ?_
        refine lv_dup2_11 hx hb dX0_sample_83 rfl rfl ?_
        refine fx_ald (k := j2) (v := nI (to j2)) hx hb hK hP 7 rfl rfl (by omega) (by decide) rfl dX0_sample_84 ?_
        refine lv_iload_n hx hb dX0_sample_85 rfl (lv_at hl 3 rfl) ?_
        refine fx_add (v := nI (to j2 + w)) hx hb dX0_sample_86 (nI_add _ _) ?_
        refine fx_ast (k := j2) (ws' := ft_FW cA ad d ns N sk fn ab ch si ow (ft_up to j2 (to j2 + w))) hx hb hK hP hD hS 7 rfl rfl (by omega) (by decide) (ft_nI_up _ _ _) rfl dX0_sample_87 (fun H locs hP hD hS => ?_)
        refine fx_inc (v := nI (k + 1)) (lv' := [(3, .int (nI (k + 1))), (2, .int (nI j2)), (4, .int (nI j2)), (0, .ref (ad 0)), (1, .int (nI w))]) (k0 := 4) hx hb dX0_sample_88 hl rfl (nI_1 _) (by decide) rfl (fun ls hl => ?_)
        refine lv_goto (tgt := 36) hx hb dX0_sample_91 (by decide) ?_
        exact ih (k + 1) N fn ab ch si _ ps j2 (by omega) (by omega) (ft_St_found hSt hj3.1 hj3.2.1 hj3.2.2.1 hj3.2.2.2) H locs hP hD hS ls (lv_sub hl [3, 4, 1, 0] rfl)
      · have hj3 : ∀ x, 1 ≤ x → x < N → ab x = q → fn x ≠ sk k := by
          rcases hj2 with z | z
          · exact z.2
          · omega
        refine lv_aload_n hx hb dX0_sample_62 rfl (lv_at hl 1 rfl) ?_
        refine lv_iload_n hx hb dX0_sample_63 rfl (lv_at hl 3 rfl) ?_
        refine lv_aload_n hx hb dX0_sample_64 rfl (lv_at hl 1 rfl) ?_
        refine fx_g0 (v := .ref (ad 1)) hx hb hts hown hK hP rfl 1 (by decide) q23 rfl rfl dX0_sample_65 ?_
        refine lv_iload_n hx hb dX0_sample_68 rfl (lv_at hl 4 rfl) ?_
        refine fx_ald (k := k) (v := nI (sk k)) hx hb hK hP 1 rfl rfl (by omega) (by decide) rfl dX0_sample_69 ?_
        refine fx_callM (Ψ := fun _ H => ft_PD D ad (ft_FW cA ad d ns (N + 1) sk (ft_up fn N (sk k)) (ft_up ab N q) (ft_up ch q N) (ft_up si N (ch q)) ow to) H) (As := [.int (nI q), .int (nI (sk k))]) (rest := []) (n := 2) C0 (m0_addChild (D := D) (cA := cA) (d := d) (ns := ns) (sk := sk) (ch := ch) (si := si) (ow := ow) (to := to) l hN1 hN3 (i := q) (f := sk k) hq) ⟨hP, hD⟩ hK (va_recv hK hP (ci := 0) (q0 := 0) rfl rfl) (lw_V q73 q75 qs1 q12 q76) ⟨rfl, rfl⟩ (by decide +kernel) ⟨Nat.le_of_ble_eq_true rfl, Nat.le_of_ble_eq_true rfl⟩ rfl hl.1 rfl (Nat.le_of_ble_eq_true rfl) dX0_sample_70 ⟨Nat.zero_le _, Nat.zero_le _⟩ hS (fun _ h => h) (fun r _ H locs hr hPD _ _ hS => ?_)
        subst hr
        obtain ⟨hP, hD⟩ := hPD
        refine lv_istore (lv' := [(4, .int (nI N)), (0, .ref (ad 0)), (1, .int (nI w)), (2, .int (nI q)), (3, .int (nI k))]) hx hb dX0_sample_73 hl (by decide) rfl (fun ls hl => ?_)
        refine lv_iload hx hb dX0_sample_75 (lv_at hl 0 rfl) ?_
        refine lv_istore_n (lv' := [(2, .int (nI N)), (4, .int (nI N)), (0, .ref (ad 0)), (1, .int (nI w)), (3, .int (nI k))]) hx hb dX0_sample_77 rfl hl (by decide) rfl (fun ls hl => ?_)
        refine lv_aload_n hx hb dX0_sample_78 rfl (lv_at hl 2 rfl) ?_
        refine fx_g0 (v := .ref (ad 7)) hx hb hts hown hK hP rfl 9 (by decide) q31 rfl rfl dX0_sample_79 ?_
        refine lv_iload_n hx hb dX0_sample_82 rfl (lv_at hl 0 rfl) ?_
        refine lv_dup2_11 hx hb dX0_sample_83 rfl rfl ?_
        refine fx_ald (k := N) (v := nI (to N)) hx hb hK hP 7 rfl rfl (by omega) (by decide) rfl dX0_sample_84 ?_
        refine lv_iload_n hx hb dX0_sample_85 rfl (lv_at hl 3 rfl) ?_
        refine fx_add (v := nI (to N + w)) hx hb dX0_sample_86 (nI_add _ _) ?_
        refine fx_ast (k := N) (ws' := ft_FW cA ad d ns (N + 1) sk (ft_up fn N (sk k)) (ft_up ab N q) (ft_up ch q N) (ft_up si N (ch q)) ow (ft_up to N (to N + w))) hx hb hK hP hD hS 7 rfl rfl (by omega) (by decide) (ft_nI_up _ _ _) rfl dX0_sample_87 (fun H locs hP hD hS => ?_)
        refine fx_inc (v := nI (k + 1)) (lv' := [(3, .int (nI (k + 1))), (2, .int (nI N)), (4, .int (nI N)), (0, .ref (ad 0)), (1, .int (nI w))]) (k0 := 4) hx hb dX0_sample_88 hl rfl (nI_1 _) (by decide) rfl (fun ls hl => ?_)
        refine lv_goto (tgt := 36) hx hb dX0_sample_91 (by decide) ?_
        exact ih (k + 1) (N + 1) _ _ _ _ _ _ N (by omega) (by omega) (ft_St_new hSt hj3 (hsk k)) H locs hP hD hS ls (lv_sub hl [3, 4, 1, 0] rfl)
set_option maxHeartbeats 4000000 in
set_option maxRecDepth 100000 in
theorem m0_sample (l : Launch) (hSK : ft_SK d sk) (hSI : ft_SI ns pa ln wt) {w : Nat} (hw1 : 1 ≤ w) (hw2 : w ≤ 100) (hns2 : ns < 40) : Met l yX0_sample (ws_ yX0_sample cX0_sample 5 (some .int)) fx_r1 (va_Pc [.ref (ad 0), .int (nI w)] (ft_pre (ft_FT D cA ad d sk ns pa ln wt) D cA)) (va_Qi (fun r (_ : Unit) => r = nI (ns + 1)) (fun _ t => ft_FT D cA ad d sk (ns + 1) (ft_up pa ns sk) (ft_up ln ns d) (ft_up wt ns w) t.heap) (ft_A ad 8)) 0 0 (ft_A ad 8) := by
  refine fx_met (by decide) (Nat.le_of_ble_eq_true rfl) ?_
  intro p e s m below meth c ls C0 _ hB hl
  obtain ⟨⟨N, fn, ab, ch, si, ow, to, ps, hI, hP, hD⟩, hK⟩ := hB
  have hT := hI.1
  have hR := hI.2.1
  have hV := hI.2.2.1
  have hWt := hI.2.2.2.1
  have hWo := hI.2.2.2.2.1
  have hN := ft_N_le hSI hI.2.2.2.2.2
  have hN1 := hT.1
  have hd8 := hSK.1
  have hsk := hSK.2
  have hlen := fun j (hj : j < N) => ft_len hV hR hSI hj
  have hto : ∀ j, to j ≤ 4000 := fun j => by
    by_cases z : j < N
    · rw [hWt.1 j z]; exact ft_tot_4000 hSI _
    · rw [hWt.2 j (by omega)]; exact Nat.zero_le _
  have how : ∀ j, ow j ≤ 4000 := fun j => by
    by_cases z : j < N
    · rw [hWo.1 j z]; exact ft_own_4000 hSI _
    · rw [hWo.2 j (by omega)]; exact Nat.zero_le _
  have hS : va_S (ft_A ad 8) s.heap s.heap [] := va_S.rf
  have C0 : fx_C cX0_sample 5 RX0 (some .int) p s m _ meth c := C0
  obtain ⟨hx, hb, hml, hown, hts, hr, hlocks⟩ := id C0
  have hl : lv_has ls 5 [(0, .ref (ad 0)), (1, .int (nI w))] := hl
  refine lv_iload_n hx hb dX0_sample_0 rfl (lv_at hl 1 rfl) ?_
  refine lv_iconst (v := nI 1) hx hb dX0_sample_1 (by decide) ?_
  refine fx_lt (tgt := 20) hx hb dX0_sample_2 (by decide) (nI_ltI (a := w) (b := 1) (by omega) (by omega)) (fun c_2 => ?_) (fun c_2 => ?_)
  · exact absurd c_2 (by omega)
  · refine lv_iload_n hx hb dX0_sample_5 rfl (lv_at hl 1 rfl) ?_
    refine lv_bipush (v := nI 100) hx hb dX0_sample_6 (by decide) ?_
    refine fx_gt (tgt := 20) hx hb dX0_sample_8 (by decide) (nI_ltI (a := 100) (b := w) (by omega) (by omega)) (fun c_8 => ?_) (fun c_8 => ?_)
    · exact absurd c_8 (by omega)
    · refine lv_aload_n hx hb dX0_sample_11 rfl (lv_at hl 0 rfl) ?_
      refine fx_g0 (v := .int (nI ns)) hx hb hts hown hK hP rfl 2 (by decide) q24 rfl rfl dX0_sample_12 ?_
      refine lv_bipush (v := nI 40) hx hb dX0_sample_15 (by decide) ?_
      refine fx_lt (tgt := 22) hx hb dX0_sample_17 (by decide) (nI_ltI (a := ns) (b := 40) (by omega) (by omega)) (fun c_17 => ?_) (fun c_17 => ?_)
      · refine lv_iconst (v := nI 0) hx hb dX0_sample_22 (by decide) ?_
        refine lv_istore_n (lv' := [(2, .int (nI 0)), (0, .ref (ad 0)), (1, .int (nI w))]) hx hb dX0_sample_23 rfl hl (by decide) rfl (fun ls hl => ?_)
        refine lv_aload_n hx hb dX0_sample_24 rfl (lv_at hl 1 rfl) ?_
        refine fx_g0 (v := .ref (ad 7)) hx hb hts hown hK hP rfl 9 (by decide) q31 rfl rfl dX0_sample_25 ?_
        refine lv_iconst (v := nI 0) hx hb dX0_sample_28 (by decide) ?_
        refine lv_dup2_11 hx hb dX0_sample_29 rfl rfl ?_
        refine fx_ald (k := 0) (v := nI (to 0)) hx hb hK hP 7 rfl rfl (by omega) (by decide) rfl dX0_sample_30 ?_
        refine lv_iload_n hx hb dX0_sample_31 rfl (lv_at hl 2 rfl) ?_
        refine fx_add (v := nI (to 0 + w)) hx hb dX0_sample_32 (nI_add _ _) ?_
        refine fx_ast (k := 0) (ws' := ft_FW cA ad d ns N sk fn ab ch si ow (ft_up to 0 (to 0 + w))) hx hb hK hP hD hS 7 rfl rfl (by omega) (by decide) (ft_nI_up _ _ _) rfl dX0_sample_33 (fun H locs hP hD hS => ?_)
        refine lv_iconst (v := nI 0) hx hb dX0_sample_34 (by decide) ?_
        refine lv_istore_n (lv' := [(3, .int (nI 0)), (2, .int (nI 0)), (0, .ref (ad 0)), (1, .int (nI w))]) hx hb dX0_sample_35 rfl hl (by decide) rfl (fun ls hl => ?_)
        exact m0_sample_l C0 hSK hSI hK hns2 (d + 1) 0 N fn ab ch si _ ps 0 (by omega) (by omega) (ft_St_0 sk w hI) _ _ hP hD hS ls (lv_sub hl [2, 3, 1, 0] rfl)
      · exact absurd hns2 c_17
set_option maxHeartbeats 4000000 in
set_option maxRecDepth 100000 in
theorem m0_sample0 (l : Launch) (hSK : ft_SK d sk) (hSI : ft_SI ns pa ln wt) {w : Int32} (hw : ¬ (1 ≤ w ∧ w ≤ 100 ∧ ns < 40)) : Met l yX0_sample (ws_ yX0_sample cX0_sample 5 (some .int)) fx_r1 (va_Pc [.ref (ad 0), .int w] (ft_pre (ft_FT D cA ad d sk ns pa ln wt) D cA)) (vp_Si (fun r => r = -1)) 0 0 (fun _ => False) := by
  refine fx_met (by decide) (Nat.le_of_ble_eq_true rfl) ?_
  intro p e s m below meth c ls C0 _ hB hl
  obtain ⟨⟨N, fn, ab, ch, si, ow, to, ps, hI, hP, hDD⟩, hK⟩ := hB
  have hT := hI.1
  have hR := hI.2.1
  have hV := hI.2.2.1
  have hWt := hI.2.2.2.1
  have hWo := hI.2.2.2.2.1
  have hN := ft_N_le hSI hI.2.2.2.2.2
  have hN1 := hT.1
  have hd8 := hSK.1
  have hsk := hSK.2
  have hlen := fun j (hj : j < N) => ft_len hV hR hSI hj
  have hto : ∀ j, to j ≤ 4000 := fun j => by
    by_cases z : j < N
    · rw [hWt.1 j z]; exact ft_tot_4000 hSI _
    · rw [hWt.2 j (by omega)]; exact Nat.zero_le _
  have how : ∀ j, ow j ≤ 4000 := fun j => by
    by_cases z : j < N
    · rw [hWo.1 j z]; exact ft_own_4000 hSI _
    · rw [hWo.2 j (by omega)]; exact Nat.zero_le _
  have C0 : fx_C cX0_sample 5 RX0 (some .int) p s m _ meth c := C0
  obtain ⟨hx, hb, hml, hown, hts, hr, hlocks⟩ := id C0
  have hl : lv_has ls 5 [(0, .ref (ad 0)), (1, .int w)] := hl
  have hns := hSI.1
  refine lv_iload_n hx hb dX0_sample_0 rfl (lv_at hl 1 rfl) ?_
  refine lv_iconst (v := 1) hx hb dX0_sample_1 (by decide) ?_
  refine fx_lt (tgt := 20) hx hb dX0_sample_2 (by decide) Iff.rfl (fun c_2 => ?_) (fun c_2 => ?_)
  · refine lv_iconst (v := -1) hx hb dX0_sample_20 (by decide) ?_
    exact fx_ri C0 dX0_sample_21 rfl
  · refine lv_iload_n hx hb dX0_sample_5 rfl (lv_at hl 1 rfl) ?_
    refine lv_bipush (v := 100) hx hb dX0_sample_6 (by decide) ?_
    refine fx_gt (tgt := 20) hx hb dX0_sample_8 (by decide) Iff.rfl (fun c_8 => ?_) (fun c_8 => ?_)
    · refine lv_iconst (v := -1) hx hb dX0_sample_20 (by decide) ?_
      exact fx_ri C0 dX0_sample_21 rfl
    · refine lv_aload_n hx hb dX0_sample_11 rfl (lv_at hl 0 rfl) ?_
      refine fx_g0 (v := .int (nI ns)) hx hb hts hown hK hP rfl 2 (by decide) q24 rfl rfl dX0_sample_12 ?_
      refine lv_bipush (v := nI 40) hx hb dX0_sample_15 (by decide) ?_
      refine fx_lt (tgt := 22) hx hb dX0_sample_17 (by decide) (nI_ltI (a := ns) (b := 40) (by omega) (by omega)) (fun c_17 => ?_) (fun c_17 => ?_)
      · exact absurd ⟨ft_ge1.mpr c_2, ft_n100 c_8, c_17⟩ hw
      · refine lv_iconst (v := -1) hx hb dX0_sample_20 (by decide) ?_
        exact fx_ri C0 dX0_sample_21 rfl
end
end
section
/-! THE CLAIM OUT OF ONE WALK OF THE LAW'S BODY. Your part is whole_start (and what it stands on); all else here is the same for every law, but numbers. -/
def R_law : String := "FlameTreeLaw"
def lw_P (b : Addr) (xs : List Int32) (args : Array Value) (s : State) : Prop := args = #[.ref b] ∧ s.IntsAt b xs ∧ xs.length ≤ 192 ∧ (Jvm.Cond.and given_1 narrow_1).before args s = true
def lw_Q (_ : Array Value) (s : State) (o : Outcome) (t : State) : Prop := o = .returned (some (.int 1)) ∧ Framed s o t [] 600000 7290000
def lw_Z (below : List Frame) (a : Array Value) (s : State) : State → Prop := fun t => ∃ o, t.status = .running ∧ Ended t below o ∧ lw_Q a s o t
/-- the law's own end, with 1 on the stack, nothing written that was there before, its room as the claim has it -/
theorem lw_ret {p : Program} {l : Launch} {e : Env} {s : State} {m : MethodId} {below : List Frame} {meth : Method} {c : Code} {b : Nat} (hx : p.tables.exec = Jvm.exec) (hb : c.code = code) (hr : meth.sig.returnType = ret) (hlocks : meth.locks = false) {pc : Nat} {H : Heap} {ls : Array Slot} (hdg : decode code pc = .ok (.ireturn, 1)) : W p l e room_1 s m #[Value.ref b] below meth c H [] 600000 7290000 (lw_Z below #[Value.ref b] s) (F0 m pc ls [.int 1]) := by
  intro T hT X
  obtain ⟨fs, hret, hrun, hended, hW, hframe⟩ := X.leave (v := some (.int 1)) (hlocks := hlocks) (fun h => by rw [hr] at h; cases h)
  have hmeth' : T.vm.method? m = some meth := X.method'
  refine ⟨T.setFrames fs, ?_, .returned (some (.int 1)), hrun, hended, rfl, ⟨_, rfl⟩, hW, hframe⟩
  jvm_step X.here [X.here.top, hx, hb, hdg, hmeth', hr, ret, narrow_b1]
  (try refine ⟨rfl, ?_⟩); (try refine ⟨rfl, ?_⟩)
  first | (intro acts; rw [hret _ acts rfl rfl rfl]) | rw [hret _ _ rfl rfl rfl]
  exact Steps.refl _
/-- what holds at the law's entry: the machine, the code, the tables' words (any of lw_tbl by 'hts w (by decide +kernel)'), the script of L ints xs at the cell b, what the Statement gives of the start (any of its parts by flat_of_before) -/
def lw_At (p : Program) (s : State) (m : MethodId) (meth : Method) (c : Code) (b L : Nat) (xs : Nat → Int32) : Prop :=
  p.tables.exec = Jvm.exec ∧ c.code = code ∧ meth.sig.returnType = ret ∧ c.maxLocals = 4 ∧ s.vm.findClass R_law = some m.cls ∧ (∀ w ∈ lw_tbl, w.before #[Value.ref b] s = true) ∧ va_X b L xs s s.heap ∧ b < s.heap.size ∧ meth.locks = false ∧ (Jvm.Cond.and given_1 narrow_1).before #[Value.ref b] s = true
end
section
/-! the law's own entry -/
set_option maxRecDepth 100000
abbrev cL_law : ByteArray := code
theorem dL_law_0 : decode cL_law 0 = .ok (.new 7, 3) := by decide +kernel
theorem dL_law_3 : decode cL_law 3 = .ok (.dup, 1) := by decide +kernel
theorem dL_law_4 : decode cL_law 4 = .ok (.invokespecial 9, 3) := by decide +kernel
theorem dL_law_7 : decode cL_law 7 = .ok (.astore_n 1, 1) := by decide +kernel
theorem dL_law_8 : decode cL_law 8 = .ok (.new 10, 3) := by decide +kernel
theorem dL_law_11 : decode cL_law 11 = .ok (.dup, 1) := by decide +kernel
theorem dL_law_12 : decode cL_law 12 = .ok (.invokespecial 12, 3) := by decide +kernel
theorem dL_law_15 : decode cL_law 15 = .ok (.astore_n 2, 1) := by decide +kernel
theorem dL_law_16 : decode cL_law 16 = .ok (.iconst 0, 1) := by decide +kernel
theorem dL_law_17 : decode cL_law 17 = .ok (.istore_n 3, 1) := by decide +kernel
theorem dL_law_18 : decode cL_law 18 = .ok (.iload_n 3, 1) := by decide +kernel
theorem dL_law_19 : decode cL_law 19 = .ok (.aload_n 0, 1) := by decide +kernel
theorem dL_law_20 : decode cL_law 20 = .ok (.arraylength, 1) := by decide +kernel
theorem dL_law_21 : decode cL_law 21 = .ok (.iconst 3, 1) := by decide +kernel
theorem dL_law_22 : decode cL_law 22 = .ok (.isub, 1) := by decide +kernel
theorem dL_law_23 : decode cL_law 23 = .ok (.if_icmp .gt 298, 3) := by decide +kernel
theorem dL_law_26 : decode cL_law 26 = .ok (.aload_n 0, 1) := by decide +kernel
theorem dL_law_27 : decode cL_law 27 = .ok (.iload_n 3, 1) := by decide +kernel
theorem dL_law_28 : decode cL_law 28 = .ok (.iaload, 1) := by decide +kernel
theorem dL_law_29 : decode cL_law 29 = .ok (.bipush 15, 2) := by decide +kernel
theorem dL_law_31 : decode cL_law 31 = .ok (.iand, 1) := by decide +kernel
theorem dL_law_32 : decode cL_law 32 = .ok (.tableswitch 283 0 10 #[60, 83, 96, 119, 132, 145, 158, 181, 204, 237, 260], 60) := by decide +kernel
theorem dL_law_92 : decode cL_law 92 = .ok (.aload_n 1, 1) := by decide +kernel
theorem dL_law_93 : decode cL_law 93 = .ok (.aload_n 0, 1) := by decide +kernel
theorem dL_law_94 : decode cL_law 94 = .ok (.iload_n 3, 1) := by decide +kernel
theorem dL_law_95 : decode cL_law 95 = .ok (.iconst 1, 1) := by decide +kernel
theorem dL_law_96 : decode cL_law 96 = .ok (.iadd, 1) := by decide +kernel
theorem dL_law_97 : decode cL_law 97 = .ok (.iaload, 1) := by decide +kernel
theorem dL_law_98 : decode cL_law 98 = .ok (.invokevirtual 13, 3) := by decide +kernel
theorem dL_law_101 : decode cL_law 101 = .ok (.aload_n 2, 1) := by decide +kernel
theorem dL_law_102 : decode cL_law 102 = .ok (.aload_n 0, 1) := by decide +kernel
theorem dL_law_103 : decode cL_law 103 = .ok (.iload_n 3, 1) := by decide +kernel
theorem dL_law_104 : decode cL_law 104 = .ok (.iconst 1, 1) := by decide +kernel
theorem dL_law_105 : decode cL_law 105 = .ok (.iadd, 1) := by decide +kernel
theorem dL_law_106 : decode cL_law 106 = .ok (.iaload, 1) := by decide +kernel
theorem dL_law_107 : decode cL_law 107 = .ok (.invokevirtual 17, 3) := by decide +kernel
theorem dL_law_110 : decode cL_law 110 = .ok (.if_icmp .eq 205, 3) := by decide +kernel
theorem dL_law_113 : decode cL_law 113 = .ok (.iconst 0, 1) := by decide +kernel
theorem dL_law_114 : decode cL_law 114 = .ok (.ireturn, 1) := by decide +kernel
theorem dL_law_115 : decode cL_law 115 = .ok (.aload_n 1, 1) := by decide +kernel
theorem dL_law_116 : decode cL_law 116 = .ok (.invokevirtual 18, 3) := by decide +kernel
theorem dL_law_119 : decode cL_law 119 = .ok (.aload_n 2, 1) := by decide +kernel
theorem dL_law_120 : decode cL_law 120 = .ok (.invokevirtual 22, 3) := by decide +kernel
theorem dL_law_123 : decode cL_law 123 = .ok (.if_icmp .eq 192, 3) := by decide +kernel
theorem dL_law_126 : decode cL_law 126 = .ok (.iconst 0, 1) := by decide +kernel
theorem dL_law_127 : decode cL_law 127 = .ok (.ireturn, 1) := by decide +kernel
theorem dL_law_128 : decode cL_law 128 = .ok (.aload_n 1, 1) := by decide +kernel
theorem dL_law_129 : decode cL_law 129 = .ok (.aload_n 0, 1) := by decide +kernel
theorem dL_law_130 : decode cL_law 130 = .ok (.iload_n 3, 1) := by decide +kernel
theorem dL_law_131 : decode cL_law 131 = .ok (.iconst 1, 1) := by decide +kernel
theorem dL_law_132 : decode cL_law 132 = .ok (.iadd, 1) := by decide +kernel
theorem dL_law_133 : decode cL_law 133 = .ok (.iaload, 1) := by decide +kernel
theorem dL_law_134 : decode cL_law 134 = .ok (.invokevirtual 23, 3) := by decide +kernel
theorem dL_law_137 : decode cL_law 137 = .ok (.aload_n 2, 1) := by decide +kernel
theorem dL_law_138 : decode cL_law 138 = .ok (.aload_n 0, 1) := by decide +kernel
theorem dL_law_139 : decode cL_law 139 = .ok (.iload_n 3, 1) := by decide +kernel
theorem dL_law_140 : decode cL_law 140 = .ok (.iconst 1, 1) := by decide +kernel
theorem dL_law_141 : decode cL_law 141 = .ok (.iadd, 1) := by decide +kernel
theorem dL_law_142 : decode cL_law 142 = .ok (.iaload, 1) := by decide +kernel
theorem dL_law_143 : decode cL_law 143 = .ok (.invokevirtual 26, 3) := by decide +kernel
theorem dL_law_146 : decode cL_law 146 = .ok (.if_icmp .eq 169, 3) := by decide +kernel
theorem dL_law_149 : decode cL_law 149 = .ok (.iconst 0, 1) := by decide +kernel
theorem dL_law_150 : decode cL_law 150 = .ok (.ireturn, 1) := by decide +kernel
theorem dL_law_151 : decode cL_law 151 = .ok (.aload_n 1, 1) := by decide +kernel
theorem dL_law_152 : decode cL_law 152 = .ok (.invokevirtual 27, 3) := by decide +kernel
theorem dL_law_155 : decode cL_law 155 = .ok (.aload_n 2, 1) := by decide +kernel
theorem dL_law_156 : decode cL_law 156 = .ok (.invokevirtual 30, 3) := by decide +kernel
theorem dL_law_159 : decode cL_law 159 = .ok (.if_icmp .eq 156, 3) := by decide +kernel
theorem dL_law_162 : decode cL_law 162 = .ok (.iconst 0, 1) := by decide +kernel
theorem dL_law_163 : decode cL_law 163 = .ok (.ireturn, 1) := by decide +kernel
theorem dL_law_164 : decode cL_law 164 = .ok (.aload_n 1, 1) := by decide +kernel
theorem dL_law_165 : decode cL_law 165 = .ok (.invokevirtual 31, 3) := by decide +kernel
theorem dL_law_168 : decode cL_law 168 = .ok (.aload_n 2, 1) := by decide +kernel
theorem dL_law_169 : decode cL_law 169 = .ok (.invokevirtual 34, 3) := by decide +kernel
theorem dL_law_172 : decode cL_law 172 = .ok (.if_icmp .eq 143, 3) := by decide +kernel
theorem dL_law_175 : decode cL_law 175 = .ok (.iconst 0, 1) := by decide +kernel
theorem dL_law_176 : decode cL_law 176 = .ok (.ireturn, 1) := by decide +kernel
theorem dL_law_177 : decode cL_law 177 = .ok (.aload_n 1, 1) := by decide +kernel
theorem dL_law_178 : decode cL_law 178 = .ok (.invokevirtual 35, 3) := by decide +kernel
theorem dL_law_181 : decode cL_law 181 = .ok (.aload_n 2, 1) := by decide +kernel
theorem dL_law_182 : decode cL_law 182 = .ok (.invokevirtual 38, 3) := by decide +kernel
theorem dL_law_185 : decode cL_law 185 = .ok (.if_icmp .eq 130, 3) := by decide +kernel
theorem dL_law_188 : decode cL_law 188 = .ok (.iconst 0, 1) := by decide +kernel
theorem dL_law_189 : decode cL_law 189 = .ok (.ireturn, 1) := by decide +kernel
theorem dL_law_190 : decode cL_law 190 = .ok (.aload_n 1, 1) := by decide +kernel
theorem dL_law_191 : decode cL_law 191 = .ok (.aload_n 0, 1) := by decide +kernel
theorem dL_law_192 : decode cL_law 192 = .ok (.iload_n 3, 1) := by decide +kernel
theorem dL_law_193 : decode cL_law 193 = .ok (.iconst 1, 1) := by decide +kernel
theorem dL_law_194 : decode cL_law 194 = .ok (.iadd, 1) := by decide +kernel
theorem dL_law_195 : decode cL_law 195 = .ok (.iaload, 1) := by decide +kernel
theorem dL_law_196 : decode cL_law 196 = .ok (.invokevirtual 39, 3) := by decide +kernel
theorem dL_law_199 : decode cL_law 199 = .ok (.aload_n 2, 1) := by decide +kernel
theorem dL_law_200 : decode cL_law 200 = .ok (.aload_n 0, 1) := by decide +kernel
theorem dL_law_201 : decode cL_law 201 = .ok (.iload_n 3, 1) := by decide +kernel
theorem dL_law_202 : decode cL_law 202 = .ok (.iconst 1, 1) := by decide +kernel
theorem dL_law_203 : decode cL_law 203 = .ok (.iadd, 1) := by decide +kernel
theorem dL_law_204 : decode cL_law 204 = .ok (.iaload, 1) := by decide +kernel
theorem dL_law_205 : decode cL_law 205 = .ok (.invokevirtual 42, 3) := by decide +kernel
theorem dL_law_208 : decode cL_law 208 = .ok (.if_icmp .eq 107, 3) := by decide +kernel
theorem dL_law_211 : decode cL_law 211 = .ok (.iconst 0, 1) := by decide +kernel
theorem dL_law_212 : decode cL_law 212 = .ok (.ireturn, 1) := by decide +kernel
theorem dL_law_213 : decode cL_law 213 = .ok (.aload_n 1, 1) := by decide +kernel
theorem dL_law_214 : decode cL_law 214 = .ok (.aload_n 0, 1) := by decide +kernel
theorem dL_law_215 : decode cL_law 215 = .ok (.iload_n 3, 1) := by decide +kernel
theorem dL_law_216 : decode cL_law 216 = .ok (.iconst 1, 1) := by decide +kernel
theorem dL_law_217 : decode cL_law 217 = .ok (.iadd, 1) := by decide +kernel
theorem dL_law_218 : decode cL_law 218 = .ok (.iaload, 1) := by decide +kernel
theorem dL_law_219 : decode cL_law 219 = .ok (.invokevirtual 43, 3) := by decide +kernel
theorem dL_law_222 : decode cL_law 222 = .ok (.aload_n 2, 1) := by decide +kernel
theorem dL_law_223 : decode cL_law 223 = .ok (.aload_n 0, 1) := by decide +kernel
theorem dL_law_224 : decode cL_law 224 = .ok (.iload_n 3, 1) := by decide +kernel
theorem dL_law_225 : decode cL_law 225 = .ok (.iconst 1, 1) := by decide +kernel
theorem dL_law_226 : decode cL_law 226 = .ok (.iadd, 1) := by decide +kernel
theorem dL_law_227 : decode cL_law 227 = .ok (.iaload, 1) := by decide +kernel
theorem dL_law_228 : decode cL_law 228 = .ok (.invokevirtual 46, 3) := by decide +kernel
theorem dL_law_231 : decode cL_law 231 = .ok (.if_icmp .eq 84, 3) := by decide +kernel
theorem dL_law_234 : decode cL_law 234 = .ok (.iconst 0, 1) := by decide +kernel
theorem dL_law_235 : decode cL_law 235 = .ok (.ireturn, 1) := by decide +kernel
theorem dL_law_236 : decode cL_law 236 = .ok (.aload_n 1, 1) := by decide +kernel
theorem dL_law_237 : decode cL_law 237 = .ok (.aload_n 0, 1) := by decide +kernel
theorem dL_law_238 : decode cL_law 238 = .ok (.iload_n 3, 1) := by decide +kernel
theorem dL_law_239 : decode cL_law 239 = .ok (.iconst 1, 1) := by decide +kernel
theorem dL_law_240 : decode cL_law 240 = .ok (.iadd, 1) := by decide +kernel
theorem dL_law_241 : decode cL_law 241 = .ok (.iaload, 1) := by decide +kernel
theorem dL_law_242 : decode cL_law 242 = .ok (.aload_n 0, 1) := by decide +kernel
theorem dL_law_243 : decode cL_law 243 = .ok (.iload_n 3, 1) := by decide +kernel
theorem dL_law_244 : decode cL_law 244 = .ok (.iconst 2, 1) := by decide +kernel
theorem dL_law_245 : decode cL_law 245 = .ok (.iadd, 1) := by decide +kernel
theorem dL_law_246 : decode cL_law 246 = .ok (.iaload, 1) := by decide +kernel
theorem dL_law_247 : decode cL_law 247 = .ok (.invokevirtual 47, 3) := by decide +kernel
theorem dL_law_250 : decode cL_law 250 = .ok (.aload_n 2, 1) := by decide +kernel
theorem dL_law_251 : decode cL_law 251 = .ok (.aload_n 0, 1) := by decide +kernel
theorem dL_law_252 : decode cL_law 252 = .ok (.iload_n 3, 1) := by decide +kernel
theorem dL_law_253 : decode cL_law 253 = .ok (.iconst 1, 1) := by decide +kernel
theorem dL_law_254 : decode cL_law 254 = .ok (.iadd, 1) := by decide +kernel
theorem dL_law_255 : decode cL_law 255 = .ok (.iaload, 1) := by decide +kernel
theorem dL_law_256 : decode cL_law 256 = .ok (.aload_n 0, 1) := by decide +kernel
theorem dL_law_257 : decode cL_law 257 = .ok (.iload_n 3, 1) := by decide +kernel
theorem dL_law_258 : decode cL_law 258 = .ok (.iconst 2, 1) := by decide +kernel
theorem dL_law_259 : decode cL_law 259 = .ok (.iadd, 1) := by decide +kernel
theorem dL_law_260 : decode cL_law 260 = .ok (.iaload, 1) := by decide +kernel
theorem dL_law_261 : decode cL_law 261 = .ok (.invokevirtual 51, 3) := by decide +kernel
theorem dL_law_264 : decode cL_law 264 = .ok (.if_icmp .eq 51, 3) := by decide +kernel
theorem dL_law_267 : decode cL_law 267 = .ok (.iconst 0, 1) := by decide +kernel
theorem dL_law_268 : decode cL_law 268 = .ok (.ireturn, 1) := by decide +kernel
theorem dL_law_269 : decode cL_law 269 = .ok (.aload_n 1, 1) := by decide +kernel
theorem dL_law_270 : decode cL_law 270 = .ok (.aload_n 0, 1) := by decide +kernel
theorem dL_law_271 : decode cL_law 271 = .ok (.iload_n 3, 1) := by decide +kernel
theorem dL_law_272 : decode cL_law 272 = .ok (.iconst 1, 1) := by decide +kernel
theorem dL_law_273 : decode cL_law 273 = .ok (.iadd, 1) := by decide +kernel
theorem dL_law_274 : decode cL_law 274 = .ok (.iaload, 1) := by decide +kernel
theorem dL_law_275 : decode cL_law 275 = .ok (.invokevirtual 52, 3) := by decide +kernel
theorem dL_law_278 : decode cL_law 278 = .ok (.aload_n 2, 1) := by decide +kernel
theorem dL_law_279 : decode cL_law 279 = .ok (.aload_n 0, 1) := by decide +kernel
theorem dL_law_280 : decode cL_law 280 = .ok (.iload_n 3, 1) := by decide +kernel
theorem dL_law_281 : decode cL_law 281 = .ok (.iconst 1, 1) := by decide +kernel
theorem dL_law_282 : decode cL_law 282 = .ok (.iadd, 1) := by decide +kernel
theorem dL_law_283 : decode cL_law 283 = .ok (.iaload, 1) := by decide +kernel
theorem dL_law_284 : decode cL_law 284 = .ok (.invokevirtual 55, 3) := by decide +kernel
theorem dL_law_287 : decode cL_law 287 = .ok (.if_icmp .eq 28, 3) := by decide +kernel
theorem dL_law_290 : decode cL_law 290 = .ok (.iconst 0, 1) := by decide +kernel
theorem dL_law_291 : decode cL_law 291 = .ok (.ireturn, 1) := by decide +kernel
theorem dL_law_292 : decode cL_law 292 = .ok (.aload_n 1, 1) := by decide +kernel
theorem dL_law_293 : decode cL_law 293 = .ok (.aload_n 0, 1) := by decide +kernel
theorem dL_law_294 : decode cL_law 294 = .ok (.iload_n 3, 1) := by decide +kernel
theorem dL_law_295 : decode cL_law 295 = .ok (.iconst 1, 1) := by decide +kernel
theorem dL_law_296 : decode cL_law 296 = .ok (.iadd, 1) := by decide +kernel
theorem dL_law_297 : decode cL_law 297 = .ok (.iaload, 1) := by decide +kernel
theorem dL_law_298 : decode cL_law 298 = .ok (.invokevirtual 56, 3) := by decide +kernel
theorem dL_law_301 : decode cL_law 301 = .ok (.aload_n 2, 1) := by decide +kernel
theorem dL_law_302 : decode cL_law 302 = .ok (.aload_n 0, 1) := by decide +kernel
theorem dL_law_303 : decode cL_law 303 = .ok (.iload_n 3, 1) := by decide +kernel
theorem dL_law_304 : decode cL_law 304 = .ok (.iconst 1, 1) := by decide +kernel
theorem dL_law_305 : decode cL_law 305 = .ok (.iadd, 1) := by decide +kernel
theorem dL_law_306 : decode cL_law 306 = .ok (.iaload, 1) := by decide +kernel
theorem dL_law_307 : decode cL_law 307 = .ok (.invokevirtual 59, 3) := by decide +kernel
theorem dL_law_310 : decode cL_law 310 = .ok (.if_icmp .eq 5, 3) := by decide +kernel
theorem dL_law_313 : decode cL_law 313 = .ok (.iconst 0, 1) := by decide +kernel
theorem dL_law_314 : decode cL_law 314 = .ok (.ireturn, 1) := by decide +kernel
theorem dL_law_315 : decode cL_law 315 = .ok (.iinc 3 3, 3) := by decide +kernel
theorem dL_law_318 : decode cL_law 318 = .ok (.goto (-300), 3) := by decide +kernel
theorem dL_law_321 : decode cL_law 321 = .ok (.iconst 1, 1) := by decide +kernel
theorem dL_law_322 : decode cL_law 322 = .ok (.ireturn, 1) := by decide +kernel
end
section
/-! THE LAW: its eleven calls -/
theorem ft_FTk {D : va_G} {cA : ClassId} {ad : Nat → Nat} {d : Nat} {sk : Nat → Nat} {ns : Nat} {pa : Nat → Nat → Nat} {ln wt : Nat → Nat} {H H1 : Heap} (h : ft_FT D cA ad d sk ns pa ln wt H) (hq : ∀ k, k < 8 → H1[ad k]? = H[ad k]?) : ft_FT D cA ad d sk ns pa ln wt H1 := by
  obtain ⟨N, fn, ab, ch, si, ow, to, ps, hI, hP, hD⟩ := h
  refine ⟨N, fn, ab, ch, si, ow, to, ps, hI, hP.kept (fun k q hk => ?_), hD⟩
  obtain ⟨j, hj, e⟩ := hD.2 k q hk
  rw [e]
  exact hq j hj
theorem ft_MTk {D : va_G} {cA : ClassId} {am : Nat → Nat} {d : Nat} {sk : Nat → Nat} {ns : Nat} {pa : Nat → Nat → Nat} {ln wt : Nat → Nat} {H H1 : Heap} (h : ft_MT D cA am d sk ns pa ln wt H) (hq : ∀ k, k < 5 → H1[am k]? = H[am k]?) : ft_MT D cA am d sk ns pa ln wt H1 := by
  obtain ⟨cp, hI, hP, hD⟩ := h
  refine ⟨cp, hI, hP.kept (fun k q hk => ?_), hD⟩
  obtain ⟨j, hj, e⟩ := hD.2 k q hk
  rw [e]
  exact hq j hj
theorem ft_FTl {D : va_G} {cA : ClassId} {ad : Nat → Nat} {d : Nat} {sk : Nat → Nat} {ns : Nat} {pa : Nat → Nat → Nat} {ln wt : Nat → Nat} {H : Heap} (h : ft_FT D cA ad d sk ns pa ln wt H) : ∀ k, k < 8 → ad k < H.size := by
  obtain ⟨N, fn, ab, ch, si, ow, to, ps, hI, hP, hD⟩ := h
  intro k hk
  match k, hk with
  | 0, _ => exact (hP 0 _ rfl).lt
  | 1, _ => exact (hP 1 _ rfl).lt
  | 2, _ => exact (hP 2 _ rfl).lt
  | 3, _ => exact (hP 3 _ rfl).lt
  | 4, _ => exact (hP 4 _ rfl).lt
  | 5, _ => exact (hP 5 _ rfl).lt
  | 6, _ => exact (hP 6 _ rfl).lt
  | 7, _ => exact (hP 7 _ rfl).lt
theorem ft_MTl {D : va_G} {cA : ClassId} {am : Nat → Nat} {d : Nat} {sk : Nat → Nat} {ns : Nat} {pa : Nat → Nat → Nat} {ln wt : Nat → Nat} {H : Heap} (h : ft_MT D cA am d sk ns pa ln wt H) : ∀ k, k < 5 → am k < H.size := by
  obtain ⟨cp, hI, hP, hD⟩ := h
  intro k hk
  match k, hk with
  | 0, _ => exact (hP 0 _ rfl).lt
  | 1, _ => exact (hP 1 _ rfl).lt
  | 2, _ => exact (hP 2 _ rfl).lt
  | 3, _ => exact (hP 3 _ rfl).lt
  | 4, _ => exact (hP 4 _ rfl).lt
theorem ft_FTr {D : va_G} {cA : ClassId} {ad : Nat → Nat} {d : Nat} {sk : Nat → Nat} {ns : Nat} {pa : Nat → Nat → Nat} {ln wt : Nat → Nat} {H : Heap} {s : State} (hK : va_K D vwCl [(cA, .int)] s) (h : ft_FT D cA ad d sk ns pa ln wt H) : ∃ cell : Cell, H[ad 0]? = some cell ∧ cell.vm.isStatics = false ∧ s.vm.findClass RX0 = some cell.cls := by
  obtain ⟨N, fn, ab, ch, si, ow, to, ps, hI, hP, hD⟩ := h
  exact va_recv hK hP (ci := 0) (q0 := 0) rfl rfl
theorem ft_MTr {D : va_G} {cA : ClassId} {am : Nat → Nat} {d : Nat} {sk : Nat → Nat} {ns : Nat} {pa : Nat → Nat → Nat} {ln wt : Nat → Nat} {H : Heap} {s : State} (hK : va_K D vwCl [(cA, .int)] s) (h : ft_MT D cA am d sk ns pa ln wt H) : ∃ cell : Cell, H[am 0]? = some cell ∧ cell.vm.isStatics = false ∧ s.vm.findClass RX1 = some cell.cls := by
  obtain ⟨cp, hI, hP, hD⟩ := h
  exact va_recv hK hP (ci := 1) (q0 := 0) rfl rfl
theorem ft_SK_up {d f : Nat} {sk : Nat → Nat} (h : ft_SK d sk) (hd : d < 8) (hf : f ≤ 7) : ft_SK (d + 1) (ft_up sk d f) := by
  refine ⟨by omega, fun k => ?_⟩
  by_cases e : k = d
  · rw [e, ft_up_s]; exact hf
  · rw [ft_up_n sk _ e]; exact h.2 k
theorem ft_hot_2 {d : Nat} {T : Nat → Nat} {r r2 : Int32} (hd : d ≤ 8) (h : (d = 8 → r = -1) ∧ (d < 8 → ∃ mo, ft_hot 8 T r mo)) (h2 : (d = 8 → r2 = -1) ∧ (d < 8 → ∃ mo, ft_hot 8 T r2 mo)) : r = r2 := by
  by_cases e : d = 8
  · rw [h.1 e, h2.1 e]
  · obtain ⟨m1, a⟩ := h.2 (by omega)
    obtain ⟨m2, b⟩ := h2.2 (by omega)
    exact ft_hot_u a b
theorem fx_w100 {x : Int32} (h1 : 1 ≤ x) (h2 : x ≤ 100) : ∃ w : Nat, 1 ≤ w ∧ w ≤ 100 ∧ x = nI w := by
  have h0 : ¬ x < 0 := fun z => by
    rw [Int32.le_iff_toInt_le] at h1
    rw [Int32.lt_iff_toInt_lt] at z
    have e0 : (0 : Int32).toInt = 0 := by decide
    have e1 : (1 : Int32).toInt = 1 := by decide
    omega
  obtain ⟨w, hw, rfl⟩ := nI_of2 (M := 100) (n := 100) (by decide) h0 h2
  refine ⟨w, ?_, hw, rfl⟩
  have := (nI_leI (a := 1) (b := w) (by omega) (by omega)).mp h1
  exact this
section
variable {p : Program} {l : Launch} {e : Env} {R : Room} {s : State} {m : MethodId} {args : Array Value} {below : List Frame} {meth : Method} {c : Code} {H : Heap} {locs : List Loc} {cells slots : Nat} {Q : State → Prop}
variable {cc : ByteArray} {pc : Nat} {ls : Array Slot} {rest : List Value} {A : Nat → Prop} {H0 : Heap}
theorem fx_sld (hx : p.tables.exec = Jvm.exec) (hb : c.code = cc) {b L : Nat} {xs : Nat → Int32} (hX : va_X b L xs s H0) (hbl : b < H0.size) (hbA : ¬ A b) (hS : va_S A H0 H locs) {k : Nat} {v : Int32} (hk : k < L) (hL : L < 2 ^ 31) (hv : xs k = v) (hdg : decode cc pc = .ok (.iaload, 1))
    (kk : W p l e R s m args below meth c H locs cells slots Q (F0 m (pc + 1) ls (.int v :: rest))) : W p l e R s m args below meth c H locs cells slots Q (F0 m pc ls (.int (nI k) :: .ref b :: rest)) := by
  subst hv
  refine va_sld hx hb hX hbl hbA hS (vp_in_nI hk hL) hdg ?_
  rw [nI_clamp (by omega)]
  exact kk
end
/-- what holds all through the law's run -/
def lc_H (p : Program) (s : State) (m : MethodId) (meth : Method) (c : Code) (b L : Nat) (xs : Nat → Int32) (D : va_G) (cA : ClassId) (ad am : Nat → Nat) : Prop :=
  fx_C code 4 R_law ret p s m #[Value.ref b] meth c ∧ va_X b L xs s s.heap ∧ b < s.heap.size ∧ va_K D vwCl [(cA, .int)] s ∧ (∀ i j, i < 8 → j < 5 → ad i ≠ am j) ∧ (∀ k, k < 8 → s.heap.size ≤ ad k) ∧ (∀ k, k < 5 → s.heap.size ≤ am k) ∧ L ≤ 192
/-- the goal behind a case -/
def lc_K (p : Program) (l : Launch) (e : Env) (s : State) (m : MethodId) (below : List Frame) (meth : Method) (c : Code) (b : Nat) (D : va_G) (cA : ClassId) (ad am : Nat → Nat) (ls : Array Slot) : Prop :=
  ∀ (d : Nat) (sk : Nat → Nat) (ns : Nat) (pa : Nat → Nat → Nat) (ln wt : Nat → Nat) (H : Heap) (locs : List Loc), ft_SK d sk → ft_SI ns pa ln wt → ft_FT D cA ad d sk ns pa ln wt H → ft_MT D cA am d sk ns pa ln wt H → va_S (fun q => s.heap.size ≤ q) s.heap H locs → W p l e room_1 s m #[Value.ref b] below meth c H locs 13 2358 (lw_Z below #[Value.ref b] s) (F0 m 315 ls [])
section
variable {p : Program} {l : Launch} {e : Env} {s : State} {m : MethodId} {below : List Frame} {meth : Method} {c : Code} {H : Heap} {locs : List Loc} {ls : Array Slot} {b L i : Nat} {xs : Nat → Int32} {D : va_G} {cA : ClassId} {ad am : Nat → Nat} {d : Nat} {sk : Nat → Nat} {ns : Nat} {pa : Nat → Nat → Nat} {ln wt : Nat → Nat}
set_option maxHeartbeats 4000000 in
set_option maxRecDepth 100000 in
theorem lc_total (Hc : lc_H p s m meth c b L xs D cA ad am) (hi : i + 3 ≤ L) (hSK : ft_SK d sk) (hSI : ft_SI ns pa ln wt) (hFT : ft_FT D cA ad d sk ns pa ln wt H) (hMT : ft_MT D cA am d sk ns pa ln wt H) (hS : va_S (fun q => s.heap.size ≤ q) s.heap H locs) (hl : lv_has ls 4 [(0, .ref b), (1, .ref (ad 0)), (2, .ref (am 0)), (3, .int (nI i))]) (K : lc_K p l e s m below meth c b D cA ad am ls) : W p l e room_1 s m #[Value.ref b] below meth c H locs 13 2358 (lw_Z below #[Value.ref b] s) (F0 m 151 ls []) := by
  obtain ⟨C0, hX, hbl, hK, hap, hada, hama, hL⟩ := Hc
  obtain ⟨hx, hb, hml, hown, hts, hr, hlocks⟩ := id C0
  have hd8 := hSK.1
  have hFA : ∀ q, ft_A ad 8 q → s.heap.size ≤ q := fun q z => by
    obtain ⟨k, hk, e0⟩ := z
    rw [e0]; exact hada k hk
  have hMA : ∀ q, ft_A am 5 q → s.heap.size ≤ q := fun q z => by
    obtain ⟨k, hk, e0⟩ := z
    rw [e0]; exact hama k hk
  refine lv_aload_n hx hb dL_law_151 rfl (lv_at hl 1 rfl) ?_
  refine fx_callV (As := []) (rest := []) (n := 0) C0 (m0_total l hSK hSI) hFT hK (ft_FTr hK hFT) (lw_V q77 q78 q79 q12 q80) ⟨rfl, rfl⟩ (by decide +kernel) ⟨Nat.le_of_ble_eq_true rfl, Nat.le_of_ble_eq_true rfl⟩ rfl hl.1 rfl (Nat.le_of_ble_eq_true rfl) dL_law_152 ⟨Nat.le_of_ble_eq_true rfl, Nat.le_of_ble_eq_true rfl⟩ (fun r hr => ?_)
  subst hr
  refine lv_aload_n hx hb dL_law_155 rfl (lv_at hl 2 rfl) ?_
  refine fx_callV (As := []) (rest := [.int (nI (ft_tot ns pa ln wt (ft_rp sk d)))]) (n := 0) C0 (m1_total l hSK hSI) hMT hK (ft_MTr hK hMT) (lw_V q161 q162 q163 q13 q164) ⟨rfl, rfl⟩ (by decide +kernel) ⟨Nat.le_of_ble_eq_true rfl, Nat.le_of_ble_eq_true rfl⟩ rfl hl.1 rfl (Nat.le_of_ble_eq_true rfl) dL_law_156 ⟨Nat.le_of_ble_eq_true rfl, Nat.le_of_ble_eq_true rfl⟩ (fun r hr => ?_)
  subst hr
  refine fx_eq (tgt := 315) hx hb dL_law_159 (by decide) Iff.rfl (fun c_159 => ?_) (fun c_159 => ?_)
  · exact K d sk ns pa ln wt H locs hSK hSI hFT hMT hS
  · exact absurd rfl c_159
set_option maxHeartbeats 4000000 in
set_option maxRecDepth 100000 in
theorem lc_own (Hc : lc_H p s m meth c b L xs D cA ad am) (hi : i + 3 ≤ L) (hSK : ft_SK d sk) (hSI : ft_SI ns pa ln wt) (hFT : ft_FT D cA ad d sk ns pa ln wt H) (hMT : ft_MT D cA am d sk ns pa ln wt H) (hS : va_S (fun q => s.heap.size ≤ q) s.heap H locs) (hl : lv_has ls 4 [(0, .ref b), (1, .ref (ad 0)), (2, .ref (am 0)), (3, .int (nI i))]) (K : lc_K p l e s m below meth c b D cA ad am ls) : W p l e room_1 s m #[Value.ref b] below meth c H locs 13 2358 (lw_Z below #[Value.ref b] s) (F0 m 164 ls []) := by
  obtain ⟨C0, hX, hbl, hK, hap, hada, hama, hL⟩ := Hc
  obtain ⟨hx, hb, hml, hown, hts, hr, hlocks⟩ := id C0
  have hd8 := hSK.1
  have hFA : ∀ q, ft_A ad 8 q → s.heap.size ≤ q := fun q z => by
    obtain ⟨k, hk, e0⟩ := z
    rw [e0]; exact hada k hk
  have hMA : ∀ q, ft_A am 5 q → s.heap.size ≤ q := fun q z => by
    obtain ⟨k, hk, e0⟩ := z
    rw [e0]; exact hama k hk
  refine lv_aload_n hx hb dL_law_164 rfl (lv_at hl 1 rfl) ?_
  refine fx_callV (As := []) (rest := []) (n := 0) C0 (m0_own l hSK hSI) hFT hK (ft_FTr hK hFT) (lw_V q85 q86 q87 q12 q88) ⟨rfl, rfl⟩ (by decide +kernel) ⟨Nat.le_of_ble_eq_true rfl, Nat.le_of_ble_eq_true rfl⟩ rfl hl.1 rfl (Nat.le_of_ble_eq_true rfl) dL_law_165 ⟨Nat.le_of_ble_eq_true rfl, Nat.le_of_ble_eq_true rfl⟩ (fun r hr => ?_)
  subst hr
  refine lv_aload_n hx hb dL_law_168 rfl (lv_at hl 2 rfl) ?_
  refine fx_callV (As := []) (rest := [.int (nI (ft_own ns pa ln wt (ft_rp sk d)))]) (n := 0) C0 (m1_own l hSK hSI) hMT hK (ft_MTr hK hMT) (lw_V q169 q170 q171 q13 q172) ⟨rfl, rfl⟩ (by decide +kernel) ⟨Nat.le_of_ble_eq_true rfl, Nat.le_of_ble_eq_true rfl⟩ rfl hl.1 rfl (Nat.le_of_ble_eq_true rfl) dL_law_169 ⟨Nat.le_of_ble_eq_true rfl, Nat.le_of_ble_eq_true rfl⟩ (fun r hr => ?_)
  subst hr
  refine fx_eq (tgt := 315) hx hb dL_law_172 (by decide) Iff.rfl (fun c_172 => ?_) (fun c_172 => ?_)
  · exact K d sk ns pa ln wt H locs hSK hSI hFT hMT hS
  · exact absurd rfl c_172
set_option maxHeartbeats 4000000 in
set_option maxRecDepth 100000 in
theorem lc_hottest (Hc : lc_H p s m meth c b L xs D cA ad am) (hi : i + 3 ≤ L) (hSK : ft_SK d sk) (hSI : ft_SI ns pa ln wt) (hFT : ft_FT D cA ad d sk ns pa ln wt H) (hMT : ft_MT D cA am d sk ns pa ln wt H) (hS : va_S (fun q => s.heap.size ≤ q) s.heap H locs) (hl : lv_has ls 4 [(0, .ref b), (1, .ref (ad 0)), (2, .ref (am 0)), (3, .int (nI i))]) (K : lc_K p l e s m below meth c b D cA ad am ls) : W p l e room_1 s m #[Value.ref b] below meth c H locs 13 2358 (lw_Z below #[Value.ref b] s) (F0 m 177 ls []) := by
  obtain ⟨C0, hX, hbl, hK, hap, hada, hama, hL⟩ := Hc
  obtain ⟨hx, hb, hml, hown, hts, hr, hlocks⟩ := id C0
  have hd8 := hSK.1
  have hFA : ∀ q, ft_A ad 8 q → s.heap.size ≤ q := fun q z => by
    obtain ⟨k, hk, e0⟩ := z
    rw [e0]; exact hada k hk
  have hMA : ∀ q, ft_A am 5 q → s.heap.size ≤ q := fun q z => by
    obtain ⟨k, hk, e0⟩ := z
    rw [e0]; exact hama k hk
  refine lv_aload_n hx hb dL_law_177 rfl (lv_at hl 1 rfl) ?_
  refine fx_callV (As := []) (rest := []) (n := 0) C0 (m0_hottest l hSK hSI) hFT hK (ft_FTr hK hFT) (lw_V q89 q90 q91 q12 q92) ⟨rfl, rfl⟩ (by decide +kernel) ⟨Nat.le_of_ble_eq_true rfl, Nat.le_of_ble_eq_true rfl⟩ rfl hl.1 rfl (Nat.le_of_ble_eq_true rfl) dL_law_178 ⟨Nat.le_of_ble_eq_true rfl, Nat.le_of_ble_eq_true rfl⟩ (fun r1 hr1 => ?_)
  refine lv_aload_n hx hb dL_law_181 rfl (lv_at hl 2 rfl) ?_
  refine fx_callV (As := []) (rest := [.int r1]) (n := 0) C0 (m1_hottest l hSK hSI) hMT hK (ft_MTr hK hMT) (lw_V q173 q174 q175 q13 q176) ⟨rfl, rfl⟩ (by decide +kernel) ⟨Nat.le_of_ble_eq_true rfl, Nat.le_of_ble_eq_true rfl⟩ rfl hl.1 rfl (Nat.le_of_ble_eq_true rfl) dL_law_182 ⟨Nat.le_of_ble_eq_true rfl, Nat.le_of_ble_eq_true rfl⟩ (fun r2 hr2 => ?_)
  refine fx_eq (tgt := 315) hx hb dL_law_185 (by decide) Iff.rfl (fun c_185 => ?_) (fun c_185 => ?_)
  · exact K d sk ns pa ln wt H locs hSK hSI hFT hMT hS
  · exact absurd (ft_hot_2 hd8 hr1 hr2) c_185
set_option maxHeartbeats 4000000 in
set_option maxRecDepth 100000 in
theorem lc_paths (Hc : lc_H p s m meth c b L xs D cA ad am) (hi : i + 3 ≤ L) (hSK : ft_SK d sk) (hSI : ft_SI ns pa ln wt) (hFT : ft_FT D cA ad d sk ns pa ln wt H) (hMT : ft_MT D cA am d sk ns pa ln wt H) (hS : va_S (fun q => s.heap.size ≤ q) s.heap H locs) (hl : lv_has ls 4 [(0, .ref b), (1, .ref (ad 0)), (2, .ref (am 0)), (3, .int (nI i))]) (K : lc_K p l e s m below meth c b D cA ad am ls) : W p l e room_1 s m #[Value.ref b] below meth c H locs 13 2358 (lw_Z below #[Value.ref b] s) (F0 m 269 ls []) := by
  obtain ⟨C0, hX, hbl, hK, hap, hada, hama, hL⟩ := Hc
  obtain ⟨hx, hb, hml, hown, hts, hr, hlocks⟩ := id C0
  have hd8 := hSK.1
  have hFA : ∀ q, ft_A ad 8 q → s.heap.size ≤ q := fun q z => by
    obtain ⟨k, hk, e0⟩ := z
    rw [e0]; exact hada k hk
  have hMA : ∀ q, ft_A am 5 q → s.heap.size ≤ q := fun q z => by
    obtain ⟨k, hk, e0⟩ := z
    rw [e0]; exact hama k hk
  refine lv_aload_n hx hb dL_law_269 rfl (lv_at hl 1 rfl) ?_
  refine lv_aload_n hx hb dL_law_270 rfl (lv_at hl 0 rfl) ?_
  refine lv_iload_n hx hb dL_law_271 rfl (lv_at hl 3 rfl) ?_
  refine lv_iconst (v := nI 1) hx hb dL_law_272 (by decide) ?_
  refine fx_add (v := nI (i + 1)) hx hb dL_law_273 (nI_add _ _) ?_
  refine fx_sld (k := i + 1) (v := xs (i + 1)) hx hb hX hbl (Nat.not_le.mpr hbl) hS (by omega) (by omega) rfl dL_law_274 ?_
  refine fx_callV (As := [.int (xs (i + 1))]) (rest := []) (n := 1) C0 (m0_paths l hSK hSI (xs (i + 1))) hFT hK (ft_FTr hK hFT) (lw_V q109 q110 q111 q12 q112) ⟨rfl, rfl⟩ (by decide +kernel) ⟨Nat.le_of_ble_eq_true rfl, Nat.le_of_ble_eq_true rfl⟩ rfl hl.1 rfl (Nat.le_of_ble_eq_true rfl) dL_law_275 ⟨Nat.le_of_ble_eq_true rfl, Nat.le_of_ble_eq_true rfl⟩ (fun r hr => ?_)
  subst hr
  refine lv_aload_n hx hb dL_law_278 rfl (lv_at hl 2 rfl) ?_
  refine lv_aload_n hx hb dL_law_279 rfl (lv_at hl 0 rfl) ?_
  refine lv_iload_n hx hb dL_law_280 rfl (lv_at hl 3 rfl) ?_
  refine lv_iconst (v := nI 1) hx hb dL_law_281 (by decide) ?_
  refine fx_add (v := nI (i + 1)) hx hb dL_law_282 (nI_add _ _) ?_
  refine fx_sld (k := i + 1) (v := xs (i + 1)) hx hb hX hbl (Nat.not_le.mpr hbl) hS (by omega) (by omega) rfl dL_law_283 ?_
  refine fx_callV (As := [.int (xs (i + 1))]) (rest := [.int (nI (ft_pth ns pa ln wt (ft_ls (xs (i + 1)))))]) (n := 1) C0 (m1_paths l hSK hSI (xs (i + 1))) hMT hK (ft_MTr hK hMT) (lw_V q201 q202 q203 q13 q204) ⟨rfl, rfl⟩ (by decide +kernel) ⟨Nat.le_of_ble_eq_true rfl, Nat.le_of_ble_eq_true rfl⟩ rfl hl.1 rfl (Nat.le_of_ble_eq_true rfl) dL_law_284 ⟨Nat.le_of_ble_eq_true rfl, Nat.le_of_ble_eq_true rfl⟩ (fun r hr => ?_)
  subst hr
  refine fx_eq (tgt := 315) hx hb dL_law_287 (by decide) Iff.rfl (fun c_287 => ?_) (fun c_287 => ?_)
  · exact K d sk ns pa ln wt H locs hSK hSI hFT hMT hS
  · exact absurd rfl c_287
set_option maxHeartbeats 4000000 in
set_option maxRecDepth 100000 in
theorem lc_deepest (Hc : lc_H p s m meth c b L xs D cA ad am) (hi : i + 3 ≤ L) (hSK : ft_SK d sk) (hSI : ft_SI ns pa ln wt) (hFT : ft_FT D cA ad d sk ns pa ln wt H) (hMT : ft_MT D cA am d sk ns pa ln wt H) (hS : va_S (fun q => s.heap.size ≤ q) s.heap H locs) (hl : lv_has ls 4 [(0, .ref b), (1, .ref (ad 0)), (2, .ref (am 0)), (3, .int (nI i))]) (K : lc_K p l e s m below meth c b D cA ad am ls) : W p l e room_1 s m #[Value.ref b] below meth c H locs 13 2358 (lw_Z below #[Value.ref b] s) (F0 m 292 ls []) := by
  obtain ⟨C0, hX, hbl, hK, hap, hada, hama, hL⟩ := Hc
  obtain ⟨hx, hb, hml, hown, hts, hr, hlocks⟩ := id C0
  have hd8 := hSK.1
  have hFA : ∀ q, ft_A ad 8 q → s.heap.size ≤ q := fun q z => by
    obtain ⟨k, hk, e0⟩ := z
    rw [e0]; exact hada k hk
  have hMA : ∀ q, ft_A am 5 q → s.heap.size ≤ q := fun q z => by
    obtain ⟨k, hk, e0⟩ := z
    rw [e0]; exact hama k hk
  refine lv_aload_n hx hb dL_law_292 rfl (lv_at hl 1 rfl) ?_
  refine lv_aload_n hx hb dL_law_293 rfl (lv_at hl 0 rfl) ?_
  refine lv_iload_n hx hb dL_law_294 rfl (lv_at hl 3 rfl) ?_
  refine lv_iconst (v := nI 1) hx hb dL_law_295 (by decide) ?_
  refine fx_add (v := nI (i + 1)) hx hb dL_law_296 (nI_add _ _) ?_
  refine fx_sld (k := i + 1) (v := xs (i + 1)) hx hb hX hbl (Nat.not_le.mpr hbl) hS (by omega) (by omega) rfl dL_law_297 ?_
  refine fx_callV (As := [.int (xs (i + 1))]) (rest := []) (n := 1) C0 (m0_deepest l hSK hSI (xs (i + 1))) hFT hK (ft_FTr hK hFT) (lw_V q113 q114 q115 q12 q116) ⟨rfl, rfl⟩ (by decide +kernel) ⟨Nat.le_of_ble_eq_true rfl, Nat.le_of_ble_eq_true rfl⟩ rfl hl.1 rfl (Nat.le_of_ble_eq_true rfl) dL_law_298 ⟨Nat.le_of_ble_eq_true rfl, Nat.le_of_ble_eq_true rfl⟩ (fun r hr => ?_)
  subst hr
  refine lv_aload_n hx hb dL_law_301 rfl (lv_at hl 2 rfl) ?_
  refine lv_aload_n hx hb dL_law_302 rfl (lv_at hl 0 rfl) ?_
  refine lv_iload_n hx hb dL_law_303 rfl (lv_at hl 3 rfl) ?_
  refine lv_iconst (v := nI 1) hx hb dL_law_304 (by decide) ?_
  refine fx_add (v := nI (i + 1)) hx hb dL_law_305 (nI_add _ _) ?_
  refine fx_sld (k := i + 1) (v := xs (i + 1)) hx hb hX hbl (Nat.not_le.mpr hbl) hS (by omega) (by omega) rfl dL_law_306 ?_
  refine fx_callV (As := [.int (xs (i + 1))]) (rest := [.int (nI (ft_dp ns pa ln wt (ft_ls (xs (i + 1)))))]) (n := 1) C0 (m1_deepest l hSK hSI (xs (i + 1))) hMT hK (ft_MTr hK hMT) (lw_V q213 q214 q215 q13 q216) ⟨rfl, rfl⟩ (by decide +kernel) ⟨Nat.le_of_ble_eq_true rfl, Nat.le_of_ble_eq_true rfl⟩ rfl hl.1 rfl (Nat.le_of_ble_eq_true rfl) dL_law_307 ⟨Nat.le_of_ble_eq_true rfl, Nat.le_of_ble_eq_true rfl⟩ (fun r hr => ?_)
  subst hr
  refine fx_eq (tgt := 315) hx hb dL_law_310 (by decide) Iff.rfl (fun c_310 => ?_) (fun c_310 => ?_)
  · exact K d sk ns pa ln wt H locs hSK hSI hFT hMT hS
  · exact absurd rfl c_310
set_option maxHeartbeats 4000000 in
set_option maxRecDepth 100000 in
theorem lc_inclusive (Hc : lc_H p s m meth c b L xs D cA ad am) (hi : i + 3 ≤ L) (hSK : ft_SK d sk) (hSI : ft_SI ns pa ln wt) (hFT : ft_FT D cA ad d sk ns pa ln wt H) (hMT : ft_MT D cA am d sk ns pa ln wt H) (hS : va_S (fun q => s.heap.size ≤ q) s.heap H locs) (hl : lv_has ls 4 [(0, .ref b), (1, .ref (ad 0)), (2, .ref (am 0)), (3, .int (nI i))]) (K : lc_K p l e s m below meth c b D cA ad am ls) : W p l e room_1 s m #[Value.ref b] below meth c H locs 13 2358 (lw_Z below #[Value.ref b] s) (F0 m 190 ls []) := by
  obtain ⟨C0, hX, hbl, hK, hap, hada, hama, hL⟩ := Hc
  obtain ⟨hx, hb, hml, hown, hts, hr, hlocks⟩ := id C0
  have hd8 := hSK.1
  have hFA : ∀ q, ft_A ad 8 q → s.heap.size ≤ q := fun q z => by
    obtain ⟨k, hk, e0⟩ := z
    rw [e0]; exact hada k hk
  have hMA : ∀ q, ft_A am 5 q → s.heap.size ≤ q := fun q z => by
    obtain ⟨k, hk, e0⟩ := z
    rw [e0]; exact hama k hk
  by_cases h : (0 ≤ xs (i + 1) ∧ xs (i + 1) ≤ 7)
  · obtain ⟨f, hf, ef⟩ := fx_fun_n h
    refine lv_aload_n hx hb dL_law_190 rfl (lv_at hl 1 rfl) ?_
    refine lv_aload_n hx hb dL_law_191 rfl (lv_at hl 0 rfl) ?_
    refine lv_iload_n hx hb dL_law_192 rfl (lv_at hl 3 rfl) ?_
    refine lv_iconst (v := nI 1) hx hb dL_law_193 (by decide) ?_
    refine fx_add (v := nI (i + 1)) hx hb dL_law_194 (nI_add _ _) ?_
    refine fx_sld (k := i + 1) (v := nI f) hx hb hX hbl (Nat.not_le.mpr hbl) hS (by omega) (by omega) ef dL_law_195 ?_
    refine fx_callV (As := [.int (nI f)]) (rest := []) (n := 1) C0 (m0_inclusive l hSK hSI (f := f) hf) hFT hK (ft_FTr hK hFT) (lw_V q93 q94 q95 q12 q96) ⟨rfl, rfl⟩ (by decide +kernel) ⟨Nat.le_of_ble_eq_true rfl, Nat.le_of_ble_eq_true rfl⟩ rfl hl.1 rfl (Nat.le_of_ble_eq_true rfl) dL_law_196 ⟨Nat.le_of_ble_eq_true rfl, Nat.le_of_ble_eq_true rfl⟩ (fun r hr => ?_)
    subst hr
    refine lv_aload_n hx hb dL_law_199 rfl (lv_at hl 2 rfl) ?_
    refine lv_aload_n hx hb dL_law_200 rfl (lv_at hl 0 rfl) ?_
    refine lv_iload_n hx hb dL_law_201 rfl (lv_at hl 3 rfl) ?_
    refine lv_iconst (v := nI 1) hx hb dL_law_202 (by decide) ?_
    refine fx_add (v := nI (i + 1)) hx hb dL_law_203 (nI_add _ _) ?_
    refine fx_sld (k := i + 1) (v := nI f) hx hb hX hbl (Nat.not_le.mpr hbl) hS (by omega) (by omega) ef dL_law_204 ?_
    refine fx_callV (As := [.int (nI f)]) (rest := [.int (nI (ft_std ns pa ln wt none f))]) (n := 1) C0 (m1_inclusive l hSK hSI (f := f) hf) hMT hK (ft_MTr hK hMT) (lw_V q181 q182 q183 q13 q184) ⟨rfl, rfl⟩ (by decide +kernel) ⟨Nat.le_of_ble_eq_true rfl, Nat.le_of_ble_eq_true rfl⟩ rfl hl.1 rfl (Nat.le_of_ble_eq_true rfl) dL_law_205 ⟨Nat.le_of_ble_eq_true rfl, Nat.le_of_ble_eq_true rfl⟩ (fun r hr => ?_)
    subst hr
    refine fx_eq (tgt := 315) hx hb dL_law_208 (by decide) Iff.rfl (fun c_208 => ?_) (fun c_208 => ?_)
    · exact K d sk ns pa ln wt H locs hSK hSI hFT hMT hS
    · exact absurd rfl c_208
  · refine lv_aload_n hx hb dL_law_190 rfl (lv_at hl 1 rfl) ?_
    refine lv_aload_n hx hb dL_law_191 rfl (lv_at hl 0 rfl) ?_
    refine lv_iload_n hx hb dL_law_192 rfl (lv_at hl 3 rfl) ?_
    refine lv_iconst (v := nI 1) hx hb dL_law_193 (by decide) ?_
    refine fx_add (v := nI (i + 1)) hx hb dL_law_194 (nI_add _ _) ?_
    refine fx_sld (k := i + 1) (v := xs (i + 1)) hx hb hX hbl (Nat.not_le.mpr hbl) hS (by omega) (by omega) rfl dL_law_195 ?_
    refine fx_callV (As := [.int (xs (i + 1))]) (rest := []) (n := 1) C0 (m0_inclusive0 l hSK hSI (f := xs (i + 1)) h) hFT hK (ft_FTr hK hFT) (lw_V q93 q94 q95 q12 q96) ⟨rfl, rfl⟩ (by decide +kernel) ⟨Nat.le_of_ble_eq_true rfl, Nat.le_of_ble_eq_true rfl⟩ rfl hl.1 rfl (Nat.le_of_ble_eq_true rfl) dL_law_196 ⟨Nat.le_of_ble_eq_true rfl, Nat.le_of_ble_eq_true rfl⟩ (fun r hr => ?_)
    subst hr
    refine lv_aload_n hx hb dL_law_199 rfl (lv_at hl 2 rfl) ?_
    refine lv_aload_n hx hb dL_law_200 rfl (lv_at hl 0 rfl) ?_
    refine lv_iload_n hx hb dL_law_201 rfl (lv_at hl 3 rfl) ?_
    refine lv_iconst (v := nI 1) hx hb dL_law_202 (by decide) ?_
    refine fx_add (v := nI (i + 1)) hx hb dL_law_203 (nI_add _ _) ?_
    refine fx_sld (k := i + 1) (v := xs (i + 1)) hx hb hX hbl (Nat.not_le.mpr hbl) hS (by omega) (by omega) rfl dL_law_204 ?_
    refine fx_callV (As := [.int (xs (i + 1))]) (rest := [.int (-1)]) (n := 1) C0 (m1_inclusive0 l hSK hSI (f := xs (i + 1)) h) hMT hK (ft_MTr hK hMT) (lw_V q181 q182 q183 q13 q184) ⟨rfl, rfl⟩ (by decide +kernel) ⟨Nat.le_of_ble_eq_true rfl, Nat.le_of_ble_eq_true rfl⟩ rfl hl.1 rfl (Nat.le_of_ble_eq_true rfl) dL_law_205 ⟨Nat.le_of_ble_eq_true rfl, Nat.le_of_ble_eq_true rfl⟩ (fun r hr => ?_)
    subst hr
    refine fx_eq (tgt := 315) hx hb dL_law_208 (by decide) Iff.rfl (fun c_208 => ?_) (fun c_208 => ?_)
    · exact K d sk ns pa ln wt H locs hSK hSI hFT hMT hS
    · exact absurd rfl c_208
set_option maxHeartbeats 4000000 in
set_option maxRecDepth 100000 in
theorem lc_exclusive (Hc : lc_H p s m meth c b L xs D cA ad am) (hi : i + 3 ≤ L) (hSK : ft_SK d sk) (hSI : ft_SI ns pa ln wt) (hFT : ft_FT D cA ad d sk ns pa ln wt H) (hMT : ft_MT D cA am d sk ns pa ln wt H) (hS : va_S (fun q => s.heap.size ≤ q) s.heap H locs) (hl : lv_has ls 4 [(0, .ref b), (1, .ref (ad 0)), (2, .ref (am 0)), (3, .int (nI i))]) (K : lc_K p l e s m below meth c b D cA ad am ls) : W p l e room_1 s m #[Value.ref b] below meth c H locs 13 2358 (lw_Z below #[Value.ref b] s) (F0 m 213 ls []) := by
  obtain ⟨C0, hX, hbl, hK, hap, hada, hama, hL⟩ := Hc
  obtain ⟨hx, hb, hml, hown, hts, hr, hlocks⟩ := id C0
  have hd8 := hSK.1
  have hFA : ∀ q, ft_A ad 8 q → s.heap.size ≤ q := fun q z => by
    obtain ⟨k, hk, e0⟩ := z
    rw [e0]; exact hada k hk
  have hMA : ∀ q, ft_A am 5 q → s.heap.size ≤ q := fun q z => by
    obtain ⟨k, hk, e0⟩ := z
    rw [e0]; exact hama k hk
  by_cases h : (0 ≤ xs (i + 1) ∧ xs (i + 1) ≤ 7)
  · obtain ⟨f, hf, ef⟩ := fx_fun_n h
    refine lv_aload_n hx hb dL_law_213 rfl (lv_at hl 1 rfl) ?_
    refine lv_aload_n hx hb dL_law_214 rfl (lv_at hl 0 rfl) ?_
    refine lv_iload_n hx hb dL_law_215 rfl (lv_at hl 3 rfl) ?_
    refine lv_iconst (v := nI 1) hx hb dL_law_216 (by decide) ?_
    refine fx_add (v := nI (i + 1)) hx hb dL_law_217 (nI_add _ _) ?_
    refine fx_sld (k := i + 1) (v := nI f) hx hb hX hbl (Nat.not_le.mpr hbl) hS (by omega) (by omega) ef dL_law_218 ?_
    refine fx_callV (As := [.int (nI f)]) (rest := []) (n := 1) C0 (m0_exclusive l hSK hSI (f := f) hf) hFT hK (ft_FTr hK hFT) (lw_V q101 q102 q103 q12 q104) ⟨rfl, rfl⟩ (by decide +kernel) ⟨Nat.le_of_ble_eq_true rfl, Nat.le_of_ble_eq_true rfl⟩ rfl hl.1 rfl (Nat.le_of_ble_eq_true rfl) dL_law_219 ⟨Nat.le_of_ble_eq_true rfl, Nat.le_of_ble_eq_true rfl⟩ (fun r hr => ?_)
    subst hr
    refine lv_aload_n hx hb dL_law_222 rfl (lv_at hl 2 rfl) ?_
    refine lv_aload_n hx hb dL_law_223 rfl (lv_at hl 0 rfl) ?_
    refine lv_iload_n hx hb dL_law_224 rfl (lv_at hl 3 rfl) ?_
    refine lv_iconst (v := nI 1) hx hb dL_law_225 (by decide) ?_
    refine fx_add (v := nI (i + 1)) hx hb dL_law_226 (nI_add _ _) ?_
    refine fx_sld (k := i + 1) (v := nI f) hx hb hX hbl (Nat.not_le.mpr hbl) hS (by omega) (by omega) ef dL_law_227 ?_
    refine fx_callV (As := [.int (nI f)]) (rest := [.int (nI (ft_exc ns pa ln wt f))]) (n := 1) C0 (m1_exclusive l hSK hSI (f := f) hf) hMT hK (ft_MTr hK hMT) (lw_V q193 q194 q195 q13 q196) ⟨rfl, rfl⟩ (by decide +kernel) ⟨Nat.le_of_ble_eq_true rfl, Nat.le_of_ble_eq_true rfl⟩ rfl hl.1 rfl (Nat.le_of_ble_eq_true rfl) dL_law_228 ⟨Nat.le_of_ble_eq_true rfl, Nat.le_of_ble_eq_true rfl⟩ (fun r hr => ?_)
    subst hr
    refine fx_eq (tgt := 315) hx hb dL_law_231 (by decide) Iff.rfl (fun c_231 => ?_) (fun c_231 => ?_)
    · exact K d sk ns pa ln wt H locs hSK hSI hFT hMT hS
    · exact absurd rfl c_231
  · refine lv_aload_n hx hb dL_law_213 rfl (lv_at hl 1 rfl) ?_
    refine lv_aload_n hx hb dL_law_214 rfl (lv_at hl 0 rfl) ?_
    refine lv_iload_n hx hb dL_law_215 rfl (lv_at hl 3 rfl) ?_
    refine lv_iconst (v := nI 1) hx hb dL_law_216 (by decide) ?_
    refine fx_add (v := nI (i + 1)) hx hb dL_law_217 (nI_add _ _) ?_
    refine fx_sld (k := i + 1) (v := xs (i + 1)) hx hb hX hbl (Nat.not_le.mpr hbl) hS (by omega) (by omega) rfl dL_law_218 ?_
    refine fx_callV (As := [.int (xs (i + 1))]) (rest := []) (n := 1) C0 (m0_exclusive0 l hSK hSI (f := xs (i + 1)) h) hFT hK (ft_FTr hK hFT) (lw_V q101 q102 q103 q12 q104) ⟨rfl, rfl⟩ (by decide +kernel) ⟨Nat.le_of_ble_eq_true rfl, Nat.le_of_ble_eq_true rfl⟩ rfl hl.1 rfl (Nat.le_of_ble_eq_true rfl) dL_law_219 ⟨Nat.le_of_ble_eq_true rfl, Nat.le_of_ble_eq_true rfl⟩ (fun r hr => ?_)
    subst hr
    refine lv_aload_n hx hb dL_law_222 rfl (lv_at hl 2 rfl) ?_
    refine lv_aload_n hx hb dL_law_223 rfl (lv_at hl 0 rfl) ?_
    refine lv_iload_n hx hb dL_law_224 rfl (lv_at hl 3 rfl) ?_
    refine lv_iconst (v := nI 1) hx hb dL_law_225 (by decide) ?_
    refine fx_add (v := nI (i + 1)) hx hb dL_law_226 (nI_add _ _) ?_
    refine fx_sld (k := i + 1) (v := xs (i + 1)) hx hb hX hbl (Nat.not_le.mpr hbl) hS (by omega) (by omega) rfl dL_law_227 ?_
    refine fx_callV (As := [.int (xs (i + 1))]) (rest := [.int (-1)]) (n := 1) C0 (m1_exclusive0 l hSK hSI (f := xs (i + 1)) h) hMT hK (ft_MTr hK hMT) (lw_V q193 q194 q195 q13 q196) ⟨rfl, rfl⟩ (by decide +kernel) ⟨Nat.le_of_ble_eq_true rfl, Nat.le_of_ble_eq_true rfl⟩ rfl hl.1 rfl (Nat.le_of_ble_eq_true rfl) dL_law_228 ⟨Nat.le_of_ble_eq_true rfl, Nat.le_of_ble_eq_true rfl⟩ (fun r hr => ?_)
    subst hr
    refine fx_eq (tgt := 315) hx hb dL_law_231 (by decide) Iff.rfl (fun c_231 => ?_) (fun c_231 => ?_)
    · exact K d sk ns pa ln wt H locs hSK hSI hFT hMT hS
    · exact absurd rfl c_231
set_option maxHeartbeats 4000000 in
set_option maxRecDepth 100000 in
theorem lc_edge (Hc : lc_H p s m meth c b L xs D cA ad am) (hi : i + 3 ≤ L) (hSK : ft_SK d sk) (hSI : ft_SI ns pa ln wt) (hFT : ft_FT D cA ad d sk ns pa ln wt H) (hMT : ft_MT D cA am d sk ns pa ln wt H) (hS : va_S (fun q => s.heap.size ≤ q) s.heap H locs) (hl : lv_has ls 4 [(0, .ref b), (1, .ref (ad 0)), (2, .ref (am 0)), (3, .int (nI i))]) (K : lc_K p l e s m below meth c b D cA ad am ls) : W p l e room_1 s m #[Value.ref b] below meth c H locs 13 2358 (lw_Z below #[Value.ref b] s) (F0 m 236 ls []) := by
  obtain ⟨C0, hX, hbl, hK, hap, hada, hama, hL⟩ := Hc
  obtain ⟨hx, hb, hml, hown, hts, hr, hlocks⟩ := id C0
  have hd8 := hSK.1
  have hFA : ∀ q, ft_A ad 8 q → s.heap.size ≤ q := fun q z => by
    obtain ⟨k, hk, e0⟩ := z
    rw [e0]; exact hada k hk
  have hMA : ∀ q, ft_A am 5 q → s.heap.size ≤ q := fun q z => by
    obtain ⟨k, hk, e0⟩ := z
    rw [e0]; exact hama k hk
  by_cases h : ((0 ≤ xs (i + 1) ∧ xs (i + 1) ≤ 7) ∧ (0 ≤ xs (i + 2) ∧ xs (i + 2) ≤ 7))
  · obtain ⟨a, ha, ea⟩ := fx_fun_n h.1
    obtain ⟨f, hf, ef⟩ := fx_fun_n h.2
    refine lv_aload_n hx hb dL_law_236 rfl (lv_at hl 1 rfl) ?_
    refine lv_aload_n hx hb dL_law_237 rfl (lv_at hl 0 rfl) ?_
    refine lv_iload_n hx hb dL_law_238 rfl (lv_at hl 3 rfl) ?_
    refine lv_iconst (v := nI 1) hx hb dL_law_239 (by decide) ?_
    refine fx_add (v := nI (i + 1)) hx hb dL_law_240 (nI_add _ _) ?_
    refine fx_sld (k := i + 1) (v := nI a) hx hb hX hbl (Nat.not_le.mpr hbl) hS (by omega) (by omega) ea dL_law_241 ?_
    refine lv_aload_n hx hb dL_law_242 rfl (lv_at hl 0 rfl) ?_
    refine lv_iload_n hx hb dL_law_243 rfl (lv_at hl 3 rfl) ?_
    refine lv_iconst (v := nI 2) hx hb dL_law_244 (by decide) ?_
    refine fx_add (v := nI (i + 2)) hx hb dL_law_245 (nI_add _ _) ?_
    refine fx_sld (k := i + 2) (v := nI f) hx hb hX hbl (Nat.not_le.mpr hbl) hS (by omega) (by omega) ef dL_law_246 ?_
    refine fx_callV (As := [.int (nI a), .int (nI f)]) (rest := []) (n := 2) C0 (m0_edge l hSK hSI (a := a) (f := f) ha hf) hFT hK (ft_FTr hK hFT) (lw_V q105 q106 q107 q12 q108) ⟨rfl, rfl⟩ (by decide +kernel) ⟨Nat.le_of_ble_eq_true rfl, Nat.le_of_ble_eq_true rfl⟩ rfl hl.1 rfl (Nat.le_of_ble_eq_true rfl) dL_law_247 ⟨Nat.le_of_ble_eq_true rfl, Nat.le_of_ble_eq_true rfl⟩ (fun r hr => ?_)
    subst hr
    refine lv_aload_n hx hb dL_law_250 rfl (lv_at hl 2 rfl) ?_
    refine lv_aload_n hx hb dL_law_251 rfl (lv_at hl 0 rfl) ?_
    refine lv_iload_n hx hb dL_law_252 rfl (lv_at hl 3 rfl) ?_
    refine lv_iconst (v := nI 1) hx hb dL_law_253 (by decide) ?_
    refine fx_add (v := nI (i + 1)) hx hb dL_law_254 (nI_add _ _) ?_
    refine fx_sld (k := i + 1) (v := nI a) hx hb hX hbl (Nat.not_le.mpr hbl) hS (by omega) (by omega) ea dL_law_255 ?_
    refine lv_aload_n hx hb dL_law_256 rfl (lv_at hl 0 rfl) ?_
    refine lv_iload_n hx hb dL_law_257 rfl (lv_at hl 3 rfl) ?_
    refine lv_iconst (v := nI 2) hx hb dL_law_258 (by decide) ?_
    refine fx_add (v := nI (i + 2)) hx hb dL_law_259 (nI_add _ _) ?_
    refine fx_sld (k := i + 2) (v := nI f) hx hb hX hbl (Nat.not_le.mpr hbl) hS (by omega) (by omega) ef dL_law_260 ?_
    refine fx_callV (As := [.int (nI a), .int (nI f)]) (rest := [.int (nI (ft_std ns pa ln wt (some a) f))]) (n := 2) C0 (m1_edge l hSK hSI (a := a) (f := f) ha hf) hMT hK (ft_MTr hK hMT) (lw_V q197 q198 q199 q13 q200) ⟨rfl, rfl⟩ (by decide +kernel) ⟨Nat.le_of_ble_eq_true rfl, Nat.le_of_ble_eq_true rfl⟩ rfl hl.1 rfl (Nat.le_of_ble_eq_true rfl) dL_law_261 ⟨Nat.le_of_ble_eq_true rfl, Nat.le_of_ble_eq_true rfl⟩ (fun r hr => ?_)
    subst hr
    refine fx_eq (tgt := 315) hx hb dL_law_264 (by decide) Iff.rfl (fun c_264 => ?_) (fun c_264 => ?_)
    · exact K d sk ns pa ln wt H locs hSK hSI hFT hMT hS
    · exact absurd rfl c_264
  · refine lv_aload_n hx hb dL_law_236 rfl (lv_at hl 1 rfl) ?_
    refine lv_aload_n hx hb dL_law_237 rfl (lv_at hl 0 rfl) ?_
    refine lv_iload_n hx hb dL_law_238 rfl (lv_at hl 3 rfl) ?_
    refine lv_iconst (v := nI 1) hx hb dL_law_239 (by decide) ?_
    refine fx_add (v := nI (i + 1)) hx hb dL_law_240 (nI_add _ _) ?_
    refine fx_sld (k := i + 1) (v := xs (i + 1)) hx hb hX hbl (Nat.not_le.mpr hbl) hS (by omega) (by omega) rfl dL_law_241 ?_
    refine lv_aload_n hx hb dL_law_242 rfl (lv_at hl 0 rfl) ?_
    refine lv_iload_n hx hb dL_law_243 rfl (lv_at hl 3 rfl) ?_
    refine lv_iconst (v := nI 2) hx hb dL_law_244 (by decide) ?_
    refine fx_add (v := nI (i + 2)) hx hb dL_law_245 (nI_add _ _) ?_
    refine fx_sld (k := i + 2) (v := xs (i + 2)) hx hb hX hbl (Nat.not_le.mpr hbl) hS (by omega) (by omega) rfl dL_law_246 ?_
    refine fx_callV (As := [.int (xs (i + 1)), .int (xs (i + 2))]) (rest := []) (n := 2) C0 (m0_edge0 l hSK hSI (a := xs (i + 1)) (f := xs (i + 2)) h) hFT hK (ft_FTr hK hFT) (lw_V q105 q106 q107 q12 q108) ⟨rfl, rfl⟩ (by decide +kernel) ⟨Nat.le_of_ble_eq_true rfl, Nat.le_of_ble_eq_true rfl⟩ rfl hl.1 rfl (Nat.le_of_ble_eq_true rfl) dL_law_247 ⟨Nat.le_of_ble_eq_true rfl, Nat.le_of_ble_eq_true rfl⟩ (fun r hr => ?_)
    subst hr
    refine lv_aload_n hx hb dL_law_250 rfl (lv_at hl 2 rfl) ?_
    refine lv_aload_n hx hb dL_law_251 rfl (lv_at hl 0 rfl) ?_
    refine lv_iload_n hx hb dL_law_252 rfl (lv_at hl 3 rfl) ?_
    refine lv_iconst (v := nI 1) hx hb dL_law_253 (by decide) ?_
    refine fx_add (v := nI (i + 1)) hx hb dL_law_254 (nI_add _ _) ?_
    refine fx_sld (k := i + 1) (v := xs (i + 1)) hx hb hX hbl (Nat.not_le.mpr hbl) hS (by omega) (by omega) rfl dL_law_255 ?_
    refine lv_aload_n hx hb dL_law_256 rfl (lv_at hl 0 rfl) ?_
    refine lv_iload_n hx hb dL_law_257 rfl (lv_at hl 3 rfl) ?_
    refine lv_iconst (v := nI 2) hx hb dL_law_258 (by decide) ?_
    refine fx_add (v := nI (i + 2)) hx hb dL_law_259 (nI_add _ _) ?_
    refine fx_sld (k := i + 2) (v := xs (i + 2)) hx hb hX hbl (Nat.not_le.mpr hbl) hS (by omega) (by omega) rfl dL_law_260 ?_
    refine fx_callV (As := [.int (xs (i + 1)), .int (xs (i + 2))]) (rest := [.int (-1)]) (n := 2) C0 (m1_edge0 l hSK hSI (a := xs (i + 1)) (f := xs (i + 2)) h) hMT hK (ft_MTr hK hMT) (lw_V q197 q198 q199 q13 q200) ⟨rfl, rfl⟩ (by decide +kernel) ⟨Nat.le_of_ble_eq_true rfl, Nat.le_of_ble_eq_true rfl⟩ rfl hl.1 rfl (Nat.le_of_ble_eq_true rfl) dL_law_261 ⟨Nat.le_of_ble_eq_true rfl, Nat.le_of_ble_eq_true rfl⟩ (fun r hr => ?_)
    subst hr
    refine fx_eq (tgt := 315) hx hb dL_law_264 (by decide) Iff.rfl (fun c_264 => ?_) (fun c_264 => ?_)
    · exact K d sk ns pa ln wt H locs hSK hSI hFT hMT hS
    · exact absurd rfl c_264
set_option maxHeartbeats 4000000 in
set_option maxRecDepth 100000 in
theorem lc_call (Hc : lc_H p s m meth c b L xs D cA ad am) (hi : i + 3 ≤ L) (hSK : ft_SK d sk) (hSI : ft_SI ns pa ln wt) (hFT : ft_FT D cA ad d sk ns pa ln wt H) (hMT : ft_MT D cA am d sk ns pa ln wt H) (hS : va_S (fun q => s.heap.size ≤ q) s.heap H locs) (hl : lv_has ls 4 [(0, .ref b), (1, .ref (ad 0)), (2, .ref (am 0)), (3, .int (nI i))]) (K : lc_K p l e s m below meth c b D cA ad am ls) : W p l e room_1 s m #[Value.ref b] below meth c H locs 13 2358 (lw_Z below #[Value.ref b] s) (F0 m 92 ls []) := by
  obtain ⟨C0, hX, hbl, hK, hap, hada, hama, hL⟩ := Hc
  obtain ⟨hx, hb, hml, hown, hts, hr, hlocks⟩ := id C0
  have hd8 := hSK.1
  have hFA : ∀ q, ft_A ad 8 q → s.heap.size ≤ q := fun q z => by
    obtain ⟨k, hk, e0⟩ := z
    rw [e0]; exact hada k hk
  have hMA : ∀ q, ft_A am 5 q → s.heap.size ≤ q := fun q z => by
    obtain ⟨k, hk, e0⟩ := z
    rw [e0]; exact hama k hk
  by_cases h : (0 ≤ xs (i + 1) ∧ xs (i + 1) ≤ 7) ∧ d < 8
  · obtain ⟨f, hf, ef⟩ := fx_fun_n h.1
    refine lv_aload_n hx hb dL_law_92 rfl (lv_at hl 1 rfl) ?_
    refine lv_aload_n hx hb dL_law_93 rfl (lv_at hl 0 rfl) ?_
    refine lv_iload_n hx hb dL_law_94 rfl (lv_at hl 3 rfl) ?_
    refine lv_iconst (v := nI 1) hx hb dL_law_95 (by decide) ?_
    refine fx_add (v := nI (i + 1)) hx hb dL_law_96 (nI_add _ _) ?_
    refine fx_sld (k := i + 1) (v := nI f) hx hb hX hbl (Nat.not_le.mpr hbl) hS (by omega) (by omega) ef dL_law_97 ?_
    refine fx_callM (Ψ := fun _ H => ft_FT D cA ad (d + 1) (ft_up sk d f) ns pa ln wt H) (As := [.int (nI f)]) (rest := []) (n := 1) C0 (m0_call l hSK hSI (f := f) hf h.2) hFT hK (ft_FTr hK hFT) (lw_V q54 q55 q56 q12 q57) ⟨rfl, rfl⟩ (by decide +kernel) ⟨Nat.le_of_ble_eq_true rfl, Nat.le_of_ble_eq_true rfl⟩ rfl hl.1 rfl (Nat.le_of_ble_eq_true rfl) dL_law_98 ⟨Nat.le_of_ble_eq_true rfl, Nat.le_of_ble_eq_true rfl⟩ hS hFA (fun r _ H1 locs hr hFT1 _ hk hS => ?_)
    subst hr
    have hMT1 : ft_MT D cA am d sk ns pa ln wt H1 := ft_MTk hMT (fun k hk5 => hk _ (ft_MTl hMT k hk5) (fun z => by
      obtain ⟨j, hj, e0⟩ := z
      exact hap j k hj hk5 e0.symm))
    refine lv_aload_n hx hb dL_law_101 rfl (lv_at hl 2 rfl) ?_
    refine lv_aload_n hx hb dL_law_102 rfl (lv_at hl 0 rfl) ?_
    refine lv_iload_n hx hb dL_law_103 rfl (lv_at hl 3 rfl) ?_
    refine lv_iconst (v := nI 1) hx hb dL_law_104 (by decide) ?_
    refine fx_add (v := nI (i + 1)) hx hb dL_law_105 (nI_add _ _) ?_
    refine fx_sld (k := i + 1) (v := nI f) hx hb hX hbl (Nat.not_le.mpr hbl) hS (by omega) (by omega) ef dL_law_106 ?_
    refine fx_callM (Ψ := fun _ H => ft_MT D cA am (d + 1) (ft_up sk d f) ns pa ln wt H) (As := [.int (nI f)]) (rest := [.int (nI (d + 1))]) (n := 1) C0 (m1_call l hSK hSI (f := f) hf h.2) hMT1 hK (ft_MTr hK hMT1) (lw_V q146 q147 q148 q13 q149) ⟨rfl, rfl⟩ (by decide +kernel) ⟨Nat.le_of_ble_eq_true rfl, Nat.le_of_ble_eq_true rfl⟩ rfl hl.1 rfl (Nat.le_of_ble_eq_true rfl) dL_law_107 ⟨Nat.le_of_ble_eq_true rfl, Nat.le_of_ble_eq_true rfl⟩ hS hMA (fun r _ H2 locs hr hMT2 _ hk2 hS => ?_)
    subst hr
    have hFT2 := ft_FTk hFT1 (fun k hk8 => hk2 _ (ft_FTl hFT1 k hk8) (fun z => by
      obtain ⟨j, hj, e0⟩ := z
      exact hap k j hk8 hj e0))
    refine fx_eq (tgt := 315) hx hb dL_law_110 (by decide) Iff.rfl (fun c_110 => ?_) (fun c_110 => ?_)
    · exact K (d + 1) (ft_up sk d f) ns pa ln wt H2 locs (ft_SK_up hSK h.2 hf) hSI hFT2 hMT2 hS
    · exact absurd rfl c_110
  · refine lv_aload_n hx hb dL_law_92 rfl (lv_at hl 1 rfl) ?_
    refine lv_aload_n hx hb dL_law_93 rfl (lv_at hl 0 rfl) ?_
    refine lv_iload_n hx hb dL_law_94 rfl (lv_at hl 3 rfl) ?_
    refine lv_iconst (v := nI 1) hx hb dL_law_95 (by decide) ?_
    refine fx_add (v := nI (i + 1)) hx hb dL_law_96 (nI_add _ _) ?_
    refine fx_sld (k := i + 1) (v := xs (i + 1)) hx hb hX hbl (Nat.not_le.mpr hbl) hS (by omega) (by omega) rfl dL_law_97 ?_
    refine fx_callV (As := [.int (xs (i + 1))]) (rest := []) (n := 1) C0 (m0_call0 l hSK hSI (f := xs (i + 1)) h) hFT hK (ft_FTr hK hFT) (lw_V q54 q55 q56 q12 q57) ⟨rfl, rfl⟩ (by decide +kernel) ⟨Nat.le_of_ble_eq_true rfl, Nat.le_of_ble_eq_true rfl⟩ rfl hl.1 rfl (Nat.le_of_ble_eq_true rfl) dL_law_98 ⟨Nat.le_of_ble_eq_true rfl, Nat.le_of_ble_eq_true rfl⟩ (fun r hr => ?_)
    subst hr
    refine lv_aload_n hx hb dL_law_101 rfl (lv_at hl 2 rfl) ?_
    refine lv_aload_n hx hb dL_law_102 rfl (lv_at hl 0 rfl) ?_
    refine lv_iload_n hx hb dL_law_103 rfl (lv_at hl 3 rfl) ?_
    refine lv_iconst (v := nI 1) hx hb dL_law_104 (by decide) ?_
    refine fx_add (v := nI (i + 1)) hx hb dL_law_105 (nI_add _ _) ?_
    refine fx_sld (k := i + 1) (v := xs (i + 1)) hx hb hX hbl (Nat.not_le.mpr hbl) hS (by omega) (by omega) rfl dL_law_106 ?_
    refine fx_callV (As := [.int (xs (i + 1))]) (rest := [.int (-1)]) (n := 1) C0 (m1_call0 l hSK hSI (f := xs (i + 1)) h) hMT hK (ft_MTr hK hMT) (lw_V q146 q147 q148 q13 q149) ⟨rfl, rfl⟩ (by decide +kernel) ⟨Nat.le_of_ble_eq_true rfl, Nat.le_of_ble_eq_true rfl⟩ rfl hl.1 rfl (Nat.le_of_ble_eq_true rfl) dL_law_107 ⟨Nat.le_of_ble_eq_true rfl, Nat.le_of_ble_eq_true rfl⟩ (fun r hr => ?_)
    subst hr
    refine fx_eq (tgt := 315) hx hb dL_law_110 (by decide) Iff.rfl (fun c_110 => ?_) (fun c_110 => ?_)
    · exact K d sk ns pa ln wt H locs hSK hSI hFT hMT hS
    · exact absurd rfl c_110
set_option maxHeartbeats 4000000 in
set_option maxRecDepth 100000 in
theorem lc_leave (Hc : lc_H p s m meth c b L xs D cA ad am) (hi : i + 3 ≤ L) (hSK : ft_SK d sk) (hSI : ft_SI ns pa ln wt) (hFT : ft_FT D cA ad d sk ns pa ln wt H) (hMT : ft_MT D cA am d sk ns pa ln wt H) (hS : va_S (fun q => s.heap.size ≤ q) s.heap H locs) (hl : lv_has ls 4 [(0, .ref b), (1, .ref (ad 0)), (2, .ref (am 0)), (3, .int (nI i))]) (K : lc_K p l e s m below meth c b D cA ad am ls) : W p l e room_1 s m #[Value.ref b] below meth c H locs 13 2358 (lw_Z below #[Value.ref b] s) (F0 m 115 ls []) := by
  obtain ⟨C0, hX, hbl, hK, hap, hada, hama, hL⟩ := Hc
  obtain ⟨hx, hb, hml, hown, hts, hr, hlocks⟩ := id C0
  have hd8 := hSK.1
  have hFA : ∀ q, ft_A ad 8 q → s.heap.size ≤ q := fun q z => by
    obtain ⟨k, hk, e0⟩ := z
    rw [e0]; exact hada k hk
  have hMA : ∀ q, ft_A am 5 q → s.heap.size ≤ q := fun q z => by
    obtain ⟨k, hk, e0⟩ := z
    rw [e0]; exact hama k hk
  by_cases h : 0 < d
  · refine lv_aload_n hx hb dL_law_115 rfl (lv_at hl 1 rfl) ?_
    refine fx_callM (Ψ := fun _ H => ft_FT D cA ad (d - 1) sk ns pa ln wt H) (As := []) (rest := []) (n := 0) C0 (m0_leave l hSK hSI h) hFT hK (ft_FTr hK hFT) (lw_V q61 q62 q63 q12 q64) ⟨rfl, rfl⟩ (by decide +kernel) ⟨Nat.le_of_ble_eq_true rfl, Nat.le_of_ble_eq_true rfl⟩ rfl hl.1 rfl (Nat.le_of_ble_eq_true rfl) dL_law_116 ⟨Nat.le_of_ble_eq_true rfl, Nat.le_of_ble_eq_true rfl⟩ hS hFA (fun r _ H1 locs hr hFT1 _ hk hS => ?_)
    subst hr
    have hMT1 : ft_MT D cA am d sk ns pa ln wt H1 := ft_MTk hMT (fun k hk5 => hk _ (ft_MTl hMT k hk5) (fun z => by
      obtain ⟨j, hj, e0⟩ := z
      exact hap j k hj hk5 e0.symm))
    refine lv_aload_n hx hb dL_law_119 rfl (lv_at hl 2 rfl) ?_
    refine fx_callM (Ψ := fun _ H => ft_MT D cA am (d - 1) sk ns pa ln wt H) (As := []) (rest := [.int (nI (sk (d - 1)))]) (n := 0) C0 (m1_leave l hSK hSI h) hMT1 hK (ft_MTr hK hMT1) (lw_V q153 q154 q155 q13 q156) ⟨rfl, rfl⟩ (by decide +kernel) ⟨Nat.le_of_ble_eq_true rfl, Nat.le_of_ble_eq_true rfl⟩ rfl hl.1 rfl (Nat.le_of_ble_eq_true rfl) dL_law_120 ⟨Nat.le_of_ble_eq_true rfl, Nat.le_of_ble_eq_true rfl⟩ hS hMA (fun r _ H2 locs hr hMT2 _ hk2 hS => ?_)
    subst hr
    have hFT2 := ft_FTk hFT1 (fun k hk8 => hk2 _ (ft_FTl hFT1 k hk8) (fun z => by
      obtain ⟨j, hj, e0⟩ := z
      exact hap k j hk8 hj e0))
    refine fx_eq (tgt := 315) hx hb dL_law_123 (by decide) Iff.rfl (fun c_123 => ?_) (fun c_123 => ?_)
    · exact K (d - 1) sk ns pa ln wt H2 locs ⟨by omega, hSK.2⟩ hSI hFT2 hMT2 hS
    · exact absurd rfl c_123
  · have h0 : d = 0 := by omega
    refine lv_aload_n hx hb dL_law_115 rfl (lv_at hl 1 rfl) ?_
    refine fx_callV (As := []) (rest := []) (n := 0) C0 (m0_leave0 l hSK hSI h0) hFT hK (ft_FTr hK hFT) (lw_V q61 q62 q63 q12 q64) ⟨rfl, rfl⟩ (by decide +kernel) ⟨Nat.le_of_ble_eq_true rfl, Nat.le_of_ble_eq_true rfl⟩ rfl hl.1 rfl (Nat.le_of_ble_eq_true rfl) dL_law_116 ⟨Nat.le_of_ble_eq_true rfl, Nat.le_of_ble_eq_true rfl⟩ (fun r hr => ?_)
    subst hr
    refine lv_aload_n hx hb dL_law_119 rfl (lv_at hl 2 rfl) ?_
    refine fx_callV (As := []) (rest := [.int (-1)]) (n := 0) C0 (m1_leave0 l hSK hSI h0) hMT hK (ft_MTr hK hMT) (lw_V q153 q154 q155 q13 q156) ⟨rfl, rfl⟩ (by decide +kernel) ⟨Nat.le_of_ble_eq_true rfl, Nat.le_of_ble_eq_true rfl⟩ rfl hl.1 rfl (Nat.le_of_ble_eq_true rfl) dL_law_120 ⟨Nat.le_of_ble_eq_true rfl, Nat.le_of_ble_eq_true rfl⟩ (fun r hr => ?_)
    subst hr
    refine fx_eq (tgt := 315) hx hb dL_law_123 (by decide) Iff.rfl (fun c_123 => ?_) (fun c_123 => ?_)
    · exact K d sk ns pa ln wt H locs hSK hSI hFT hMT hS
    · exact absurd rfl c_123
set_option maxHeartbeats 4000000 in
set_option maxRecDepth 100000 in
theorem lc_sample (Hc : lc_H p s m meth c b L xs D cA ad am) (hi : i + 3 ≤ L) (hSK : ft_SK d sk) (hSI : ft_SI ns pa ln wt) (hFT : ft_FT D cA ad d sk ns pa ln wt H) (hMT : ft_MT D cA am d sk ns pa ln wt H) (hS : va_S (fun q => s.heap.size ≤ q) s.heap H locs) (hl : lv_has ls 4 [(0, .ref b), (1, .ref (ad 0)), (2, .ref (am 0)), (3, .int (nI i))]) (K : lc_K p l e s m below meth c b D cA ad am ls) : W p l e room_1 s m #[Value.ref b] below meth c H locs 13 2358 (lw_Z below #[Value.ref b] s) (F0 m 128 ls []) := by
  obtain ⟨C0, hX, hbl, hK, hap, hada, hama, hL⟩ := Hc
  obtain ⟨hx, hb, hml, hown, hts, hr, hlocks⟩ := id C0
  have hd8 := hSK.1
  have hFA : ∀ q, ft_A ad 8 q → s.heap.size ≤ q := fun q z => by
    obtain ⟨k, hk, e0⟩ := z
    rw [e0]; exact hada k hk
  have hMA : ∀ q, ft_A am 5 q → s.heap.size ≤ q := fun q z => by
    obtain ⟨k, hk, e0⟩ := z
    rw [e0]; exact hama k hk
  by_cases h : 1 ≤ xs (i + 1) ∧ xs (i + 1) ≤ 100 ∧ ns < 40
  · obtain ⟨w, hw1, hw2, ew⟩ := fx_w100 h.1 h.2.1
    refine lv_aload_n hx hb dL_law_128 rfl (lv_at hl 1 rfl) ?_
    refine lv_aload_n hx hb dL_law_129 rfl (lv_at hl 0 rfl) ?_
    refine lv_iload_n hx hb dL_law_130 rfl (lv_at hl 3 rfl) ?_
    refine lv_iconst (v := nI 1) hx hb dL_law_131 (by decide) ?_
    refine fx_add (v := nI (i + 1)) hx hb dL_law_132 (nI_add _ _) ?_
    refine fx_sld (k := i + 1) (v := nI w) hx hb hX hbl (Nat.not_le.mpr hbl) hS (by omega) (by omega) ew dL_law_133 ?_
    refine fx_callM (Ψ := fun _ H => ft_FT D cA ad d sk (ns + 1) (ft_up pa ns sk) (ft_up ln ns d) (ft_up wt ns w) H) (As := [.int (nI w)]) (rest := []) (n := 1) C0 (m0_sample l hSK hSI (w := w) hw1 hw2 h.2.2) hFT hK (ft_FTr hK hFT) (lw_V q65 q66 q67 q12 q68) ⟨rfl, rfl⟩ (by decide +kernel) ⟨Nat.le_of_ble_eq_true rfl, Nat.le_of_ble_eq_true rfl⟩ rfl hl.1 rfl (Nat.le_of_ble_eq_true rfl) dL_law_134 ⟨Nat.le_of_ble_eq_true rfl, Nat.le_of_ble_eq_true rfl⟩ hS hFA (fun r _ H1 locs hr hFT1 _ hk hS => ?_)
    subst hr
    have hMT1 : ft_MT D cA am d sk ns pa ln wt H1 := ft_MTk hMT (fun k hk5 => hk _ (ft_MTl hMT k hk5) (fun z => by
      obtain ⟨j, hj, e0⟩ := z
      exact hap j k hj hk5 e0.symm))
    refine lv_aload_n hx hb dL_law_137 rfl (lv_at hl 2 rfl) ?_
    refine lv_aload_n hx hb dL_law_138 rfl (lv_at hl 0 rfl) ?_
    refine lv_iload_n hx hb dL_law_139 rfl (lv_at hl 3 rfl) ?_
    refine lv_iconst (v := nI 1) hx hb dL_law_140 (by decide) ?_
    refine fx_add (v := nI (i + 1)) hx hb dL_law_141 (nI_add _ _) ?_
    refine fx_sld (k := i + 1) (v := nI w) hx hb hX hbl (Nat.not_le.mpr hbl) hS (by omega) (by omega) ew dL_law_142 ?_
    refine fx_callM (Ψ := fun _ H => ft_MT D cA am d sk (ns + 1) (ft_up pa ns sk) (ft_up ln ns d) (ft_up wt ns w) H) (As := [.int (nI w)]) (rest := [.int (nI (ns + 1))]) (n := 1) C0 (m1_sample l hSK hSI (w := w) hw1 hw2 h.2.2) hMT1 hK (ft_MTr hK hMT1) (lw_V q157 q158 q159 q13 q160) ⟨rfl, rfl⟩ (by decide +kernel) ⟨Nat.le_of_ble_eq_true rfl, Nat.le_of_ble_eq_true rfl⟩ rfl hl.1 rfl (Nat.le_of_ble_eq_true rfl) dL_law_143 ⟨Nat.le_of_ble_eq_true rfl, Nat.le_of_ble_eq_true rfl⟩ hS hMA (fun r _ H2 locs hr hMT2 _ hk2 hS => ?_)
    subst hr
    have hFT2 := ft_FTk hFT1 (fun k hk8 => hk2 _ (ft_FTl hFT1 k hk8) (fun z => by
      obtain ⟨j, hj, e0⟩ := z
      exact hap k j hk8 hj e0))
    refine fx_eq (tgt := 315) hx hb dL_law_146 (by decide) Iff.rfl (fun c_146 => ?_) (fun c_146 => ?_)
    · exact K _ _ _ _ _ _ H2 locs hSK (ft_SI_s hSI h.2.2 hd8 hw1 hw2 hSK.2) hFT2 hMT2 hS
    · exact absurd rfl c_146
  · refine lv_aload_n hx hb dL_law_128 rfl (lv_at hl 1 rfl) ?_
    refine lv_aload_n hx hb dL_law_129 rfl (lv_at hl 0 rfl) ?_
    refine lv_iload_n hx hb dL_law_130 rfl (lv_at hl 3 rfl) ?_
    refine lv_iconst (v := nI 1) hx hb dL_law_131 (by decide) ?_
    refine fx_add (v := nI (i + 1)) hx hb dL_law_132 (nI_add _ _) ?_
    refine fx_sld (k := i + 1) (v := xs (i + 1)) hx hb hX hbl (Nat.not_le.mpr hbl) hS (by omega) (by omega) rfl dL_law_133 ?_
    refine fx_callV (As := [.int (xs (i + 1))]) (rest := []) (n := 1) C0 (m0_sample0 l hSK hSI (w := xs (i + 1)) h) hFT hK (ft_FTr hK hFT) (lw_V q65 q66 q67 q12 q68) ⟨rfl, rfl⟩ (by decide +kernel) ⟨Nat.le_of_ble_eq_true rfl, Nat.le_of_ble_eq_true rfl⟩ rfl hl.1 rfl (Nat.le_of_ble_eq_true rfl) dL_law_134 ⟨Nat.le_of_ble_eq_true rfl, Nat.le_of_ble_eq_true rfl⟩ (fun r hr => ?_)
    subst hr
    refine lv_aload_n hx hb dL_law_137 rfl (lv_at hl 2 rfl) ?_
    refine lv_aload_n hx hb dL_law_138 rfl (lv_at hl 0 rfl) ?_
    refine lv_iload_n hx hb dL_law_139 rfl (lv_at hl 3 rfl) ?_
    refine lv_iconst (v := nI 1) hx hb dL_law_140 (by decide) ?_
    refine fx_add (v := nI (i + 1)) hx hb dL_law_141 (nI_add _ _) ?_
    refine fx_sld (k := i + 1) (v := xs (i + 1)) hx hb hX hbl (Nat.not_le.mpr hbl) hS (by omega) (by omega) rfl dL_law_142 ?_
    refine fx_callV (As := [.int (xs (i + 1))]) (rest := [.int (-1)]) (n := 1) C0 (m1_sample0 l hSK hSI (w := xs (i + 1)) h) hMT hK (ft_MTr hK hMT) (lw_V q157 q158 q159 q13 q160) ⟨rfl, rfl⟩ (by decide +kernel) ⟨Nat.le_of_ble_eq_true rfl, Nat.le_of_ble_eq_true rfl⟩ rfl hl.1 rfl (Nat.le_of_ble_eq_true rfl) dL_law_143 ⟨Nat.le_of_ble_eq_true rfl, Nat.le_of_ble_eq_true rfl⟩ (fun r hr => ?_)
    subst hr
    refine fx_eq (tgt := 315) hx hb dL_law_146 (by decide) Iff.rfl (fun c_146 => ?_) (fun c_146 => ?_)
    · exact K d sk ns pa ln wt H locs hSK hSI hFT hMT hS
    · exact absurd rfl c_146
end
end
section
/-! THE LAW: its loop, its start -/
theorem fx_l3 {L i : Nat} (hL : L ≤ 192) (hi : i ≤ 192) : nI L - nI 3 < nI i ↔ L < i + 3 := by
  rw [Int32.lt_iff_toInt_lt, pk_sub_toInt (by omega) (by omega), nI_toInt (by omega)]
  omega
section
variable {p : Program} {l : Launch} {e : Env} {s : State} {m : MethodId} {below : List Frame} {meth : Method} {c : Code} {b L : Nat} {xs : Nat → Int32} {D : va_G} {cA : ClassId} {ad am : Nat → Nat}
set_option maxHeartbeats 4000000 in
set_option maxRecDepth 100000 in
theorem lc_loop (Hc : lc_H p s m meth c b L xs D cA ad am) : ∀ (n i d : Nat) (sk : Nat → Nat) (ns : Nat) (pa : Nat → Nat → Nat) (ln wt : Nat → Nat), i ≤ L → L - i < n → ft_SK d sk → ft_SI ns pa ln wt → ∀ (H : Heap) (locs : List Loc), ft_FT D cA ad d sk ns pa ln wt H → ft_MT D cA am d sk ns pa ln wt H → va_S (fun q => s.heap.size ≤ q) s.heap H locs → ∀ ls : Array Slot, lv_has ls 4 [(0, .ref b), (1, .ref (ad 0)), (2, .ref (am 0)), (3, .int (nI i))] → W p l e room_1 s m #[Value.ref b] below meth c H locs 13 2358 (lw_Z below #[Value.ref b] s) (F0 m 18 ls []) := by
  obtain ⟨C0, hX, hbl, hK, hap, hada, hama, hL⟩ := id Hc
  obtain ⟨hx, hb, hml, hown, hts, hr, hlocks⟩ := id C0
  intro n
  induction n with
  | zero =>
    intro i d sk ns pa ln wt h1 h2
    exact absurd h2 (by omega)
  | succ n ih =>
    intro i d sk ns pa ln wt hi hn hSK hSI H locs hFT hMT hS ls hl
    refine lv_iload_n hx hb dL_law_18 rfl (lv_at hl 3 rfl) ?_
    refine lv_aload_n hx hb dL_law_19 rfl (lv_at hl 0 rfl) ?_
    refine va_slen hx hb hX hbl (Nat.not_le.mpr hbl) hS dL_law_20 ?_
    refine lv_iconst (v := nI 3) hx hb dL_law_21 (by decide) ?_
    refine fx_sub (x := nI L) (v := nI L - nI 3) hx hb dL_law_22 rfl ?_
    refine fx_gt (tgt := 321) hx hb dL_law_23 (by decide) (fx_l3 (i := i) hL (by omega)) (fun c_23 => ?_) (fun c_23 => ?_)
    · refine lv_iconst (v := 1) hx hb dL_law_321 (by decide) ?_
      refine va_forget (fun q hq => hS.2.2 q hq) ?_
      refine W.widen (k := 600000) (n := 7290000) (Nat.le_of_ble_eq_true rfl) (Nat.le_of_ble_eq_true rfl) ?_
      exact lw_ret hx hb hr hlocks dL_law_322
    · have hi3 : i + 3 ≤ L := by omega
      have K : lc_K p l e s m below meth c b D cA ad am ls := by
        intro d' sk' ns' pa' ln' wt' H' locs' hSK' hSI' hFT' hMT' hS'
        refine lv_iinc (v := nI (i + 3)) (lv' := [(3, .int (nI (i + 3))), (0, .ref b), (1, .ref (ad 0)), (2, .ref (am 0))]) (k := 3) hx hb dL_law_315 hl rfl (nI_add i 3) (by decide) rfl (fun ls hl => ?_)
        refine lv_goto (tgt := 18) hx hb dL_law_318 (by decide) ?_
        exact ih (i + 3) d' sk' ns' pa' ln' wt' hi3 (by omega) hSK' hSI' H' locs' hFT' hMT' hS' ls (lv_sub hl [1, 2, 3, 0] rfl)
      refine lv_aload_n hx hb dL_law_26 rfl (lv_at hl 0 rfl) ?_
      refine lv_iload_n hx hb dL_law_27 rfl (lv_at hl 3 rfl) ?_
      refine fx_sld (k := i) (v := xs i) hx hb hX hbl (Nat.not_le.mpr hbl) hS (by omega) (by omega) rfl dL_law_28 ?_
      refine lv_bipush (v := 15) hx hb dL_law_29 (by decide) ?_
      refine lv_iand hx hb dL_law_31 ?_
      obtain ⟨j, hj, ej⟩ := pk_andE (xs i) (m := 15) 4 (by decide)
      rw [ej]
      by_cases z0 : j = 0
      · subst z0
        refine lv_tableIn (off := 60) (tgt := 92) hx hb dL_law_32 (by decide) (by decide) (by decide) (by decide) ?_
        exact lc_call Hc hi3 hSK hSI hFT hMT hS hl K
      by_cases z1 : j = 1
      · subst z1
        refine lv_tableIn (off := 83) (tgt := 115) hx hb dL_law_32 (by decide) (by decide) (by decide) (by decide) ?_
        exact lc_leave Hc hi3 hSK hSI hFT hMT hS hl K
      by_cases z2 : j = 2
      · subst z2
        refine lv_tableIn (off := 96) (tgt := 128) hx hb dL_law_32 (by decide) (by decide) (by decide) (by decide) ?_
        exact lc_sample Hc hi3 hSK hSI hFT hMT hS hl K
      by_cases z3 : j = 3
      · subst z3
        refine lv_tableIn (off := 119) (tgt := 151) hx hb dL_law_32 (by decide) (by decide) (by decide) (by decide) ?_
        exact lc_total Hc hi3 hSK hSI hFT hMT hS hl K
      by_cases z4 : j = 4
      · subst z4
        refine lv_tableIn (off := 132) (tgt := 164) hx hb dL_law_32 (by decide) (by decide) (by decide) (by decide) ?_
        exact lc_own Hc hi3 hSK hSI hFT hMT hS hl K
      by_cases z5 : j = 5
      · subst z5
        refine lv_tableIn (off := 145) (tgt := 177) hx hb dL_law_32 (by decide) (by decide) (by decide) (by decide) ?_
        exact lc_hottest Hc hi3 hSK hSI hFT hMT hS hl K
      by_cases z6 : j = 6
      · subst z6
        refine lv_tableIn (off := 158) (tgt := 190) hx hb dL_law_32 (by decide) (by decide) (by decide) (by decide) ?_
        exact lc_inclusive Hc hi3 hSK hSI hFT hMT hS hl K
      by_cases z7 : j = 7
      · subst z7
        refine lv_tableIn (off := 181) (tgt := 213) hx hb dL_law_32 (by decide) (by decide) (by decide) (by decide) ?_
        exact lc_exclusive Hc hi3 hSK hSI hFT hMT hS hl K
      by_cases z8 : j = 8
      · subst z8
        refine lv_tableIn (off := 204) (tgt := 236) hx hb dL_law_32 (by decide) (by decide) (by decide) (by decide) ?_
        exact lc_edge Hc hi3 hSK hSI hFT hMT hS hl K
      by_cases z9 : j = 9
      · subst z9
        refine lv_tableIn (off := 237) (tgt := 269) hx hb dL_law_32 (by decide) (by decide) (by decide) (by decide) ?_
        exact lc_paths Hc hi3 hSK hSI hFT hMT hS hl K
      by_cases z10 : j = 10
      · subst z10
        refine lv_tableIn (off := 260) (tgt := 292) hx hb dL_law_32 (by decide) (by decide) (by decide) (by decide) ?_
        exact lc_deepest Hc hi3 hSK hSI hFT hMT hS hl K
      refine lv_tableOut (tgt := 315) hx hb dL_law_32 (Or.inr ?_) (by decide) ?_
      · rw [nI_toInt (by omega)]
        omega
      · exact K d sk ns pa ln wt H locs hSK hSI hFT hMT hS
end
theorem ft_dv0 : ∀ j, j < 10 → defaultValue (tyX0 j) = vp_V [.int 0, .null, .int 0, .int 0, .null, .null, .null, .null, .null, .null] j := by
  intro j hj
  match j, hj with
  | 0, _ => rfl
  | 1, _ => rfl
  | 2, _ => rfl
  | 3, _ => rfl
  | 4, _ => rfl
  | 5, _ => rfl
  | 6, _ => rfl
  | 7, _ => rfl
  | 8, _ => rfl
  | 9, _ => rfl
theorem ft_dv1 : ∀ j, j < 6 → defaultValue (tyX1 j) = vp_V [.int 0, .null, .int 0, .null, .null, .null] j := by
  intro j hj
  match j, hj with
  | 0, _ => rfl
  | 1, _ => rfl
  | 2, _ => rfl
  | 3, _ => rfl
  | 4, _ => rfl
  | 5, _ => rfl
set_option maxHeartbeats 4000000 in
set_option maxRecDepth 100000 in
theorem whole_start {p : Program} {e : Env} {s : State} {m : MethodId} {below : List Frame} {meth : Method} {c : Code} (l : Launch) {b L : Nat} {xs : Nat → Int32} (hL : L ≤ 192) (C0 : lw_At p s m meth c b L xs) : W p l e room_1 s m #[Value.ref b] below meth c s.heap [] 0 0 (lw_Z below #[Value.ref b] s) (entryFrame m ([Value.ref b] : List Value).toArray 4) := by
  obtain ⟨hx, hb, hr, hml, hown, hts0, hX, hbl, hlocks, -⟩ := C0
  have hts : ∀ w ∈ lw_all, w.before #[Value.ref b] s = true := fun w h => hts0 w (lw_all_tbl h)
  obtain ⟨c0_, iS0, hKn0⟩ := u_known (C := RX0) (T := TX0) (N := 10) (n := 10) hts0 (fun w h => lw_all_tbl (in_X0 w h)) (hts _ q15)
  obtain ⟨c1_, iS1, hKn1⟩ := u_known (C := RX1) (T := TX1) (N := 6) (n := 6) hts0 (fun w h => lw_all_tbl (in_X1 w h)) (hts _ q122)
  obtain ⟨cA, hA1, hA2⟩ := ft_arr (hts _ q53)
  obtain ⟨D, hK⟩ : ∃ D : va_G, va_K D vwCl [(cA, .int)] s := by
    refine ⟨((fun k => if k = 0 then c0_ else c1_), (fun k => if k = 0 then iS0 else iS1)), fun k q hq => ?_, fun k q hq => ?_⟩
    · match k, hq with
      | 0, hq => cases hq; exact hKn0
      | 1, hq => cases hq; exact hKn1
      | k + 2, hq => simp [vwCl] at hq
    · match k, hq with
      | 0, hq => cases hq; exact ⟨hA1, hA2⟩
      | k + 1, hq => simp at hq
  have hP : va_P D vwCl [] s.heap := fun k q h => by simp at h
  have hD : va_D (fun q => s.heap.size ≤ q) [] := ⟨fun i j p q h => by simp at h, fun k q h => by simp at h⟩
  have hA : ∀ q, s.heap.size ≤ q → (fun q => s.heap.size ≤ q) q := fun _ h => h
  have hS : va_S (fun q => s.heap.size ≤ q) s.heap s.heap [] := va_S.rf
  have hl := lv_entry ([.ref b]) (n := 4) (Nat.le_of_ble_eq_true rfl)
  rw [lg_entry_eq]
  generalize (lg_sl ([.ref b]) ++ List.replicate (4 - (lg_sl ([.ref b])).length) Slot.unset).toArray = ls at hl ⊢
  have hl : lv_has ls 4 [(0, .ref b)] := hl
  refine va_new (ci := 0) (fs := [.int 0, .null, .int 0, .int 0, .null, .null, .null, .null, .null, .null]) (C := RX0) (T := TX0) (N := 10) hx hb hts in_X0 tyX0 tyX0_ok hown (hts _ q14) (hts _ q15) (hts _ q12) hK hP hD hS hA rfl ft_dv0 (Nat.le_of_ble_eq_true rfl) (Nat.le_of_ble_eq_true rfl) dL_law_0 (fun qx H hP hD hS => ?_)
  have hP : va_P D vwCl [(qx, .inr (0, [.int 0, .null, .int 0, .int 0, .null, .null, .null, .null, .null, .null]))] H := hP
  have hqx : s.heap.size ≤ qx := hD.2 0 _ rfl
  have hH := hS.1
  refine W.widen (k := 1) (n := 10) (Nat.le_of_ble_eq_true rfl) (Nat.le_of_ble_eq_true rfl) ?_
  refine lv_dup hx hb dL_law_3 rfl ?_
  have hB0 : ∀ q, ft_B qx H.size q → s.heap.size ≤ q := fun q z => z.elim (fun e0 => by rw [e0]; exact hqx) (fun e0 => Nat.le_trans hH e0)
  refine va_callv (va_runI (As := []) (rest := [.ref qx]) ⟨hx, hb, hml, hown, hts⟩ (m0_init l D cA qx H.size (hP 0 _ rfl).lt) (cwI 0 hts (lw_meth q18) rfl rfl rfl (hts _ q12) (hts _ q16) (hts _ q17) rfl (by decide +kernel) ⟨Nat.le_of_ble_eq_true rfl, Nat.le_of_ble_eq_true rfl⟩) ⟨fun a U g mk q => ⟨q.1, q.2.1, q.2.2.1, va_K.moved (u := U) (U := U.calling g mk a) (Vm.Alike.refl U.vm) q.2.2.2⟩, fun U hU hW => ⟨rfl, by rw [hU], by rw [hU]; exact hP, va_K.moved hW.alike hK⟩⟩ rfl rfl hl.1 rfl (lv_room (Nat.le_of_ble_eq_true rfl)) dL_law_4 ⟨Nat.le_of_ble_eq_true rfl, Nat.le_of_ble_eq_true rfl⟩) hS (fun q _ z => hB0 q z) hB0 (fun ad t H1 locs ht hvm had hFT hz1 hk1 hS => ?_)
  rw [ht] at hFT
  obtain ⟨had0, hadk⟩ := had
  subst had0
  refine W.widen (k := 8) (n := 1944) (Nat.le_of_ble_eq_true rfl) (Nat.le_of_ble_eq_true rfl) ?_
  refine lv_astore_n (lv' := [(1, .ref (ad 0)), (0, .ref b)]) hx hb dL_law_7 rfl hl (by decide) rfl (fun ls hl => ?_)
  have hada : ∀ k, k < 8 → s.heap.size ≤ ad k := fun k hk => by
    by_cases z : k = 0
    · rw [z]; exact hqx
    · exact Nat.le_trans hH (hadk k (by omega) hk)
  obtain ⟨N, fn, ab, ch, si, ow, to, ps, hI, hPF, hDF⟩ := hFT
  have hDF2 : va_D (fun q => s.heap.size ≤ q) (ft_FW cA ad 0 0 N (fun _ => 0) fn ab ch si ow to) := hDF.weaken (fun _ _ _ z => by
    obtain ⟨j, hj, e0⟩ := z
    rw [e0]; exact hada j hj)
  refine va_new (ci := 1) (fs := [.int 0, .null, .int 0, .null, .null, .null]) (C := RX1) (T := TX1) (N := 6) hx hb hts in_X1 tyX1 tyX1_ok hown (hts _ q121) (hts _ q122) (hts _ q13) hK hPF hDF2 hS hA rfl ft_dv1 (Nat.le_of_ble_eq_true rfl) (Nat.le_of_ble_eq_true rfl) dL_law_8 (fun qm H2 hP hD hS => ?_)
  have hPF : va_P D vwCl (ft_FW cA ad 0 0 N (fun _ => 0) fn ab ch si ow to) H2 := hP.sub [0, 1, 2, 3, 4, 5, 6, 7] rfl
  have hPm : va_P D vwCl [(qm, .inr (1, [.int 0, .null, .int 0, .null, .null, .null]))] H2 := hP.sub [8] rfl
  have hqm : s.heap.size ≤ qm := hD.2 8 _ rfl
  have hne : ∀ k, k < 8 → ad k ≠ qm := by
    intro k hk z
    match k, hk, z with
    | 0, _, z => exact absurd (hD.1 0 8 _ _ rfl rfl z) (by decide)
    | 1, _, z => exact absurd (hD.1 1 8 _ _ rfl rfl z) (by decide)
    | 2, _, z => exact absurd (hD.1 2 8 _ _ rfl rfl z) (by decide)
    | 3, _, z => exact absurd (hD.1 3 8 _ _ rfl rfl z) (by decide)
    | 4, _, z => exact absurd (hD.1 4 8 _ _ rfl rfl z) (by decide)
    | 5, _, z => exact absurd (hD.1 5 8 _ _ rfl rfl z) (by decide)
    | 6, _, z => exact absurd (hD.1 6 8 _ _ rfl rfl z) (by decide)
    | 7, _, z => exact absurd (hD.1 7 8 _ _ rfl rfl z) (by decide)
  have hFT : ft_FT D cA ad 0 (fun _ => 0) 0 (fun _ _ => 0) (fun _ => 0) (fun _ => 0) H2 := ⟨N, fn, ab, ch, si, ow, to, ps, hI, hPF, hDF⟩
  have hH2 := hS.1
  refine W.widen (k := 9) (n := 1950) (Nat.le_of_ble_eq_true rfl) (Nat.le_of_ble_eq_true rfl) ?_
  refine lv_dup hx hb dL_law_11 rfl ?_
  have hB1 : ∀ q, ft_B qm H2.size q → s.heap.size ≤ q := fun q z => z.elim (fun e0 => by rw [e0]; exact hqm) (fun e0 => Nat.le_trans hH2 e0)
  refine va_callv (va_runI (As := []) (rest := [.ref qm]) ⟨hx, hb, hml, hown, hts⟩ (m1_init l D cA qm H2.size (hPm 0 _ rfl).lt) (cwI 0 hts (lw_meth q125) rfl rfl rfl (hts _ q13) (hts _ q123) (hts _ q124) rfl (by decide +kernel) ⟨Nat.le_of_ble_eq_true rfl, Nat.le_of_ble_eq_true rfl⟩) ⟨fun a U g mk q => ⟨q.1, q.2.1, q.2.2.1, va_K.moved (u := U) (U := U.calling g mk a) (Vm.Alike.refl U.vm) q.2.2.2⟩, fun U hU hW => ⟨rfl, by rw [hU], by rw [hU]; exact hPm, va_K.moved hW.alike hK⟩⟩ rfl rfl hl.1 rfl (lv_room (Nat.le_of_ble_eq_true rfl)) dL_law_12 ⟨Nat.le_of_ble_eq_true rfl, Nat.le_of_ble_eq_true rfl⟩) hS (fun q _ z => hB1 q z) hB1 (fun am t H3 locs ht hvm ham hMT hz3 hk3 hS => ?_)
  rw [ht] at hMT
  obtain ⟨ham0, hamk⟩ := ham
  subst ham0
  have hFl := ft_FTl hFT
  have hFT3 := ft_FTk hFT (fun k hk => hk3 (ad k) (hFl k hk) (fun z => z.elim (fun e0 => hne k hk e0) (fun e0 => absurd (hFl k hk) (Nat.not_lt.mpr e0))))
  have hap : ∀ i j, i < 8 → j < 5 → ad i ≠ am j := fun i j hi hj z => by
    by_cases y : j = 0
    · subst y
      exact hne i hi z
    · have h1 := hamk j (by omega) hj
      have h2 := hFl i hi
      omega
  have hama : ∀ k, k < 5 → s.heap.size ≤ am k := fun k hk => by
    by_cases z : k = 0
    · rw [z]; exact hqm
    · exact Nat.le_trans hH2 (hamk k (by omega) hk)
  refine W.widen (k := 13) (n := 2358) (Nat.le_of_ble_eq_true rfl) (Nat.le_of_ble_eq_true rfl) ?_
  refine lv_astore_n (lv' := [(2, .ref (am 0)), (1, .ref (ad 0)), (0, .ref b)]) hx hb dL_law_15 rfl hl (by decide) rfl (fun ls hl => ?_)
  refine lv_iconst (v := nI 0) hx hb dL_law_16 (by decide) ?_
  refine lv_istore_n (lv' := [(3, .int (nI 0)), (2, .ref (am 0)), (1, .ref (ad 0)), (0, .ref b)]) hx hb dL_law_17 rfl hl (by decide) rfl (fun ls hl => ?_)
  exact lc_loop ⟨⟨hx, hb, hml, hown, hts, hr, hlocks⟩, hX, hbl, hK, hap, hada, hama, hL⟩ (L + 1) 0 0 (fun _ => 0) 0 (fun _ _ => 0) (fun _ => 0) (fun _ => 0) (Nat.zero_le _) (by omega) ⟨Nat.zero_le _, fun _ => Nat.zero_le _⟩ ft_SI_0 H3 locs hFT3 hMT hS ls (lv_sub hl [3, 2, 1, 0] rfl)
end
section
set_option maxHeartbeats 4000000 in
theorem lw_walk (l : Launch) (b : Addr) (xs : List Int32) : MetFree l x (headSpec (Jvm.Cond.code x code maxLocals ret :: tables_1) room_1) (lw_P b xs) (fun _ _ _ _ _ => True) lw_Q := by
  refine MetFree.of_bodyS (code := code) (maxLocals := maxLocals) (ret := ret) (by decide) ?_ ?_
  · intro args s m h hn
    obtain ⟨meth, c, h1, h2, h3, h4, h5, h6, -, -⟩ := Cond.code_spec hn (atoms_spec (ws := Jvm.Cond.code x code maxLocals ret :: tables_1) h _ List.mem_cons_self)
    exact ⟨meth, c, h1, h2, h3, h4, h5, h6⟩
  · intro p e s m args below meth c s₁ B hml0 hP _
    obtain ⟨rfl, hx, hbd, hgv⟩ := hP
    obtain ⟨scr, harrAt, hlist, hof, hsmall⟩ := hx
    obtain ⟨hcb, hkn, -, -⟩ := State.arrayAt?_spec harrAt
    have hown : s.vm.findClass R_law = some m.cls := findClass_of_methodNamed B.named
    have hts0 : ∀ c ∈ (Jvm.Cond.code x code maxLocals ret :: tables_1), c.before #[Value.ref b] s = true := atoms_spec (ws := Jvm.Cond.code x code maxLocals ret :: tables_1) B.pre
    have hts : ∀ w ∈ lw_tbl, w.before #[Value.ref b] s = true := k2_hts_sels lw_privs (fun w hw => hts0 w (List.mem_cons_of_mem _ hw)) lw_privs_ok
    have hml : c.maxLocals = 4 := B.maxLocals_eq (hts0 _ List.mem_cons_self)
    have X₀ : Stand p l e room_1 s m #[Value.ref b] below meth c s₁ [] 0 0 := Stand.of_body B
    have hh0 : s₁.heap = s.heap := by rw [B.state]; rfl
    have hsz : scr.slots.size = xs.length := by rw [← Array.length_toList, hlist, List.length_map]
    have hval : ∀ j : Nat, j < xs.length → scr.slots[j]? = some (.int (xs.getD j 0)) := fun j hj => by
      rw [← Array.getElem?_toList, hlist]
      simp [hj]
    have hbl : b < s.heap.size := (Array.getElem?_eq_some_iff.mp hcb).1
    have hX : va_X b xs.length (fun j => xs.getD j 0) s s.heap := ⟨scr, hcb, hof, hkn, hsz, hval⟩
    have K : W p l e room_1 s m #[Value.ref b] below meth c s₁.heap [] 0 0 (lw_Z below #[Value.ref b] s) (entryFrame m ([Value.ref b] : List Value).toArray 4) := by
      rw [hh0]
      exact whole_start l hbd ⟨B.exec, B.bytes, B.returns, hml, hown, hts, hX, hbl, B.notSynchronized, hgv⟩
    obtain ⟨t, a1, o, b1, b2, b3⟩ := K s₁ rfl X₀
    exact ⟨t, o, a1, b1, b2, b3⟩
theorem lw_pre_spec {args : Array Value} {s : State} (h : (Jvm.Cond.and given_1 narrow_1).before args s = true) (hr : rest_1_c.before args s = true) : ∃ (b : Addr) (xs : List Int32), lw_P b xs args s := by
  have hs := flat_of_before _ h
  have hq := flat_of_before _ hr
  have hc : (Cond.count 1).before args s = true := hs _ (by decide +kernel)
  have harr : (Cond.arrayOf (.arg 0) .int).before args s = true := hs _ (by decide +kernel)
  have hle : (Cond.le (.length (.arg 0)) (.int 192)).before args s = true := hs _ (by decide +kernel)
  have hlen : (Cond.isInt (.length (.arg 0))).before args s = true := hq _ (by decide +kernel)
  have hall : (Cond.all (.arg 0) (.isInt (.elem (.arg 0) (.index 0)))).before args s = true := hq _ (by decide +kernel)
  obtain ⟨b, xs, hb, hx⟩ := State.ints_of_pre rfl harr hlen hall
  have hsm : xs.length < 2 ^ 31 := hx.choose_spec.2.2.2
  have hev : (Term.length (.arg 0)).eval args s none [] s = some (.int xs.length.toInt32) := hx.length_eval hb
  have hv := Cond.le_ints hev (show (Term.int 192).eval args s none [] s = some (.int 192) from rfl)
  have hd : xs.length.toInt32 ≤ 192 := by
    simpa [Cond.before, Cond.holds, hv] using hle
  have hN : xs.length ≤ 192 := (Int32.ofNat_le_ofNat hsm (by decide)).mp (show Int32.ofNat xs.length ≤ Int32.ofNat 192 from hd)
  exact ⟨b, xs, Cond.one_arg hc (show args[0]? = some (.ref b) from hb), hx, hN, h⟩
theorem lw_comes (l : Launch) : Comes l x (Jvm.Cond.code x code maxLocals ret :: tables_1) room_1 (fun tb e args s => Calls_1 tb e args s ∧ rest_1 tb e args s ∧ Pre_1 tb e args s)
    (fun _ _ args s o t => lw_Q args s o t) := by
  intro p e ha hc hk s m args below hf hfit hheap happ hpre
  obtain ⟨b, xs, hP⟩ := lw_pre_spec hpre.2.2 hpre.2.1
  obtain ⟨k, o, h1, h2, h3, hQ⟩ := lw_walk l b xs p e ha hc hk s m args below hf ((Spec.applies_iff_loose hf).mp happ).1 hP trivial
  exact ⟨k, o, h1, h2, h3, hQ⟩
theorem lw_frame {s t : State} {o : Outcome} {args : Array Value} (h : Framed s o t [] 600000 7290000) :
    Framed s o t (fieldLocs frame_1_writes args s ++ arrayLocs frame_1_arrays args s ++ staticLocs frame_1_statics s) 600000 7290000 := h
theorem lw_limb (L : Cond) (hL : ∀ (args : Array Value) (s t : State), L.after args s (.returned (some (.int 1))) t = true) :
    ArmFor flags0 classFile x code maxLocals ret World_1 tables_1 room_1 Calls_1 rest_1 Pre_1
      (fun tb e a s o t => postC L tb e a s o t ∧ Framed s o t (fieldLocs frame_1_writes a s ++ arrayLocs frame_1_arrays a s ++ staticLocs frame_1_statics s) 600000 7290000) := by
  intro l _ _ _ p e ha hc hk s m args below hf hfit hheap happ hpre
  obtain ⟨k, o, h1, h2, h3, rfl, hF⟩ := lw_comes l p e ha hc hk s m args below hf hfit hheap happ hpre
  exact ⟨k, _, h1, h2, h3, hL args s _, lw_frame hF⟩
theorem i_vc : Claimed_1_1 ∧ Claimed_1_2 := ⟨lw_limb limb_1_1 (fun args s t => by simp [limb_1_1, Cond.after, Cond.holds, Cond.value]), lw_limb limb_1_2 (fun args s t => Cond.after_iff.mpr (by
  first | (rw [show limb_1_2 = Cond.eq .result (.int 1) from rfl, Cond.eq_ints (x := 1) (y := 1) rfl rfl]; simp; done) | (simp [limb_1_2, Cond.value, Term.eval]; done)))⟩
end
