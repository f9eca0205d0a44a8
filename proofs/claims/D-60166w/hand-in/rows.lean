section
-- ===== PART A: goes FIRST, ahead of the names: the tables' words, and 'selects' of the private methods out of them =====
/-- a private method of a class that the tables say can be made, by its rows of tables_1 -/
def lw_okq (q : MethodName × Nat) : Prop := (q.1.cls ≠ "java/lang/invoke/MethodHandle" ∧ q.1.cls ≠ "java/lang/invoke/VarHandle") ∧ Cond.instantiable q.1.cls q.2 ∈ tables_1 ∧ Cond.privateMethod q.1 ∈ tables_1 ∧ Cond.instanceMethod q.1 ∈ tables_1
set_option maxRecDepth 100000
theorem lw_p0 : lw_okq (⟨"DominoDesk", "cell", "(II)V"⟩, 5) := ⟨⟨by decide +kernel, by decide +kernel⟩, List.mem_of_getElem? (i := 4) rfl, List.mem_of_getElem? (i := 48) rfl, List.mem_of_getElem? (i := 49) rfl⟩
theorem lw_p1 : lw_okq (⟨"DominoDesk", "open", "(II)Z"⟩, 5) := ⟨⟨by decide +kernel, by decide +kernel⟩, List.mem_of_getElem? (i := 4) rfl, List.mem_of_getElem? (i := 52) rfl, List.mem_of_getElem? (i := 53) rfl⟩
theorem lw_p2 : lw_okq (⟨"DominoDesk", "sum", "(I)I"⟩, 5) := ⟨⟨by decide +kernel, by decide +kernel⟩, List.mem_of_getElem? (i := 4) rfl, List.mem_of_getElem? (i := 60) rfl, List.mem_of_getElem? (i := 61) rfl⟩
def lw_privs_1 : List (MethodName × Nat) := [(⟨"DominoDesk", "cell", "(II)V"⟩, 5), (⟨"DominoDesk", "open", "(II)Z"⟩, 5), (⟨"DominoDesk", "sum", "(I)I"⟩, 5)]
theorem lw_r1 : ∀ q ∈ lw_privs_1, lw_okq q := List.forall_mem_cons.mpr ⟨lw_p0, List.forall_mem_cons.mpr ⟨lw_p1, List.forall_mem_cons.mpr ⟨lw_p2, fun _ h => absurd h List.not_mem_nil⟩⟩⟩
def lw_privs : List (MethodName × Nat) := lw_privs_1
def lw_tbl : List Cond := k2_sels lw_privs ++ tables_1
theorem lw_privs_ok : ∀ q ∈ lw_privs, lw_okq q := lw_r1
-- ===== ONE list of words for every method: the tables' words that hold all through a run =====
def lw_all : List Cond := lw_tbl.filter goodWord
/-- a word of the tables by its place: claim/WORDS.tsv -/
theorem lw_w {w : Cond} (i : Nat) (h : lw_tbl[i]? = some w) (g : goodWord w = true) : w ∈ lw_all := List.mem_filter.mpr ⟨List.mem_of_getElem? h, g⟩
theorem lw_all_tbl {w : Cond} (h : w ∈ lw_all) : w ∈ lw_tbl := (List.mem_filter.mp h).1
theorem lw_self : GoodIn lw_all lw_all := fun w h => ⟨h, good_of_word (List.mem_filter.mp h).2⟩
/-- a class's field words, by their places -/
theorem lw_in (ws : List Cond) (ps : List Nat) (hp : ws = ps.filterMap (fun i => lw_tbl[i]?)) (hg : ws.all goodWord = true) : ∀ w ∈ ws, w ∈ lw_all := by
  intro w h
  have h1 := List.all_eq_true.mp hg w h
  rw [hp] at h
  obtain ⟨i, -, hi⟩ := List.mem_filterMap.mp h
  exact lw_w i hi h1
/-- the words of a contract for the method y with code b, L locals, answer r -/
abbrev ws_ (y : MethodName) (b : ByteArray) (L : Nat) (r : Option FieldType) : List Cond := Cond.code y b L r :: lw_all
theorem lw_meth {y : MethodName} {b : ByteArray} {L : Nat} {r : Option FieldType} (h : Cond.code y b L r ∈ lw_all) : GoodIn lw_all (ws_ y b L r) := by
  intro w hw
  rcases List.mem_cons.mp hw with e | e
  · rw [e]
    exact lw_self _ h
  · exact lw_self _ e
theorem lw_app {a c : List Cond} (ha : ∀ w ∈ a, w ∈ lw_all) (hc : GoodIn lw_all c) : GoodIn lw_all (a ++ c) := by
  intro w hw
  rcases List.mem_append.mp hw with e | e
  · exact lw_self w (ha w e)
  · exact hc w e
/-- what a call through an object asks: cwV n hts (lw_V ..) -/
theorem lw_V {own : String} {idx : Nat} {C : String} {y : MethodName} {b : ByteArray} {L : Nat} {r : Option FieldType} (h1 : Cond.methodLink own idx y ∈ lw_all) (h2 : Cond.instanceMethod y ∈ lw_all) (h3 : Cond.selects C y y ∈ lw_all) (h4 : Cond.initialized C ∈ lw_all) (h5 : Cond.code y b L r ∈ lw_all) : GoodIn lw_all (wsV own idx C y (ws_ y b L r)) := by
  refine lw_app ?_ (lw_meth h5)
  intro w hw
  simp only [List.mem_cons, List.not_mem_nil, or_false] at hw
  rcases hw with e | e | e | e
  · rw [e]; exact h1
  · rw [e]; exact h2
  · rw [e]; exact h3
  · rw [e]; exact h4
/-- what a static call asks: va_cwS n hts (lw_S ..) -/
theorem lw_S {own : String} {idx : Nat} {y : MethodName} {b : ByteArray} {L : Nat} {r : Option FieldType} (h1 : Cond.methodLink own idx y ∈ lw_all) (h2 : Cond.static y ∈ lw_all) (h3 : Cond.initialized y.cls ∈ lw_all) (h4 : Cond.code y b L r ∈ lw_all) : GoodIn lw_all (va_wsS own idx y (ws_ y b L r)) := by
  refine lw_app ?_ (lw_meth h4)
  intro w hw
  simp only [List.mem_cons, List.not_mem_nil, or_false] at hw
  rcases hw with e | e | e
  · rw [e]; exact h1
  · rw [e]; exact h2
  · rw [e]; exact h3
/-- the words of a contract for a method WITH HANDLERS (hh: its table) -/
abbrev wsW_ (y : MethodName) (b : ByteArray) (L : Nat) (r : Option FieldType) (hh : List (Nat × Nat × Nat × Nat)) : List Cond := Cond.codeWith y b L r hh :: lw_all
theorem lw_methW {y : MethodName} {b : ByteArray} {L : Nat} {r : Option FieldType} {hh : List (Nat × Nat × Nat × Nat)} (h : Cond.codeWith y b L r hh ∈ lw_all) : GoodIn lw_all (wsW_ y b L r hh) := by
  intro w hw
  rcases List.mem_cons.mp hw with e | e
  · rw [e]
    exact lw_self _ h
  · exact lw_self _ e
/-- any list of words by their places (lw_in), good -/
theorem lw_good {ws : List Cond} (h : ∀ w ∈ ws, w ∈ lw_all) : GoodIn lw_all ws := fun w hw => lw_self w (h w hw)
/-- what a call of a method with handlers asks: vx_cwVW n hts (lw_VW ..), vx_cwSW n hts (lw_SW ..) -/
theorem lw_VW {own : String} {idx : Nat} {C : String} {y : MethodName} {b : ByteArray} {L : Nat} {r : Option FieldType} {hh : List (Nat × Nat × Nat × Nat)} (h1 : Cond.methodLink own idx y ∈ lw_all) (h2 : Cond.instanceMethod y ∈ lw_all) (h3 : Cond.selects C y y ∈ lw_all) (h4 : Cond.initialized C ∈ lw_all) (h5 : Cond.codeWith y b L r hh ∈ lw_all) : GoodIn lw_all (wsV own idx C y (wsW_ y b L r hh)) := by
  refine lw_app ?_ (lw_methW h5)
  intro w hw
  simp only [List.mem_cons, List.not_mem_nil, or_false] at hw
  rcases hw with e | e | e | e
  · rw [e]; exact h1
  · rw [e]; exact h2
  · rw [e]; exact h3
  · rw [e]; exact h4
theorem lw_SW {own : String} {idx : Nat} {y : MethodName} {b : ByteArray} {L : Nat} {r : Option FieldType} {hh : List (Nat × Nat × Nat × Nat)} (h1 : Cond.methodLink own idx y ∈ lw_all) (h2 : Cond.static y ∈ lw_all) (h3 : Cond.initialized y.cls ∈ lw_all) (h4 : Cond.codeWith y b L r hh ∈ lw_all) : GoodIn lw_all (va_wsS own idx y (wsW_ y b L r hh)) := by
  refine lw_app ?_ (lw_methW h4)
  intro w hw
  simp only [List.mem_cons, List.not_mem_nil, or_false] at hw
  rcases hw with e | e | e
  · rw [e]; exact h1
  · rw [e]; exact h2
  · rw [e]; exact h3
/-- a word by its place in its run of the tables -/
theorem lw_at {r : List Cond} (hr : ∀ w ∈ r, w ∈ lw_tbl) {w : Cond} (i : Nat) (h : r[i]? = some w) : w ∈ lw_tbl := hr w (List.mem_of_getElem? h)
theorem lw_g {w : Cond} (h : w ∈ lw_tbl) (g : goodWord w = true) : w ∈ lw_all := List.mem_filter.mpr ⟨h, g⟩
theorem lw_ms : ∀ w ∈ k2_sels lw_privs, w ∈ lw_tbl := fun w h => show w ∈ k2_sels lw_privs ++ tables_1 from List.mem_append_left _ h
theorem lw_m0 : ∀ w ∈ tables_1, w ∈ lw_tbl := fun w h => show w ∈ k2_sels lw_privs ++ tables_1 from List.mem_append_right (k2_sels lw_privs) h
theorem qs0 : (Cond.selects "DominoDesk" ⟨"DominoDesk", "cell", "(II)V"⟩ ⟨"DominoDesk", "cell", "(II)V"⟩) ∈ lw_all := lw_g (lw_at lw_ms 0 rfl) rfl
theorem qs1 : (Cond.selects "DominoDesk" ⟨"DominoDesk", "open", "(II)Z"⟩ ⟨"DominoDesk", "open", "(II)Z"⟩) ∈ lw_all := lw_g (lw_at lw_ms 1 rfl) rfl
theorem qs2 : (Cond.selects "DominoDesk" ⟨"DominoDesk", "sum", "(I)I"⟩ ⟨"DominoDesk", "sum", "(I)I"⟩) ∈ lw_all := lw_g (lw_at lw_ms 2 rfl) rfl
end
section
/-! java/lang/Object -/
set_option maxRecDepth 100000
def RJ0 : String := "java/lang/Object"
abbrev cJ0_init : ByteArray := object_method_1_code
def yJ0_init : MethodName := ⟨RJ0, "<init>", "()V"⟩
theorem dJ0_init_0 : decode cJ0_init 0 = .ok (.return_, 1) := by decide +kernel
theorem q12 : (Jvm.Cond.instanceMethod ({ cls := "java/lang/Object", name := "<init>", desc := "()V" } : Jvm.MethodName)) ∈ lw_all := lw_g (lw_at lw_m0 9 rfl) rfl
theorem q13 : (Jvm.Cond.code ({ cls := "java/lang/Object", name := "<init>", desc := "()V" } : Jvm.MethodName) object_method_1_code (1 : Nat) (Option.none : Option Jvm.ClassFile.FieldType)) ∈ lw_all := lw_g (lw_at lw_m0 10 rfl) rfl
theorem q15 : (Jvm.Cond.arrayOver (Jvm.ClassFile.FieldType.array Jvm.ClassFile.FieldType.boolean)) ∈ lw_tbl := lw_at lw_m0 12 rfl
set_option maxRecDepth 100000
theorem q32 : (Jvm.Cond.arrayClass Jvm.ClassFile.FieldType.boolean) ∈ lw_all := lw_g (lw_at lw_m0 29 rfl) rfl
theorem q33 : (Jvm.Cond.arrayClass Jvm.ClassFile.FieldType.long) ∈ lw_all := lw_g (lw_at lw_m0 30 rfl) rfl
theorem q92 : (Jvm.Cond.arrayClass Jvm.ClassFile.FieldType.int) ∈ lw_all := lw_g (lw_at lw_m0 89 rfl) rfl
/-! DominoDesk -/
set_option maxRecDepth 100000
def RX0 : String := "DominoDesk"
def TX0 : u_T := fun k => match k with
  | 0 => ("DominoDesk", "hole", "[[Z", true)
  | 1 => ("DominoDesk", "ways", "[J", false)
  | 2 => ("DominoDesk", "then", "[J", false)
  | 3 => ("DominoDesk", "w", "I", false)
  | _ => ("DominoDesk", "h", "I", false)
def tyX0 : Nat → FieldType := fun k => match k with
  | 0 => .array (.array .boolean)
  | 1 => .array .long
  | 2 => .array .long
  | 3 => .int
  | _ => .int
abbrev wsX00 : List Cond := u_ws RX0 TX0 5
theorem nmX0 : ∀ a, a < 5 → ∀ b, b < 5 → a ≠ b → (TX0 a).2.1 ≠ (TX0 b).2.1 := by decide +kernel
theorem tyX0_ok : ∀ k, k < 5 → parseFieldDescriptor (TX0 k).2.2.1 = some (tyX0 k) := by decide +kernel
abbrev cX0_init : ByteArray := prog_1_method_1_code
def yX0_init : MethodName := ⟨RX0, "<init>", "()V"⟩
theorem dX0_init_0 : decode cX0_init 0 = .ok (.aload_n 0, 1) := by decide +kernel
theorem dX0_init_1 : decode cX0_init 1 = .ok (.invokespecial 1, 3) := by decide +kernel
theorem dX0_init_4 : decode cX0_init 4 = .ok (.aload_n 0, 1) := by decide +kernel
theorem dX0_init_5 : decode cX0_init 5 = .ok (.bipush 6, 2) := by decide +kernel
theorem dX0_init_7 : decode cX0_init 7 = .ok (.bipush 6, 2) := by decide +kernel
theorem dX0_init_9 : decode cX0_init 9 = .ok (.multianewarray 9 2, 4) := by decide +kernel
theorem dX0_init_13 : decode cX0_init 13 = .ok (.putfield 11, 3) := by decide +kernel
theorem dX0_init_16 : decode cX0_init 16 = .ok (.aload_n 0, 1) := by decide +kernel
theorem dX0_init_17 : decode cX0_init 17 = .ok (.bipush 64, 2) := by decide +kernel
theorem dX0_init_19 : decode cX0_init 19 = .ok (.newarray .long, 2) := by decide +kernel
theorem dX0_init_21 : decode cX0_init 21 = .ok (.putfield 14, 3) := by decide +kernel
theorem dX0_init_24 : decode cX0_init 24 = .ok (.aload_n 0, 1) := by decide +kernel
theorem dX0_init_25 : decode cX0_init 25 = .ok (.bipush 64, 2) := by decide +kernel
theorem dX0_init_27 : decode cX0_init 27 = .ok (.newarray .long, 2) := by decide +kernel
theorem dX0_init_29 : decode cX0_init 29 = .ok (.putfield 18, 3) := by decide +kernel
theorem dX0_init_32 : decode cX0_init 32 = .ok (.aload_n 0, 1) := by decide +kernel
theorem dX0_init_33 : decode cX0_init 33 = .ok (.iconst 4, 1) := by decide +kernel
theorem dX0_init_34 : decode cX0_init 34 = .ok (.putfield 21, 3) := by decide +kernel
theorem dX0_init_37 : decode cX0_init 37 = .ok (.aload_n 0, 1) := by decide +kernel
theorem dX0_init_38 : decode cX0_init 38 = .ok (.iconst 4, 1) := by decide +kernel
theorem dX0_init_39 : decode cX0_init 39 = .ok (.putfield 25, 3) := by decide +kernel
theorem dX0_init_42 : decode cX0_init 42 = .ok (.return_, 1) := by decide +kernel
abbrev cX0_board : ByteArray := prog_1_method_3_code
def yX0_board : MethodName := ⟨RX0, "board", "(II)V"⟩
theorem dX0_board_0 : decode cX0_board 0 = .ok (.aload_n 0, 1) := by decide +kernel
theorem dX0_board_1 : decode cX0_board 1 = .ok (.iconst 1, 1) := by decide +kernel
theorem dX0_board_2 : decode cX0_board 2 = .ok (.iload_n 1, 1) := by decide +kernel
theorem dX0_board_3 : decode cX0_board 3 = .ok (.bipush 6, 2) := by decide +kernel
theorem dX0_board_5 : decode cX0_board 5 = .ok (.invokestatic 31, 3) := by decide +kernel
theorem dX0_board_8 : decode cX0_board 8 = .ok (.iadd, 1) := by decide +kernel
theorem dX0_board_9 : decode cX0_board 9 = .ok (.putfield 21, 3) := by decide +kernel
theorem dX0_board_12 : decode cX0_board 12 = .ok (.aload_n 0, 1) := by decide +kernel
theorem dX0_board_13 : decode cX0_board 13 = .ok (.iconst 1, 1) := by decide +kernel
theorem dX0_board_14 : decode cX0_board 14 = .ok (.iload_n 2, 1) := by decide +kernel
theorem dX0_board_15 : decode cX0_board 15 = .ok (.bipush 6, 2) := by decide +kernel
theorem dX0_board_17 : decode cX0_board 17 = .ok (.invokestatic 31, 3) := by decide +kernel
theorem dX0_board_20 : decode cX0_board 20 = .ok (.iadd, 1) := by decide +kernel
theorem dX0_board_21 : decode cX0_board 21 = .ok (.putfield 25, 3) := by decide +kernel
theorem dX0_board_24 : decode cX0_board 24 = .ok (.iconst 0, 1) := by decide +kernel
theorem dX0_board_25 : decode cX0_board 25 = .ok (.istore_n 3, 1) := by decide +kernel
theorem dX0_board_26 : decode cX0_board 26 = .ok (.iload_n 3, 1) := by decide +kernel
theorem dX0_board_27 : decode cX0_board 27 = .ok (.bipush 6, 2) := by decide +kernel
theorem dX0_board_29 : decode cX0_board 29 = .ok (.if_icmp .ge 35, 3) := by decide +kernel
theorem dX0_board_32 : decode cX0_board 32 = .ok (.iconst 0, 1) := by decide +kernel
theorem dX0_board_33 : decode cX0_board 33 = .ok (.istore 4, 2) := by decide +kernel
theorem dX0_board_35 : decode cX0_board 35 = .ok (.iload 4, 2) := by decide +kernel
theorem dX0_board_37 : decode cX0_board 37 = .ok (.bipush 6, 2) := by decide +kernel
theorem dX0_board_39 : decode cX0_board 39 = .ok (.if_icmp .ge 19, 3) := by decide +kernel
theorem dX0_board_42 : decode cX0_board 42 = .ok (.aload_n 0, 1) := by decide +kernel
theorem dX0_board_43 : decode cX0_board 43 = .ok (.getfield 11, 3) := by decide +kernel
theorem dX0_board_46 : decode cX0_board 46 = .ok (.iload_n 3, 1) := by decide +kernel
theorem dX0_board_47 : decode cX0_board 47 = .ok (.aaload, 1) := by decide +kernel
theorem dX0_board_48 : decode cX0_board 48 = .ok (.iload 4, 2) := by decide +kernel
theorem dX0_board_50 : decode cX0_board 50 = .ok (.iconst 0, 1) := by decide +kernel
theorem dX0_board_51 : decode cX0_board 51 = .ok (.bastore, 1) := by decide +kernel
theorem dX0_board_52 : decode cX0_board 52 = .ok (.iinc 4 1, 3) := by decide +kernel
theorem dX0_board_55 : decode cX0_board 55 = .ok (.goto (-20), 3) := by decide +kernel
theorem dX0_board_58 : decode cX0_board 58 = .ok (.iinc 3 1, 3) := by decide +kernel
theorem dX0_board_61 : decode cX0_board 61 = .ok (.goto (-35), 3) := by decide +kernel
theorem dX0_board_64 : decode cX0_board 64 = .ok (.return_, 1) := by decide +kernel
abbrev cX0_below : ByteArray := prog_1_method_2_code
def yX0_below : MethodName := ⟨RX0, "below", "(II)I"⟩
theorem dX0_below_0 : decode cX0_below 0 = .ok (.iload_n 0, 1) := by decide +kernel
theorem dX0_below_1 : decode cX0_below 1 = .ok (.ldc 30, 2) := by decide +kernel
theorem dX0_below_3 : decode cX0_below 3 = .ok (.iand, 1) := by decide +kernel
theorem dX0_below_4 : decode cX0_below 4 = .ok (.iload_n 1, 1) := by decide +kernel
theorem dX0_below_5 : decode cX0_below 5 = .ok (.irem, 1) := by decide +kernel
theorem dX0_below_6 : decode cX0_below 6 = .ok (.ireturn, 1) := by decide +kernel
abbrev cX0_turn : ByteArray := prog_1_method_4_code
def yX0_turn : MethodName := ⟨RX0, "turn", "(II)Z"⟩
theorem dX0_turn_0 : decode cX0_turn 0 = .ok (.iload_n 1, 1) := by decide +kernel
theorem dX0_turn_1 : decode cX0_turn 1 = .ok (.aload_n 0, 1) := by decide +kernel
theorem dX0_turn_2 : decode cX0_turn 2 = .ok (.getfield 21, 3) := by decide +kernel
theorem dX0_turn_5 : decode cX0_turn 5 = .ok (.invokestatic 31, 3) := by decide +kernel
theorem dX0_turn_8 : decode cX0_turn 8 = .ok (.istore_n 3, 1) := by decide +kernel
theorem dX0_turn_9 : decode cX0_turn 9 = .ok (.iload_n 2, 1) := by decide +kernel
theorem dX0_turn_10 : decode cX0_turn 10 = .ok (.aload_n 0, 1) := by decide +kernel
theorem dX0_turn_11 : decode cX0_turn 11 = .ok (.getfield 25, 3) := by decide +kernel
theorem dX0_turn_14 : decode cX0_turn 14 = .ok (.invokestatic 31, 3) := by decide +kernel
theorem dX0_turn_17 : decode cX0_turn 17 = .ok (.istore 4, 2) := by decide +kernel
theorem dX0_turn_19 : decode cX0_turn 19 = .ok (.aload_n 0, 1) := by decide +kernel
theorem dX0_turn_20 : decode cX0_turn 20 = .ok (.getfield 11, 3) := by decide +kernel
theorem dX0_turn_23 : decode cX0_turn 23 = .ok (.iload_n 3, 1) := by decide +kernel
theorem dX0_turn_24 : decode cX0_turn 24 = .ok (.aaload, 1) := by decide +kernel
theorem dX0_turn_25 : decode cX0_turn 25 = .ok (.iload 4, 2) := by decide +kernel
theorem dX0_turn_27 : decode cX0_turn 27 = .ok (.aload_n 0, 1) := by decide +kernel
theorem dX0_turn_28 : decode cX0_turn 28 = .ok (.getfield 11, 3) := by decide +kernel
theorem dX0_turn_31 : decode cX0_turn 31 = .ok (.iload_n 3, 1) := by decide +kernel
theorem dX0_turn_32 : decode cX0_turn 32 = .ok (.aaload, 1) := by decide +kernel
theorem dX0_turn_33 : decode cX0_turn 33 = .ok (.iload 4, 2) := by decide +kernel
theorem dX0_turn_35 : decode cX0_turn 35 = .ok (.baload, 1) := by decide +kernel
theorem dX0_turn_36 : decode cX0_turn 36 = .ok (.ifCond .ne 7, 3) := by decide +kernel
theorem dX0_turn_39 : decode cX0_turn 39 = .ok (.iconst 1, 1) := by decide +kernel
theorem dX0_turn_40 : decode cX0_turn 40 = .ok (.goto 4, 3) := by decide +kernel
theorem dX0_turn_43 : decode cX0_turn 43 = .ok (.iconst 0, 1) := by decide +kernel
theorem dX0_turn_44 : decode cX0_turn 44 = .ok (.bastore, 1) := by decide +kernel
theorem dX0_turn_45 : decode cX0_turn 45 = .ok (.aload_n 0, 1) := by decide +kernel
theorem dX0_turn_46 : decode cX0_turn 46 = .ok (.getfield 11, 3) := by decide +kernel
theorem dX0_turn_49 : decode cX0_turn 49 = .ok (.iload_n 3, 1) := by decide +kernel
theorem dX0_turn_50 : decode cX0_turn 50 = .ok (.aaload, 1) := by decide +kernel
theorem dX0_turn_51 : decode cX0_turn 51 = .ok (.iload 4, 2) := by decide +kernel
theorem dX0_turn_53 : decode cX0_turn 53 = .ok (.baload, 1) := by decide +kernel
theorem dX0_turn_54 : decode cX0_turn 54 = .ok (.ireturn, 1) := by decide +kernel
abbrev cX0_count : ByteArray := prog_1_method_6_code
def yX0_count : MethodName := ⟨RX0, "count", "()J"⟩
theorem dX0_count_0 : decode cX0_count 0 = .ok (.iconst 0, 1) := by decide +kernel
theorem dX0_count_1 : decode cX0_count 1 = .ok (.istore_n 1, 1) := by decide +kernel
theorem dX0_count_2 : decode cX0_count 2 = .ok (.iload_n 1, 1) := by decide +kernel
theorem dX0_count_3 : decode cX0_count 3 = .ok (.aload_n 0, 1) := by decide +kernel
theorem dX0_count_4 : decode cX0_count 4 = .ok (.getfield 14, 3) := by decide +kernel
theorem dX0_count_7 : decode cX0_count 7 = .ok (.arraylength, 1) := by decide +kernel
theorem dX0_count_8 : decode cX0_count 8 = .ok (.if_icmp .ge 24, 3) := by decide +kernel
theorem dX0_count_11 : decode cX0_count 11 = .ok (.aload_n 0, 1) := by decide +kernel
theorem dX0_count_12 : decode cX0_count 12 = .ok (.getfield 14, 3) := by decide +kernel
theorem dX0_count_15 : decode cX0_count 15 = .ok (.iload_n 1, 1) := by decide +kernel
theorem dX0_count_16 : decode cX0_count 16 = .ok (.iload_n 1, 1) := by decide +kernel
theorem dX0_count_17 : decode cX0_count 17 = .ok (.ifCond .ne 7, 3) := by decide +kernel
theorem dX0_count_20 : decode cX0_count 20 = .ok (.lconst 1, 1) := by decide +kernel
theorem dX0_count_21 : decode cX0_count 21 = .ok (.goto 4, 3) := by decide +kernel
theorem dX0_count_24 : decode cX0_count 24 = .ok (.lconst 0, 1) := by decide +kernel
theorem dX0_count_25 : decode cX0_count 25 = .ok (.lastore, 1) := by decide +kernel
theorem dX0_count_26 : decode cX0_count 26 = .ok (.iinc 1 1, 3) := by decide +kernel
theorem dX0_count_29 : decode cX0_count 29 = .ok (.goto (-27), 3) := by decide +kernel
theorem dX0_count_32 : decode cX0_count 32 = .ok (.iconst 0, 1) := by decide +kernel
theorem dX0_count_33 : decode cX0_count 33 = .ok (.istore_n 1, 1) := by decide +kernel
theorem dX0_count_34 : decode cX0_count 34 = .ok (.iload_n 1, 1) := by decide +kernel
theorem dX0_count_35 : decode cX0_count 35 = .ok (.aload_n 0, 1) := by decide +kernel
theorem dX0_count_36 : decode cX0_count 36 = .ok (.getfield 25, 3) := by decide +kernel
theorem dX0_count_39 : decode cX0_count 39 = .ok (.if_icmp .ge 31, 3) := by decide +kernel
theorem dX0_count_42 : decode cX0_count 42 = .ok (.iconst 0, 1) := by decide +kernel
theorem dX0_count_43 : decode cX0_count 43 = .ok (.istore_n 2, 1) := by decide +kernel
theorem dX0_count_44 : decode cX0_count 44 = .ok (.iload_n 2, 1) := by decide +kernel
theorem dX0_count_45 : decode cX0_count 45 = .ok (.aload_n 0, 1) := by decide +kernel
theorem dX0_count_46 : decode cX0_count 46 = .ok (.getfield 21, 3) := by decide +kernel
theorem dX0_count_49 : decode cX0_count 49 = .ok (.if_icmp .ge 15, 3) := by decide +kernel
theorem dX0_count_52 : decode cX0_count 52 = .ok (.aload_n 0, 1) := by decide +kernel
theorem dX0_count_53 : decode cX0_count 53 = .ok (.iload_n 2, 1) := by decide +kernel
theorem dX0_count_54 : decode cX0_count 54 = .ok (.iload_n 1, 1) := by decide +kernel
theorem dX0_count_55 : decode cX0_count 55 = .ok (.invokevirtual 35, 3) := by decide +kernel
theorem dX0_count_58 : decode cX0_count 58 = .ok (.iinc 2 1, 3) := by decide +kernel
theorem dX0_count_61 : decode cX0_count 61 = .ok (.goto (-17), 3) := by decide +kernel
theorem dX0_count_64 : decode cX0_count 64 = .ok (.iinc 1 1, 3) := by decide +kernel
theorem dX0_count_67 : decode cX0_count 67 = .ok (.goto (-33), 3) := by decide +kernel
theorem dX0_count_70 : decode cX0_count 70 = .ok (.aload_n 0, 1) := by decide +kernel
theorem dX0_count_71 : decode cX0_count 71 = .ok (.getfield 14, 3) := by decide +kernel
theorem dX0_count_74 : decode cX0_count 74 = .ok (.iconst 0, 1) := by decide +kernel
theorem dX0_count_75 : decode cX0_count 75 = .ok (.laload, 1) := by decide +kernel
theorem dX0_count_76 : decode cX0_count 76 = .ok (.lreturn, 1) := by decide +kernel
abbrev cX0_cell : ByteArray := prog_1_method_7_code
def yX0_cell : MethodName := ⟨RX0, "cell", "(II)V"⟩
theorem dX0_cell_0 : decode cX0_cell 0 = .ok (.iconst 1, 1) := by decide +kernel
theorem dX0_cell_1 : decode cX0_cell 1 = .ok (.iload_n 1, 1) := by decide +kernel
theorem dX0_cell_2 : decode cX0_cell 2 = .ok (.ishl, 1) := by decide +kernel
theorem dX0_cell_3 : decode cX0_cell 3 = .ok (.istore_n 3, 1) := by decide +kernel
theorem dX0_cell_4 : decode cX0_cell 4 = .ok (.iload_n 3, 1) := by decide +kernel
theorem dX0_cell_5 : decode cX0_cell 5 = .ok (.iconst 1, 1) := by decide +kernel
theorem dX0_cell_6 : decode cX0_cell 6 = .ok (.ishl, 1) := by decide +kernel
theorem dX0_cell_7 : decode cX0_cell 7 = .ok (.istore 4, 2) := by decide +kernel
theorem dX0_cell_9 : decode cX0_cell 9 = .ok (.iconst 0, 1) := by decide +kernel
theorem dX0_cell_10 : decode cX0_cell 10 = .ok (.istore 5, 2) := by decide +kernel
theorem dX0_cell_12 : decode cX0_cell 12 = .ok (.iload 5, 2) := by decide +kernel
theorem dX0_cell_14 : decode cX0_cell 14 = .ok (.aload_n 0, 1) := by decide +kernel
theorem dX0_cell_15 : decode cX0_cell 15 = .ok (.getfield 18, 3) := by decide +kernel
theorem dX0_cell_18 : decode cX0_cell 18 = .ok (.arraylength, 1) := by decide +kernel
theorem dX0_cell_19 : decode cX0_cell 19 = .ok (.if_icmp .ge 17, 3) := by decide +kernel
theorem dX0_cell_22 : decode cX0_cell 22 = .ok (.aload_n 0, 1) := by decide +kernel
theorem dX0_cell_23 : decode cX0_cell 23 = .ok (.getfield 18, 3) := by decide +kernel
theorem dX0_cell_26 : decode cX0_cell 26 = .ok (.iload 5, 2) := by decide +kernel
theorem dX0_cell_28 : decode cX0_cell 28 = .ok (.lconst 0, 1) := by decide +kernel
theorem dX0_cell_29 : decode cX0_cell 29 = .ok (.lastore, 1) := by decide +kernel
theorem dX0_cell_30 : decode cX0_cell 30 = .ok (.iinc 5 1, 3) := by decide +kernel
theorem dX0_cell_33 : decode cX0_cell 33 = .ok (.goto (-21), 3) := by decide +kernel
theorem dX0_cell_36 : decode cX0_cell 36 = .ok (.iconst 0, 1) := by decide +kernel
theorem dX0_cell_37 : decode cX0_cell 37 = .ok (.istore 5, 2) := by decide +kernel
theorem dX0_cell_39 : decode cX0_cell 39 = .ok (.iload 5, 2) := by decide +kernel
theorem dX0_cell_41 : decode cX0_cell 41 = .ok (.iconst 1, 1) := by decide +kernel
theorem dX0_cell_42 : decode cX0_cell 42 = .ok (.aload_n 0, 1) := by decide +kernel
theorem dX0_cell_43 : decode cX0_cell 43 = .ok (.getfield 21, 3) := by decide +kernel
theorem dX0_cell_46 : decode cX0_cell 46 = .ok (.ishl, 1) := by decide +kernel
theorem dX0_cell_47 : decode cX0_cell 47 = .ok (.if_icmp .ge 153, 3) := by decide +kernel
theorem dX0_cell_50 : decode cX0_cell 50 = .ok (.aload_n 0, 1) := by decide +kernel
theorem dX0_cell_51 : decode cX0_cell 51 = .ok (.getfield 14, 3) := by decide +kernel
theorem dX0_cell_54 : decode cX0_cell 54 = .ok (.iload 5, 2) := by decide +kernel
theorem dX0_cell_56 : decode cX0_cell 56 = .ok (.laload, 1) := by decide +kernel
theorem dX0_cell_57 : decode cX0_cell 57 = .ok (.lconst 0, 1) := by decide +kernel
theorem dX0_cell_58 : decode cX0_cell 58 = .ok (.lcmp, 1) := by decide +kernel
theorem dX0_cell_59 : decode cX0_cell 59 = .ok (.ifCond .ne 6, 3) := by decide +kernel
theorem dX0_cell_62 : decode cX0_cell 62 = .ok (.goto 132, 3) := by decide +kernel
theorem dX0_cell_65 : decode cX0_cell 65 = .ok (.iload 5, 2) := by decide +kernel
theorem dX0_cell_67 : decode cX0_cell 67 = .ok (.iload_n 3, 1) := by decide +kernel
theorem dX0_cell_68 : decode cX0_cell 68 = .ok (.iand, 1) := by decide +kernel
theorem dX0_cell_69 : decode cX0_cell 69 = .ok (.ifCond .eq 27, 3) := by decide +kernel
theorem dX0_cell_72 : decode cX0_cell 72 = .ok (.aload_n 0, 1) := by decide +kernel
theorem dX0_cell_73 : decode cX0_cell 73 = .ok (.getfield 18, 3) := by decide +kernel
theorem dX0_cell_76 : decode cX0_cell 76 = .ok (.iload 5, 2) := by decide +kernel
theorem dX0_cell_78 : decode cX0_cell 78 = .ok (.iload_n 3, 1) := by decide +kernel
theorem dX0_cell_79 : decode cX0_cell 79 = .ok (.iconst (-1), 1) := by decide +kernel
theorem dX0_cell_80 : decode cX0_cell 80 = .ok (.ixor, 1) := by decide +kernel
theorem dX0_cell_81 : decode cX0_cell 81 = .ok (.iand, 1) := by decide +kernel
theorem dX0_cell_82 : decode cX0_cell 82 = .ok (.dup2, 1) := by decide +kernel
theorem dX0_cell_83 : decode cX0_cell 83 = .ok (.laload, 1) := by decide +kernel
theorem dX0_cell_84 : decode cX0_cell 84 = .ok (.aload_n 0, 1) := by decide +kernel
theorem dX0_cell_85 : decode cX0_cell 85 = .ok (.getfield 14, 3) := by decide +kernel
theorem dX0_cell_88 : decode cX0_cell 88 = .ok (.iload 5, 2) := by decide +kernel
theorem dX0_cell_90 : decode cX0_cell 90 = .ok (.laload, 1) := by decide +kernel
theorem dX0_cell_91 : decode cX0_cell 91 = .ok (.ladd, 1) := by decide +kernel
theorem dX0_cell_92 : decode cX0_cell 92 = .ok (.lastore, 1) := by decide +kernel
theorem dX0_cell_93 : decode cX0_cell 93 = .ok (.goto 101, 3) := by decide +kernel
theorem dX0_cell_96 : decode cX0_cell 96 = .ok (.aload_n 0, 1) := by decide +kernel
theorem dX0_cell_97 : decode cX0_cell 97 = .ok (.iload_n 1, 1) := by decide +kernel
theorem dX0_cell_98 : decode cX0_cell 98 = .ok (.iload_n 2, 1) := by decide +kernel
theorem dX0_cell_99 : decode cX0_cell 99 = .ok (.invokevirtual 39, 3) := by decide +kernel
theorem dX0_cell_102 : decode cX0_cell 102 = .ok (.ifCond .ne 23, 3) := by decide +kernel
theorem dX0_cell_105 : decode cX0_cell 105 = .ok (.aload_n 0, 1) := by decide +kernel
theorem dX0_cell_106 : decode cX0_cell 106 = .ok (.getfield 18, 3) := by decide +kernel
theorem dX0_cell_109 : decode cX0_cell 109 = .ok (.iload 5, 2) := by decide +kernel
theorem dX0_cell_111 : decode cX0_cell 111 = .ok (.dup2, 1) := by decide +kernel
theorem dX0_cell_112 : decode cX0_cell 112 = .ok (.laload, 1) := by decide +kernel
theorem dX0_cell_113 : decode cX0_cell 113 = .ok (.aload_n 0, 1) := by decide +kernel
theorem dX0_cell_114 : decode cX0_cell 114 = .ok (.getfield 14, 3) := by decide +kernel
theorem dX0_cell_117 : decode cX0_cell 117 = .ok (.iload 5, 2) := by decide +kernel
theorem dX0_cell_119 : decode cX0_cell 119 = .ok (.laload, 1) := by decide +kernel
theorem dX0_cell_120 : decode cX0_cell 120 = .ok (.ladd, 1) := by decide +kernel
theorem dX0_cell_121 : decode cX0_cell 121 = .ok (.lastore, 1) := by decide +kernel
theorem dX0_cell_122 : decode cX0_cell 122 = .ok (.goto 72, 3) := by decide +kernel
theorem dX0_cell_125 : decode cX0_cell 125 = .ok (.aload_n 0, 1) := by decide +kernel
theorem dX0_cell_126 : decode cX0_cell 126 = .ok (.iload_n 1, 1) := by decide +kernel
theorem dX0_cell_127 : decode cX0_cell 127 = .ok (.iload_n 2, 1) := by decide +kernel
theorem dX0_cell_128 : decode cX0_cell 128 = .ok (.iconst 1, 1) := by decide +kernel
theorem dX0_cell_129 : decode cX0_cell 129 = .ok (.iadd, 1) := by decide +kernel
theorem dX0_cell_130 : decode cX0_cell 130 = .ok (.invokevirtual 39, 3) := by decide +kernel
theorem dX0_cell_133 : decode cX0_cell 133 = .ok (.ifCond .eq 22, 3) := by decide +kernel
theorem dX0_cell_136 : decode cX0_cell 136 = .ok (.aload_n 0, 1) := by decide +kernel
theorem dX0_cell_137 : decode cX0_cell 137 = .ok (.getfield 18, 3) := by decide +kernel
theorem dX0_cell_140 : decode cX0_cell 140 = .ok (.iload 5, 2) := by decide +kernel
theorem dX0_cell_142 : decode cX0_cell 142 = .ok (.iload_n 3, 1) := by decide +kernel
theorem dX0_cell_143 : decode cX0_cell 143 = .ok (.ior, 1) := by decide +kernel
theorem dX0_cell_144 : decode cX0_cell 144 = .ok (.dup2, 1) := by decide +kernel
theorem dX0_cell_145 : decode cX0_cell 145 = .ok (.laload, 1) := by decide +kernel
theorem dX0_cell_146 : decode cX0_cell 146 = .ok (.aload_n 0, 1) := by decide +kernel
theorem dX0_cell_147 : decode cX0_cell 147 = .ok (.getfield 14, 3) := by decide +kernel
theorem dX0_cell_150 : decode cX0_cell 150 = .ok (.iload 5, 2) := by decide +kernel
theorem dX0_cell_152 : decode cX0_cell 152 = .ok (.laload, 1) := by decide +kernel
theorem dX0_cell_153 : decode cX0_cell 153 = .ok (.ladd, 1) := by decide +kernel
theorem dX0_cell_154 : decode cX0_cell 154 = .ok (.lastore, 1) := by decide +kernel
theorem dX0_cell_155 : decode cX0_cell 155 = .ok (.aload_n 0, 1) := by decide +kernel
theorem dX0_cell_156 : decode cX0_cell 156 = .ok (.iload_n 1, 1) := by decide +kernel
theorem dX0_cell_157 : decode cX0_cell 157 = .ok (.iconst 1, 1) := by decide +kernel
theorem dX0_cell_158 : decode cX0_cell 158 = .ok (.iadd, 1) := by decide +kernel
theorem dX0_cell_159 : decode cX0_cell 159 = .ok (.iload_n 2, 1) := by decide +kernel
theorem dX0_cell_160 : decode cX0_cell 160 = .ok (.invokevirtual 39, 3) := by decide +kernel
theorem dX0_cell_163 : decode cX0_cell 163 = .ok (.ifCond .eq 31, 3) := by decide +kernel
theorem dX0_cell_166 : decode cX0_cell 166 = .ok (.iload 5, 2) := by decide +kernel
theorem dX0_cell_168 : decode cX0_cell 168 = .ok (.iload 4, 2) := by decide +kernel
theorem dX0_cell_170 : decode cX0_cell 170 = .ok (.iand, 1) := by decide +kernel
theorem dX0_cell_171 : decode cX0_cell 171 = .ok (.ifCond .ne 23, 3) := by decide +kernel
theorem dX0_cell_174 : decode cX0_cell 174 = .ok (.aload_n 0, 1) := by decide +kernel
theorem dX0_cell_175 : decode cX0_cell 175 = .ok (.getfield 18, 3) := by decide +kernel
theorem dX0_cell_178 : decode cX0_cell 178 = .ok (.iload 5, 2) := by decide +kernel
theorem dX0_cell_180 : decode cX0_cell 180 = .ok (.iload 4, 2) := by decide +kernel
theorem dX0_cell_182 : decode cX0_cell 182 = .ok (.ior, 1) := by decide +kernel
theorem dX0_cell_183 : decode cX0_cell 183 = .ok (.dup2, 1) := by decide +kernel
theorem dX0_cell_184 : decode cX0_cell 184 = .ok (.laload, 1) := by decide +kernel
theorem dX0_cell_185 : decode cX0_cell 185 = .ok (.aload_n 0, 1) := by decide +kernel
theorem dX0_cell_186 : decode cX0_cell 186 = .ok (.getfield 14, 3) := by decide +kernel
theorem dX0_cell_189 : decode cX0_cell 189 = .ok (.iload 5, 2) := by decide +kernel
theorem dX0_cell_191 : decode cX0_cell 191 = .ok (.laload, 1) := by decide +kernel
theorem dX0_cell_192 : decode cX0_cell 192 = .ok (.ladd, 1) := by decide +kernel
theorem dX0_cell_193 : decode cX0_cell 193 = .ok (.lastore, 1) := by decide +kernel
theorem dX0_cell_194 : decode cX0_cell 194 = .ok (.iinc 5 1, 3) := by decide +kernel
theorem dX0_cell_197 : decode cX0_cell 197 = .ok (.goto (-158), 3) := by decide +kernel
theorem dX0_cell_200 : decode cX0_cell 200 = .ok (.aload_n 0, 1) := by decide +kernel
theorem dX0_cell_201 : decode cX0_cell 201 = .ok (.getfield 14, 3) := by decide +kernel
theorem dX0_cell_204 : decode cX0_cell 204 = .ok (.astore 5, 2) := by decide +kernel
theorem dX0_cell_206 : decode cX0_cell 206 = .ok (.aload_n 0, 1) := by decide +kernel
theorem dX0_cell_207 : decode cX0_cell 207 = .ok (.aload_n 0, 1) := by decide +kernel
theorem dX0_cell_208 : decode cX0_cell 208 = .ok (.getfield 18, 3) := by decide +kernel
theorem dX0_cell_211 : decode cX0_cell 211 = .ok (.putfield 14, 3) := by decide +kernel
theorem dX0_cell_214 : decode cX0_cell 214 = .ok (.aload_n 0, 1) := by decide +kernel
theorem dX0_cell_215 : decode cX0_cell 215 = .ok (.aload 5, 2) := by decide +kernel
theorem dX0_cell_217 : decode cX0_cell 217 = .ok (.putfield 18, 3) := by decide +kernel
theorem dX0_cell_220 : decode cX0_cell 220 = .ok (.return_, 1) := by decide +kernel
abbrev cX0_open : ByteArray := prog_1_method_5_code
def yX0_open : MethodName := ⟨RX0, "open", "(II)Z"⟩
theorem dX0_open_0 : decode cX0_open 0 = .ok (.iload_n 1, 1) := by decide +kernel
theorem dX0_open_1 : decode cX0_open 1 = .ok (.aload_n 0, 1) := by decide +kernel
theorem dX0_open_2 : decode cX0_open 2 = .ok (.getfield 21, 3) := by decide +kernel
theorem dX0_open_5 : decode cX0_open 5 = .ok (.if_icmp .ge 26, 3) := by decide +kernel
theorem dX0_open_8 : decode cX0_open 8 = .ok (.iload_n 2, 1) := by decide +kernel
theorem dX0_open_9 : decode cX0_open 9 = .ok (.aload_n 0, 1) := by decide +kernel
theorem dX0_open_10 : decode cX0_open 10 = .ok (.getfield 25, 3) := by decide +kernel
theorem dX0_open_13 : decode cX0_open 13 = .ok (.if_icmp .ge 18, 3) := by decide +kernel
theorem dX0_open_16 : decode cX0_open 16 = .ok (.aload_n 0, 1) := by decide +kernel
theorem dX0_open_17 : decode cX0_open 17 = .ok (.getfield 11, 3) := by decide +kernel
theorem dX0_open_20 : decode cX0_open 20 = .ok (.iload_n 1, 1) := by decide +kernel
theorem dX0_open_21 : decode cX0_open 21 = .ok (.aaload, 1) := by decide +kernel
theorem dX0_open_22 : decode cX0_open 22 = .ok (.iload_n 2, 1) := by decide +kernel
theorem dX0_open_23 : decode cX0_open 23 = .ok (.baload, 1) := by decide +kernel
theorem dX0_open_24 : decode cX0_open 24 = .ok (.ifCond .ne 7, 3) := by decide +kernel
theorem dX0_open_27 : decode cX0_open 27 = .ok (.iconst 1, 1) := by decide +kernel
theorem dX0_open_28 : decode cX0_open 28 = .ok (.goto 4, 3) := by decide +kernel
theorem dX0_open_31 : decode cX0_open 31 = .ok (.iconst 0, 1) := by decide +kernel
theorem dX0_open_32 : decode cX0_open 32 = .ok (.ireturn, 1) := by decide +kernel
abbrev cX0_cells : ByteArray := prog_1_method_9_code
def yX0_cells : MethodName := ⟨RX0, "cells", "()I"⟩
theorem dX0_cells_0 : decode cX0_cells 0 = .ok (.aload_n 0, 1) := by decide +kernel
theorem dX0_cells_1 : decode cX0_cells 1 = .ok (.iconst 1, 1) := by decide +kernel
theorem dX0_cells_2 : decode cX0_cells 2 = .ok (.invokevirtual 43, 3) := by decide +kernel
theorem dX0_cells_5 : decode cX0_cells 5 = .ok (.ireturn, 1) := by decide +kernel
abbrev cX0_sum : ByteArray := prog_1_method_8_code
def yX0_sum : MethodName := ⟨RX0, "sum", "(I)I"⟩
theorem dX0_sum_0 : decode cX0_sum 0 = .ok (.iconst 0, 1) := by decide +kernel
theorem dX0_sum_1 : decode cX0_sum 1 = .ok (.istore_n 2, 1) := by decide +kernel
theorem dX0_sum_2 : decode cX0_sum 2 = .ok (.iconst 0, 1) := by decide +kernel
theorem dX0_sum_3 : decode cX0_sum 3 = .ok (.istore_n 3, 1) := by decide +kernel
theorem dX0_sum_4 : decode cX0_sum 4 = .ok (.iload_n 3, 1) := by decide +kernel
theorem dX0_sum_5 : decode cX0_sum 5 = .ok (.aload_n 0, 1) := by decide +kernel
theorem dX0_sum_6 : decode cX0_sum 6 = .ok (.getfield 21, 3) := by decide +kernel
theorem dX0_sum_9 : decode cX0_sum 9 = .ok (.if_icmp .ge 54, 3) := by decide +kernel
theorem dX0_sum_12 : decode cX0_sum 12 = .ok (.iconst 0, 1) := by decide +kernel
theorem dX0_sum_13 : decode cX0_sum 13 = .ok (.istore 4, 2) := by decide +kernel
theorem dX0_sum_15 : decode cX0_sum 15 = .ok (.iload 4, 2) := by decide +kernel
theorem dX0_sum_17 : decode cX0_sum 17 = .ok (.aload_n 0, 1) := by decide +kernel
theorem dX0_sum_18 : decode cX0_sum 18 = .ok (.getfield 25, 3) := by decide +kernel
theorem dX0_sum_21 : decode cX0_sum 21 = .ok (.if_icmp .ge 36, 3) := by decide +kernel
theorem dX0_sum_24 : decode cX0_sum 24 = .ok (.aload_n 0, 1) := by decide +kernel
theorem dX0_sum_25 : decode cX0_sum 25 = .ok (.iload_n 3, 1) := by decide +kernel
theorem dX0_sum_26 : decode cX0_sum 26 = .ok (.iload 4, 2) := by decide +kernel
theorem dX0_sum_28 : decode cX0_sum 28 = .ok (.invokevirtual 39, 3) := by decide +kernel
theorem dX0_sum_31 : decode cX0_sum 31 = .ok (.ifCond .eq 20, 3) := by decide +kernel
theorem dX0_sum_34 : decode cX0_sum 34 = .ok (.iload_n 2, 1) := by decide +kernel
theorem dX0_sum_35 : decode cX0_sum 35 = .ok (.iload_n 3, 1) := by decide +kernel
theorem dX0_sum_36 : decode cX0_sum 36 = .ok (.iload 4, 2) := by decide +kernel
theorem dX0_sum_38 : decode cX0_sum 38 = .ok (.iadd, 1) := by decide +kernel
theorem dX0_sum_39 : decode cX0_sum 39 = .ok (.iconst 2, 1) := by decide +kernel
theorem dX0_sum_40 : decode cX0_sum 40 = .ok (.irem, 1) := by decide +kernel
theorem dX0_sum_41 : decode cX0_sum 41 = .ok (.ifCond .ne 7, 3) := by decide +kernel
theorem dX0_sum_44 : decode cX0_sum 44 = .ok (.iconst 1, 1) := by decide +kernel
theorem dX0_sum_45 : decode cX0_sum 45 = .ok (.goto 4, 3) := by decide +kernel
theorem dX0_sum_48 : decode cX0_sum 48 = .ok (.iload_n 1, 1) := by decide +kernel
theorem dX0_sum_49 : decode cX0_sum 49 = .ok (.iadd, 1) := by decide +kernel
theorem dX0_sum_50 : decode cX0_sum 50 = .ok (.istore_n 2, 1) := by decide +kernel
theorem dX0_sum_51 : decode cX0_sum 51 = .ok (.iinc 4 1, 3) := by decide +kernel
theorem dX0_sum_54 : decode cX0_sum 54 = .ok (.goto (-39), 3) := by decide +kernel
theorem dX0_sum_57 : decode cX0_sum 57 = .ok (.iinc 3 1, 3) := by decide +kernel
theorem dX0_sum_60 : decode cX0_sum 60 = .ok (.goto (-56), 3) := by decide +kernel
theorem dX0_sum_63 : decode cX0_sum 63 = .ok (.iload_n 2, 1) := by decide +kernel
theorem dX0_sum_64 : decode cX0_sum 64 = .ok (.ireturn, 1) := by decide +kernel
abbrev cX0_surplus : ByteArray := prog_1_method_10_code
def yX0_surplus : MethodName := ⟨RX0, "surplus", "()I"⟩
theorem dX0_surplus_0 : decode cX0_surplus 0 = .ok (.aload_n 0, 1) := by decide +kernel
theorem dX0_surplus_1 : decode cX0_surplus 1 = .ok (.iconst (-1), 1) := by decide +kernel
theorem dX0_surplus_2 : decode cX0_surplus 2 = .ok (.invokevirtual 43, 3) := by decide +kernel
theorem dX0_surplus_5 : decode cX0_surplus 5 = .ok (.ireturn, 1) := by decide +kernel
theorem q4 : (Jvm.Cond.initialized "DominoDesk") ∈ lw_all := lw_g (lw_at lw_m0 1 rfl) rfl
theorem q7 : (Jvm.Cond.instantiable "DominoDesk" (5 : Nat)) ∈ lw_all := lw_g (lw_at lw_m0 4 rfl) rfl
theorem q9 : (Jvm.Cond.instanceMethod ({ cls := "DominoDesk", name := "<init>", desc := "()V" } : Jvm.MethodName)) ∈ lw_all := lw_g (lw_at lw_m0 6 rfl) rfl
theorem q10 : (Jvm.Cond.code ({ cls := "DominoDesk", name := "<init>", desc := "()V" } : Jvm.MethodName) prog_1_method_1_code (1 : Nat) (Option.none : Option Jvm.ClassFile.FieldType)) ∈ lw_all := lw_g (lw_at lw_m0 7 rfl) rfl
theorem q11 : (Jvm.Cond.methodLink "DominoDesk" (1 : Nat) ({ cls := "java/lang/Object", name := "<init>", desc := "()V" } : Jvm.MethodName)) ∈ lw_all := lw_g (lw_at lw_m0 8 rfl) rfl
theorem q14 : (Jvm.Cond.classLink "DominoDesk" (9 : Nat) "[[Z") ∈ lw_all := lw_g (lw_at lw_m0 11 rfl) rfl
theorem q16 : (Jvm.Cond.fieldLink "DominoDesk" (11 : Nat) "DominoDesk" "hole" "[[Z") ∈ lw_all := lw_g (lw_at lw_m0 13 rfl) rfl
theorem q17 : (Jvm.Cond.fieldLink "DominoDesk" (14 : Nat) "DominoDesk" "ways" "[J") ∈ lw_all := lw_g (lw_at lw_m0 14 rfl) rfl
theorem q18 : (Jvm.Cond.fieldLink "DominoDesk" (18 : Nat) "DominoDesk" "then" "[J") ∈ lw_all := lw_g (lw_at lw_m0 15 rfl) rfl
theorem q19 : (Jvm.Cond.fieldLink "DominoDesk" (21 : Nat) "DominoDesk" "w" "I") ∈ lw_all := lw_g (lw_at lw_m0 16 rfl) rfl
theorem q20 : (Jvm.Cond.fieldLink "DominoDesk" (25 : Nat) "DominoDesk" "h" "I") ∈ lw_all := lw_g (lw_at lw_m0 17 rfl) rfl
theorem q21 : (Jvm.Cond.laysFinal "DominoDesk" "DominoDesk" "hole" "[[Z") ∈ lw_all := lw_g (lw_at lw_m0 18 rfl) rfl
theorem q22 : (Jvm.Cond.soleField "DominoDesk" "hole") ∈ lw_all := lw_g (lw_at lw_m0 19 rfl) rfl
theorem q23 : (Jvm.Cond.lays "DominoDesk" "DominoDesk" "ways" "[J") ∈ lw_all := lw_g (lw_at lw_m0 20 rfl) rfl
theorem q24 : (Jvm.Cond.soleField "DominoDesk" "ways") ∈ lw_all := lw_g (lw_at lw_m0 21 rfl) rfl
theorem q25 : (Jvm.Cond.lays "DominoDesk" "DominoDesk" "then" "[J") ∈ lw_all := lw_g (lw_at lw_m0 22 rfl) rfl
theorem q26 : (Jvm.Cond.soleField "DominoDesk" "then") ∈ lw_all := lw_g (lw_at lw_m0 23 rfl) rfl
theorem q27 : (Jvm.Cond.lays "DominoDesk" "DominoDesk" "w" "I") ∈ lw_all := lw_g (lw_at lw_m0 24 rfl) rfl
theorem q28 : (Jvm.Cond.soleField "DominoDesk" "w") ∈ lw_all := lw_g (lw_at lw_m0 25 rfl) rfl
theorem q29 : (Jvm.Cond.lays "DominoDesk" "DominoDesk" "h" "I") ∈ lw_all := lw_g (lw_at lw_m0 26 rfl) rfl
theorem q30 : (Jvm.Cond.soleField "DominoDesk" "h") ∈ lw_all := lw_g (lw_at lw_m0 27 rfl) rfl
theorem q31 : (Jvm.Cond.superclass "DominoDesk" "java/lang/Object") ∈ lw_all := lw_g (lw_at lw_m0 28 rfl) rfl
theorem q35 : (Jvm.Cond.instanceMethod ({ cls := "DominoDesk", name := "board", desc := "(II)V" } : Jvm.MethodName)) ∈ lw_all := lw_g (lw_at lw_m0 32 rfl) rfl
theorem q36 : (Jvm.Cond.selects "DominoDesk" ({ cls := "DominoDesk", name := "board", desc := "(II)V" } : Jvm.MethodName) ({ cls := "DominoDesk", name := "board", desc := "(II)V" } : Jvm.MethodName)) ∈ lw_all := lw_g (lw_at lw_m0 33 rfl) rfl
theorem q37 : (Jvm.Cond.code ({ cls := "DominoDesk", name := "board", desc := "(II)V" } : Jvm.MethodName) prog_1_method_3_code (5 : Nat) (Option.none : Option Jvm.ClassFile.FieldType)) ∈ lw_all := lw_g (lw_at lw_m0 34 rfl) rfl
theorem q38 : (Jvm.Cond.methodLink "DominoDesk" (31 : Nat) ({ cls := "DominoDesk", name := "below", desc := "(II)I" } : Jvm.MethodName)) ∈ lw_all := lw_g (lw_at lw_m0 35 rfl) rfl
theorem q39 : (Jvm.Cond.static ({ cls := "DominoDesk", name := "below", desc := "(II)I" } : Jvm.MethodName)) ∈ lw_all := lw_g (lw_at lw_m0 36 rfl) rfl
theorem q40 : (Jvm.Cond.code ({ cls := "DominoDesk", name := "below", desc := "(II)I" } : Jvm.MethodName) prog_1_method_2_code (2 : Nat) (Option.some Jvm.ClassFile.FieldType.int)) ∈ lw_all := lw_g (lw_at lw_m0 37 rfl) rfl
theorem q41 : (Jvm.Cond.constant "DominoDesk" (30 : Nat) (2147483647 : Int32)) ∈ lw_all := lw_g (lw_at lw_m0 38 rfl) rfl
theorem q43 : (Jvm.Cond.instanceMethod ({ cls := "DominoDesk", name := "turn", desc := "(II)Z" } : Jvm.MethodName)) ∈ lw_all := lw_g (lw_at lw_m0 40 rfl) rfl
theorem q44 : (Jvm.Cond.selects "DominoDesk" ({ cls := "DominoDesk", name := "turn", desc := "(II)Z" } : Jvm.MethodName) ({ cls := "DominoDesk", name := "turn", desc := "(II)Z" } : Jvm.MethodName)) ∈ lw_all := lw_g (lw_at lw_m0 41 rfl) rfl
theorem q45 : (Jvm.Cond.code ({ cls := "DominoDesk", name := "turn", desc := "(II)Z" } : Jvm.MethodName) prog_1_method_4_code (5 : Nat) (Option.some Jvm.ClassFile.FieldType.boolean)) ∈ lw_all := lw_g (lw_at lw_m0 42 rfl) rfl
theorem q47 : (Jvm.Cond.instanceMethod ({ cls := "DominoDesk", name := "count", desc := "()J" } : Jvm.MethodName)) ∈ lw_all := lw_g (lw_at lw_m0 44 rfl) rfl
theorem q48 : (Jvm.Cond.selects "DominoDesk" ({ cls := "DominoDesk", name := "count", desc := "()J" } : Jvm.MethodName) ({ cls := "DominoDesk", name := "count", desc := "()J" } : Jvm.MethodName)) ∈ lw_all := lw_g (lw_at lw_m0 45 rfl) rfl
theorem q49 : (Jvm.Cond.code ({ cls := "DominoDesk", name := "count", desc := "()J" } : Jvm.MethodName) prog_1_method_6_code (3 : Nat) (Option.some Jvm.ClassFile.FieldType.long)) ∈ lw_all := lw_g (lw_at lw_m0 46 rfl) rfl
theorem q50 : (Jvm.Cond.methodLink "DominoDesk" (35 : Nat) ({ cls := "DominoDesk", name := "cell", desc := "(II)V" } : Jvm.MethodName)) ∈ lw_all := lw_g (lw_at lw_m0 47 rfl) rfl
theorem q51 : (Jvm.Cond.privateMethod ({ cls := "DominoDesk", name := "cell", desc := "(II)V" } : Jvm.MethodName)) ∈ lw_tbl := lw_at lw_m0 48 rfl
theorem q52 : (Jvm.Cond.instanceMethod ({ cls := "DominoDesk", name := "cell", desc := "(II)V" } : Jvm.MethodName)) ∈ lw_all := lw_g (lw_at lw_m0 49 rfl) rfl
theorem q53 : (Jvm.Cond.code ({ cls := "DominoDesk", name := "cell", desc := "(II)V" } : Jvm.MethodName) prog_1_method_7_code (6 : Nat) (Option.none : Option Jvm.ClassFile.FieldType)) ∈ lw_all := lw_g (lw_at lw_m0 50 rfl) rfl
theorem q54 : (Jvm.Cond.methodLink "DominoDesk" (39 : Nat) ({ cls := "DominoDesk", name := "open", desc := "(II)Z" } : Jvm.MethodName)) ∈ lw_all := lw_g (lw_at lw_m0 51 rfl) rfl
theorem q55 : (Jvm.Cond.privateMethod ({ cls := "DominoDesk", name := "open", desc := "(II)Z" } : Jvm.MethodName)) ∈ lw_tbl := lw_at lw_m0 52 rfl
theorem q56 : (Jvm.Cond.instanceMethod ({ cls := "DominoDesk", name := "open", desc := "(II)Z" } : Jvm.MethodName)) ∈ lw_all := lw_g (lw_at lw_m0 53 rfl) rfl
theorem q57 : (Jvm.Cond.code ({ cls := "DominoDesk", name := "open", desc := "(II)Z" } : Jvm.MethodName) prog_1_method_5_code (3 : Nat) (Option.some Jvm.ClassFile.FieldType.boolean)) ∈ lw_all := lw_g (lw_at lw_m0 54 rfl) rfl
theorem q59 : (Jvm.Cond.instanceMethod ({ cls := "DominoDesk", name := "cells", desc := "()I" } : Jvm.MethodName)) ∈ lw_all := lw_g (lw_at lw_m0 56 rfl) rfl
theorem q60 : (Jvm.Cond.selects "DominoDesk" ({ cls := "DominoDesk", name := "cells", desc := "()I" } : Jvm.MethodName) ({ cls := "DominoDesk", name := "cells", desc := "()I" } : Jvm.MethodName)) ∈ lw_all := lw_g (lw_at lw_m0 57 rfl) rfl
theorem q61 : (Jvm.Cond.code ({ cls := "DominoDesk", name := "cells", desc := "()I" } : Jvm.MethodName) prog_1_method_9_code (1 : Nat) (Option.some Jvm.ClassFile.FieldType.int)) ∈ lw_all := lw_g (lw_at lw_m0 58 rfl) rfl
theorem q62 : (Jvm.Cond.methodLink "DominoDesk" (43 : Nat) ({ cls := "DominoDesk", name := "sum", desc := "(I)I" } : Jvm.MethodName)) ∈ lw_all := lw_g (lw_at lw_m0 59 rfl) rfl
theorem q63 : (Jvm.Cond.privateMethod ({ cls := "DominoDesk", name := "sum", desc := "(I)I" } : Jvm.MethodName)) ∈ lw_tbl := lw_at lw_m0 60 rfl
theorem q64 : (Jvm.Cond.instanceMethod ({ cls := "DominoDesk", name := "sum", desc := "(I)I" } : Jvm.MethodName)) ∈ lw_all := lw_g (lw_at lw_m0 61 rfl) rfl
theorem q65 : (Jvm.Cond.code ({ cls := "DominoDesk", name := "sum", desc := "(I)I" } : Jvm.MethodName) prog_1_method_8_code (5 : Nat) (Option.some Jvm.ClassFile.FieldType.int)) ∈ lw_all := lw_g (lw_at lw_m0 62 rfl) rfl
theorem q67 : (Jvm.Cond.instanceMethod ({ cls := "DominoDesk", name := "surplus", desc := "()I" } : Jvm.MethodName)) ∈ lw_all := lw_g (lw_at lw_m0 64 rfl) rfl
theorem q68 : (Jvm.Cond.selects "DominoDesk" ({ cls := "DominoDesk", name := "surplus", desc := "()I" } : Jvm.MethodName) ({ cls := "DominoDesk", name := "surplus", desc := "()I" } : Jvm.MethodName)) ∈ lw_all := lw_g (lw_at lw_m0 65 rfl) rfl
theorem q69 : (Jvm.Cond.code ({ cls := "DominoDesk", name := "surplus", desc := "()I" } : Jvm.MethodName) prog_1_method_10_code (1 : Nat) (Option.some Jvm.ClassFile.FieldType.int)) ∈ lw_all := lw_g (lw_at lw_m0 66 rfl) rfl
theorem in_X0 : ∀ w ∈ wsX00, w ∈ lw_all := lw_in wsX00 [21, 23, 25, 27, 29] (by decide +kernel) (by decide +kernel)
end
section
/-! DominoDeskModel -/
set_option maxRecDepth 100000
def RX1 : String := "DominoDeskModel"
def TX1 : u_T := fun k => match k with
  | 0 => ("DominoDeskModel", "hole", "[I", true)
  | 1 => ("DominoDeskModel", "w", "I", false)
  | 2 => ("DominoDeskModel", "h", "I", false)
  | 3 => ("DominoDeskModel", "ways", "[J", true)
  | _ => ("DominoDeskModel", "next", "[J", true)
def tyX1 : Nat → FieldType := fun k => match k with
  | 0 => .array .int
  | 1 => .int
  | 2 => .int
  | 3 => .array .long
  | _ => .array .long
abbrev wsX10 : List Cond := u_ws RX1 TX1 5
theorem nmX1 : ∀ a, a < 5 → ∀ b, b < 5 → a ≠ b → (TX1 a).2.1 ≠ (TX1 b).2.1 := by decide +kernel
theorem tyX1_ok : ∀ k, k < 5 → parseFieldDescriptor (TX1 k).2.2.1 = some (tyX1 k) := by decide +kernel
abbrev cX1_init : ByteArray := prog_3_method_1_code
def yX1_init : MethodName := ⟨RX1, "<init>", "()V"⟩
theorem dX1_init_0 : decode cX1_init 0 = .ok (.aload_n 0, 1) := by decide +kernel
theorem dX1_init_1 : decode cX1_init 1 = .ok (.invokespecial 1, 3) := by decide +kernel
theorem dX1_init_4 : decode cX1_init 4 = .ok (.aload_n 0, 1) := by decide +kernel
theorem dX1_init_5 : decode cX1_init 5 = .ok (.bipush 6, 2) := by decide +kernel
theorem dX1_init_7 : decode cX1_init 7 = .ok (.newarray .int, 2) := by decide +kernel
theorem dX1_init_9 : decode cX1_init 9 = .ok (.putfield 7, 3) := by decide +kernel
theorem dX1_init_12 : decode cX1_init 12 = .ok (.aload_n 0, 1) := by decide +kernel
theorem dX1_init_13 : decode cX1_init 13 = .ok (.iconst 4, 1) := by decide +kernel
theorem dX1_init_14 : decode cX1_init 14 = .ok (.putfield 13, 3) := by decide +kernel
theorem dX1_init_17 : decode cX1_init 17 = .ok (.aload_n 0, 1) := by decide +kernel
theorem dX1_init_18 : decode cX1_init 18 = .ok (.iconst 4, 1) := by decide +kernel
theorem dX1_init_19 : decode cX1_init 19 = .ok (.putfield 17, 3) := by decide +kernel
theorem dX1_init_22 : decode cX1_init 22 = .ok (.aload_n 0, 1) := by decide +kernel
theorem dX1_init_23 : decode cX1_init 23 = .ok (.bipush 64, 2) := by decide +kernel
theorem dX1_init_25 : decode cX1_init 25 = .ok (.newarray .long, 2) := by decide +kernel
theorem dX1_init_27 : decode cX1_init 27 = .ok (.putfield 20, 3) := by decide +kernel
theorem dX1_init_30 : decode cX1_init 30 = .ok (.aload_n 0, 1) := by decide +kernel
theorem dX1_init_31 : decode cX1_init 31 = .ok (.bipush 64, 2) := by decide +kernel
theorem dX1_init_33 : decode cX1_init 33 = .ok (.newarray .long, 2) := by decide +kernel
theorem dX1_init_35 : decode cX1_init 35 = .ok (.putfield 24, 3) := by decide +kernel
theorem dX1_init_38 : decode cX1_init 38 = .ok (.return_, 1) := by decide +kernel
abbrev cX1_board : ByteArray := prog_3_method_2_code
def yX1_board : MethodName := ⟨RX1, "board", "(II)V"⟩
theorem dX1_board_0 : decode cX1_board 0 = .ok (.aload_n 0, 1) := by decide +kernel
theorem dX1_board_1 : decode cX1_board 1 = .ok (.iconst 1, 1) := by decide +kernel
theorem dX1_board_2 : decode cX1_board 2 = .ok (.iload_n 1, 1) := by decide +kernel
theorem dX1_board_3 : decode cX1_board 3 = .ok (.ldc 27, 2) := by decide +kernel
theorem dX1_board_5 : decode cX1_board 5 = .ok (.iand, 1) := by decide +kernel
theorem dX1_board_6 : decode cX1_board 6 = .ok (.bipush 6, 2) := by decide +kernel
theorem dX1_board_8 : decode cX1_board 8 = .ok (.irem, 1) := by decide +kernel
theorem dX1_board_9 : decode cX1_board 9 = .ok (.iadd, 1) := by decide +kernel
theorem dX1_board_10 : decode cX1_board 10 = .ok (.putfield 13, 3) := by decide +kernel
theorem dX1_board_13 : decode cX1_board 13 = .ok (.aload_n 0, 1) := by decide +kernel
theorem dX1_board_14 : decode cX1_board 14 = .ok (.iconst 1, 1) := by decide +kernel
theorem dX1_board_15 : decode cX1_board 15 = .ok (.iload_n 2, 1) := by decide +kernel
theorem dX1_board_16 : decode cX1_board 16 = .ok (.ldc 27, 2) := by decide +kernel
theorem dX1_board_18 : decode cX1_board 18 = .ok (.iand, 1) := by decide +kernel
theorem dX1_board_19 : decode cX1_board 19 = .ok (.bipush 6, 2) := by decide +kernel
theorem dX1_board_21 : decode cX1_board 21 = .ok (.irem, 1) := by decide +kernel
theorem dX1_board_22 : decode cX1_board 22 = .ok (.iadd, 1) := by decide +kernel
theorem dX1_board_23 : decode cX1_board 23 = .ok (.putfield 17, 3) := by decide +kernel
theorem dX1_board_26 : decode cX1_board 26 = .ok (.iconst 0, 1) := by decide +kernel
theorem dX1_board_27 : decode cX1_board 27 = .ok (.istore_n 3, 1) := by decide +kernel
theorem dX1_board_28 : decode cX1_board 28 = .ok (.iload_n 3, 1) := by decide +kernel
theorem dX1_board_29 : decode cX1_board 29 = .ok (.bipush 6, 2) := by decide +kernel
theorem dX1_board_31 : decode cX1_board 31 = .ok (.if_icmp .ge 16, 3) := by decide +kernel
theorem dX1_board_34 : decode cX1_board 34 = .ok (.aload_n 0, 1) := by decide +kernel
theorem dX1_board_35 : decode cX1_board 35 = .ok (.getfield 7, 3) := by decide +kernel
theorem dX1_board_38 : decode cX1_board 38 = .ok (.iload_n 3, 1) := by decide +kernel
theorem dX1_board_39 : decode cX1_board 39 = .ok (.iconst 0, 1) := by decide +kernel
theorem dX1_board_40 : decode cX1_board 40 = .ok (.iastore, 1) := by decide +kernel
theorem dX1_board_41 : decode cX1_board 41 = .ok (.iinc 3 1, 3) := by decide +kernel
theorem dX1_board_44 : decode cX1_board 44 = .ok (.goto (-16), 3) := by decide +kernel
theorem dX1_board_47 : decode cX1_board 47 = .ok (.return_, 1) := by decide +kernel
abbrev cX1_turn : ByteArray := prog_3_method_3_code
def yX1_turn : MethodName := ⟨RX1, "turn", "(II)Z"⟩
theorem dX1_turn_0 : decode cX1_turn 0 = .ok (.iload_n 1, 1) := by decide +kernel
theorem dX1_turn_1 : decode cX1_turn 1 = .ok (.ldc 27, 2) := by decide +kernel
theorem dX1_turn_3 : decode cX1_turn 3 = .ok (.iand, 1) := by decide +kernel
theorem dX1_turn_4 : decode cX1_turn 4 = .ok (.aload_n 0, 1) := by decide +kernel
theorem dX1_turn_5 : decode cX1_turn 5 = .ok (.getfield 13, 3) := by decide +kernel
theorem dX1_turn_8 : decode cX1_turn 8 = .ok (.irem, 1) := by decide +kernel
theorem dX1_turn_9 : decode cX1_turn 9 = .ok (.istore_n 3, 1) := by decide +kernel
theorem dX1_turn_10 : decode cX1_turn 10 = .ok (.iload_n 2, 1) := by decide +kernel
theorem dX1_turn_11 : decode cX1_turn 11 = .ok (.ldc 27, 2) := by decide +kernel
theorem dX1_turn_13 : decode cX1_turn 13 = .ok (.iand, 1) := by decide +kernel
theorem dX1_turn_14 : decode cX1_turn 14 = .ok (.aload_n 0, 1) := by decide +kernel
theorem dX1_turn_15 : decode cX1_turn 15 = .ok (.getfield 17, 3) := by decide +kernel
theorem dX1_turn_18 : decode cX1_turn 18 = .ok (.irem, 1) := by decide +kernel
theorem dX1_turn_19 : decode cX1_turn 19 = .ok (.istore 4, 2) := by decide +kernel
theorem dX1_turn_21 : decode cX1_turn 21 = .ok (.aload_n 0, 1) := by decide +kernel
theorem dX1_turn_22 : decode cX1_turn 22 = .ok (.getfield 7, 3) := by decide +kernel
theorem dX1_turn_25 : decode cX1_turn 25 = .ok (.iload 4, 2) := by decide +kernel
theorem dX1_turn_27 : decode cX1_turn 27 = .ok (.aload_n 0, 1) := by decide +kernel
theorem dX1_turn_28 : decode cX1_turn 28 = .ok (.getfield 7, 3) := by decide +kernel
theorem dX1_turn_31 : decode cX1_turn 31 = .ok (.iload 4, 2) := by decide +kernel
theorem dX1_turn_33 : decode cX1_turn 33 = .ok (.iaload, 1) := by decide +kernel
theorem dX1_turn_34 : decode cX1_turn 34 = .ok (.iconst 1, 1) := by decide +kernel
theorem dX1_turn_35 : decode cX1_turn 35 = .ok (.iload_n 3, 1) := by decide +kernel
theorem dX1_turn_36 : decode cX1_turn 36 = .ok (.ishl, 1) := by decide +kernel
theorem dX1_turn_37 : decode cX1_turn 37 = .ok (.ixor, 1) := by decide +kernel
theorem dX1_turn_38 : decode cX1_turn 38 = .ok (.iastore, 1) := by decide +kernel
theorem dX1_turn_39 : decode cX1_turn 39 = .ok (.aload_n 0, 1) := by decide +kernel
theorem dX1_turn_40 : decode cX1_turn 40 = .ok (.getfield 7, 3) := by decide +kernel
theorem dX1_turn_43 : decode cX1_turn 43 = .ok (.iload 4, 2) := by decide +kernel
theorem dX1_turn_45 : decode cX1_turn 45 = .ok (.iaload, 1) := by decide +kernel
theorem dX1_turn_46 : decode cX1_turn 46 = .ok (.iload_n 3, 1) := by decide +kernel
theorem dX1_turn_47 : decode cX1_turn 47 = .ok (.ishr, 1) := by decide +kernel
theorem dX1_turn_48 : decode cX1_turn 48 = .ok (.iconst 1, 1) := by decide +kernel
theorem dX1_turn_49 : decode cX1_turn 49 = .ok (.iand, 1) := by decide +kernel
theorem dX1_turn_50 : decode cX1_turn 50 = .ok (.ifCond .eq 7, 3) := by decide +kernel
theorem dX1_turn_53 : decode cX1_turn 53 = .ok (.iconst 1, 1) := by decide +kernel
theorem dX1_turn_54 : decode cX1_turn 54 = .ok (.goto 4, 3) := by decide +kernel
theorem dX1_turn_57 : decode cX1_turn 57 = .ok (.iconst 0, 1) := by decide +kernel
theorem dX1_turn_58 : decode cX1_turn 58 = .ok (.ireturn, 1) := by decide +kernel
abbrev cX1_count : ByteArray := prog_3_method_4_code
def yX1_count : MethodName := ⟨RX1, "count", "()J"⟩
theorem dX1_count_0 : decode cX1_count 0 = .ok (.iconst 0, 1) := by decide +kernel
theorem dX1_count_1 : decode cX1_count 1 = .ok (.istore_n 1, 1) := by decide +kernel
theorem dX1_count_2 : decode cX1_count 2 = .ok (.iload_n 1, 1) := by decide +kernel
theorem dX1_count_3 : decode cX1_count 3 = .ok (.bipush 64, 2) := by decide +kernel
theorem dX1_count_5 : decode cX1_count 5 = .ok (.if_icmp .ge 24, 3) := by decide +kernel
theorem dX1_count_8 : decode cX1_count 8 = .ok (.aload_n 0, 1) := by decide +kernel
theorem dX1_count_9 : decode cX1_count 9 = .ok (.getfield 20, 3) := by decide +kernel
theorem dX1_count_12 : decode cX1_count 12 = .ok (.iload_n 1, 1) := by decide +kernel
theorem dX1_count_13 : decode cX1_count 13 = .ok (.iload_n 1, 1) := by decide +kernel
theorem dX1_count_14 : decode cX1_count 14 = .ok (.ifCond .ne 7, 3) := by decide +kernel
theorem dX1_count_17 : decode cX1_count 17 = .ok (.lconst 1, 1) := by decide +kernel
theorem dX1_count_18 : decode cX1_count 18 = .ok (.goto 4, 3) := by decide +kernel
theorem dX1_count_21 : decode cX1_count 21 = .ok (.lconst 0, 1) := by decide +kernel
theorem dX1_count_22 : decode cX1_count 22 = .ok (.lastore, 1) := by decide +kernel
theorem dX1_count_23 : decode cX1_count 23 = .ok (.iinc 1 1, 3) := by decide +kernel
theorem dX1_count_26 : decode cX1_count 26 = .ok (.goto (-24), 3) := by decide +kernel
theorem dX1_count_29 : decode cX1_count 29 = .ok (.iconst 0, 1) := by decide +kernel
theorem dX1_count_30 : decode cX1_count 30 = .ok (.istore_n 1, 1) := by decide +kernel
theorem dX1_count_31 : decode cX1_count 31 = .ok (.iload_n 1, 1) := by decide +kernel
theorem dX1_count_32 : decode cX1_count 32 = .ok (.aload_n 0, 1) := by decide +kernel
theorem dX1_count_33 : decode cX1_count 33 = .ok (.getfield 17, 3) := by decide +kernel
theorem dX1_count_36 : decode cX1_count 36 = .ok (.if_icmp .ge 310, 3) := by decide +kernel
theorem dX1_count_39 : decode cX1_count 39 = .ok (.iconst 0, 1) := by decide +kernel
theorem dX1_count_40 : decode cX1_count 40 = .ok (.istore_n 2, 1) := by decide +kernel
theorem dX1_count_41 : decode cX1_count 41 = .ok (.iload_n 2, 1) := by decide +kernel
theorem dX1_count_42 : decode cX1_count 42 = .ok (.aload_n 0, 1) := by decide +kernel
theorem dX1_count_43 : decode cX1_count 43 = .ok (.getfield 13, 3) := by decide +kernel
theorem dX1_count_46 : decode cX1_count 46 = .ok (.if_icmp .ge 294, 3) := by decide +kernel
theorem dX1_count_49 : decode cX1_count 49 = .ok (.iconst 0, 1) := by decide +kernel
theorem dX1_count_50 : decode cX1_count 50 = .ok (.istore_n 3, 1) := by decide +kernel
theorem dX1_count_51 : decode cX1_count 51 = .ok (.iload_n 3, 1) := by decide +kernel
theorem dX1_count_52 : decode cX1_count 52 = .ok (.bipush 64, 2) := by decide +kernel
theorem dX1_count_54 : decode cX1_count 54 = .ok (.if_icmp .ge 16, 3) := by decide +kernel
theorem dX1_count_57 : decode cX1_count 57 = .ok (.aload_n 0, 1) := by decide +kernel
theorem dX1_count_58 : decode cX1_count 58 = .ok (.getfield 24, 3) := by decide +kernel
theorem dX1_count_61 : decode cX1_count 61 = .ok (.iload_n 3, 1) := by decide +kernel
theorem dX1_count_62 : decode cX1_count 62 = .ok (.lconst 0, 1) := by decide +kernel
theorem dX1_count_63 : decode cX1_count 63 = .ok (.lastore, 1) := by decide +kernel
theorem dX1_count_64 : decode cX1_count 64 = .ok (.iinc 3 1, 3) := by decide +kernel
theorem dX1_count_67 : decode cX1_count 67 = .ok (.goto (-16), 3) := by decide +kernel
theorem dX1_count_70 : decode cX1_count 70 = .ok (.iconst 0, 1) := by decide +kernel
theorem dX1_count_71 : decode cX1_count 71 = .ok (.istore_n 3, 1) := by decide +kernel
theorem dX1_count_72 : decode cX1_count 72 = .ok (.iload_n 3, 1) := by decide +kernel
theorem dX1_count_73 : decode cX1_count 73 = .ok (.iconst 1, 1) := by decide +kernel
theorem dX1_count_74 : decode cX1_count 74 = .ok (.aload_n 0, 1) := by decide +kernel
theorem dX1_count_75 : decode cX1_count 75 = .ok (.getfield 13, 3) := by decide +kernel
theorem dX1_count_78 : decode cX1_count 78 = .ok (.ishl, 1) := by decide +kernel
theorem dX1_count_79 : decode cX1_count 79 = .ok (.if_icmp .ge 229, 3) := by decide +kernel
theorem dX1_count_82 : decode cX1_count 82 = .ok (.aload_n 0, 1) := by decide +kernel
theorem dX1_count_83 : decode cX1_count 83 = .ok (.getfield 20, 3) := by decide +kernel
theorem dX1_count_86 : decode cX1_count 86 = .ok (.iload_n 3, 1) := by decide +kernel
theorem dX1_count_87 : decode cX1_count 87 = .ok (.laload, 1) := by decide +kernel
theorem dX1_count_88 : decode cX1_count 88 = .ok (.lconst 0, 1) := by decide +kernel
theorem dX1_count_89 : decode cX1_count 89 = .ok (.lcmp, 1) := by decide +kernel
theorem dX1_count_90 : decode cX1_count 90 = .ok (.ifCond .eq 212, 3) := by decide +kernel
theorem dX1_count_93 : decode cX1_count 93 = .ok (.iload_n 3, 1) := by decide +kernel
theorem dX1_count_94 : decode cX1_count 94 = .ok (.iload_n 2, 1) := by decide +kernel
theorem dX1_count_95 : decode cX1_count 95 = .ok (.ishr, 1) := by decide +kernel
theorem dX1_count_96 : decode cX1_count 96 = .ok (.iconst 1, 1) := by decide +kernel
theorem dX1_count_97 : decode cX1_count 97 = .ok (.iand, 1) := by decide +kernel
theorem dX1_count_98 : decode cX1_count 98 = .ok (.ifCond .eq 7, 3) := by decide +kernel
theorem dX1_count_101 : decode cX1_count 101 = .ok (.iconst 1, 1) := by decide +kernel
theorem dX1_count_102 : decode cX1_count 102 = .ok (.goto 4, 3) := by decide +kernel
theorem dX1_count_105 : decode cX1_count 105 = .ok (.iconst 0, 1) := by decide +kernel
theorem dX1_count_106 : decode cX1_count 106 = .ok (.istore 4, 2) := by decide +kernel
theorem dX1_count_108 : decode cX1_count 108 = .ok (.aload_n 0, 1) := by decide +kernel
theorem dX1_count_109 : decode cX1_count 109 = .ok (.getfield 7, 3) := by decide +kernel
theorem dX1_count_112 : decode cX1_count 112 = .ok (.iload_n 1, 1) := by decide +kernel
theorem dX1_count_113 : decode cX1_count 113 = .ok (.iaload, 1) := by decide +kernel
theorem dX1_count_114 : decode cX1_count 114 = .ok (.iload_n 2, 1) := by decide +kernel
theorem dX1_count_115 : decode cX1_count 115 = .ok (.ishr, 1) := by decide +kernel
theorem dX1_count_116 : decode cX1_count 116 = .ok (.iconst 1, 1) := by decide +kernel
theorem dX1_count_117 : decode cX1_count 117 = .ok (.iand, 1) := by decide +kernel
theorem dX1_count_118 : decode cX1_count 118 = .ok (.ifCond .eq 7, 3) := by decide +kernel
theorem dX1_count_121 : decode cX1_count 121 = .ok (.iconst 1, 1) := by decide +kernel
theorem dX1_count_122 : decode cX1_count 122 = .ok (.goto 4, 3) := by decide +kernel
theorem dX1_count_125 : decode cX1_count 125 = .ok (.iconst 0, 1) := by decide +kernel
theorem dX1_count_126 : decode cX1_count 126 = .ok (.istore 5, 2) := by decide +kernel
theorem dX1_count_128 : decode cX1_count 128 = .ok (.iload 4, 2) := by decide +kernel
theorem dX1_count_130 : decode cX1_count 130 = .ok (.ifCond .eq 42, 3) := by decide +kernel
theorem dX1_count_133 : decode cX1_count 133 = .ok (.iload 5, 2) := by decide +kernel
theorem dX1_count_135 : decode cX1_count 135 = .ok (.ifCond .ne 167, 3) := by decide +kernel
theorem dX1_count_138 : decode cX1_count 138 = .ok (.aload_n 0, 1) := by decide +kernel
theorem dX1_count_139 : decode cX1_count 139 = .ok (.getfield 24, 3) := by decide +kernel
theorem dX1_count_142 : decode cX1_count 142 = .ok (.iload_n 3, 1) := by decide +kernel
theorem dX1_count_143 : decode cX1_count 143 = .ok (.iconst 1, 1) := by decide +kernel
theorem dX1_count_144 : decode cX1_count 144 = .ok (.iload_n 2, 1) := by decide +kernel
theorem dX1_count_145 : decode cX1_count 145 = .ok (.ishl, 1) := by decide +kernel
theorem dX1_count_146 : decode cX1_count 146 = .ok (.iconst (-1), 1) := by decide +kernel
theorem dX1_count_147 : decode cX1_count 147 = .ok (.ixor, 1) := by decide +kernel
theorem dX1_count_148 : decode cX1_count 148 = .ok (.iand, 1) := by decide +kernel
theorem dX1_count_149 : decode cX1_count 149 = .ok (.aload_n 0, 1) := by decide +kernel
theorem dX1_count_150 : decode cX1_count 150 = .ok (.getfield 24, 3) := by decide +kernel
theorem dX1_count_153 : decode cX1_count 153 = .ok (.iload_n 3, 1) := by decide +kernel
theorem dX1_count_154 : decode cX1_count 154 = .ok (.iconst 1, 1) := by decide +kernel
theorem dX1_count_155 : decode cX1_count 155 = .ok (.iload_n 2, 1) := by decide +kernel
theorem dX1_count_156 : decode cX1_count 156 = .ok (.ishl, 1) := by decide +kernel
theorem dX1_count_157 : decode cX1_count 157 = .ok (.iconst (-1), 1) := by decide +kernel
theorem dX1_count_158 : decode cX1_count 158 = .ok (.ixor, 1) := by decide +kernel
theorem dX1_count_159 : decode cX1_count 159 = .ok (.iand, 1) := by decide +kernel
theorem dX1_count_160 : decode cX1_count 160 = .ok (.laload, 1) := by decide +kernel
theorem dX1_count_161 : decode cX1_count 161 = .ok (.aload_n 0, 1) := by decide +kernel
theorem dX1_count_162 : decode cX1_count 162 = .ok (.getfield 20, 3) := by decide +kernel
theorem dX1_count_165 : decode cX1_count 165 = .ok (.iload_n 3, 1) := by decide +kernel
theorem dX1_count_166 : decode cX1_count 166 = .ok (.laload, 1) := by decide +kernel
theorem dX1_count_167 : decode cX1_count 167 = .ok (.ladd, 1) := by decide +kernel
theorem dX1_count_168 : decode cX1_count 168 = .ok (.lastore, 1) := by decide +kernel
theorem dX1_count_169 : decode cX1_count 169 = .ok (.goto 133, 3) := by decide +kernel
theorem dX1_count_172 : decode cX1_count 172 = .ok (.iload 5, 2) := by decide +kernel
theorem dX1_count_174 : decode cX1_count 174 = .ok (.ifCond .eq 25, 3) := by decide +kernel
theorem dX1_count_177 : decode cX1_count 177 = .ok (.aload_n 0, 1) := by decide +kernel
theorem dX1_count_178 : decode cX1_count 178 = .ok (.getfield 24, 3) := by decide +kernel
theorem dX1_count_181 : decode cX1_count 181 = .ok (.iload_n 3, 1) := by decide +kernel
theorem dX1_count_182 : decode cX1_count 182 = .ok (.aload_n 0, 1) := by decide +kernel
theorem dX1_count_183 : decode cX1_count 183 = .ok (.getfield 24, 3) := by decide +kernel
theorem dX1_count_186 : decode cX1_count 186 = .ok (.iload_n 3, 1) := by decide +kernel
theorem dX1_count_187 : decode cX1_count 187 = .ok (.laload, 1) := by decide +kernel
theorem dX1_count_188 : decode cX1_count 188 = .ok (.aload_n 0, 1) := by decide +kernel
theorem dX1_count_189 : decode cX1_count 189 = .ok (.getfield 20, 3) := by decide +kernel
theorem dX1_count_192 : decode cX1_count 192 = .ok (.iload_n 3, 1) := by decide +kernel
theorem dX1_count_193 : decode cX1_count 193 = .ok (.laload, 1) := by decide +kernel
theorem dX1_count_194 : decode cX1_count 194 = .ok (.ladd, 1) := by decide +kernel
theorem dX1_count_195 : decode cX1_count 195 = .ok (.lastore, 1) := by decide +kernel
theorem dX1_count_196 : decode cX1_count 196 = .ok (.goto 106, 3) := by decide +kernel
theorem dX1_count_199 : decode cX1_count 199 = .ok (.iload_n 1, 1) := by decide +kernel
theorem dX1_count_200 : decode cX1_count 200 = .ok (.iconst 1, 1) := by decide +kernel
theorem dX1_count_201 : decode cX1_count 201 = .ok (.iadd, 1) := by decide +kernel
theorem dX1_count_202 : decode cX1_count 202 = .ok (.aload_n 0, 1) := by decide +kernel
theorem dX1_count_203 : decode cX1_count 203 = .ok (.getfield 17, 3) := by decide +kernel
theorem dX1_count_206 : decode cX1_count 206 = .ok (.if_icmp .ge 30, 3) := by decide +kernel
theorem dX1_count_209 : decode cX1_count 209 = .ok (.aload_n 0, 1) := by decide +kernel
theorem dX1_count_210 : decode cX1_count 210 = .ok (.getfield 24, 3) := by decide +kernel
theorem dX1_count_213 : decode cX1_count 213 = .ok (.iload_n 3, 1) := by decide +kernel
theorem dX1_count_214 : decode cX1_count 214 = .ok (.iconst 1, 1) := by decide +kernel
theorem dX1_count_215 : decode cX1_count 215 = .ok (.iload_n 2, 1) := by decide +kernel
theorem dX1_count_216 : decode cX1_count 216 = .ok (.ishl, 1) := by decide +kernel
theorem dX1_count_217 : decode cX1_count 217 = .ok (.ior, 1) := by decide +kernel
theorem dX1_count_218 : decode cX1_count 218 = .ok (.aload_n 0, 1) := by decide +kernel
theorem dX1_count_219 : decode cX1_count 219 = .ok (.getfield 24, 3) := by decide +kernel
theorem dX1_count_222 : decode cX1_count 222 = .ok (.iload_n 3, 1) := by decide +kernel
theorem dX1_count_223 : decode cX1_count 223 = .ok (.iconst 1, 1) := by decide +kernel
theorem dX1_count_224 : decode cX1_count 224 = .ok (.iload_n 2, 1) := by decide +kernel
theorem dX1_count_225 : decode cX1_count 225 = .ok (.ishl, 1) := by decide +kernel
theorem dX1_count_226 : decode cX1_count 226 = .ok (.ior, 1) := by decide +kernel
theorem dX1_count_227 : decode cX1_count 227 = .ok (.laload, 1) := by decide +kernel
theorem dX1_count_228 : decode cX1_count 228 = .ok (.aload_n 0, 1) := by decide +kernel
theorem dX1_count_229 : decode cX1_count 229 = .ok (.getfield 20, 3) := by decide +kernel
theorem dX1_count_232 : decode cX1_count 232 = .ok (.iload_n 3, 1) := by decide +kernel
theorem dX1_count_233 : decode cX1_count 233 = .ok (.laload, 1) := by decide +kernel
theorem dX1_count_234 : decode cX1_count 234 = .ok (.ladd, 1) := by decide +kernel
theorem dX1_count_235 : decode cX1_count 235 = .ok (.lastore, 1) := by decide +kernel
theorem dX1_count_236 : decode cX1_count 236 = .ok (.iload_n 2, 1) := by decide +kernel
theorem dX1_count_237 : decode cX1_count 237 = .ok (.iconst 1, 1) := by decide +kernel
theorem dX1_count_238 : decode cX1_count 238 = .ok (.iadd, 1) := by decide +kernel
theorem dX1_count_239 : decode cX1_count 239 = .ok (.aload_n 0, 1) := by decide +kernel
theorem dX1_count_240 : decode cX1_count 240 = .ok (.getfield 13, 3) := by decide +kernel
theorem dX1_count_243 : decode cX1_count 243 = .ok (.if_icmp .ge 59, 3) := by decide +kernel
theorem dX1_count_246 : decode cX1_count 246 = .ok (.iload_n 3, 1) := by decide +kernel
theorem dX1_count_247 : decode cX1_count 247 = .ok (.iload_n 2, 1) := by decide +kernel
theorem dX1_count_248 : decode cX1_count 248 = .ok (.iconst 1, 1) := by decide +kernel
theorem dX1_count_249 : decode cX1_count 249 = .ok (.iadd, 1) := by decide +kernel
theorem dX1_count_250 : decode cX1_count 250 = .ok (.ishr, 1) := by decide +kernel
theorem dX1_count_251 : decode cX1_count 251 = .ok (.iconst 1, 1) := by decide +kernel
theorem dX1_count_252 : decode cX1_count 252 = .ok (.iand, 1) := by decide +kernel
theorem dX1_count_253 : decode cX1_count 253 = .ok (.ifCond .ne 49, 3) := by decide +kernel
theorem dX1_count_256 : decode cX1_count 256 = .ok (.aload_n 0, 1) := by decide +kernel
theorem dX1_count_257 : decode cX1_count 257 = .ok (.getfield 7, 3) := by decide +kernel
theorem dX1_count_260 : decode cX1_count 260 = .ok (.iload_n 1, 1) := by decide +kernel
theorem dX1_count_261 : decode cX1_count 261 = .ok (.iaload, 1) := by decide +kernel
theorem dX1_count_262 : decode cX1_count 262 = .ok (.iload_n 2, 1) := by decide +kernel
theorem dX1_count_263 : decode cX1_count 263 = .ok (.iconst 1, 1) := by decide +kernel
theorem dX1_count_264 : decode cX1_count 264 = .ok (.iadd, 1) := by decide +kernel
theorem dX1_count_265 : decode cX1_count 265 = .ok (.ishr, 1) := by decide +kernel
theorem dX1_count_266 : decode cX1_count 266 = .ok (.iconst 1, 1) := by decide +kernel
theorem dX1_count_267 : decode cX1_count 267 = .ok (.iand, 1) := by decide +kernel
theorem dX1_count_268 : decode cX1_count 268 = .ok (.ifCond .ne 34, 3) := by decide +kernel
theorem dX1_count_271 : decode cX1_count 271 = .ok (.aload_n 0, 1) := by decide +kernel
theorem dX1_count_272 : decode cX1_count 272 = .ok (.getfield 24, 3) := by decide +kernel
theorem dX1_count_275 : decode cX1_count 275 = .ok (.iload_n 3, 1) := by decide +kernel
theorem dX1_count_276 : decode cX1_count 276 = .ok (.iconst 1, 1) := by decide +kernel
theorem dX1_count_277 : decode cX1_count 277 = .ok (.iload_n 2, 1) := by decide +kernel
theorem dX1_count_278 : decode cX1_count 278 = .ok (.iconst 1, 1) := by decide +kernel
theorem dX1_count_279 : decode cX1_count 279 = .ok (.iadd, 1) := by decide +kernel
theorem dX1_count_280 : decode cX1_count 280 = .ok (.ishl, 1) := by decide +kernel
theorem dX1_count_281 : decode cX1_count 281 = .ok (.ior, 1) := by decide +kernel
theorem dX1_count_282 : decode cX1_count 282 = .ok (.aload_n 0, 1) := by decide +kernel
theorem dX1_count_283 : decode cX1_count 283 = .ok (.getfield 24, 3) := by decide +kernel
theorem dX1_count_286 : decode cX1_count 286 = .ok (.iload_n 3, 1) := by decide +kernel
theorem dX1_count_287 : decode cX1_count 287 = .ok (.iconst 1, 1) := by decide +kernel
theorem dX1_count_288 : decode cX1_count 288 = .ok (.iload_n 2, 1) := by decide +kernel
theorem dX1_count_289 : decode cX1_count 289 = .ok (.iconst 1, 1) := by decide +kernel
theorem dX1_count_290 : decode cX1_count 290 = .ok (.iadd, 1) := by decide +kernel
theorem dX1_count_291 : decode cX1_count 291 = .ok (.ishl, 1) := by decide +kernel
theorem dX1_count_292 : decode cX1_count 292 = .ok (.ior, 1) := by decide +kernel
theorem dX1_count_293 : decode cX1_count 293 = .ok (.laload, 1) := by decide +kernel
theorem dX1_count_294 : decode cX1_count 294 = .ok (.aload_n 0, 1) := by decide +kernel
theorem dX1_count_295 : decode cX1_count 295 = .ok (.getfield 20, 3) := by decide +kernel
theorem dX1_count_298 : decode cX1_count 298 = .ok (.iload_n 3, 1) := by decide +kernel
theorem dX1_count_299 : decode cX1_count 299 = .ok (.laload, 1) := by decide +kernel
theorem dX1_count_300 : decode cX1_count 300 = .ok (.ladd, 1) := by decide +kernel
theorem dX1_count_301 : decode cX1_count 301 = .ok (.lastore, 1) := by decide +kernel
theorem dX1_count_302 : decode cX1_count 302 = .ok (.iinc 3 1, 3) := by decide +kernel
theorem dX1_count_305 : decode cX1_count 305 = .ok (.goto (-233), 3) := by decide +kernel
theorem dX1_count_308 : decode cX1_count 308 = .ok (.iconst 0, 1) := by decide +kernel
theorem dX1_count_309 : decode cX1_count 309 = .ok (.istore_n 3, 1) := by decide +kernel
theorem dX1_count_310 : decode cX1_count 310 = .ok (.iload_n 3, 1) := by decide +kernel
theorem dX1_count_311 : decode cX1_count 311 = .ok (.bipush 64, 2) := by decide +kernel
theorem dX1_count_313 : decode cX1_count 313 = .ok (.if_icmp .ge 21, 3) := by decide +kernel
theorem dX1_count_316 : decode cX1_count 316 = .ok (.aload_n 0, 1) := by decide +kernel
theorem dX1_count_317 : decode cX1_count 317 = .ok (.getfield 20, 3) := by decide +kernel
theorem dX1_count_320 : decode cX1_count 320 = .ok (.iload_n 3, 1) := by decide +kernel
theorem dX1_count_321 : decode cX1_count 321 = .ok (.aload_n 0, 1) := by decide +kernel
theorem dX1_count_322 : decode cX1_count 322 = .ok (.getfield 24, 3) := by decide +kernel
theorem dX1_count_325 : decode cX1_count 325 = .ok (.iload_n 3, 1) := by decide +kernel
theorem dX1_count_326 : decode cX1_count 326 = .ok (.laload, 1) := by decide +kernel
theorem dX1_count_327 : decode cX1_count 327 = .ok (.lastore, 1) := by decide +kernel
theorem dX1_count_328 : decode cX1_count 328 = .ok (.iinc 3 1, 3) := by decide +kernel
theorem dX1_count_331 : decode cX1_count 331 = .ok (.goto (-21), 3) := by decide +kernel
theorem dX1_count_334 : decode cX1_count 334 = .ok (.iinc 2 1, 3) := by decide +kernel
theorem dX1_count_337 : decode cX1_count 337 = .ok (.goto (-296), 3) := by decide +kernel
theorem dX1_count_340 : decode cX1_count 340 = .ok (.iinc 1 1, 3) := by decide +kernel
theorem dX1_count_343 : decode cX1_count 343 = .ok (.goto (-312), 3) := by decide +kernel
theorem dX1_count_346 : decode cX1_count 346 = .ok (.aload_n 0, 1) := by decide +kernel
theorem dX1_count_347 : decode cX1_count 347 = .ok (.getfield 20, 3) := by decide +kernel
theorem dX1_count_350 : decode cX1_count 350 = .ok (.iconst 0, 1) := by decide +kernel
theorem dX1_count_351 : decode cX1_count 351 = .ok (.laload, 1) := by decide +kernel
theorem dX1_count_352 : decode cX1_count 352 = .ok (.lreturn, 1) := by decide +kernel
abbrev cX1_cells : ByteArray := prog_3_method_5_code
def yX1_cells : MethodName := ⟨RX1, "cells", "()I"⟩
theorem dX1_cells_0 : decode cX1_cells 0 = .ok (.iconst 0, 1) := by decide +kernel
theorem dX1_cells_1 : decode cX1_cells 1 = .ok (.istore_n 1, 1) := by decide +kernel
theorem dX1_cells_2 : decode cX1_cells 2 = .ok (.iconst 0, 1) := by decide +kernel
theorem dX1_cells_3 : decode cX1_cells 3 = .ok (.istore_n 2, 1) := by decide +kernel
theorem dX1_cells_4 : decode cX1_cells 4 = .ok (.iload_n 2, 1) := by decide +kernel
theorem dX1_cells_5 : decode cX1_cells 5 = .ok (.aload_n 0, 1) := by decide +kernel
theorem dX1_cells_6 : decode cX1_cells 6 = .ok (.getfield 17, 3) := by decide +kernel
theorem dX1_cells_9 : decode cX1_cells 9 = .ok (.if_icmp .ge 42, 3) := by decide +kernel
theorem dX1_cells_12 : decode cX1_cells 12 = .ok (.iconst 0, 1) := by decide +kernel
theorem dX1_cells_13 : decode cX1_cells 13 = .ok (.istore_n 3, 1) := by decide +kernel
theorem dX1_cells_14 : decode cX1_cells 14 = .ok (.iload_n 3, 1) := by decide +kernel
theorem dX1_cells_15 : decode cX1_cells 15 = .ok (.aload_n 0, 1) := by decide +kernel
theorem dX1_cells_16 : decode cX1_cells 16 = .ok (.getfield 13, 3) := by decide +kernel
theorem dX1_cells_19 : decode cX1_cells 19 = .ok (.if_icmp .ge 26, 3) := by decide +kernel
theorem dX1_cells_22 : decode cX1_cells 22 = .ok (.aload_n 0, 1) := by decide +kernel
theorem dX1_cells_23 : decode cX1_cells 23 = .ok (.getfield 7, 3) := by decide +kernel
theorem dX1_cells_26 : decode cX1_cells 26 = .ok (.iload_n 2, 1) := by decide +kernel
theorem dX1_cells_27 : decode cX1_cells 27 = .ok (.iaload, 1) := by decide +kernel
theorem dX1_cells_28 : decode cX1_cells 28 = .ok (.iload_n 3, 1) := by decide +kernel
theorem dX1_cells_29 : decode cX1_cells 29 = .ok (.ishr, 1) := by decide +kernel
theorem dX1_cells_30 : decode cX1_cells 30 = .ok (.iconst 1, 1) := by decide +kernel
theorem dX1_cells_31 : decode cX1_cells 31 = .ok (.iand, 1) := by decide +kernel
theorem dX1_cells_32 : decode cX1_cells 32 = .ok (.ifCond .ne 7, 3) := by decide +kernel
theorem dX1_cells_35 : decode cX1_cells 35 = .ok (.iload_n 1, 1) := by decide +kernel
theorem dX1_cells_36 : decode cX1_cells 36 = .ok (.iconst 1, 1) := by decide +kernel
theorem dX1_cells_37 : decode cX1_cells 37 = .ok (.iadd, 1) := by decide +kernel
theorem dX1_cells_38 : decode cX1_cells 38 = .ok (.istore_n 1, 1) := by decide +kernel
theorem dX1_cells_39 : decode cX1_cells 39 = .ok (.iinc 3 1, 3) := by decide +kernel
theorem dX1_cells_42 : decode cX1_cells 42 = .ok (.goto (-28), 3) := by decide +kernel
theorem dX1_cells_45 : decode cX1_cells 45 = .ok (.iinc 2 1, 3) := by decide +kernel
theorem dX1_cells_48 : decode cX1_cells 48 = .ok (.goto (-44), 3) := by decide +kernel
theorem dX1_cells_51 : decode cX1_cells 51 = .ok (.iload_n 1, 1) := by decide +kernel
theorem dX1_cells_52 : decode cX1_cells 52 = .ok (.ireturn, 1) := by decide +kernel
abbrev cX1_surplus : ByteArray := prog_3_method_6_code
def yX1_surplus : MethodName := ⟨RX1, "surplus", "()I"⟩
theorem dX1_surplus_0 : decode cX1_surplus 0 = .ok (.iconst 0, 1) := by decide +kernel
theorem dX1_surplus_1 : decode cX1_surplus 1 = .ok (.istore_n 1, 1) := by decide +kernel
theorem dX1_surplus_2 : decode cX1_surplus 2 = .ok (.iconst 0, 1) := by decide +kernel
theorem dX1_surplus_3 : decode cX1_surplus 3 = .ok (.istore_n 2, 1) := by decide +kernel
theorem dX1_surplus_4 : decode cX1_surplus 4 = .ok (.iload_n 2, 1) := by decide +kernel
theorem dX1_surplus_5 : decode cX1_surplus 5 = .ok (.aload_n 0, 1) := by decide +kernel
theorem dX1_surplus_6 : decode cX1_surplus 6 = .ok (.getfield 17, 3) := by decide +kernel
theorem dX1_surplus_9 : decode cX1_surplus 9 = .ok (.if_icmp .ge 54, 3) := by decide +kernel
theorem dX1_surplus_12 : decode cX1_surplus 12 = .ok (.iconst 0, 1) := by decide +kernel
theorem dX1_surplus_13 : decode cX1_surplus 13 = .ok (.istore_n 3, 1) := by decide +kernel
theorem dX1_surplus_14 : decode cX1_surplus 14 = .ok (.iload_n 3, 1) := by decide +kernel
theorem dX1_surplus_15 : decode cX1_surplus 15 = .ok (.aload_n 0, 1) := by decide +kernel
theorem dX1_surplus_16 : decode cX1_surplus 16 = .ok (.getfield 13, 3) := by decide +kernel
theorem dX1_surplus_19 : decode cX1_surplus 19 = .ok (.if_icmp .ge 38, 3) := by decide +kernel
theorem dX1_surplus_22 : decode cX1_surplus 22 = .ok (.aload_n 0, 1) := by decide +kernel
theorem dX1_surplus_23 : decode cX1_surplus 23 = .ok (.getfield 7, 3) := by decide +kernel
theorem dX1_surplus_26 : decode cX1_surplus 26 = .ok (.iload_n 2, 1) := by decide +kernel
theorem dX1_surplus_27 : decode cX1_surplus 27 = .ok (.iaload, 1) := by decide +kernel
theorem dX1_surplus_28 : decode cX1_surplus 28 = .ok (.iload_n 3, 1) := by decide +kernel
theorem dX1_surplus_29 : decode cX1_surplus 29 = .ok (.ishr, 1) := by decide +kernel
theorem dX1_surplus_30 : decode cX1_surplus 30 = .ok (.iconst 1, 1) := by decide +kernel
theorem dX1_surplus_31 : decode cX1_surplus 31 = .ok (.iand, 1) := by decide +kernel
theorem dX1_surplus_32 : decode cX1_surplus 32 = .ok (.ifCond .ne 19, 3) := by decide +kernel
theorem dX1_surplus_35 : decode cX1_surplus 35 = .ok (.iload_n 1, 1) := by decide +kernel
theorem dX1_surplus_36 : decode cX1_surplus 36 = .ok (.iload_n 3, 1) := by decide +kernel
theorem dX1_surplus_37 : decode cX1_surplus 37 = .ok (.iload_n 2, 1) := by decide +kernel
theorem dX1_surplus_38 : decode cX1_surplus 38 = .ok (.iadd, 1) := by decide +kernel
theorem dX1_surplus_39 : decode cX1_surplus 39 = .ok (.iconst 1, 1) := by decide +kernel
theorem dX1_surplus_40 : decode cX1_surplus 40 = .ok (.iand, 1) := by decide +kernel
theorem dX1_surplus_41 : decode cX1_surplus 41 = .ok (.ifCond .ne 7, 3) := by decide +kernel
theorem dX1_surplus_44 : decode cX1_surplus 44 = .ok (.iconst 1, 1) := by decide +kernel
theorem dX1_surplus_45 : decode cX1_surplus 45 = .ok (.goto 4, 3) := by decide +kernel
theorem dX1_surplus_48 : decode cX1_surplus 48 = .ok (.iconst (-1), 1) := by decide +kernel
theorem dX1_surplus_49 : decode cX1_surplus 49 = .ok (.iadd, 1) := by decide +kernel
theorem dX1_surplus_50 : decode cX1_surplus 50 = .ok (.istore_n 1, 1) := by decide +kernel
theorem dX1_surplus_51 : decode cX1_surplus 51 = .ok (.iinc 3 1, 3) := by decide +kernel
theorem dX1_surplus_54 : decode cX1_surplus 54 = .ok (.goto (-40), 3) := by decide +kernel
theorem dX1_surplus_57 : decode cX1_surplus 57 = .ok (.iinc 2 1, 3) := by decide +kernel
theorem dX1_surplus_60 : decode cX1_surplus 60 = .ok (.goto (-56), 3) := by decide +kernel
theorem dX1_surplus_63 : decode cX1_surplus 63 = .ok (.iload_n 1, 1) := by decide +kernel
theorem dX1_surplus_64 : decode cX1_surplus 64 = .ok (.ireturn, 1) := by decide +kernel
theorem q5 : (Jvm.Cond.initialized "DominoDeskModel") ∈ lw_all := lw_g (lw_at lw_m0 2 rfl) rfl
theorem q71 : (Jvm.Cond.instantiable "DominoDeskModel" (5 : Nat)) ∈ lw_all := lw_g (lw_at lw_m0 68 rfl) rfl
theorem q73 : (Jvm.Cond.instanceMethod ({ cls := "DominoDeskModel", name := "<init>", desc := "()V" } : Jvm.MethodName)) ∈ lw_all := lw_g (lw_at lw_m0 70 rfl) rfl
theorem q74 : (Jvm.Cond.code ({ cls := "DominoDeskModel", name := "<init>", desc := "()V" } : Jvm.MethodName) prog_3_method_1_code (1 : Nat) (Option.none : Option Jvm.ClassFile.FieldType)) ∈ lw_all := lw_g (lw_at lw_m0 71 rfl) rfl
theorem q75 : (Jvm.Cond.methodLink "DominoDeskModel" (1 : Nat) ({ cls := "java/lang/Object", name := "<init>", desc := "()V" } : Jvm.MethodName)) ∈ lw_all := lw_g (lw_at lw_m0 72 rfl) rfl
theorem q76 : (Jvm.Cond.fieldLink "DominoDeskModel" (7 : Nat) "DominoDeskModel" "hole" "[I") ∈ lw_all := lw_g (lw_at lw_m0 73 rfl) rfl
theorem q77 : (Jvm.Cond.fieldLink "DominoDeskModel" (13 : Nat) "DominoDeskModel" "w" "I") ∈ lw_all := lw_g (lw_at lw_m0 74 rfl) rfl
theorem q78 : (Jvm.Cond.fieldLink "DominoDeskModel" (17 : Nat) "DominoDeskModel" "h" "I") ∈ lw_all := lw_g (lw_at lw_m0 75 rfl) rfl
theorem q79 : (Jvm.Cond.fieldLink "DominoDeskModel" (20 : Nat) "DominoDeskModel" "ways" "[J") ∈ lw_all := lw_g (lw_at lw_m0 76 rfl) rfl
theorem q80 : (Jvm.Cond.fieldLink "DominoDeskModel" (24 : Nat) "DominoDeskModel" "next" "[J") ∈ lw_all := lw_g (lw_at lw_m0 77 rfl) rfl
theorem q81 : (Jvm.Cond.laysFinal "DominoDeskModel" "DominoDeskModel" "hole" "[I") ∈ lw_all := lw_g (lw_at lw_m0 78 rfl) rfl
theorem q82 : (Jvm.Cond.soleField "DominoDeskModel" "hole") ∈ lw_all := lw_g (lw_at lw_m0 79 rfl) rfl
theorem q83 : (Jvm.Cond.lays "DominoDeskModel" "DominoDeskModel" "w" "I") ∈ lw_all := lw_g (lw_at lw_m0 80 rfl) rfl
theorem q84 : (Jvm.Cond.soleField "DominoDeskModel" "w") ∈ lw_all := lw_g (lw_at lw_m0 81 rfl) rfl
theorem q85 : (Jvm.Cond.lays "DominoDeskModel" "DominoDeskModel" "h" "I") ∈ lw_all := lw_g (lw_at lw_m0 82 rfl) rfl
theorem q86 : (Jvm.Cond.soleField "DominoDeskModel" "h") ∈ lw_all := lw_g (lw_at lw_m0 83 rfl) rfl
theorem q87 : (Jvm.Cond.laysFinal "DominoDeskModel" "DominoDeskModel" "ways" "[J") ∈ lw_all := lw_g (lw_at lw_m0 84 rfl) rfl
theorem q88 : (Jvm.Cond.soleField "DominoDeskModel" "ways") ∈ lw_all := lw_g (lw_at lw_m0 85 rfl) rfl
theorem q89 : (Jvm.Cond.laysFinal "DominoDeskModel" "DominoDeskModel" "next" "[J") ∈ lw_all := lw_g (lw_at lw_m0 86 rfl) rfl
theorem q90 : (Jvm.Cond.soleField "DominoDeskModel" "next") ∈ lw_all := lw_g (lw_at lw_m0 87 rfl) rfl
theorem q91 : (Jvm.Cond.superclass "DominoDeskModel" "java/lang/Object") ∈ lw_all := lw_g (lw_at lw_m0 88 rfl) rfl
theorem q94 : (Jvm.Cond.instanceMethod ({ cls := "DominoDeskModel", name := "board", desc := "(II)V" } : Jvm.MethodName)) ∈ lw_all := lw_g (lw_at lw_m0 91 rfl) rfl
theorem q95 : (Jvm.Cond.selects "DominoDeskModel" ({ cls := "DominoDeskModel", name := "board", desc := "(II)V" } : Jvm.MethodName) ({ cls := "DominoDeskModel", name := "board", desc := "(II)V" } : Jvm.MethodName)) ∈ lw_all := lw_g (lw_at lw_m0 92 rfl) rfl
theorem q96 : (Jvm.Cond.code ({ cls := "DominoDeskModel", name := "board", desc := "(II)V" } : Jvm.MethodName) prog_3_method_2_code (4 : Nat) (Option.none : Option Jvm.ClassFile.FieldType)) ∈ lw_all := lw_g (lw_at lw_m0 93 rfl) rfl
theorem q97 : (Jvm.Cond.constant "DominoDeskModel" (27 : Nat) (2147483647 : Int32)) ∈ lw_all := lw_g (lw_at lw_m0 94 rfl) rfl
theorem q99 : (Jvm.Cond.instanceMethod ({ cls := "DominoDeskModel", name := "turn", desc := "(II)Z" } : Jvm.MethodName)) ∈ lw_all := lw_g (lw_at lw_m0 96 rfl) rfl
theorem q100 : (Jvm.Cond.selects "DominoDeskModel" ({ cls := "DominoDeskModel", name := "turn", desc := "(II)Z" } : Jvm.MethodName) ({ cls := "DominoDeskModel", name := "turn", desc := "(II)Z" } : Jvm.MethodName)) ∈ lw_all := lw_g (lw_at lw_m0 97 rfl) rfl
theorem q101 : (Jvm.Cond.code ({ cls := "DominoDeskModel", name := "turn", desc := "(II)Z" } : Jvm.MethodName) prog_3_method_3_code (5 : Nat) (Option.some Jvm.ClassFile.FieldType.boolean)) ∈ lw_all := lw_g (lw_at lw_m0 98 rfl) rfl
theorem q103 : (Jvm.Cond.instanceMethod ({ cls := "DominoDeskModel", name := "count", desc := "()J" } : Jvm.MethodName)) ∈ lw_all := lw_g (lw_at lw_m0 100 rfl) rfl
theorem q104 : (Jvm.Cond.selects "DominoDeskModel" ({ cls := "DominoDeskModel", name := "count", desc := "()J" } : Jvm.MethodName) ({ cls := "DominoDeskModel", name := "count", desc := "()J" } : Jvm.MethodName)) ∈ lw_all := lw_g (lw_at lw_m0 101 rfl) rfl
theorem q105 : (Jvm.Cond.code ({ cls := "DominoDeskModel", name := "count", desc := "()J" } : Jvm.MethodName) prog_3_method_4_code (6 : Nat) (Option.some Jvm.ClassFile.FieldType.long)) ∈ lw_all := lw_g (lw_at lw_m0 102 rfl) rfl
theorem q107 : (Jvm.Cond.instanceMethod ({ cls := "DominoDeskModel", name := "cells", desc := "()I" } : Jvm.MethodName)) ∈ lw_all := lw_g (lw_at lw_m0 104 rfl) rfl
theorem q108 : (Jvm.Cond.selects "DominoDeskModel" ({ cls := "DominoDeskModel", name := "cells", desc := "()I" } : Jvm.MethodName) ({ cls := "DominoDeskModel", name := "cells", desc := "()I" } : Jvm.MethodName)) ∈ lw_all := lw_g (lw_at lw_m0 105 rfl) rfl
theorem q109 : (Jvm.Cond.code ({ cls := "DominoDeskModel", name := "cells", desc := "()I" } : Jvm.MethodName) prog_3_method_5_code (4 : Nat) (Option.some Jvm.ClassFile.FieldType.int)) ∈ lw_all := lw_g (lw_at lw_m0 106 rfl) rfl
theorem q111 : (Jvm.Cond.instanceMethod ({ cls := "DominoDeskModel", name := "surplus", desc := "()I" } : Jvm.MethodName)) ∈ lw_all := lw_g (lw_at lw_m0 108 rfl) rfl
theorem q112 : (Jvm.Cond.selects "DominoDeskModel" ({ cls := "DominoDeskModel", name := "surplus", desc := "()I" } : Jvm.MethodName) ({ cls := "DominoDeskModel", name := "surplus", desc := "()I" } : Jvm.MethodName)) ∈ lw_all := lw_g (lw_at lw_m0 109 rfl) rfl
theorem q113 : (Jvm.Cond.code ({ cls := "DominoDeskModel", name := "surplus", desc := "()I" } : Jvm.MethodName) prog_3_method_6_code (4 : Nat) (Option.some Jvm.ClassFile.FieldType.int)) ∈ lw_all := lw_g (lw_at lw_m0 110 rfl) rfl
theorem in_X1 : ∀ w ∈ wsX10, w ∈ lw_all := lw_in wsX10 [81, 83, 85, 87, 89] (by decide +kernel) (by decide +kernel)
/-! the law's own entry -/
set_option maxRecDepth 100000
abbrev cL_law : ByteArray := code
theorem dL_law_0 : decode cL_law 0 = .ok (.new 7, 3) := by decide +kernel
theorem dL_law_3 : decode cL_law 3 = .ok (.dup, 1) := by decide +kernel
theorem dL_law_4 : decode cL_law 4 = .ok (.invokespecial 9, 3) := by decide +kernel
theorem dL_law_7 : decode cL_law 7 = .ok (.astore_n 1, 1) := by decide +kernel
theorem dL_law_8 : decode cL_law 8 = .ok (.new 10, 3) := by decide +kernel
theorem dL_law_11 : decode cL_law 11 = .ok (.dup, 1) := by decide +kernel
theorem dL_law_12 : decode cL_law 12 = .ok (.invokespecial 12, 3) := by decide +kernel
theorem dL_law_15 : decode cL_law 15 = .ok (.astore_n 2, 1) := by decide +kernel
theorem dL_law_16 : decode cL_law 16 = .ok (.iconst 0, 1) := by decide +kernel
theorem dL_law_17 : decode cL_law 17 = .ok (.istore_n 3, 1) := by decide +kernel
theorem dL_law_18 : decode cL_law 18 = .ok (.iload_n 3, 1) := by decide +kernel
theorem dL_law_19 : decode cL_law 19 = .ok (.aload_n 0, 1) := by decide +kernel
theorem dL_law_20 : decode cL_law 20 = .ok (.arraylength, 1) := by decide +kernel
theorem dL_law_21 : decode cL_law 21 = .ok (.iconst 3, 1) := by decide +kernel
theorem dL_law_22 : decode cL_law 22 = .ok (.isub, 1) := by decide +kernel
theorem dL_law_23 : decode cL_law 23 = .ok (.if_icmp .gt 155, 3) := by decide +kernel
theorem dL_law_26 : decode cL_law 26 = .ok (.aload_n 0, 1) := by decide +kernel
theorem dL_law_27 : decode cL_law 27 = .ok (.iload_n 3, 1) := by decide +kernel
theorem dL_law_28 : decode cL_law 28 = .ok (.iaload, 1) := by decide +kernel
theorem dL_law_29 : decode cL_law 29 = .ok (.bipush 7, 2) := by decide +kernel
theorem dL_law_31 : decode cL_law 31 = .ok (.iand, 1) := by decide +kernel
theorem dL_law_32 : decode cL_law 32 = .ok (.tableswitch 140 0 4 #[36, 67, 100, 114, 127], 36) := by decide +kernel
theorem dL_law_68 : decode cL_law 68 = .ok (.aload_n 1, 1) := by decide +kernel
theorem dL_law_69 : decode cL_law 69 = .ok (.aload_n 0, 1) := by decide +kernel
theorem dL_law_70 : decode cL_law 70 = .ok (.iload_n 3, 1) := by decide +kernel
theorem dL_law_71 : decode cL_law 71 = .ok (.iconst 1, 1) := by decide +kernel
theorem dL_law_72 : decode cL_law 72 = .ok (.iadd, 1) := by decide +kernel
theorem dL_law_73 : decode cL_law 73 = .ok (.iaload, 1) := by decide +kernel
theorem dL_law_74 : decode cL_law 74 = .ok (.aload_n 0, 1) := by decide +kernel
theorem dL_law_75 : decode cL_law 75 = .ok (.iload_n 3, 1) := by decide +kernel
theorem dL_law_76 : decode cL_law 76 = .ok (.iconst 2, 1) := by decide +kernel
theorem dL_law_77 : decode cL_law 77 = .ok (.iadd, 1) := by decide +kernel
theorem dL_law_78 : decode cL_law 78 = .ok (.iaload, 1) := by decide +kernel
theorem dL_law_79 : decode cL_law 79 = .ok (.invokevirtual 13, 3) := by decide +kernel
theorem dL_law_82 : decode cL_law 82 = .ok (.aload_n 2, 1) := by decide +kernel
theorem dL_law_83 : decode cL_law 83 = .ok (.aload_n 0, 1) := by decide +kernel
theorem dL_law_84 : decode cL_law 84 = .ok (.iload_n 3, 1) := by decide +kernel
theorem dL_law_85 : decode cL_law 85 = .ok (.iconst 1, 1) := by decide +kernel
theorem dL_law_86 : decode cL_law 86 = .ok (.iadd, 1) := by decide +kernel
theorem dL_law_87 : decode cL_law 87 = .ok (.iaload, 1) := by decide +kernel
theorem dL_law_88 : decode cL_law 88 = .ok (.aload_n 0, 1) := by decide +kernel
theorem dL_law_89 : decode cL_law 89 = .ok (.iload_n 3, 1) := by decide +kernel
theorem dL_law_90 : decode cL_law 90 = .ok (.iconst 2, 1) := by decide +kernel
theorem dL_law_91 : decode cL_law 91 = .ok (.iadd, 1) := by decide +kernel
theorem dL_law_92 : decode cL_law 92 = .ok (.iaload, 1) := by decide +kernel
theorem dL_law_93 : decode cL_law 93 = .ok (.invokevirtual 17, 3) := by decide +kernel
theorem dL_law_96 : decode cL_law 96 = .ok (.goto 76, 3) := by decide +kernel
theorem dL_law_99 : decode cL_law 99 = .ok (.aload_n 1, 1) := by decide +kernel
theorem dL_law_100 : decode cL_law 100 = .ok (.aload_n 0, 1) := by decide +kernel
theorem dL_law_101 : decode cL_law 101 = .ok (.iload_n 3, 1) := by decide +kernel
theorem dL_law_102 : decode cL_law 102 = .ok (.iconst 1, 1) := by decide +kernel
theorem dL_law_103 : decode cL_law 103 = .ok (.iadd, 1) := by decide +kernel
theorem dL_law_104 : decode cL_law 104 = .ok (.iaload, 1) := by decide +kernel
theorem dL_law_105 : decode cL_law 105 = .ok (.aload_n 0, 1) := by decide +kernel
theorem dL_law_106 : decode cL_law 106 = .ok (.iload_n 3, 1) := by decide +kernel
theorem dL_law_107 : decode cL_law 107 = .ok (.iconst 2, 1) := by decide +kernel
theorem dL_law_108 : decode cL_law 108 = .ok (.iadd, 1) := by decide +kernel
theorem dL_law_109 : decode cL_law 109 = .ok (.iaload, 1) := by decide +kernel
theorem dL_law_110 : decode cL_law 110 = .ok (.invokevirtual 18, 3) := by decide +kernel
theorem dL_law_113 : decode cL_law 113 = .ok (.aload_n 2, 1) := by decide +kernel
theorem dL_law_114 : decode cL_law 114 = .ok (.aload_n 0, 1) := by decide +kernel
theorem dL_law_115 : decode cL_law 115 = .ok (.iload_n 3, 1) := by decide +kernel
theorem dL_law_116 : decode cL_law 116 = .ok (.iconst 1, 1) := by decide +kernel
theorem dL_law_117 : decode cL_law 117 = .ok (.iadd, 1) := by decide +kernel
theorem dL_law_118 : decode cL_law 118 = .ok (.iaload, 1) := by decide +kernel
theorem dL_law_119 : decode cL_law 119 = .ok (.aload_n 0, 1) := by decide +kernel
theorem dL_law_120 : decode cL_law 120 = .ok (.iload_n 3, 1) := by decide +kernel
theorem dL_law_121 : decode cL_law 121 = .ok (.iconst 2, 1) := by decide +kernel
theorem dL_law_122 : decode cL_law 122 = .ok (.iadd, 1) := by decide +kernel
theorem dL_law_123 : decode cL_law 123 = .ok (.iaload, 1) := by decide +kernel
theorem dL_law_124 : decode cL_law 124 = .ok (.invokevirtual 22, 3) := by decide +kernel
theorem dL_law_127 : decode cL_law 127 = .ok (.if_icmp .eq 45, 3) := by decide +kernel
theorem dL_law_130 : decode cL_law 130 = .ok (.iconst 0, 1) := by decide +kernel
theorem dL_law_131 : decode cL_law 131 = .ok (.ireturn, 1) := by decide +kernel
theorem dL_law_132 : decode cL_law 132 = .ok (.aload_n 1, 1) := by decide +kernel
theorem dL_law_133 : decode cL_law 133 = .ok (.invokevirtual 23, 3) := by decide +kernel
theorem dL_law_136 : decode cL_law 136 = .ok (.aload_n 2, 1) := by decide +kernel
theorem dL_law_137 : decode cL_law 137 = .ok (.invokevirtual 27, 3) := by decide +kernel
theorem dL_law_140 : decode cL_law 140 = .ok (.lcmp, 1) := by decide +kernel
theorem dL_law_141 : decode cL_law 141 = .ok (.ifCond .eq 31, 3) := by decide +kernel
theorem dL_law_144 : decode cL_law 144 = .ok (.iconst 0, 1) := by decide +kernel
theorem dL_law_145 : decode cL_law 145 = .ok (.ireturn, 1) := by decide +kernel
theorem dL_law_146 : decode cL_law 146 = .ok (.aload_n 1, 1) := by decide +kernel
theorem dL_law_147 : decode cL_law 147 = .ok (.invokevirtual 28, 3) := by decide +kernel
theorem dL_law_150 : decode cL_law 150 = .ok (.aload_n 2, 1) := by decide +kernel
theorem dL_law_151 : decode cL_law 151 = .ok (.invokevirtual 32, 3) := by decide +kernel
theorem dL_law_154 : decode cL_law 154 = .ok (.if_icmp .eq 18, 3) := by decide +kernel
theorem dL_law_157 : decode cL_law 157 = .ok (.iconst 0, 1) := by decide +kernel
theorem dL_law_158 : decode cL_law 158 = .ok (.ireturn, 1) := by decide +kernel
theorem dL_law_159 : decode cL_law 159 = .ok (.aload_n 1, 1) := by decide +kernel
theorem dL_law_160 : decode cL_law 160 = .ok (.invokevirtual 33, 3) := by decide +kernel
theorem dL_law_163 : decode cL_law 163 = .ok (.aload_n 2, 1) := by decide +kernel
theorem dL_law_164 : decode cL_law 164 = .ok (.invokevirtual 36, 3) := by decide +kernel
theorem dL_law_167 : decode cL_law 167 = .ok (.if_icmp .eq 5, 3) := by decide +kernel
theorem dL_law_170 : decode cL_law 170 = .ok (.iconst 0, 1) := by decide +kernel
theorem dL_law_171 : decode cL_law 171 = .ok (.ireturn, 1) := by decide +kernel
theorem dL_law_172 : decode cL_law 172 = .ok (.iinc 3 3, 3) := by decide +kernel
theorem dL_law_175 : decode cL_law 175 = .ok (.goto (-157), 3) := by decide +kernel
theorem dL_law_178 : decode cL_law 178 = .ok (.iconst 1, 1) := by decide +kernel
theorem dL_law_179 : decode cL_law 179 = .ok (.ireturn, 1) := by decide +kernel
theorem q3 : (Jvm.Cond.initialized "DominoDeskLaw") ∈ lw_all := lw_g (lw_at lw_m0 0 rfl) rfl
set_option maxRecDepth 100000
theorem q6 : (Jvm.Cond.classLink "DominoDeskLaw" (7 : Nat) "DominoDesk") ∈ lw_all := lw_g (lw_at lw_m0 3 rfl) rfl
theorem q8 : (Jvm.Cond.methodLink "DominoDeskLaw" (9 : Nat) ({ cls := "DominoDesk", name := "<init>", desc := "()V" } : Jvm.MethodName)) ∈ lw_all := lw_g (lw_at lw_m0 5 rfl) rfl
theorem q34 : (Jvm.Cond.methodLink "DominoDeskLaw" (13 : Nat) ({ cls := "DominoDesk", name := "board", desc := "(II)V" } : Jvm.MethodName)) ∈ lw_all := lw_g (lw_at lw_m0 31 rfl) rfl
theorem q42 : (Jvm.Cond.methodLink "DominoDeskLaw" (18 : Nat) ({ cls := "DominoDesk", name := "turn", desc := "(II)Z" } : Jvm.MethodName)) ∈ lw_all := lw_g (lw_at lw_m0 39 rfl) rfl
theorem q46 : (Jvm.Cond.methodLink "DominoDeskLaw" (23 : Nat) ({ cls := "DominoDesk", name := "count", desc := "()J" } : Jvm.MethodName)) ∈ lw_all := lw_g (lw_at lw_m0 43 rfl) rfl
theorem q58 : (Jvm.Cond.methodLink "DominoDeskLaw" (28 : Nat) ({ cls := "DominoDesk", name := "cells", desc := "()I" } : Jvm.MethodName)) ∈ lw_all := lw_g (lw_at lw_m0 55 rfl) rfl
theorem q66 : (Jvm.Cond.methodLink "DominoDeskLaw" (33 : Nat) ({ cls := "DominoDesk", name := "surplus", desc := "()I" } : Jvm.MethodName)) ∈ lw_all := lw_g (lw_at lw_m0 63 rfl) rfl
theorem q70 : (Jvm.Cond.classLink "DominoDeskLaw" (10 : Nat) "DominoDeskModel") ∈ lw_all := lw_g (lw_at lw_m0 67 rfl) rfl
theorem q72 : (Jvm.Cond.methodLink "DominoDeskLaw" (12 : Nat) ({ cls := "DominoDeskModel", name := "<init>", desc := "()V" } : Jvm.MethodName)) ∈ lw_all := lw_g (lw_at lw_m0 69 rfl) rfl
theorem q93 : (Jvm.Cond.methodLink "DominoDeskLaw" (17 : Nat) ({ cls := "DominoDeskModel", name := "board", desc := "(II)V" } : Jvm.MethodName)) ∈ lw_all := lw_g (lw_at lw_m0 90 rfl) rfl
theorem q98 : (Jvm.Cond.methodLink "DominoDeskLaw" (22 : Nat) ({ cls := "DominoDeskModel", name := "turn", desc := "(II)Z" } : Jvm.MethodName)) ∈ lw_all := lw_g (lw_at lw_m0 95 rfl) rfl
theorem q102 : (Jvm.Cond.methodLink "DominoDeskLaw" (27 : Nat) ({ cls := "DominoDeskModel", name := "count", desc := "()J" } : Jvm.MethodName)) ∈ lw_all := lw_g (lw_at lw_m0 99 rfl) rfl
theorem q106 : (Jvm.Cond.methodLink "DominoDeskLaw" (32 : Nat) ({ cls := "DominoDeskModel", name := "cells", desc := "()I" } : Jvm.MethodName)) ∈ lw_all := lw_g (lw_at lw_m0 103 rfl) rfl
theorem q110 : (Jvm.Cond.methodLink "DominoDeskLaw" (36 : Nat) ({ cls := "DominoDeskModel", name := "surplus", desc := "()I" } : Jvm.MethodName)) ∈ lw_all := lw_g (lw_at lw_m0 107 rfl) rfl
end
section
/-! PURE: what the two classes compute, as plain functions, and the law between them (no machine in sight) -/
/-- a boolean as the machine has it -/
def dk_b (b : Bool) : Int32 := if b = true then 1 else 0
theorem dk_b0 {b : Bool} : dk_b b = 0 ↔ b = false := by cases b <;> decide
/-- (v & 2147483647) % n -/
def dk_bl (v : Int32) (n : Nat) : Nat := v.toBitVec.toNat % 2 ^ 31 % n
def dk_put (ho : Nat → Nat → Bool) (i j : Nat) (b : Bool) : Nat → Nat → Bool := fun a d => if a = i ∧ d = j then b else ho a d
theorem dk_put_self (ho : Nat → Nat → Bool) (i j : Nat) (b : Bool) : dk_put ho i j b i j = b := if_pos ⟨rfl, rfl⟩
theorem dk_put_ne (ho : Nat → Nat → Bool) {i j a d : Nat} (b : Bool) (h : ¬ (a = i ∧ d = j)) : dk_put ho i j b a d = ho a d := if_neg h
/-- a cell of the board that is no hole -/
def dk_opn (w h : Nat) (ho : Nat → Nat → Bool) (x y : Nat) : Bool := decide (x < w) && (decide (y < h) && !(ho x y))
theorem dk_opn_1 {w h : Nat} {ho : Nat → Nat → Bool} {x y : Nat} (hq : ¬ x < w) : dk_opn w h ho x y = false := by simp [dk_opn, hq]
theorem dk_opn_2 {w h : Nat} {ho : Nat → Nat → Bool} {x y : Nat} (hq : ¬ y < h) : dk_opn w h ho x y = false := by simp [dk_opn, hq]
theorem dk_opn_3 {w h : Nat} {ho : Nat → Nat → Bool} {x y : Nat} (h1 : x < w) (h2 : y < h) : dk_opn w h ho x y = !(ho x y) := by simp [dk_opn, h1, h2]
/-- t[k] += v -/
def dk_add (t : Nat → Int64) (k : Nat) (v : Int64) : Nat → Int64 := vp_updL t k (t k + v)
theorem dk_add_self (t : Nat → Int64) (k : Nat) (v : Int64) : dk_add t k v k = t k + v := by simp [dk_add, vp_updL]
theorem dk_add_ne (t : Nat → Int64) {k j : Nat} (v : Int64) (h : j ≠ k) : dk_add t k v j = t j := by simp [dk_add, vp_updL, h]
theorem dk_add_zero (t : Nat → Int64) (k : Nat) : dk_add t k 0 = t := by
  funext j
  by_cases h : j = k
  · subst h
    rw [dk_add_self, Int64.add_zero]
  · exact dk_add_ne t 0 h
/-- one set of covered cells, in the class: its last half (the cell to the right), and the whole -/
def dk_rgt (w h : Nat) (ho : Nat → Nat → Bool) (x y : Nat) (f : Nat → Int64) (k : Nat) (t : Nat → Int64) : Nat → Int64 :=
  if dk_opn w h ho (x + 1) y = true ∧ k.testBit (x + 1) = false then dk_add t (k ||| 2 ^ (x + 1)) (f k) else t
def dk_stp (w h : Nat) (ho : Nat → Nat → Bool) (x y : Nat) (f : Nat → Int64) (k : Nat) (t : Nat → Int64) : Nat → Int64 :=
  if f k = 0 then t
  else if k.testBit x = true then dk_add t (k ^^^ 2 ^ x) (f k)
  else if dk_opn w h ho x y = false then dk_add t k (f k)
  else dk_rgt w h ho x y f k (if dk_opn w h ho x (y + 1) = true then dk_add t (k ||| 2 ^ x) (f k) else t)
def dk_run (w h : Nat) (ho : Nat → Nat → Bool) (x y : Nat) (f : Nat → Int64) : Nat → Nat → Int64
  | 0 => fun _ => 0
  | n + 1 => dk_stp w h ho x y f n (dk_run w h ho x y f n)
def dk_row (w h : Nat) (ho : Nat → Nat → Bool) (y : Nat) (f : Nat → Int64) : Nat → Nat → Int64
  | 0 => f
  | x + 1 => dk_run w h ho x y (dk_row w h ho y f x) (2 ^ w)
def dk_one : Nat → Int64 := fun k => if k = 0 then 1 else 0
def dk_all (w h : Nat) (ho : Nat → Nat → Bool) : Nat → Nat → Int64
  | 0 => dk_one
  | y + 1 => dk_row w h ho y (dk_all w h ho y) w
def dk_cnt (w h : Nat) (ho : Nat → Nat → Bool) : Int64 := dk_all w h ho h 0
/-- the same in the reference -/
def mo_rgt (w : Nat) (ho : Nat → Nat → Bool) (x y : Nat) (f : Nat → Int64) (k : Nat) (t : Nat → Int64) : Nat → Int64 :=
  if x + 1 < w ∧ k.testBit (x + 1) = false ∧ ho (x + 1) y = false then dk_add t (k ||| 2 ^ (x + 1)) (f k) else t
def mo_stp (w h : Nat) (ho : Nat → Nat → Bool) (x y : Nat) (f : Nat → Int64) (k : Nat) (t : Nat → Int64) : Nat → Int64 :=
  if f k = 0 then t
  else if k.testBit x = true then (if ho x y = true then t else dk_add t (k ^^^ 2 ^ x) (f k))
  else if ho x y = true then dk_add t k (f k)
  else mo_rgt w ho x y f k (if y + 1 < h then dk_add t (k ||| 2 ^ x) (f k) else t)
def mo_run (w h : Nat) (ho : Nat → Nat → Bool) (x y : Nat) (f : Nat → Int64) : Nat → Nat → Int64
  | 0 => fun _ => 0
  | n + 1 => mo_stp w h ho x y f n (mo_run w h ho x y f n)
def mo_row (w h : Nat) (ho : Nat → Nat → Bool) (y : Nat) (f : Nat → Int64) : Nat → Nat → Int64
  | 0 => f
  | x + 1 => mo_run w h ho x y (mo_row w h ho y f x) (2 ^ w)
def mo_all (w h : Nat) (ho : Nat → Nat → Bool) : Nat → Nat → Int64
  | 0 => dk_one
  | y + 1 => mo_row w h ho y (mo_all w h ho y) w
def mo_cnt (w h : Nat) (ho : Nat → Nat → Bool) : Int64 := mo_all w h ho h 0
/-- no covered cell of the set k is a hole, before the cell (x, y) is paved: those left of x are of the next row -/
def pv_good (ho : Nat → Nat → Bool) (x y k : Nat) : Prop := ∀ i, k.testBit i = true → ho i (if i < x then y + 1 else y) = false
/-- the class's numbers are the reference's at the good sets, and none at the others -/
def pv_R (w : Nat) (ho : Nat → Nat → Bool) (x y : Nat) (f g : Nat → Int64) : Prop := ∀ k, k < 2 ^ w → (pv_good ho x y k → f k = g k) ∧ (¬ pv_good ho x y k → f k = 0)
theorem pv_add {w x y : Nat} {ho : Nat → Nat → Bool} {t u : Nat → Int64} (h : pv_R w ho x y t u) {k : Nat} {a b : Int64} (h1 : pv_good ho x y k → a = b) (h2 : ¬ pv_good ho x y k → a = 0) : pv_R w ho x y (dk_add t k a) (dk_add u k b) := by
  intro j hj
  by_cases e : j = k
  · subst e
    rw [dk_add_self, dk_add_self]
    refine ⟨fun g => ?_, fun g => ?_⟩
    · rw [(h j hj).1 g, h1 g]
    · rw [(h j hj).2 g, h2 g, Int64.add_zero]
  · rw [dk_add_ne _ _ e, dk_add_ne _ _ e]
    exact h j hj
theorem pv_addL {w x y : Nat} {ho : Nat → Nat → Bool} {t u : Nat → Int64} (h : pv_R w ho x y t u) {k : Nat} {b : Int64} (h1 : ¬ pv_good ho x y k) : pv_R w ho x y t (dk_add u k b) := by
  have := pv_add (k := k) (a := 0) (b := b) h (fun g => absurd g h1) (fun _ => rfl)
  rw [dk_add_zero] at this
  exact this
/-- bits -/
theorem pv_or (k x i : Nat) : (k ||| 2 ^ x).testBit i = (k.testBit i || decide (x = i)) := by rw [Nat.testBit_or, Nat.testBit_two_pow]
theorem pv_xor (k x i : Nat) : (k ^^^ 2 ^ x).testBit i = (k.testBit i ^^ decide (x = i)) := by rw [Nat.testBit_xor, Nat.testBit_two_pow]
/-- the cell (x, y) is covered, and no hole: its bit goes -/
theorem pv_g1 {ho : Nat → Nat → Bool} {x y k : Nat} (hb : k.testBit x = true) (hh : ho x y = false) : pv_good ho (x + 1) y (k ^^^ 2 ^ x) ↔ pv_good ho x y k := by
  constructor
  · intro g i hi
    by_cases e : i = x
    · subst e
      rw [if_neg (Nat.lt_irrefl i)]
      exact hh
    · have h1 := g i (by rw [pv_xor, hi]; simp [Ne.symm e])
      by_cases l : i < x
      · rw [if_pos (by omega)] at h1
        rw [if_pos l]
        exact h1
      · rw [if_neg (by omega)] at h1
        rw [if_neg l]
        exact h1
  · intro g i hi
    rw [pv_xor] at hi
    by_cases e : i = x
    · subst e
      rw [hb] at hi
      simp at hi
    · have hk : k.testBit i = true := by simpa [Ne.symm e] using hi
      have h1 := g i hk
      by_cases l : i < x
      · rw [if_pos l] at h1
        rw [if_pos (by omega)]
        exact h1
      · rw [if_neg l] at h1
        rw [if_neg (by omega)]
        exact h1
/-- it isn't covered: nothing changes -/
theorem pv_g2 {ho : Nat → Nat → Bool} {x y k : Nat} (hb : ¬ k.testBit x = true) : pv_good ho (x + 1) y k ↔ pv_good ho x y k := by
  constructor
  · intro g i hi
    have h1 := g i hi
    have e : i ≠ x := fun e => hb (e ▸ hi)
    by_cases l : i < x
    · rw [if_pos (by omega)] at h1
      rw [if_pos l]
      exact h1
    · rw [if_neg (by omega)] at h1
      rw [if_neg l]
      exact h1
  · intro g i hi
    have h1 := g i hi
    have e : i ≠ x := fun e => hb (e ▸ hi)
    by_cases l : i < x
    · rw [if_pos l] at h1
      rw [if_pos (by omega)]
      exact h1
    · rw [if_neg l] at h1
      rw [if_neg (by omega)]
      exact h1
/-- a cell z that is no hole (in the row where its bit is read) is covered anew -/
theorem pv_g3 {ho : Nat → Nat → Bool} {x y k z : Nat} (hh : ho z (if z < x then y + 1 else y) = false) : pv_good ho x y (k ||| 2 ^ z) ↔ pv_good ho x y k := by
  constructor
  · intro g i hi
    exact g i (by rw [pv_or, hi]; rfl)
  · intro g i hi
    rw [pv_or] at hi
    by_cases e : z = i
    · subst e
      exact hh
    · exact g i (by simpa [e] using hi)
theorem pv_g4 {ho : Nat → Nat → Bool} {x y k z : Nat} (hh : ho z (if z < x then y + 1 else y) = true) : ¬ pv_good ho x y (k ||| 2 ^ z) := by
  intro g
  have h1 := g z (by rw [pv_or]; simp)
  rw [hh] at h1
  cases h1
theorem dk_stp_nz (w h : Nat) (ho : Nat → Nat → Bool) (x y : Nat) (f : Nat → Int64) (k : Nat) (t : Nat → Int64) : dk_stp w h ho x y f k t =
    if k.testBit x = true then dk_add t (k ^^^ 2 ^ x) (f k)
    else if dk_opn w h ho x y = false then dk_add t k (f k)
    else dk_rgt w h ho x y f k (if dk_opn w h ho x (y + 1) = true then dk_add t (k ||| 2 ^ x) (f k) else t) := by
  unfold dk_stp
  by_cases e : f k = 0
  · rw [if_pos e, dk_rgt, e]
    simp only [dk_add_zero, ite_self]
  · rw [if_neg e]
theorem mo_stp_nz (w h : Nat) (ho : Nat → Nat → Bool) (x y : Nat) (f : Nat → Int64) (k : Nat) (t : Nat → Int64) : mo_stp w h ho x y f k t =
    if k.testBit x = true then (if ho x y = true then t else dk_add t (k ^^^ 2 ^ x) (f k))
    else if ho x y = true then dk_add t k (f k)
    else mo_rgt w ho x y f k (if y + 1 < h then dk_add t (k ||| 2 ^ x) (f k) else t) := by
  unfold mo_stp
  by_cases e : f k = 0
  · rw [if_pos e, mo_rgt, e]
    simp only [dk_add_zero, ite_self]
  · rw [if_neg e]
/-- one set: the relation goes on -/
theorem pv_stp {w h x y k : Nat} {ho : Nat → Nat → Bool} {f g t u : Nat → Int64} (hxw : x < w) (hyh : y < h) (hR : pv_R w ho x y f g) (hk : k < 2 ^ w) (hT : pv_R w ho (x + 1) y t u) : pv_R w ho (x + 1) y (dk_stp w h ho x y f k t) (mo_stp w h ho x y g k u) := by
  obtain ⟨g1, g2⟩ := hR k hk
  rw [dk_stp_nz, mo_stp_nz]
  by_cases hb : k.testBit x = true
  · rw [if_pos hb, if_pos hb]
    by_cases hh : ho x y = true
    · have hng : ¬ pv_good ho x y k := fun q => by
        have := q x hb
        rw [if_neg (Nat.lt_irrefl x), hh] at this
        cases this
      rw [if_pos hh, g2 hng, dk_add_zero]
      exact hT
    · rw [if_neg hh]
      have e := pv_g1 (k := k) hb (Bool.eq_false_iff.mpr hh)
      exact pv_add hT (fun q => g1 (e.mp q)) (fun q => g2 (fun z => q (e.mpr z)))
  · rw [if_neg hb, if_neg hb]
    have e2 := pv_g2 (ho := ho) (y := y) hb
    rw [dk_opn_3 hxw hyh]
    by_cases hh : ho x y = true
    · rw [if_pos hh, if_pos (by rw [hh]; rfl)]
      exact pv_add hT (fun q => g1 (e2.mp q)) (fun q => g2 (fun z => q (e2.mpr z)))
    · have hhf := Bool.eq_false_iff.mpr hh
      rw [if_neg hh, if_neg (by rw [hhf]; decide)]
      have hT1 : pv_R w ho (x + 1) y (if dk_opn w h ho x (y + 1) = true then dk_add t (k ||| 2 ^ x) (f k) else t) (if y + 1 < h then dk_add u (k ||| 2 ^ x) (g k) else u) := by
        by_cases hy : y + 1 < h
        · rw [if_pos hy, dk_opn_3 hxw hy]
          by_cases hd : ho x (y + 1) = true
          · rw [if_neg (by rw [hd]; decide)]
            exact pv_addL hT (pv_g4 (by rw [if_pos (Nat.lt_succ_self x)]; exact hd))
          · have hdf := Bool.eq_false_iff.mpr hd
            rw [if_pos (by rw [hdf]; rfl)]
            have e3 := pv_g3 (ho := ho) (x := x + 1) (y := y) (k := k) (z := x) (by rw [if_pos (Nat.lt_succ_self x)]; exact hdf)
            exact pv_add hT (fun q => g1 (e2.mp (e3.mp q))) (fun q => g2 (fun z => q (e3.mpr (e2.mpr z))))
        · rw [if_neg hy, if_neg (by rw [dk_opn_2 hy]; decide)]
          exact hT
      generalize (if dk_opn w h ho x (y + 1) = true then dk_add t (k ||| 2 ^ x) (f k) else t) = t1 at hT1 ⊢
      generalize (if y + 1 < h then dk_add u (k ||| 2 ^ x) (g k) else u) = u1 at hT1 ⊢
      unfold dk_rgt mo_rgt
      by_cases hc : x + 1 < w ∧ k.testBit (x + 1) = false ∧ ho (x + 1) y = false
      · obtain ⟨c1, c2, c3⟩ := hc
        rw [if_pos ⟨by rw [dk_opn_3 c1 hyh, c3]; rfl, c2⟩, if_pos ⟨c1, c2, c3⟩]
        have e3 := pv_g3 (ho := ho) (x := x + 1) (y := y) (k := k) (z := x + 1) (by rw [if_neg (Nat.lt_irrefl _)]; exact c3)
        exact pv_add hT1 (fun q => g1 (e2.mp (e3.mp q))) (fun q => g2 (fun z => q (e3.mpr (e2.mpr z))))
      · rw [if_neg hc, if_neg (fun q => hc ?_)]
        · exact hT1
        · obtain ⟨q1, q2⟩ := q
          by_cases c1 : x + 1 < w
          · rw [dk_opn_3 c1 hyh] at q1
            exact ⟨c1, q2, by simpa using q1⟩
          · rw [dk_opn_1 c1] at q1
            cases q1
theorem pv_run {w h x y : Nat} {ho : Nat → Nat → Bool} {f g : Nat → Int64} (hxw : x < w) (hyh : y < h) (hR : pv_R w ho x y f g) : ∀ n, n ≤ 2 ^ w → pv_R w ho (x + 1) y (dk_run w h ho x y f n) (mo_run w h ho x y g n)
  | 0, _ => fun _ _ => ⟨fun _ => rfl, fun _ => rfl⟩
  | n + 1, hn => pv_stp hxw hyh hR hn (pv_run hxw hyh hR n (Nat.le_of_succ_le hn))
theorem pv_row {w h y : Nat} {ho : Nat → Nat → Bool} {f g : Nat → Int64} (hyh : y < h) (hR : pv_R w ho 0 y f g) : ∀ x, x ≤ w → pv_R w ho x y (dk_row w h ho y f x) (mo_row w h ho y g x)
  | 0, _ => hR
  | x + 1, hn => pv_run hn hyh (pv_row hyh hR x (Nat.le_of_succ_le hn)) _ (Nat.le_refl _)
theorem pv_next {w y : Nat} {ho : Nat → Nat → Bool} {f g : Nat → Int64} (hR : pv_R w ho w y f g) : pv_R w ho 0 (y + 1) f g := by
  intro k hk
  have e : pv_good ho 0 (y + 1) k ↔ pv_good ho w y k := by
    have hi : ∀ i, k.testBit i = true → i < w := fun i h => by
      rcases Nat.lt_or_ge i w with q | q
      · exact q
      · rw [Nat.testBit_lt_two_pow (Nat.lt_of_lt_of_le hk (Nat.pow_le_pow_right (by decide) q))] at h
        cases h
    constructor
    · intro q i h
      have := q i h
      rw [if_neg (Nat.not_lt_zero i)] at this
      rw [if_pos (hi i h)]
      exact this
    · intro q i h
      have := q i h
      rw [if_pos (hi i h)] at this
      rw [if_neg (Nat.not_lt_zero i)]
      exact this
  exact ⟨fun q => (hR k hk).1 (e.mp q), fun q => (hR k hk).2 (fun z => q (e.mpr z))⟩
theorem pv_zero (ho : Nat → Nat → Bool) (x y : Nat) : pv_good ho x y 0 := fun i h => by rw [Nat.zero_testBit] at h; cases h
theorem pv_all {w h : Nat} {ho : Nat → Nat → Bool} : ∀ y, y ≤ h → pv_R w ho 0 y (dk_all w h ho y) (mo_all w h ho y)
  | 0, _ => fun k _ => ⟨fun _ => rfl, fun q => by
      show (if k = 0 then (1 : Int64) else 0) = 0
      rw [if_neg (fun e => q (by rw [e]; exact pv_zero ho 0 0))]⟩
  | y + 1, hn => pv_next (pv_row hn (pv_all y (Nat.le_of_succ_le hn)) w (Nat.le_refl w))
/-- THE LAW of count -/
theorem pv_cnt (w h : Nat) (ho : Nat → Nat → Bool) : dk_cnt w h ho = mo_cnt w h ho := ((pv_all (w := w) (ho := ho) h (Nat.le_refl h)) 0 (Nat.two_pow_pos w)).1 (pv_zero ho 0 h)
/-! sums over the board -/
def dk_term (ho : Nat → Nat → Bool) (odd : Int32) (x y : Nat) : Int32 := if ho x y = true then 0 else if (x + y) % 2 = 0 then 1 else odd
def dk_sum (w h : Nat) (ho : Nat → Nat → Bool) (odd : Int32) : Int32 := l_sum (fun x => l_sum (fun y => dk_term ho odd x y) h) w
def mo_sum (w h : Nat) (ho : Nat → Nat → Bool) (odd : Int32) : Int32 := l_sum (fun y => l_sum (fun x => dk_term ho odd x y) w) h
theorem pv_sadd (a b : Nat → Int32) : ∀ n, l_sum (fun k => a k + b k) n = l_sum a n + l_sum b n
  | 0 => by
    show (0 : Int32) = 0 + 0
    decide
  | n + 1 => by
    show l_sum (fun k => a k + b k) n + (a n + b n) = (l_sum a n + a n) + (l_sum b n + b n)
    rw [pv_sadd a b n]
    grind
theorem pv_szero : ∀ n, l_sum (fun _ => 0) n = 0
  | 0 => rfl
  | n + 1 => by
    show l_sum (fun _ => 0) n + 0 = 0
    rw [pv_szero n]
    decide
theorem pv_swap (F : Nat → Nat → Int32) (h : Nat) : ∀ w, l_sum (fun x => l_sum (fun y => F x y) h) w = l_sum (fun y => l_sum (fun x => F x y) w) h
  | 0 => (pv_szero h).symm
  | w + 1 => by
    show l_sum (fun x => l_sum (fun y => F x y) h) w + l_sum (fun y => F w y) h = l_sum (fun y => l_sum (fun x => F x y) w + F w y) h
    rw [pv_sadd, pv_swap F h w]
/-- THE LAW of cells and surplus -/
theorem pv_sum (w h : Nat) (ho : Nat → Nat → Bool) (odd : Int32) : dk_sum w h ho odd = mo_sum w h ho odd := pv_swap _ h w
/-! the machine's numbers: bits of a set below 64, holes of a row as bits -/
theorem dk_shl : ∀ x, x < 8 → (1 : Int32) <<< (nI x &&& 31) = nI (2 ^ x) := by decide +kernel
theorem dk_shl1 : ∀ x, x < 7 → nI (2 ^ x) <<< ((1 : Int32) &&& 31) = nI (2 ^ (x + 1)) := by decide +kernel
theorem dk_and : ∀ k, k < 64 → ∀ x, x < 8 → (nI k &&& nI (2 ^ x) = 0 ↔ k.testBit x = false) := by decide +kernel
theorem dk_clr : ∀ k, k < 64 → ∀ x, x < 6 → k.testBit x = true → nI k &&& (nI (2 ^ x) ^^^ (-1)) = nI (k ^^^ 2 ^ x) := by decide +kernel
theorem dk_or : ∀ k, k < 64 → ∀ x, x < 6 → nI k ||| nI (2 ^ x) = nI (k ||| 2 ^ x) := by decide +kernel
theorem dk_bit : ∀ k, k < 64 → ∀ x, x < 8 → (nI k >>> (nI x &&& 31)) &&& 1 = dk_b (k.testBit x) := by decide +kernel
theorem dk_par : ∀ k, k < 12 → (nI k &&& 1 = 0 ↔ k % 2 = 0) := by decide +kernel
theorem dk_par2 : ∀ k, k < 12 → (nI k - nI k / 2 * 2 = 0 ↔ k % 2 = 0) := by decide +kernel
theorem dk_xlt {k x : Nat} (hk : k < 64) (hx : x < 6) : k ^^^ 2 ^ x < 64 := Nat.xor_lt_two_pow (n := 6) hk (Nat.pow_lt_pow_right (by decide) hx)
theorem dk_olt {k x : Nat} (hk : k < 64) (hx : x < 6) : k ||| 2 ^ x < 64 := Nat.or_lt_two_pow (n := 6) hk (Nat.pow_lt_pow_right (by decide) hx)
theorem dk_pw {w : Nat} (hw : w ≤ 6) : 2 ^ w ≤ 64 := Nat.pow_le_pow_right (n := 2) (by decide) hw
theorem dk_below (v : Int32) {n : Nat} (h0 : 0 < n) (h6 : n ≤ 6) : (v &&& 2147483647) - (v &&& 2147483647) / nI n * nI n = nI (dk_bl v n) := by
  rw [pk_and v 31 (by decide)]
  exact pk_rem (Nat.mod_lt _ (by decide)) h0 (by omega)
theorem dk_bl_lt (v : Int32) {n : Nat} (h0 : 0 < n) : dk_bl v n < n := Nat.mod_lt _ h0
def mo_r (b0 b1 b2 b3 b4 b5 : Bool) : Nat := b0.toNat + 2 * b1.toNat + 4 * b2.toNat + 8 * b3.toNat + 16 * b4.toNat + 32 * b5.toNat
def mo_hb (ho : Nat → Nat → Bool) (q : Nat) : Int32 := nI (mo_r (ho 0 q) (ho 1 q) (ho 2 q) (ho 3 q) (ho 4 q) (ho 5 q))
theorem mo_bit0 (b0 b1 b2 b3 b4 b5 : Bool) : (nI (mo_r b0 b1 b2 b3 b4 b5) >>> (nI 0 &&& 31)) &&& 1 = dk_b b0 := by revert b0 b1 b2 b3 b4 b5; decide +kernel
theorem mo_bit1 (b0 b1 b2 b3 b4 b5 : Bool) : (nI (mo_r b0 b1 b2 b3 b4 b5) >>> (nI 1 &&& 31)) &&& 1 = dk_b b1 := by revert b0 b1 b2 b3 b4 b5; decide +kernel
theorem mo_bit2 (b0 b1 b2 b3 b4 b5 : Bool) : (nI (mo_r b0 b1 b2 b3 b4 b5) >>> (nI 2 &&& 31)) &&& 1 = dk_b b2 := by revert b0 b1 b2 b3 b4 b5; decide +kernel
theorem mo_bit3 (b0 b1 b2 b3 b4 b5 : Bool) : (nI (mo_r b0 b1 b2 b3 b4 b5) >>> (nI 3 &&& 31)) &&& 1 = dk_b b3 := by revert b0 b1 b2 b3 b4 b5; decide +kernel
theorem mo_bit4 (b0 b1 b2 b3 b4 b5 : Bool) : (nI (mo_r b0 b1 b2 b3 b4 b5) >>> (nI 4 &&& 31)) &&& 1 = dk_b b4 := by revert b0 b1 b2 b3 b4 b5; decide +kernel
theorem mo_bit5 (b0 b1 b2 b3 b4 b5 : Bool) : (nI (mo_r b0 b1 b2 b3 b4 b5) >>> (nI 5 &&& 31)) &&& 1 = dk_b b5 := by revert b0 b1 b2 b3 b4 b5; decide +kernel
/-- hole[q] >> x & 1 -/
theorem mo_bit (ho : Nat → Nat → Bool) (q : Nat) {x : Nat} (hx : x < 6) : (mo_hb ho q >>> (nI x &&& 31)) &&& 1 = dk_b (ho x q) := by
  rcases (show x = 0 ∨ x = 1 ∨ x = 2 ∨ x = 3 ∨ x = 4 ∨ x = 5 by omega) with rfl | rfl | rfl | rfl | rfl | rfl
  · exact mo_bit0 _ _ _ _ _ _
  · exact mo_bit1 _ _ _ _ _ _
  · exact mo_bit2 _ _ _ _ _ _
  · exact mo_bit3 _ _ _ _ _ _
  · exact mo_bit4 _ _ _ _ _ _
  · exact mo_bit5 _ _ _ _ _ _
theorem mo_fl0 (b0 b1 b2 b3 b4 b5 : Bool) : nI (mo_r b0 b1 b2 b3 b4 b5) ^^^ nI (2 ^ 0) = nI (mo_r (!b0) b1 b2 b3 b4 b5) := by revert b0 b1 b2 b3 b4 b5; decide +kernel
theorem mo_fl1 (b0 b1 b2 b3 b4 b5 : Bool) : nI (mo_r b0 b1 b2 b3 b4 b5) ^^^ nI (2 ^ 1) = nI (mo_r b0 (!b1) b2 b3 b4 b5) := by revert b0 b1 b2 b3 b4 b5; decide +kernel
theorem mo_fl2 (b0 b1 b2 b3 b4 b5 : Bool) : nI (mo_r b0 b1 b2 b3 b4 b5) ^^^ nI (2 ^ 2) = nI (mo_r b0 b1 (!b2) b3 b4 b5) := by revert b0 b1 b2 b3 b4 b5; decide +kernel
theorem mo_fl3 (b0 b1 b2 b3 b4 b5 : Bool) : nI (mo_r b0 b1 b2 b3 b4 b5) ^^^ nI (2 ^ 3) = nI (mo_r b0 b1 b2 (!b3) b4 b5) := by revert b0 b1 b2 b3 b4 b5; decide +kernel
theorem mo_fl4 (b0 b1 b2 b3 b4 b5 : Bool) : nI (mo_r b0 b1 b2 b3 b4 b5) ^^^ nI (2 ^ 4) = nI (mo_r b0 b1 b2 b3 (!b4) b5) := by revert b0 b1 b2 b3 b4 b5; decide +kernel
theorem mo_fl5 (b0 b1 b2 b3 b4 b5 : Bool) : nI (mo_r b0 b1 b2 b3 b4 b5) ^^^ nI (2 ^ 5) = nI (mo_r b0 b1 b2 b3 b4 (!b5)) := by revert b0 b1 b2 b3 b4 b5; decide +kernel
/-- hole[q] ^ 1 << x -/
theorem mo_flip (ho : Nat → Nat → Bool) (q : Nat) {x : Nat} (hx : x < 6) : mo_hb ho q ^^^ nI (2 ^ x) = mo_hb (dk_put ho x q (!(ho x q))) q := by
  rcases (show x = 0 ∨ x = 1 ∨ x = 2 ∨ x = 3 ∨ x = 4 ∨ x = 5 by omega) with rfl | rfl | rfl | rfl | rfl | rfl
  · simpa [mo_hb, dk_put] using mo_fl0 (ho 0 q) (ho 1 q) (ho 2 q) (ho 3 q) (ho 4 q) (ho 5 q)
  · simpa [mo_hb, dk_put] using mo_fl1 (ho 0 q) (ho 1 q) (ho 2 q) (ho 3 q) (ho 4 q) (ho 5 q)
  · simpa [mo_hb, dk_put] using mo_fl2 (ho 0 q) (ho 1 q) (ho 2 q) (ho 3 q) (ho 4 q) (ho 5 q)
  · simpa [mo_hb, dk_put] using mo_fl3 (ho 0 q) (ho 1 q) (ho 2 q) (ho 3 q) (ho 4 q) (ho 5 q)
  · simpa [mo_hb, dk_put] using mo_fl4 (ho 0 q) (ho 1 q) (ho 2 q) (ho 3 q) (ho 4 q) (ho 5 q)
  · simpa [mo_hb, dk_put] using mo_fl5 (ho 0 q) (ho 1 q) (ho 2 q) (ho 3 q) (ho 4 q) (ho 5 q)
theorem mo_turn (ho : Nat → Nat → Bool) (q : Nat) {x : Nat} (hx : x < 6) : upd (mo_hb ho) q (mo_hb ho q ^^^ nI (2 ^ x)) = mo_hb (dk_put ho x q (!(ho x q))) := by
  funext j
  by_cases e : j = q
  · subst e
    rw [pk_us]
    exact mo_flip ho j hx
  · rw [pk_un e]
    simp [mo_hb, dk_put, e]
theorem mo_none : mo_hb (fun _ _ => false) = fun _ => 0 := by
  funext q
  show nI (mo_r false false false false false false) = 0
  decide +kernel
end
section
/-! WORLDS of the two classes, and rows for their cells. Class numbers: 0 the class, 1 the reference -/
abbrev vwCl : List vw_C := [(RX0, TX0, 5), (RX1, TX1, 5)]
/-- the class's array types: boolean[][], long[], boolean[] -/
abbrev dk_T (cA cJ cZ : ClassId) : List (ClassId × FieldType) := [(cA, .array .boolean), (cJ, .long), (cZ, .boolean)]
/-- the class's cells: the object at o, its grid at oh with the six columns ya 0 .. ya 5, its two arrays of numbers at wa and ta -/
abbrev dk_W (cA cJ cZ : ClassId) (o oh wa ta : Nat) (ya : Nat → Nat) (w h : Nat) (ho : Nat → Nat → Bool) (fw ft : Nat → Int64) : va_W := [(o, .inr (0, [.ref oh, .ref wa, .ref ta, .int (nI w), .int (nI h)])), (oh, .inl (cA, 6, .inr (.inr (.inr (.inr (fun j => some (ya j))))))), (wa, .inl (cJ, 64, .inr (.inl fw))), (ta, .inl (cJ, 64, .inr (.inl ft))), (ya 0, .inl (cZ, 6, .inl (fun j => dk_b (ho 0 j)))), (ya 1, .inl (cZ, 6, .inl (fun j => dk_b (ho 1 j)))), (ya 2, .inl (cZ, 6, .inl (fun j => dk_b (ho 2 j)))), (ya 3, .inl (cZ, 6, .inl (fun j => dk_b (ho 3 j)))), (ya 4, .inl (cZ, 6, .inl (fun j => dk_b (ho 4 j)))), (ya 5, .inl (cZ, 6, .inl (fun j => dk_b (ho 5 j))))]
/-- the reference's array types: int[], long[] -/
abbrev mo_T (cI cJ : ClassId) : List (ClassId × FieldType) := [(cI, .int), (cJ, .long)]
/-- the reference's cells: the object at o, its rows of bits at ha, its two arrays of numbers at wa and na -/
abbrev mo_W (cI cJ : ClassId) (o ha wa na : Nat) (w h : Nat) (hb : Nat → Int32) (fw fn : Nat → Int64) : va_W := [(o, .inr (1, [.ref ha, .int (nI w), .int (nI h), .ref wa, .ref na])), (ha, .inl (cI, 6, .inl hb)), (wa, .inl (cJ, 64, .inr (.inl fw))), (na, .inl (cJ, 64, .inr (.inl fn)))]
theorem dk_cellL (cA : ClassId) {n : Nat} {f g : Nat → Int64} (h : ∀ j, j < n → f j = g j) : vp_cell cA (n, .inr (.inl f)) = vp_cell cA (n, .inr (.inl g)) := by
  rw [vp_cell_l, vp_cell_l]
  have e : (fun j : Fin n => Value.long (f j.val)) = (fun j : Fin n => Value.long (g j.val)) := funext fun j => by rw [h j.val j.isLt]
  unfold arrV
  rw [e]
theorem dk_cellI (cA : ClassId) {n : Nat} {f g : Nat → Int32} (h : ∀ j, j < n → f j = g j) : vp_cell cA (n, .inl f) = vp_cell cA (n, .inl g) := by
  rw [vp_cell_i, vp_cell_i]
  have e : (fun j : Fin n => Value.int (f j.val)) = (fun j : Fin n => Value.int (g j.val)) := funext fun j => by rw [h j.val j.isLt]
  unfold arrV
  rw [e]
/-- apartness asks of the addresses alone -/
theorem dk_Dsame {A : Nat → Prop} {ws ws' : va_W} (h : va_D A ws) (e : ws'.map (fun q => q.1) = ws.map (fun q => q.1)) : va_D A ws' := by
  have key : ∀ (k : Nat) (q : Nat × va_E), ws'[k]? = some q → ∃ q0, ws[k]? = some q0 ∧ q0.1 = q.1 := by
    intro k q hk
    have h1 : (ws'.map (fun q => q.1))[k]? = some q.1 := by rw [List.getElem?_map, hk]; rfl
    rw [e, List.getElem?_map] at h1
    cases h2 : ws[k]? with
    | none => rw [h2] at h1; cases h1
    | some q0 => rw [h2] at h1; exact ⟨q0, rfl, Option.some.inj h1⟩
  refine ⟨fun i j a b hi hj hab => ?_, fun k q hk => ?_⟩
  · obtain ⟨a0, h1, h2⟩ := key i a hi
    obtain ⟨b0, h3, h4⟩ := key j b hj
    exact h.1 i j a0 b0 h1 h3 (h2.trans (hab.trans h4.symm))
  · obtain ⟨q0, h1, h2⟩ := key k q hk
    rw [← h2]
    exact h.2 k q0 h1
/-- an array of longs by another function that is the same below its length -/
theorem dk_reL {D : va_G} {cl : List vw_C} {ws : va_W} {H : Heap} {A : Nat → Prop} (hP : va_P D cl ws H) (hD : va_D A ws) (q0 : Nat) {a n : Nat} {cA : ClassId} {f g : Nat → Int64} (hp : ws[q0]? = some (a, .inl (cA, n, .inr (.inl f)))) (hg : ∀ j, j < n → f j = g j) : va_P D cl (ws.set q0 (a, .inl (cA, n, .inr (.inl g)))) H := by
  refine hP.set hD hp ?_ (fun _ _ => rfl)
  show H[a]? = some (vp_cell cA (n, .inr (.inl g)))
  rw [← dk_cellL cA hg]
  exact hP q0 _ hp
theorem dk_reI {D : va_G} {cl : List vw_C} {ws : va_W} {H : Heap} {A : Nat → Prop} (hP : va_P D cl ws H) (hD : va_D A ws) (q0 : Nat) {a n : Nat} {cA : ClassId} {f g : Nat → Int32} (hp : ws[q0]? = some (a, .inl (cA, n, .inl f))) (hg : ∀ j, j < n → f j = g j) : va_P D cl (ws.set q0 (a, .inl (cA, n, .inl g))) H := by
  refine hP.set hD hp ?_ (fun _ _ => rfl)
  show H[a]? = some (vp_cell cA (n, .inl g))
  rw [← dk_cellI cA hg]
  exact hP q0 _ hp
/-- the holes by another function that is the same on the grid -/
theorem dk_reH {D : va_G} {cl : List vw_C} {H : Heap} {A : Nat → Prop} {cA cJ cZ : ClassId} {o oh wa ta : Nat} {ya : Nat → Nat} {w h : Nat} {ho ho' : Nat → Nat → Bool} {fw ft : Nat → Int64} (hP : va_P D cl (dk_W cA cJ cZ o oh wa ta ya w h ho fw ft) H) (hD : va_D A (dk_W cA cJ cZ o oh wa ta ya w h ho fw ft)) (e : ∀ i, i < 6 → ∀ j, j < 6 → ho i j = ho' i j) :
    va_P D cl (dk_W cA cJ cZ o oh wa ta ya w h ho' fw ft) H ∧ va_D A (dk_W cA cJ cZ o oh wa ta ya w h ho' fw ft) := by
  refine ⟨?_, dk_Dsame hD rfl⟩
  have g : ∀ i, i < 6 → ∀ j, j < 6 → dk_b (ho i j) = dk_b (ho' i j) := fun i hi j hj => by rw [e i hi j hj]
  have h1 := dk_reI hP hD 4 rfl (g 0 (by decide))
  have d1 := hD.set (p := 4) (e := .inl (cZ, 6, .inl (fun j => dk_b (ho' 0 j)))) rfl
  have h2 := dk_reI h1 d1 5 rfl (g 1 (by decide))
  have d2 := d1.set (p := 5) (e := .inl (cZ, 6, .inl (fun j => dk_b (ho' 1 j)))) rfl
  have h3 := dk_reI h2 d2 6 rfl (g 2 (by decide))
  have d3 := d2.set (p := 6) (e := .inl (cZ, 6, .inl (fun j => dk_b (ho' 2 j)))) rfl
  have h4 := dk_reI h3 d3 7 rfl (g 3 (by decide))
  have d4 := d3.set (p := 7) (e := .inl (cZ, 6, .inl (fun j => dk_b (ho' 3 j)))) rfl
  have h5 := dk_reI h4 d4 8 rfl (g 4 (by decide))
  have d5 := d4.set (p := 8) (e := .inl (cZ, 6, .inl (fun j => dk_b (ho' 4 j)))) rfl
  exact dk_reI h5 d5 9 rfl (g 5 (by decide))
/-- a column of the grid, by its number -/
theorem dk_at (cA cJ cZ : ClassId) (o oh wa ta : Nat) (ya : Nat → Nat) (w h : Nat) (ho : Nat → Nat → Bool) (fw ft : Nat → Int64) {x : Nat} (hx : x < 6) : (dk_W cA cJ cZ o oh wa ta ya w h ho fw ft)[4 + x]? = some (ya x, .inl (cZ, 6, .inl (fun j => dk_b (ho x j)))) := by
  rcases (show x = 0 ∨ x = 1 ∨ x = 2 ∨ x = 3 ∨ x = 4 ∨ x = 5 by omega) with rfl | rfl | rfl | rfl | rfl | rfl <;> rfl
theorem dk_narb (b : Bool) : vp_nar .boolean (dk_b b) = dk_b b := by cases b <;> decide +kernel
theorem dk_updb (ho : Nat → Nat → Bool) (x j : Nat) (b : Bool) : upd (fun k => dk_b (ho x k)) j (dk_b b) = fun k => dk_b (dk_put ho x j b x k) := by
  funext k
  by_cases e : k = j
  · subst e
    rw [pk_us, dk_put_self]
  · rw [pk_un e, dk_put_ne _ _ (fun q => e q.2)]
theorem dk_same (ho : Nat → Nat → Bool) {x i j : Nat} (b : Bool) (h : i ≠ x) : (fun k => dk_b (dk_put ho x j b i k)) = fun k => dk_b (ho i k) := by
  funext k
  rw [dk_put_ne _ _ (fun q => h q.1)]
/-- a column is written -/
theorem dk_setc (cA cJ cZ : ClassId) (o oh wa ta : Nat) (ya : Nat → Nat) (w h : Nat) (ho : Nat → Nat → Bool) (fw ft : Nat → Int64) {x : Nat} (hx : x < 6) (j : Nat) (b : Bool) : (dk_W cA cJ cZ o oh wa ta ya w h ho fw ft).set (4 + x) (ya x, .inl (cZ, 6, .inl (upd (fun k => dk_b (ho x k)) j (dk_b b)))) = dk_W cA cJ cZ o oh wa ta ya w h (dk_put ho x j b) fw ft := by
  rw [dk_updb]
  rcases (show x = 0 ∨ x = 1 ∨ x = 2 ∨ x = 3 ∨ x = 4 ∨ x = 5 by omega) with rfl | rfl | rfl | rfl | rfl | rfl
  · rw [dk_W, dk_W, dk_same ho (x := 0) (i := 1) b (by decide), dk_same ho (x := 0) (i := 2) b (by decide), dk_same ho (x := 0) (i := 3) b (by decide), dk_same ho (x := 0) (i := 4) b (by decide), dk_same ho (x := 0) (i := 5) b (by decide)]; rfl
  · rw [dk_W, dk_W, dk_same ho (x := 1) (i := 0) b (by decide), dk_same ho (x := 1) (i := 2) b (by decide), dk_same ho (x := 1) (i := 3) b (by decide), dk_same ho (x := 1) (i := 4) b (by decide), dk_same ho (x := 1) (i := 5) b (by decide)]; rfl
  · rw [dk_W, dk_W, dk_same ho (x := 2) (i := 0) b (by decide), dk_same ho (x := 2) (i := 1) b (by decide), dk_same ho (x := 2) (i := 3) b (by decide), dk_same ho (x := 2) (i := 4) b (by decide), dk_same ho (x := 2) (i := 5) b (by decide)]; rfl
  · rw [dk_W, dk_W, dk_same ho (x := 3) (i := 0) b (by decide), dk_same ho (x := 3) (i := 1) b (by decide), dk_same ho (x := 3) (i := 2) b (by decide), dk_same ho (x := 3) (i := 4) b (by decide), dk_same ho (x := 3) (i := 5) b (by decide)]; rfl
  · rw [dk_W, dk_W, dk_same ho (x := 4) (i := 0) b (by decide), dk_same ho (x := 4) (i := 1) b (by decide), dk_same ho (x := 4) (i := 2) b (by decide), dk_same ho (x := 4) (i := 3) b (by decide), dk_same ho (x := 4) (i := 5) b (by decide)]; rfl
  · rw [dk_W, dk_W, dk_same ho (x := 5) (i := 0) b (by decide), dk_same ho (x := 5) (i := 1) b (by decide), dk_same ho (x := 5) (i := 2) b (by decide), dk_same ho (x := 5) (i := 3) b (by decide), dk_same ho (x := 5) (i := 4) b (by decide)]; rfl
section DKR
variable {p : Program} {l : Launch} {e : Env} {R : Room} {s : State} {m : MethodId} {args : Array Value} {below : List Frame} {meth : Method} {c : Code} {H : Heap} {locs : List Loc} {cells slots : Nat} {Q : State → Prop}
variable {cc : ByteArray} {pc : Nat} {ls : Array Slot} {rest : List Value} {D : va_G} {cl : List vw_C} {A : Nat → Prop} {a : Nat} {tys : List (ClassId × FieldType)} {ws : va_W} {H0 : Heap} {dC : Nat → ClassId} {dI : Nat → Nat → Nat}
/-- the number on top by another name -/
theorem dk_top {x x' : Int32} (h : x = x') (k : W p l e R s m args below meth c H locs cells slots Q (F0 m pc ls (.int x' :: rest))) : W p l e R s m args below meth c H locs cells slots Q (F0 m pc ls (.int x :: rest)) := by
  subst h
  exact k
theorem dk_topl {x x' : Int64} (h : x = x') (k : W p l e R s m args below meth c H locs cells slots Q (F0 m pc ls (.long x' :: rest))) : W p l e R s m args below meth c H locs cells slots Q (F0 m pc ls (.long x :: rest)) := by
  subst h
  exact k
theorem dk_lald (hx : p.tables.exec = Jvm.exec) (hb : c.code = cc) (hK : va_K D cl tys s) (hP : va_P D cl ws H) (q0 t0 : Nat) {cA : ClassId} {n : Nat} {f : Nat → Int64} (ha : ws[q0]? = some (a, .inl (cA, n, .inr (.inl f)))) (ht : tys[t0]? = some (cA, .long)) {i : Nat} (hi : i < n) (hn : n < 2 ^ 31) (hdg : decode cc pc = .ok (.laload, 1))
    (kk : W p l e R s m args below meth c H locs cells slots Q (F0 m (pc + 1) ls (.long (f i) :: rest))) : W p l e R s m args below meth c H locs cells slots Q (F0 m pc ls (.int (nI i) :: .ref a :: rest)) :=
  va_lald hx hb hK hP q0 t0 ha ht (vp_in_nI hi hn) hdg (by rw [nI_clamp (Nat.lt_trans hi hn)]; exact kk)
theorem dk_last (hx : p.tables.exec = Jvm.exec) (hb : c.code = cc) (hK : va_K D cl tys s) (hP : va_P D cl ws H) (hD : va_D A ws) (hS : va_S A H0 H locs) (q0 t0 : Nat) {cA : ClassId} {n : Nat} {f : Nat → Int64} (ha : ws[q0]? = some (a, .inl (cA, n, .inr (.inl f)))) (ht : tys[t0]? = some (cA, .long)) {i : Nat} {v : Int64} (hi : i < n) (hn : n < 2 ^ 31) (hdg : decode cc pc = .ok (.lastore, 1))
    (kk : ∀ (H1 : Heap) (locs1 : List Loc), va_P D cl (ws.set q0 (a, .inl (cA, n, .inr (.inl (vp_updL f i v))))) H1 → va_D A (ws.set q0 (a, .inl (cA, n, .inr (.inl (vp_updL f i v))))) → va_S A H0 H1 locs1 → W p l e R s m args below meth c H1 locs1 cells slots Q (F0 m (pc + 1) ls rest)) : W p l e R s m args below meth c H locs cells slots Q (F0 m pc ls (.long v :: .int (nI i) :: .ref a :: rest)) :=
  va_last hx hb hK hP hD hS q0 t0 ha ht (vp_in_nI hi hn) hdg (fun H1 locs1 h1 h2 h3 => by rw [nI_clamp (Nat.lt_trans hi hn)] at h1 h2; exact kk H1 locs1 h1 h2 h3)
theorem dk_iald (hx : p.tables.exec = Jvm.exec) (hb : c.code = cc) (hK : va_K D cl tys s) (hP : va_P D cl ws H) (q0 t0 : Nat) {cA : ClassId} {n : Nat} {f : Nat → Int32} (ha : ws[q0]? = some (a, .inl (cA, n, .inl f))) (ht : tys[t0]? = some (cA, .int)) {i : Nat} (hi : i < n) (hn : n < 2 ^ 31) (hdg : decode cc pc = .ok (.iaload, 1))
    (kk : W p l e R s m args below meth c H locs cells slots Q (F0 m (pc + 1) ls (.int (f i) :: rest))) : W p l e R s m args below meth c H locs cells slots Q (F0 m pc ls (.int (nI i) :: .ref a :: rest)) :=
  va_iald hx hb hK hP q0 t0 ha ht (vp_in_nI hi hn) hdg (by rw [nI_clamp (Nat.lt_trans hi hn)]; exact kk)
theorem dk_iast (hx : p.tables.exec = Jvm.exec) (hb : c.code = cc) (hK : va_K D cl tys s) (hP : va_P D cl ws H) (hD : va_D A ws) (hS : va_S A H0 H locs) (q0 t0 : Nat) {cA : ClassId} {n : Nat} {f : Nat → Int32} (ha : ws[q0]? = some (a, .inl (cA, n, .inl f))) (ht : tys[t0]? = some (cA, .int)) {i : Nat} {v : Int32} (hi : i < n) (hn : n < 2 ^ 31) (hdg : decode cc pc = .ok (.iastore, 1))
    (kk : ∀ (H1 : Heap) (locs1 : List Loc), va_P D cl (ws.set q0 (a, .inl (cA, n, .inl (upd f i v)))) H1 → va_D A (ws.set q0 (a, .inl (cA, n, .inl (upd f i v)))) → va_S A H0 H1 locs1 → W p l e R s m args below meth c H1 locs1 cells slots Q (F0 m (pc + 1) ls rest)) : W p l e R s m args below meth c H locs cells slots Q (F0 m pc ls (.int v :: .int (nI i) :: .ref a :: rest)) :=
  va_iast hx hb hK hP hD hS q0 t0 ha ht (vp_in_nI hi hn) hdg (fun H1 locs1 h1 h2 h3 => by rw [nI_clamp (Nat.lt_trans hi hn)] at h1 h2; exact kk H1 locs1 h1 h2 h3)
/-- aaload of an array of arrays -/
theorem dk_aald (hx : p.tables.exec = Jvm.exec) (hb : c.code = cc) (hK : va_K D cl tys s) (hP : va_P D cl ws H) (q0 t0 : Nat) {cA : ClassId} {ty : FieldType} {n b : Nat} {f : Nat → Option Nat} (ha : ws[q0]? = some (a, .inl (cA, n, .inr (.inr (.inr (.inr f)))))) (ht : tys[t0]? = some (cA, ty)) (hty : ty.isReference = true) {i : Nat} (hi : i < n) (hn : n < 2 ^ 31) (hf : f i = some b) (hdg : decode cc pc = .ok (.aaload, 1))
    (kk : W p l e R s m args below meth c H locs cells slots Q (F0 m (pc + 1) ls (.ref b :: rest))) : W p l e R s m args below meth c H locs cells slots Q (F0 m pc ls (.int (nI i) :: .ref a :: rest)) :=
  W.aald (v := .ref b) (ty := ty) hx hb (hP q0 _ ha) ((hK.2 t0 _ ht).1 n (fun j => va_rf (f j))) hty (fun q => by cases q) (by show ¬ (nI i < 0 ∨ (arrV _ _ _).slots.size ≤ _); rw [arrV_size]; exact vp_in_nI hi hn) (by show (arrV _ _ _).slots[_]? = _; rw [nI_clamp (Nat.lt_trans hi hn), arrV_read _ _ hi, hf]; rfl) rfl rfl hdg kk
/-! fields of the class -/
section DKG
variable {o : Nat} {v0 v1 v2 v3 v4 : Value} {wr : va_W}
theorem dk_g0 (hx : p.tables.exec = Jvm.exec) (hb : c.code = cc) (hts : ∀ w ∈ lw_all, w.before args s = true) (hown : s.vm.findClass RX0 = some m.cls) (hK : va_K (dC, dI) vwCl tys s) (hP : va_P (dC, dI) vwCl ((o, .inr (0, [v0, v1, v2, v3, v4])) :: wr) H) (hdg : decode cc pc = .ok (.getfield 11, 3))
    (kk : W p l e R s m args below meth c H locs cells slots Q (F0 m (pc + 3) ls (v0 :: rest))) : W p l e R s m args below meth c H locs cells slots Q (F0 m pc ls (.ref o :: rest)) :=
  va_get (D := (dC, dI)) (ci := 0) (v := v0) (C := RX0) (T := TX0) (N := 5) hx hb hts in_X0 hown hK hP 0 rfl rfl 0 (by decide) (hts _ q16) (fun _ h9 => h9) rfl hdg kk
theorem dk_g1 (hx : p.tables.exec = Jvm.exec) (hb : c.code = cc) (hts : ∀ w ∈ lw_all, w.before args s = true) (hown : s.vm.findClass RX0 = some m.cls) (hK : va_K (dC, dI) vwCl tys s) (hP : va_P (dC, dI) vwCl ((o, .inr (0, [v0, v1, v2, v3, v4])) :: wr) H) (hdg : decode cc pc = .ok (.getfield 14, 3))
    (kk : W p l e R s m args below meth c H locs cells slots Q (F0 m (pc + 3) ls (v1 :: rest))) : W p l e R s m args below meth c H locs cells slots Q (F0 m pc ls (.ref o :: rest)) :=
  va_get (D := (dC, dI)) (ci := 0) (v := v1) (C := RX0) (T := TX0) (N := 5) hx hb hts in_X0 hown hK hP 0 rfl rfl 1 (by decide) (hts _ q17) (fun _ h9 => h9) rfl hdg kk
theorem dk_g2 (hx : p.tables.exec = Jvm.exec) (hb : c.code = cc) (hts : ∀ w ∈ lw_all, w.before args s = true) (hown : s.vm.findClass RX0 = some m.cls) (hK : va_K (dC, dI) vwCl tys s) (hP : va_P (dC, dI) vwCl ((o, .inr (0, [v0, v1, v2, v3, v4])) :: wr) H) (hdg : decode cc pc = .ok (.getfield 18, 3))
    (kk : W p l e R s m args below meth c H locs cells slots Q (F0 m (pc + 3) ls (v2 :: rest))) : W p l e R s m args below meth c H locs cells slots Q (F0 m pc ls (.ref o :: rest)) :=
  va_get (D := (dC, dI)) (ci := 0) (v := v2) (C := RX0) (T := TX0) (N := 5) hx hb hts in_X0 hown hK hP 0 rfl rfl 2 (by decide) (hts _ q18) (fun _ h9 => h9) rfl hdg kk
theorem dk_g3 (hx : p.tables.exec = Jvm.exec) (hb : c.code = cc) (hts : ∀ w ∈ lw_all, w.before args s = true) (hown : s.vm.findClass RX0 = some m.cls) (hK : va_K (dC, dI) vwCl tys s) (hP : va_P (dC, dI) vwCl ((o, .inr (0, [v0, v1, v2, v3, v4])) :: wr) H) (hdg : decode cc pc = .ok (.getfield 21, 3))
    (kk : W p l e R s m args below meth c H locs cells slots Q (F0 m (pc + 3) ls (v3 :: rest))) : W p l e R s m args below meth c H locs cells slots Q (F0 m pc ls (.ref o :: rest)) :=
  va_get (D := (dC, dI)) (ci := 0) (v := v3) (C := RX0) (T := TX0) (N := 5) hx hb hts in_X0 hown hK hP 0 rfl rfl 3 (by decide) (hts _ q19) (fun _ h9 => h9) rfl hdg kk
theorem dk_g4 (hx : p.tables.exec = Jvm.exec) (hb : c.code = cc) (hts : ∀ w ∈ lw_all, w.before args s = true) (hown : s.vm.findClass RX0 = some m.cls) (hK : va_K (dC, dI) vwCl tys s) (hP : va_P (dC, dI) vwCl ((o, .inr (0, [v0, v1, v2, v3, v4])) :: wr) H) (hdg : decode cc pc = .ok (.getfield 25, 3))
    (kk : W p l e R s m args below meth c H locs cells slots Q (F0 m (pc + 3) ls (v4 :: rest))) : W p l e R s m args below meth c H locs cells slots Q (F0 m pc ls (.ref o :: rest)) :=
  va_get (D := (dC, dI)) (ci := 0) (v := v4) (C := RX0) (T := TX0) (N := 5) hx hb hts in_X0 hown hK hP 0 rfl rfl 4 (by decide) (hts _ q20) (fun _ h9 => h9) rfl hdg kk
/-- fields of the reference -/
theorem mo_g0 (hx : p.tables.exec = Jvm.exec) (hb : c.code = cc) (hts : ∀ w ∈ lw_all, w.before args s = true) (hown : s.vm.findClass RX1 = some m.cls) (hK : va_K (dC, dI) vwCl tys s) (hP : va_P (dC, dI) vwCl ((o, .inr (1, [v0, v1, v2, v3, v4])) :: wr) H) (hdg : decode cc pc = .ok (.getfield 7, 3))
    (kk : W p l e R s m args below meth c H locs cells slots Q (F0 m (pc + 3) ls (v0 :: rest))) : W p l e R s m args below meth c H locs cells slots Q (F0 m pc ls (.ref o :: rest)) :=
  va_get (D := (dC, dI)) (ci := 1) (v := v0) (C := RX1) (T := TX1) (N := 5) hx hb hts in_X1 hown hK hP 0 rfl rfl 0 (by decide) (hts _ q76) (fun _ h9 => h9) rfl hdg kk
theorem mo_g1 (hx : p.tables.exec = Jvm.exec) (hb : c.code = cc) (hts : ∀ w ∈ lw_all, w.before args s = true) (hown : s.vm.findClass RX1 = some m.cls) (hK : va_K (dC, dI) vwCl tys s) (hP : va_P (dC, dI) vwCl ((o, .inr (1, [v0, v1, v2, v3, v4])) :: wr) H) (hdg : decode cc pc = .ok (.getfield 13, 3))
    (kk : W p l e R s m args below meth c H locs cells slots Q (F0 m (pc + 3) ls (v1 :: rest))) : W p l e R s m args below meth c H locs cells slots Q (F0 m pc ls (.ref o :: rest)) :=
  va_get (D := (dC, dI)) (ci := 1) (v := v1) (C := RX1) (T := TX1) (N := 5) hx hb hts in_X1 hown hK hP 0 rfl rfl 1 (by decide) (hts _ q77) (fun _ h9 => h9) rfl hdg kk
theorem mo_g2 (hx : p.tables.exec = Jvm.exec) (hb : c.code = cc) (hts : ∀ w ∈ lw_all, w.before args s = true) (hown : s.vm.findClass RX1 = some m.cls) (hK : va_K (dC, dI) vwCl tys s) (hP : va_P (dC, dI) vwCl ((o, .inr (1, [v0, v1, v2, v3, v4])) :: wr) H) (hdg : decode cc pc = .ok (.getfield 17, 3))
    (kk : W p l e R s m args below meth c H locs cells slots Q (F0 m (pc + 3) ls (v2 :: rest))) : W p l e R s m args below meth c H locs cells slots Q (F0 m pc ls (.ref o :: rest)) :=
  va_get (D := (dC, dI)) (ci := 1) (v := v2) (C := RX1) (T := TX1) (N := 5) hx hb hts in_X1 hown hK hP 0 rfl rfl 2 (by decide) (hts _ q78) (fun _ h9 => h9) rfl hdg kk
theorem mo_g3 (hx : p.tables.exec = Jvm.exec) (hb : c.code = cc) (hts : ∀ w ∈ lw_all, w.before args s = true) (hown : s.vm.findClass RX1 = some m.cls) (hK : va_K (dC, dI) vwCl tys s) (hP : va_P (dC, dI) vwCl ((o, .inr (1, [v0, v1, v2, v3, v4])) :: wr) H) (hdg : decode cc pc = .ok (.getfield 20, 3))
    (kk : W p l e R s m args below meth c H locs cells slots Q (F0 m (pc + 3) ls (v3 :: rest))) : W p l e R s m args below meth c H locs cells slots Q (F0 m pc ls (.ref o :: rest)) :=
  va_get (D := (dC, dI)) (ci := 1) (v := v3) (C := RX1) (T := TX1) (N := 5) hx hb hts in_X1 hown hK hP 0 rfl rfl 3 (by decide) (hts _ q79) (fun _ h9 => h9) rfl hdg kk
theorem mo_g4 (hx : p.tables.exec = Jvm.exec) (hb : c.code = cc) (hts : ∀ w ∈ lw_all, w.before args s = true) (hown : s.vm.findClass RX1 = some m.cls) (hK : va_K (dC, dI) vwCl tys s) (hP : va_P (dC, dI) vwCl ((o, .inr (1, [v0, v1, v2, v3, v4])) :: wr) H) (hdg : decode cc pc = .ok (.getfield 24, 3))
    (kk : W p l e R s m args below meth c H locs cells slots Q (F0 m (pc + 3) ls (v4 :: rest))) : W p l e R s m args below meth c H locs cells slots Q (F0 m pc ls (.ref o :: rest)) :=
  va_get (D := (dC, dI)) (ci := 1) (v := v4) (C := RX1) (T := TX1) (N := 5) hx hb hts in_X1 hown hK hP 0 rfl rfl 4 (by decide) (hts _ q80) (fun _ h9 => h9) rfl hdg kk
end DKG
/-! a hole is read, and written -/
section DKH
variable {cA cJ cZ : ClassId} {o oh wa ta : Nat} {ya : Nat → Nat} {w h : Nat} {ho : Nat → Nat → Bool} {fw ft : Nat → Int64}
theorem dk_hcol (hx : p.tables.exec = Jvm.exec) (hb : c.code = cc) (hK : va_K D cl (dk_T cA cJ cZ) s) (hP : va_P D cl (dk_W cA cJ cZ o oh wa ta ya w h ho fw ft) H) {i : Nat} (hi : i < 6) (hdg : decode cc pc = .ok (.aaload, 1))
    (kk : W p l e R s m args below meth c H locs cells slots Q (F0 m (pc + 1) ls (.ref (ya i) :: rest))) : W p l e R s m args below meth c H locs cells slots Q (F0 m pc ls (.int (nI i) :: .ref oh :: rest)) :=
  dk_aald (b := ya i) hx hb hK hP 1 0 rfl rfl rfl hi (by decide) rfl hdg kk
theorem dk_hget (hx : p.tables.exec = Jvm.exec) (hb : c.code = cc) (hK : va_K D cl (dk_T cA cJ cZ) s) (hP : va_P D cl (dk_W cA cJ cZ o oh wa ta ya w h ho fw ft) H) {i j : Nat} (hi : i < 6) (hj : j < 6) (hdg : decode cc pc = .ok (.baload, 1))
    (kk : W p l e R s m args below meth c H locs cells slots Q (F0 m (pc + 1) ls (.int (dk_b (ho i j)) :: rest))) : W p l e R s m args below meth c H locs cells slots Q (F0 m pc ls (.int (nI j) :: .ref (ya i) :: rest)) :=
  va_zald hx hb hK hP (4 + i) 2 (dk_at cA cJ cZ o oh wa ta ya w h ho fw ft hi) rfl (vp_in_nI hj (by decide)) hdg (by rw [nI_clamp (by omega)]; exact kk)
theorem dk_hput (hx : p.tables.exec = Jvm.exec) (hb : c.code = cc) (hK : va_K D cl (dk_T cA cJ cZ) s) (hP : va_P D cl (dk_W cA cJ cZ o oh wa ta ya w h ho fw ft) H) (hD : va_D A (dk_W cA cJ cZ o oh wa ta ya w h ho fw ft)) (hS : va_S A H0 H locs) {i j : Nat} {b : Bool} (hi : i < 6) (hj : j < 6) (hdg : decode cc pc = .ok (.bastore, 1))
    (kk : ∀ (H1 : Heap) (locs1 : List Loc), va_P D cl (dk_W cA cJ cZ o oh wa ta ya w h (dk_put ho i j b) fw ft) H1 → va_D A (dk_W cA cJ cZ o oh wa ta ya w h (dk_put ho i j b) fw ft) → va_S A H0 H1 locs1 → W p l e R s m args below meth c H1 locs1 cells slots Q (F0 m (pc + 1) ls rest)) : W p l e R s m args below meth c H locs cells slots Q (F0 m pc ls (.int (dk_b b) :: .int (nI j) :: .ref (ya i) :: rest)) :=
  va_zast hx hb hK hP hD hS (4 + i) 2 (dk_at cA cJ cZ o oh wa ta ya w h ho fw ft hi) rfl (vp_in_nI hj (by decide)) hdg (fun H1 locs1 h1 h2 h3 => by rw [nI_clamp (by omega), dk_narb, dk_setc cA cJ cZ o oh wa ta ya w h ho fw ft hi] at h1 h2; exact kk H1 locs1 h1 h2 h3)
end DKH
end DKR
end
section
/-! new boolean[6][6]: the row of multianewarray for this one grid. The outer array behind i rounds; a column; the state behind i rounds -/
def dk_mO (cA : ClassId) (h i : Nat) : Cell := arrV cA 6 (fun j => if j < i then .ref (h + 1 + j) else .null)
def dk_mI (cZ : ClassId) : Cell := arrV cZ 6 (fun _ => .int 0)
def dk_mS (T : State) (cA cZ : ClassId) : Nat → State
  | 0 => T.pushCell (dk_mO cA T.heap.size 0)
  | i + 1 => ((dk_mS T cA cZ i).pushCell (dk_mI cZ)).setCell T.heap.size (dk_mO cA T.heap.size (i + 1))
theorem dk_mO_next (cA : ClassId) (h i : Nat) : (dk_mO cA h i).setSlot i (.ref (h + 1 + i)) = dk_mO cA h (i + 1) := by
  unfold dk_mO
  rw [arrV_store]
  congr 1
  funext j
  unfold updV
  by_cases e : j = i
  · subst e
    rw [if_pos rfl, if_pos (Nat.lt_succ_self j)]
  · rw [if_neg e]
    show (if j < i then Value.ref (h + 1 + j) else .null) = _
    by_cases k : j < i
    · rw [if_pos k, if_pos (by omega)]
    · rw [if_neg k, if_neg (by omega)]
theorem dk_mO6 (cA : ClassId) (h : Nat) : dk_mO cA h 6 = arrV cA 6 (fun j => va_rf (some (h + 1 + j))) := by
  unfold dk_mO arrV
  have e : (fun j : Fin 6 => if j.val < 6 then Value.ref (h + 1 + j.val) else Value.null) = fun j : Fin 6 => va_rf (some (h + 1 + j.val)) := funext fun j => by rw [if_pos j.isLt]; rfl
  rw [e]
theorem dk_mS_heap (T : State) (cA cZ : ClassId) : ∀ i, (dk_mS T cA cZ i).heap.size = T.heap.size + 1 + i ∧ (dk_mS T cA cZ i).heap[T.heap.size]? = some (dk_mO cA T.heap.size i) ∧ (∀ q : Nat, q < T.heap.size → (dk_mS T cA cZ i).heap[q]? = T.heap[q]?) ∧ (∀ j : Nat, j < i → (dk_mS T cA cZ i).heap[T.heap.size + 1 + j]? = some (dk_mI cZ))
  | 0 => by
    refine ⟨size_pushCell _ _, ?_, fun q hq => ?_, fun j hj => absurd hj (Nat.not_lt_zero j)⟩
    · show (T.heap.push _)[T.heap.size]? = _
      rw [Array.getElem?_push_size]
    · show (T.heap.push _)[q]? = _
      rw [Array.getElem?_push, if_neg (Nat.ne_of_lt hq)]
  | i + 1 => by
    obtain ⟨a1, a2, a3, a4⟩ := dk_mS_heap T cA cZ i
    have b1 : ((dk_mS T cA cZ i).pushCell (dk_mI cZ)).heap.size = T.heap.size + 1 + (i + 1) := by rw [size_pushCell, a1]; omega
    have b2 : ∀ q : Nat, q < T.heap.size + 1 + i → ((dk_mS T cA cZ i).pushCell (dk_mI cZ)).heap[q]? = (dk_mS T cA cZ i).heap[q]? := fun q hq => by
      show ((dk_mS T cA cZ i).heap.push _)[q]? = _
      rw [Array.getElem?_push, if_neg (by rw [a1]; omega)]
    refine ⟨?_, ?_, fun q hq => ?_, fun j hj => ?_⟩
    · exact (size_setCell _ _ _).trans b1
    · exact heapAt_setCell_self _ (show T.heap.size < ((dk_mS T cA cZ i).pushCell (dk_mI cZ)).heap.size by rw [b1]; omega)
    · exact (heapAt_setCell_ne _ (Nat.ne_of_gt hq)).trans ((b2 q (by omega)).trans (a3 q hq))
    · refine (heapAt_setCell_ne _ (show T.heap.size ≠ T.heap.size + 1 + j by omega)).trans ?_
      by_cases e : j = i
      · subst e
        show ((dk_mS T cA cZ j).heap.push _)[T.heap.size + 1 + j]? = _
        rw [← a1, Array.getElem?_push_size]
      · exact (b2 _ (by omega)).trans (a4 j (by omega))
theorem dk_mS_vm (T : State) (cA cZ : ClassId) : ∀ i, (dk_mS T cA cZ i).vm = T.vm
  | 0 => rfl
  | i + 1 => dk_mS_vm T cA cZ i
section DKM
variable {p : Program} {l : Launch} {e : Env} {R : Room} {s : State} {m : MethodId} {args : Array Value} {below : List Frame} {meth : Method} {c : Code} {T : State} {locs : List Loc} {cells slots : Nat}
theorem dk_mS_stand (X : Stand p l e R s m args below meth c T locs cells slots) (cA cZ : ClassId) : ∀ i, ∃ L : List Loc, Stand p l e R s m args below meth c (dk_mS T cA cZ i) (locs ++ L) (cells + 1 + i) (slots + 6 + 6 * i) ∧ ∀ q ∈ L, q.base = T.heap.size
  | 0 => by
    have X1 := X.pushed (dk_mO cA T.heap.size 0)
    rw [show (dk_mO cA T.heap.size 0).slots.size = 6 from arrV_size _ _ _] at X1
    exact ⟨[], by rw [List.append_nil]; exact X1, fun q h => by cases h⟩
  | i + 1 => by
    obtain ⟨L, X1, hL⟩ := dk_mS_stand X cA cZ i
    obtain ⟨a1, a2, -, -⟩ := dk_mS_heap T cA cZ i
    have X2 := X1.pushed (dk_mI cZ)
    rw [show (dk_mI cZ).slots.size = 6 from arrV_size _ _ _] at X2
    have hc : ((dk_mS T cA cZ i).pushCell (dk_mI cZ)).heap[T.heap.size]? = some (dk_mO cA T.heap.size i) := by
      show ((dk_mS T cA cZ i).heap.push _)[T.heap.size]? = _
      rw [Array.getElem?_push, if_neg (by rw [a1]; omega)]
      exact a2
    have X3 := X2.stored hc i (.ref (T.heap.size + 1 + i))
    rw [dk_mO_next, List.append_assoc] at X3
    refine ⟨L ++ [⟨T.heap.size, i⟩], ?_, fun q h => ?_⟩
    · rw [show cells + 1 + (i + 1) = cells + 1 + i + 1 from rfl, show slots + 6 + 6 * (i + 1) = slots + 6 + 6 * i + 6 by omega]
      exact X3
    · rcases List.mem_append.mp h with h | h
      · exact hL q h
      · rw [List.mem_singleton.mp h]
/-- an array of six, all of them the default -/
theorem dk_new6 {E : CtlPost} {d : Bool} {acts : List Action} {U : State} {cX comp : ClassId} {k : Class} {ty : FieldType} {v : Value} (hk : U.vm.classes[cX]? = some k) (hkind : k.kind = .array comp ty) (hfit : fits ty v = true) (hdef : v.isDefault = true) (hl : ¬ 6 > e.platform.arrayLengthLimit) (hh : ¬ 6 * componentBytes ty > e.platform.maxHeapBytes)
    (h1 : U.heap.size < e.platform.maxCells) (h2 : U.slotsUsed + 6 ≤ e.platform.maxSlots) {Q : Addr → Pre} (hq : Q U.heap.size d acts (U.pushCell (arrV cX 6 (fun _ => v)))) : wp (Jvm.newArray cX 6 v) Q E e d acts U := by
  have ha : allocActs (Array.replicate 6 v) U.heap.size acts = acts := if_pos (by rw [Array.all_replicate]; simp [hdef])
  have h3 : ¬ 6 > e.platform.maxSlots := by omega
  have h4 : ∀ (i : Nat) (x : Value), (Array.replicate 6 v)[i]? = some x → U.fitsSlot cX .none i x = true := by
    intro i x hx
    rw [Array.getElem?_replicate] at hx
    split at hx
    · cases hx
      simp [State.fitsSlot, State.slotType?, hk, hkind, hfit]
    · cases hx
  rw [← arrV_new] at hq
  simp only [Jvm.newArray, Jvm.arrayFits, wp_bind', W.ask, W.ite, hl, hh, h3, if_false, wp_pure', W.theClass, hk, hkind, Option.some.injEq, exists_eq_left', W.alloc, Array.size_replicate, ha]
  exact ⟨h1, h2, h4, hq⟩
theorem dk_six : (6 : Int32).toNatClampNeg = 6 := by decide
/-- a column -/
theorem dk_mk1 {E : CtlPost} {d : Bool} {acts : List Action} {U : State} {cZ cq : ClassId} {k : Class} (hk : U.vm.classes[cZ]? = some k) (hkind : k.kind = .array cq .boolean) (hl : ¬ 6 > e.platform.arrayLengthLimit) (hh : ¬ 6 * 1 > e.platform.maxHeapBytes)
    (h1 : U.heap.size < e.platform.maxCells) (h2 : U.slotsUsed + 6 ≤ e.platform.maxSlots) {Q : Addr → Pre} (hq : Q U.heap.size d acts (U.pushCell (dk_mI cZ))) : wp (multianewarray.make cZ [6]) Q E e d acts U := by
  rw [multianewarray.make]
  simp only [wp_bind', W.ite, show ¬ (6 : Int32) < 0 by decide, if_false, wp_pure', W.theClass, hk, hkind, Option.some.injEq, exists_eq_left', dk_six]
  exact dk_new6 hk hkind rfl rfl hl hh h1 h2 hq
/-- the grid -/
theorem dk_mk2 (X : Stand p l e R s m args below meth c T locs cells slots) {g : JFrame} {cA cZ cq : ClassId} {kA kZ : Class} (hkA : T.vm.classes[cA]? = some kA) (hkindA : kA.kind = .array cZ (.array .boolean)) (hkZ : T.vm.classes[cZ]? = some kZ) (hkindZ : kZ.kind = .array cq .boolean) (hcells : cells + 7 ≤ R.cells) (hslots : slots + 42 ≤ R.slots)
    {E : CtlPost} {d : Bool} {acts : List Action} {Q : Addr → Pre} (hq : ∀ d' acts', Q T.heap.size d' acts' ((dk_mS T cA cZ 6).setTop g)) : wp (multianewarray.make cA [6, 6]) Q E e d acts (T.setTop g) := by
  have hl : ¬ 6 > e.platform.arrayLengthLimit := by rw [Launch.admits_arrayLengthLimit X.admits]; omega
  have hh : ¬ 6 * 4 > e.platform.maxHeapBytes := by rw [Launch.admits_maxHeapBytes X.admits]; omega
  obtain ⟨r1, r2⟩ := X.roomAbove (a := 7) (b := 42) hcells hslots
  rw [multianewarray.make]
  simp only [wp_bind', W.ite, show ¬ (6 : Int32) < 0 by decide, if_false, wp_pure', W.theClass, State.vm_setTop, hkA, hkindA, Option.some.injEq, exists_eq_left', dk_six]
  refine dk_new6 (U := T.setTop g) (k := kA) hkA hkindA rfl rfl hl hh (by show T.heap.size < _; omega) (by show T.slotsUsed + 6 ≤ _; omega) ?_
  rw [if_neg (by decide), wp_bind', Std.Legacy.Range.forIn_eq_forIn_range']
  refine wp_forIn_inv (fun r U => ∃ i, i ≤ 6 ∧ r = List.range' i (6 - i) ∧ U = (dk_mS T cA cZ i).setTop g) _ _ ⟨0, by decide, rfl, ?_⟩ ?_ ?_
  · show _ = (T.pushCell (dk_mO cA T.heap.size 0)).setTop g
    rfl
  · rintro j r U d' acts' Q' ⟨i, hi, hr, rfl⟩ hn
    have hi6 : i < 6 := by
      rcases Nat.lt_or_ge i 6 with q | q
      · exact q
      · rw [show 6 - i = 0 by omega] at hr
        cases hr
    rw [show 6 - i = 6 - (i + 1) + 1 by omega, List.range'_succ] at hr
    have ej : i = j := (List.cons.inj hr).1.symm
    have er := (List.cons.inj hr).2
    subst er
    subst ej
    obtain ⟨L, Xi, -⟩ := dk_mS_stand X cA cZ i
    obtain ⟨a1, a2, -, -⟩ := dk_mS_heap T cA cZ i
    obtain ⟨z1, z2⟩ := Xi.roomAbove (a := 1) (b := 6) (by omega) (by omega)
    have hv := dk_mS_vm T cA cZ i
    rw [wp_bind']
    refine dk_mk1 (U := (dk_mS T cA cZ i).setTop g) (k := kZ) (by show (dk_mS T cA cZ i).vm.classes[cZ]? = _; rw [hv]; exact hkZ) hkindZ hl (by omega) (by show (dk_mS T cA cZ i).heap.size < _; omega) (by show (dk_mS T cA cZ i).slotsUsed + 6 ≤ _; omega) ?_
    simp only [wp_bind', W.writeLoc, wp_pure']
    refine ⟨dk_mO cA T.heap.size i, ?_, ?_, ?_, ?_, hn _ _ _ ⟨i + 1, hi6, rfl, ?_⟩⟩
    · show ((dk_mS T cA cZ i).heap.push _)[T.heap.size]? = _
      rw [Array.getElem?_push, if_neg (by rw [a1]; omega)]
      exact a2
    · exact fun q => by cases q
    · rw [show (dk_mO cA T.heap.size i).slots.size = 6 from arrV_size _ _ _]
      exact hi6
    · show (dk_mS T cA cZ i).fitsSlot cA .none i _ = true
      simp [State.fitsSlot, State.slotType?, hv, hkA, hkindA, fits]
    · show ((((dk_mS T cA cZ i).pushCell (dk_mI cZ)).setCell T.heap.size ((dk_mO cA T.heap.size i).setSlot i (.ref (dk_mS T cA cZ i).heap.size))).setTop g) = (((dk_mS T cA cZ i).pushCell (dk_mI cZ)).setCell T.heap.size (dk_mO cA T.heap.size (i + 1))).setTop g
      rw [a1, dk_mO_next]
  · rintro U d' acts' ⟨i, hi, hr, rfl⟩
    have e6 : i = 6 := by
      rcases Nat.lt_or_ge i 6 with q | q
      · rw [show 6 - i = 6 - (i + 1) + 1 by omega, List.range'_succ] at hr
        cases hr
      · omega
    subst e6
    rw [wp_pure']
    exact hq _ _
/-- multianewarray, from the tables that its resolution leaves -/
theorem dk_mcold {Q : Unit → Pre} {E : CtlPost} {d : Bool} {acts : List Action} {f : JFrame} {index cA : Nat} {vm' : Vm} (hs : T.topJava?.isSome) (hg : (Jvm.resolveClass f.method.cls index).Gives e.toSetting T.vm (.ok cA) vm') (hr : vm'.classReady f.method.cls index cA) (hsz : vm'.classes.size ≤ T.vm.classes.size) :
    wp (multianewarray.sem index 2) Q E e d acts (T.setTop f) ↔ wp (multianewarray.sem index 2) Q E e d acts ((T.setVm vm').setTop f) := by
  simp only [multianewarray.sem, wp_bind']
  exact W.resolveClassAt_transfer (s := T.setTop f) (State.method?_setTop f hs) hg hr hsz
theorem dk_mwp (X : Stand p l e R s m args below meth c T locs cells slots) {g : JFrame} {index cA cZ cq : Nat} {kA kZ : Class} {rest : List Value} (hr : T.vm.classReady g.method.cls index cA) (hkA : T.vm.classes[cA]? = some kA) (hkindA : kA.kind = .array cZ (.array .boolean)) (hkZ : T.vm.classes[cZ]? = some kZ) (hkindZ : kZ.kind = .array cq .boolean) (hcells : cells + 7 ≤ R.cells) (hslots : slots + 42 ≤ R.slots)
    (hstack : g.stack = .int 6 :: .int 6 :: rest) {E : CtlPost} {d : Bool} {acts : List Action} {Q : Unit → Pre} (hq : ∀ d' acts', Q () d' acts' ((dk_mS T cA cZ 6).setTop { g with stack := .ref T.heap.size :: rest })) : wp (multianewarray.sem index 2) Q E e d acts (T.setTop g) := by
  simp only [multianewarray.sem, wp_bind', W.resolveClassAt_ready (State.method?_setTop g X.here.top) hr]
  rw [W.popN, if_neg (by decide)]
  refine ⟨g, State.topJava?_setTop' g X.here.top, [.int 6, .int 6], rest, rfl, hstack, ?_⟩
  simp only [List.mapM_cons, List.mapM_nil, wp_bind', wp_pure', State.setTop_setTop]
  refine dk_mk2 X hkA hkindA hkZ hkindZ hcells hslots (fun d' acts' => ?_)
  obtain ⟨L, X6, -⟩ := dk_mS_stand X cA cZ 6
  have ht := X6.here.top
  clear X6
  generalize dk_mS T cA cZ 6 = U at hq ht ⊢
  simp only [wp_bind', W.mark, W.pushRef]
  exact ⟨_, State.topJava?_setTop' _ ht, by rw [State.setTop_setTop]; exact hq _ _⟩
end DKM
section DKN
variable {p : Program} {l : Launch} {e : Env} {R : Room} {s : State} {m : MethodId} {args : Array Value} {below : List Frame} {meth : Method} {c : Code} {H : Heap} {locs : List Loc} {cells slots : Nat} {Q : State → Prop}
/-- what the tables say of the grid's array type -/
def dk_G (U : State) : Prop := ∃ (cA comp : ClassId) (kA : Class), U.vm.findClass ("[" ++ (FieldType.array .boolean).toString) = some cA ∧ U.vm.classes[cA]? = some kA ∧ kA.kind = .array comp (.array .boolean) ∧ U.vm.findClass (FieldType.array .boolean).toString = some comp
theorem dk_G_of {a : Array Value} {U : State} (h : (Cond.arrayOver (.array .boolean)).before a U = true) : dk_G U := by
  obtain ⟨comp, cA, kA, h1, -, h2, h3, h4⟩ := arrayOverA_spec h
  exact ⟨cA, comp, kA, h4, h2, h3, h1⟩
theorem dk_G_moved {u U : State} (hvm : u.vm.Alike U.vm) (h : dk_G u) : dk_G U := by
  obtain ⟨cA, comp, kA, h1, h2, h3, h4⟩ := h
  obtain ⟨k', hk', he⟩ := hvm.2.2 _ _ h2
  exact ⟨cA, comp, k', by rw [hvm.findClass]; exact h1, hk', by rw [he]; exact h3, by rw [hvm.findClass]; exact h4⟩
/-- THE ROW: new boolean[6][6] -/
theorem dk_manew {cc : ByteArray} (hexec : p.tables.exec = Jvm.exec) (hb : c.code = cc) {own : String} {index : Nat} (hown : s.vm.findClass own = some m.cls) (hclink : (Cond.classLink own index "[[Z").before args s = true) (hG : dk_G s) (harr : (Cond.arrayClass .boolean).before args s = true)
    {g : JFrame} (hg : g.method = m) (hdg : decode cc g.pc = .ok (.multianewarray index 2, 4)) {rest : List Value} (hstack : g.stack = .int 6 :: .int 6 :: rest) (hcells : cells + 7 ≤ R.cells) (hslots : slots + 42 ≤ R.slots)
    (kk : ∀ (cA cZ : ClassId) (H1 : Heap) (L : List Loc), H1.size = H.size + 7 → (∀ q : Nat, q < H.size → H1[q]? = H[q]?) → H1[H.size]? = some (arrV cA 6 (fun j => va_rf (some (H.size + 1 + j)))) → (∀ j : Nat, j < 6 → H1[H.size + 1 + j]? = some (arrV cZ 6 (fun _ => .int 0))) → ArrOfT s cA (.array .boolean) → s.vm.findClass ("[" ++ (FieldType.array .boolean).toString) = some cA → ArrOfT s cZ .boolean → s.vm.findClass ("[" ++ FieldType.boolean.toString) = some cZ → (∀ q ∈ L, q.base = H.size) →
      W p l e R s m args below meth c H1 (locs ++ L) (cells + 7) (slots + 42) Q { g with pc := g.pc + 4, stack := .ref H.size :: rest }) : W p l e R s m args below meth c H locs cells slots Q g := by
  intro T hT X
  subst hT; subst hb; subst hg
  have hpl : e.platform.magicAccessors = ({} : Platform).magicAccessors := by rw [X.admits.platform]
  obtain ⟨cA, comp, kA, hnameA, hkA, hkindA, hcomp⟩ := hG
  obtain ⟨cZ, kZ, cq, hnameZ, hkZ, hkindZ⟩ := Cond.arrayClass_spec harr
  have e1 : comp = cZ := Option.some.inj (hcomp.symm.trans hnameZ)
  subst e1
  obtain ⟨cc', hfcc, hcl⟩ := Cond.classLink_spec hown hclink e.platform hpl
  have es : "[" ++ (FieldType.array FieldType.boolean).toString = "[[Z" := by decide +kernel
  have e2 : cc' = cA := Option.some.inj (hfcc.symm.trans (by rw [← es]; exact hnameA))
  subst e2
  obtain ⟨hg₁, hwarm₁, hready₁⟩ := State.classEntry (e := e) X.warmed hcl
  have hsz : (T.vm.noted g.method.cls index (.cls cc')).classes.size ≤ T.vm.classes.size := by no_record
  generalize T.vm.noted g.method.cls index (.cls cc') = vm₁ at hg₁ hwarm₁ hready₁ hsz
  have hal : s.vm.Alike vm₁ := hwarm₁.alike
  obtain ⟨kA₁, hkA₁, heA⟩ := hal.2.2 _ _ hkA
  obtain ⟨kZ₁, hkZ₁, heZ⟩ := hal.2.2 _ _ hkZ
  have hkindA₁ : kA₁.kind = .array comp (.array .boolean) := by rw [heA]; exact hkindA
  have hkindZ₁ : kZ₁.kind = .array cq .boolean := by rw [heZ]; exact hkindZ
  have X₁ := X.noted hwarm₁
  obtain ⟨L, X₆, hL⟩ := dk_mS_stand X₁ cc' comp 6
  obtain ⟨a1, a2, a3, a4⟩ := dk_mS_heap (T.setVm vm₁) cc' comp 6
  have a2' : (dk_mS (T.setVm vm₁) cc' comp 6).heap[T.heap.size]? = some (arrV cc' 6 (fun j => va_rf (some (T.heap.size + 1 + j)))) := by
    rw [← dk_mO6]
    exact a2
  have a1' : (dk_mS (T.setVm vm₁) cc' comp 6).heap.size = T.heap.size + 7 := a1
  obtain ⟨t', b1, b2⟩ := kk cc' comp (dk_mS (T.setVm vm₁) cc' comp 6).heap L a1' a3 a2' a4 (fun n z => ⟨fun k h => (by cases h), kA, hkA, comp, hkindA⟩) hnameA (fun n z => ⟨fun k h => (by cases h), kZ, hkZ, cq, hkindZ⟩) hnameZ hL (dk_mS (T.setVm vm₁) cc' comp 6) rfl X₆
  refine ⟨t', ?_, b2⟩
  jvm_step X.here [hexec, hdg]
  refine (dk_mcold X.here.top hg₁ hready₁ hsz).mpr ?_
  refine dk_mwp X₁ hready₁ hkA₁ hkindA₁ hkZ₁ hkindZ₁ hcells hslots hstack (fun d' acts' => ?_)
  intro acts
  rw [afterInstr_ok]
  exact b1
variable {cc : ByteArray} {pc : Nat} {ls : Array Slot} {rest : List Value} {D : va_G} {cl : List vw_C} {A : Nat → Prop} {tys : List (ClassId × FieldType)} {ws : va_W} {H0 : Heap}
/-- its seven cells -/
abbrev dk_GW (cA cZ : ClassId) (q : Nat) : va_W := [(q, .inl (cA, 6, .inr (.inr (.inr (.inr (fun j => some (q + 1 + j))))))), (q + 1 + 0, .inl (cZ, 6, .inl (fun _ => 0))), (q + 1 + 1, .inl (cZ, 6, .inl (fun _ => 0))), (q + 1 + 2, .inl (cZ, 6, .inl (fun _ => 0))), (q + 1 + 3, .inl (cZ, 6, .inl (fun _ => 0))), (q + 1 + 4, .inl (cZ, 6, .inl (fun _ => 0))), (q + 1 + 5, .inl (cZ, 6, .inl (fun _ => 0)))]
theorem dk_GW_at (cA cZ : ClassId) (q k : Nat) (x : Nat × va_E) (h : (dk_GW cA cZ q)[k]? = some x) : x.1 = q + k ∧ k < 7 := by
  have hk : k < 7 := (List.getElem?_eq_some_iff.mp h).1
  rcases (show k = 0 ∨ k = 1 ∨ k = 2 ∨ k = 3 ∨ k = 4 ∨ k = 5 ∨ k = 6 by omega) with rfl | rfl | rfl | rfl | rfl | rfl | rfl <;> cases h <;> exact ⟨by first | rfl | (show q + 1 + _ = q + _; omega), hk⟩
theorem dk_grid (hx : p.tables.exec = Jvm.exec) (hb : c.code = cc) {own : String} {index : Nat} (hown : s.vm.findClass own = some m.cls) (hclink : (Cond.classLink own index "[[Z").before args s = true) (hG : dk_G s) (harr : (Cond.arrayClass .boolean).before args s = true) (hK : va_K D cl tys s) (hP : va_P D cl ws H) (hD : va_D A ws) (hS : va_S A H0 H locs) (hA : ∀ q, H0.size ≤ q → A q) (hcells : cells + 7 ≤ R.cells) (hslots : slots + 42 ≤ R.slots) (hdg : decode cc pc = .ok (.multianewarray index 2, 4))
    (kk : ∀ (q : Nat) (cA cZ : ClassId) (H1 : Heap) (locs1 : List Loc), va_K D cl (tys ++ [(cA, .array .boolean), (cZ, .boolean)]) s → va_P D cl (ws ++ dk_GW cA cZ q) H1 → va_D A (ws ++ dk_GW cA cZ q) → va_S A H0 H1 locs1 →
      W p l e R s m args below meth c H1 locs1 (cells + 7) (slots + 42) Q (F0 m (pc + 4) ls (.ref q :: rest))) : W p l e R s m args below meth c H locs cells slots Q (F0 m pc ls (.int 6 :: .int 6 :: rest)) := by
  refine dk_manew hx hb hown hclink hG harr rfl hdg rfl hcells hslots fun cA cZ H1 L z1 o1 e1 e2 r1 n1 r2 n2 hL => ?_
  refine kk H.size cA cZ H1 (locs ++ L) ⟨hK.1, fun k x hk => ?_⟩ ((hP.kept (fun k x hk => o1 x.1 (hP k x hk).lt)).app (fun k x hk => ?_)) (hD.app ⟨fun i j a b hi hj hab => ?_, fun k x hk => ?_⟩ (fun i j a b ha hb hab => ?_)) ⟨Nat.le_trans hS.1 (by omega), fun x h1 h2 => (o1 x (Nat.lt_of_lt_of_le h1 hS.1)).trans (hS.2.1 x h1 h2), fun x hx => ?_⟩
  · rcases List.mem_append.mp (List.mem_of_getElem? hk) with h | h
    · obtain ⟨i, hi⟩ := List.getElem?_of_mem h
      exact hK.2 i x hi
    · rcases List.mem_cons.mp h with h | h
      · subst h
        exact ⟨r1, n1⟩
      · rw [List.mem_singleton.mp h]
        exact ⟨r2, n2⟩
  · have hk7 := (dk_GW_at cA cZ H.size k x hk).2
    rcases (show k = 0 ∨ k = 1 ∨ k = 2 ∨ k = 3 ∨ k = 4 ∨ k = 5 ∨ k = 6 by omega) with rfl | rfl | rfl | rfl | rfl | rfl | rfl <;> cases hk
    · exact e1
    · exact e2 0 (by decide)
    · exact e2 1 (by decide)
    · exact e2 2 (by decide)
    · exact e2 3 (by decide)
    · exact e2 4 (by decide)
    · exact e2 5 (by decide)
  · have h1 := (dk_GW_at cA cZ H.size i a hi).1
    have h2 := (dk_GW_at cA cZ H.size j b hj).1
    omega
  · rw [(dk_GW_at cA cZ H.size k x hk).1]
    exact hA _ (Nat.le_trans hS.1 (Nat.le_add_right _ _))
  · have h1 := (hP i a ha).lt
    have h2 := (dk_GW_at cA cZ H.size j b hb).1
    omega
  · rcases List.mem_append.mp hx with h | h
    · exact hS.2.2 x h
    · rw [hL x h]
      exact hA _ hS.1
end DKN
end
section
/-! LEAVES of the class: below, and the test of one cell (its contract, and the row of a call of it from any method of the class) -/
set_option maxHeartbeats 4000000 in
set_option maxRecDepth 100000 in
/-- below(v, n) = (v & MAX) % n -/
theorem metX0_below (l : Launch) (dC : Nat → ClassId) (dI : Nat → Nat → Nat) (sz : Nat) (v : Int32) (n : Nat) (n0 : 0 < n) (n6 : n ≤ 6) : Met l yX0_below (ws_ yX0_below cX0_below 2 (some .int)) ({ frames := 0, cells := 0, slots := 0, locals := 0 }) (va_Pc [.int v, .int (nI n)] (fun U => U.heap.size = sz ∧ va_P (dC, dI) vwCl [] U.heap ∧ va_K (dC, dI) vwCl [] U ∧ va_D (fun _ => True) [])) (va_Qi (fun (r : Int32) (_ : Unit) => r = nI (dk_bl v n)) (fun _ _ => True) (va_A [] sz)) 0 0 (va_A [] sz) := by
  refine Met.ofW (cc := cX0_below) (maxL := 2) (ret := (some .int)) (by decide) rfl ?_
  intro p e s m args below meth c s₁ B hml hv
  obtain ⟨rfl, hsz, hP, hK, hD0⟩ := hv
  have hx := B.exec
  have hb := B.bytes
  have hr := B.returns
  have hts := atoms_spec (ws := ws_ yX0_below cX0_below 2 (some .int)) B.pre
  have hts : ∀ w ∈ lw_all, w.before _ s = true := fun w h => hts w (List.mem_cons_of_mem _ h)
  have hown : s.vm.findClass RX0 = some m.cls := findClass_of_methodNamed B.named
  have hlocks := B.notSynchronized
  subst hsz
  have hD := hD0.self (sz := s.heap.size)
  generalize hAe : va_A ([]) s.heap.size = A at hD ⊢
  have hA : ∀ q : Nat, s.heap.size ≤ q → A q := fun q h => by rw [← hAe]; exact Or.inr h
  have hS : va_S A s.heap s.heap [] := va_S.rf
  have hl := lv_entry ([.int v, .int (nI n)]) (n := 2) (Nat.le_of_ble_eq_true rfl)
  rw [lg_entry_eq]
  generalize (lg_sl ([.int v, .int (nI n)]) ++ List.replicate (2 - (lg_sl ([.int v, .int (nI n)])).length) Slot.unset).toArray = ls at hl ⊢
  have hl : lv_has ls 2 [(0, .int v), (1, .int (nI n))] := hl
  refine lv_iload_n hx hb dX0_below_0 rfl (lv_at hl 0 rfl) ?_
  refine lv_ldc (v := 2147483647) hx hb hown (hts _ q41) dX0_below_1 ?_
  refine lv_iand hx hb dX0_below_3 ?_
  refine lv_iload_n hx hb dX0_below_4 rfl (lv_at hl 1 rfl) ?_
  refine lv_irem hx hb dX0_below_5 (nI_ne0 n0 (by omega)) ?_
  refine dk_top (dk_below v n0 n6) ?_
  exact W.iret (v := nI (dk_bl v n)) hx hb hr (fun t ht hW => ⟨⟨_, (), rfl, rfl, trivial⟩, hS.F ht⟩) hS.2.2 dX0_below_6
set_option maxHeartbeats 4000000 in
set_option maxRecDepth 100000 in
/-- the test of the cell (x, y): x < w && y < h && !hole[x][y]; nothing changes -/
theorem metX0_open (l : Launch) (dC : Nat → ClassId) (dI : Nat → Nat → Nat) (cA cJ cZ : ClassId) (o oh wa ta : Nat) (ya : Nat → Nat) (w h : Nat) (ho : Nat → Nat → Bool) (fw ft : Nat → Int64) (sz : Nat) (x y : Nat) (w6 : w ≤ 6) (h6 : h ≤ 6) (x6 : x ≤ 6) (y6 : y ≤ 6) : Met l yX0_open (ws_ yX0_open cX0_open 3 (some .boolean)) ({ frames := 0, cells := 0, slots := 0, locals := 0 }) (va_Pc [.ref o, .int (nI x), .int (nI y)] (fun U => U.heap.size = sz ∧ va_P (dC, dI) vwCl (dk_W cA cJ cZ o oh wa ta ya w h ho fw ft) U.heap ∧ va_K (dC, dI) vwCl (dk_T cA cJ cZ) U ∧ va_D (fun _ => True) (dk_W cA cJ cZ o oh wa ta ya w h ho fw ft))) (va_Qi (fun (r : Int32) (_ : Unit) => r = dk_b (dk_opn w h ho x y)) (fun _ t => va_P (dC, dI) vwCl (dk_W cA cJ cZ o oh wa ta ya w h ho fw ft) t.heap ∧ va_K (dC, dI) vwCl (dk_T cA cJ cZ) t ∧ va_D (va_A (dk_W cA cJ cZ o oh wa ta ya w h ho fw ft) sz) (dk_W cA cJ cZ o oh wa ta ya w h ho fw ft)) (va_A (dk_W cA cJ cZ o oh wa ta ya w h ho fw ft) sz)) 0 0 (va_A (dk_W cA cJ cZ o oh wa ta ya w h ho fw ft) sz) := by
  refine Met.ofW (cc := cX0_open) (maxL := 3) (ret := (some .boolean)) (by decide) rfl ?_
  intro p e s m args below meth c s₁ B hml hv
  obtain ⟨rfl, hsz, hP, hK, hD0⟩ := hv
  have hx := B.exec
  have hb := B.bytes
  have hr := B.returns
  have hts := atoms_spec (ws := ws_ yX0_open cX0_open 3 (some .boolean)) B.pre
  have hts : ∀ w ∈ lw_all, w.before _ s = true := fun w h => hts w (List.mem_cons_of_mem _ h)
  have hown : s.vm.findClass RX0 = some m.cls := findClass_of_methodNamed B.named
  have hlocks := B.notSynchronized
  subst hsz
  have hD := hD0.self (sz := s.heap.size)
  generalize hAe : va_A (dk_W cA cJ cZ o oh wa ta ya w h ho fw ft) s.heap.size = A at hD ⊢
  have hA : ∀ q : Nat, s.heap.size ≤ q → A q := fun q h => by rw [← hAe]; exact Or.inr h
  have hS : va_S A s.heap s.heap [] := va_S.rf
  have hl := lv_entry ([.ref o, .int (nI x), .int (nI y)]) (n := 3) (Nat.le_of_ble_eq_true rfl)
  rw [lg_entry_eq]
  generalize (lg_sl ([.ref o, .int (nI x), .int (nI y)]) ++ List.replicate (3 - (lg_sl ([.ref o, .int (nI x), .int (nI y)])).length) Slot.unset).toArray = ls at hl ⊢
  have hl : lv_has ls 3 [(0, .ref o), (1, .int (nI x)), (2, .int (nI y))] := hl
  have end0 : dk_opn w h ho x y = false → W p l e (headSpec (ws_ yX0_open cX0_open 3 (some .boolean)) ({ frames := 0, cells := 0, slots := 0, locals := 0 })).room s m ([.ref o, .int (nI x), .int (nI y)] : List Value).toArray below meth c s.heap [] 0 0 (MQ below (va_Qi (fun (r : Int32) (_ : Unit) => r = dk_b (dk_opn w h ho x y)) (fun _ t => va_P (dC, dI) vwCl (dk_W cA cJ cZ o oh wa ta ya w h ho fw ft) t.heap ∧ va_K (dC, dI) vwCl (dk_T cA cJ cZ) t ∧ va_D A (dk_W cA cJ cZ o oh wa ta ya w h ho fw ft)) A) ([.ref o, .int (nI x), .int (nI y)] : List Value).toArray s 0 0 A) (F0 m 31 ls []) := by
    intro e0
    refine lv_iconst (v := 0) hx hb dX0_open_31 (by decide) ?_
    exact W.zret (v := 0) hx hb hr rfl (fun t ht hW => ⟨⟨0, (), rfl, by rw [e0]; rfl, by rw [ht]; exact hP, va_K.moved hW.alike hK, hD⟩, hS.F ht⟩) hS.2.2 dX0_open_32
  refine lv_iload_n hx hb dX0_open_0 rfl (lv_at hl 1 rfl) ?_
  refine lv_aload_n hx hb dX0_open_1 rfl (lv_at hl 0 rfl) ?_
  refine dk_g3 hx hb hts hown hK hP dX0_open_2 ?_
  refine lv_icmp_ge (tgt := 31) hx hb dX0_open_5 (by decide) (fun c1 => ?_) (fun c1 => ?_)
  · have c1 := (nI_leI (by omega) (by omega)).mp c1
    exact end0 (dk_opn_1 (by omega))
  have c1 : x < w := Nat.not_le.mp fun q => c1 ((nI_leI (by omega) (by omega)).mpr q)
  refine lv_iload_n hx hb dX0_open_8 rfl (lv_at hl 2 rfl) ?_
  refine lv_aload_n hx hb dX0_open_9 rfl (lv_at hl 0 rfl) ?_
  refine dk_g4 hx hb hts hown hK hP dX0_open_10 ?_
  refine lv_icmp_ge (tgt := 31) hx hb dX0_open_13 (by decide) (fun c2 => ?_) (fun c2 => ?_)
  · have c2 := (nI_leI (by omega) (by omega)).mp c2
    exact end0 (dk_opn_2 (by omega))
  have c2 : y < h := Nat.not_le.mp fun q => c2 ((nI_leI (by omega) (by omega)).mpr q)
  refine lv_aload_n hx hb dX0_open_16 rfl (lv_at hl 0 rfl) ?_
  refine dk_g0 hx hb hts hown hK hP dX0_open_17 ?_
  refine lv_iload_n hx hb dX0_open_20 rfl (lv_at hl 1 rfl) ?_
  refine dk_hcol hx hb hK hP (by omega) dX0_open_21 ?_
  refine lv_iload_n hx hb dX0_open_22 rfl (lv_at hl 2 rfl) ?_
  refine dk_hget hx hb hK hP (by omega) (by omega) dX0_open_23 ?_
  refine lv_if_ne (tgt := 31) hx hb dX0_open_24 (by decide) (fun c3 => ?_) (fun c3 => ?_)
  · refine end0 ?_
    rw [dk_opn_3 c1 c2]
    cases q : ho x y
    · rw [q] at c3
      exact absurd rfl c3
    · rfl
  refine lv_iconst (v := 1) hx hb dX0_open_27 (by decide) ?_
  refine lv_goto (tgt := 32) hx hb dX0_open_28 (by decide) ?_
  exact W.zret (v := 1) hx hb hr rfl (fun t ht hW => ⟨⟨1, (), rfl, by rw [dk_opn_3 c1 c2, dk_b0.mp c3]; rfl, by rw [ht]; exact hP, va_K.moved hW.alike hK, hD⟩, hS.F ht⟩) hS.2.2 dX0_open_32
section DKC
variable {p : Program} {l : Launch} {e : Env} {R : Room} {s : State} {m : MethodId} {args : Array Value} {below : List Frame} {meth : Method} {c : Code} {H : Heap} {locs : List Loc} {cells slots : Nat} {Q : State → Prop}
variable {cc : ByteArray} {pc nL : Nat} {ls : Array Slot} {rest : List Value} {A : Nat → Prop} {tys : List (ClassId × FieldType)} {ws : va_W} {H0 : Heap} {dC : Nat → ClassId} {dI : Nat → Nat → Nat}
set_option maxHeartbeats 4000000 in
set_option maxRecDepth 100000 in
/-- a call of below from a method of the class -/
theorem dk_cbelow (hx : p.tables.exec = Jvm.exec) (hb : c.code = cc) (hml : c.maxLocals = nL) (hown : s.vm.findClass RX0 = some m.cls) (hts : ∀ w ∈ lw_all, w.before args s = true) (hA : ∀ q : Nat, H0.size ≤ q → A q) (hK : va_K (dC, dI) vwCl tys s) (hP : va_P (dC, dI) vwCl ws H) (hD : va_D A ws) (hS : va_S A H0 H locs) (hR : 1 ≤ R.frames ∧ 21 ≤ R.locals) (hf : cells ≤ R.cells ∧ slots ≤ R.slots) (hsz : ls.size = nL) {v : Int32} {n : Nat} (n0 : 0 < n) (n6 : n ≤ 6) (hrest : (rest.map fun v => v.category).sum ≤ 8) (hdg : decode cc pc = .ok (.invokestatic 31, 3))
    (kk : ∀ (H1 : Heap) (locs1 : List Loc), va_P (dC, dI) vwCl ws H1 → va_S A H0 H1 locs1 → W p l e R s m args below meth c H1 locs1 cells slots Q (F0 m (pc + 3) ls (.int (nI (dk_bl v n)) :: rest))) : W p l e R s m args below meth c H locs cells slots Q (F0 m pc ls (.int (nI n) :: .int v :: rest)) := by
  have hFc := va_free (wc := []) hD hS hA [] rfl
  refine va_calli (va_runS (As := [.int v, .int (nI n)]) (rest := rest) ⟨hx, hb, hml, hown, hts⟩ (metX0_below l dC dI H.size v n n0 n6) (va_cwS 2 hts (lw_S q38 q39 q4 q40) rfl rfl rfl (by decide +kernel) ⟨hR.1, hR.2⟩) ⟨fun a U g mk q => by obtain ⟨q0, q1, qP, qK, qD⟩ := q; exact ⟨q0, q1, qP, va_K.moved (u := U) (U := U.calling g mk a) (Vm.Alike.refl U.vm) qK, qD⟩, fun U hU hW => ⟨rfl, by rw [hU], (fun k q h => by cases h), va_K.moved hW.alike (hK.sub (tys' := []) [] rfl), ⟨fun i j a b h => (by cases h), fun k q h => (by cases h)⟩⟩⟩ rfl rfl hsz rfl (lv_room hrest) hdg hf) hS (fun q _ h => hFc q h) hFc (fun r u t H1 locs1 ht hvm hw hB hz hk hS1 => ?_)
  have hw : r = nI (dk_bl v n) := hw
  subst hw
  refine kk H1 locs1 (hP.kept (fun k q hq => hk q.1 (hP k q hq).lt (fun z => ?_))) hS1
  rcases z with ⟨k2, e2, z⟩ | z
  · cases z
  · exact absurd (hP k q hq).lt (Nat.not_lt.mpr z)
variable {cA cJ cZ : ClassId} {o oh wa ta : Nat} {ya : Nat → Nat} {w h : Nat} {ho : Nat → Nat → Bool} {fw ft : Nat → Int64}
set_option maxHeartbeats 4000000 in
set_option maxRecDepth 100000 in
/-- a call of the test of a cell from a method of the class -/
theorem dk_copen (hx : p.tables.exec = Jvm.exec) (hb : c.code = cc) (hml : c.maxLocals = nL) (hown : s.vm.findClass RX0 = some m.cls) (hts : ∀ w ∈ lw_all, w.before args s = true) (hA : ∀ q : Nat, H0.size ≤ q → A q) (hK : va_K (dC, dI) vwCl (dk_T cA cJ cZ) s) (hP : va_P (dC, dI) vwCl (dk_W cA cJ cZ o oh wa ta ya w h ho fw ft) H) (hD : va_D A (dk_W cA cJ cZ o oh wa ta ya w h ho fw ft)) (hS : va_S A H0 H locs) (hR : 1 ≤ R.frames ∧ 22 ≤ R.locals) (hf : cells ≤ R.cells ∧ slots ≤ R.slots) (hsz : ls.size = nL) {x y : Nat} (w6 : w ≤ 6) (h6 : h ≤ 6) (x6 : x ≤ 6) (y6 : y ≤ 6) (hrest : (rest.map fun v => v.category).sum ≤ 8) (hdg : decode cc pc = .ok (.invokevirtual 39, 3))
    (kk : ∀ (H1 : Heap) (locs1 : List Loc), va_P (dC, dI) vwCl (dk_W cA cJ cZ o oh wa ta ya w h ho fw ft) H1 → va_S A H0 H1 locs1 → W p l e R s m args below meth c H1 locs1 cells slots Q (F0 m (pc + 3) ls (.int (dk_b (dk_opn w h ho x y)) :: rest))) : W p l e R s m args below meth c H locs cells slots Q (F0 m pc ls (.int (nI y) :: .int (nI x) :: .ref o :: rest)) := by
  have hFc := va_free (wc := dk_W cA cJ cZ o oh wa ta ya w h ho fw ft) hD hS hA [0, 1, 2, 3, 4, 5, 6, 7, 8, 9] rfl
  refine va_calli (va_runV (As := [.int (nI x), .int (nI y)]) (rest := rest) ⟨hx, hb, hml, hown, hts⟩ (metX0_open l dC dI cA cJ cZ o oh wa ta ya w h ho fw ft H.size x y w6 h6 x6 y6) (cwV 2 hts (lw_V q54 q56 qs1 q4 q57) rfl rfl rfl (by decide +kernel) ⟨hR.1, hR.2⟩) ⟨fun a U g mk q => by obtain ⟨q0, q1, qP, qK, qD⟩ := q; exact ⟨q0, q1, qP, va_K.moved (u := U) (U := U.calling g mk a) (Vm.Alike.refl U.vm) qK, qD⟩, va_recv hK hP (ci := 0) (q0 := 0) rfl rfl, fun U hU hW => ⟨rfl, by rw [hU], by rw [hU]; exact hP, va_K.moved hW.alike hK, hD.weaken (fun _ _ _ _ => trivial)⟩⟩ rfl rfl hsz rfl (lv_room hrest) hdg hf) hS (fun q _ h => hFc q h) hFc (fun r u t H1 locs1 ht hvm hw hB hz hk hS1 => ?_)
  obtain ⟨hP1, -, -⟩ := hB
  rw [ht] at hP1
  have hw : r = dk_b (dk_opn w h ho x y) := hw
  subst hw
  exact kk H1 locs1 hP1 hS1
end DKC
end
section
/-! CELL: one cell of the board is paved: the loop that clears, the loop over the sets, the swap of the two arrays -/
section DKE
variable {p : Program} {l : Launch} {e : Env} {R : Room} {s : State} {m : MethodId} {args : Array Value} {below : List Frame} {meth : Method} {c : Code} {cells slots : Nat} {Q : State → Prop}
variable {A : Nat → Prop} {H0 : Heap} {dC : Nat → ClassId} {dI : Nat → Nat → Nat} {cA cJ cZ : ClassId} {o oh wa ta : Nat} {ya : Nat → Nat} {w h : Nat} {ho : Nat → Nat → Bool} {fw : Nat → Int64}
set_option maxHeartbeats 4000000 in
set_option maxRecDepth 100000 in
theorem dk_cell_z (hx : p.tables.exec = Jvm.exec) (hb : c.code = cX0_cell) (hown : s.vm.findClass RX0 = some m.cls) (hts : ∀ w ∈ lw_all, w.before args s = true) (hK : va_K (dC, dI) vwCl (dk_T cA cJ cZ) s) {x y : Nat} {hr rt : Int32}
    (kk : ∀ (H : Heap) (locs : List Loc) (ls : Array Slot), va_P (dC, dI) vwCl (dk_W cA cJ cZ o oh wa ta ya w h ho fw (fun _ => 0)) H → va_D A (dk_W cA cJ cZ o oh wa ta ya w h ho fw (fun _ => 0)) → va_S A H0 H locs → lv_has ls 6 [(5, .int (nI 64)), (4, .int rt), (3, .int hr), (2, .int (nI y)), (1, .int (nI x)), (0, .ref o)] → W p l e R s m args below meth c H locs cells slots Q (F0 m 36 ls [])) :
    ∀ (n i : Nat), 65 ≤ i + n → i ≤ 64 → ∀ (ft : Nat → Int64), (∀ j, j < i → ft j = 0) → ∀ (H : Heap) (locs : List Loc) (ls : Array Slot), va_P (dC, dI) vwCl (dk_W cA cJ cZ o oh wa ta ya w h ho fw ft) H → va_D A (dk_W cA cJ cZ o oh wa ta ya w h ho fw ft) → va_S A H0 H locs → lv_has ls 6 [(5, .int (nI i)), (4, .int rt), (3, .int hr), (2, .int (nI y)), (1, .int (nI x)), (0, .ref o)] → W p l e R s m args below meth c H locs cells slots Q (F0 m 12 ls []) := by
  intro n
  induction n with
  | zero =>
    intro i h1 h2
    omega
  | succ n ih =>
    intro i h1 h2 ft hz H locs ls hP hD hS hl
    refine lv_iload hx hb dX0_cell_12 (lv_at hl 0 rfl) ?_
    refine lv_aload_n hx hb dX0_cell_14 rfl (lv_at hl 5 rfl) ?_
    refine dk_g2 hx hb hts hown hK hP dX0_cell_15 ?_
    refine va_alen (v := nI 64) hx hb hK hP 3 1 rfl rfl rfl dX0_cell_18 ?_
    refine lv_icmp_ge (tgt := 36) hx hb dX0_cell_19 (by decide) (fun c1 => ?_) (fun c1 => ?_)
    · have c1 := (nI_leI (by omega) (by omega)).mp c1
      have e1 : i = 64 := by omega
      subst e1
      exact kk H locs ls (dk_reL hP hD 3 rfl hz) (dk_Dsame hD rfl) hS hl
    have c1 : i < 64 := Nat.not_le.mp fun q => c1 ((nI_leI (by omega) (by omega)).mpr q)
    refine lv_aload_n hx hb dX0_cell_22 rfl (lv_at hl 5 rfl) ?_
    refine dk_g2 hx hb hts hown hK hP dX0_cell_23 ?_
    refine lv_iload hx hb dX0_cell_26 (lv_at hl 0 rfl) ?_
    refine lv_lconst (v := 0) hx hb dX0_cell_28 (by decide) ?_
    refine dk_last hx hb hK hP hD hS 3 1 rfl rfl c1 (by decide) dX0_cell_29 (fun H locs hP hD hS => ?_)
    refine lv_iinc (v := nI (i + 1)) (lv' := [(5, .int (nI (i + 1))), (4, .int rt), (3, .int hr), (2, .int (nI y)), (1, .int (nI x)), (0, .ref o)]) hx hb dX0_cell_30 hl (k := 0) rfl (nI_1 i) (by decide) rfl (fun ls hl => ?_)
    refine lv_goto (tgt := 12) hx hb dX0_cell_33 (by decide) ?_
    refine ih (i + 1) (by omega) (by omega) (vp_updL ft i 0) (fun j hj => ?_) H locs ls hP hD hS hl
    by_cases e1 : j = i
    · subst e1
      exact pk_uLs
    · rw [pk_uLn e1]
      exact hz j (by omega)
set_option maxHeartbeats 8000000 in
set_option maxRecDepth 100000 in
theorem dk_cell_m (hx : p.tables.exec = Jvm.exec) (hb : c.code = cX0_cell) (hml : c.maxLocals = 6) (hown : s.vm.findClass RX0 = some m.cls) (hts : ∀ w ∈ lw_all, w.before args s = true) (hA : ∀ q : Nat, H0.size ≤ q → A q) (hK : va_K (dC, dI) vwCl (dk_T cA cJ cZ) s) (hR : 1 ≤ R.frames ∧ 22 ≤ R.locals) (hf : cells ≤ R.cells ∧ slots ≤ R.slots) {x y : Nat} (w6 : w ≤ 6) (h6 : h ≤ 6) (hxw : x < w) (hyh : y < h)
    (kk : ∀ (H : Heap) (locs : List Loc) (ls : Array Slot), va_P (dC, dI) vwCl (dk_W cA cJ cZ o oh wa ta ya w h ho fw (dk_run w h ho x y fw (2 ^ w))) H → va_D A (dk_W cA cJ cZ o oh wa ta ya w h ho fw (dk_run w h ho x y fw (2 ^ w))) → va_S A H0 H locs → lv_has ls 6 [(5, .int (nI (2 ^ w))), (4, .int (nI (2 ^ (x + 1)))), (3, .int (nI (2 ^ x))), (2, .int (nI y)), (1, .int (nI x)), (0, .ref o)] → W p l e R s m args below meth c H locs cells slots Q (F0 m 200 ls [])) :
    ∀ (n k : Nat), 2 ^ w + 1 ≤ k + n → k ≤ 2 ^ w → ∀ (H : Heap) (locs : List Loc) (ls : Array Slot), va_P (dC, dI) vwCl (dk_W cA cJ cZ o oh wa ta ya w h ho fw (dk_run w h ho x y fw k)) H → va_D A (dk_W cA cJ cZ o oh wa ta ya w h ho fw (dk_run w h ho x y fw k)) → va_S A H0 H locs → lv_has ls 6 [(5, .int (nI k)), (4, .int (nI (2 ^ (x + 1)))), (3, .int (nI (2 ^ x))), (2, .int (nI y)), (1, .int (nI x)), (0, .ref o)] → W p l e R s m args below meth c H locs cells slots Q (F0 m 39 ls []) := by
  intro n
  have hpw := dk_pw w6
  induction n with
  | zero =>
    intro k h1 h2
    omega
  | succ n ih =>
    intro k h1 h2 H locs ls hP hD hS hl
    refine lv_iload hx hb dX0_cell_39 (lv_at hl 0 rfl) ?_
    refine lv_iconst (v := 1) hx hb dX0_cell_41 (by decide) ?_
    refine lv_aload_n hx hb dX0_cell_42 rfl (lv_at hl 5 rfl) ?_
    refine dk_g3 hx hb hts hown hK hP dX0_cell_43 ?_
    refine lv_ishl hx hb dX0_cell_46 ?_
    refine dk_top (dk_shl w (by omega)) ?_
    refine lv_icmp_ge (tgt := 200) hx hb dX0_cell_47 (by decide) (fun c1 => ?_) (fun c1 => ?_)
    · have c1 := (nI_leI (by omega) (by omega)).mp c1
      have e1 : k = 2 ^ w := by omega
      subst e1
      exact kk H locs ls hP hD hS hl
    have c1 : k < 2 ^ w := Nat.not_le.mp fun q => c1 ((nI_leI (by omega) (by omega)).mpr q)
    have k64 : k < 64 := by omega
    have x6 : x < 6 := by omega
    generalize ht0 : dk_run w h ho x y fw k = t0 at hP hD
    have next : ∀ (t : Nat → Int64) (H : Heap) (locs : List Loc), t = dk_stp w h ho x y fw k t0 → va_P (dC, dI) vwCl (dk_W cA cJ cZ o oh wa ta ya w h ho fw t) H → va_D A (dk_W cA cJ cZ o oh wa ta ya w h ho fw t) → va_S A H0 H locs → W p l e R s m args below meth c H locs cells slots Q (F0 m 194 ls []) := by
      intro t H locs et hP hD hS
      refine lv_iinc (v := nI (k + 1)) (lv' := [(5, .int (nI (k + 1))), (4, .int (nI (2 ^ (x + 1)))), (3, .int (nI (2 ^ x))), (2, .int (nI y)), (1, .int (nI x)), (0, .ref o)]) hx hb dX0_cell_194 hl (k := 0) rfl (nI_1 k) (by decide) rfl (fun ls hl => ?_)
      refine lv_goto (tgt := 39) hx hb dX0_cell_197 (by decide) ?_
      have et : t = dk_run w h ho x y fw (k + 1) := by rw [et, ← ht0]; rfl
      subst et
      exact ih (k + 1) (by omega) (by omega) H locs ls hP hD hS hl
    refine lv_aload_n hx hb dX0_cell_50 rfl (lv_at hl 5 rfl) ?_
    refine dk_g1 hx hb hts hown hK hP dX0_cell_51 ?_
    refine lv_iload hx hb dX0_cell_54 (lv_at hl 0 rfl) ?_
    refine dk_lald hx hb hK hP 2 1 rfl rfl k64 (by decide) dX0_cell_56 ?_
    refine lv_lconst (v := 0) hx hb dX0_cell_57 (by decide) ?_
    refine W.lcmp hx hb dX0_cell_58 ?_
    refine lv_if_ne (tgt := 65) hx hb dX0_cell_59 (by decide) (fun c2 => ?_) (fun c2 => ?_)
    rotate_left
    · refine lv_goto (tgt := 194) hx hb dX0_cell_62 (by decide) ?_
      exact next t0 H locs (by unfold dk_stp; rw [if_pos ((lg_cmp_eq _ _).mp c2)]) hP hD hS
    have c2 : ¬ fw k = 0 := fun q => c2 ((lg_cmp_eq _ _).mpr q)
    refine lv_iload hx hb dX0_cell_65 (lv_at hl 0 rfl) ?_
    refine lv_iload_n hx hb dX0_cell_67 rfl (lv_at hl 2 rfl) ?_
    refine lv_iand hx hb dX0_cell_68 ?_
    refine lv_if_eq (tgt := 96) hx hb dX0_cell_69 (by decide) (fun c3 => ?_) (fun c3 => ?_)
    rotate_left
    · have c3 : k.testBit x = true := by
        cases q : k.testBit x
        · exact absurd ((dk_and k k64 x (by omega)).mpr q) c3
        · rfl
      refine lv_aload_n hx hb dX0_cell_72 rfl (lv_at hl 5 rfl) ?_
      refine dk_g2 hx hb hts hown hK hP dX0_cell_73 ?_
      refine lv_iload hx hb dX0_cell_76 (lv_at hl 0 rfl) ?_
      refine lv_iload_n hx hb dX0_cell_78 rfl (lv_at hl 2 rfl) ?_
      refine lv_iconst (v := (-1)) hx hb dX0_cell_79 (by decide) ?_
      refine lv_ixor hx hb dX0_cell_80 ?_
      refine lv_iand hx hb dX0_cell_81 ?_
      refine dk_top (dk_clr k k64 x x6 c3) ?_
      refine lv_dup2_11 hx hb dX0_cell_82 rfl rfl ?_
      refine dk_lald hx hb hK hP 3 1 rfl rfl (dk_xlt k64 x6) (by decide) dX0_cell_83 ?_
      refine lv_aload_n hx hb dX0_cell_84 rfl (lv_at hl 5 rfl) ?_
      refine dk_g1 hx hb hts hown hK hP dX0_cell_85 ?_
      refine lv_iload hx hb dX0_cell_88 (lv_at hl 0 rfl) ?_
      refine dk_lald hx hb hK hP 2 1 rfl rfl k64 (by decide) dX0_cell_90 ?_
      refine lv_ladd hx hb dX0_cell_91 ?_
      refine dk_last hx hb hK hP hD hS 3 1 rfl rfl (dk_xlt k64 x6) (by decide) dX0_cell_92 (fun H locs hP hD hS => ?_)
      refine lv_goto (tgt := 194) hx hb dX0_cell_93 (by decide) ?_
      exact next (dk_add t0 (k ^^^ 2 ^ x) (fw k)) H locs (by unfold dk_stp; rw [if_neg c2, if_pos c3]) hP hD hS
    have c3 : k.testBit x = false := (dk_and k k64 x (by omega)).mp c3
    have c3' : ¬ k.testBit x = true := by rw [c3]; decide
    refine lv_aload_n hx hb dX0_cell_96 rfl (lv_at hl 5 rfl) ?_
    refine lv_iload_n hx hb dX0_cell_97 rfl (lv_at hl 4 rfl) ?_
    refine lv_iload_n hx hb dX0_cell_98 rfl (lv_at hl 3 rfl) ?_
    refine dk_copen hx hb hml hown hts hA hK hP hD hS hR hf hl.1 w6 h6 (by omega) (by omega) (by decide) dX0_cell_99 (fun H locs hP hS => ?_)
    refine lv_if_ne (tgt := 125) hx hb dX0_cell_102 (by decide) (fun c4 => ?_) (fun c4 => ?_)
    rotate_left
    · have c4 : dk_opn w h ho x y = false := dk_b0.mp c4
      refine lv_aload_n hx hb dX0_cell_105 rfl (lv_at hl 5 rfl) ?_
      refine dk_g2 hx hb hts hown hK hP dX0_cell_106 ?_
      refine lv_iload hx hb dX0_cell_109 (lv_at hl 0 rfl) ?_
      refine lv_dup2_11 hx hb dX0_cell_111 rfl rfl ?_
      refine dk_lald hx hb hK hP 3 1 rfl rfl k64 (by decide) dX0_cell_112 ?_
      refine lv_aload_n hx hb dX0_cell_113 rfl (lv_at hl 5 rfl) ?_
      refine dk_g1 hx hb hts hown hK hP dX0_cell_114 ?_
      refine lv_iload hx hb dX0_cell_117 (lv_at hl 0 rfl) ?_
      refine dk_lald hx hb hK hP 2 1 rfl rfl k64 (by decide) dX0_cell_119 ?_
      refine lv_ladd hx hb dX0_cell_120 ?_
      refine dk_last hx hb hK hP hD hS 3 1 rfl rfl k64 (by decide) dX0_cell_121 (fun H locs hP hD hS => ?_)
      refine lv_goto (tgt := 194) hx hb dX0_cell_122 (by decide) ?_
      exact next (dk_add t0 k (fw k)) H locs (by unfold dk_stp; rw [if_neg c2, if_neg c3', if_pos c4]) hP hD hS
    have c4 : ¬ dk_opn w h ho x y = false := fun q => c4 (dk_b0.mpr q)
    have rgt : ∀ (t1 : Nat → Int64) (H : Heap) (locs : List Loc), t1 = (if dk_opn w h ho x (y + 1) = true then dk_add t0 (k ||| 2 ^ x) (fw k) else t0) → va_P (dC, dI) vwCl (dk_W cA cJ cZ o oh wa ta ya w h ho fw t1) H → va_D A (dk_W cA cJ cZ o oh wa ta ya w h ho fw t1) → va_S A H0 H locs → W p l e R s m args below meth c H locs cells slots Q (F0 m 155 ls []) := by
      intro t1 H locs et hP hD hS
      have est : dk_rgt w h ho x y fw k t1 = dk_stp w h ho x y fw k t0 := by
        unfold dk_stp
        rw [if_neg c2, if_neg c3', if_neg c4, et]
      refine lv_aload_n hx hb dX0_cell_155 rfl (lv_at hl 5 rfl) ?_
      refine lv_iload_n hx hb dX0_cell_156 rfl (lv_at hl 4 rfl) ?_
      refine lv_iconst (v := 1) hx hb dX0_cell_157 (by decide) ?_
      refine lv_iadd hx hb dX0_cell_158 ?_
      refine dk_top (nI_1 x) ?_
      refine lv_iload_n hx hb dX0_cell_159 rfl (lv_at hl 3 rfl) ?_
      refine dk_copen hx hb hml hown hts hA hK hP hD hS hR hf hl.1 w6 h6 (by omega) (by omega) (by decide) dX0_cell_160 (fun H locs hP hS => ?_)
      refine lv_if_eq (tgt := 194) hx hb dX0_cell_163 (by decide) (fun c5 => ?_) (fun c5 => ?_)
      · have c5 : dk_opn w h ho (x + 1) y = false := dk_b0.mp c5
        exact next t1 H locs (by rw [← est]; unfold dk_rgt; rw [if_neg (by rw [c5]; simp)]) hP hD hS
      have c5 : dk_opn w h ho (x + 1) y = true := by
        cases q : dk_opn w h ho (x + 1) y
        · exact absurd (dk_b0.mpr q) c5
        · rfl
      have x5 : x + 1 < 6 := by
        rcases Nat.lt_or_ge (x + 1) w with q | q
        · omega
        · rw [dk_opn_1 (by omega)] at c5
          cases c5
      refine lv_iload hx hb dX0_cell_166 (lv_at hl 0 rfl) ?_
      refine lv_iload hx hb dX0_cell_168 (lv_at hl 1 rfl) ?_
      refine lv_iand hx hb dX0_cell_170 ?_
      refine lv_if_ne (tgt := 194) hx hb dX0_cell_171 (by decide) (fun c6 => ?_) (fun c6 => ?_)
      · have c6 : ¬ k.testBit (x + 1) = false := fun q => c6 ((dk_and k k64 (x + 1) (by omega)).mpr q)
        exact next t1 H locs (by rw [← est]; unfold dk_rgt; rw [if_neg (fun q => c6 q.2)]) hP hD hS
      have c6 : k.testBit (x + 1) = false := (dk_and k k64 (x + 1) (by omega)).mp c6
      refine lv_aload_n hx hb dX0_cell_174 rfl (lv_at hl 5 rfl) ?_
      refine dk_g2 hx hb hts hown hK hP dX0_cell_175 ?_
      refine lv_iload hx hb dX0_cell_178 (lv_at hl 0 rfl) ?_
      refine lv_iload hx hb dX0_cell_180 (lv_at hl 1 rfl) ?_
      refine lv_ior hx hb dX0_cell_182 ?_
      refine dk_top (dk_or k k64 (x + 1) x5) ?_
      refine lv_dup2_11 hx hb dX0_cell_183 rfl rfl ?_
      refine dk_lald hx hb hK hP 3 1 rfl rfl (dk_olt k64 x5) (by decide) dX0_cell_184 ?_
      refine lv_aload_n hx hb dX0_cell_185 rfl (lv_at hl 5 rfl) ?_
      refine dk_g1 hx hb hts hown hK hP dX0_cell_186 ?_
      refine lv_iload hx hb dX0_cell_189 (lv_at hl 0 rfl) ?_
      refine dk_lald hx hb hK hP 2 1 rfl rfl k64 (by decide) dX0_cell_191 ?_
      refine lv_ladd hx hb dX0_cell_192 ?_
      refine dk_last hx hb hK hP hD hS 3 1 rfl rfl (dk_olt k64 x5) (by decide) dX0_cell_193 (fun H locs hP hD hS => ?_)
      exact next (dk_add t1 (k ||| 2 ^ (x + 1)) (fw k)) H locs (by rw [← est]; unfold dk_rgt; rw [if_pos ⟨c5, c6⟩]) hP hD hS
    refine lv_aload_n hx hb dX0_cell_125 rfl (lv_at hl 5 rfl) ?_
    refine lv_iload_n hx hb dX0_cell_126 rfl (lv_at hl 4 rfl) ?_
    refine lv_iload_n hx hb dX0_cell_127 rfl (lv_at hl 3 rfl) ?_
    refine lv_iconst (v := 1) hx hb dX0_cell_128 (by decide) ?_
    refine lv_iadd hx hb dX0_cell_129 ?_
    refine dk_top (nI_1 y) ?_
    refine dk_copen hx hb hml hown hts hA hK hP hD hS hR hf hl.1 w6 h6 (by omega) (by omega) (by decide) dX0_cell_130 (fun H locs hP hS => ?_)
    refine lv_if_eq (tgt := 155) hx hb dX0_cell_133 (by decide) (fun c5 => ?_) (fun c5 => ?_)
    · have c5 : dk_opn w h ho x (y + 1) = false := dk_b0.mp c5
      exact rgt t0 H locs (by rw [c5]; rfl) hP hD hS
    have c5 : dk_opn w h ho x (y + 1) = true := by
      cases q : dk_opn w h ho x (y + 1)
      · exact absurd (dk_b0.mpr q) c5
      · rfl
    refine lv_aload_n hx hb dX0_cell_136 rfl (lv_at hl 5 rfl) ?_
    refine dk_g2 hx hb hts hown hK hP dX0_cell_137 ?_
    refine lv_iload hx hb dX0_cell_140 (lv_at hl 0 rfl) ?_
    refine lv_iload_n hx hb dX0_cell_142 rfl (lv_at hl 2 rfl) ?_
    refine lv_ior hx hb dX0_cell_143 ?_
    refine dk_top (dk_or k k64 x x6) ?_
    refine lv_dup2_11 hx hb dX0_cell_144 rfl rfl ?_
    refine dk_lald hx hb hK hP 3 1 rfl rfl (dk_olt k64 x6) (by decide) dX0_cell_145 ?_
    refine lv_aload_n hx hb dX0_cell_146 rfl (lv_at hl 5 rfl) ?_
    refine dk_g1 hx hb hts hown hK hP dX0_cell_147 ?_
    refine lv_iload hx hb dX0_cell_150 (lv_at hl 0 rfl) ?_
    refine dk_lald hx hb hK hP 2 1 rfl rfl k64 (by decide) dX0_cell_152 ?_
    refine lv_ladd hx hb dX0_cell_153 ?_
    refine dk_last hx hb hK hP hD hS 3 1 rfl rfl (dk_olt k64 x6) (by decide) dX0_cell_154 (fun H locs hP hD hS => ?_)
    exact rgt (dk_add t0 (k ||| 2 ^ x) (fw k)) H locs (by rw [c5]; rfl) hP hD hS
end DKE
set_option maxHeartbeats 4000000 in
set_option maxRecDepth 100000 in
/-- cell(x, y): the two arrays change places; the numbers are dk_run's -/
theorem metX0_cell (l : Launch) (dC : Nat → ClassId) (dI : Nat → Nat → Nat) (cA cJ cZ : ClassId) (o oh wa ta : Nat) (ya : Nat → Nat) (w h : Nat) (ho : Nat → Nat → Bool) (fw ft : Nat → Int64) (sz : Nat) (x y : Nat) (w6 : w ≤ 6) (h6 : h ≤ 6) (hxw : x < w) (hyh : y < h) : Met l yX0_cell (ws_ yX0_cell cX0_cell 6 none) ({ frames := 1, cells := 0, slots := 0, locals := 22 }) (va_Pc [.ref o, .int (nI x), .int (nI y)] (fun U => U.heap.size = sz ∧ va_P (dC, dI) vwCl (dk_W cA cJ cZ o oh wa ta ya w h ho fw ft) U.heap ∧ va_K (dC, dI) vwCl (dk_T cA cJ cZ) U ∧ va_D (fun _ => True) (dk_W cA cJ cZ o oh wa ta ya w h ho fw ft))) (va_Qv (fun (_ : Unit) => True) (fun _ t => va_P (dC, dI) vwCl (dk_W cA cJ cZ o oh ta wa ya w h ho (dk_run w h ho x y fw (2 ^ w)) fw) t.heap ∧ va_K (dC, dI) vwCl (dk_T cA cJ cZ) t ∧ va_D (va_A (dk_W cA cJ cZ o oh wa ta ya w h ho fw ft) sz) (dk_W cA cJ cZ o oh ta wa ya w h ho (dk_run w h ho x y fw (2 ^ w)) fw)) (va_A (dk_W cA cJ cZ o oh wa ta ya w h ho fw ft) sz)) 0 0 (va_A (dk_W cA cJ cZ o oh wa ta ya w h ho fw ft) sz) := by
  refine Met.ofW (cc := cX0_cell) (maxL := 6) (ret := none) (by decide) rfl ?_
  intro p e s m args below meth c s₁ B hml hv
  obtain ⟨rfl, hsz, hP, hK, hD0⟩ := hv
  have hx := B.exec
  have hb := B.bytes
  have hr := B.returns
  have hts := atoms_spec (ws := ws_ yX0_cell cX0_cell 6 none) B.pre
  have hts : ∀ w ∈ lw_all, w.before _ s = true := fun w h => hts w (List.mem_cons_of_mem _ h)
  have hown : s.vm.findClass RX0 = some m.cls := findClass_of_methodNamed B.named
  have hlocks := B.notSynchronized
  subst hsz
  have hD := hD0.self (sz := s.heap.size)
  generalize hAe : va_A (dk_W cA cJ cZ o oh wa ta ya w h ho fw ft) s.heap.size = A at hD ⊢
  have hA : ∀ q : Nat, s.heap.size ≤ q → A q := fun q h => by rw [← hAe]; exact Or.inr h
  have hS : va_S A s.heap s.heap [] := va_S.rf
  have hl := lv_entry ([.ref o, .int (nI x), .int (nI y)]) (n := 6) (Nat.le_of_ble_eq_true rfl)
  rw [lg_entry_eq]
  generalize (lg_sl ([.ref o, .int (nI x), .int (nI y)]) ++ List.replicate (6 - (lg_sl ([.ref o, .int (nI x), .int (nI y)])).length) Slot.unset).toArray = ls at hl ⊢
  have hl : lv_has ls 6 [(0, .ref o), (1, .int (nI x)), (2, .int (nI y))] := hl
  refine lv_iconst (v := 1) hx hb dX0_cell_0 (by decide) ?_
  refine lv_iload_n hx hb dX0_cell_1 rfl (lv_at hl 1 rfl) ?_
  refine lv_ishl hx hb dX0_cell_2 ?_
  refine dk_top (dk_shl x (by omega)) ?_
  refine lv_istore_n (lv' := [(3, .int (nI (2 ^ x))), (0, .ref o), (1, .int (nI x)), (2, .int (nI y))]) hx hb dX0_cell_3 rfl hl (by decide) rfl (fun ls hl => ?_)
  refine lv_iload_n hx hb dX0_cell_4 rfl (lv_at hl 0 rfl) ?_
  refine lv_iconst (v := 1) hx hb dX0_cell_5 (by decide) ?_
  refine lv_ishl hx hb dX0_cell_6 ?_
  refine dk_top (dk_shl1 x (by omega)) ?_
  refine lv_istore (lv' := [(4, .int (nI (2 ^ (x + 1)))), (3, .int (nI (2 ^ x))), (0, .ref o), (1, .int (nI x)), (2, .int (nI y))]) hx hb dX0_cell_7 hl (by decide) rfl (fun ls hl => ?_)
  refine lv_iconst (v := 0) hx hb dX0_cell_9 (by decide) ?_
  refine lv_istore (lv' := [(5, .int 0), (4, .int (nI (2 ^ (x + 1)))), (3, .int (nI (2 ^ x))), (0, .ref o), (1, .int (nI x)), (2, .int (nI y))]) hx hb dX0_cell_10 hl (by decide) rfl (fun ls hl => ?_)
  refine dk_cell_z hx hb hown hts hK (fun H locs ls hP hD hS hl => ?_) 65 0 (by decide) (by decide) ft (fun j hj => absurd hj (Nat.not_lt_zero j)) s.heap [] ls hP hD hS (lv_sub hl [0, 1, 2, 5, 4, 3] rfl)
  refine lv_iconst (v := 0) hx hb dX0_cell_36 (by decide) ?_
  refine lv_istore (lv' := [(5, .int 0), (4, .int (nI (2 ^ (x + 1)))), (3, .int (nI (2 ^ x))), (2, .int (nI y)), (1, .int (nI x)), (0, .ref o)]) hx hb dX0_cell_37 hl (by decide) rfl (fun ls hl => ?_)
  refine dk_cell_m hx hb hml hown hts hA hK ⟨Nat.le_of_ble_eq_true rfl, Nat.le_of_ble_eq_true rfl⟩ ⟨Nat.le_of_ble_eq_true rfl, Nat.le_of_ble_eq_true rfl⟩ w6 h6 hxw hyh (fun H locs ls hP hD hS hl => ?_) (2 ^ w + 1) 0 (by omega) (Nat.zero_le _) H locs ls hP hD hS hl
  generalize dk_run w h ho x y fw (2 ^ w) = f1 at hP hD ⊢
  refine lv_aload_n hx hb dX0_cell_200 rfl (lv_at hl 5 rfl) ?_
  refine dk_g1 hx hb hts hown hK hP dX0_cell_201 ?_
  refine lv_astore (lv' := [(5, .ref wa), (4, .int (nI (2 ^ (x + 1)))), (3, .int (nI (2 ^ x))), (2, .int (nI y)), (1, .int (nI x)), (0, .ref o)]) hx hb dX0_cell_204 hl (by decide) rfl (fun ls hl => ?_)
  refine lv_aload_n hx hb dX0_cell_206 rfl (lv_at hl 5 rfl) ?_
  refine lv_aload_n hx hb dX0_cell_207 rfl (lv_at hl 5 rfl) ?_
  refine dk_g2 hx hb hts hown hK hP dX0_cell_208 ?_
  refine va_put (D := (dC, dI)) (ci := 0) (v := .ref ta) (ty := .array .long) (C := RX0) (T := TX0) (N := 5) hx hb hts in_X0 tyX0 tyX0_ok nmX0 hown hK hP hD hS 0 rfl rfl 1 (by decide) (hts _ q17) (fun _ h9 => h9) rfl (by decide +kernel) rfl rfl (Nat.le_of_ble_eq_true rfl) dX0_cell_211 (fun H locs hP hD hS => ?_)
  refine lv_aload_n hx hb dX0_cell_214 rfl (lv_at hl 5 rfl) ?_
  refine lv_aload hx hb dX0_cell_215 (lv_at hl 0 rfl) ?_
  refine va_put (D := (dC, dI)) (ci := 0) (v := .ref wa) (ty := .array .long) (C := RX0) (T := TX0) (N := 5) hx hb hts in_X0 tyX0 tyX0_ok nmX0 hown hK hP hD hS 0 rfl rfl 2 (by decide) (hts _ q18) (fun _ h9 => h9) rfl (by decide +kernel) rfl rfl (Nat.le_of_ble_eq_true rfl) dX0_cell_217 (fun H locs hP hD hS => ?_)
  have hP9 : va_P (dC, dI) vwCl (dk_W cA cJ cZ o oh ta wa ya w h ho f1 fw) H := hP.sub [0, 1, 3, 2, 4, 5, 6, 7, 8, 9] rfl
  have hD9 : va_D A (dk_W cA cJ cZ o oh ta wa ya w h ho f1 fw) := hD.sub [0, 1, 3, 2, 4, 5, 6, 7, 8, 9] (by decide) rfl
  exact W.vret hx hb hr (fun t ht hW => ⟨⟨(), rfl, trivial, by rw [ht]; exact hP9, va_K.moved hW.alike hK, hD9⟩, hS.F ht⟩) hS.2.2 dX0_cell_220
end
section
/-! COUNT of the class: the loop that sets the start, the two loops over the board -/
section DKF
variable {p : Program} {l : Launch} {e : Env} {R : Room} {s : State} {m : MethodId} {args : Array Value} {below : List Frame} {meth : Method} {c : Code} {cells slots : Nat} {Q : State → Prop}
variable {A : Nat → Prop} {H0 : Heap} {dC : Nat → ClassId} {dI : Nat → Nat → Nat} {cA cJ cZ : ClassId} {o oh : Nat} {ya : Nat → Nat} {w h : Nat} {ho : Nat → Nat → Bool}
set_option maxHeartbeats 4000000 in
set_option maxRecDepth 100000 in
theorem dk_count_i {wa ta : Nat} {ft : Nat → Int64} (hx : p.tables.exec = Jvm.exec) (hb : c.code = cX0_count) (hown : s.vm.findClass RX0 = some m.cls) (hts : ∀ w ∈ lw_all, w.before args s = true) (hK : va_K (dC, dI) vwCl (dk_T cA cJ cZ) s)
    (kk : ∀ (H : Heap) (locs : List Loc) (ls : Array Slot), va_P (dC, dI) vwCl (dk_W cA cJ cZ o oh wa ta ya w h ho dk_one ft) H → va_D A (dk_W cA cJ cZ o oh wa ta ya w h ho dk_one ft) → va_S A H0 H locs → lv_has ls 3 [(1, .int (nI 64)), (0, .ref o)] → W p l e R s m args below meth c H locs cells slots Q (F0 m 32 ls [])) :
    ∀ (n i : Nat), 65 ≤ i + n → i ≤ 64 → ∀ (fw : Nat → Int64), (∀ j, j < i → fw j = dk_one j) → ∀ (H : Heap) (locs : List Loc) (ls : Array Slot), va_P (dC, dI) vwCl (dk_W cA cJ cZ o oh wa ta ya w h ho fw ft) H → va_D A (dk_W cA cJ cZ o oh wa ta ya w h ho fw ft) → va_S A H0 H locs → lv_has ls 3 [(1, .int (nI i)), (0, .ref o)] → W p l e R s m args below meth c H locs cells slots Q (F0 m 2 ls []) := by
  intro n
  induction n with
  | zero =>
    intro i h1 h2
    omega
  | succ n ih =>
    intro i h1 h2 fw hz H locs ls hP hD hS hl
    refine lv_iload_n hx hb dX0_count_2 rfl (lv_at hl 0 rfl) ?_
    refine lv_aload_n hx hb dX0_count_3 rfl (lv_at hl 1 rfl) ?_
    refine dk_g1 hx hb hts hown hK hP dX0_count_4 ?_
    refine va_alen (v := nI 64) hx hb hK hP 2 1 rfl rfl rfl dX0_count_7 ?_
    refine lv_icmp_ge (tgt := 32) hx hb dX0_count_8 (by decide) (fun c1 => ?_) (fun c1 => ?_)
    · have c1 := (nI_leI (by omega) (by omega)).mp c1
      have e1 : i = 64 := by omega
      subst e1
      exact kk H locs ls (dk_reL hP hD 2 rfl hz) (dk_Dsame hD rfl) hS hl
    have c1 : i < 64 := Nat.not_le.mp fun q => c1 ((nI_leI (by omega) (by omega)).mpr q)
    have sto : ∀ v : Int64, v = dk_one i → W p l e R s m args below meth c H locs cells slots Q (F0 m 25 ls [.long v, .int (nI i), .ref wa]) := by
      intro v ev
      refine dk_last hx hb hK hP hD hS 2 1 rfl rfl c1 (by decide) dX0_count_25 (fun H locs hP hD hS => ?_)
      refine lv_iinc (v := nI (i + 1)) (lv' := [(1, .int (nI (i + 1))), (0, .ref o)]) hx hb dX0_count_26 hl (k := 0) rfl (nI_1 i) (by decide) rfl (fun ls hl => ?_)
      refine lv_goto (tgt := 2) hx hb dX0_count_29 (by decide) ?_
      refine ih (i + 1) (by omega) (by omega) (vp_updL fw i v) (fun j hj => ?_) H locs ls hP hD hS hl
      by_cases e1 : j = i
      · subst e1
        rw [pk_uLs, ev]
      · rw [pk_uLn e1]
        exact hz j (by omega)
    refine lv_aload_n hx hb dX0_count_11 rfl (lv_at hl 1 rfl) ?_
    refine dk_g1 hx hb hts hown hK hP dX0_count_12 ?_
    refine lv_iload_n hx hb dX0_count_15 rfl (lv_at hl 0 rfl) ?_
    refine lv_iload_n hx hb dX0_count_16 rfl (lv_at hl 0 rfl) ?_
    refine lv_if_ne (tgt := 24) hx hb dX0_count_17 (by decide) (fun c2 => ?_) (fun c2 => ?_)
    · have i0 : ¬ i = 0 := fun q => c2 (by rw [q]; exact nI_0)
      refine lv_lconst (v := 0) hx hb dX0_count_24 (by decide) ?_
      exact sto 0 (by unfold dk_one; rw [if_neg i0])
    · have i0 : i = 0 := by
        rcases Nat.eq_zero_or_pos i with q | q
        · exact q
        · exact absurd c2 (nI_ne0 q (by omega))
      refine lv_lconst (v := 1) hx hb dX0_count_20 (by decide) ?_
      refine lv_goto (tgt := 25) hx hb dX0_count_21 (by decide) ?_
      exact sto 1 (by unfold dk_one; rw [if_pos i0])
set_option maxHeartbeats 4000000 in
set_option maxRecDepth 100000 in
theorem dk_count_x (hx : p.tables.exec = Jvm.exec) (hb : c.code = cX0_count) (hml : c.maxLocals = 3) (hown : s.vm.findClass RX0 = some m.cls) (hts : ∀ w ∈ lw_all, w.before args s = true) (hA : ∀ q : Nat, H0.size ≤ q → A q) (hK : va_K (dC, dI) vwCl (dk_T cA cJ cZ) s) (hR : 2 ≤ R.frames ∧ 47 ≤ R.locals) (hf : cells ≤ R.cells ∧ slots ≤ R.slots) {y : Nat} {f0 : Nat → Int64} (w6 : w ≤ 6) (h6 : h ≤ 6) (hyh : y < h)
    (kk : ∀ (wa ta : Nat) (ft : Nat → Int64) (H : Heap) (locs : List Loc) (ls : Array Slot), va_P (dC, dI) vwCl (dk_W cA cJ cZ o oh wa ta ya w h ho (dk_row w h ho y f0 w) ft) H → va_D A (dk_W cA cJ cZ o oh wa ta ya w h ho (dk_row w h ho y f0 w) ft) → va_S A H0 H locs → lv_has ls 3 [(2, .int (nI w)), (1, .int (nI y)), (0, .ref o)] → W p l e R s m args below meth c H locs cells slots Q (F0 m 64 ls [])) :
    ∀ (n x : Nat), w + 1 ≤ x + n → x ≤ w → ∀ (wa ta : Nat) (ft : Nat → Int64) (H : Heap) (locs : List Loc) (ls : Array Slot), va_P (dC, dI) vwCl (dk_W cA cJ cZ o oh wa ta ya w h ho (dk_row w h ho y f0 x) ft) H → va_D A (dk_W cA cJ cZ o oh wa ta ya w h ho (dk_row w h ho y f0 x) ft) → va_S A H0 H locs → lv_has ls 3 [(2, .int (nI x)), (1, .int (nI y)), (0, .ref o)] → W p l e R s m args below meth c H locs cells slots Q (F0 m 44 ls []) := by
  intro n
  induction n with
  | zero =>
    intro x h1 h2
    omega
  | succ n ih =>
    intro x h1 h2 wa ta ft H locs ls hP hD hS hl
    refine lv_iload_n hx hb dX0_count_44 rfl (lv_at hl 0 rfl) ?_
    refine lv_aload_n hx hb dX0_count_45 rfl (lv_at hl 2 rfl) ?_
    refine dk_g3 hx hb hts hown hK hP dX0_count_46 ?_
    refine lv_icmp_ge (tgt := 64) hx hb dX0_count_49 (by decide) (fun c1 => ?_) (fun c1 => ?_)
    · have c1 := (nI_leI (by omega) (by omega)).mp c1
      have e1 : x = w := by omega
      subst e1
      exact kk wa ta ft H locs ls hP hD hS hl
    have c1 : x < w := Nat.not_le.mp fun q => c1 ((nI_leI (by omega) (by omega)).mpr q)
    refine lv_aload_n hx hb dX0_count_52 rfl (lv_at hl 2 rfl) ?_
    refine lv_iload_n hx hb dX0_count_53 rfl (lv_at hl 0 rfl) ?_
    refine lv_iload_n hx hb dX0_count_54 rfl (lv_at hl 1 rfl) ?_
    have hFc := va_free (wc := dk_W cA cJ cZ o oh wa ta ya w h ho (dk_row w h ho y f0 x) ft) hD hS hA [0, 1, 2, 3, 4, 5, 6, 7, 8, 9] rfl
    refine va_callv (va_runV (As := [.int (nI x), .int (nI y)]) (rest := []) ⟨hx, hb, hml, hown, hts⟩ (metX0_cell l dC dI cA cJ cZ o oh wa ta ya w h ho (dk_row w h ho y f0 x) ft H.size x y w6 h6 c1 hyh) (cwV 2 hts (lw_V q50 q52 qs0 q4 q53) rfl rfl rfl (by decide +kernel) ⟨hR.1, hR.2⟩) ⟨fun a U g mk q => by obtain ⟨q0, q1, qP, qK, qD⟩ := q; exact ⟨q0, q1, qP, va_K.moved (u := U) (U := U.calling g mk a) (Vm.Alike.refl U.vm) qK, qD⟩, va_recv hK hP (ci := 0) (q0 := 0) rfl rfl, fun U hU hW => ⟨rfl, by rw [hU], by rw [hU]; exact hP, va_K.moved hW.alike hK, hD.weaken (fun _ _ _ _ => trivial)⟩⟩ rfl rfl hl.1 rfl (lv_room (Nat.le_of_ble_eq_true rfl)) dX0_count_55 hf) hS (fun q _ h => hFc q h) hFc (fun u t H1 locs1 ht hvm hw hB hz hk hS1 => ?_)
    obtain ⟨hP1, -, hD1⟩ := hB
    rw [ht] at hP1
    have hD1 := hD1.weaken (fun k q _ h => hFc q.1 h)
    refine lv_iinc (v := nI (x + 1)) (lv' := [(2, .int (nI (x + 1))), (1, .int (nI y)), (0, .ref o)]) hx hb dX0_count_58 hl (k := 0) rfl (nI_1 x) (by decide) rfl (fun ls hl => ?_)
    refine lv_goto (tgt := 44) hx hb dX0_count_61 (by decide) ?_
    exact ih (x + 1) (by omega) (by omega) ta wa (dk_row w h ho y f0 x) H1 locs1 ls hP1 hD1 hS1 hl
set_option maxHeartbeats 4000000 in
set_option maxRecDepth 100000 in
theorem dk_count_y (hx : p.tables.exec = Jvm.exec) (hb : c.code = cX0_count) (hml : c.maxLocals = 3) (hown : s.vm.findClass RX0 = some m.cls) (hts : ∀ w ∈ lw_all, w.before args s = true) (hA : ∀ q : Nat, H0.size ≤ q → A q) (hK : va_K (dC, dI) vwCl (dk_T cA cJ cZ) s) (hR : 2 ≤ R.frames ∧ 47 ≤ R.locals) (hf : cells ≤ R.cells ∧ slots ≤ R.slots) (w6 : w ≤ 6) (h6 : h ≤ 6)
    (kk : ∀ (wa ta : Nat) (ft : Nat → Int64) (H : Heap) (locs : List Loc) (ls : Array Slot), va_P (dC, dI) vwCl (dk_W cA cJ cZ o oh wa ta ya w h ho (dk_all w h ho h) ft) H → va_D A (dk_W cA cJ cZ o oh wa ta ya w h ho (dk_all w h ho h) ft) → va_S A H0 H locs → lv_has ls 3 [(1, .int (nI h)), (0, .ref o)] → W p l e R s m args below meth c H locs cells slots Q (F0 m 70 ls [])) :
    ∀ (n y : Nat), h + 1 ≤ y + n → y ≤ h → ∀ (wa ta : Nat) (ft : Nat → Int64) (H : Heap) (locs : List Loc) (ls : Array Slot), va_P (dC, dI) vwCl (dk_W cA cJ cZ o oh wa ta ya w h ho (dk_all w h ho y) ft) H → va_D A (dk_W cA cJ cZ o oh wa ta ya w h ho (dk_all w h ho y) ft) → va_S A H0 H locs → lv_has ls 3 [(1, .int (nI y)), (0, .ref o)] → W p l e R s m args below meth c H locs cells slots Q (F0 m 34 ls []) := by
  intro n
  induction n with
  | zero =>
    intro y h1 h2
    omega
  | succ n ih =>
    intro y h1 h2 wa ta ft H locs ls hP hD hS hl
    refine lv_iload_n hx hb dX0_count_34 rfl (lv_at hl 0 rfl) ?_
    refine lv_aload_n hx hb dX0_count_35 rfl (lv_at hl 1 rfl) ?_
    refine dk_g4 hx hb hts hown hK hP dX0_count_36 ?_
    refine lv_icmp_ge (tgt := 70) hx hb dX0_count_39 (by decide) (fun c1 => ?_) (fun c1 => ?_)
    · have c1 := (nI_leI (by omega) (by omega)).mp c1
      have e1 : y = h := by omega
      subst e1
      exact kk wa ta ft H locs ls hP hD hS hl
    have c1 : y < h := Nat.not_le.mp fun q => c1 ((nI_leI (by omega) (by omega)).mpr q)
    refine lv_iconst (v := 0) hx hb dX0_count_42 (by decide) ?_
    refine lv_istore_n (lv' := [(2, .int 0), (1, .int (nI y)), (0, .ref o)]) hx hb dX0_count_43 rfl hl (by decide) rfl (fun ls hl => ?_)
    refine dk_count_x hx hb hml hown hts hA hK hR hf w6 h6 c1 (f0 := dk_all w h ho y) (fun wa ta ft H locs ls hP hD hS hl => ?_) (w + 1) 0 (by omega) (Nat.zero_le _) wa ta ft H locs ls hP hD hS hl
    refine lv_iinc (v := nI (y + 1)) (lv' := [(1, .int (nI (y + 1))), (2, .int (nI w)), (0, .ref o)]) hx hb dX0_count_64 hl (k := 1) rfl (nI_1 y) (by decide) rfl (fun ls hl => ?_)
    refine lv_goto (tgt := 34) hx hb dX0_count_67 (by decide) ?_
    exact ih (y + 1) (by omega) (by omega) wa ta ft H locs ls hP hD hS (lv_sub hl [0, 2] rfl)
end DKF
set_option maxHeartbeats 4000000 in
set_option maxRecDepth 100000 in
/-- count(): the number dk_cnt; the two arrays are left in any state, in either order -/
theorem metX0_count (l : Launch) (dC : Nat → ClassId) (dI : Nat → Nat → Nat) (cA cJ cZ : ClassId) (o oh wa ta : Nat) (ya : Nat → Nat) (w h : Nat) (ho : Nat → Nat → Bool) (fw ft : Nat → Int64) (sz : Nat) (w6 : w ≤ 6) (h6 : h ≤ 6) : Met l yX0_count (ws_ yX0_count cX0_count 3 (some .long)) ({ frames := 2, cells := 0, slots := 0, locals := 47 }) (va_Pc [.ref o] (fun U => U.heap.size = sz ∧ va_P (dC, dI) vwCl (dk_W cA cJ cZ o oh wa ta ya w h ho fw ft) U.heap ∧ va_K (dC, dI) vwCl (dk_T cA cJ cZ) U ∧ va_D (fun _ => True) (dk_W cA cJ cZ o oh wa ta ya w h ho fw ft))) (va_Ql (fun (r : Int64) (_ : Unit) => r = dk_cnt w h ho) (fun _ t => ∃ (wa' ta' : Nat) (fw' ft' : Nat → Int64), va_P (dC, dI) vwCl (dk_W cA cJ cZ o oh wa' ta' ya w h ho fw' ft') t.heap ∧ va_K (dC, dI) vwCl (dk_T cA cJ cZ) t ∧ va_D (va_A (dk_W cA cJ cZ o oh wa ta ya w h ho fw ft) sz) (dk_W cA cJ cZ o oh wa' ta' ya w h ho fw' ft')) (va_A (dk_W cA cJ cZ o oh wa ta ya w h ho fw ft) sz)) 0 0 (va_A (dk_W cA cJ cZ o oh wa ta ya w h ho fw ft) sz) := by
  refine Met.ofW (cc := cX0_count) (maxL := 3) (ret := (some .long)) (by decide) rfl ?_
  intro p e s m args below meth c s₁ B hml hv
  obtain ⟨rfl, hsz, hP, hK, hD0⟩ := hv
  have hx := B.exec
  have hb := B.bytes
  have hr := B.returns
  have hts := atoms_spec (ws := ws_ yX0_count cX0_count 3 (some .long)) B.pre
  have hts : ∀ w ∈ lw_all, w.before _ s = true := fun w h => hts w (List.mem_cons_of_mem _ h)
  have hown : s.vm.findClass RX0 = some m.cls := findClass_of_methodNamed B.named
  have hlocks := B.notSynchronized
  subst hsz
  have hD := hD0.self (sz := s.heap.size)
  generalize hAe : va_A (dk_W cA cJ cZ o oh wa ta ya w h ho fw ft) s.heap.size = A at hD ⊢
  have hA : ∀ q : Nat, s.heap.size ≤ q → A q := fun q h => by rw [← hAe]; exact Or.inr h
  have hS : va_S A s.heap s.heap [] := va_S.rf
  have hl := lv_entry ([.ref o]) (n := 3) (Nat.le_of_ble_eq_true rfl)
  rw [lg_entry_eq]
  generalize (lg_sl ([.ref o]) ++ List.replicate (3 - (lg_sl ([.ref o])).length) Slot.unset).toArray = ls at hl ⊢
  have hl : lv_has ls 3 [(0, .ref o)] := hl
  refine lv_iconst (v := 0) hx hb dX0_count_0 (by decide) ?_
  refine lv_istore_n (lv' := [(1, .int 0), (0, .ref o)]) hx hb dX0_count_1 rfl hl (by decide) rfl (fun ls hl => ?_)
  refine dk_count_i hx hb hown hts hK (fun H locs ls hP hD hS hl => ?_) 65 0 (by decide) (by decide) fw (fun j hj => absurd hj (Nat.not_lt_zero j)) s.heap [] ls hP hD hS hl
  refine lv_iconst (v := 0) hx hb dX0_count_32 (by decide) ?_
  refine lv_istore_n (lv' := [(1, .int 0), (0, .ref o)]) hx hb dX0_count_33 rfl hl (by decide) rfl (fun ls hl => ?_)
  refine dk_count_y hx hb hml hown hts hA hK ⟨Nat.le_of_ble_eq_true rfl, Nat.le_of_ble_eq_true rfl⟩ ⟨Nat.le_of_ble_eq_true rfl, Nat.le_of_ble_eq_true rfl⟩ w6 h6 (fun wa1 ta1 ft1 H locs ls hP hD hS hl => ?_) (h + 1) 0 (by omega) (Nat.zero_le _) wa ta ft H locs ls hP hD hS hl
  refine lv_aload_n hx hb dX0_count_70 rfl (lv_at hl 1 rfl) ?_
  refine dk_g1 hx hb hts hown hK hP dX0_count_71 ?_
  refine lv_iconst (v := 0) hx hb dX0_count_74 (by decide) ?_
  refine dk_lald (i := 0) hx hb hK hP 2 1 rfl rfl (by decide) (by decide) dX0_count_75 ?_
  exact W.lret (v := dk_all w h ho h 0) hx hb hr (fun t ht hW => ⟨⟨_, (), rfl, rfl, wa1, ta1, dk_all w h ho h, ft1, by rw [ht]; exact hP, va_K.moved hW.alike hK, hD⟩, hS.F ht⟩) hS.2.2 dX0_count_76
end
section
/-! SUM, CELLS, SURPLUS of the class -/
section DKS
variable {p : Program} {l : Launch} {e : Env} {R : Room} {s : State} {m : MethodId} {args : Array Value} {below : List Frame} {meth : Method} {c : Code} {cells slots : Nat} {Q : State → Prop}
variable {A : Nat → Prop} {H0 : Heap} {dC : Nat → ClassId} {dI : Nat → Nat → Nat} {cA cJ cZ : ClassId} {o oh wa ta : Nat} {ya : Nat → Nat} {w h : Nat} {ho : Nat → Nat → Bool} {fw ft : Nat → Int64}
set_option maxHeartbeats 4000000 in
set_option maxRecDepth 100000 in
theorem dk_sum_y (hx : p.tables.exec = Jvm.exec) (hb : c.code = cX0_sum) (hml : c.maxLocals = 5) (hown : s.vm.findClass RX0 = some m.cls) (hts : ∀ w ∈ lw_all, w.before args s = true) (hA : ∀ q : Nat, H0.size ≤ q → A q) (hK : va_K (dC, dI) vwCl (dk_T cA cJ cZ) s) (hD : va_D A (dk_W cA cJ cZ o oh wa ta ya w h ho fw ft)) (hR : 1 ≤ R.frames ∧ 22 ≤ R.locals) (hf : cells ≤ R.cells ∧ slots ≤ R.slots) {x : Nat} {odd a0 : Int32} (w6 : w ≤ 6) (h6 : h ≤ 6) (hxw : x < w)
    (kk : ∀ (H : Heap) (locs : List Loc) (ls : Array Slot), va_P (dC, dI) vwCl (dk_W cA cJ cZ o oh wa ta ya w h ho fw ft) H → va_S A H0 H locs → lv_has ls 5 [(4, .int (nI h)), (3, .int (nI x)), (2, .int (a0 + l_sum (fun y => dk_term ho odd x y) h)), (1, .int odd), (0, .ref o)] → W p l e R s m args below meth c H locs cells slots Q (F0 m 57 ls [])) :
    ∀ (n y : Nat), h + 1 ≤ y + n → y ≤ h → ∀ (H : Heap) (locs : List Loc) (ls : Array Slot), va_P (dC, dI) vwCl (dk_W cA cJ cZ o oh wa ta ya w h ho fw ft) H → va_S A H0 H locs → lv_has ls 5 [(4, .int (nI y)), (3, .int (nI x)), (2, .int (a0 + l_sum (fun y => dk_term ho odd x y) y)), (1, .int odd), (0, .ref o)] → W p l e R s m args below meth c H locs cells slots Q (F0 m 15 ls []) := by
  intro n
  induction n with
  | zero =>
    intro y h1 h2
    omega
  | succ n ih =>
    intro y h1 h2 H locs ls hP hS hl
    refine lv_iload hx hb dX0_sum_15 (lv_at hl 0 rfl) ?_
    refine lv_aload_n hx hb dX0_sum_17 rfl (lv_at hl 4 rfl) ?_
    refine dk_g4 hx hb hts hown hK hP dX0_sum_18 ?_
    refine lv_icmp_ge (tgt := 57) hx hb dX0_sum_21 (by decide) (fun c1 => ?_) (fun c1 => ?_)
    · have c1 := (nI_leI (by omega) (by omega)).mp c1
      have e1 : y = h := by omega
      subst e1
      exact kk H locs ls hP hS hl
    have c1 : y < h := Nat.not_le.mp fun q => c1 ((nI_leI (by omega) (by omega)).mpr q)
    have nxt : ∀ (v : Int32) (H : Heap) (locs : List Loc) (ls : Array Slot), v = a0 + l_sum (fun y => dk_term ho odd x y) (y + 1) → va_P (dC, dI) vwCl (dk_W cA cJ cZ o oh wa ta ya w h ho fw ft) H → va_S A H0 H locs → lv_has ls 5 [(4, .int (nI y)), (3, .int (nI x)), (2, .int v), (1, .int odd), (0, .ref o)] → W p l e R s m args below meth c H locs cells slots Q (F0 m 51 ls []) := by
      intro v H locs ls ev hP hS hl
      subst ev
      refine lv_iinc (v := nI (y + 1)) (lv' := [(4, .int (nI (y + 1))), (3, .int (nI x)), (2, .int (a0 + l_sum (fun y => dk_term ho odd x y) (y + 1))), (1, .int odd), (0, .ref o)]) hx hb dX0_sum_51 hl (k := 0) rfl (nI_1 y) (by decide) rfl (fun ls hl => ?_)
      refine lv_goto (tgt := 15) hx hb dX0_sum_54 (by decide) ?_
      exact ih (y + 1) (by omega) (by omega) H locs ls hP hS hl
    refine lv_aload_n hx hb dX0_sum_24 rfl (lv_at hl 4 rfl) ?_
    refine lv_iload_n hx hb dX0_sum_25 rfl (lv_at hl 1 rfl) ?_
    refine lv_iload hx hb dX0_sum_26 (lv_at hl 0 rfl) ?_
    refine dk_copen hx hb hml hown hts hA hK hP hD hS hR hf hl.1 w6 h6 (by omega) (by omega) (by decide) dX0_sum_28 (fun H locs hP hS => ?_)
    refine lv_if_eq (tgt := 51) hx hb dX0_sum_31 (by decide) (fun c2 => ?_) (fun c2 => ?_)
    · have c2 : ho x y = true := by
        have q := dk_b0.mp c2
        rw [dk_opn_3 hxw c1] at q
        simpa using q
      refine nxt _ H locs ls ?_ hP hS hl
      show a0 + l_sum (fun y => dk_term ho odd x y) y = a0 + (l_sum (fun y => dk_term ho odd x y) y + dk_term ho odd x y)
      rw [show dk_term ho odd x y = 0 by unfold dk_term; rw [if_pos c2], Int32.add_zero]
    have c2 : ho x y = false := by
      cases q : ho x y
      · rfl
      · exact absurd (dk_b0.mpr (by rw [dk_opn_3 hxw c1, q]; rfl)) c2
    have fin : ∀ v : Int32, v = dk_term ho odd x y → W p l e R s m args below meth c H locs cells slots Q (F0 m 49 ls [.int v, .int (a0 + l_sum (fun y => dk_term ho odd x y) y)]) := by
      intro v ev
      refine lv_iadd hx hb dX0_sum_49 ?_
      refine lv_istore_n (lv' := [(2, .int (a0 + l_sum (fun y => dk_term ho odd x y) y + v)), (4, .int (nI y)), (3, .int (nI x)), (1, .int odd), (0, .ref o)]) hx hb dX0_sum_50 rfl hl (by decide) rfl (fun ls hl => ?_)
      refine nxt _ H locs ls ?_ hP hS (lv_sub hl [1, 2, 0, 3, 4] rfl)
      rw [ev, Int32.add_assoc]
      rfl
    refine lv_iload_n hx hb dX0_sum_34 rfl (lv_at hl 2 rfl) ?_
    refine lv_iload_n hx hb dX0_sum_35 rfl (lv_at hl 1 rfl) ?_
    refine lv_iload hx hb dX0_sum_36 (lv_at hl 0 rfl) ?_
    refine lv_iadd hx hb dX0_sum_38 ?_
    refine dk_top (nI_add x y) ?_
    refine lv_iconst (v := 2) hx hb dX0_sum_39 (by decide) ?_
    refine lv_irem hx hb dX0_sum_40 (by decide) ?_
    refine lv_if_ne (tgt := 48) hx hb dX0_sum_41 (by decide) (fun c3 => ?_) (fun c3 => ?_)
    · have c3 : ¬ (x + y) % 2 = 0 := fun q => c3 ((dk_par2 (x + y) (by omega)).mpr q)
      refine lv_iload_n hx hb dX0_sum_48 rfl (lv_at hl 3 rfl) ?_
      exact fin odd (by unfold dk_term; rw [if_neg (by rw [c2]; decide), if_neg c3])
    · have c3 : (x + y) % 2 = 0 := (dk_par2 (x + y) (by omega)).mp c3
      refine lv_iconst (v := 1) hx hb dX0_sum_44 (by decide) ?_
      refine lv_goto (tgt := 49) hx hb dX0_sum_45 (by decide) ?_
      exact fin 1 (by unfold dk_term; rw [if_neg (by rw [c2]; decide), if_pos c3])
set_option maxHeartbeats 4000000 in
set_option maxRecDepth 100000 in
theorem dk_sum_x (hx : p.tables.exec = Jvm.exec) (hb : c.code = cX0_sum) (hml : c.maxLocals = 5) (hown : s.vm.findClass RX0 = some m.cls) (hts : ∀ w ∈ lw_all, w.before args s = true) (hA : ∀ q : Nat, H0.size ≤ q → A q) (hK : va_K (dC, dI) vwCl (dk_T cA cJ cZ) s) (hD : va_D A (dk_W cA cJ cZ o oh wa ta ya w h ho fw ft)) (hR : 1 ≤ R.frames ∧ 22 ≤ R.locals) (hf : cells ≤ R.cells ∧ slots ≤ R.slots) {odd : Int32} (w6 : w ≤ 6) (h6 : h ≤ 6)
    (kk : ∀ (H : Heap) (locs : List Loc) (ls : Array Slot), va_P (dC, dI) vwCl (dk_W cA cJ cZ o oh wa ta ya w h ho fw ft) H → va_S A H0 H locs → lv_has ls 5 [(3, .int (nI w)), (2, .int (dk_sum w h ho odd)), (1, .int odd), (0, .ref o)] → W p l e R s m args below meth c H locs cells slots Q (F0 m 63 ls [])) :
    ∀ (n x : Nat), w + 1 ≤ x + n → x ≤ w → ∀ (H : Heap) (locs : List Loc) (ls : Array Slot), va_P (dC, dI) vwCl (dk_W cA cJ cZ o oh wa ta ya w h ho fw ft) H → va_S A H0 H locs → lv_has ls 5 [(3, .int (nI x)), (2, .int (l_sum (fun x => l_sum (fun y => dk_term ho odd x y) h) x)), (1, .int odd), (0, .ref o)] → W p l e R s m args below meth c H locs cells slots Q (F0 m 4 ls []) := by
  intro n
  induction n with
  | zero =>
    intro x h1 h2
    omega
  | succ n ih =>
    intro x h1 h2 H locs ls hP hS hl
    refine lv_iload_n hx hb dX0_sum_4 rfl (lv_at hl 0 rfl) ?_
    refine lv_aload_n hx hb dX0_sum_5 rfl (lv_at hl 3 rfl) ?_
    refine dk_g3 hx hb hts hown hK hP dX0_sum_6 ?_
    refine lv_icmp_ge (tgt := 63) hx hb dX0_sum_9 (by decide) (fun c1 => ?_) (fun c1 => ?_)
    · have c1 := (nI_leI (by omega) (by omega)).mp c1
      have e1 : x = w := by omega
      subst e1
      exact kk H locs ls hP hS hl
    have c1 : x < w := Nat.not_le.mp fun q => c1 ((nI_leI (by omega) (by omega)).mpr q)
    refine lv_iconst (v := 0) hx hb dX0_sum_12 (by decide) ?_
    refine lv_istore (lv' := [(4, .int 0), (3, .int (nI x)), (2, .int (l_sum (fun x => l_sum (fun y => dk_term ho odd x y) h) x)), (1, .int odd), (0, .ref o)]) hx hb dX0_sum_13 hl (by decide) rfl (fun ls hl => ?_)
    have hl : lv_has ls 5 [(4, .int (nI 0)), (3, .int (nI x)), (2, .int (l_sum (fun x => l_sum (fun y => dk_term ho odd x y) h) x + l_sum (fun y => dk_term ho odd x y) 0)), (1, .int odd), (0, .ref o)] := by
      rw [show l_sum (fun y => dk_term ho odd x y) 0 = 0 from rfl, Int32.add_zero]
      exact hl
    refine dk_sum_y hx hb hml hown hts hA hK hD hR hf w6 h6 c1 (fun H locs ls hP hS hl => ?_) (h + 1) 0 (by omega) (Nat.zero_le _) H locs ls hP hS hl
    refine lv_iinc (v := nI (x + 1)) (lv' := [(3, .int (nI (x + 1))), (4, .int (nI h)), (2, .int (l_sum (fun x => l_sum (fun y => dk_term ho odd x y) h) x + l_sum (fun y => dk_term ho odd x y) h)), (1, .int odd), (0, .ref o)]) hx hb dX0_sum_57 hl (k := 1) rfl (nI_1 x) (by decide) rfl (fun ls hl => ?_)
    refine lv_goto (tgt := 4) hx hb dX0_sum_60 (by decide) ?_
    exact ih (x + 1) (by omega) (by omega) H locs ls hP hS (lv_sub hl [0, 2, 3, 4] rfl)
end DKS
set_option maxHeartbeats 4000000 in
set_option maxRecDepth 100000 in
/-- sum(odd): the number dk_sum; nothing changes -/
theorem metX0_sum (l : Launch) (dC : Nat → ClassId) (dI : Nat → Nat → Nat) (cA cJ cZ : ClassId) (o oh wa ta : Nat) (ya : Nat → Nat) (w h : Nat) (ho : Nat → Nat → Bool) (fw ft : Nat → Int64) (sz : Nat) (odd : Int32) (w6 : w ≤ 6) (h6 : h ≤ 6) : Met l yX0_sum (ws_ yX0_sum cX0_sum 5 (some .int)) ({ frames := 1, cells := 0, slots := 0, locals := 22 }) (va_Pc [.ref o, .int odd] (fun U => U.heap.size = sz ∧ va_P (dC, dI) vwCl (dk_W cA cJ cZ o oh wa ta ya w h ho fw ft) U.heap ∧ va_K (dC, dI) vwCl (dk_T cA cJ cZ) U ∧ va_D (fun _ => True) (dk_W cA cJ cZ o oh wa ta ya w h ho fw ft))) (va_Qi (fun (r : Int32) (_ : Unit) => r = dk_sum w h ho odd) (fun _ t => va_P (dC, dI) vwCl (dk_W cA cJ cZ o oh wa ta ya w h ho fw ft) t.heap ∧ va_K (dC, dI) vwCl (dk_T cA cJ cZ) t ∧ va_D (va_A (dk_W cA cJ cZ o oh wa ta ya w h ho fw ft) sz) (dk_W cA cJ cZ o oh wa ta ya w h ho fw ft)) (va_A (dk_W cA cJ cZ o oh wa ta ya w h ho fw ft) sz)) 0 0 (va_A (dk_W cA cJ cZ o oh wa ta ya w h ho fw ft) sz) := by
  refine Met.ofW (cc := cX0_sum) (maxL := 5) (ret := (some .int)) (by decide) rfl ?_
  intro p e s m args below meth c s₁ B hml hv
  obtain ⟨rfl, hsz, hP, hK, hD0⟩ := hv
  have hx := B.exec
  have hb := B.bytes
  have hr := B.returns
  have hts := atoms_spec (ws := ws_ yX0_sum cX0_sum 5 (some .int)) B.pre
  have hts : ∀ w ∈ lw_all, w.before _ s = true := fun w h => hts w (List.mem_cons_of_mem _ h)
  have hown : s.vm.findClass RX0 = some m.cls := findClass_of_methodNamed B.named
  have hlocks := B.notSynchronized
  subst hsz
  have hD := hD0.self (sz := s.heap.size)
  generalize hAe : va_A (dk_W cA cJ cZ o oh wa ta ya w h ho fw ft) s.heap.size = A at hD ⊢
  have hA : ∀ q : Nat, s.heap.size ≤ q → A q := fun q h => by rw [← hAe]; exact Or.inr h
  have hS : va_S A s.heap s.heap [] := va_S.rf
  have hl := lv_entry ([.ref o, .int odd]) (n := 5) (Nat.le_of_ble_eq_true rfl)
  rw [lg_entry_eq]
  generalize (lg_sl ([.ref o, .int odd]) ++ List.replicate (5 - (lg_sl ([.ref o, .int odd])).length) Slot.unset).toArray = ls at hl ⊢
  have hl : lv_has ls 5 [(0, .ref o), (1, .int odd)] := hl
  refine lv_iconst (v := 0) hx hb dX0_sum_0 (by decide) ?_
  refine lv_istore_n (lv' := [(2, .int 0), (0, .ref o), (1, .int odd)]) hx hb dX0_sum_1 rfl hl (by decide) rfl (fun ls hl => ?_)
  refine lv_iconst (v := 0) hx hb dX0_sum_2 (by decide) ?_
  refine lv_istore_n (lv' := [(3, .int 0), (2, .int 0), (0, .ref o), (1, .int odd)]) hx hb dX0_sum_3 rfl hl (by decide) rfl (fun ls hl => ?_)
  refine dk_sum_x hx hb hml hown hts hA hK hD ⟨Nat.le_of_ble_eq_true rfl, Nat.le_of_ble_eq_true rfl⟩ ⟨Nat.le_of_ble_eq_true rfl, Nat.le_of_ble_eq_true rfl⟩ w6 h6 (fun H locs ls hP hS hl => ?_) (w + 1) 0 (by omega) (Nat.zero_le _) s.heap [] ls hP hS (lv_sub hl [0, 1, 3, 2] rfl)
  refine lv_iload_n hx hb dX0_sum_63 rfl (lv_at hl 1 rfl) ?_
  exact W.iret (v := dk_sum w h ho odd) hx hb hr (fun t ht hW => ⟨⟨_, (), rfl, rfl, by rw [ht]; exact hP, va_K.moved hW.alike hK, hD⟩, hS.F ht⟩) hS.2.2 dX0_sum_64
set_option maxHeartbeats 4000000 in
set_option maxRecDepth 100000 in
/-- cells() = sum(1) -/
theorem metX0_cells (l : Launch) (dC : Nat → ClassId) (dI : Nat → Nat → Nat) (cA cJ cZ : ClassId) (o oh wa ta : Nat) (ya : Nat → Nat) (w h : Nat) (ho : Nat → Nat → Bool) (fw ft : Nat → Int64) (sz : Nat) (w6 : w ≤ 6) (h6 : h ≤ 6) : Met l yX0_cells (ws_ yX0_cells cX0_cells 1 (some .int)) ({ frames := 2, cells := 0, slots := 0, locals := 46 }) (va_Pc [.ref o] (fun U => U.heap.size = sz ∧ va_P (dC, dI) vwCl (dk_W cA cJ cZ o oh wa ta ya w h ho fw ft) U.heap ∧ va_K (dC, dI) vwCl (dk_T cA cJ cZ) U ∧ va_D (fun _ => True) (dk_W cA cJ cZ o oh wa ta ya w h ho fw ft))) (va_Qi (fun (r : Int32) (_ : Unit) => r = dk_sum w h ho 1) (fun _ t => va_P (dC, dI) vwCl (dk_W cA cJ cZ o oh wa ta ya w h ho fw ft) t.heap ∧ va_K (dC, dI) vwCl (dk_T cA cJ cZ) t ∧ va_D (va_A (dk_W cA cJ cZ o oh wa ta ya w h ho fw ft) sz) (dk_W cA cJ cZ o oh wa ta ya w h ho fw ft)) (va_A (dk_W cA cJ cZ o oh wa ta ya w h ho fw ft) sz)) 0 0 (va_A (dk_W cA cJ cZ o oh wa ta ya w h ho fw ft) sz) := by
  refine Met.ofW (cc := cX0_cells) (maxL := 1) (ret := (some .int)) (by decide) rfl ?_
  intro p e s m args below meth c s₁ B hml hv
  obtain ⟨rfl, hsz, hP, hK, hD0⟩ := hv
  have hx := B.exec
  have hb := B.bytes
  have hr := B.returns
  have hts := atoms_spec (ws := ws_ yX0_cells cX0_cells 1 (some .int)) B.pre
  have hts : ∀ w ∈ lw_all, w.before _ s = true := fun w h => hts w (List.mem_cons_of_mem _ h)
  have hown : s.vm.findClass RX0 = some m.cls := findClass_of_methodNamed B.named
  have hlocks := B.notSynchronized
  subst hsz
  have hD := hD0.self (sz := s.heap.size)
  generalize hAe : va_A (dk_W cA cJ cZ o oh wa ta ya w h ho fw ft) s.heap.size = A at hD ⊢
  have hA : ∀ q : Nat, s.heap.size ≤ q → A q := fun q h => by rw [← hAe]; exact Or.inr h
  have hS : va_S A s.heap s.heap [] := va_S.rf
  have hl := lv_entry ([.ref o]) (n := 1) (Nat.le_of_ble_eq_true rfl)
  rw [lg_entry_eq]
  generalize (lg_sl ([.ref o]) ++ List.replicate (1 - (lg_sl ([.ref o])).length) Slot.unset).toArray = ls at hl ⊢
  have hl : lv_has ls 1 [(0, .ref o)] := hl
  refine lv_aload_n hx hb dX0_cells_0 rfl (lv_at hl 0 rfl) ?_
  refine lv_iconst (v := 1) hx hb dX0_cells_1 (by decide) ?_
  have hFc := va_free (wc := dk_W cA cJ cZ o oh wa ta ya w h ho fw ft) hD hS hA [0, 1, 2, 3, 4, 5, 6, 7, 8, 9] rfl
  refine va_calli (va_runV (As := [.int 1]) (rest := []) ⟨hx, hb, hml, hown, hts⟩ (metX0_sum l dC dI cA cJ cZ o oh wa ta ya w h ho fw ft s.heap.size 1 w6 h6) (cwV 1 hts (lw_V q62 q64 qs2 q4 q65) rfl rfl rfl (by decide +kernel) ⟨Nat.le_of_ble_eq_true rfl, Nat.le_of_ble_eq_true rfl⟩) ⟨fun a U g mk q => by obtain ⟨q0, q1, qP, qK, qD⟩ := q; exact ⟨q0, q1, qP, va_K.moved (u := U) (U := U.calling g mk a) (Vm.Alike.refl U.vm) qK, qD⟩, va_recv hK hP (ci := 0) (q0 := 0) rfl rfl, fun U hU hW => ⟨rfl, by rw [hU], by rw [hU]; exact hP, va_K.moved hW.alike hK, hD.weaken (fun _ _ _ _ => trivial)⟩⟩ rfl rfl hl.1 rfl (lv_room (Nat.le_of_ble_eq_true rfl)) dX0_cells_2 ⟨Nat.le_of_ble_eq_true rfl, Nat.le_of_ble_eq_true rfl⟩) hS (fun q _ h => hFc q h) hFc (fun r u t H1 locs1 ht hvm hw hB hz hk hS1 => ?_)
  obtain ⟨hP1, -, -⟩ := hB
  rw [ht] at hP1
  exact W.iret (v := r) hx hb hr (fun t ht hW => ⟨⟨_, (), rfl, hw, by rw [ht]; exact hP1, va_K.moved hW.alike hK, hD⟩, hS1.F ht⟩) hS1.2.2 dX0_cells_5
set_option maxHeartbeats 4000000 in
set_option maxRecDepth 100000 in
/-- surplus() = sum(-1) -/
theorem metX0_surplus (l : Launch) (dC : Nat → ClassId) (dI : Nat → Nat → Nat) (cA cJ cZ : ClassId) (o oh wa ta : Nat) (ya : Nat → Nat) (w h : Nat) (ho : Nat → Nat → Bool) (fw ft : Nat → Int64) (sz : Nat) (w6 : w ≤ 6) (h6 : h ≤ 6) : Met l yX0_surplus (ws_ yX0_surplus cX0_surplus 1 (some .int)) ({ frames := 2, cells := 0, slots := 0, locals := 46 }) (va_Pc [.ref o] (fun U => U.heap.size = sz ∧ va_P (dC, dI) vwCl (dk_W cA cJ cZ o oh wa ta ya w h ho fw ft) U.heap ∧ va_K (dC, dI) vwCl (dk_T cA cJ cZ) U ∧ va_D (fun _ => True) (dk_W cA cJ cZ o oh wa ta ya w h ho fw ft))) (va_Qi (fun (r : Int32) (_ : Unit) => r = dk_sum w h ho (-1)) (fun _ t => va_P (dC, dI) vwCl (dk_W cA cJ cZ o oh wa ta ya w h ho fw ft) t.heap ∧ va_K (dC, dI) vwCl (dk_T cA cJ cZ) t ∧ va_D (va_A (dk_W cA cJ cZ o oh wa ta ya w h ho fw ft) sz) (dk_W cA cJ cZ o oh wa ta ya w h ho fw ft)) (va_A (dk_W cA cJ cZ o oh wa ta ya w h ho fw ft) sz)) 0 0 (va_A (dk_W cA cJ cZ o oh wa ta ya w h ho fw ft) sz) := by
  refine Met.ofW (cc := cX0_surplus) (maxL := 1) (ret := (some .int)) (by decide) rfl ?_
  intro p e s m args below meth c s₁ B hml hv
  obtain ⟨rfl, hsz, hP, hK, hD0⟩ := hv
  have hx := B.exec
  have hb := B.bytes
  have hr := B.returns
  have hts := atoms_spec (ws := ws_ yX0_surplus cX0_surplus 1 (some .int)) B.pre
  have hts : ∀ w ∈ lw_all, w.before _ s = true := fun w h => hts w (List.mem_cons_of_mem _ h)
  have hown : s.vm.findClass RX0 = some m.cls := findClass_of_methodNamed B.named
  have hlocks := B.notSynchronized
  subst hsz
  have hD := hD0.self (sz := s.heap.size)
  generalize hAe : va_A (dk_W cA cJ cZ o oh wa ta ya w h ho fw ft) s.heap.size = A at hD ⊢
  have hA : ∀ q : Nat, s.heap.size ≤ q → A q := fun q h => by rw [← hAe]; exact Or.inr h
  have hS : va_S A s.heap s.heap [] := va_S.rf
  have hl := lv_entry ([.ref o]) (n := 1) (Nat.le_of_ble_eq_true rfl)
  rw [lg_entry_eq]
  generalize (lg_sl ([.ref o]) ++ List.replicate (1 - (lg_sl ([.ref o])).length) Slot.unset).toArray = ls at hl ⊢
  have hl : lv_has ls 1 [(0, .ref o)] := hl
  refine lv_aload_n hx hb dX0_surplus_0 rfl (lv_at hl 0 rfl) ?_
  refine lv_iconst (v := (-1)) hx hb dX0_surplus_1 (by decide) ?_
  have hFc := va_free (wc := dk_W cA cJ cZ o oh wa ta ya w h ho fw ft) hD hS hA [0, 1, 2, 3, 4, 5, 6, 7, 8, 9] rfl
  refine va_calli (va_runV (As := [.int (-1)]) (rest := []) ⟨hx, hb, hml, hown, hts⟩ (metX0_sum l dC dI cA cJ cZ o oh wa ta ya w h ho fw ft s.heap.size (-1) w6 h6) (cwV 1 hts (lw_V q62 q64 qs2 q4 q65) rfl rfl rfl (by decide +kernel) ⟨Nat.le_of_ble_eq_true rfl, Nat.le_of_ble_eq_true rfl⟩) ⟨fun a U g mk q => by obtain ⟨q0, q1, qP, qK, qD⟩ := q; exact ⟨q0, q1, qP, va_K.moved (u := U) (U := U.calling g mk a) (Vm.Alike.refl U.vm) qK, qD⟩, va_recv hK hP (ci := 0) (q0 := 0) rfl rfl, fun U hU hW => ⟨rfl, by rw [hU], by rw [hU]; exact hP, va_K.moved hW.alike hK, hD.weaken (fun _ _ _ _ => trivial)⟩⟩ rfl rfl hl.1 rfl (lv_room (Nat.le_of_ble_eq_true rfl)) dX0_surplus_2 ⟨Nat.le_of_ble_eq_true rfl, Nat.le_of_ble_eq_true rfl⟩) hS (fun q _ h => hFc q h) hFc (fun r u t H1 locs1 ht hvm hw hB hz hk hS1 => ?_)
  obtain ⟨hP1, -, -⟩ := hB
  rw [ht] at hP1
  exact W.iret (v := r) hx hb hr (fun t ht hW => ⟨⟨_, (), rfl, hw, by rw [ht]; exact hP1, va_K.moved hW.alike hK, hD⟩, hS1.F ht⟩) hS1.2.2 dX0_surplus_5
end
section
/-! BOARD and TURN of the class -/
section DKB
variable {p : Program} {l : Launch} {e : Env} {R : Room} {s : State} {m : MethodId} {args : Array Value} {below : List Frame} {meth : Method} {c : Code} {cells slots : Nat} {Q : State → Prop}
variable {A : Nat → Prop} {H0 : Heap} {dC : Nat → ClassId} {dI : Nat → Nat → Nat} {cA cJ cZ : ClassId} {o oh wa ta : Nat} {ya : Nat → Nat} {w h : Nat} {fw ft : Nat → Int64} {a b : Int32}
set_option maxHeartbeats 4000000 in
set_option maxRecDepth 100000 in
theorem dk_board_y (hx : p.tables.exec = Jvm.exec) (hb : c.code = cX0_board) (hown : s.vm.findClass RX0 = some m.cls) (hts : ∀ w ∈ lw_all, w.before args s = true) (hK : va_K (dC, dI) vwCl (dk_T cA cJ cZ) s) {x : Nat} (x6 : x < 6)
    (kk : ∀ (ho : Nat → Nat → Bool) (H : Heap) (locs : List Loc) (ls : Array Slot), (∀ i, i < x + 1 → ∀ j, j < 6 → ho i j = false) → va_P (dC, dI) vwCl (dk_W cA cJ cZ o oh wa ta ya w h ho fw ft) H → va_D A (dk_W cA cJ cZ o oh wa ta ya w h ho fw ft) → va_S A H0 H locs → lv_has ls 5 [(4, .int (nI 6)), (3, .int (nI x)), (2, .int b), (1, .int a), (0, .ref o)] → W p l e R s m args below meth c H locs cells slots Q (F0 m 58 ls [])) :
    ∀ (n y : Nat), 7 ≤ y + n → y ≤ 6 → ∀ (ho : Nat → Nat → Bool) (H : Heap) (locs : List Loc) (ls : Array Slot), (∀ i, i < x → ∀ j, j < 6 → ho i j = false) → (∀ j, j < y → ho x j = false) → va_P (dC, dI) vwCl (dk_W cA cJ cZ o oh wa ta ya w h ho fw ft) H → va_D A (dk_W cA cJ cZ o oh wa ta ya w h ho fw ft) → va_S A H0 H locs → lv_has ls 5 [(4, .int (nI y)), (3, .int (nI x)), (2, .int b), (1, .int a), (0, .ref o)] → W p l e R s m args below meth c H locs cells slots Q (F0 m 35 ls []) := by
  intro n
  induction n with
  | zero =>
    intro y h1 h2
    omega
  | succ n ih =>
    intro y h1 h2 ho H locs ls g1 g2 hP hD hS hl
    refine lv_iload hx hb dX0_board_35 (lv_at hl 0 rfl) ?_
    refine lv_bipush (v := 6) hx hb dX0_board_37 (by decide) ?_
    refine lv_icmp_ge (tgt := 58) hx hb dX0_board_39 (by decide) (fun c1 => ?_) (fun c1 => ?_)
    · have c1 := (nI_leI (a := 6) (by omega) (by omega)).mp c1
      have e1 : y = 6 := by omega
      subst e1
      refine kk ho H locs ls (fun i hi j hj => ?_) hP hD hS hl
      by_cases e1 : i = x
      · subst e1
        exact g2 j hj
      · exact g1 i (by omega) j hj
    have c1 : y < 6 := Nat.not_le.mp fun q => c1 ((nI_leI (a := 6) (by omega) (by omega)).mpr q)
    refine lv_aload_n hx hb dX0_board_42 rfl (lv_at hl 4 rfl) ?_
    refine dk_g0 hx hb hts hown hK hP dX0_board_43 ?_
    refine lv_iload_n hx hb dX0_board_46 rfl (lv_at hl 1 rfl) ?_
    refine dk_hcol hx hb hK hP x6 dX0_board_47 ?_
    refine lv_iload hx hb dX0_board_48 (lv_at hl 0 rfl) ?_
    refine lv_iconst (v := 0) hx hb dX0_board_50 (by decide) ?_
    refine dk_hput (b := false) hx hb hK hP hD hS x6 c1 dX0_board_51 (fun H locs hP hD hS => ?_)
    refine lv_iinc (v := nI (y + 1)) (lv' := [(4, .int (nI (y + 1))), (3, .int (nI x)), (2, .int b), (1, .int a), (0, .ref o)]) hx hb dX0_board_52 hl (k := 0) rfl (nI_1 y) (by decide) rfl (fun ls hl => ?_)
    refine lv_goto (tgt := 35) hx hb dX0_board_55 (by decide) ?_
    refine ih (y + 1) (by omega) (by omega) (dk_put ho x y false) H locs ls (fun i hi j hj => ?_) (fun j hj => ?_) hP hD hS hl
    · rw [dk_put_ne _ _ (fun q => by omega)]
      exact g1 i hi j hj
    · by_cases e1 : j = y
      · subst e1
        exact dk_put_self _ _ _ _
      · rw [dk_put_ne _ _ (fun q => e1 q.2)]
        exact g2 j (by omega)
set_option maxHeartbeats 4000000 in
set_option maxRecDepth 100000 in
theorem dk_board_x (hx : p.tables.exec = Jvm.exec) (hb : c.code = cX0_board) (hown : s.vm.findClass RX0 = some m.cls) (hts : ∀ w ∈ lw_all, w.before args s = true) (hK : va_K (dC, dI) vwCl (dk_T cA cJ cZ) s)
    (kk : ∀ (H : Heap) (locs : List Loc) (ls : Array Slot), va_P (dC, dI) vwCl (dk_W cA cJ cZ o oh wa ta ya w h (fun _ _ => false) fw ft) H → va_D A (dk_W cA cJ cZ o oh wa ta ya w h (fun _ _ => false) fw ft) → va_S A H0 H locs → W p l e R s m args below meth c H locs cells slots Q (F0 m 64 ls [])) :
    ∀ (n x : Nat), 7 ≤ x + n → x ≤ 6 → ∀ (ho : Nat → Nat → Bool) (H : Heap) (locs : List Loc) (ls : Array Slot), (∀ i, i < x → ∀ j, j < 6 → ho i j = false) → va_P (dC, dI) vwCl (dk_W cA cJ cZ o oh wa ta ya w h ho fw ft) H → va_D A (dk_W cA cJ cZ o oh wa ta ya w h ho fw ft) → va_S A H0 H locs → lv_has ls 5 [(3, .int (nI x)), (2, .int b), (1, .int a), (0, .ref o)] → W p l e R s m args below meth c H locs cells slots Q (F0 m 26 ls []) := by
  intro n
  induction n with
  | zero =>
    intro x h1 h2
    omega
  | succ n ih =>
    intro x h1 h2 ho H locs ls g1 hP hD hS hl
    refine lv_iload_n hx hb dX0_board_26 rfl (lv_at hl 0 rfl) ?_
    refine lv_bipush (v := 6) hx hb dX0_board_27 (by decide) ?_
    refine lv_icmp_ge (tgt := 64) hx hb dX0_board_29 (by decide) (fun c1 => ?_) (fun c1 => ?_)
    · have c1 := (nI_leI (a := 6) (by omega) (by omega)).mp c1
      have e1 : x = 6 := by omega
      subst e1
      obtain ⟨hP, hD⟩ := dk_reH (ho' := fun _ _ => false) hP hD g1
      exact kk H locs ls hP hD hS
    have c1 : x < 6 := Nat.not_le.mp fun q => c1 ((nI_leI (a := 6) (by omega) (by omega)).mpr q)
    refine lv_iconst (v := 0) hx hb dX0_board_32 (by decide) ?_
    refine lv_istore (lv' := [(4, .int 0), (3, .int (nI x)), (2, .int b), (1, .int a), (0, .ref o)]) hx hb dX0_board_33 hl (by decide) rfl (fun ls hl => ?_)
    refine dk_board_y hx hb hown hts hK c1 (fun ho H locs ls g1 hP hD hS hl => ?_) 7 0 (by omega) (by omega) ho H locs ls g1 (fun j hj => absurd hj (Nat.not_lt_zero j)) hP hD hS hl
    refine lv_iinc (v := nI (x + 1)) (lv' := [(3, .int (nI (x + 1))), (4, .int (nI 6)), (2, .int b), (1, .int a), (0, .ref o)]) hx hb dX0_board_58 hl (k := 1) rfl (nI_1 x) (by decide) rfl (fun ls hl => ?_)
    refine lv_goto (tgt := 26) hx hb dX0_board_61 (by decide) ?_
    exact ih (x + 1) (by omega) (by omega) ho H locs ls g1 hP hD hS (lv_sub hl [0, 2, 3, 4] rfl)
end DKB
set_option maxHeartbeats 4000000 in
set_option maxRecDepth 100000 in
/-- board(a, b): the size is new, no hole is left -/
theorem metX0_board (l : Launch) (dC : Nat → ClassId) (dI : Nat → Nat → Nat) (cA cJ cZ : ClassId) (o oh wa ta : Nat) (ya : Nat → Nat) (w h : Nat) (ho : Nat → Nat → Bool) (fw ft : Nat → Int64) (sz : Nat) (a b : Int32) : Met l yX0_board (ws_ yX0_board cX0_board 5 none) ({ frames := 1, cells := 0, slots := 0, locals := 21 }) (va_Pc [.ref o, .int a, .int b] (fun U => U.heap.size = sz ∧ va_P (dC, dI) vwCl (dk_W cA cJ cZ o oh wa ta ya w h ho fw ft) U.heap ∧ va_K (dC, dI) vwCl (dk_T cA cJ cZ) U ∧ va_D (fun _ => True) (dk_W cA cJ cZ o oh wa ta ya w h ho fw ft))) (va_Qv (fun (_ : Unit) => True) (fun _ t => va_P (dC, dI) vwCl (dk_W cA cJ cZ o oh wa ta ya (1 + dk_bl a 6) (1 + dk_bl b 6) (fun _ _ => false) fw ft) t.heap ∧ va_K (dC, dI) vwCl (dk_T cA cJ cZ) t ∧ va_D (va_A (dk_W cA cJ cZ o oh wa ta ya w h ho fw ft) sz) (dk_W cA cJ cZ o oh wa ta ya (1 + dk_bl a 6) (1 + dk_bl b 6) (fun _ _ => false) fw ft)) (va_A (dk_W cA cJ cZ o oh wa ta ya w h ho fw ft) sz)) 0 0 (va_A (dk_W cA cJ cZ o oh wa ta ya w h ho fw ft) sz) := by
  refine Met.ofW (cc := cX0_board) (maxL := 5) (ret := none) (by decide) rfl ?_
  intro p e s m args below meth c s₁ B hml hv
  obtain ⟨rfl, hsz, hP, hK, hD0⟩ := hv
  have hx := B.exec
  have hb := B.bytes
  have hr := B.returns
  have hts := atoms_spec (ws := ws_ yX0_board cX0_board 5 none) B.pre
  have hts : ∀ w ∈ lw_all, w.before _ s = true := fun w h => hts w (List.mem_cons_of_mem _ h)
  have hown : s.vm.findClass RX0 = some m.cls := findClass_of_methodNamed B.named
  have hlocks := B.notSynchronized
  subst hsz
  have hD := hD0.self (sz := s.heap.size)
  generalize hAe : va_A (dk_W cA cJ cZ o oh wa ta ya w h ho fw ft) s.heap.size = A at hD ⊢
  have hA : ∀ q : Nat, s.heap.size ≤ q → A q := fun q h => by rw [← hAe]; exact Or.inr h
  have hS : va_S A s.heap s.heap [] := va_S.rf
  have hl := lv_entry ([.ref o, .int a, .int b]) (n := 5) (Nat.le_of_ble_eq_true rfl)
  rw [lg_entry_eq]
  generalize (lg_sl ([.ref o, .int a, .int b]) ++ List.replicate (5 - (lg_sl ([.ref o, .int a, .int b])).length) Slot.unset).toArray = ls at hl ⊢
  have hl : lv_has ls 5 [(0, .ref o), (1, .int a), (2, .int b)] := hl
  refine lv_aload_n hx hb dX0_board_0 rfl (lv_at hl 0 rfl) ?_
  refine lv_iconst (v := 1) hx hb dX0_board_1 (by decide) ?_
  refine lv_iload_n hx hb dX0_board_2 rfl (lv_at hl 1 rfl) ?_
  refine lv_bipush (v := 6) hx hb dX0_board_3 (by decide) ?_
  refine dk_cbelow (n := 6) hx hb hml hown hts hA hK hP hD hS ⟨Nat.le_of_ble_eq_true rfl, Nat.le_of_ble_eq_true rfl⟩ ⟨Nat.le_of_ble_eq_true rfl, Nat.le_of_ble_eq_true rfl⟩ hl.1 (by decide) (by decide) (by exact Nat.le_of_ble_eq_true rfl) dX0_board_5 (fun H locs hP hS => ?_)
  refine lv_iadd hx hb dX0_board_8 ?_
  refine dk_top (nI_add 1 (dk_bl a 6)) ?_
  refine va_put (D := (dC, dI)) (ci := 0) (v := .int (nI (1 + dk_bl a 6))) (ty := .int) (C := RX0) (T := TX0) (N := 5) hx hb hts in_X0 tyX0 tyX0_ok nmX0 hown hK hP hD hS 0 rfl rfl 3 (by decide) (hts _ q19) (fun _ h9 => h9) rfl (by decide +kernel) rfl rfl (Nat.le_of_ble_eq_true rfl) dX0_board_9 (fun H locs hP hD hS => ?_)
  have hP : va_P (dC, dI) vwCl (dk_W cA cJ cZ o oh wa ta ya (1 + dk_bl a 6) h ho fw ft) H := hP
  have hD : va_D A (dk_W cA cJ cZ o oh wa ta ya (1 + dk_bl a 6) h ho fw ft) := hD
  refine lv_aload_n hx hb dX0_board_12 rfl (lv_at hl 0 rfl) ?_
  refine lv_iconst (v := 1) hx hb dX0_board_13 (by decide) ?_
  refine lv_iload_n hx hb dX0_board_14 rfl (lv_at hl 2 rfl) ?_
  refine lv_bipush (v := 6) hx hb dX0_board_15 (by decide) ?_
  refine dk_cbelow (n := 6) hx hb hml hown hts hA hK hP hD hS ⟨Nat.le_of_ble_eq_true rfl, Nat.le_of_ble_eq_true rfl⟩ ⟨Nat.le_of_ble_eq_true rfl, Nat.le_of_ble_eq_true rfl⟩ hl.1 (by decide) (by decide) (by exact Nat.le_of_ble_eq_true rfl) dX0_board_17 (fun H locs hP hS => ?_)
  refine lv_iadd hx hb dX0_board_20 ?_
  refine dk_top (nI_add 1 (dk_bl b 6)) ?_
  refine va_put (D := (dC, dI)) (ci := 0) (v := .int (nI (1 + dk_bl b 6))) (ty := .int) (C := RX0) (T := TX0) (N := 5) hx hb hts in_X0 tyX0 tyX0_ok nmX0 hown hK hP hD hS 0 rfl rfl 4 (by decide) (hts _ q20) (fun _ h9 => h9) rfl (by decide +kernel) rfl rfl (Nat.le_of_ble_eq_true rfl) dX0_board_21 (fun H locs hP hD hS => ?_)
  have hP : va_P (dC, dI) vwCl (dk_W cA cJ cZ o oh wa ta ya (1 + dk_bl a 6) (1 + dk_bl b 6) ho fw ft) H := hP
  have hD : va_D A (dk_W cA cJ cZ o oh wa ta ya (1 + dk_bl a 6) (1 + dk_bl b 6) ho fw ft) := hD
  refine lv_iconst (v := 0) hx hb dX0_board_24 (by decide) ?_
  refine lv_istore_n (lv' := [(3, .int 0), (0, .ref o), (1, .int a), (2, .int b)]) hx hb dX0_board_25 rfl hl (by decide) rfl (fun ls hl => ?_)
  refine dk_board_x hx hb hown hts hK (fun H locs ls hP hD hS => ?_) 7 0 (by omega) (by omega) ho H locs ls (fun i hi => absurd hi (Nat.not_lt_zero i)) hP hD hS (lv_sub hl [0, 3, 2, 1] rfl)
  exact W.vret hx hb hr (fun t ht hW => ⟨⟨(), rfl, trivial, by rw [ht]; exact hP, va_K.moved hW.alike hK, hD⟩, hS.F ht⟩) hS.2.2 dX0_board_64
theorem dk_narz (b : Bool) : narrow .boolean (.int (dk_b b)) = .int (dk_b b) := by cases b <;> decide +kernel
set_option maxHeartbeats 4000000 in
set_option maxRecDepth 100000 in
/-- turn(a, b): the cell's hole comes or goes; the answer: is it a hole now -/
theorem metX0_turn (l : Launch) (dC : Nat → ClassId) (dI : Nat → Nat → Nat) (cA cJ cZ : ClassId) (o oh wa ta : Nat) (ya : Nat → Nat) (w h : Nat) (ho : Nat → Nat → Bool) (fw ft : Nat → Int64) (sz : Nat) (a b : Int32) (w0 : 0 < w) (h0 : 0 < h) (w6 : w ≤ 6) (h6 : h ≤ 6) : Met l yX0_turn (ws_ yX0_turn cX0_turn 5 (some .boolean)) ({ frames := 1, cells := 0, slots := 0, locals := 21 }) (va_Pc [.ref o, .int a, .int b] (fun U => U.heap.size = sz ∧ va_P (dC, dI) vwCl (dk_W cA cJ cZ o oh wa ta ya w h ho fw ft) U.heap ∧ va_K (dC, dI) vwCl (dk_T cA cJ cZ) U ∧ va_D (fun _ => True) (dk_W cA cJ cZ o oh wa ta ya w h ho fw ft))) (va_Qi (fun (r : Int32) (_ : Unit) => r = dk_b (!(ho (dk_bl a w) (dk_bl b h)))) (fun _ t => va_P (dC, dI) vwCl (dk_W cA cJ cZ o oh wa ta ya w h (dk_put ho (dk_bl a w) (dk_bl b h) (!(ho (dk_bl a w) (dk_bl b h)))) fw ft) t.heap ∧ va_K (dC, dI) vwCl (dk_T cA cJ cZ) t ∧ va_D (va_A (dk_W cA cJ cZ o oh wa ta ya w h ho fw ft) sz) (dk_W cA cJ cZ o oh wa ta ya w h (dk_put ho (dk_bl a w) (dk_bl b h) (!(ho (dk_bl a w) (dk_bl b h)))) fw ft)) (va_A (dk_W cA cJ cZ o oh wa ta ya w h ho fw ft) sz)) 0 0 (va_A (dk_W cA cJ cZ o oh wa ta ya w h ho fw ft) sz) := by
  refine Met.ofW (cc := cX0_turn) (maxL := 5) (ret := (some .boolean)) (by decide) rfl ?_
  intro p e s m args below meth c s₁ B hml hv
  obtain ⟨rfl, hsz, hP, hK, hD0⟩ := hv
  have hx := B.exec
  have hb := B.bytes
  have hr := B.returns
  have hts := atoms_spec (ws := ws_ yX0_turn cX0_turn 5 (some .boolean)) B.pre
  have hts : ∀ w ∈ lw_all, w.before _ s = true := fun w h => hts w (List.mem_cons_of_mem _ h)
  have hown : s.vm.findClass RX0 = some m.cls := findClass_of_methodNamed B.named
  have hlocks := B.notSynchronized
  subst hsz
  have hD := hD0.self (sz := s.heap.size)
  generalize hAe : va_A (dk_W cA cJ cZ o oh wa ta ya w h ho fw ft) s.heap.size = A at hD ⊢
  have hA : ∀ q : Nat, s.heap.size ≤ q → A q := fun q h => by rw [← hAe]; exact Or.inr h
  have hS : va_S A s.heap s.heap [] := va_S.rf
  have hl := lv_entry ([.ref o, .int a, .int b]) (n := 5) (Nat.le_of_ble_eq_true rfl)
  rw [lg_entry_eq]
  generalize (lg_sl ([.ref o, .int a, .int b]) ++ List.replicate (5 - (lg_sl ([.ref o, .int a, .int b])).length) Slot.unset).toArray = ls at hl ⊢
  have hl : lv_has ls 5 [(0, .ref o), (1, .int a), (2, .int b)] := hl
  have i6 : dk_bl a w < 6 := Nat.lt_of_lt_of_le (dk_bl_lt a w0) w6
  have j6 : dk_bl b h < 6 := Nat.lt_of_lt_of_le (dk_bl_lt b h0) h6
  refine lv_iload_n hx hb dX0_turn_0 rfl (lv_at hl 1 rfl) ?_
  refine lv_aload_n hx hb dX0_turn_1 rfl (lv_at hl 0 rfl) ?_
  refine dk_g3 hx hb hts hown hK hP dX0_turn_2 ?_
  refine dk_cbelow hx hb hml hown hts hA hK hP hD hS ⟨Nat.le_of_ble_eq_true rfl, Nat.le_of_ble_eq_true rfl⟩ ⟨Nat.le_of_ble_eq_true rfl, Nat.le_of_ble_eq_true rfl⟩ hl.1 w0 w6 (by exact Nat.le_of_ble_eq_true rfl) dX0_turn_5 (fun H locs hP hS => ?_)
  refine lv_istore_n (lv' := [(3, .int (nI (dk_bl a w))), (0, .ref o), (1, .int a), (2, .int b)]) hx hb dX0_turn_8 rfl hl (by decide) rfl (fun ls hl => ?_)
  refine lv_iload_n hx hb dX0_turn_9 rfl (lv_at hl 3 rfl) ?_
  refine lv_aload_n hx hb dX0_turn_10 rfl (lv_at hl 1 rfl) ?_
  refine dk_g4 hx hb hts hown hK hP dX0_turn_11 ?_
  refine dk_cbelow hx hb hml hown hts hA hK hP hD hS ⟨Nat.le_of_ble_eq_true rfl, Nat.le_of_ble_eq_true rfl⟩ ⟨Nat.le_of_ble_eq_true rfl, Nat.le_of_ble_eq_true rfl⟩ hl.1 h0 h6 (by exact Nat.le_of_ble_eq_true rfl) dX0_turn_14 (fun H locs hP hS => ?_)
  refine lv_istore (lv' := [(4, .int (nI (dk_bl b h))), (3, .int (nI (dk_bl a w))), (0, .ref o), (1, .int a), (2, .int b)]) hx hb dX0_turn_17 hl (by decide) rfl (fun ls hl => ?_)
  generalize dk_bl a w = i at i6 hl ⊢
  generalize dk_bl b h = j at j6 hl ⊢
  have fin : ∀ v : Bool, v = (!(ho i j)) → W p l e (headSpec (ws_ yX0_turn cX0_turn 5 (some .boolean)) ({ frames := 1, cells := 0, slots := 0, locals := 21 })).room s m ([.ref o, .int a, .int b] : List Value).toArray below meth c H locs 0 0 (MQ below (va_Qi (fun (r : Int32) (_ : Unit) => r = dk_b (!(ho i j))) (fun _ t => va_P (dC, dI) vwCl (dk_W cA cJ cZ o oh wa ta ya w h (dk_put ho i j (!(ho i j))) fw ft) t.heap ∧ va_K (dC, dI) vwCl (dk_T cA cJ cZ) t ∧ va_D A (dk_W cA cJ cZ o oh wa ta ya w h (dk_put ho i j (!(ho i j))) fw ft)) A) ([.ref o, .int a, .int b] : List Value).toArray s 0 0 A) (F0 m 44 ls [.int (dk_b v), .int (nI j), .ref (ya i)]) := by
    intro v ev
    refine dk_hput (b := v) hx hb hK hP hD hS i6 j6 dX0_turn_44 (fun H locs hP hD hS => ?_)
    refine lv_aload_n hx hb dX0_turn_45 rfl (lv_at hl 2 rfl) ?_
    refine dk_g0 hx hb hts hown hK hP dX0_turn_46 ?_
    refine lv_iload_n hx hb dX0_turn_49 rfl (lv_at hl 1 rfl) ?_
    refine dk_hcol hx hb hK hP i6 dX0_turn_50 ?_
    refine lv_iload hx hb dX0_turn_51 (lv_at hl 0 rfl) ?_
    refine dk_hget hx hb hK hP i6 j6 dX0_turn_53 ?_
    subst ev
    refine dk_top (congrArg dk_b (dk_put_self ho i j _)) ?_
    exact W.zret (v := dk_b (!(ho i j))) hx hb hr (dk_narz _) (fun t ht hW => ⟨⟨_, (), rfl, rfl, by rw [ht]; exact hP, va_K.moved hW.alike hK, hD⟩, hS.F ht⟩) hS.2.2 dX0_turn_54
  refine lv_aload_n hx hb dX0_turn_19 rfl (lv_at hl 2 rfl) ?_
  refine dk_g0 hx hb hts hown hK hP dX0_turn_20 ?_
  refine lv_iload_n hx hb dX0_turn_23 rfl (lv_at hl 1 rfl) ?_
  refine dk_hcol hx hb hK hP i6 dX0_turn_24 ?_
  refine lv_iload hx hb dX0_turn_25 (lv_at hl 0 rfl) ?_
  refine lv_aload_n hx hb dX0_turn_27 rfl (lv_at hl 2 rfl) ?_
  refine dk_g0 hx hb hts hown hK hP dX0_turn_28 ?_
  refine lv_iload_n hx hb dX0_turn_31 rfl (lv_at hl 1 rfl) ?_
  refine dk_hcol hx hb hK hP i6 dX0_turn_32 ?_
  refine lv_iload hx hb dX0_turn_33 (lv_at hl 0 rfl) ?_
  refine dk_hget hx hb hK hP i6 j6 dX0_turn_35 ?_
  refine lv_if_ne (tgt := 43) hx hb dX0_turn_36 (by decide) (fun c1 => ?_) (fun c1 => ?_)
  · refine lv_iconst (v := 0) hx hb dX0_turn_43 (by decide) ?_
    refine fin false ?_
    cases q : ho i j
    · exact absurd (dk_b0.mpr q) c1
    · rfl
  · refine lv_iconst (v := 1) hx hb dX0_turn_39 (by decide) ?_
    refine lv_goto (tgt := 44) hx hb dX0_turn_40 (by decide) ?_
    refine fin true ?_
    rw [dk_b0.mp c1]
    rfl
end
section
/-! THE TWO CONSTRUCTORS -/
set_option maxHeartbeats 4000000 in
set_option maxRecDepth 100000 in
/-- the class is made: a board of 4 by 4 with no hole -/
theorem metX0_init (l : Launch) (dC : Nat → ClassId) (dI : Nat → Nat → Nat) (o sz : Nat) : Met l yX0_init (ws_ yX0_init cX0_init 1 none) ({ frames := 1, cells := 9, slots := 170, locals := 12 }) (va_Pc [.ref o] (fun U => U.heap.size = sz ∧ va_P (dC, dI) vwCl [(o, .inr (0, [.null, .null, .null, .int 0, .int 0]))] U.heap ∧ va_K (dC, dI) vwCl [] U ∧ va_D (fun _ => True) [(o, .inr (0, [.null, .null, .null, .int 0, .int 0]))] ∧ dk_G U)) (va_Qv (fun (_ : Unit) => True) (fun _ t => ∃ (cA cJ cZ : ClassId) (oh wa ta : Nat) (ya : Nat → Nat), va_P (dC, dI) vwCl (dk_W cA cJ cZ o oh wa ta ya 4 4 (fun _ _ => false) (fun _ => 0) (fun _ => 0)) t.heap ∧ va_K (dC, dI) vwCl (dk_T cA cJ cZ) t ∧ va_D (va_A [(o, .inr (0, [.null, .null, .null, .int 0, .int 0]))] sz) (dk_W cA cJ cZ o oh wa ta ya 4 4 (fun _ _ => false) (fun _ => 0) (fun _ => 0))) (va_A [(o, .inr (0, [.null, .null, .null, .int 0, .int 0]))] sz)) 9 170 (va_A [(o, .inr (0, [.null, .null, .null, .int 0, .int 0]))] sz) := by
  refine Met.ofW (cc := cX0_init) (maxL := 1) (ret := none) (by decide) rfl ?_
  intro p e s m args below meth c s₁ B hml hv
  obtain ⟨rfl, hsz, hP, hK, hD0, hG⟩ := hv
  have hx := B.exec
  have hb := B.bytes
  have hr := B.returns
  have hts := atoms_spec (ws := ws_ yX0_init cX0_init 1 none) B.pre
  have hts : ∀ w ∈ lw_all, w.before _ s = true := fun w h => hts w (List.mem_cons_of_mem _ h)
  have hown : s.vm.findClass RX0 = some m.cls := findClass_of_methodNamed B.named
  have hlocks := B.notSynchronized
  subst hsz
  have hD := hD0.self (sz := s.heap.size)
  generalize hAe : va_A ([(o, .inr (0, [.null, .null, .null, .int 0, .int 0]))]) s.heap.size = A at hD ⊢
  have hA : ∀ q : Nat, s.heap.size ≤ q → A q := fun q h => by rw [← hAe]; exact Or.inr h
  have hS : va_S A s.heap s.heap [] := va_S.rf
  have hl := lv_entry ([.ref o]) (n := 1) (Nat.le_of_ble_eq_true rfl)
  rw [lg_entry_eq]
  generalize (lg_sl ([.ref o]) ++ List.replicate (1 - (lg_sl ([.ref o])).length) Slot.unset).toArray = ls at hl ⊢
  have hl : lv_has ls 1 [(0, .ref o)] := hl
  have hin : meth.name = "<init>" := (name_of_methodNamed B.named B.method).1
  refine lv_aload_n hx hb dX0_init_0 rfl (lv_at hl 0 rfl) ?_
  refine W.objInit hx hb hown (hts _ q11) (hts _ q12) (hts _ q13) rfl (by rw [hml]; exact hl.1) rfl dX0_init_1 (Nat.le_of_ble_eq_true rfl) (Nat.le_of_ble_eq_true rfl) ?_
  refine W.eq (g2 := F0 m 4 ls []) rfl ?_
  refine lv_aload_n hx hb dX0_init_4 rfl (lv_at hl 0 rfl) ?_
  refine lv_bipush (v := 6) hx hb dX0_init_5 (by decide) ?_
  refine lv_bipush (v := 6) hx hb dX0_init_7 (by decide) ?_
  refine dk_grid (index := 9) hx hb hown (hts _ q14) hG (hts _ q32) hK hP hD hS hA (Nat.le_of_ble_eq_true rfl) (Nat.le_of_ble_eq_true rfl) dX0_init_9 (fun oh cA cZ H locs hK hP hD hS => ?_)
  refine va_putF (D := (dC, dI)) (ci := 0) (v := .ref oh) (ty := .array (.array .boolean)) (C := RX0) (T := TX0) (N := 5) hx hb hts in_X0 tyX0 tyX0_ok nmX0 hown hK hP hD hS 0 rfl rfl 0 (by decide) (hts _ q16) (fun _ h9 => h9) rfl hin rfl (by decide +kernel) rfl rfl (Nat.le_of_ble_eq_true rfl) dX0_init_13 (fun H locs hP hD hS => ?_)
  refine lv_aload_n hx hb dX0_init_16 rfl (lv_at hl 0 rfl) ?_
  refine lv_bipush (v := 64) hx hb dX0_init_17 (by decide) ?_
  refine va_newa (atype := .long) (ty := .long) hx hb (hts _ q33) rfl hK hP hD hS hA (a0 := (64, .inr (.inl (fun _ => 0)))) (fun cX => vp_cell_l cX 64 (fun _ => 0)) (by decide) (by decide) (by decide) (Nat.le_of_ble_eq_true rfl) (Nat.le_of_ble_eq_true rfl) dX0_init_19 (fun wa cJ H hK hP hD hS => ?_)
  refine va_put (D := (dC, dI)) (ci := 0) (v := .ref wa) (ty := .array .long) (C := RX0) (T := TX0) (N := 5) hx hb hts in_X0 tyX0 tyX0_ok nmX0 hown hK hP hD hS 0 rfl rfl 1 (by decide) (hts _ q17) (fun _ h9 => h9) rfl (by decide +kernel) rfl rfl (Nat.le_of_ble_eq_true rfl) dX0_init_21 (fun H locs hP hD hS => ?_)
  refine lv_aload_n hx hb dX0_init_24 rfl (lv_at hl 0 rfl) ?_
  refine lv_bipush (v := 64) hx hb dX0_init_25 (by decide) ?_
  refine va_newa (atype := .long) (ty := .long) hx hb (hts _ q33) rfl hK hP hD hS hA (a0 := (64, .inr (.inl (fun _ => 0)))) (fun cX => vp_cell_l cX 64 (fun _ => 0)) (by decide) (by decide) (by decide) (Nat.le_of_ble_eq_true rfl) (Nat.le_of_ble_eq_true rfl) dX0_init_27 (fun ta cJ2 H hK hP hD hS => ?_)
  have r1 : s.vm.findClass ("[" ++ FieldType.long.toString) = some cJ := (hK.2 2 (cJ, .long) rfl).2
  have r2 : s.vm.findClass ("[" ++ FieldType.long.toString) = some cJ2 := (hK.2 3 (cJ2, .long) rfl).2
  have e1 : cJ = cJ2 := Option.some.inj (r1.symm.trans r2)
  subst e1
  refine va_put (D := (dC, dI)) (ci := 0) (v := .ref ta) (ty := .array .long) (C := RX0) (T := TX0) (N := 5) hx hb hts in_X0 tyX0 tyX0_ok nmX0 hown hK hP hD hS 0 rfl rfl 2 (by decide) (hts _ q18) (fun _ h9 => h9) rfl (by decide +kernel) rfl rfl (Nat.le_of_ble_eq_true rfl) dX0_init_29 (fun H locs hP hD hS => ?_)
  refine lv_aload_n hx hb dX0_init_32 rfl (lv_at hl 0 rfl) ?_
  refine lv_iconst (v := 4) hx hb dX0_init_33 (by decide) ?_
  refine va_put (D := (dC, dI)) (ci := 0) (v := .int 4) (ty := .int) (C := RX0) (T := TX0) (N := 5) hx hb hts in_X0 tyX0 tyX0_ok nmX0 hown hK hP hD hS 0 rfl rfl 3 (by decide) (hts _ q19) (fun _ h9 => h9) rfl (by decide +kernel) rfl rfl (Nat.le_of_ble_eq_true rfl) dX0_init_34 (fun H locs hP hD hS => ?_)
  refine lv_aload_n hx hb dX0_init_37 rfl (lv_at hl 0 rfl) ?_
  refine lv_iconst (v := 4) hx hb dX0_init_38 (by decide) ?_
  refine va_put (D := (dC, dI)) (ci := 0) (v := .int 4) (ty := .int) (C := RX0) (T := TX0) (N := 5) hx hb hts in_X0 tyX0 tyX0_ok nmX0 hown hK hP hD hS 0 rfl rfl 4 (by decide) (hts _ q20) (fun _ h9 => h9) rfl (by decide +kernel) rfl rfl (Nat.le_of_ble_eq_true rfl) dX0_init_39 (fun H locs hP hD hS => ?_)
  have hP9 : va_P (dC, dI) vwCl (dk_W cA cJ cZ o oh wa ta (fun j => oh + 1 + j) 4 4 (fun _ _ => false) (fun _ => 0) (fun _ => 0)) H := hP.sub [0, 1, 8, 9, 2, 3, 4, 5, 6, 7] rfl
  have hD9 : va_D A (dk_W cA cJ cZ o oh wa ta (fun j => oh + 1 + j) 4 4 (fun _ _ => false) (fun _ => 0) (fun _ => 0)) := hD.sub [0, 1, 8, 9, 2, 3, 4, 5, 6, 7] (by decide) rfl
  have hK9 : va_K (dC, dI) vwCl (dk_T cA cJ cZ) s := hK.sub [0, 2, 1] rfl
  exact W.vret hx hb hr (fun t ht hW => ⟨⟨(), rfl, trivial, cA, cJ, cZ, oh, wa, ta, (fun j => oh + 1 + j), by rw [ht]; exact hP9, va_K.moved hW.alike hK9, hD9⟩, hS.F ht⟩) hS.2.2 dX0_init_42
set_option maxHeartbeats 4000000 in
set_option maxRecDepth 100000 in
/-- the reference is made -/
theorem metX1_init (l : Launch) (dC : Nat → ClassId) (dI : Nat → Nat → Nat) (o sz : Nat) : Met l yX1_init (ws_ yX1_init cX1_init 1 none) ({ frames := 1, cells := 3, slots := 134, locals := 12 }) (va_Pc [.ref o] (fun U => U.heap.size = sz ∧ va_P (dC, dI) vwCl [(o, .inr (1, [.null, .int 0, .int 0, .null, .null]))] U.heap ∧ va_K (dC, dI) vwCl [] U ∧ va_D (fun _ => True) [(o, .inr (1, [.null, .int 0, .int 0, .null, .null]))])) (va_Qv (fun (_ : Unit) => True) (fun _ t => ∃ (cI cJ : ClassId) (ha wa na : Nat), va_P (dC, dI) vwCl (mo_W cI cJ o ha wa na 4 4 (mo_hb (fun _ _ => false)) (fun _ => 0) (fun _ => 0)) t.heap ∧ va_K (dC, dI) vwCl (mo_T cI cJ) t ∧ va_D (va_A [(o, .inr (1, [.null, .int 0, .int 0, .null, .null]))] sz) (mo_W cI cJ o ha wa na 4 4 (mo_hb (fun _ _ => false)) (fun _ => 0) (fun _ => 0))) (va_A [(o, .inr (1, [.null, .int 0, .int 0, .null, .null]))] sz)) 3 134 (va_A [(o, .inr (1, [.null, .int 0, .int 0, .null, .null]))] sz) := by
  refine Met.ofW (cc := cX1_init) (maxL := 1) (ret := none) (by decide) rfl ?_
  intro p e s m args below meth c s₁ B hml hv
  obtain ⟨rfl, hsz, hP, hK, hD0⟩ := hv
  have hx := B.exec
  have hb := B.bytes
  have hr := B.returns
  have hts := atoms_spec (ws := ws_ yX1_init cX1_init 1 none) B.pre
  have hts : ∀ w ∈ lw_all, w.before _ s = true := fun w h => hts w (List.mem_cons_of_mem _ h)
  have hown : s.vm.findClass RX1 = some m.cls := findClass_of_methodNamed B.named
  have hlocks := B.notSynchronized
  subst hsz
  have hD := hD0.self (sz := s.heap.size)
  generalize hAe : va_A ([(o, .inr (1, [.null, .int 0, .int 0, .null, .null]))]) s.heap.size = A at hD ⊢
  have hA : ∀ q : Nat, s.heap.size ≤ q → A q := fun q h => by rw [← hAe]; exact Or.inr h
  have hS : va_S A s.heap s.heap [] := va_S.rf
  have hl := lv_entry ([.ref o]) (n := 1) (Nat.le_of_ble_eq_true rfl)
  rw [lg_entry_eq]
  generalize (lg_sl ([.ref o]) ++ List.replicate (1 - (lg_sl ([.ref o])).length) Slot.unset).toArray = ls at hl ⊢
  have hl : lv_has ls 1 [(0, .ref o)] := hl
  have hin : meth.name = "<init>" := (name_of_methodNamed B.named B.method).1
  refine lv_aload_n hx hb dX1_init_0 rfl (lv_at hl 0 rfl) ?_
  refine W.objInit hx hb hown (hts _ q75) (hts _ q12) (hts _ q13) rfl (by rw [hml]; exact hl.1) rfl dX1_init_1 (Nat.le_of_ble_eq_true rfl) (Nat.le_of_ble_eq_true rfl) ?_
  refine W.eq (g2 := F0 m 4 ls []) rfl ?_
  refine lv_aload_n hx hb dX1_init_4 rfl (lv_at hl 0 rfl) ?_
  refine lv_bipush (v := 6) hx hb dX1_init_5 (by decide) ?_
  refine va_newa (atype := .int) (ty := .int) hx hb (hts _ q92) rfl hK hP hD hS hA (a0 := (6, .inl (fun _ => 0))) (fun cX => vp_cell_i cX 6 (fun _ => 0)) (by decide) (by decide) (by decide) (Nat.le_of_ble_eq_true rfl) (Nat.le_of_ble_eq_true rfl) dX1_init_7 (fun ha cI H hK hP hD hS => ?_)
  refine va_putF (D := (dC, dI)) (ci := 1) (v := .ref ha) (ty := .array .int) (C := RX1) (T := TX1) (N := 5) hx hb hts in_X1 tyX1 tyX1_ok nmX1 hown hK hP hD hS 0 rfl rfl 0 (by decide) (hts _ q76) (fun _ h9 => h9) rfl hin rfl (by decide +kernel) rfl rfl (Nat.le_of_ble_eq_true rfl) dX1_init_9 (fun H locs hP hD hS => ?_)
  refine lv_aload_n hx hb dX1_init_12 rfl (lv_at hl 0 rfl) ?_
  refine lv_iconst (v := 4) hx hb dX1_init_13 (by decide) ?_
  refine va_put (D := (dC, dI)) (ci := 1) (v := .int 4) (ty := .int) (C := RX1) (T := TX1) (N := 5) hx hb hts in_X1 tyX1 tyX1_ok nmX1 hown hK hP hD hS 0 rfl rfl 1 (by decide) (hts _ q77) (fun _ h9 => h9) rfl (by decide +kernel) rfl rfl (Nat.le_of_ble_eq_true rfl) dX1_init_14 (fun H locs hP hD hS => ?_)
  refine lv_aload_n hx hb dX1_init_17 rfl (lv_at hl 0 rfl) ?_
  refine lv_iconst (v := 4) hx hb dX1_init_18 (by decide) ?_
  refine va_put (D := (dC, dI)) (ci := 1) (v := .int 4) (ty := .int) (C := RX1) (T := TX1) (N := 5) hx hb hts in_X1 tyX1 tyX1_ok nmX1 hown hK hP hD hS 0 rfl rfl 2 (by decide) (hts _ q78) (fun _ h9 => h9) rfl (by decide +kernel) rfl rfl (Nat.le_of_ble_eq_true rfl) dX1_init_19 (fun H locs hP hD hS => ?_)
  refine lv_aload_n hx hb dX1_init_22 rfl (lv_at hl 0 rfl) ?_
  refine lv_bipush (v := 64) hx hb dX1_init_23 (by decide) ?_
  refine va_newa (atype := .long) (ty := .long) hx hb (hts _ q33) rfl hK hP hD hS hA (a0 := (64, .inr (.inl (fun _ => 0)))) (fun cX => vp_cell_l cX 64 (fun _ => 0)) (by decide) (by decide) (by decide) (Nat.le_of_ble_eq_true rfl) (Nat.le_of_ble_eq_true rfl) dX1_init_25 (fun wa cJ H hK hP hD hS => ?_)
  refine va_putF (D := (dC, dI)) (ci := 1) (v := .ref wa) (ty := .array .long) (C := RX1) (T := TX1) (N := 5) hx hb hts in_X1 tyX1 tyX1_ok nmX1 hown hK hP hD hS 0 rfl rfl 3 (by decide) (hts _ q79) (fun _ h9 => h9) rfl hin rfl (by decide +kernel) rfl rfl (Nat.le_of_ble_eq_true rfl) dX1_init_27 (fun H locs hP hD hS => ?_)
  refine lv_aload_n hx hb dX1_init_30 rfl (lv_at hl 0 rfl) ?_
  refine lv_bipush (v := 64) hx hb dX1_init_31 (by decide) ?_
  refine va_newa (atype := .long) (ty := .long) hx hb (hts _ q33) rfl hK hP hD hS hA (a0 := (64, .inr (.inl (fun _ => 0)))) (fun cX => vp_cell_l cX 64 (fun _ => 0)) (by decide) (by decide) (by decide) (Nat.le_of_ble_eq_true rfl) (Nat.le_of_ble_eq_true rfl) dX1_init_33 (fun na cJ2 H hK hP hD hS => ?_)
  have r1 : s.vm.findClass ("[" ++ FieldType.long.toString) = some cJ := (hK.2 1 (cJ, .long) rfl).2
  have r2 : s.vm.findClass ("[" ++ FieldType.long.toString) = some cJ2 := (hK.2 2 (cJ2, .long) rfl).2
  have e1 : cJ = cJ2 := Option.some.inj (r1.symm.trans r2)
  subst e1
  refine va_putF (D := (dC, dI)) (ci := 1) (v := .ref na) (ty := .array .long) (C := RX1) (T := TX1) (N := 5) hx hb hts in_X1 tyX1 tyX1_ok nmX1 hown hK hP hD hS 0 rfl rfl 4 (by decide) (hts _ q80) (fun _ h9 => h9) rfl hin rfl (by decide +kernel) rfl rfl (Nat.le_of_ble_eq_true rfl) dX1_init_35 (fun H locs hP hD hS => ?_)
  have hP9 : va_P (dC, dI) vwCl (mo_W cI cJ o ha wa na 4 4 (mo_hb (fun _ _ => false)) (fun _ => 0) (fun _ => 0)) H := by
    rw [mo_none]
    exact hP.sub [0, 1, 2, 3] rfl
  have hD9 : va_D A (mo_W cI cJ o ha wa na 4 4 (mo_hb (fun _ _ => false)) (fun _ => 0) (fun _ => 0)) := by
    rw [mo_none]
    exact hD.sub [0, 1, 2, 3] (by decide) rfl
  have hK9 : va_K (dC, dI) vwCl (mo_T cI cJ) s := hK.sub [0, 1] rfl
  exact W.vret hx hb hr (fun t ht hW => ⟨⟨(), rfl, trivial, cI, cJ, ha, wa, na, by rw [ht]; exact hP9, va_K.moved hW.alike hK9, hD9⟩, hS.F ht⟩) hS.2.2 dX1_init_38
end
section
/-! THE REFERENCE: board, turn, cells, surplus -/
section MOB
variable {p : Program} {l : Launch} {e : Env} {R : Room} {s : State} {m : MethodId} {args : Array Value} {below : List Frame} {meth : Method} {c : Code} {cells slots : Nat} {Q : State → Prop}
variable {A : Nat → Prop} {H0 : Heap} {dC : Nat → ClassId} {dI : Nat → Nat → Nat} {cI cJ : ClassId} {o ha wa na : Nat} {w h : Nat} {ho : Nat → Nat → Bool} {fw fn : Nat → Int64} {a b : Int32}
set_option maxHeartbeats 4000000 in
set_option maxRecDepth 100000 in
theorem mo_board_i (hx : p.tables.exec = Jvm.exec) (hb : c.code = cX1_board) (hown : s.vm.findClass RX1 = some m.cls) (hts : ∀ w ∈ lw_all, w.before args s = true) (hK : va_K (dC, dI) vwCl (mo_T cI cJ) s)
    (kk : ∀ (H : Heap) (locs : List Loc) (ls : Array Slot), va_P (dC, dI) vwCl (mo_W cI cJ o ha wa na w h (mo_hb (fun _ _ => false)) fw fn) H → va_D A (mo_W cI cJ o ha wa na w h (mo_hb (fun _ _ => false)) fw fn) → va_S A H0 H locs → W p l e R s m args below meth c H locs cells slots Q (F0 m 47 ls [])) :
    ∀ (n i : Nat), 7 ≤ i + n → i ≤ 6 → ∀ (hh : Nat → Int32) (H : Heap) (locs : List Loc) (ls : Array Slot), (∀ j, j < i → hh j = 0) → va_P (dC, dI) vwCl (mo_W cI cJ o ha wa na w h hh fw fn) H → va_D A (mo_W cI cJ o ha wa na w h hh fw fn) → va_S A H0 H locs → lv_has ls 4 [(3, .int (nI i)), (2, .int b), (1, .int a), (0, .ref o)] → W p l e R s m args below meth c H locs cells slots Q (F0 m 28 ls []) := by
  intro n
  induction n with
  | zero =>
    intro i h1 h2
    omega
  | succ n ih =>
    intro i h1 h2 hh H locs ls g1 hP hD hS hl
    refine lv_iload_n hx hb dX1_board_28 rfl (lv_at hl 0 rfl) ?_
    refine lv_bipush (v := 6) hx hb dX1_board_29 (by decide) ?_
    refine lv_icmp_ge (tgt := 47) hx hb dX1_board_31 (by decide) (fun c1 => ?_) (fun c1 => ?_)
    · have c1 := (nI_leI (a := 6) (by omega) (by omega)).mp c1
      have e1 : i = 6 := by omega
      subst e1
      refine kk H locs ls ?_ (dk_Dsame hD rfl) hS
      rw [mo_none]
      exact dk_reI hP hD 1 rfl g1
    have c1 : i < 6 := Nat.not_le.mp fun q => c1 ((nI_leI (a := 6) (by omega) (by omega)).mpr q)
    refine lv_aload_n hx hb dX1_board_34 rfl (lv_at hl 3 rfl) ?_
    refine mo_g0 hx hb hts hown hK hP dX1_board_35 ?_
    refine lv_iload_n hx hb dX1_board_38 rfl (lv_at hl 0 rfl) ?_
    refine lv_iconst (v := 0) hx hb dX1_board_39 (by decide) ?_
    refine dk_iast hx hb hK hP hD hS 1 0 rfl rfl c1 (by decide) dX1_board_40 (fun H locs hP hD hS => ?_)
    refine lv_iinc (v := nI (i + 1)) (lv' := [(3, .int (nI (i + 1))), (2, .int b), (1, .int a), (0, .ref o)]) hx hb dX1_board_41 hl (k := 0) rfl (nI_1 i) (by decide) rfl (fun ls hl => ?_)
    refine lv_goto (tgt := 28) hx hb dX1_board_44 (by decide) ?_
    refine ih (i + 1) (by omega) (by omega) (upd hh i 0) H locs ls (fun j hj => ?_) hP hD hS hl
    by_cases e1 : j = i
    · subst e1
      exact pk_us
    · rw [pk_un e1]
      exact g1 j (by omega)
set_option maxHeartbeats 4000000 in
set_option maxRecDepth 100000 in
theorem mo_cells_x (hx : p.tables.exec = Jvm.exec) (hb : c.code = cX1_cells) (hown : s.vm.findClass RX1 = some m.cls) (hts : ∀ w ∈ lw_all, w.before args s = true) (hK : va_K (dC, dI) vwCl (mo_T cI cJ) s) {H : Heap} {locs : List Loc} (hP : va_P (dC, dI) vwCl (mo_W cI cJ o ha wa na w h (mo_hb ho) fw fn) H) {y : Nat} {a0 : Int32} (w6 : w ≤ 6) (h6 : h ≤ 6) (hyh : y < h)
    (kk : ∀ (ls : Array Slot), lv_has ls 4 [(3, .int (nI w)), (2, .int (nI y)), (1, .int (a0 + l_sum (fun x => dk_term ho 1 x y) w)), (0, .ref o)] → W p l e R s m args below meth c H locs cells slots Q (F0 m 45 ls [])) :
    ∀ (n x : Nat), w + 1 ≤ x + n → x ≤ w → ∀ (ls : Array Slot), lv_has ls 4 [(3, .int (nI x)), (2, .int (nI y)), (1, .int (a0 + l_sum (fun x => dk_term ho 1 x y) x)), (0, .ref o)] → W p l e R s m args below meth c H locs cells slots Q (F0 m 14 ls []) := by
  intro n
  induction n with
  | zero =>
    intro x h1 h2
    omega
  | succ n ih =>
    intro x h1 h2 ls hl
    refine lv_iload_n hx hb dX1_cells_14 rfl (lv_at hl 0 rfl) ?_
    refine lv_aload_n hx hb dX1_cells_15 rfl (lv_at hl 3 rfl) ?_
    refine mo_g1 hx hb hts hown hK hP dX1_cells_16 ?_
    refine lv_icmp_ge (tgt := 45) hx hb dX1_cells_19 (by decide) (fun c1 => ?_) (fun c1 => ?_)
    · have c1 := (nI_leI (by omega) (by omega)).mp c1
      have e1 : x = w := by omega
      subst e1
      exact kk ls hl
    have c1 : x < w := Nat.not_le.mp fun q => c1 ((nI_leI (by omega) (by omega)).mpr q)
    refine lv_aload_n hx hb dX1_cells_22 rfl (lv_at hl 3 rfl) ?_
    refine mo_g0 hx hb hts hown hK hP dX1_cells_23 ?_
    refine lv_iload_n hx hb dX1_cells_26 rfl (lv_at hl 1 rfl) ?_
    refine dk_iald hx hb hK hP 1 0 rfl rfl (by omega) (by decide) dX1_cells_27 ?_
    refine lv_iload_n hx hb dX1_cells_28 rfl (lv_at hl 0 rfl) ?_
    refine lv_ishr hx hb dX1_cells_29 ?_
    refine lv_iconst (v := 1) hx hb dX1_cells_30 (by decide) ?_
    refine lv_iand hx hb dX1_cells_31 ?_
    refine dk_top (mo_bit ho y (by omega)) ?_
    refine lv_if_ne (tgt := 39) hx hb dX1_cells_32 (by decide) (fun c2 => ?_) (fun c2 => ?_)
    · have c2 : ho x y = true := by
        cases q : ho x y
        · exact absurd (dk_b0.mpr q) c2
        · rfl
      refine lv_iinc (v := nI (x + 1)) (lv' := [(3, .int (nI (x + 1))), (2, .int (nI y)), (1, .int (a0 + l_sum (fun x => dk_term ho 1 x y) x)), (0, .ref o)]) hx hb dX1_cells_39 hl (k := 0) rfl (nI_1 x) (by decide) rfl (fun ls hl => ?_)
      refine lv_goto (tgt := 14) hx hb dX1_cells_42 (by decide) ?_
      refine ih (x + 1) (by omega) (by omega) ls ?_
      show lv_has ls 4 [(3, .int (nI (x + 1))), (2, .int (nI y)), (1, .int (a0 + (l_sum (fun x => dk_term ho 1 x y) x + dk_term ho 1 x y))), (0, .ref o)]
      rw [show dk_term ho 1 x y = 0 by unfold dk_term; rw [if_pos c2], Int32.add_zero]
      exact hl
    · have c2 : ho x y = false := dk_b0.mp c2
      refine lv_iload_n hx hb dX1_cells_35 rfl (lv_at hl 2 rfl) ?_
      refine lv_iconst (v := 1) hx hb dX1_cells_36 (by decide) ?_
      refine lv_iadd hx hb dX1_cells_37 ?_
      refine lv_istore_n (lv' := [(1, .int (a0 + l_sum (fun x => dk_term ho 1 x y) x + 1)), (3, .int (nI x)), (2, .int (nI y)), (0, .ref o)]) hx hb dX1_cells_38 rfl hl (by decide) rfl (fun ls hl => ?_)
      refine lv_iinc (v := nI (x + 1)) (lv' := [(3, .int (nI (x + 1))), (1, .int (a0 + l_sum (fun x => dk_term ho 1 x y) x + 1)), (2, .int (nI y)), (0, .ref o)]) hx hb dX1_cells_39 hl (k := 1) rfl (nI_1 x) (by decide) rfl (fun ls hl => ?_)
      refine lv_goto (tgt := 14) hx hb dX1_cells_42 (by decide) ?_
      refine ih (x + 1) (by omega) (by omega) ls ?_
      show lv_has ls 4 [(3, .int (nI (x + 1))), (2, .int (nI y)), (1, .int (a0 + (l_sum (fun x => dk_term ho 1 x y) x + dk_term ho 1 x y))), (0, .ref o)]
      rw [show dk_term ho 1 x y = 1 by unfold dk_term; rw [if_neg (by rw [c2]; decide), ite_self], ← Int32.add_assoc]
      exact lv_sub hl [0, 2, 1, 3] rfl
set_option maxHeartbeats 4000000 in
set_option maxRecDepth 100000 in
theorem mo_cells_y (hx : p.tables.exec = Jvm.exec) (hb : c.code = cX1_cells) (hown : s.vm.findClass RX1 = some m.cls) (hts : ∀ w ∈ lw_all, w.before args s = true) (hK : va_K (dC, dI) vwCl (mo_T cI cJ) s) {H : Heap} {locs : List Loc} (hP : va_P (dC, dI) vwCl (mo_W cI cJ o ha wa na w h (mo_hb ho) fw fn) H) (w6 : w ≤ 6) (h6 : h ≤ 6)
    (kk : ∀ (ls : Array Slot), lv_has ls 4 [(2, .int (nI h)), (1, .int (mo_sum w h ho 1)), (0, .ref o)] → W p l e R s m args below meth c H locs cells slots Q (F0 m 51 ls [])) :
    ∀ (n y : Nat), h + 1 ≤ y + n → y ≤ h → ∀ (ls : Array Slot), lv_has ls 4 [(2, .int (nI y)), (1, .int (l_sum (fun y => l_sum (fun x => dk_term ho 1 x y) w) y)), (0, .ref o)] → W p l e R s m args below meth c H locs cells slots Q (F0 m 4 ls []) := by
  intro n
  induction n with
  | zero =>
    intro y h1 h2
    omega
  | succ n ih =>
    intro y h1 h2 ls hl
    refine lv_iload_n hx hb dX1_cells_4 rfl (lv_at hl 0 rfl) ?_
    refine lv_aload_n hx hb dX1_cells_5 rfl (lv_at hl 2 rfl) ?_
    refine mo_g2 hx hb hts hown hK hP dX1_cells_6 ?_
    refine lv_icmp_ge (tgt := 51) hx hb dX1_cells_9 (by decide) (fun c1 => ?_) (fun c1 => ?_)
    · have c1 := (nI_leI (by omega) (by omega)).mp c1
      have e1 : y = h := by omega
      subst e1
      exact kk ls hl
    have c1 : y < h := Nat.not_le.mp fun q => c1 ((nI_leI (by omega) (by omega)).mpr q)
    refine lv_iconst (v := 0) hx hb dX1_cells_12 (by decide) ?_
    refine lv_istore_n (lv' := [(3, .int 0), (2, .int (nI y)), (1, .int (l_sum (fun y => l_sum (fun x => dk_term ho 1 x y) w) y)), (0, .ref o)]) hx hb dX1_cells_13 rfl hl (by decide) rfl (fun ls hl => ?_)
    have hl : lv_has ls 4 [(3, .int (nI 0)), (2, .int (nI y)), (1, .int (l_sum (fun y => l_sum (fun x => dk_term ho 1 x y) w) y + l_sum (fun x => dk_term ho 1 x y) 0)), (0, .ref o)] := by
      rw [show l_sum (fun x => dk_term ho 1 x y) 0 = 0 from rfl, Int32.add_zero]
      exact hl
    refine mo_cells_x hx hb hown hts hK hP w6 h6 c1 (fun ls hl => ?_) (w + 1) 0 (by omega) (Nat.zero_le _) ls hl
    refine lv_iinc (v := nI (y + 1)) (lv' := [(2, .int (nI (y + 1))), (3, .int (nI w)), (1, .int (l_sum (fun y => l_sum (fun x => dk_term ho 1 x y) w) y + l_sum (fun x => dk_term ho 1 x y) w)), (0, .ref o)]) hx hb dX1_cells_45 hl (k := 1) rfl (nI_1 y) (by decide) rfl (fun ls hl => ?_)
    refine lv_goto (tgt := 4) hx hb dX1_cells_48 (by decide) ?_
    exact ih (y + 1) (by omega) (by omega) ls (lv_sub hl [0, 2, 3] rfl)
set_option maxHeartbeats 4000000 in
set_option maxRecDepth 100000 in
theorem mo_surplus_x (hx : p.tables.exec = Jvm.exec) (hb : c.code = cX1_surplus) (hown : s.vm.findClass RX1 = some m.cls) (hts : ∀ w ∈ lw_all, w.before args s = true) (hK : va_K (dC, dI) vwCl (mo_T cI cJ) s) {H : Heap} {locs : List Loc} (hP : va_P (dC, dI) vwCl (mo_W cI cJ o ha wa na w h (mo_hb ho) fw fn) H) {y : Nat} {a0 : Int32} (w6 : w ≤ 6) (h6 : h ≤ 6) (hyh : y < h)
    (kk : ∀ (ls : Array Slot), lv_has ls 4 [(3, .int (nI w)), (2, .int (nI y)), (1, .int (a0 + l_sum (fun x => dk_term ho (-1) x y) w)), (0, .ref o)] → W p l e R s m args below meth c H locs cells slots Q (F0 m 57 ls [])) :
    ∀ (n x : Nat), w + 1 ≤ x + n → x ≤ w → ∀ (ls : Array Slot), lv_has ls 4 [(3, .int (nI x)), (2, .int (nI y)), (1, .int (a0 + l_sum (fun x => dk_term ho (-1) x y) x)), (0, .ref o)] → W p l e R s m args below meth c H locs cells slots Q (F0 m 14 ls []) := by
  intro n
  induction n with
  | zero =>
    intro x h1 h2
    omega
  | succ n ih =>
    intro x h1 h2 ls hl
    refine lv_iload_n hx hb dX1_surplus_14 rfl (lv_at hl 0 rfl) ?_
    refine lv_aload_n hx hb dX1_surplus_15 rfl (lv_at hl 3 rfl) ?_
    refine mo_g1 hx hb hts hown hK hP dX1_surplus_16 ?_
    refine lv_icmp_ge (tgt := 57) hx hb dX1_surplus_19 (by decide) (fun c1 => ?_) (fun c1 => ?_)
    · have c1 := (nI_leI (by omega) (by omega)).mp c1
      have e1 : x = w := by omega
      subst e1
      exact kk ls hl
    have c1 : x < w := Nat.not_le.mp fun q => c1 ((nI_leI (by omega) (by omega)).mpr q)
    refine lv_aload_n hx hb dX1_surplus_22 rfl (lv_at hl 3 rfl) ?_
    refine mo_g0 hx hb hts hown hK hP dX1_surplus_23 ?_
    refine lv_iload_n hx hb dX1_surplus_26 rfl (lv_at hl 1 rfl) ?_
    refine dk_iald hx hb hK hP 1 0 rfl rfl (by omega) (by decide) dX1_surplus_27 ?_
    refine lv_iload_n hx hb dX1_surplus_28 rfl (lv_at hl 0 rfl) ?_
    refine lv_ishr hx hb dX1_surplus_29 ?_
    refine lv_iconst (v := 1) hx hb dX1_surplus_30 (by decide) ?_
    refine lv_iand hx hb dX1_surplus_31 ?_
    refine dk_top (mo_bit ho y (by omega)) ?_
    refine lv_if_ne (tgt := 51) hx hb dX1_surplus_32 (by decide) (fun c2 => ?_) (fun c2 => ?_)
    · have c2 : ho x y = true := by
        cases q : ho x y
        · exact absurd (dk_b0.mpr q) c2
        · rfl
      refine lv_iinc (v := nI (x + 1)) (lv' := [(3, .int (nI (x + 1))), (2, .int (nI y)), (1, .int (a0 + l_sum (fun x => dk_term ho (-1) x y) x)), (0, .ref o)]) hx hb dX1_surplus_51 hl (k := 0) rfl (nI_1 x) (by decide) rfl (fun ls hl => ?_)
      refine lv_goto (tgt := 14) hx hb dX1_surplus_54 (by decide) ?_
      refine ih (x + 1) (by omega) (by omega) ls ?_
      show lv_has ls 4 [(3, .int (nI (x + 1))), (2, .int (nI y)), (1, .int (a0 + (l_sum (fun x => dk_term ho (-1) x y) x + dk_term ho (-1) x y))), (0, .ref o)]
      rw [show dk_term ho (-1) x y = 0 by unfold dk_term; rw [if_pos c2], Int32.add_zero]
      exact hl
    have c2 : ho x y = false := dk_b0.mp c2
    have fin : ∀ v : Int32, v = dk_term ho (-1) x y → W p l e R s m args below meth c H locs cells slots Q (F0 m 49 ls [.int v, .int (a0 + l_sum (fun x => dk_term ho (-1) x y) x)]) := by
      intro v ev
      refine lv_iadd hx hb dX1_surplus_49 ?_
      refine lv_istore_n (lv' := [(1, .int (a0 + l_sum (fun x => dk_term ho (-1) x y) x + v)), (3, .int (nI x)), (2, .int (nI y)), (0, .ref o)]) hx hb dX1_surplus_50 rfl hl (by decide) rfl (fun ls hl => ?_)
      refine lv_iinc (v := nI (x + 1)) (lv' := [(3, .int (nI (x + 1))), (1, .int (a0 + l_sum (fun x => dk_term ho (-1) x y) x + v)), (2, .int (nI y)), (0, .ref o)]) hx hb dX1_surplus_51 hl (k := 1) rfl (nI_1 x) (by decide) rfl (fun ls hl => ?_)
      refine lv_goto (tgt := 14) hx hb dX1_surplus_54 (by decide) ?_
      refine ih (x + 1) (by omega) (by omega) ls ?_
      show lv_has ls 4 [(3, .int (nI (x + 1))), (2, .int (nI y)), (1, .int (a0 + (l_sum (fun x => dk_term ho (-1) x y) x + dk_term ho (-1) x y))), (0, .ref o)]
      rw [← ev, ← Int32.add_assoc]
      exact lv_sub hl [0, 2, 1, 3] rfl
    refine lv_iload_n hx hb dX1_surplus_35 rfl (lv_at hl 2 rfl) ?_
    refine lv_iload_n hx hb dX1_surplus_36 rfl (lv_at hl 0 rfl) ?_
    refine lv_iload_n hx hb dX1_surplus_37 rfl (lv_at hl 1 rfl) ?_
    refine lv_iadd hx hb dX1_surplus_38 ?_
    refine dk_top (nI_add x y) ?_
    refine lv_iconst (v := 1) hx hb dX1_surplus_39 (by decide) ?_
    refine lv_iand hx hb dX1_surplus_40 ?_
    refine lv_if_ne (tgt := 48) hx hb dX1_surplus_41 (by decide) (fun c3 => ?_) (fun c3 => ?_)
    · have c3 : ¬ (x + y) % 2 = 0 := fun q => c3 ((dk_par (x + y) (by omega)).mpr q)
      refine lv_iconst (v := (-1)) hx hb dX1_surplus_48 (by decide) ?_
      exact fin (-1) (by unfold dk_term; rw [if_neg (by rw [c2]; decide), if_neg c3])
    · have c3 : (x + y) % 2 = 0 := (dk_par (x + y) (by omega)).mp c3
      refine lv_iconst (v := 1) hx hb dX1_surplus_44 (by decide) ?_
      refine lv_goto (tgt := 49) hx hb dX1_surplus_45 (by decide) ?_
      exact fin 1 (by unfold dk_term; rw [if_neg (by rw [c2]; decide), if_pos c3])
set_option maxHeartbeats 4000000 in
set_option maxRecDepth 100000 in
theorem mo_surplus_y (hx : p.tables.exec = Jvm.exec) (hb : c.code = cX1_surplus) (hown : s.vm.findClass RX1 = some m.cls) (hts : ∀ w ∈ lw_all, w.before args s = true) (hK : va_K (dC, dI) vwCl (mo_T cI cJ) s) {H : Heap} {locs : List Loc} (hP : va_P (dC, dI) vwCl (mo_W cI cJ o ha wa na w h (mo_hb ho) fw fn) H) (w6 : w ≤ 6) (h6 : h ≤ 6)
    (kk : ∀ (ls : Array Slot), lv_has ls 4 [(2, .int (nI h)), (1, .int (mo_sum w h ho (-1))), (0, .ref o)] → W p l e R s m args below meth c H locs cells slots Q (F0 m 63 ls [])) :
    ∀ (n y : Nat), h + 1 ≤ y + n → y ≤ h → ∀ (ls : Array Slot), lv_has ls 4 [(2, .int (nI y)), (1, .int (l_sum (fun y => l_sum (fun x => dk_term ho (-1) x y) w) y)), (0, .ref o)] → W p l e R s m args below meth c H locs cells slots Q (F0 m 4 ls []) := by
  intro n
  induction n with
  | zero =>
    intro y h1 h2
    omega
  | succ n ih =>
    intro y h1 h2 ls hl
    refine lv_iload_n hx hb dX1_surplus_4 rfl (lv_at hl 0 rfl) ?_
    refine lv_aload_n hx hb dX1_surplus_5 rfl (lv_at hl 2 rfl) ?_
    refine mo_g2 hx hb hts hown hK hP dX1_surplus_6 ?_
    refine lv_icmp_ge (tgt := 63) hx hb dX1_surplus_9 (by decide) (fun c1 => ?_) (fun c1 => ?_)
    · have c1 := (nI_leI (by omega) (by omega)).mp c1
      have e1 : y = h := by omega
      subst e1
      exact kk ls hl
    have c1 : y < h := Nat.not_le.mp fun q => c1 ((nI_leI (by omega) (by omega)).mpr q)
    refine lv_iconst (v := 0) hx hb dX1_surplus_12 (by decide) ?_
    refine lv_istore_n (lv' := [(3, .int 0), (2, .int (nI y)), (1, .int (l_sum (fun y => l_sum (fun x => dk_term ho (-1) x y) w) y)), (0, .ref o)]) hx hb dX1_surplus_13 rfl hl (by decide) rfl (fun ls hl => ?_)
    have hl : lv_has ls 4 [(3, .int (nI 0)), (2, .int (nI y)), (1, .int (l_sum (fun y => l_sum (fun x => dk_term ho (-1) x y) w) y + l_sum (fun x => dk_term ho (-1) x y) 0)), (0, .ref o)] := by
      rw [show l_sum (fun x => dk_term ho (-1) x y) 0 = 0 from rfl, Int32.add_zero]
      exact hl
    refine mo_surplus_x hx hb hown hts hK hP w6 h6 c1 (fun ls hl => ?_) (w + 1) 0 (by omega) (Nat.zero_le _) ls hl
    refine lv_iinc (v := nI (y + 1)) (lv' := [(2, .int (nI (y + 1))), (3, .int (nI w)), (1, .int (l_sum (fun y => l_sum (fun x => dk_term ho (-1) x y) w) y + l_sum (fun x => dk_term ho (-1) x y) w)), (0, .ref o)]) hx hb dX1_surplus_57 hl (k := 1) rfl (nI_1 y) (by decide) rfl (fun ls hl => ?_)
    refine lv_goto (tgt := 4) hx hb dX1_surplus_60 (by decide) ?_
    exact ih (y + 1) (by omega) (by omega) ls (lv_sub hl [0, 2, 3] rfl)
end MOB
set_option maxHeartbeats 4000000 in
set_option maxRecDepth 100000 in
/-- board(a, b) of the reference -/
theorem metX1_board (l : Launch) (dC : Nat → ClassId) (dI : Nat → Nat → Nat) (cI cJ : ClassId) (o ha wa na : Nat) (w h : Nat) (ho : Nat → Nat → Bool) (fw fn : Nat → Int64) (sz : Nat) (a b : Int32) : Met l yX1_board (ws_ yX1_board cX1_board 4 none) ({ frames := 0, cells := 0, slots := 0, locals := 0 }) (va_Pc [.ref o, .int a, .int b] (fun U => U.heap.size = sz ∧ va_P (dC, dI) vwCl (mo_W cI cJ o ha wa na w h (mo_hb ho) fw fn) U.heap ∧ va_K (dC, dI) vwCl (mo_T cI cJ) U ∧ va_D (fun _ => True) (mo_W cI cJ o ha wa na w h (mo_hb ho) fw fn))) (va_Qv (fun (_ : Unit) => True) (fun _ t => va_P (dC, dI) vwCl (mo_W cI cJ o ha wa na (1 + dk_bl a 6) (1 + dk_bl b 6) (mo_hb (fun _ _ => false)) fw fn) t.heap ∧ va_K (dC, dI) vwCl (mo_T cI cJ) t ∧ va_D (va_A (mo_W cI cJ o ha wa na w h (mo_hb ho) fw fn) sz) (mo_W cI cJ o ha wa na (1 + dk_bl a 6) (1 + dk_bl b 6) (mo_hb (fun _ _ => false)) fw fn)) (va_A (mo_W cI cJ o ha wa na w h (mo_hb ho) fw fn) sz)) 0 0 (va_A (mo_W cI cJ o ha wa na w h (mo_hb ho) fw fn) sz) := by
  refine Met.ofW (cc := cX1_board) (maxL := 4) (ret := none) (by decide) rfl ?_
  intro p e s m args below meth c s₁ B hml hv
  obtain ⟨rfl, hsz, hP, hK, hD0⟩ := hv
  have hx := B.exec
  have hb := B.bytes
  have hr := B.returns
  have hts := atoms_spec (ws := ws_ yX1_board cX1_board 4 none) B.pre
  have hts : ∀ w ∈ lw_all, w.before _ s = true := fun w h => hts w (List.mem_cons_of_mem _ h)
  have hown : s.vm.findClass RX1 = some m.cls := findClass_of_methodNamed B.named
  have hlocks := B.notSynchronized
  subst hsz
  have hD := hD0.self (sz := s.heap.size)
  generalize hAe : va_A (mo_W cI cJ o ha wa na w h (mo_hb ho) fw fn) s.heap.size = A at hD ⊢
  have hA : ∀ q : Nat, s.heap.size ≤ q → A q := fun q h => by rw [← hAe]; exact Or.inr h
  have hS : va_S A s.heap s.heap [] := va_S.rf
  have hl := lv_entry ([.ref o, .int a, .int b]) (n := 4) (Nat.le_of_ble_eq_true rfl)
  rw [lg_entry_eq]
  generalize (lg_sl ([.ref o, .int a, .int b]) ++ List.replicate (4 - (lg_sl ([.ref o, .int a, .int b])).length) Slot.unset).toArray = ls at hl ⊢
  have hl : lv_has ls 4 [(0, .ref o), (1, .int a), (2, .int b)] := hl
  refine lv_aload_n hx hb dX1_board_0 rfl (lv_at hl 0 rfl) ?_
  refine lv_iconst (v := 1) hx hb dX1_board_1 (by decide) ?_
  refine lv_iload_n hx hb dX1_board_2 rfl (lv_at hl 1 rfl) ?_
  refine lv_ldc (v := 2147483647) hx hb hown (hts _ q97) dX1_board_3 ?_
  refine lv_iand hx hb dX1_board_5 ?_
  refine lv_bipush (v := 6) hx hb dX1_board_6 (by decide) ?_
  refine lv_irem hx hb dX1_board_8 (by decide) ?_
  refine dk_top (dk_below a (n := 6) (by decide) (by decide)) ?_
  refine lv_iadd hx hb dX1_board_9 ?_
  refine dk_top (nI_add 1 (dk_bl a 6)) ?_
  refine va_put (D := (dC, dI)) (ci := 1) (v := .int (nI (1 + dk_bl a 6))) (ty := .int) (C := RX1) (T := TX1) (N := 5) hx hb hts in_X1 tyX1 tyX1_ok nmX1 hown hK hP hD hS 0 rfl rfl 1 (by decide) (hts _ q77) (fun _ h9 => h9) rfl (by decide +kernel) rfl rfl (Nat.le_of_ble_eq_true rfl) dX1_board_10 (fun H locs hP hD hS => ?_)
  refine lv_aload_n hx hb dX1_board_13 rfl (lv_at hl 0 rfl) ?_
  refine lv_iconst (v := 1) hx hb dX1_board_14 (by decide) ?_
  refine lv_iload_n hx hb dX1_board_15 rfl (lv_at hl 2 rfl) ?_
  refine lv_ldc (v := 2147483647) hx hb hown (hts _ q97) dX1_board_16 ?_
  refine lv_iand hx hb dX1_board_18 ?_
  refine lv_bipush (v := 6) hx hb dX1_board_19 (by decide) ?_
  refine lv_irem hx hb dX1_board_21 (by decide) ?_
  refine dk_top (dk_below b (n := 6) (by decide) (by decide)) ?_
  refine lv_iadd hx hb dX1_board_22 ?_
  refine dk_top (nI_add 1 (dk_bl b 6)) ?_
  refine va_put (D := (dC, dI)) (ci := 1) (v := .int (nI (1 + dk_bl b 6))) (ty := .int) (C := RX1) (T := TX1) (N := 5) hx hb hts in_X1 tyX1 tyX1_ok nmX1 hown hK hP hD hS 0 rfl rfl 2 (by decide) (hts _ q78) (fun _ h9 => h9) rfl (by decide +kernel) rfl rfl (Nat.le_of_ble_eq_true rfl) dX1_board_23 (fun H locs hP hD hS => ?_)
  have hP : va_P (dC, dI) vwCl (mo_W cI cJ o ha wa na (1 + dk_bl a 6) (1 + dk_bl b 6) (mo_hb ho) fw fn) H := hP
  have hD : va_D A (mo_W cI cJ o ha wa na (1 + dk_bl a 6) (1 + dk_bl b 6) (mo_hb ho) fw fn) := hD
  refine lv_iconst (v := 0) hx hb dX1_board_26 (by decide) ?_
  refine lv_istore_n (lv' := [(3, .int 0), (0, .ref o), (1, .int a), (2, .int b)]) hx hb dX1_board_27 rfl hl (by decide) rfl (fun ls hl => ?_)
  refine mo_board_i hx hb hown hts hK (fun H locs ls hP hD hS => ?_) 7 0 (by omega) (by omega) (mo_hb ho) H locs ls (fun j hj => absurd hj (Nat.not_lt_zero j)) hP hD hS (lv_sub hl [0, 3, 2, 1] rfl)
  exact W.vret hx hb hr (fun t ht hW => ⟨⟨(), rfl, trivial, by rw [ht]; exact hP, va_K.moved hW.alike hK, hD⟩, hS.F ht⟩) hS.2.2 dX1_board_47
set_option maxHeartbeats 4000000 in
set_option maxRecDepth 100000 in
/-- turn(a, b) of the reference -/
theorem metX1_turn (l : Launch) (dC : Nat → ClassId) (dI : Nat → Nat → Nat) (cI cJ : ClassId) (o ha wa na : Nat) (w h : Nat) (ho : Nat → Nat → Bool) (fw fn : Nat → Int64) (sz : Nat) (a b : Int32) (w0 : 0 < w) (h0 : 0 < h) (w6 : w ≤ 6) (h6 : h ≤ 6) : Met l yX1_turn (ws_ yX1_turn cX1_turn 5 (some .boolean)) ({ frames := 0, cells := 0, slots := 0, locals := 0 }) (va_Pc [.ref o, .int a, .int b] (fun U => U.heap.size = sz ∧ va_P (dC, dI) vwCl (mo_W cI cJ o ha wa na w h (mo_hb ho) fw fn) U.heap ∧ va_K (dC, dI) vwCl (mo_T cI cJ) U ∧ va_D (fun _ => True) (mo_W cI cJ o ha wa na w h (mo_hb ho) fw fn))) (va_Qi (fun (r : Int32) (_ : Unit) => r = dk_b (!(ho (dk_bl a w) (dk_bl b h)))) (fun _ t => va_P (dC, dI) vwCl (mo_W cI cJ o ha wa na w h (mo_hb (dk_put ho (dk_bl a w) (dk_bl b h) (!(ho (dk_bl a w) (dk_bl b h))))) fw fn) t.heap ∧ va_K (dC, dI) vwCl (mo_T cI cJ) t ∧ va_D (va_A (mo_W cI cJ o ha wa na w h (mo_hb ho) fw fn) sz) (mo_W cI cJ o ha wa na w h (mo_hb (dk_put ho (dk_bl a w) (dk_bl b h) (!(ho (dk_bl a w) (dk_bl b h))))) fw fn)) (va_A (mo_W cI cJ o ha wa na w h (mo_hb ho) fw fn) sz)) 0 0 (va_A (mo_W cI cJ o ha wa na w h (mo_hb ho) fw fn) sz) := by
  refine Met.ofW (cc := cX1_turn) (maxL := 5) (ret := (some .boolean)) (by decide) rfl ?_
  intro p e s m args below meth c s₁ B hml hv
  obtain ⟨rfl, hsz, hP, hK, hD0⟩ := hv
  have hx := B.exec
  have hb := B.bytes
  have hr := B.returns
  have hts := atoms_spec (ws := ws_ yX1_turn cX1_turn 5 (some .boolean)) B.pre
  have hts : ∀ w ∈ lw_all, w.before _ s = true := fun w h => hts w (List.mem_cons_of_mem _ h)
  have hown : s.vm.findClass RX1 = some m.cls := findClass_of_methodNamed B.named
  have hlocks := B.notSynchronized
  subst hsz
  have hD := hD0.self (sz := s.heap.size)
  generalize hAe : va_A (mo_W cI cJ o ha wa na w h (mo_hb ho) fw fn) s.heap.size = A at hD ⊢
  have hA : ∀ q : Nat, s.heap.size ≤ q → A q := fun q h => by rw [← hAe]; exact Or.inr h
  have hS : va_S A s.heap s.heap [] := va_S.rf
  have hl := lv_entry ([.ref o, .int a, .int b]) (n := 5) (Nat.le_of_ble_eq_true rfl)
  rw [lg_entry_eq]
  generalize (lg_sl ([.ref o, .int a, .int b]) ++ List.replicate (5 - (lg_sl ([.ref o, .int a, .int b])).length) Slot.unset).toArray = ls at hl ⊢
  have hl : lv_has ls 5 [(0, .ref o), (1, .int a), (2, .int b)] := hl
  have i6 : dk_bl a w < 6 := Nat.lt_of_lt_of_le (dk_bl_lt a w0) w6
  have j6 : dk_bl b h < 6 := Nat.lt_of_lt_of_le (dk_bl_lt b h0) h6
  refine lv_iload_n hx hb dX1_turn_0 rfl (lv_at hl 1 rfl) ?_
  refine lv_ldc (v := 2147483647) hx hb hown (hts _ q97) dX1_turn_1 ?_
  refine lv_iand hx hb dX1_turn_3 ?_
  refine lv_aload_n hx hb dX1_turn_4 rfl (lv_at hl 0 rfl) ?_
  refine mo_g1 hx hb hts hown hK hP dX1_turn_5 ?_
  refine lv_irem hx hb dX1_turn_8 (nI_ne0 w0 (by omega)) ?_
  refine dk_top (dk_below a w0 w6) ?_
  refine lv_istore_n (lv' := [(3, .int (nI (dk_bl a w))), (0, .ref o), (1, .int a), (2, .int b)]) hx hb dX1_turn_9 rfl hl (by decide) rfl (fun ls hl => ?_)
  refine lv_iload_n hx hb dX1_turn_10 rfl (lv_at hl 3 rfl) ?_
  refine lv_ldc (v := 2147483647) hx hb hown (hts _ q97) dX1_turn_11 ?_
  refine lv_iand hx hb dX1_turn_13 ?_
  refine lv_aload_n hx hb dX1_turn_14 rfl (lv_at hl 1 rfl) ?_
  refine mo_g2 hx hb hts hown hK hP dX1_turn_15 ?_
  refine lv_irem hx hb dX1_turn_18 (nI_ne0 h0 (by omega)) ?_
  refine dk_top (dk_below b h0 h6) ?_
  refine lv_istore (lv' := [(4, .int (nI (dk_bl b h))), (3, .int (nI (dk_bl a w))), (0, .ref o), (1, .int a), (2, .int b)]) hx hb dX1_turn_19 hl (by decide) rfl (fun ls hl => ?_)
  generalize dk_bl a w = i at i6 hl ⊢
  generalize dk_bl b h = j at j6 hl ⊢
  refine lv_aload_n hx hb dX1_turn_21 rfl (lv_at hl 2 rfl) ?_
  refine mo_g0 hx hb hts hown hK hP dX1_turn_22 ?_
  refine lv_iload hx hb dX1_turn_25 (lv_at hl 0 rfl) ?_
  refine lv_aload_n hx hb dX1_turn_27 rfl (lv_at hl 2 rfl) ?_
  refine mo_g0 hx hb hts hown hK hP dX1_turn_28 ?_
  refine lv_iload hx hb dX1_turn_31 (lv_at hl 0 rfl) ?_
  refine dk_iald hx hb hK hP 1 0 rfl rfl j6 (by decide) dX1_turn_33 ?_
  refine lv_iconst (v := 1) hx hb dX1_turn_34 (by decide) ?_
  refine lv_iload_n hx hb dX1_turn_35 rfl (lv_at hl 1 rfl) ?_
  refine lv_ishl hx hb dX1_turn_36 ?_
  refine dk_top (dk_shl i (by omega)) ?_
  refine lv_ixor hx hb dX1_turn_37 ?_
  refine dk_iast hx hb hK hP hD hS 1 0 rfl rfl j6 (by decide) dX1_turn_38 (fun H locs hP hD hS => ?_)
  rw [mo_turn ho j i6] at hP hD
  have hP : va_P (dC, dI) vwCl (mo_W cI cJ o ha wa na w h (mo_hb (dk_put ho i j (!(ho i j)))) fw fn) H := hP
  have hD : va_D A (mo_W cI cJ o ha wa na w h (mo_hb (dk_put ho i j (!(ho i j)))) fw fn) := hD
  refine lv_aload_n hx hb dX1_turn_39 rfl (lv_at hl 2 rfl) ?_
  refine mo_g0 hx hb hts hown hK hP dX1_turn_40 ?_
  refine lv_iload hx hb dX1_turn_43 (lv_at hl 0 rfl) ?_
  refine dk_iald hx hb hK hP 1 0 rfl rfl j6 (by decide) dX1_turn_45 ?_
  refine lv_iload_n hx hb dX1_turn_46 rfl (lv_at hl 1 rfl) ?_
  refine lv_ishr hx hb dX1_turn_47 ?_
  refine lv_iconst (v := 1) hx hb dX1_turn_48 (by decide) ?_
  refine lv_iand hx hb dX1_turn_49 ?_
  refine dk_top (mo_bit _ j i6) ?_
  refine dk_top (congrArg dk_b (dk_put_self ho i j _)) ?_
  refine lv_if_eq (tgt := 57) hx hb dX1_turn_50 (by decide) (fun c1 => ?_) (fun c1 => ?_)
  · refine lv_iconst (v := 0) hx hb dX1_turn_57 (by decide) ?_
    exact W.zret (v := 0) hx hb hr rfl (fun t ht hW => ⟨⟨_, (), rfl, c1.symm, by rw [ht]; exact hP, va_K.moved hW.alike hK, hD⟩, hS.F ht⟩) hS.2.2 dX1_turn_58
  · have c2 : dk_b (!(ho i j)) = 1 := by
      cases q : ho i j
      · rfl
      · rw [q] at c1
        exact absurd rfl c1
    refine lv_iconst (v := 1) hx hb dX1_turn_53 (by decide) ?_
    refine lv_goto (tgt := 58) hx hb dX1_turn_54 (by decide) ?_
    exact W.zret (v := 1) hx hb hr rfl (fun t ht hW => ⟨⟨_, (), rfl, c2.symm, by rw [ht]; exact hP, va_K.moved hW.alike hK, hD⟩, hS.F ht⟩) hS.2.2 dX1_turn_58
set_option maxHeartbeats 4000000 in
set_option maxRecDepth 100000 in
/-- cells() of the reference -/
theorem metX1_cells (l : Launch) (dC : Nat → ClassId) (dI : Nat → Nat → Nat) (cI cJ : ClassId) (o ha wa na : Nat) (w h : Nat) (ho : Nat → Nat → Bool) (fw fn : Nat → Int64) (sz : Nat) (w6 : w ≤ 6) (h6 : h ≤ 6) : Met l yX1_cells (ws_ yX1_cells cX1_cells 4 (some .int)) ({ frames := 0, cells := 0, slots := 0, locals := 0 }) (va_Pc [.ref o] (fun U => U.heap.size = sz ∧ va_P (dC, dI) vwCl (mo_W cI cJ o ha wa na w h (mo_hb ho) fw fn) U.heap ∧ va_K (dC, dI) vwCl (mo_T cI cJ) U ∧ va_D (fun _ => True) (mo_W cI cJ o ha wa na w h (mo_hb ho) fw fn))) (va_Qi (fun (r : Int32) (_ : Unit) => r = mo_sum w h ho 1) (fun _ t => va_P (dC, dI) vwCl (mo_W cI cJ o ha wa na w h (mo_hb ho) fw fn) t.heap ∧ va_K (dC, dI) vwCl (mo_T cI cJ) t ∧ va_D (va_A (mo_W cI cJ o ha wa na w h (mo_hb ho) fw fn) sz) (mo_W cI cJ o ha wa na w h (mo_hb ho) fw fn)) (va_A (mo_W cI cJ o ha wa na w h (mo_hb ho) fw fn) sz)) 0 0 (va_A (mo_W cI cJ o ha wa na w h (mo_hb ho) fw fn) sz) := by
  refine Met.ofW (cc := cX1_cells) (maxL := 4) (ret := (some .int)) (by decide) rfl ?_
  intro p e s m args below meth c s₁ B hml hv
  obtain ⟨rfl, hsz, hP, hK, hD0⟩ := hv
  have hx := B.exec
  have hb := B.bytes
  have hr := B.returns
  have hts := atoms_spec (ws := ws_ yX1_cells cX1_cells 4 (some .int)) B.pre
  have hts : ∀ w ∈ lw_all, w.before _ s = true := fun w h => hts w (List.mem_cons_of_mem _ h)
  have hown : s.vm.findClass RX1 = some m.cls := findClass_of_methodNamed B.named
  have hlocks := B.notSynchronized
  subst hsz
  have hD := hD0.self (sz := s.heap.size)
  generalize hAe : va_A (mo_W cI cJ o ha wa na w h (mo_hb ho) fw fn) s.heap.size = A at hD ⊢
  have hA : ∀ q : Nat, s.heap.size ≤ q → A q := fun q h => by rw [← hAe]; exact Or.inr h
  have hS : va_S A s.heap s.heap [] := va_S.rf
  have hl := lv_entry ([.ref o]) (n := 4) (Nat.le_of_ble_eq_true rfl)
  rw [lg_entry_eq]
  generalize (lg_sl ([.ref o]) ++ List.replicate (4 - (lg_sl ([.ref o])).length) Slot.unset).toArray = ls at hl ⊢
  have hl : lv_has ls 4 [(0, .ref o)] := hl
  refine lv_iconst (v := 0) hx hb dX1_cells_0 (by decide) ?_
  refine lv_istore_n (lv' := [(1, .int 0), (0, .ref o)]) hx hb dX1_cells_1 rfl hl (by decide) rfl (fun ls hl => ?_)
  refine lv_iconst (v := 0) hx hb dX1_cells_2 (by decide) ?_
  refine lv_istore_n (lv' := [(2, .int 0), (1, .int 0), (0, .ref o)]) hx hb dX1_cells_3 rfl hl (by decide) rfl (fun ls hl => ?_)
  refine mo_cells_y hx hb hown hts hK hP w6 h6 (fun ls hl => ?_) (h + 1) 0 (by omega) (Nat.zero_le _) ls hl
  refine lv_iload_n hx hb dX1_cells_51 rfl (lv_at hl 1 rfl) ?_
  exact W.iret (v := mo_sum w h ho 1) hx hb hr (fun t ht hW => ⟨⟨_, (), rfl, rfl, by rw [ht]; exact hP, va_K.moved hW.alike hK, hD⟩, hS.F ht⟩) hS.2.2 dX1_cells_52
set_option maxHeartbeats 4000000 in
set_option maxRecDepth 100000 in
/-- surplus() of the reference -/
theorem metX1_surplus (l : Launch) (dC : Nat → ClassId) (dI : Nat → Nat → Nat) (cI cJ : ClassId) (o ha wa na : Nat) (w h : Nat) (ho : Nat → Nat → Bool) (fw fn : Nat → Int64) (sz : Nat) (w6 : w ≤ 6) (h6 : h ≤ 6) : Met l yX1_surplus (ws_ yX1_surplus cX1_surplus 4 (some .int)) ({ frames := 0, cells := 0, slots := 0, locals := 0 }) (va_Pc [.ref o] (fun U => U.heap.size = sz ∧ va_P (dC, dI) vwCl (mo_W cI cJ o ha wa na w h (mo_hb ho) fw fn) U.heap ∧ va_K (dC, dI) vwCl (mo_T cI cJ) U ∧ va_D (fun _ => True) (mo_W cI cJ o ha wa na w h (mo_hb ho) fw fn))) (va_Qi (fun (r : Int32) (_ : Unit) => r = mo_sum w h ho (-1)) (fun _ t => va_P (dC, dI) vwCl (mo_W cI cJ o ha wa na w h (mo_hb ho) fw fn) t.heap ∧ va_K (dC, dI) vwCl (mo_T cI cJ) t ∧ va_D (va_A (mo_W cI cJ o ha wa na w h (mo_hb ho) fw fn) sz) (mo_W cI cJ o ha wa na w h (mo_hb ho) fw fn)) (va_A (mo_W cI cJ o ha wa na w h (mo_hb ho) fw fn) sz)) 0 0 (va_A (mo_W cI cJ o ha wa na w h (mo_hb ho) fw fn) sz) := by
  refine Met.ofW (cc := cX1_surplus) (maxL := 4) (ret := (some .int)) (by decide) rfl ?_
  intro p e s m args below meth c s₁ B hml hv
  obtain ⟨rfl, hsz, hP, hK, hD0⟩ := hv
  have hx := B.exec
  have hb := B.bytes
  have hr := B.returns
  have hts := atoms_spec (ws := ws_ yX1_surplus cX1_surplus 4 (some .int)) B.pre
  have hts : ∀ w ∈ lw_all, w.before _ s = true := fun w h => hts w (List.mem_cons_of_mem _ h)
  have hown : s.vm.findClass RX1 = some m.cls := findClass_of_methodNamed B.named
  have hlocks := B.notSynchronized
  subst hsz
  have hD := hD0.self (sz := s.heap.size)
  generalize hAe : va_A (mo_W cI cJ o ha wa na w h (mo_hb ho) fw fn) s.heap.size = A at hD ⊢
  have hA : ∀ q : Nat, s.heap.size ≤ q → A q := fun q h => by rw [← hAe]; exact Or.inr h
  have hS : va_S A s.heap s.heap [] := va_S.rf
  have hl := lv_entry ([.ref o]) (n := 4) (Nat.le_of_ble_eq_true rfl)
  rw [lg_entry_eq]
  generalize (lg_sl ([.ref o]) ++ List.replicate (4 - (lg_sl ([.ref o])).length) Slot.unset).toArray = ls at hl ⊢
  have hl : lv_has ls 4 [(0, .ref o)] := hl
  refine lv_iconst (v := 0) hx hb dX1_surplus_0 (by decide) ?_
  refine lv_istore_n (lv' := [(1, .int 0), (0, .ref o)]) hx hb dX1_surplus_1 rfl hl (by decide) rfl (fun ls hl => ?_)
  refine lv_iconst (v := 0) hx hb dX1_surplus_2 (by decide) ?_
  refine lv_istore_n (lv' := [(2, .int 0), (1, .int 0), (0, .ref o)]) hx hb dX1_surplus_3 rfl hl (by decide) rfl (fun ls hl => ?_)
  refine mo_surplus_y hx hb hown hts hK hP w6 h6 (fun ls hl => ?_) (h + 1) 0 (by omega) (Nat.zero_le _) ls hl
  refine lv_iload_n hx hb dX1_surplus_63 rfl (lv_at hl 1 rfl) ?_
  exact W.iret (v := mo_sum w h ho (-1)) hx hb hr (fun t ht hW => ⟨⟨_, (), rfl, rfl, by rw [ht]; exact hP, va_K.moved hW.alike hK, hD⟩, hS.F ht⟩) hS.2.2 dX1_surplus_64
end
section
/-! COUNT of the reference -/
section MOC
variable {p : Program} {l : Launch} {e : Env} {R : Room} {s : State} {m : MethodId} {args : Array Value} {below : List Frame} {meth : Method} {c : Code} {cells slots : Nat} {Q : State → Prop}
variable {A : Nat → Prop} {H0 : Heap} {dC : Nat → ClassId} {dI : Nat → Nat → Nat} {cI cJ : ClassId} {o ha wa na : Nat} {w h : Nat} {ho : Nat → Nat → Bool}
set_option maxHeartbeats 4000000 in
set_option maxRecDepth 100000 in
theorem mo_count_i {fn : Nat → Int64} (hx : p.tables.exec = Jvm.exec) (hb : c.code = cX1_count) (hown : s.vm.findClass RX1 = some m.cls) (hts : ∀ w ∈ lw_all, w.before args s = true) (hK : va_K (dC, dI) vwCl (mo_T cI cJ) s)
    (kk : ∀ (H : Heap) (locs : List Loc) (ls : Array Slot), va_P (dC, dI) vwCl (mo_W cI cJ o ha wa na w h (mo_hb ho) dk_one fn) H → va_D A (mo_W cI cJ o ha wa na w h (mo_hb ho) dk_one fn) → va_S A H0 H locs → lv_has ls 6 [(1, .int (nI 64)), (0, .ref o)] → W p l e R s m args below meth c H locs cells slots Q (F0 m 29 ls [])) :
    ∀ (n i : Nat), 65 ≤ i + n → i ≤ 64 → ∀ (fw : Nat → Int64), (∀ j, j < i → fw j = dk_one j) → ∀ (H : Heap) (locs : List Loc) (ls : Array Slot), va_P (dC, dI) vwCl (mo_W cI cJ o ha wa na w h (mo_hb ho) fw fn) H → va_D A (mo_W cI cJ o ha wa na w h (mo_hb ho) fw fn) → va_S A H0 H locs → lv_has ls 6 [(1, .int (nI i)), (0, .ref o)] → W p l e R s m args below meth c H locs cells slots Q (F0 m 2 ls []) := by
  intro n
  induction n with
  | zero =>
    intro i h1 h2
    omega
  | succ n ih =>
    intro i h1 h2 fw hz H locs ls hP hD hS hl
    refine lv_iload_n hx hb dX1_count_2 rfl (lv_at hl 0 rfl) ?_
    refine lv_bipush (v := 64) hx hb dX1_count_3 (by decide) ?_
    refine lv_icmp_ge (tgt := 29) hx hb dX1_count_5 (by decide) (fun c1 => ?_) (fun c1 => ?_)
    · have c1 := (nI_leI (a := 64) (by omega) (by omega)).mp c1
      have e1 : i = 64 := by omega
      subst e1
      exact kk H locs ls (dk_reL hP hD 2 rfl hz) (dk_Dsame hD rfl) hS hl
    have c1 : i < 64 := Nat.not_le.mp fun q => c1 ((nI_leI (a := 64) (by omega) (by omega)).mpr q)
    have sto : ∀ v : Int64, v = dk_one i → W p l e R s m args below meth c H locs cells slots Q (F0 m 22 ls [.long v, .int (nI i), .ref wa]) := by
      intro v ev
      refine dk_last hx hb hK hP hD hS 2 1 rfl rfl c1 (by decide) dX1_count_22 (fun H locs hP hD hS => ?_)
      refine lv_iinc (v := nI (i + 1)) (lv' := [(1, .int (nI (i + 1))), (0, .ref o)]) hx hb dX1_count_23 hl (k := 0) rfl (nI_1 i) (by decide) rfl (fun ls hl => ?_)
      refine lv_goto (tgt := 2) hx hb dX1_count_26 (by decide) ?_
      refine ih (i + 1) (by omega) (by omega) (vp_updL fw i v) (fun j hj => ?_) H locs ls hP hD hS hl
      by_cases e1 : j = i
      · subst e1
        rw [pk_uLs, ev]
      · rw [pk_uLn e1]
        exact hz j (by omega)
    refine lv_aload_n hx hb dX1_count_8 rfl (lv_at hl 1 rfl) ?_
    refine mo_g3 hx hb hts hown hK hP dX1_count_9 ?_
    refine lv_iload_n hx hb dX1_count_12 rfl (lv_at hl 0 rfl) ?_
    refine lv_iload_n hx hb dX1_count_13 rfl (lv_at hl 0 rfl) ?_
    refine lv_if_ne (tgt := 21) hx hb dX1_count_14 (by decide) (fun c2 => ?_) (fun c2 => ?_)
    · have i0 : ¬ i = 0 := fun q => c2 (by rw [q]; exact nI_0)
      refine lv_lconst (v := 0) hx hb dX1_count_21 (by decide) ?_
      exact sto 0 (by unfold dk_one; rw [if_neg i0])
    · have i0 : i = 0 := by
        rcases Nat.eq_zero_or_pos i with q | q
        · exact q
        · exact absurd c2 (nI_ne0 q (by omega))
      refine lv_lconst (v := 1) hx hb dX1_count_17 (by decide) ?_
      refine lv_goto (tgt := 22) hx hb dX1_count_18 (by decide) ?_
      exact sto 1 (by unfold dk_one; rw [if_pos i0])
set_option maxHeartbeats 4000000 in
set_option maxRecDepth 100000 in
theorem mo_count_z {fw : Nat → Int64} (hx : p.tables.exec = Jvm.exec) (hb : c.code = cX1_count) (hown : s.vm.findClass RX1 = some m.cls) (hts : ∀ w ∈ lw_all, w.before args s = true) (hK : va_K (dC, dI) vwCl (mo_T cI cJ) s) {x y : Nat}
    (kk : ∀ (H : Heap) (locs : List Loc) (ls : Array Slot), va_P (dC, dI) vwCl (mo_W cI cJ o ha wa na w h (mo_hb ho) fw (fun _ => 0)) H → va_D A (mo_W cI cJ o ha wa na w h (mo_hb ho) fw (fun _ => 0)) → va_S A H0 H locs → lv_has ls 6 [(3, .int (nI 64)), (2, .int (nI x)), (1, .int (nI y)), (0, .ref o)] → W p l e R s m args below meth c H locs cells slots Q (F0 m 70 ls [])) :
    ∀ (n i : Nat), 65 ≤ i + n → i ≤ 64 → ∀ (fn : Nat → Int64), (∀ j, j < i → fn j = 0) → ∀ (H : Heap) (locs : List Loc) (ls : Array Slot), va_P (dC, dI) vwCl (mo_W cI cJ o ha wa na w h (mo_hb ho) fw fn) H → va_D A (mo_W cI cJ o ha wa na w h (mo_hb ho) fw fn) → va_S A H0 H locs → lv_has ls 6 [(3, .int (nI i)), (2, .int (nI x)), (1, .int (nI y)), (0, .ref o)] → W p l e R s m args below meth c H locs cells slots Q (F0 m 51 ls []) := by
  intro n
  induction n with
  | zero =>
    intro i h1 h2
    omega
  | succ n ih =>
    intro i h1 h2 fn hz H locs ls hP hD hS hl
    refine lv_iload_n hx hb dX1_count_51 rfl (lv_at hl 0 rfl) ?_
    refine lv_bipush (v := 64) hx hb dX1_count_52 (by decide) ?_
    refine lv_icmp_ge (tgt := 70) hx hb dX1_count_54 (by decide) (fun c1 => ?_) (fun c1 => ?_)
    · have c1 := (nI_leI (a := 64) (by omega) (by omega)).mp c1
      have e1 : i = 64 := by omega
      subst e1
      exact kk H locs ls (dk_reL hP hD 3 rfl hz) (dk_Dsame hD rfl) hS hl
    have c1 : i < 64 := Nat.not_le.mp fun q => c1 ((nI_leI (a := 64) (by omega) (by omega)).mpr q)
    refine lv_aload_n hx hb dX1_count_57 rfl (lv_at hl 3 rfl) ?_
    refine mo_g4 hx hb hts hown hK hP dX1_count_58 ?_
    refine lv_iload_n hx hb dX1_count_61 rfl (lv_at hl 0 rfl) ?_
    refine lv_lconst (v := 0) hx hb dX1_count_62 (by decide) ?_
    refine dk_last hx hb hK hP hD hS 3 1 rfl rfl c1 (by decide) dX1_count_63 (fun H locs hP hD hS => ?_)
    refine lv_iinc (v := nI (i + 1)) (lv' := [(3, .int (nI (i + 1))), (2, .int (nI x)), (1, .int (nI y)), (0, .ref o)]) hx hb dX1_count_64 hl (k := 0) rfl (nI_1 i) (by decide) rfl (fun ls hl => ?_)
    refine lv_goto (tgt := 51) hx hb dX1_count_67 (by decide) ?_
    refine ih (i + 1) (by omega) (by omega) (vp_updL fn i 0) (fun j hj => ?_) H locs ls hP hD hS hl
    by_cases e1 : j = i
    · subst e1
      exact pk_uLs
    · rw [pk_uLn e1]
      exact hz j (by omega)
set_option maxHeartbeats 4000000 in
set_option maxRecDepth 100000 in
theorem mo_count_c {fn : Nat → Int64} (hx : p.tables.exec = Jvm.exec) (hb : c.code = cX1_count) (hown : s.vm.findClass RX1 = some m.cls) (hts : ∀ w ∈ lw_all, w.before args s = true) (hK : va_K (dC, dI) vwCl (mo_T cI cJ) s) {x y : Nat}
    (kk : ∀ (H : Heap) (locs : List Loc) (ls : Array Slot), va_P (dC, dI) vwCl (mo_W cI cJ o ha wa na w h (mo_hb ho) fn fn) H → va_D A (mo_W cI cJ o ha wa na w h (mo_hb ho) fn fn) → va_S A H0 H locs → lv_has ls 6 [(3, .int (nI 64)), (2, .int (nI x)), (1, .int (nI y)), (0, .ref o)] → W p l e R s m args below meth c H locs cells slots Q (F0 m 334 ls [])) :
    ∀ (n i : Nat), 65 ≤ i + n → i ≤ 64 → ∀ (fw : Nat → Int64), (∀ j, j < i → fw j = fn j) → ∀ (H : Heap) (locs : List Loc) (ls : Array Slot), va_P (dC, dI) vwCl (mo_W cI cJ o ha wa na w h (mo_hb ho) fw fn) H → va_D A (mo_W cI cJ o ha wa na w h (mo_hb ho) fw fn) → va_S A H0 H locs → lv_has ls 6 [(3, .int (nI i)), (2, .int (nI x)), (1, .int (nI y)), (0, .ref o)] → W p l e R s m args below meth c H locs cells slots Q (F0 m 310 ls []) := by
  intro n
  induction n with
  | zero =>
    intro i h1 h2
    omega
  | succ n ih =>
    intro i h1 h2 fw hz H locs ls hP hD hS hl
    refine lv_iload_n hx hb dX1_count_310 rfl (lv_at hl 0 rfl) ?_
    refine lv_bipush (v := 64) hx hb dX1_count_311 (by decide) ?_
    refine lv_icmp_ge (tgt := 334) hx hb dX1_count_313 (by decide) (fun c1 => ?_) (fun c1 => ?_)
    · have c1 := (nI_leI (a := 64) (by omega) (by omega)).mp c1
      have e1 : i = 64 := by omega
      subst e1
      exact kk H locs ls (dk_reL hP hD 2 rfl hz) (dk_Dsame hD rfl) hS hl
    have c1 : i < 64 := Nat.not_le.mp fun q => c1 ((nI_leI (a := 64) (by omega) (by omega)).mpr q)
    refine lv_aload_n hx hb dX1_count_316 rfl (lv_at hl 3 rfl) ?_
    refine mo_g3 hx hb hts hown hK hP dX1_count_317 ?_
    refine lv_iload_n hx hb dX1_count_320 rfl (lv_at hl 0 rfl) ?_
    refine lv_aload_n hx hb dX1_count_321 rfl (lv_at hl 3 rfl) ?_
    refine mo_g4 hx hb hts hown hK hP dX1_count_322 ?_
    refine lv_iload_n hx hb dX1_count_325 rfl (lv_at hl 0 rfl) ?_
    refine dk_lald hx hb hK hP 3 1 rfl rfl c1 (by decide) dX1_count_326 ?_
    refine dk_last hx hb hK hP hD hS 2 1 rfl rfl c1 (by decide) dX1_count_327 (fun H locs hP hD hS => ?_)
    refine lv_iinc (v := nI (i + 1)) (lv' := [(3, .int (nI (i + 1))), (2, .int (nI x)), (1, .int (nI y)), (0, .ref o)]) hx hb dX1_count_328 hl (k := 0) rfl (nI_1 i) (by decide) rfl (fun ls hl => ?_)
    refine lv_goto (tgt := 310) hx hb dX1_count_331 (by decide) ?_
    refine ih (i + 1) (by omega) (by omega) (vp_updL fw i (fn i)) (fun j hj => ?_) H locs ls hP hD hS hl
    by_cases e1 : j = i
    · subst e1
      exact pk_uLs
    · rw [pk_uLn e1]
      exact hz j (by omega)
set_option maxHeartbeats 8000000 in
set_option maxRecDepth 100000 in
theorem mo_count_m {fw : Nat → Int64} (hx : p.tables.exec = Jvm.exec) (hb : c.code = cX1_count) (hown : s.vm.findClass RX1 = some m.cls) (hts : ∀ w ∈ lw_all, w.before args s = true) (hK : va_K (dC, dI) vwCl (mo_T cI cJ) s) {x y : Nat} (w6 : w ≤ 6) (h6 : h ≤ 6) (hxw : x < w) (hyh : y < h)
    (kk : ∀ (H : Heap) (locs : List Loc) (ls : Array Slot), va_P (dC, dI) vwCl (mo_W cI cJ o ha wa na w h (mo_hb ho) fw (mo_run w h ho x y fw (2 ^ w))) H → va_D A (mo_W cI cJ o ha wa na w h (mo_hb ho) fw (mo_run w h ho x y fw (2 ^ w))) → va_S A H0 H locs → lv_has ls 6 [(3, .int (nI (2 ^ w))), (2, .int (nI x)), (1, .int (nI y)), (0, .ref o)] → W p l e R s m args below meth c H locs cells slots Q (F0 m 308 ls [])) :
    ∀ (n k : Nat), 2 ^ w + 1 ≤ k + n → k ≤ 2 ^ w → ∀ (H : Heap) (locs : List Loc) (ls : Array Slot), va_P (dC, dI) vwCl (mo_W cI cJ o ha wa na w h (mo_hb ho) fw (mo_run w h ho x y fw k)) H → va_D A (mo_W cI cJ o ha wa na w h (mo_hb ho) fw (mo_run w h ho x y fw k)) → va_S A H0 H locs → lv_has ls 6 [(3, .int (nI k)), (2, .int (nI x)), (1, .int (nI y)), (0, .ref o)] → W p l e R s m args below meth c H locs cells slots Q (F0 m 72 ls []) := by
  intro n
  have hpw := dk_pw w6
  induction n with
  | zero =>
    intro k h1 h2
    omega
  | succ n ih =>
    intro k h1 h2 H locs ls hP hD hS hl
    refine lv_iload_n hx hb dX1_count_72 rfl (lv_at hl 0 rfl) ?_
    refine lv_iconst (v := 1) hx hb dX1_count_73 (by decide) ?_
    refine lv_aload_n hx hb dX1_count_74 rfl (lv_at hl 3 rfl) ?_
    refine mo_g1 hx hb hts hown hK hP dX1_count_75 ?_
    refine lv_ishl hx hb dX1_count_78 ?_
    refine dk_top (dk_shl w (by omega)) ?_
    refine lv_icmp_ge (tgt := 308) hx hb dX1_count_79 (by decide) (fun c1 => ?_) (fun c1 => ?_)
    · have c1 := (nI_leI (by omega) (by omega)).mp c1
      have e1 : k = 2 ^ w := by omega
      subst e1
      exact kk H locs ls hP hD hS hl
    have c1 : k < 2 ^ w := Nat.not_le.mp fun q => c1 ((nI_leI (by omega) (by omega)).mpr q)
    have k64 : k < 64 := by omega
    have x6 : x < 6 := by omega
    generalize ht0 : mo_run w h ho x y fw k = t0 at hP hD
    have next : ∀ (t : Nat → Int64) (H : Heap) (locs : List Loc) (ls : Array Slot), t = mo_stp w h ho x y fw k t0 → va_P (dC, dI) vwCl (mo_W cI cJ o ha wa na w h (mo_hb ho) fw t) H → va_D A (mo_W cI cJ o ha wa na w h (mo_hb ho) fw t) → va_S A H0 H locs → lv_has ls 6 [(3, .int (nI k)), (2, .int (nI x)), (1, .int (nI y)), (0, .ref o)] → W p l e R s m args below meth c H locs cells slots Q (F0 m 302 ls []) := by
      intro t H locs ls et hP hD hS hl
      refine lv_iinc (v := nI (k + 1)) (lv' := [(3, .int (nI (k + 1))), (2, .int (nI x)), (1, .int (nI y)), (0, .ref o)]) hx hb dX1_count_302 hl (k := 0) rfl (nI_1 k) (by decide) rfl (fun ls hl => ?_)
      refine lv_goto (tgt := 72) hx hb dX1_count_305 (by decide) ?_
      have et : t = mo_run w h ho x y fw (k + 1) := by rw [et, ← ht0]; rfl
      subst et
      exact ih (k + 1) (by omega) (by omega) H locs ls hP hD hS hl
    refine lv_aload_n hx hb dX1_count_82 rfl (lv_at hl 3 rfl) ?_
    refine mo_g3 hx hb hts hown hK hP dX1_count_83 ?_
    refine lv_iload_n hx hb dX1_count_86 rfl (lv_at hl 0 rfl) ?_
    refine dk_lald hx hb hK hP 2 1 rfl rfl k64 (by decide) dX1_count_87 ?_
    refine lv_lconst (v := 0) hx hb dX1_count_88 (by decide) ?_
    refine W.lcmp hx hb dX1_count_89 ?_
    refine lv_if_eq (tgt := 302) hx hb dX1_count_90 (by decide) (fun c2 => ?_) (fun c2 => ?_)
    · exact next t0 H locs ls (by unfold mo_stp; rw [if_pos ((lg_cmp_eq _ _).mp c2)]) hP hD hS hl
    have c2 : ¬ fw k = 0 := fun q => c2 ((lg_cmp_eq _ _).mpr q)
    have rgt : ∀ (t1 : Nat → Int64) (H : Heap) (locs : List Loc) (ls : Array Slot), mo_rgt w ho x y fw k t1 = mo_stp w h ho x y fw k t0 → va_P (dC, dI) vwCl (mo_W cI cJ o ha wa na w h (mo_hb ho) fw t1) H → va_D A (mo_W cI cJ o ha wa na w h (mo_hb ho) fw t1) → va_S A H0 H locs → lv_has ls 6 [(3, .int (nI k)), (2, .int (nI x)), (1, .int (nI y)), (0, .ref o)] → W p l e R s m args below meth c H locs cells slots Q (F0 m 236 ls []) := by
      intro t1 H locs ls est hP hD hS hl
      refine lv_iload_n hx hb dX1_count_236 rfl (lv_at hl 1 rfl) ?_
      refine lv_iconst (v := 1) hx hb dX1_count_237 (by decide) ?_
      refine lv_iadd hx hb dX1_count_238 ?_
      refine dk_top (nI_1 x) ?_
      refine lv_aload_n hx hb dX1_count_239 rfl (lv_at hl 3 rfl) ?_
      refine mo_g1 hx hb hts hown hK hP dX1_count_240 ?_
      refine lv_icmp_ge (tgt := 302) hx hb dX1_count_243 (by decide) (fun c5 => ?_) (fun c5 => ?_)
      · have c5 := (nI_leI (by omega) (by omega)).mp c5
        exact next t1 H locs ls (by rw [← est]; unfold mo_rgt; rw [if_neg (fun q => by omega)]) hP hD hS hl
      have c5 : x + 1 < w := Nat.not_le.mp fun q => c5 ((nI_leI (by omega) (by omega)).mpr q)
      refine lv_iload_n hx hb dX1_count_246 rfl (lv_at hl 0 rfl) ?_
      refine lv_iload_n hx hb dX1_count_247 rfl (lv_at hl 1 rfl) ?_
      refine lv_iconst (v := 1) hx hb dX1_count_248 (by decide) ?_
      refine lv_iadd hx hb dX1_count_249 ?_
      refine dk_top (nI_1 x) ?_
      refine lv_ishr hx hb dX1_count_250 ?_
      refine lv_iconst (v := 1) hx hb dX1_count_251 (by decide) ?_
      refine lv_iand hx hb dX1_count_252 ?_
      refine dk_top (dk_bit k k64 (x + 1) (by omega)) ?_
      refine lv_if_ne (tgt := 302) hx hb dX1_count_253 (by decide) (fun c6 => ?_) (fun c6 => ?_)
      · have c6 : ¬ k.testBit (x + 1) = false := fun q => c6 (dk_b0.mpr q)
        exact next t1 H locs ls (by rw [← est]; unfold mo_rgt; rw [if_neg (fun q => c6 q.2.1)]) hP hD hS hl
      have c6 : k.testBit (x + 1) = false := dk_b0.mp c6
      refine lv_aload_n hx hb dX1_count_256 rfl (lv_at hl 3 rfl) ?_
      refine mo_g0 hx hb hts hown hK hP dX1_count_257 ?_
      refine lv_iload_n hx hb dX1_count_260 rfl (lv_at hl 2 rfl) ?_
      refine dk_iald hx hb hK hP 1 0 rfl rfl (by omega) (by decide) dX1_count_261 ?_
      refine lv_iload_n hx hb dX1_count_262 rfl (lv_at hl 1 rfl) ?_
      refine lv_iconst (v := 1) hx hb dX1_count_263 (by decide) ?_
      refine lv_iadd hx hb dX1_count_264 ?_
      refine dk_top (nI_1 x) ?_
      refine lv_ishr hx hb dX1_count_265 ?_
      refine lv_iconst (v := 1) hx hb dX1_count_266 (by decide) ?_
      refine lv_iand hx hb dX1_count_267 ?_
      refine dk_top (mo_bit ho y (by omega)) ?_
      refine lv_if_ne (tgt := 302) hx hb dX1_count_268 (by decide) (fun c7 => ?_) (fun c7 => ?_)
      · have c7 : ¬ ho (x + 1) y = false := fun q => c7 (dk_b0.mpr q)
        exact next t1 H locs ls (by rw [← est]; unfold mo_rgt; rw [if_neg (fun q => c7 q.2.2)]) hP hD hS hl
      have c7 : ho (x + 1) y = false := dk_b0.mp c7
      have x5 : x + 1 < 6 := by omega
      refine lv_aload_n hx hb dX1_count_271 rfl (lv_at hl 3 rfl) ?_
      refine mo_g4 hx hb hts hown hK hP dX1_count_272 ?_
      refine lv_iload_n hx hb dX1_count_275 rfl (lv_at hl 0 rfl) ?_
      refine lv_iconst (v := 1) hx hb dX1_count_276 (by decide) ?_
      refine lv_iload_n hx hb dX1_count_277 rfl (lv_at hl 1 rfl) ?_
      refine lv_iconst (v := 1) hx hb dX1_count_278 (by decide) ?_
      refine lv_iadd hx hb dX1_count_279 ?_
      refine dk_top (nI_1 x) ?_
      refine lv_ishl hx hb dX1_count_280 ?_
      refine dk_top (dk_shl (x + 1) (by omega)) ?_
      refine lv_ior hx hb dX1_count_281 ?_
      refine dk_top (dk_or k k64 (x + 1) x5) ?_
      refine lv_aload_n hx hb dX1_count_282 rfl (lv_at hl 3 rfl) ?_
      refine mo_g4 hx hb hts hown hK hP dX1_count_283 ?_
      refine lv_iload_n hx hb dX1_count_286 rfl (lv_at hl 0 rfl) ?_
      refine lv_iconst (v := 1) hx hb dX1_count_287 (by decide) ?_
      refine lv_iload_n hx hb dX1_count_288 rfl (lv_at hl 1 rfl) ?_
      refine lv_iconst (v := 1) hx hb dX1_count_289 (by decide) ?_
      refine lv_iadd hx hb dX1_count_290 ?_
      refine dk_top (nI_1 x) ?_
      refine lv_ishl hx hb dX1_count_291 ?_
      refine dk_top (dk_shl (x + 1) (by omega)) ?_
      refine lv_ior hx hb dX1_count_292 ?_
      refine dk_top (dk_or k k64 (x + 1) x5) ?_
      refine dk_lald hx hb hK hP 3 1 rfl rfl (dk_olt k64 x5) (by decide) dX1_count_293 ?_
      refine lv_aload_n hx hb dX1_count_294 rfl (lv_at hl 3 rfl) ?_
      refine mo_g3 hx hb hts hown hK hP dX1_count_295 ?_
      refine lv_iload_n hx hb dX1_count_298 rfl (lv_at hl 0 rfl) ?_
      refine dk_lald hx hb hK hP 2 1 rfl rfl k64 (by decide) dX1_count_299 ?_
      refine lv_ladd hx hb dX1_count_300 ?_
      refine dk_last hx hb hK hP hD hS 3 1 rfl rfl (dk_olt k64 x5) (by decide) dX1_count_301 (fun H locs hP hD hS => ?_)
      exact next (dk_add t1 (k ||| 2 ^ (x + 1)) (fw k)) H locs ls (by rw [← est]; unfold mo_rgt; rw [if_pos ⟨c5, c6, c7⟩]) hP hD hS hl
    have b128 : ∀ ls : Array Slot, lv_has ls 6 [(5, .int (dk_b (ho x y))), (4, .int (dk_b (k.testBit x))), (3, .int (nI k)), (2, .int (nI x)), (1, .int (nI y)), (0, .ref o)] → W p l e R s m args below meth c H locs cells slots Q (F0 m 128 ls []) := by
      intro ls hl
      have hl4 := lv_sub hl [2, 3, 4, 5] rfl
      refine lv_iload hx hb dX1_count_128 (lv_at hl 1 rfl) ?_
      refine lv_if_eq (tgt := 172) hx hb dX1_count_130 (by decide) (fun c3 => ?_) (fun c3 => ?_)
      rotate_left
      · have c3 : k.testBit x = true := by
          cases q : k.testBit x
          · exact absurd (dk_b0.mpr q) c3
          · rfl
        refine lv_iload hx hb dX1_count_133 (lv_at hl 0 rfl) ?_
        refine lv_if_ne (tgt := 302) hx hb dX1_count_135 (by decide) (fun c4 => ?_) (fun c4 => ?_)
        · have c4 : ho x y = true := by
            cases q : ho x y
            · exact absurd (dk_b0.mpr q) c4
            · rfl
          exact next t0 H locs ls (by unfold mo_stp; rw [if_neg c2, if_pos c3, if_pos c4]) hP hD hS hl4
        have c4 : ¬ ho x y = true := by rw [dk_b0.mp c4]; decide
        refine lv_aload_n hx hb dX1_count_138 rfl (lv_at hl 5 rfl) ?_
        refine mo_g4 hx hb hts hown hK hP dX1_count_139 ?_
        refine lv_iload_n hx hb dX1_count_142 rfl (lv_at hl 2 rfl) ?_
        refine lv_iconst (v := 1) hx hb dX1_count_143 (by decide) ?_
        refine lv_iload_n hx hb dX1_count_144 rfl (lv_at hl 3 rfl) ?_
        refine lv_ishl hx hb dX1_count_145 ?_
        refine dk_top (dk_shl x (by omega)) ?_
        refine lv_iconst (v := (-1)) hx hb dX1_count_146 (by decide) ?_
        refine lv_ixor hx hb dX1_count_147 ?_
        refine lv_iand hx hb dX1_count_148 ?_
        refine dk_top (dk_clr k k64 x x6 c3) ?_
        refine lv_aload_n hx hb dX1_count_149 rfl (lv_at hl 5 rfl) ?_
        refine mo_g4 hx hb hts hown hK hP dX1_count_150 ?_
        refine lv_iload_n hx hb dX1_count_153 rfl (lv_at hl 2 rfl) ?_
        refine lv_iconst (v := 1) hx hb dX1_count_154 (by decide) ?_
        refine lv_iload_n hx hb dX1_count_155 rfl (lv_at hl 3 rfl) ?_
        refine lv_ishl hx hb dX1_count_156 ?_
        refine dk_top (dk_shl x (by omega)) ?_
        refine lv_iconst (v := (-1)) hx hb dX1_count_157 (by decide) ?_
        refine lv_ixor hx hb dX1_count_158 ?_
        refine lv_iand hx hb dX1_count_159 ?_
        refine dk_top (dk_clr k k64 x x6 c3) ?_
        refine dk_lald hx hb hK hP 3 1 rfl rfl (dk_xlt k64 x6) (by decide) dX1_count_160 ?_
        refine lv_aload_n hx hb dX1_count_161 rfl (lv_at hl 5 rfl) ?_
        refine mo_g3 hx hb hts hown hK hP dX1_count_162 ?_
        refine lv_iload_n hx hb dX1_count_165 rfl (lv_at hl 2 rfl) ?_
        refine dk_lald hx hb hK hP 2 1 rfl rfl k64 (by decide) dX1_count_166 ?_
        refine lv_ladd hx hb dX1_count_167 ?_
        refine dk_last hx hb hK hP hD hS 3 1 rfl rfl (dk_xlt k64 x6) (by decide) dX1_count_168 (fun H locs hP hD hS => ?_)
        refine lv_goto (tgt := 302) hx hb dX1_count_169 (by decide) ?_
        exact next (dk_add t0 (k ^^^ 2 ^ x) (fw k)) H locs ls (by unfold mo_stp; rw [if_neg c2, if_pos c3, if_neg c4]) hP hD hS hl4
      have c3 : ¬ k.testBit x = true := by rw [dk_b0.mp c3]; decide
      refine lv_iload hx hb dX1_count_172 (lv_at hl 0 rfl) ?_
      refine lv_if_eq (tgt := 199) hx hb dX1_count_174 (by decide) (fun c4 => ?_) (fun c4 => ?_)
      rotate_left
      · have c4 : ho x y = true := by
          cases q : ho x y
          · exact absurd (dk_b0.mpr q) c4
          · rfl
        refine lv_aload_n hx hb dX1_count_177 rfl (lv_at hl 5 rfl) ?_
        refine mo_g4 hx hb hts hown hK hP dX1_count_178 ?_
        refine lv_iload_n hx hb dX1_count_181 rfl (lv_at hl 2 rfl) ?_
        refine lv_aload_n hx hb dX1_count_182 rfl (lv_at hl 5 rfl) ?_
        refine mo_g4 hx hb hts hown hK hP dX1_count_183 ?_
        refine lv_iload_n hx hb dX1_count_186 rfl (lv_at hl 2 rfl) ?_
        refine dk_lald hx hb hK hP 3 1 rfl rfl k64 (by decide) dX1_count_187 ?_
        refine lv_aload_n hx hb dX1_count_188 rfl (lv_at hl 5 rfl) ?_
        refine mo_g3 hx hb hts hown hK hP dX1_count_189 ?_
        refine lv_iload_n hx hb dX1_count_192 rfl (lv_at hl 2 rfl) ?_
        refine dk_lald hx hb hK hP 2 1 rfl rfl k64 (by decide) dX1_count_193 ?_
        refine lv_ladd hx hb dX1_count_194 ?_
        refine dk_last hx hb hK hP hD hS 3 1 rfl rfl k64 (by decide) dX1_count_195 (fun H locs hP hD hS => ?_)
        refine lv_goto (tgt := 302) hx hb dX1_count_196 (by decide) ?_
        exact next (dk_add t0 k (fw k)) H locs ls (by unfold mo_stp; rw [if_neg c2, if_neg c3, if_pos c4]) hP hD hS hl4
      have c4 : ¬ ho x y = true := by rw [dk_b0.mp c4]; decide
      refine lv_iload_n hx hb dX1_count_199 rfl (lv_at hl 4 rfl) ?_
      refine lv_iconst (v := 1) hx hb dX1_count_200 (by decide) ?_
      refine lv_iadd hx hb dX1_count_201 ?_
      refine dk_top (nI_1 y) ?_
      refine lv_aload_n hx hb dX1_count_202 rfl (lv_at hl 5 rfl) ?_
      refine mo_g2 hx hb hts hown hK hP dX1_count_203 ?_
      refine lv_icmp_ge (tgt := 236) hx hb dX1_count_206 (by decide) (fun c5 => ?_) (fun c5 => ?_)
      · have c5 := (nI_leI (by omega) (by omega)).mp c5
        exact rgt t0 H locs ls (by unfold mo_stp; rw [if_neg c2, if_neg c3, if_neg c4, if_neg (by omega)]) hP hD hS hl4
      have c5 : y + 1 < h := Nat.not_le.mp fun q => c5 ((nI_leI (by omega) (by omega)).mpr q)
      refine lv_aload_n hx hb dX1_count_209 rfl (lv_at hl 5 rfl) ?_
      refine mo_g4 hx hb hts hown hK hP dX1_count_210 ?_
      refine lv_iload_n hx hb dX1_count_213 rfl (lv_at hl 2 rfl) ?_
      refine lv_iconst (v := 1) hx hb dX1_count_214 (by decide) ?_
      refine lv_iload_n hx hb dX1_count_215 rfl (lv_at hl 3 rfl) ?_
      refine lv_ishl hx hb dX1_count_216 ?_
      refine dk_top (dk_shl x (by omega)) ?_
      refine lv_ior hx hb dX1_count_217 ?_
      refine dk_top (dk_or k k64 x x6) ?_
      refine lv_aload_n hx hb dX1_count_218 rfl (lv_at hl 5 rfl) ?_
      refine mo_g4 hx hb hts hown hK hP dX1_count_219 ?_
      refine lv_iload_n hx hb dX1_count_222 rfl (lv_at hl 2 rfl) ?_
      refine lv_iconst (v := 1) hx hb dX1_count_223 (by decide) ?_
      refine lv_iload_n hx hb dX1_count_224 rfl (lv_at hl 3 rfl) ?_
      refine lv_ishl hx hb dX1_count_225 ?_
      refine dk_top (dk_shl x (by omega)) ?_
      refine lv_ior hx hb dX1_count_226 ?_
      refine dk_top (dk_or k k64 x x6) ?_
      refine dk_lald hx hb hK hP 3 1 rfl rfl (dk_olt k64 x6) (by decide) dX1_count_227 ?_
      refine lv_aload_n hx hb dX1_count_228 rfl (lv_at hl 5 rfl) ?_
      refine mo_g3 hx hb hts hown hK hP dX1_count_229 ?_
      refine lv_iload_n hx hb dX1_count_232 rfl (lv_at hl 2 rfl) ?_
      refine dk_lald hx hb hK hP 2 1 rfl rfl k64 (by decide) dX1_count_233 ?_
      refine lv_ladd hx hb dX1_count_234 ?_
      refine dk_last hx hb hK hP hD hS 3 1 rfl rfl (dk_olt k64 x6) (by decide) dX1_count_235 (fun H locs hP hD hS => ?_)
      exact rgt (dk_add t0 (k ||| 2 ^ x) (fw k)) H locs ls (by unfold mo_stp; rw [if_neg c2, if_neg c3, if_neg c4, if_pos c5]) hP hD hS hl4
    have b126 : ∀ (v : Int32) (ls : Array Slot), v = dk_b (ho x y) → lv_has ls 6 [(4, .int (dk_b (k.testBit x))), (3, .int (nI k)), (2, .int (nI x)), (1, .int (nI y)), (0, .ref o)] → W p l e R s m args below meth c H locs cells slots Q (F0 m 126 ls [.int v]) := by
      intro v ls ev hl
      subst ev
      refine lv_istore (lv' := [(5, .int (dk_b (ho x y))), (4, .int (dk_b (k.testBit x))), (3, .int (nI k)), (2, .int (nI x)), (1, .int (nI y)), (0, .ref o)]) hx hb dX1_count_126 hl (by decide) rfl (fun ls hl => ?_)
      exact b128 ls hl
    have b106 : ∀ v : Int32, v = dk_b (k.testBit x) → W p l e R s m args below meth c H locs cells slots Q (F0 m 106 ls [.int v]) := by
      intro v ev
      subst ev
      refine lv_istore (lv' := [(4, .int (dk_b (k.testBit x))), (3, .int (nI k)), (2, .int (nI x)), (1, .int (nI y)), (0, .ref o)]) hx hb dX1_count_106 hl (by decide) rfl (fun ls hl => ?_)
      refine lv_aload_n hx hb dX1_count_108 rfl (lv_at hl 4 rfl) ?_
      refine mo_g0 hx hb hts hown hK hP dX1_count_109 ?_
      refine lv_iload_n hx hb dX1_count_112 rfl (lv_at hl 3 rfl) ?_
      refine dk_iald hx hb hK hP 1 0 rfl rfl (by omega) (by decide) dX1_count_113 ?_
      refine lv_iload_n hx hb dX1_count_114 rfl (lv_at hl 2 rfl) ?_
      refine lv_ishr hx hb dX1_count_115 ?_
      refine lv_iconst (v := 1) hx hb dX1_count_116 (by decide) ?_
      refine lv_iand hx hb dX1_count_117 ?_
      refine dk_top (mo_bit ho y x6) ?_
      refine lv_if_eq (tgt := 125) hx hb dX1_count_118 (by decide) (fun c3 => ?_) (fun c3 => ?_)
      · refine lv_iconst (v := 0) hx hb dX1_count_125 (by decide) ?_
        exact b126 0 ls c3.symm hl
      · refine lv_iconst (v := 1) hx hb dX1_count_121 (by decide) ?_
        refine lv_goto (tgt := 126) hx hb dX1_count_122 (by decide) ?_
        refine b126 1 ls ?_ hl
        cases q : ho x y
        · exact absurd (dk_b0.mpr q) c3
        · rfl
    refine lv_iload_n hx hb dX1_count_93 rfl (lv_at hl 0 rfl) ?_
    refine lv_iload_n hx hb dX1_count_94 rfl (lv_at hl 1 rfl) ?_
    refine lv_ishr hx hb dX1_count_95 ?_
    refine lv_iconst (v := 1) hx hb dX1_count_96 (by decide) ?_
    refine lv_iand hx hb dX1_count_97 ?_
    refine dk_top (dk_bit k k64 x (by omega)) ?_
    refine lv_if_eq (tgt := 105) hx hb dX1_count_98 (by decide) (fun c3 => ?_) (fun c3 => ?_)
    · refine lv_iconst (v := 0) hx hb dX1_count_105 (by decide) ?_
      exact b106 0 c3.symm
    · refine lv_iconst (v := 1) hx hb dX1_count_101 (by decide) ?_
      refine lv_goto (tgt := 106) hx hb dX1_count_102 (by decide) ?_
      refine b106 1 ?_
      cases q : k.testBit x
      · exact absurd (dk_b0.mpr q) c3
      · rfl
set_option maxHeartbeats 4000000 in
set_option maxRecDepth 100000 in
theorem mo_count_x (hx : p.tables.exec = Jvm.exec) (hb : c.code = cX1_count) (hown : s.vm.findClass RX1 = some m.cls) (hts : ∀ w ∈ lw_all, w.before args s = true) (hK : va_K (dC, dI) vwCl (mo_T cI cJ) s) {y : Nat} {f0 : Nat → Int64} (w6 : w ≤ 6) (h6 : h ≤ 6) (hyh : y < h)
    (kk : ∀ (fn : Nat → Int64) (H : Heap) (locs : List Loc) (ls : Array Slot), va_P (dC, dI) vwCl (mo_W cI cJ o ha wa na w h (mo_hb ho) (mo_row w h ho y f0 w) fn) H → va_D A (mo_W cI cJ o ha wa na w h (mo_hb ho) (mo_row w h ho y f0 w) fn) → va_S A H0 H locs → lv_has ls 6 [(2, .int (nI w)), (1, .int (nI y)), (0, .ref o)] → W p l e R s m args below meth c H locs cells slots Q (F0 m 340 ls [])) :
    ∀ (n x : Nat), w + 1 ≤ x + n → x ≤ w → ∀ (fn : Nat → Int64) (H : Heap) (locs : List Loc) (ls : Array Slot), va_P (dC, dI) vwCl (mo_W cI cJ o ha wa na w h (mo_hb ho) (mo_row w h ho y f0 x) fn) H → va_D A (mo_W cI cJ o ha wa na w h (mo_hb ho) (mo_row w h ho y f0 x) fn) → va_S A H0 H locs → lv_has ls 6 [(2, .int (nI x)), (1, .int (nI y)), (0, .ref o)] → W p l e R s m args below meth c H locs cells slots Q (F0 m 41 ls []) := by
  intro n
  induction n with
  | zero =>
    intro x h1 h2
    omega
  | succ n ih =>
    intro x h1 h2 fn H locs ls hP hD hS hl
    refine lv_iload_n hx hb dX1_count_41 rfl (lv_at hl 0 rfl) ?_
    refine lv_aload_n hx hb dX1_count_42 rfl (lv_at hl 2 rfl) ?_
    refine mo_g1 hx hb hts hown hK hP dX1_count_43 ?_
    refine lv_icmp_ge (tgt := 340) hx hb dX1_count_46 (by decide) (fun c1 => ?_) (fun c1 => ?_)
    · have c1 := (nI_leI (by omega) (by omega)).mp c1
      have e1 : x = w := by omega
      subst e1
      exact kk fn H locs ls hP hD hS hl
    have c1 : x < w := Nat.not_le.mp fun q => c1 ((nI_leI (by omega) (by omega)).mpr q)
    refine lv_iconst (v := 0) hx hb dX1_count_49 (by decide) ?_
    refine lv_istore_n (lv' := [(3, .int 0), (2, .int (nI x)), (1, .int (nI y)), (0, .ref o)]) hx hb dX1_count_50 rfl hl (by decide) rfl (fun ls hl => ?_)
    refine mo_count_z hx hb hown hts hK (fun H locs ls hP hD hS hl => ?_) 65 0 (by decide) (by decide) fn (fun j hj => absurd hj (Nat.not_lt_zero j)) H locs ls hP hD hS hl
    refine lv_iconst (v := 0) hx hb dX1_count_70 (by decide) ?_
    refine lv_istore_n (lv' := [(3, .int 0), (2, .int (nI x)), (1, .int (nI y)), (0, .ref o)]) hx hb dX1_count_71 rfl hl (by decide) rfl (fun ls hl => ?_)
    refine mo_count_m hx hb hown hts hK w6 h6 c1 hyh (fun H locs ls hP hD hS hl => ?_) (2 ^ w + 1) 0 (by omega) (Nat.zero_le _) H locs ls hP hD hS hl
    refine lv_iconst (v := 0) hx hb dX1_count_308 (by decide) ?_
    refine lv_istore_n (lv' := [(3, .int 0), (2, .int (nI x)), (1, .int (nI y)), (0, .ref o)]) hx hb dX1_count_309 rfl hl (by decide) rfl (fun ls hl => ?_)
    refine mo_count_c hx hb hown hts hK (fun H locs ls hP hD hS hl => ?_) 65 0 (by decide) (by decide) (mo_row w h ho y f0 x) (fun j hj => absurd hj (Nat.not_lt_zero j)) H locs ls hP hD hS hl
    refine lv_iinc (v := nI (x + 1)) (lv' := [(2, .int (nI (x + 1))), (3, .int (nI 64)), (1, .int (nI y)), (0, .ref o)]) hx hb dX1_count_334 hl (k := 1) rfl (nI_1 x) (by decide) rfl (fun ls hl => ?_)
    refine lv_goto (tgt := 41) hx hb dX1_count_337 (by decide) ?_
    exact ih (x + 1) (by omega) (by omega) (mo_run w h ho x y (mo_row w h ho y f0 x) (2 ^ w)) H locs ls hP hD hS (lv_sub hl [0, 2, 3] rfl)
set_option maxHeartbeats 4000000 in
set_option maxRecDepth 100000 in
theorem mo_count_y (hx : p.tables.exec = Jvm.exec) (hb : c.code = cX1_count) (hown : s.vm.findClass RX1 = some m.cls) (hts : ∀ w ∈ lw_all, w.before args s = true) (hK : va_K (dC, dI) vwCl (mo_T cI cJ) s) (w6 : w ≤ 6) (h6 : h ≤ 6)
    (kk : ∀ (fn : Nat → Int64) (H : Heap) (locs : List Loc) (ls : Array Slot), va_P (dC, dI) vwCl (mo_W cI cJ o ha wa na w h (mo_hb ho) (mo_all w h ho h) fn) H → va_D A (mo_W cI cJ o ha wa na w h (mo_hb ho) (mo_all w h ho h) fn) → va_S A H0 H locs → lv_has ls 6 [(1, .int (nI h)), (0, .ref o)] → W p l e R s m args below meth c H locs cells slots Q (F0 m 346 ls [])) :
    ∀ (n y : Nat), h + 1 ≤ y + n → y ≤ h → ∀ (fn : Nat → Int64) (H : Heap) (locs : List Loc) (ls : Array Slot), va_P (dC, dI) vwCl (mo_W cI cJ o ha wa na w h (mo_hb ho) (mo_all w h ho y) fn) H → va_D A (mo_W cI cJ o ha wa na w h (mo_hb ho) (mo_all w h ho y) fn) → va_S A H0 H locs → lv_has ls 6 [(1, .int (nI y)), (0, .ref o)] → W p l e R s m args below meth c H locs cells slots Q (F0 m 31 ls []) := by
  intro n
  induction n with
  | zero =>
    intro y h1 h2
    omega
  | succ n ih =>
    intro y h1 h2 fn H locs ls hP hD hS hl
    refine lv_iload_n hx hb dX1_count_31 rfl (lv_at hl 0 rfl) ?_
    refine lv_aload_n hx hb dX1_count_32 rfl (lv_at hl 1 rfl) ?_
    refine mo_g2 hx hb hts hown hK hP dX1_count_33 ?_
    refine lv_icmp_ge (tgt := 346) hx hb dX1_count_36 (by decide) (fun c1 => ?_) (fun c1 => ?_)
    · have c1 := (nI_leI (by omega) (by omega)).mp c1
      have e1 : y = h := by omega
      subst e1
      exact kk fn H locs ls hP hD hS hl
    have c1 : y < h := Nat.not_le.mp fun q => c1 ((nI_leI (by omega) (by omega)).mpr q)
    refine lv_iconst (v := 0) hx hb dX1_count_39 (by decide) ?_
    refine lv_istore_n (lv' := [(2, .int 0), (1, .int (nI y)), (0, .ref o)]) hx hb dX1_count_40 rfl hl (by decide) rfl (fun ls hl => ?_)
    refine mo_count_x hx hb hown hts hK w6 h6 c1 (f0 := mo_all w h ho y) (fun fn H locs ls hP hD hS hl => ?_) (w + 1) 0 (by omega) (Nat.zero_le _) fn H locs ls hP hD hS hl
    refine lv_iinc (v := nI (y + 1)) (lv' := [(1, .int (nI (y + 1))), (2, .int (nI w)), (0, .ref o)]) hx hb dX1_count_340 hl (k := 1) rfl (nI_1 y) (by decide) rfl (fun ls hl => ?_)
    refine lv_goto (tgt := 31) hx hb dX1_count_343 (by decide) ?_
    exact ih (y + 1) (by omega) (by omega) fn H locs ls hP hD hS (lv_sub hl [0, 2] rfl)
end MOC
set_option maxHeartbeats 4000000 in
set_option maxRecDepth 100000 in
/-- count() of the reference: the number mo_cnt -/
theorem metX1_count (l : Launch) (dC : Nat → ClassId) (dI : Nat → Nat → Nat) (cI cJ : ClassId) (o ha wa na : Nat) (w h : Nat) (ho : Nat → Nat → Bool) (fw fn : Nat → Int64) (sz : Nat) (w6 : w ≤ 6) (h6 : h ≤ 6) : Met l yX1_count (ws_ yX1_count cX1_count 6 (some .long)) ({ frames := 0, cells := 0, slots := 0, locals := 0 }) (va_Pc [.ref o] (fun U => U.heap.size = sz ∧ va_P (dC, dI) vwCl (mo_W cI cJ o ha wa na w h (mo_hb ho) fw fn) U.heap ∧ va_K (dC, dI) vwCl (mo_T cI cJ) U ∧ va_D (fun _ => True) (mo_W cI cJ o ha wa na w h (mo_hb ho) fw fn))) (va_Ql (fun (r : Int64) (_ : Unit) => r = mo_cnt w h ho) (fun _ t => ∃ (fw' fn' : Nat → Int64), va_P (dC, dI) vwCl (mo_W cI cJ o ha wa na w h (mo_hb ho) fw' fn') t.heap ∧ va_K (dC, dI) vwCl (mo_T cI cJ) t ∧ va_D (va_A (mo_W cI cJ o ha wa na w h (mo_hb ho) fw fn) sz) (mo_W cI cJ o ha wa na w h (mo_hb ho) fw' fn')) (va_A (mo_W cI cJ o ha wa na w h (mo_hb ho) fw fn) sz)) 0 0 (va_A (mo_W cI cJ o ha wa na w h (mo_hb ho) fw fn) sz) := by
  refine Met.ofW (cc := cX1_count) (maxL := 6) (ret := (some .long)) (by decide) rfl ?_
  intro p e s m args below meth c s₁ B hml hv
  obtain ⟨rfl, hsz, hP, hK, hD0⟩ := hv
  have hx := B.exec
  have hb := B.bytes
  have hr := B.returns
  have hts := atoms_spec (ws := ws_ yX1_count cX1_count 6 (some .long)) B.pre
  have hts : ∀ w ∈ lw_all, w.before _ s = true := fun w h => hts w (List.mem_cons_of_mem _ h)
  have hown : s.vm.findClass RX1 = some m.cls := findClass_of_methodNamed B.named
  have hlocks := B.notSynchronized
  subst hsz
  have hD := hD0.self (sz := s.heap.size)
  generalize hAe : va_A (mo_W cI cJ o ha wa na w h (mo_hb ho) fw fn) s.heap.size = A at hD ⊢
  have hA : ∀ q : Nat, s.heap.size ≤ q → A q := fun q h => by rw [← hAe]; exact Or.inr h
  have hS : va_S A s.heap s.heap [] := va_S.rf
  have hl := lv_entry ([.ref o]) (n := 6) (Nat.le_of_ble_eq_true rfl)
  rw [lg_entry_eq]
  generalize (lg_sl ([.ref o]) ++ List.replicate (6 - (lg_sl ([.ref o])).length) Slot.unset).toArray = ls at hl ⊢
  have hl : lv_has ls 6 [(0, .ref o)] := hl
  refine lv_iconst (v := 0) hx hb dX1_count_0 (by decide) ?_
  refine lv_istore_n (lv' := [(1, .int 0), (0, .ref o)]) hx hb dX1_count_1 rfl hl (by decide) rfl (fun ls hl => ?_)
  refine mo_count_i hx hb hown hts hK (fun H locs ls hP hD hS hl => ?_) 65 0 (by decide) (by decide) fw (fun j hj => absurd hj (Nat.not_lt_zero j)) s.heap [] ls hP hD hS hl
  refine lv_iconst (v := 0) hx hb dX1_count_29 (by decide) ?_
  refine lv_istore_n (lv' := [(1, .int 0), (0, .ref o)]) hx hb dX1_count_30 rfl hl (by decide) rfl (fun ls hl => ?_)
  refine mo_count_y hx hb hown hts hK w6 h6 (fun fn1 H locs ls hP hD hS hl => ?_) (h + 1) 0 (by omega) (Nat.zero_le _) fn H locs ls hP hD hS hl
  refine lv_aload_n hx hb dX1_count_346 rfl (lv_at hl 1 rfl) ?_
  refine mo_g3 hx hb hts hown hK hP dX1_count_347 ?_
  refine lv_iconst (v := 0) hx hb dX1_count_350 (by decide) ?_
  refine dk_lald (i := 0) hx hb hK hP 2 1 rfl rfl (by decide) (by decide) dX1_count_351 ?_
  exact W.lret (v := mo_all w h ho h 0) hx hb hr (fun t ht hW => ⟨⟨_, (), rfl, rfl, mo_all w h ho h, fn1, by rw [ht]; exact hP, va_K.moved hW.alike hK, hD⟩, hS.F ht⟩) hS.2.2 dX1_count_352
end
section
/-! THE LAW's CALLS: each of the ten, over the cells of both objects (made by lawcalls.py) -/
section LWC
variable {p : Program} {l : Launch} {e : Env} {R : Room} {s : State} {m : MethodId} {args : Array Value} {below : List Frame} {meth : Method} {c : Code} {H : Heap} {locs : List Loc} {cells slots : Nat} {Q : State → Prop}
variable {pc : Nat} {ls : Array Slot} {rest : List Value} {A : Nat → Prop} {H0 : Heap} {dC : Nat → ClassId} {dI : Nat → Nat → Nat} {cA cJ cZ cI cK : ClassId} {o oh wa ta o2 ha wb nb : Nat} {ya : Nat → Nat} {w h w2 h2 : Nat} {ho ho2 : Nat → Nat → Bool} {fw ft gw gn : Nat → Int64}
set_option maxHeartbeats 4000000 in
set_option maxRecDepth 100000 in
theorem lw_X0_board (hx : p.tables.exec = Jvm.exec) (hb : c.code = code) (hml : c.maxLocals = 4) (hown : s.vm.findClass "DominoDeskLaw" = some m.cls) (hts : ∀ w ∈ lw_all, w.before args s = true) (hA : ∀ q : Nat, H0.size ≤ q → A q) (hK : va_K (dC, dI) vwCl (dk_T cA cJ cZ ++ mo_T cI cK) s) (hP : va_P (dC, dI) vwCl (dk_W cA cJ cZ o oh wa ta ya w h ho fw ft ++ mo_W cI cK o2 ha wb nb w2 h2 (mo_hb ho2) gw gn) H) (hD : va_D A (dk_W cA cJ cZ o oh wa ta ya w h ho fw ft ++ mo_W cI cK o2 ha wb nb w2 h2 (mo_hb ho2) gw gn)) (hS : va_S A H0 H locs) (hR : 5 ≤ R.frames ∧ 138 ≤ R.locals) (hf : cells ≤ R.cells ∧ slots ≤ R.slots) (hsz : ls.size = 4) {a b : Int32} (hrest : (rest.map fun v => v.category).sum ≤ 8) (hdg : decode code pc = .ok (.invokevirtual 13, 3))
    (kk : ∀ (H1 : Heap) (locs1 : List Loc), va_P (dC, dI) vwCl (dk_W cA cJ cZ o oh wa ta ya (1 + dk_bl a 6) (1 + dk_bl b 6) (fun _ _ => false) fw ft ++ mo_W cI cK o2 ha wb nb w2 h2 (mo_hb ho2) gw gn) H1 → va_D A (dk_W cA cJ cZ o oh wa ta ya (1 + dk_bl a 6) (1 + dk_bl b 6) (fun _ _ => false) fw ft ++ mo_W cI cK o2 ha wb nb w2 h2 (mo_hb ho2) gw gn) → va_S A H0 H1 locs1 → W p l e R s m args below meth c H1 locs1 cells slots Q (F0 m (pc + 3) ls (rest))) : W p l e R s m args below meth c H locs cells slots Q (F0 m pc ls (.int b :: .int a :: .ref o :: rest)) := by
  have hPc : va_P (dC, dI) vwCl (dk_W cA cJ cZ o oh wa ta ya w h ho fw ft) H := hP.sub [0, 1, 2, 3, 4, 5, 6, 7, 8, 9] rfl
  have hDc : va_D A (dk_W cA cJ cZ o oh wa ta ya w h ho fw ft) := hD.sub [0, 1, 2, 3, 4, 5, 6, 7, 8, 9] (by decide) rfl
  have hKc : va_K (dC, dI) vwCl (dk_T cA cJ cZ) s := hK.sub [0, 1, 2] rfl
  have hFc := va_free (wc := dk_W cA cJ cZ o oh wa ta ya w h ho fw ft) hD hS hA [0, 1, 2, 3, 4, 5, 6, 7, 8, 9] rfl
  refine va_callv (va_runV (As := [.int a, .int b]) (rest := rest) ⟨hx, hb, hml, hown, hts⟩ (metX0_board l dC dI cA cJ cZ o oh wa ta ya w h ho fw ft H.size a b) (cwV 2 hts (lw_V q34 q35 q36 q4 q37) rfl rfl rfl (by decide +kernel) ⟨Nat.le_trans (by decide) hR.1, Nat.le_trans (by decide) hR.2⟩) ⟨fun a U g mk q => by obtain ⟨q0, q1, qP, qK, qD⟩ := q; exact ⟨q0, q1, qP, va_K.moved (u := U) (U := U.calling g mk a) (Vm.Alike.refl U.vm) qK, qD⟩, va_recv hKc hPc (ci := 0) (q0 := 0) rfl rfl, fun U hU hW => ⟨rfl, by rw [hU], by rw [hU]; exact hPc, va_K.moved hW.alike hKc, hDc.weaken (fun _ _ _ _ => trivial)⟩⟩ rfl rfl hsz rfl (lv_room hrest) hdg hf) hS (fun q _ h => hFc q h) hFc (fun u t H1 locs1 ht hvm hw hB hz hk hS1 => ?_)
  obtain ⟨hP1, -, hD1⟩ := hB
  rw [ht] at hP1
  obtain ⟨hP, hD⟩ := va_join (wr := mo_W cI cK o2 ha wb nb w2 h2 (mo_hb ho2) gw gn) (w1 := dk_W cA cJ cZ o oh wa ta ya (1 + dk_bl a 6) (1 + dk_bl b 6) (fun _ _ => false) fw ft) hP hD [0, 1, 2, 3, 4, 5, 6, 7, 8, 9] [10, 11, 12, 13] rfl rfl (by decide) (by decide) hk hFc hP1 hD1
  exact kk H1 locs1 (hP.sub [4, 5, 6, 7, 8, 9, 10, 11, 12, 13, 0, 1, 2, 3] rfl) (hD.sub [4, 5, 6, 7, 8, 9, 10, 11, 12, 13, 0, 1, 2, 3] (by decide) rfl) hS1
set_option maxHeartbeats 4000000 in
set_option maxRecDepth 100000 in
theorem lw_X0_turn (hx : p.tables.exec = Jvm.exec) (hb : c.code = code) (hml : c.maxLocals = 4) (hown : s.vm.findClass "DominoDeskLaw" = some m.cls) (hts : ∀ w ∈ lw_all, w.before args s = true) (hA : ∀ q : Nat, H0.size ≤ q → A q) (hK : va_K (dC, dI) vwCl (dk_T cA cJ cZ ++ mo_T cI cK) s) (hP : va_P (dC, dI) vwCl (dk_W cA cJ cZ o oh wa ta ya w h ho fw ft ++ mo_W cI cK o2 ha wb nb w2 h2 (mo_hb ho2) gw gn) H) (hD : va_D A (dk_W cA cJ cZ o oh wa ta ya w h ho fw ft ++ mo_W cI cK o2 ha wb nb w2 h2 (mo_hb ho2) gw gn)) (hS : va_S A H0 H locs) (hR : 5 ≤ R.frames ∧ 138 ≤ R.locals) (hf : cells ≤ R.cells ∧ slots ≤ R.slots) (hsz : ls.size = 4) {a b : Int32} (w0 : 0 < w) (h0 : 0 < h) (w6 : w ≤ 6) (h6 : h ≤ 6) (hrest : (rest.map fun v => v.category).sum ≤ 8) (hdg : decode code pc = .ok (.invokevirtual 18, 3))
    (kk : ∀ (H1 : Heap) (locs1 : List Loc), va_P (dC, dI) vwCl (dk_W cA cJ cZ o oh wa ta ya w h (dk_put ho (dk_bl a w) (dk_bl b h) (!(ho (dk_bl a w) (dk_bl b h)))) fw ft ++ mo_W cI cK o2 ha wb nb w2 h2 (mo_hb ho2) gw gn) H1 → va_D A (dk_W cA cJ cZ o oh wa ta ya w h (dk_put ho (dk_bl a w) (dk_bl b h) (!(ho (dk_bl a w) (dk_bl b h)))) fw ft ++ mo_W cI cK o2 ha wb nb w2 h2 (mo_hb ho2) gw gn) → va_S A H0 H1 locs1 → W p l e R s m args below meth c H1 locs1 cells slots Q (F0 m (pc + 3) ls (.int (dk_b (!(ho (dk_bl a w) (dk_bl b h)))) :: rest))) : W p l e R s m args below meth c H locs cells slots Q (F0 m pc ls (.int b :: .int a :: .ref o :: rest)) := by
  have hPc : va_P (dC, dI) vwCl (dk_W cA cJ cZ o oh wa ta ya w h ho fw ft) H := hP.sub [0, 1, 2, 3, 4, 5, 6, 7, 8, 9] rfl
  have hDc : va_D A (dk_W cA cJ cZ o oh wa ta ya w h ho fw ft) := hD.sub [0, 1, 2, 3, 4, 5, 6, 7, 8, 9] (by decide) rfl
  have hKc : va_K (dC, dI) vwCl (dk_T cA cJ cZ) s := hK.sub [0, 1, 2] rfl
  have hFc := va_free (wc := dk_W cA cJ cZ o oh wa ta ya w h ho fw ft) hD hS hA [0, 1, 2, 3, 4, 5, 6, 7, 8, 9] rfl
  refine va_calli (va_runV (As := [.int a, .int b]) (rest := rest) ⟨hx, hb, hml, hown, hts⟩ (metX0_turn l dC dI cA cJ cZ o oh wa ta ya w h ho fw ft H.size a b w0 h0 w6 h6) (cwV 2 hts (lw_V q42 q43 q44 q4 q45) rfl rfl rfl (by decide +kernel) ⟨Nat.le_trans (by decide) hR.1, Nat.le_trans (by decide) hR.2⟩) ⟨fun a U g mk q => by obtain ⟨q0, q1, qP, qK, qD⟩ := q; exact ⟨q0, q1, qP, va_K.moved (u := U) (U := U.calling g mk a) (Vm.Alike.refl U.vm) qK, qD⟩, va_recv hKc hPc (ci := 0) (q0 := 0) rfl rfl, fun U hU hW => ⟨rfl, by rw [hU], by rw [hU]; exact hPc, va_K.moved hW.alike hKc, hDc.weaken (fun _ _ _ _ => trivial)⟩⟩ rfl rfl hsz rfl (lv_room hrest) hdg hf) hS (fun q _ h => hFc q h) hFc (fun r u t H1 locs1 ht hvm hw hB hz hk hS1 => ?_)
  obtain ⟨hP1, -, hD1⟩ := hB
  rw [ht] at hP1
  obtain ⟨hP, hD⟩ := va_join (wr := mo_W cI cK o2 ha wb nb w2 h2 (mo_hb ho2) gw gn) (w1 := dk_W cA cJ cZ o oh wa ta ya w h (dk_put ho (dk_bl a w) (dk_bl b h) (!(ho (dk_bl a w) (dk_bl b h)))) fw ft) hP hD [0, 1, 2, 3, 4, 5, 6, 7, 8, 9] [10, 11, 12, 13] rfl rfl (by decide) (by decide) hk hFc hP1 hD1
  have hw : r = dk_b (!(ho (dk_bl a w) (dk_bl b h))) := hw
  subst hw
  exact kk H1 locs1 (hP.sub [4, 5, 6, 7, 8, 9, 10, 11, 12, 13, 0, 1, 2, 3] rfl) (hD.sub [4, 5, 6, 7, 8, 9, 10, 11, 12, 13, 0, 1, 2, 3] (by decide) rfl) hS1
set_option maxHeartbeats 4000000 in
set_option maxRecDepth 100000 in
theorem lw_X0_count (hx : p.tables.exec = Jvm.exec) (hb : c.code = code) (hml : c.maxLocals = 4) (hown : s.vm.findClass "DominoDeskLaw" = some m.cls) (hts : ∀ w ∈ lw_all, w.before args s = true) (hA : ∀ q : Nat, H0.size ≤ q → A q) (hK : va_K (dC, dI) vwCl (dk_T cA cJ cZ ++ mo_T cI cK) s) (hP : va_P (dC, dI) vwCl (dk_W cA cJ cZ o oh wa ta ya w h ho fw ft ++ mo_W cI cK o2 ha wb nb w2 h2 (mo_hb ho2) gw gn) H) (hD : va_D A (dk_W cA cJ cZ o oh wa ta ya w h ho fw ft ++ mo_W cI cK o2 ha wb nb w2 h2 (mo_hb ho2) gw gn)) (hS : va_S A H0 H locs) (hR : 5 ≤ R.frames ∧ 138 ≤ R.locals) (hf : cells ≤ R.cells ∧ slots ≤ R.slots) (hsz : ls.size = 4) (w6 : w ≤ 6) (h6 : h ≤ 6) (hrest : (rest.map fun v => v.category).sum ≤ 8) (hdg : decode code pc = .ok (.invokevirtual 23, 3))
    (kk : ∀ (wa' : Nat) (ta' : Nat) (fw' : Nat → Int64) (ft' : Nat → Int64) (H1 : Heap) (locs1 : List Loc), va_P (dC, dI) vwCl (dk_W cA cJ cZ o oh wa' ta' ya w h ho fw' ft' ++ mo_W cI cK o2 ha wb nb w2 h2 (mo_hb ho2) gw gn) H1 → va_D A (dk_W cA cJ cZ o oh wa' ta' ya w h ho fw' ft' ++ mo_W cI cK o2 ha wb nb w2 h2 (mo_hb ho2) gw gn) → va_S A H0 H1 locs1 → W p l e R s m args below meth c H1 locs1 cells slots Q (F0 m (pc + 3) ls (.long (dk_cnt w h ho) :: rest))) : W p l e R s m args below meth c H locs cells slots Q (F0 m pc ls (.ref o :: rest)) := by
  have hPc : va_P (dC, dI) vwCl (dk_W cA cJ cZ o oh wa ta ya w h ho fw ft) H := hP.sub [0, 1, 2, 3, 4, 5, 6, 7, 8, 9] rfl
  have hDc : va_D A (dk_W cA cJ cZ o oh wa ta ya w h ho fw ft) := hD.sub [0, 1, 2, 3, 4, 5, 6, 7, 8, 9] (by decide) rfl
  have hKc : va_K (dC, dI) vwCl (dk_T cA cJ cZ) s := hK.sub [0, 1, 2] rfl
  have hFc := va_free (wc := dk_W cA cJ cZ o oh wa ta ya w h ho fw ft) hD hS hA [0, 1, 2, 3, 4, 5, 6, 7, 8, 9] rfl
  refine va_calll (va_runV (As := []) (rest := rest) ⟨hx, hb, hml, hown, hts⟩ (metX0_count l dC dI cA cJ cZ o oh wa ta ya w h ho fw ft H.size w6 h6) (cwV 0 hts (lw_V q46 q47 q48 q4 q49) rfl rfl rfl (by decide +kernel) ⟨Nat.le_trans (by decide) hR.1, Nat.le_trans (by decide) hR.2⟩) ⟨fun a U g mk q => by obtain ⟨q0, q1, qP, qK, qD⟩ := q; exact ⟨q0, q1, qP, va_K.moved (u := U) (U := U.calling g mk a) (Vm.Alike.refl U.vm) qK, qD⟩, va_recv hKc hPc (ci := 0) (q0 := 0) rfl rfl, fun U hU hW => ⟨rfl, by rw [hU], by rw [hU]; exact hPc, va_K.moved hW.alike hKc, hDc.weaken (fun _ _ _ _ => trivial)⟩⟩ rfl rfl hsz rfl (lv_room hrest) hdg hf) hS (fun q _ h => hFc q h) hFc (fun r u t H1 locs1 ht hvm hw hB hz hk hS1 => ?_)
  obtain ⟨wa', ta', fw', ft', hP1, -, hD1⟩ := hB
  rw [ht] at hP1
  obtain ⟨hP, hD⟩ := va_join (wr := mo_W cI cK o2 ha wb nb w2 h2 (mo_hb ho2) gw gn) (w1 := dk_W cA cJ cZ o oh wa' ta' ya w h ho fw' ft') hP hD [0, 1, 2, 3, 4, 5, 6, 7, 8, 9] [10, 11, 12, 13] rfl rfl (by decide) (by decide) hk hFc hP1 hD1
  have hw : r = dk_cnt w h ho := hw
  subst hw
  exact kk wa' ta' fw' ft' H1 locs1 (hP.sub [4, 5, 6, 7, 8, 9, 10, 11, 12, 13, 0, 1, 2, 3] rfl) (hD.sub [4, 5, 6, 7, 8, 9, 10, 11, 12, 13, 0, 1, 2, 3] (by decide) rfl) hS1
set_option maxHeartbeats 4000000 in
set_option maxRecDepth 100000 in
theorem lw_X0_cells (hx : p.tables.exec = Jvm.exec) (hb : c.code = code) (hml : c.maxLocals = 4) (hown : s.vm.findClass "DominoDeskLaw" = some m.cls) (hts : ∀ w ∈ lw_all, w.before args s = true) (hA : ∀ q : Nat, H0.size ≤ q → A q) (hK : va_K (dC, dI) vwCl (dk_T cA cJ cZ ++ mo_T cI cK) s) (hP : va_P (dC, dI) vwCl (dk_W cA cJ cZ o oh wa ta ya w h ho fw ft ++ mo_W cI cK o2 ha wb nb w2 h2 (mo_hb ho2) gw gn) H) (hD : va_D A (dk_W cA cJ cZ o oh wa ta ya w h ho fw ft ++ mo_W cI cK o2 ha wb nb w2 h2 (mo_hb ho2) gw gn)) (hS : va_S A H0 H locs) (hR : 5 ≤ R.frames ∧ 138 ≤ R.locals) (hf : cells ≤ R.cells ∧ slots ≤ R.slots) (hsz : ls.size = 4) (w6 : w ≤ 6) (h6 : h ≤ 6) (hrest : (rest.map fun v => v.category).sum ≤ 8) (hdg : decode code pc = .ok (.invokevirtual 28, 3))
    (kk : ∀ (H1 : Heap) (locs1 : List Loc), va_P (dC, dI) vwCl (dk_W cA cJ cZ o oh wa ta ya w h ho fw ft ++ mo_W cI cK o2 ha wb nb w2 h2 (mo_hb ho2) gw gn) H1 → va_D A (dk_W cA cJ cZ o oh wa ta ya w h ho fw ft ++ mo_W cI cK o2 ha wb nb w2 h2 (mo_hb ho2) gw gn) → va_S A H0 H1 locs1 → W p l e R s m args below meth c H1 locs1 cells slots Q (F0 m (pc + 3) ls (.int (dk_sum w h ho 1) :: rest))) : W p l e R s m args below meth c H locs cells slots Q (F0 m pc ls (.ref o :: rest)) := by
  have hPc : va_P (dC, dI) vwCl (dk_W cA cJ cZ o oh wa ta ya w h ho fw ft) H := hP.sub [0, 1, 2, 3, 4, 5, 6, 7, 8, 9] rfl
  have hDc : va_D A (dk_W cA cJ cZ o oh wa ta ya w h ho fw ft) := hD.sub [0, 1, 2, 3, 4, 5, 6, 7, 8, 9] (by decide) rfl
  have hKc : va_K (dC, dI) vwCl (dk_T cA cJ cZ) s := hK.sub [0, 1, 2] rfl
  have hFc := va_free (wc := dk_W cA cJ cZ o oh wa ta ya w h ho fw ft) hD hS hA [0, 1, 2, 3, 4, 5, 6, 7, 8, 9] rfl
  refine va_calli (va_runV (As := []) (rest := rest) ⟨hx, hb, hml, hown, hts⟩ (metX0_cells l dC dI cA cJ cZ o oh wa ta ya w h ho fw ft H.size w6 h6) (cwV 0 hts (lw_V q58 q59 q60 q4 q61) rfl rfl rfl (by decide +kernel) ⟨Nat.le_trans (by decide) hR.1, Nat.le_trans (by decide) hR.2⟩) ⟨fun a U g mk q => by obtain ⟨q0, q1, qP, qK, qD⟩ := q; exact ⟨q0, q1, qP, va_K.moved (u := U) (U := U.calling g mk a) (Vm.Alike.refl U.vm) qK, qD⟩, va_recv hKc hPc (ci := 0) (q0 := 0) rfl rfl, fun U hU hW => ⟨rfl, by rw [hU], by rw [hU]; exact hPc, va_K.moved hW.alike hKc, hDc.weaken (fun _ _ _ _ => trivial)⟩⟩ rfl rfl hsz rfl (lv_room hrest) hdg hf) hS (fun q _ h => hFc q h) hFc (fun r u t H1 locs1 ht hvm hw hB hz hk hS1 => ?_)
  obtain ⟨hP1, -, hD1⟩ := hB
  rw [ht] at hP1
  obtain ⟨hP, hD⟩ := va_join (wr := mo_W cI cK o2 ha wb nb w2 h2 (mo_hb ho2) gw gn) (w1 := dk_W cA cJ cZ o oh wa ta ya w h ho fw ft) hP hD [0, 1, 2, 3, 4, 5, 6, 7, 8, 9] [10, 11, 12, 13] rfl rfl (by decide) (by decide) hk hFc hP1 hD1
  have hw : r = dk_sum w h ho 1 := hw
  subst hw
  exact kk H1 locs1 (hP.sub [4, 5, 6, 7, 8, 9, 10, 11, 12, 13, 0, 1, 2, 3] rfl) (hD.sub [4, 5, 6, 7, 8, 9, 10, 11, 12, 13, 0, 1, 2, 3] (by decide) rfl) hS1
set_option maxHeartbeats 4000000 in
set_option maxRecDepth 100000 in
theorem lw_X0_surplus (hx : p.tables.exec = Jvm.exec) (hb : c.code = code) (hml : c.maxLocals = 4) (hown : s.vm.findClass "DominoDeskLaw" = some m.cls) (hts : ∀ w ∈ lw_all, w.before args s = true) (hA : ∀ q : Nat, H0.size ≤ q → A q) (hK : va_K (dC, dI) vwCl (dk_T cA cJ cZ ++ mo_T cI cK) s) (hP : va_P (dC, dI) vwCl (dk_W cA cJ cZ o oh wa ta ya w h ho fw ft ++ mo_W cI cK o2 ha wb nb w2 h2 (mo_hb ho2) gw gn) H) (hD : va_D A (dk_W cA cJ cZ o oh wa ta ya w h ho fw ft ++ mo_W cI cK o2 ha wb nb w2 h2 (mo_hb ho2) gw gn)) (hS : va_S A H0 H locs) (hR : 5 ≤ R.frames ∧ 138 ≤ R.locals) (hf : cells ≤ R.cells ∧ slots ≤ R.slots) (hsz : ls.size = 4) (w6 : w ≤ 6) (h6 : h ≤ 6) (hrest : (rest.map fun v => v.category).sum ≤ 8) (hdg : decode code pc = .ok (.invokevirtual 33, 3))
    (kk : ∀ (H1 : Heap) (locs1 : List Loc), va_P (dC, dI) vwCl (dk_W cA cJ cZ o oh wa ta ya w h ho fw ft ++ mo_W cI cK o2 ha wb nb w2 h2 (mo_hb ho2) gw gn) H1 → va_D A (dk_W cA cJ cZ o oh wa ta ya w h ho fw ft ++ mo_W cI cK o2 ha wb nb w2 h2 (mo_hb ho2) gw gn) → va_S A H0 H1 locs1 → W p l e R s m args below meth c H1 locs1 cells slots Q (F0 m (pc + 3) ls (.int (dk_sum w h ho (-1)) :: rest))) : W p l e R s m args below meth c H locs cells slots Q (F0 m pc ls (.ref o :: rest)) := by
  have hPc : va_P (dC, dI) vwCl (dk_W cA cJ cZ o oh wa ta ya w h ho fw ft) H := hP.sub [0, 1, 2, 3, 4, 5, 6, 7, 8, 9] rfl
  have hDc : va_D A (dk_W cA cJ cZ o oh wa ta ya w h ho fw ft) := hD.sub [0, 1, 2, 3, 4, 5, 6, 7, 8, 9] (by decide) rfl
  have hKc : va_K (dC, dI) vwCl (dk_T cA cJ cZ) s := hK.sub [0, 1, 2] rfl
  have hFc := va_free (wc := dk_W cA cJ cZ o oh wa ta ya w h ho fw ft) hD hS hA [0, 1, 2, 3, 4, 5, 6, 7, 8, 9] rfl
  refine va_calli (va_runV (As := []) (rest := rest) ⟨hx, hb, hml, hown, hts⟩ (metX0_surplus l dC dI cA cJ cZ o oh wa ta ya w h ho fw ft H.size w6 h6) (cwV 0 hts (lw_V q66 q67 q68 q4 q69) rfl rfl rfl (by decide +kernel) ⟨Nat.le_trans (by decide) hR.1, Nat.le_trans (by decide) hR.2⟩) ⟨fun a U g mk q => by obtain ⟨q0, q1, qP, qK, qD⟩ := q; exact ⟨q0, q1, qP, va_K.moved (u := U) (U := U.calling g mk a) (Vm.Alike.refl U.vm) qK, qD⟩, va_recv hKc hPc (ci := 0) (q0 := 0) rfl rfl, fun U hU hW => ⟨rfl, by rw [hU], by rw [hU]; exact hPc, va_K.moved hW.alike hKc, hDc.weaken (fun _ _ _ _ => trivial)⟩⟩ rfl rfl hsz rfl (lv_room hrest) hdg hf) hS (fun q _ h => hFc q h) hFc (fun r u t H1 locs1 ht hvm hw hB hz hk hS1 => ?_)
  obtain ⟨hP1, -, hD1⟩ := hB
  rw [ht] at hP1
  obtain ⟨hP, hD⟩ := va_join (wr := mo_W cI cK o2 ha wb nb w2 h2 (mo_hb ho2) gw gn) (w1 := dk_W cA cJ cZ o oh wa ta ya w h ho fw ft) hP hD [0, 1, 2, 3, 4, 5, 6, 7, 8, 9] [10, 11, 12, 13] rfl rfl (by decide) (by decide) hk hFc hP1 hD1
  have hw : r = dk_sum w h ho (-1) := hw
  subst hw
  exact kk H1 locs1 (hP.sub [4, 5, 6, 7, 8, 9, 10, 11, 12, 13, 0, 1, 2, 3] rfl) (hD.sub [4, 5, 6, 7, 8, 9, 10, 11, 12, 13, 0, 1, 2, 3] (by decide) rfl) hS1
set_option maxHeartbeats 4000000 in
set_option maxRecDepth 100000 in
theorem lw_X1_board (hx : p.tables.exec = Jvm.exec) (hb : c.code = code) (hml : c.maxLocals = 4) (hown : s.vm.findClass "DominoDeskLaw" = some m.cls) (hts : ∀ w ∈ lw_all, w.before args s = true) (hA : ∀ q : Nat, H0.size ≤ q → A q) (hK : va_K (dC, dI) vwCl (dk_T cA cJ cZ ++ mo_T cI cK) s) (hP : va_P (dC, dI) vwCl (dk_W cA cJ cZ o oh wa ta ya w2 h2 ho2 fw ft ++ mo_W cI cK o2 ha wb nb w h (mo_hb ho) gw gn) H) (hD : va_D A (dk_W cA cJ cZ o oh wa ta ya w2 h2 ho2 fw ft ++ mo_W cI cK o2 ha wb nb w h (mo_hb ho) gw gn)) (hS : va_S A H0 H locs) (hR : 5 ≤ R.frames ∧ 138 ≤ R.locals) (hf : cells ≤ R.cells ∧ slots ≤ R.slots) (hsz : ls.size = 4) {a b : Int32} (hrest : (rest.map fun v => v.category).sum ≤ 8) (hdg : decode code pc = .ok (.invokevirtual 17, 3))
    (kk : ∀ (H1 : Heap) (locs1 : List Loc), va_P (dC, dI) vwCl (dk_W cA cJ cZ o oh wa ta ya w2 h2 ho2 fw ft ++ mo_W cI cK o2 ha wb nb (1 + dk_bl a 6) (1 + dk_bl b 6) (mo_hb (fun _ _ => false)) gw gn) H1 → va_D A (dk_W cA cJ cZ o oh wa ta ya w2 h2 ho2 fw ft ++ mo_W cI cK o2 ha wb nb (1 + dk_bl a 6) (1 + dk_bl b 6) (mo_hb (fun _ _ => false)) gw gn) → va_S A H0 H1 locs1 → W p l e R s m args below meth c H1 locs1 cells slots Q (F0 m (pc + 3) ls (rest))) : W p l e R s m args below meth c H locs cells slots Q (F0 m pc ls (.int b :: .int a :: .ref o2 :: rest)) := by
  have hPc : va_P (dC, dI) vwCl (mo_W cI cK o2 ha wb nb w h (mo_hb ho) gw gn) H := hP.sub [10, 11, 12, 13] rfl
  have hDc : va_D A (mo_W cI cK o2 ha wb nb w h (mo_hb ho) gw gn) := hD.sub [10, 11, 12, 13] (by decide) rfl
  have hKc : va_K (dC, dI) vwCl (mo_T cI cK) s := hK.sub [3, 4] rfl
  have hFc := va_free (wc := mo_W cI cK o2 ha wb nb w h (mo_hb ho) gw gn) hD hS hA [10, 11, 12, 13] rfl
  refine va_callv (va_runV (As := [.int a, .int b]) (rest := rest) ⟨hx, hb, hml, hown, hts⟩ (metX1_board l dC dI cI cK o2 ha wb nb w h ho gw gn H.size a b) (cwV 2 hts (lw_V q93 q94 q95 q5 q96) rfl rfl rfl (by decide +kernel) ⟨Nat.le_trans (by decide) hR.1, Nat.le_trans (by decide) hR.2⟩) ⟨fun a U g mk q => by obtain ⟨q0, q1, qP, qK, qD⟩ := q; exact ⟨q0, q1, qP, va_K.moved (u := U) (U := U.calling g mk a) (Vm.Alike.refl U.vm) qK, qD⟩, va_recv hKc hPc (ci := 1) (q0 := 0) rfl rfl, fun U hU hW => ⟨rfl, by rw [hU], by rw [hU]; exact hPc, va_K.moved hW.alike hKc, hDc.weaken (fun _ _ _ _ => trivial)⟩⟩ rfl rfl hsz rfl (lv_room hrest) hdg hf) hS (fun q _ h => hFc q h) hFc (fun u t H1 locs1 ht hvm hw hB hz hk hS1 => ?_)
  obtain ⟨hP1, -, hD1⟩ := hB
  rw [ht] at hP1
  obtain ⟨hP, hD⟩ := va_join (wr := dk_W cA cJ cZ o oh wa ta ya w2 h2 ho2 fw ft) (w1 := mo_W cI cK o2 ha wb nb (1 + dk_bl a 6) (1 + dk_bl b 6) (mo_hb (fun _ _ => false)) gw gn) hP hD [10, 11, 12, 13] [0, 1, 2, 3, 4, 5, 6, 7, 8, 9] rfl rfl (by decide) (by decide) hk hFc hP1 hD1
  exact kk H1 locs1 (hP.sub [0, 1, 2, 3, 4, 5, 6, 7, 8, 9, 10, 11, 12, 13] rfl) (hD.sub [0, 1, 2, 3, 4, 5, 6, 7, 8, 9, 10, 11, 12, 13] (by decide) rfl) hS1
set_option maxHeartbeats 4000000 in
set_option maxRecDepth 100000 in
theorem lw_X1_turn (hx : p.tables.exec = Jvm.exec) (hb : c.code = code) (hml : c.maxLocals = 4) (hown : s.vm.findClass "DominoDeskLaw" = some m.cls) (hts : ∀ w ∈ lw_all, w.before args s = true) (hA : ∀ q : Nat, H0.size ≤ q → A q) (hK : va_K (dC, dI) vwCl (dk_T cA cJ cZ ++ mo_T cI cK) s) (hP : va_P (dC, dI) vwCl (dk_W cA cJ cZ o oh wa ta ya w2 h2 ho2 fw ft ++ mo_W cI cK o2 ha wb nb w h (mo_hb ho) gw gn) H) (hD : va_D A (dk_W cA cJ cZ o oh wa ta ya w2 h2 ho2 fw ft ++ mo_W cI cK o2 ha wb nb w h (mo_hb ho) gw gn)) (hS : va_S A H0 H locs) (hR : 5 ≤ R.frames ∧ 138 ≤ R.locals) (hf : cells ≤ R.cells ∧ slots ≤ R.slots) (hsz : ls.size = 4) {a b : Int32} (w0 : 0 < w) (h0 : 0 < h) (w6 : w ≤ 6) (h6 : h ≤ 6) (hrest : (rest.map fun v => v.category).sum ≤ 8) (hdg : decode code pc = .ok (.invokevirtual 22, 3))
    (kk : ∀ (H1 : Heap) (locs1 : List Loc), va_P (dC, dI) vwCl (dk_W cA cJ cZ o oh wa ta ya w2 h2 ho2 fw ft ++ mo_W cI cK o2 ha wb nb w h (mo_hb (dk_put ho (dk_bl a w) (dk_bl b h) (!(ho (dk_bl a w) (dk_bl b h))))) gw gn) H1 → va_D A (dk_W cA cJ cZ o oh wa ta ya w2 h2 ho2 fw ft ++ mo_W cI cK o2 ha wb nb w h (mo_hb (dk_put ho (dk_bl a w) (dk_bl b h) (!(ho (dk_bl a w) (dk_bl b h))))) gw gn) → va_S A H0 H1 locs1 → W p l e R s m args below meth c H1 locs1 cells slots Q (F0 m (pc + 3) ls (.int (dk_b (!(ho (dk_bl a w) (dk_bl b h)))) :: rest))) : W p l e R s m args below meth c H locs cells slots Q (F0 m pc ls (.int b :: .int a :: .ref o2 :: rest)) := by
  have hPc : va_P (dC, dI) vwCl (mo_W cI cK o2 ha wb nb w h (mo_hb ho) gw gn) H := hP.sub [10, 11, 12, 13] rfl
  have hDc : va_D A (mo_W cI cK o2 ha wb nb w h (mo_hb ho) gw gn) := hD.sub [10, 11, 12, 13] (by decide) rfl
  have hKc : va_K (dC, dI) vwCl (mo_T cI cK) s := hK.sub [3, 4] rfl
  have hFc := va_free (wc := mo_W cI cK o2 ha wb nb w h (mo_hb ho) gw gn) hD hS hA [10, 11, 12, 13] rfl
  refine va_calli (va_runV (As := [.int a, .int b]) (rest := rest) ⟨hx, hb, hml, hown, hts⟩ (metX1_turn l dC dI cI cK o2 ha wb nb w h ho gw gn H.size a b w0 h0 w6 h6) (cwV 2 hts (lw_V q98 q99 q100 q5 q101) rfl rfl rfl (by decide +kernel) ⟨Nat.le_trans (by decide) hR.1, Nat.le_trans (by decide) hR.2⟩) ⟨fun a U g mk q => by obtain ⟨q0, q1, qP, qK, qD⟩ := q; exact ⟨q0, q1, qP, va_K.moved (u := U) (U := U.calling g mk a) (Vm.Alike.refl U.vm) qK, qD⟩, va_recv hKc hPc (ci := 1) (q0 := 0) rfl rfl, fun U hU hW => ⟨rfl, by rw [hU], by rw [hU]; exact hPc, va_K.moved hW.alike hKc, hDc.weaken (fun _ _ _ _ => trivial)⟩⟩ rfl rfl hsz rfl (lv_room hrest) hdg hf) hS (fun q _ h => hFc q h) hFc (fun r u t H1 locs1 ht hvm hw hB hz hk hS1 => ?_)
  obtain ⟨hP1, -, hD1⟩ := hB
  rw [ht] at hP1
  obtain ⟨hP, hD⟩ := va_join (wr := dk_W cA cJ cZ o oh wa ta ya w2 h2 ho2 fw ft) (w1 := mo_W cI cK o2 ha wb nb w h (mo_hb (dk_put ho (dk_bl a w) (dk_bl b h) (!(ho (dk_bl a w) (dk_bl b h))))) gw gn) hP hD [10, 11, 12, 13] [0, 1, 2, 3, 4, 5, 6, 7, 8, 9] rfl rfl (by decide) (by decide) hk hFc hP1 hD1
  have hw : r = dk_b (!(ho (dk_bl a w) (dk_bl b h))) := hw
  subst hw
  exact kk H1 locs1 (hP.sub [0, 1, 2, 3, 4, 5, 6, 7, 8, 9, 10, 11, 12, 13] rfl) (hD.sub [0, 1, 2, 3, 4, 5, 6, 7, 8, 9, 10, 11, 12, 13] (by decide) rfl) hS1
set_option maxHeartbeats 4000000 in
set_option maxRecDepth 100000 in
theorem lw_X1_count (hx : p.tables.exec = Jvm.exec) (hb : c.code = code) (hml : c.maxLocals = 4) (hown : s.vm.findClass "DominoDeskLaw" = some m.cls) (hts : ∀ w ∈ lw_all, w.before args s = true) (hA : ∀ q : Nat, H0.size ≤ q → A q) (hK : va_K (dC, dI) vwCl (dk_T cA cJ cZ ++ mo_T cI cK) s) (hP : va_P (dC, dI) vwCl (dk_W cA cJ cZ o oh wa ta ya w2 h2 ho2 fw ft ++ mo_W cI cK o2 ha wb nb w h (mo_hb ho) gw gn) H) (hD : va_D A (dk_W cA cJ cZ o oh wa ta ya w2 h2 ho2 fw ft ++ mo_W cI cK o2 ha wb nb w h (mo_hb ho) gw gn)) (hS : va_S A H0 H locs) (hR : 5 ≤ R.frames ∧ 138 ≤ R.locals) (hf : cells ≤ R.cells ∧ slots ≤ R.slots) (hsz : ls.size = 4) (w6 : w ≤ 6) (h6 : h ≤ 6) (hrest : (rest.map fun v => v.category).sum ≤ 8) (hdg : decode code pc = .ok (.invokevirtual 27, 3))
    (kk : ∀ (fw' : Nat → Int64) (ft' : Nat → Int64) (H1 : Heap) (locs1 : List Loc), va_P (dC, dI) vwCl (dk_W cA cJ cZ o oh wa ta ya w2 h2 ho2 fw ft ++ mo_W cI cK o2 ha wb nb w h (mo_hb ho) fw' ft') H1 → va_D A (dk_W cA cJ cZ o oh wa ta ya w2 h2 ho2 fw ft ++ mo_W cI cK o2 ha wb nb w h (mo_hb ho) fw' ft') → va_S A H0 H1 locs1 → W p l e R s m args below meth c H1 locs1 cells slots Q (F0 m (pc + 3) ls (.long (mo_cnt w h ho) :: rest))) : W p l e R s m args below meth c H locs cells slots Q (F0 m pc ls (.ref o2 :: rest)) := by
  have hPc : va_P (dC, dI) vwCl (mo_W cI cK o2 ha wb nb w h (mo_hb ho) gw gn) H := hP.sub [10, 11, 12, 13] rfl
  have hDc : va_D A (mo_W cI cK o2 ha wb nb w h (mo_hb ho) gw gn) := hD.sub [10, 11, 12, 13] (by decide) rfl
  have hKc : va_K (dC, dI) vwCl (mo_T cI cK) s := hK.sub [3, 4] rfl
  have hFc := va_free (wc := mo_W cI cK o2 ha wb nb w h (mo_hb ho) gw gn) hD hS hA [10, 11, 12, 13] rfl
  refine va_calll (va_runV (As := []) (rest := rest) ⟨hx, hb, hml, hown, hts⟩ (metX1_count l dC dI cI cK o2 ha wb nb w h ho gw gn H.size w6 h6) (cwV 0 hts (lw_V q102 q103 q104 q5 q105) rfl rfl rfl (by decide +kernel) ⟨Nat.le_trans (by decide) hR.1, Nat.le_trans (by decide) hR.2⟩) ⟨fun a U g mk q => by obtain ⟨q0, q1, qP, qK, qD⟩ := q; exact ⟨q0, q1, qP, va_K.moved (u := U) (U := U.calling g mk a) (Vm.Alike.refl U.vm) qK, qD⟩, va_recv hKc hPc (ci := 1) (q0 := 0) rfl rfl, fun U hU hW => ⟨rfl, by rw [hU], by rw [hU]; exact hPc, va_K.moved hW.alike hKc, hDc.weaken (fun _ _ _ _ => trivial)⟩⟩ rfl rfl hsz rfl (lv_room hrest) hdg hf) hS (fun q _ h => hFc q h) hFc (fun r u t H1 locs1 ht hvm hw hB hz hk hS1 => ?_)
  obtain ⟨fw', ft', hP1, -, hD1⟩ := hB
  rw [ht] at hP1
  obtain ⟨hP, hD⟩ := va_join (wr := dk_W cA cJ cZ o oh wa ta ya w2 h2 ho2 fw ft) (w1 := mo_W cI cK o2 ha wb nb w h (mo_hb ho) fw' ft') hP hD [10, 11, 12, 13] [0, 1, 2, 3, 4, 5, 6, 7, 8, 9] rfl rfl (by decide) (by decide) hk hFc hP1 hD1
  have hw : r = mo_cnt w h ho := hw
  subst hw
  exact kk fw' ft' H1 locs1 (hP.sub [0, 1, 2, 3, 4, 5, 6, 7, 8, 9, 10, 11, 12, 13] rfl) (hD.sub [0, 1, 2, 3, 4, 5, 6, 7, 8, 9, 10, 11, 12, 13] (by decide) rfl) hS1
set_option maxHeartbeats 4000000 in
set_option maxRecDepth 100000 in
theorem lw_X1_cells (hx : p.tables.exec = Jvm.exec) (hb : c.code = code) (hml : c.maxLocals = 4) (hown : s.vm.findClass "DominoDeskLaw" = some m.cls) (hts : ∀ w ∈ lw_all, w.before args s = true) (hA : ∀ q : Nat, H0.size ≤ q → A q) (hK : va_K (dC, dI) vwCl (dk_T cA cJ cZ ++ mo_T cI cK) s) (hP : va_P (dC, dI) vwCl (dk_W cA cJ cZ o oh wa ta ya w2 h2 ho2 fw ft ++ mo_W cI cK o2 ha wb nb w h (mo_hb ho) gw gn) H) (hD : va_D A (dk_W cA cJ cZ o oh wa ta ya w2 h2 ho2 fw ft ++ mo_W cI cK o2 ha wb nb w h (mo_hb ho) gw gn)) (hS : va_S A H0 H locs) (hR : 5 ≤ R.frames ∧ 138 ≤ R.locals) (hf : cells ≤ R.cells ∧ slots ≤ R.slots) (hsz : ls.size = 4) (w6 : w ≤ 6) (h6 : h ≤ 6) (hrest : (rest.map fun v => v.category).sum ≤ 8) (hdg : decode code pc = .ok (.invokevirtual 32, 3))
    (kk : ∀ (H1 : Heap) (locs1 : List Loc), va_P (dC, dI) vwCl (dk_W cA cJ cZ o oh wa ta ya w2 h2 ho2 fw ft ++ mo_W cI cK o2 ha wb nb w h (mo_hb ho) gw gn) H1 → va_D A (dk_W cA cJ cZ o oh wa ta ya w2 h2 ho2 fw ft ++ mo_W cI cK o2 ha wb nb w h (mo_hb ho) gw gn) → va_S A H0 H1 locs1 → W p l e R s m args below meth c H1 locs1 cells slots Q (F0 m (pc + 3) ls (.int (mo_sum w h ho 1) :: rest))) : W p l e R s m args below meth c H locs cells slots Q (F0 m pc ls (.ref o2 :: rest)) := by
  have hPc : va_P (dC, dI) vwCl (mo_W cI cK o2 ha wb nb w h (mo_hb ho) gw gn) H := hP.sub [10, 11, 12, 13] rfl
  have hDc : va_D A (mo_W cI cK o2 ha wb nb w h (mo_hb ho) gw gn) := hD.sub [10, 11, 12, 13] (by decide) rfl
  have hKc : va_K (dC, dI) vwCl (mo_T cI cK) s := hK.sub [3, 4] rfl
  have hFc := va_free (wc := mo_W cI cK o2 ha wb nb w h (mo_hb ho) gw gn) hD hS hA [10, 11, 12, 13] rfl
  refine va_calli (va_runV (As := []) (rest := rest) ⟨hx, hb, hml, hown, hts⟩ (metX1_cells l dC dI cI cK o2 ha wb nb w h ho gw gn H.size w6 h6) (cwV 0 hts (lw_V q106 q107 q108 q5 q109) rfl rfl rfl (by decide +kernel) ⟨Nat.le_trans (by decide) hR.1, Nat.le_trans (by decide) hR.2⟩) ⟨fun a U g mk q => by obtain ⟨q0, q1, qP, qK, qD⟩ := q; exact ⟨q0, q1, qP, va_K.moved (u := U) (U := U.calling g mk a) (Vm.Alike.refl U.vm) qK, qD⟩, va_recv hKc hPc (ci := 1) (q0 := 0) rfl rfl, fun U hU hW => ⟨rfl, by rw [hU], by rw [hU]; exact hPc, va_K.moved hW.alike hKc, hDc.weaken (fun _ _ _ _ => trivial)⟩⟩ rfl rfl hsz rfl (lv_room hrest) hdg hf) hS (fun q _ h => hFc q h) hFc (fun r u t H1 locs1 ht hvm hw hB hz hk hS1 => ?_)
  obtain ⟨hP1, -, hD1⟩ := hB
  rw [ht] at hP1
  obtain ⟨hP, hD⟩ := va_join (wr := dk_W cA cJ cZ o oh wa ta ya w2 h2 ho2 fw ft) (w1 := mo_W cI cK o2 ha wb nb w h (mo_hb ho) gw gn) hP hD [10, 11, 12, 13] [0, 1, 2, 3, 4, 5, 6, 7, 8, 9] rfl rfl (by decide) (by decide) hk hFc hP1 hD1
  have hw : r = mo_sum w h ho 1 := hw
  subst hw
  exact kk H1 locs1 (hP.sub [0, 1, 2, 3, 4, 5, 6, 7, 8, 9, 10, 11, 12, 13] rfl) (hD.sub [0, 1, 2, 3, 4, 5, 6, 7, 8, 9, 10, 11, 12, 13] (by decide) rfl) hS1
set_option maxHeartbeats 4000000 in
set_option maxRecDepth 100000 in
theorem lw_X1_surplus (hx : p.tables.exec = Jvm.exec) (hb : c.code = code) (hml : c.maxLocals = 4) (hown : s.vm.findClass "DominoDeskLaw" = some m.cls) (hts : ∀ w ∈ lw_all, w.before args s = true) (hA : ∀ q : Nat, H0.size ≤ q → A q) (hK : va_K (dC, dI) vwCl (dk_T cA cJ cZ ++ mo_T cI cK) s) (hP : va_P (dC, dI) vwCl (dk_W cA cJ cZ o oh wa ta ya w2 h2 ho2 fw ft ++ mo_W cI cK o2 ha wb nb w h (mo_hb ho) gw gn) H) (hD : va_D A (dk_W cA cJ cZ o oh wa ta ya w2 h2 ho2 fw ft ++ mo_W cI cK o2 ha wb nb w h (mo_hb ho) gw gn)) (hS : va_S A H0 H locs) (hR : 5 ≤ R.frames ∧ 138 ≤ R.locals) (hf : cells ≤ R.cells ∧ slots ≤ R.slots) (hsz : ls.size = 4) (w6 : w ≤ 6) (h6 : h ≤ 6) (hrest : (rest.map fun v => v.category).sum ≤ 8) (hdg : decode code pc = .ok (.invokevirtual 36, 3))
    (kk : ∀ (H1 : Heap) (locs1 : List Loc), va_P (dC, dI) vwCl (dk_W cA cJ cZ o oh wa ta ya w2 h2 ho2 fw ft ++ mo_W cI cK o2 ha wb nb w h (mo_hb ho) gw gn) H1 → va_D A (dk_W cA cJ cZ o oh wa ta ya w2 h2 ho2 fw ft ++ mo_W cI cK o2 ha wb nb w h (mo_hb ho) gw gn) → va_S A H0 H1 locs1 → W p l e R s m args below meth c H1 locs1 cells slots Q (F0 m (pc + 3) ls (.int (mo_sum w h ho (-1)) :: rest))) : W p l e R s m args below meth c H locs cells slots Q (F0 m pc ls (.ref o2 :: rest)) := by
  have hPc : va_P (dC, dI) vwCl (mo_W cI cK o2 ha wb nb w h (mo_hb ho) gw gn) H := hP.sub [10, 11, 12, 13] rfl
  have hDc : va_D A (mo_W cI cK o2 ha wb nb w h (mo_hb ho) gw gn) := hD.sub [10, 11, 12, 13] (by decide) rfl
  have hKc : va_K (dC, dI) vwCl (mo_T cI cK) s := hK.sub [3, 4] rfl
  have hFc := va_free (wc := mo_W cI cK o2 ha wb nb w h (mo_hb ho) gw gn) hD hS hA [10, 11, 12, 13] rfl
  refine va_calli (va_runV (As := []) (rest := rest) ⟨hx, hb, hml, hown, hts⟩ (metX1_surplus l dC dI cI cK o2 ha wb nb w h ho gw gn H.size w6 h6) (cwV 0 hts (lw_V q110 q111 q112 q5 q113) rfl rfl rfl (by decide +kernel) ⟨Nat.le_trans (by decide) hR.1, Nat.le_trans (by decide) hR.2⟩) ⟨fun a U g mk q => by obtain ⟨q0, q1, qP, qK, qD⟩ := q; exact ⟨q0, q1, qP, va_K.moved (u := U) (U := U.calling g mk a) (Vm.Alike.refl U.vm) qK, qD⟩, va_recv hKc hPc (ci := 1) (q0 := 0) rfl rfl, fun U hU hW => ⟨rfl, by rw [hU], by rw [hU]; exact hPc, va_K.moved hW.alike hKc, hDc.weaken (fun _ _ _ _ => trivial)⟩⟩ rfl rfl hsz rfl (lv_room hrest) hdg hf) hS (fun q _ h => hFc q h) hFc (fun r u t H1 locs1 ht hvm hw hB hz hk hS1 => ?_)
  obtain ⟨hP1, -, hD1⟩ := hB
  rw [ht] at hP1
  obtain ⟨hP, hD⟩ := va_join (wr := dk_W cA cJ cZ o oh wa ta ya w2 h2 ho2 fw ft) (w1 := mo_W cI cK o2 ha wb nb w h (mo_hb ho) gw gn) hP hD [10, 11, 12, 13] [0, 1, 2, 3, 4, 5, 6, 7, 8, 9] rfl rfl (by decide) (by decide) hk hFc hP1 hD1
  have hw : r = mo_sum w h ho (-1) := hw
  subst hw
  exact kk H1 locs1 (hP.sub [0, 1, 2, 3, 4, 5, 6, 7, 8, 9, 10, 11, 12, 13] rfl) (hD.sub [0, 1, 2, 3, 4, 5, 6, 7, 8, 9, 10, 11, 12, 13] (by decide) rfl) hS1
end LWC
end
section
/-! THE LAW's LOOP: both objects hold the same board; every answer is the same -/
theorem lw_cmp {L i : Nat} (hL : L < 2 ^ 30) (hi : i < 2 ^ 30) : nI L - 3 < nI i ↔ L < i + 3 := by
  have e1 : (nI L - 3).toInt = (L : Int) - 3 := pk_sub_toInt (b := 3) hL (by decide)
  rw [Int32.lt_iff_toInt_lt, e1, nI_toInt (by omega)]
  omega
section LWL
variable {p : Program} {l : Launch} {e : Env} {R : Room} {s : State} {m : MethodId} {args : Array Value} {below : List Frame} {meth : Method} {c : Code} {cells slots : Nat} {Q : State → Prop}
variable {A : Nat → Prop} {dC : Nat → ClassId} {dI : Nat → Nat → Nat} {cA cJ cZ cI cK : ClassId} {o oh o2 ha wb nb : Nat} {ya : Nat → Nat} {b L : Nat} {xs : Nat → Int32}
set_option maxHeartbeats 8000000 in
set_option maxRecDepth 100000 in
theorem lw_loop (hx : p.tables.exec = Jvm.exec) (hb : c.code = code) (hml : c.maxLocals = 4) (hown : s.vm.findClass "DominoDeskLaw" = some m.cls) (hts : ∀ w ∈ lw_all, w.before args s = true) (hA : ∀ q : Nat, s.heap.size ≤ q → A q) (hX : va_X b L xs s s.heap) (hbl : b < s.heap.size) (hbA : ¬ A b) (hL : L ≤ 192) (hR : 5 ≤ R.frames ∧ 138 ≤ R.locals) (hf : cells ≤ R.cells ∧ slots ≤ R.slots) (hK : va_K (dC, dI) vwCl (dk_T cA cJ cZ ++ mo_T cI cK) s)
    (kk : ∀ (H : Heap) (locs : List Loc) (ls : Array Slot), va_S A s.heap H locs → W p l e R s m args below meth c H locs cells slots Q (F0 m 178 ls [])) :
    ∀ (n i : Nat), L + 1 ≤ i + n → i ≤ L → ∀ (wa ta w h : Nat) (ho : Nat → Nat → Bool) (fw ft gw gn : Nat → Int64) (H : Heap) (locs : List Loc) (ls : Array Slot), 0 < w → 0 < h → w ≤ 6 → h ≤ 6 → va_P (dC, dI) vwCl (dk_W cA cJ cZ o oh wa ta ya w h ho fw ft ++ mo_W cI cK o2 ha wb nb w h (mo_hb ho) gw gn) H → va_D A (dk_W cA cJ cZ o oh wa ta ya w h ho fw ft ++ mo_W cI cK o2 ha wb nb w h (mo_hb ho) gw gn) → va_S A s.heap H locs → lv_has ls 4 [(3, .int (nI i)), (2, .ref o2), (1, .ref o), (0, .ref b)] → W p l e R s m args below meth c H locs cells slots Q (F0 m 18 ls []) := by
  intro n
  induction n with
  | zero =>
    intro i h1 h2
    omega
  | succ n ih =>
    intro i h1 h2 wa ta w h ho fw ft gw gn H locs ls w0 h0 w6 h6 hP hD hS hl
    refine lv_iload_n hx hb dL_law_18 rfl (lv_at hl 0 rfl) ?_
    refine lv_aload_n hx hb dL_law_19 rfl (lv_at hl 3 rfl) ?_
    refine va_slen hx hb hX hbl hbA hS dL_law_20 ?_
    refine lv_iconst (v := 3) hx hb dL_law_21 (by decide) ?_
    refine lv_isub hx hb dL_law_22 ?_
    refine lv_icmp_gt (tgt := 178) hx hb dL_law_23 (by decide) (fun c1 => ?_) (fun c1 => ?_)
    · exact kk H locs ls hS
    have c1 : i + 3 ≤ L := Nat.not_lt.mp fun q => c1 ((lw_cmp (by omega) (by omega)).mpr q)
    have next : ∀ (wa ta w h : Nat) (ho : Nat → Nat → Bool) (fw ft gw gn : Nat → Int64) (H : Heap) (locs : List Loc), 0 < w → 0 < h → w ≤ 6 → h ≤ 6 → va_P (dC, dI) vwCl (dk_W cA cJ cZ o oh wa ta ya w h ho fw ft ++ mo_W cI cK o2 ha wb nb w h (mo_hb ho) gw gn) H → va_D A (dk_W cA cJ cZ o oh wa ta ya w h ho fw ft ++ mo_W cI cK o2 ha wb nb w h (mo_hb ho) gw gn) → va_S A s.heap H locs → W p l e R s m args below meth c H locs cells slots Q (F0 m 172 ls []) := by
      intro wa ta w h ho fw ft gw gn H locs w0 h0 w6 h6 hP hD hS
      refine lv_iinc (v := nI (i + 3)) (lv' := [(3, .int (nI (i + 3))), (2, .ref o2), (1, .ref o), (0, .ref b)]) hx hb dL_law_172 hl (k := 0) rfl (nI_add i 3) (by decide) rfl (fun ls hl => ?_)
      refine lv_goto (tgt := 18) hx hb dL_law_175 (by decide) ?_
      exact ih (i + 3) (by omega) c1 wa ta w h ho fw ft gw gn H locs ls w0 h0 w6 h6 hP hD hS hl
    refine lv_aload_n hx hb dL_law_26 rfl (lv_at hl 3 rfl) ?_
    refine lv_iload_n hx hb dL_law_27 rfl (lv_at hl 0 rfl) ?_
    refine va_sld hx hb hX hbl hbA hS (vp_in_nI (by omega) (by omega)) dL_law_28 ?_
    refine lv_bipush (v := 7) hx hb dL_law_29 (by decide) ?_
    refine lv_iand hx hb dL_law_31 ?_
    obtain ⟨j, hj, ej⟩ := pk_andE (xs (nI i).toNatClampNeg) (m := 7) 3 (by decide)
    refine dk_top ej ?_
    rcases (show j = 0 ∨ j = 1 ∨ j = 2 ∨ j = 3 ∨ j = 4 ∨ j = 5 ∨ j = 6 ∨ j = 7 by omega) with rfl | rfl | rfl | rfl | rfl | rfl | rfl | rfl
    · refine lv_tableIn (tgt := 68) (off := 36) hx hb dL_law_32 (by decide) (by decide) (by decide) (by decide) ?_
      refine lv_aload_n hx hb dL_law_68 rfl (lv_at hl 2 rfl) ?_
      refine lv_aload_n hx hb dL_law_69 rfl (lv_at hl 3 rfl) ?_
      refine lv_iload_n hx hb dL_law_70 rfl (lv_at hl 0 rfl) ?_
      refine lv_iconst (v := 1) hx hb dL_law_71 (by decide) ?_
      refine lv_iadd hx hb dL_law_72 ?_
      refine dk_top (nI_1 i) ?_
      refine va_sld hx hb hX hbl hbA hS (vp_in_nI (by omega) (by omega)) dL_law_73 ?_
      refine lv_aload_n hx hb dL_law_74 rfl (lv_at hl 3 rfl) ?_
      refine lv_iload_n hx hb dL_law_75 rfl (lv_at hl 0 rfl) ?_
      refine lv_iconst (v := 2) hx hb dL_law_76 (by decide) ?_
      refine lv_iadd hx hb dL_law_77 ?_
      refine dk_top (nI_add i 2) ?_
      refine va_sld hx hb hX hbl hbA hS (vp_in_nI (by omega) (by omega)) dL_law_78 ?_
      refine lw_X0_board hx hb hml hown hts hA hK hP hD hS hR hf hl.1 (by exact Nat.le_of_ble_eq_true rfl) dL_law_79 (fun H locs hP hD hS => ?_)
      refine lv_aload_n hx hb dL_law_82 rfl (lv_at hl 1 rfl) ?_
      refine lv_aload_n hx hb dL_law_83 rfl (lv_at hl 3 rfl) ?_
      refine lv_iload_n hx hb dL_law_84 rfl (lv_at hl 0 rfl) ?_
      refine lv_iconst (v := 1) hx hb dL_law_85 (by decide) ?_
      refine lv_iadd hx hb dL_law_86 ?_
      refine dk_top (nI_1 i) ?_
      refine va_sld hx hb hX hbl hbA hS (vp_in_nI (by omega) (by omega)) dL_law_87 ?_
      refine lv_aload_n hx hb dL_law_88 rfl (lv_at hl 3 rfl) ?_
      refine lv_iload_n hx hb dL_law_89 rfl (lv_at hl 0 rfl) ?_
      refine lv_iconst (v := 2) hx hb dL_law_90 (by decide) ?_
      refine lv_iadd hx hb dL_law_91 ?_
      refine dk_top (nI_add i 2) ?_
      refine va_sld hx hb hX hbl hbA hS (vp_in_nI (by omega) (by omega)) dL_law_92 ?_
      refine lw_X1_board hx hb hml hown hts hA hK hP hD hS hR hf hl.1 (by exact Nat.le_of_ble_eq_true rfl) dL_law_93 (fun H locs hP hD hS => ?_)
      refine lv_goto (tgt := 172) hx hb dL_law_96 (by decide) ?_
      have l1 := dk_bl_lt (xs (nI (i + 1)).toNatClampNeg) (n := 6) (by decide)
      have l2 := dk_bl_lt (xs (nI (i + 2)).toNatClampNeg) (n := 6) (by decide)
      exact next wa ta _ _ _ fw ft gw gn H locs (by omega) (by omega) (by omega) (by omega) hP hD hS
    · refine lv_tableIn (tgt := 99) (off := 67) hx hb dL_law_32 (by decide) (by decide) (by decide) (by decide) ?_
      refine lv_aload_n hx hb dL_law_99 rfl (lv_at hl 2 rfl) ?_
      refine lv_aload_n hx hb dL_law_100 rfl (lv_at hl 3 rfl) ?_
      refine lv_iload_n hx hb dL_law_101 rfl (lv_at hl 0 rfl) ?_
      refine lv_iconst (v := 1) hx hb dL_law_102 (by decide) ?_
      refine lv_iadd hx hb dL_law_103 ?_
      refine dk_top (nI_1 i) ?_
      refine va_sld hx hb hX hbl hbA hS (vp_in_nI (by omega) (by omega)) dL_law_104 ?_
      refine lv_aload_n hx hb dL_law_105 rfl (lv_at hl 3 rfl) ?_
      refine lv_iload_n hx hb dL_law_106 rfl (lv_at hl 0 rfl) ?_
      refine lv_iconst (v := 2) hx hb dL_law_107 (by decide) ?_
      refine lv_iadd hx hb dL_law_108 ?_
      refine dk_top (nI_add i 2) ?_
      refine va_sld hx hb hX hbl hbA hS (vp_in_nI (by omega) (by omega)) dL_law_109 ?_
      refine lw_X0_turn hx hb hml hown hts hA hK hP hD hS hR hf hl.1 w0 h0 w6 h6 (by exact Nat.le_of_ble_eq_true rfl) dL_law_110 (fun H locs hP hD hS => ?_)
      refine lv_aload_n hx hb dL_law_113 rfl (lv_at hl 1 rfl) ?_
      refine lv_aload_n hx hb dL_law_114 rfl (lv_at hl 3 rfl) ?_
      refine lv_iload_n hx hb dL_law_115 rfl (lv_at hl 0 rfl) ?_
      refine lv_iconst (v := 1) hx hb dL_law_116 (by decide) ?_
      refine lv_iadd hx hb dL_law_117 ?_
      refine dk_top (nI_1 i) ?_
      refine va_sld hx hb hX hbl hbA hS (vp_in_nI (by omega) (by omega)) dL_law_118 ?_
      refine lv_aload_n hx hb dL_law_119 rfl (lv_at hl 3 rfl) ?_
      refine lv_iload_n hx hb dL_law_120 rfl (lv_at hl 0 rfl) ?_
      refine lv_iconst (v := 2) hx hb dL_law_121 (by decide) ?_
      refine lv_iadd hx hb dL_law_122 ?_
      refine dk_top (nI_add i 2) ?_
      refine va_sld hx hb hX hbl hbA hS (vp_in_nI (by omega) (by omega)) dL_law_123 ?_
      refine lw_X1_turn hx hb hml hown hts hA hK hP hD hS hR hf hl.1 w0 h0 w6 h6 (by exact Nat.le_of_ble_eq_true rfl) dL_law_124 (fun H locs hP hD hS => ?_)
      refine lv_icmp_eq (tgt := 172) hx hb dL_law_127 (by decide) (fun c2 => ?_) (fun c2 => absurd rfl c2)
      exact next wa ta w h _ fw ft gw gn H locs w0 h0 w6 h6 hP hD hS
    · refine lv_tableIn (tgt := 132) (off := 100) hx hb dL_law_32 (by decide) (by decide) (by decide) (by decide) ?_
      refine lv_aload_n hx hb dL_law_132 rfl (lv_at hl 2 rfl) ?_
      refine lw_X0_count hx hb hml hown hts hA hK hP hD hS hR hf hl.1 w6 h6 (by exact Nat.le_of_ble_eq_true rfl) dL_law_133 (fun wa ta fw ft H locs hP hD hS => ?_)
      refine lv_aload_n hx hb dL_law_136 rfl (lv_at hl 1 rfl) ?_
      refine lw_X1_count hx hb hml hown hts hA hK hP hD hS hR hf hl.1 w6 h6 (by exact Nat.le_of_ble_eq_true rfl) dL_law_137 (fun gw gn H locs hP hD hS => ?_)
      refine W.lcmp hx hb dL_law_140 ?_
      refine lv_if_eq (tgt := 172) hx hb dL_law_141 (by decide) (fun c2 => ?_) (fun c2 => absurd ((lg_cmp_eq _ _).mpr (pv_cnt w h ho)) c2)
      exact next wa ta w h ho fw ft gw gn H locs w0 h0 w6 h6 hP hD hS
    · refine lv_tableIn (tgt := 146) (off := 114) hx hb dL_law_32 (by decide) (by decide) (by decide) (by decide) ?_
      refine lv_aload_n hx hb dL_law_146 rfl (lv_at hl 2 rfl) ?_
      refine lw_X0_cells hx hb hml hown hts hA hK hP hD hS hR hf hl.1 w6 h6 (by exact Nat.le_of_ble_eq_true rfl) dL_law_147 (fun H locs hP hD hS => ?_)
      refine lv_aload_n hx hb dL_law_150 rfl (lv_at hl 1 rfl) ?_
      refine lw_X1_cells hx hb hml hown hts hA hK hP hD hS hR hf hl.1 w6 h6 (by exact Nat.le_of_ble_eq_true rfl) dL_law_151 (fun H locs hP hD hS => ?_)
      refine lv_icmp_eq (tgt := 172) hx hb dL_law_154 (by decide) (fun c2 => ?_) (fun c2 => absurd (pv_sum w h ho 1) c2)
      exact next wa ta w h ho fw ft gw gn H locs w0 h0 w6 h6 hP hD hS
    · refine lv_tableIn (tgt := 159) (off := 127) hx hb dL_law_32 (by decide) (by decide) (by decide) (by decide) ?_
      refine lv_aload_n hx hb dL_law_159 rfl (lv_at hl 2 rfl) ?_
      refine lw_X0_surplus hx hb hml hown hts hA hK hP hD hS hR hf hl.1 w6 h6 (by exact Nat.le_of_ble_eq_true rfl) dL_law_160 (fun H locs hP hD hS => ?_)
      refine lv_aload_n hx hb dL_law_163 rfl (lv_at hl 1 rfl) ?_
      refine lw_X1_surplus hx hb hml hown hts hA hK hP hD hS hR hf hl.1 w6 h6 (by exact Nat.le_of_ble_eq_true rfl) dL_law_164 (fun H locs hP hD hS => ?_)
      refine lv_icmp_eq (tgt := 172) hx hb dL_law_167 (by decide) (fun c2 => ?_) (fun c2 => absurd (pv_sum w h ho (-1)) c2)
      exact next wa ta w h ho fw ft gw gn H locs w0 h0 w6 h6 hP hD hS
    · exact lv_tableOut (tgt := 172) hx hb dL_law_32 (by decide) (by decide) (next wa ta w h ho fw ft gw gn H locs w0 h0 w6 h6 hP hD hS)
    · exact lv_tableOut (tgt := 172) hx hb dL_law_32 (by decide) (by decide) (next wa ta w h ho fw ft gw gn H locs w0 h0 w6 h6 hP hD hS)
    · exact lv_tableOut (tgt := 172) hx hb dL_law_32 (by decide) (by decide) (next wa ta w h ho fw ft gw gn H locs w0 h0 w6 h6 hP hD hS)
end LWL
end
section
/-! THE CLAIM OUT OF ONE WALK OF THE LAW'S BODY. Your part is whole_start (and what it stands on); all else here is the same for every law, but numbers. -/
def R_law : String := "DominoDeskLaw"
def lw_P (b : Addr) (xs : List Int32) (args : Array Value) (s : State) : Prop := args = #[.ref b] ∧ s.IntsAt b xs ∧ xs.length ≤ 192 ∧ (Jvm.Cond.and given_1 narrow_1).before args s = true
def lw_Q (_ : Array Value) (s : State) (o : Outcome) (t : State) : Prop := o = .returned (some (.int 1)) ∧ Framed s o t [] 600000 7302250
def lw_Z (below : List Frame) (a : Array Value) (s : State) : State → Prop := fun t => ∃ o, t.status = .running ∧ Ended t below o ∧ lw_Q a s o t
/-- the law's own end, with 1 on the stack, nothing written that was there before, its room as the claim has it -/
theorem lw_ret {p : Program} {l : Launch} {e : Env} {s : State} {m : MethodId} {below : List Frame} {meth : Method} {c : Code} {b : Nat} (hx : p.tables.exec = Jvm.exec) (hb : c.code = code) (hr : meth.sig.returnType = ret) (hlocks : meth.locks = false) {pc : Nat} {H : Heap} {ls : Array Slot} (hdg : decode code pc = .ok (.ireturn, 1)) : W p l e room_1 s m #[Value.ref b] below meth c H [] 600000 7302250 (lw_Z below #[Value.ref b] s) (F0 m pc ls [.int 1]) := by
  intro T hT X
  obtain ⟨fs, hret, hrun, hended, hW, hframe⟩ := X.leave (v := some (.int 1)) (hlocks := hlocks) (fun h => by rw [hr] at h; cases h)
  have hmeth' : T.vm.method? m = some meth := X.method'
  refine ⟨T.setFrames fs, ?_, .returned (some (.int 1)), hrun, hended, rfl, ⟨_, rfl⟩, hW, hframe⟩
  jvm_step X.here [X.here.top, hx, hb, hdg, hmeth', hr, ret, narrow_b1]
  (try refine ⟨rfl, ?_⟩); (try refine ⟨rfl, ?_⟩)
  first | (intro acts; rw [hret _ acts rfl rfl rfl]) | rw [hret _ _ rfl rfl rfl]
  exact Steps.refl _
/-- what holds at the law's entry: the machine, the code, the tables' words (any of lw_tbl by 'hts w (by decide +kernel)'), the script of L ints xs at the cell b, what the Statement gives of the start (any of its parts by flat_of_before) -/
def lw_At (p : Program) (s : State) (m : MethodId) (meth : Method) (c : Code) (b L : Nat) (xs : Nat → Int32) : Prop :=
  p.tables.exec = Jvm.exec ∧ c.code = code ∧ meth.sig.returnType = ret ∧ c.maxLocals = 4 ∧ s.vm.findClass R_law = some m.cls ∧ (∀ w ∈ lw_tbl, w.before #[Value.ref b] s = true) ∧ va_X b L xs s s.heap ∧ b < s.heap.size ∧ meth.locks = false ∧ (Jvm.Cond.and given_1 narrow_1).before #[Value.ref b] s = true
-- ===== the walk of the law's body =====
set_option maxHeartbeats 4000000 in
set_option maxRecDepth 100000 in
/-- from the entry, for every script of at most 192 ints, the law comes to its end with true -/
theorem whole_start {p : Program} {e : Env} {s : State} {m : MethodId} {below : List Frame} {meth : Method} {c : Code} (l : Launch) {b L : Nat} {xs : Nat → Int32} (hL : L ≤ 192) (C0 : lw_At p s m meth c b L xs) : W p l e room_1 s m #[Value.ref b] below meth c s.heap [] 0 0 (lw_Z below #[Value.ref b] s) (entryFrame m ([Value.ref b] : List Value).toArray 4) := by
  obtain ⟨hx, hb, hr, hml, hown, hts0, hX, hbl, hlocks, hgv⟩ := C0
  have hts : ∀ w ∈ lw_all, w.before #[Value.ref b] s = true := fun w h => hts0 w (lw_all_tbl h)
  have hG : dk_G s := dk_G_of (hts0 _ q15)
  have hA : ∀ q : Nat, s.heap.size ≤ q → (fun q : Nat => s.heap.size ≤ q) q := fun _ h => h
  have hbA : ¬ (fun q : Nat => s.heap.size ≤ q) b := Nat.not_le.mpr hbl
  obtain ⟨c0, iS0, hKn0⟩ := u_known (C := RX0) (T := TX0) (N := 5) (n := 5) hts in_X0 (hts _ q7)
  obtain ⟨c1, iS1, hKn1⟩ := u_known (C := RX1) (T := TX1) (N := 5) (n := 5) hts in_X1 (hts _ q71)
  obtain ⟨dC, dI, hKc⟩ : ∃ (dC : Nat → ClassId) (dI : Nat → Nat → Nat), ∀ (k : Nat) (q : vw_C), vwCl[k]? = some q → u_Kn s q.1 q.2.1 q.2.2 (dC k) (dI k) := by
    refine ⟨fun k => if k = 0 then c0 else c1, fun k => if k = 0 then iS0 else iS1, ?_⟩
    intro k q hq
    match k, hq with
    | 0, hq => cases hq; exact hKn0
    | 1, hq => cases hq; exact hKn1
    | k + 2, hq => simp [vwCl] at hq
  have hS : va_S (fun q : Nat => s.heap.size ≤ q) s.heap s.heap [] := va_S.rf
  have hK : va_K (dC, dI) vwCl [] s := ⟨hKc, fun k q h => by simp at h⟩
  have hP : va_P (dC, dI) vwCl [] s.heap := fun k q h => by simp at h
  have hD : va_D (fun q : Nat => s.heap.size ≤ q) [] := ⟨fun i j p q h => by simp at h, fun k q h => by simp at h⟩
  have hl := lv_entry ([.ref b]) (n := 4) (Nat.le_of_ble_eq_true rfl)
  rw [lg_entry_eq]
  generalize (lg_sl ([.ref b]) ++ List.replicate (4 - (lg_sl ([.ref b])).length) Slot.unset).toArray = ls at hl ⊢
  have hl : lv_has ls 4 [(0, .ref b)] := hl
  refine va_new (ci := 0) (fs := [.null, .null, .null, .int 0, .int 0]) (C := RX0) (T := TX0) (N := 5) hx hb hts in_X0 tyX0 tyX0_ok hown (hts _ q6) (hts _ q7) (hts _ q4) hK hP hD hS hA rfl (fun j hj => by rcases (show j = 0 ∨ j = 1 ∨ j = 2 ∨ j = 3 ∨ j = 4 by omega) with rfl | rfl | rfl | rfl | rfl <;> rfl) (Nat.le_of_ble_eq_true rfl) (Nat.le_of_ble_eq_true rfl) dL_law_0 (fun q1 H hP hD hS => ?_)
  have hP : va_P (dC, dI) vwCl [(q1, .inr (0, [.null, .null, .null, .int 0, .int 0]))] H := hP
  have hD : va_D (fun q : Nat => s.heap.size ≤ q) [(q1, .inr (0, [.null, .null, .null, .int 0, .int 0]))] := hD
  refine W.widen (k := 1) (n := 5) (by omega) (by omega) ?_
  refine lv_dup hx hb dL_law_3 rfl ?_
  have hFc := va_free (wc := [(q1, .inr (0, [.null, .null, .null, .int 0, .int 0]))]) hD hS hA [0] rfl
  refine va_callv (va_runI (As := []) (rest := [.ref q1]) ⟨hx, hb, hml, hown, hts⟩ (metX0_init l dC dI q1 H.size) (cwI 0 hts (lw_meth q10) rfl rfl rfl (hts _ q4) (hts _ q8) (hts _ q9) rfl (by decide +kernel) ⟨Nat.le_of_ble_eq_true rfl, Nat.le_of_ble_eq_true rfl⟩) ⟨fun a U g mk q => by obtain ⟨q0, q1, qP, qK, qD, qG⟩ := q; exact ⟨q0, q1, qP, va_K.moved (u := U) (U := U.calling g mk a) (Vm.Alike.refl U.vm) qK, qD, dk_G_moved (u := U) (U := U.calling g mk a) (Vm.Alike.refl U.vm) qG⟩, fun U hU hW => ⟨rfl, by rw [hU], by rw [hU]; exact hP, va_K.moved hW.alike hK, hD.weaken (fun _ _ _ _ => trivial), dk_G_moved hW.alike hG⟩⟩ rfl rfl hl.1 rfl (lv_room (Nat.le_of_ble_eq_true rfl)) dL_law_4 ⟨Nat.le_of_ble_eq_true rfl, Nat.le_of_ble_eq_true rfl⟩) hS (fun q _ h => hFc q h) hFc (fun u t H1 locs1 ht hvm hw hB hz hk hS1 => ?_)
  obtain ⟨cA, cJ, cZ, oh, wa, ta, ya, hP1, hK1, hD1⟩ := hB
  rw [ht] at hP1
  have hK1 := va_K.moved hvm.symm hK1
  have hD1 := hD1.weaken (fun k q _ h => hFc q.1 h)
  refine W.widen (k := 10) (n := 175) (by omega) (by omega) ?_
  refine lv_astore_n (lv' := [(1, .ref q1), (0, .ref b)]) hx hb dL_law_7 rfl hl (by decide) rfl (fun ls hl => ?_)
  refine va_new (ci := 1) (fs := [.null, .int 0, .int 0, .null, .null]) (C := RX1) (T := TX1) (N := 5) hx hb hts in_X1 tyX1 tyX1_ok hown (hts _ q70) (hts _ q71) (hts _ q5) hK1 hP1 hD1 hS1 hA rfl (fun j hj => by rcases (show j = 0 ∨ j = 1 ∨ j = 2 ∨ j = 3 ∨ j = 4 by omega) with rfl | rfl | rfl | rfl | rfl <;> rfl) (Nat.le_of_ble_eq_true rfl) (Nat.le_of_ble_eq_true rfl) dL_law_8 (fun q2 H hP hD hS => ?_)
  refine W.widen (k := 11) (n := 180) (by omega) (by omega) ?_
  refine lv_dup hx hb dL_law_11 rfl ?_
  have hPc : va_P (dC, dI) vwCl [(q2, .inr (1, [.null, .int 0, .int 0, .null, .null]))] H := hP.sub [10] rfl
  have hDc : va_D (fun q : Nat => s.heap.size ≤ q) [(q2, .inr (1, [.null, .int 0, .int 0, .null, .null]))] := hD.sub [10] (by decide) rfl
  have hFc := va_free (wc := [(q2, .inr (1, [.null, .int 0, .int 0, .null, .null]))]) hD hS hA [10] rfl
  refine va_callv (va_runI (As := []) (rest := [.ref q2]) ⟨hx, hb, hml, hown, hts⟩ (metX1_init l dC dI q2 H.size) (cwI 0 hts (lw_meth q74) rfl rfl rfl (hts _ q5) (hts _ q72) (hts _ q73) rfl (by decide +kernel) ⟨Nat.le_of_ble_eq_true rfl, Nat.le_of_ble_eq_true rfl⟩) ⟨fun a U g mk q => by obtain ⟨q0, q1, qP, qK, qD⟩ := q; exact ⟨q0, q1, qP, va_K.moved (u := U) (U := U.calling g mk a) (Vm.Alike.refl U.vm) qK, qD⟩, fun U hU hW => ⟨rfl, by rw [hU], by rw [hU]; exact hPc, va_K.moved hW.alike hK, hDc.weaken (fun _ _ _ _ => trivial)⟩⟩ rfl rfl hl.1 rfl (lv_room (Nat.le_of_ble_eq_true rfl)) dL_law_12 ⟨Nat.le_of_ble_eq_true rfl, Nat.le_of_ble_eq_true rfl⟩) hS (fun q _ h => hFc q h) hFc (fun u t H2 locs2 ht hvm hw hB hz hk hS2 => ?_)
  obtain ⟨cI, cK, ha, wb, nb, hP2, hK2, hD2⟩ := hB
  rw [ht] at hP2
  have hK2 := va_K.moved hvm.symm hK2
  obtain ⟨hP, hD⟩ := va_join (wr := dk_W cA cJ cZ q1 oh wa ta ya 4 4 (fun _ _ => false) (fun _ => 0) (fun _ => 0)) (w1 := mo_W cI cK q2 ha wb nb 4 4 (mo_hb (fun _ _ => false)) (fun _ => 0) (fun _ => 0)) hP hD [10] [0, 1, 2, 3, 4, 5, 6, 7, 8, 9] rfl rfl (by decide) (by decide) hk hFc hP2 hD2
  have hK : va_K (dC, dI) vwCl (dk_T cA cJ cZ ++ mo_T cI cK) s := hK1.app hK2
  refine W.widen (k := 14) (n := 314) (by omega) (by omega) ?_
  refine lv_astore_n (lv' := [(2, .ref q2), (1, .ref q1), (0, .ref b)]) hx hb dL_law_15 rfl hl (by decide) rfl (fun ls hl => ?_)
  refine lv_iconst (v := 0) hx hb dL_law_16 (by decide) ?_
  refine lv_istore_n (lv' := [(3, .int 0), (2, .ref q2), (1, .ref q1), (0, .ref b)]) hx hb dL_law_17 rfl hl (by decide) rfl (fun ls hl => ?_)
  refine lw_loop hx hb hml hown hts hA hX hbl hbA hL ⟨Nat.le_of_ble_eq_true rfl, Nat.le_of_ble_eq_true rfl⟩ ⟨Nat.le_of_ble_eq_true rfl, Nat.le_of_ble_eq_true rfl⟩ hK (fun H locs ls hS => ?_) (L + 1) 0 (by omega) (Nat.zero_le L) wa ta 4 4 (fun _ _ => false) (fun _ => 0) (fun _ => 0) (fun _ => 0) (fun _ => 0) H2 locs2 ls (by decide) (by decide) (by decide) (by decide) hP hD hS2 hl
  refine lv_iconst (v := 1) hx hb dL_law_178 (by decide) ?_
  refine va_forget (fun q hq => hS.2.2 q hq) ?_
  refine W.widen (k := 600000) (n := 7302250) (by omega) (by omega) ?_
  exact lw_ret hx hb hr hlocks dL_law_179
-- ===== YOUR PART ENDS =====
set_option maxHeartbeats 4000000 in
theorem lw_walk (l : Launch) (b : Addr) (xs : List Int32) : MetFree l x (headSpec (Jvm.Cond.code x code maxLocals ret :: tables_1) room_1) (lw_P b xs) (fun _ _ _ _ _ => True) lw_Q := by
  refine MetFree.of_bodyS (code := code) (maxLocals := maxLocals) (ret := ret) (by decide) ?_ ?_
  · intro args s m h hn
    obtain ⟨meth, c, h1, h2, h3, h4, h5, h6, -, -⟩ := Cond.code_spec hn (atoms_spec (ws := Jvm.Cond.code x code maxLocals ret :: tables_1) h _ List.mem_cons_self)
    exact ⟨meth, c, h1, h2, h3, h4, h5, h6⟩
  · intro p e s m args below meth c s₁ B hml0 hP _
    obtain ⟨rfl, hx, hbd, hgv⟩ := hP
    obtain ⟨scr, harrAt, hlist, hof, hsmall⟩ := hx
    obtain ⟨hcb, hkn, -, -⟩ := State.arrayAt?_spec harrAt
    have hown : s.vm.findClass R_law = some m.cls := findClass_of_methodNamed B.named
    have hts0 : ∀ c ∈ (Jvm.Cond.code x code maxLocals ret :: tables_1), c.before #[Value.ref b] s = true := atoms_spec (ws := Jvm.Cond.code x code maxLocals ret :: tables_1) B.pre
    have hts : ∀ w ∈ lw_tbl, w.before #[Value.ref b] s = true := k2_hts_sels lw_privs (fun w hw => hts0 w (List.mem_cons_of_mem _ hw)) lw_privs_ok
    have hml : c.maxLocals = 4 := B.maxLocals_eq (hts0 _ List.mem_cons_self)
    have X₀ : Stand p l e room_1 s m #[Value.ref b] below meth c s₁ [] 0 0 := Stand.of_body B
    have hh0 : s₁.heap = s.heap := by rw [B.state]; rfl
    have hsz : scr.slots.size = xs.length := by rw [← Array.length_toList, hlist, List.length_map]
    have hval : ∀ j : Nat, j < xs.length → scr.slots[j]? = some (.int (xs.getD j 0)) := fun j hj => by
      rw [← Array.getElem?_toList, hlist]
      simp [hj]
    have hbl : b < s.heap.size := (Array.getElem?_eq_some_iff.mp hcb).1
    have hX : va_X b xs.length (fun j => xs.getD j 0) s s.heap := ⟨scr, hcb, hof, hkn, hsz, hval⟩
    have K : W p l e room_1 s m #[Value.ref b] below meth c s₁.heap [] 0 0 (lw_Z below #[Value.ref b] s) (entryFrame m ([Value.ref b] : List Value).toArray 4) := by
      rw [hh0]
      exact whole_start l hbd ⟨B.exec, B.bytes, B.returns, hml, hown, hts, hX, hbl, B.notSynchronized, hgv⟩
    obtain ⟨t, a1, o, b1, b2, b3⟩ := K s₁ rfl X₀
    exact ⟨t, o, a1, b1, b2, b3⟩
theorem lw_pre_spec {args : Array Value} {s : State} (h : (Jvm.Cond.and given_1 narrow_1).before args s = true) (hr : rest_1_c.before args s = true) : ∃ (b : Addr) (xs : List Int32), lw_P b xs args s := by
  have hs := flat_of_before _ h
  have hq := flat_of_before _ hr
  have hc : (Cond.count 1).before args s = true := hs _ (by decide +kernel)
  have harr : (Cond.arrayOf (.arg 0) .int).before args s = true := hs _ (by decide +kernel)
  have hle : (Cond.le (.length (.arg 0)) (.int 192)).before args s = true := hs _ (by decide +kernel)
  have hlen : (Cond.isInt (.length (.arg 0))).before args s = true := hq _ (by decide +kernel)
  have hall : (Cond.all (.arg 0) (.isInt (.elem (.arg 0) (.index 0)))).before args s = true := hq _ (by decide +kernel)
  obtain ⟨b, xs, hb, hx⟩ := State.ints_of_pre rfl harr hlen hall
  have hsm : xs.length < 2 ^ 31 := hx.choose_spec.2.2.2
  have hev : (Term.length (.arg 0)).eval args s none [] s = some (.int xs.length.toInt32) := hx.length_eval hb
  have hv := Cond.le_ints hev (show (Term.int 192).eval args s none [] s = some (.int 192) from rfl)
  have hd : xs.length.toInt32 ≤ 192 := by
    simpa [Cond.before, Cond.holds, hv] using hle
  have hN : xs.length ≤ 192 := (Int32.ofNat_le_ofNat hsm (by decide)).mp (show Int32.ofNat xs.length ≤ Int32.ofNat 192 from hd)
  exact ⟨b, xs, Cond.one_arg hc (show args[0]? = some (.ref b) from hb), hx, hN, h⟩
theorem lw_comes (l : Launch) : Comes l x (Jvm.Cond.code x code maxLocals ret :: tables_1) room_1 (fun tb e args s => Calls_1 tb e args s ∧ rest_1 tb e args s ∧ Pre_1 tb e args s)
    (fun _ _ args s o t => lw_Q args s o t) := by
  intro p e ha hc hk s m args below hf hfit hheap happ hpre
  obtain ⟨b, xs, hP⟩ := lw_pre_spec hpre.2.2 hpre.2.1
  obtain ⟨k, o, h1, h2, h3, hQ⟩ := lw_walk l b xs p e ha hc hk s m args below hf ((Spec.applies_iff_loose hf).mp happ).1 hP trivial
  exact ⟨k, o, h1, h2, h3, hQ⟩
theorem lw_frame {s t : State} {o : Outcome} {args : Array Value} (h : Framed s o t [] 600000 7302250) :
    Framed s o t (fieldLocs frame_1_writes args s ++ arrayLocs frame_1_arrays args s ++ staticLocs frame_1_statics s) 600000 7302250 := h
theorem lw_limb (L : Cond) (hL : ∀ (args : Array Value) (s t : State), L.after args s (.returned (some (.int 1))) t = true) :
    ArmFor flags0 classFile x code maxLocals ret World_1 tables_1 room_1 Calls_1 rest_1 Pre_1
      (fun tb e a s o t => postC L tb e a s o t ∧ Framed s o t (fieldLocs frame_1_writes a s ++ arrayLocs frame_1_arrays a s ++ staticLocs frame_1_statics s) 600000 7302250) := by
  intro l _ _ _ p e ha hc hk s m args below hf hfit hheap happ hpre
  obtain ⟨k, o, h1, h2, h3, rfl, hF⟩ := lw_comes l p e ha hc hk s m args below hf hfit hheap happ hpre
  exact ⟨k, _, h1, h2, h3, hL args s _, lw_frame hF⟩
theorem i_vc : Claimed_1_1 ∧ Claimed_1_2 := ⟨lw_limb limb_1_1 (fun args s t => by simp [limb_1_1, Cond.after, Cond.holds, Cond.value]), lw_limb limb_1_2 (fun args s t => Cond.after_iff.mpr (by
  first | (rw [show limb_1_2 = Cond.eq .result (.int 1) from rfl, Cond.eq_ints (x := 1) (y := 1) rfl rfl]; simp; done) | (simp [limb_1_2, Cond.value, Term.eval]; done)))⟩
end
