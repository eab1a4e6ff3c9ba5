section
-- ===== PART A: goes FIRST, ahead of the names: the tables' words, and 'selects' of the private methods out of them =====
/-- a private method of a class that the tables say can be made, by its rows of tables_1 -/
def lw_okq (q : MethodName × Nat) : Prop := (q.1.cls ≠ "java/lang/invoke/MethodHandle" ∧ q.1.cls ≠ "java/lang/invoke/VarHandle") ∧ Cond.instantiable q.1.cls q.2 ∈ tables_1 ∧ Cond.privateMethod q.1 ∈ tables_1 ∧ Cond.instanceMethod q.1 ∈ tables_1
set_option maxRecDepth 100000
theorem lw_t1 {w : Cond} (h : w ∈ tables_1_1) : w ∈ tables_1 := List.mem_append_left _ h
theorem lw_t2 {w : Cond} (h : w ∈ tables_1_2) : w ∈ tables_1 := List.mem_append_right _ h
theorem lw_p0 : lw_okq (⟨"FragmentHouse$Fragments", "find", "(III)I"⟩, 3) := ⟨⟨by decide +kernel, by decide +kernel⟩, lw_t1 (List.mem_of_getElem? (i := 16) rfl), lw_t1 (List.mem_of_getElem? (i := 119) rfl), lw_t1 (List.mem_of_getElem? (i := 120) rfl)⟩
theorem lw_p1 : lw_okq (⟨"FragmentHouse$Fragments", "remove", "(I)V"⟩, 3) := ⟨⟨by decide +kernel, by decide +kernel⟩, lw_t1 (List.mem_of_getElem? (i := 16) rfl), lw_t1 (List.mem_of_getElem? (i := 138) rfl), lw_t1 (List.mem_of_getElem? (i := 139) rfl)⟩
theorem lw_p2 : lw_okq (⟨"FragmentHouseModel", "word", "(I)V"⟩, 13) := ⟨⟨by decide +kernel, by decide +kernel⟩, lw_t1 (List.mem_of_getElem? (i := 179) rfl), lw_t1 (List.mem_of_getElem? (i := 230) rfl), lw_t1 (List.mem_of_getElem? (i := 231) rfl)⟩
theorem lw_p3 : lw_okq (⟨"FragmentHouseModel", "find", "(III)I"⟩, 13) := ⟨⟨by decide +kernel, by decide +kernel⟩, lw_t1 (List.mem_of_getElem? (i := 179) rfl), lw_t2 (List.mem_of_getElem? (i := 2) rfl), lw_t2 (List.mem_of_getElem? (i := 3) rfl)⟩
theorem lw_p4 : lw_okq (⟨"FragmentHouseModel", "begin", "(III)I"⟩, 13) := ⟨⟨by decide +kernel, by decide +kernel⟩, lw_t1 (List.mem_of_getElem? (i := 179) rfl), lw_t2 (List.mem_of_getElem? (i := 6) rfl), lw_t2 (List.mem_of_getElem? (i := 7) rfl)⟩
def lw_privs_1 : List (MethodName × Nat) := [(⟨"FragmentHouse$Fragments", "find", "(III)I"⟩, 3), (⟨"FragmentHouse$Fragments", "remove", "(I)V"⟩, 3), (⟨"FragmentHouseModel", "word", "(I)V"⟩, 13), (⟨"FragmentHouseModel", "find", "(III)I"⟩, 13), (⟨"FragmentHouseModel", "begin", "(III)I"⟩, 13)]
theorem lw_r1 : ∀ q ∈ lw_privs_1, lw_okq q := List.forall_mem_cons.mpr ⟨lw_p0, List.forall_mem_cons.mpr ⟨lw_p1, List.forall_mem_cons.mpr ⟨lw_p2, List.forall_mem_cons.mpr ⟨lw_p3, List.forall_mem_cons.mpr ⟨lw_p4, fun _ h => absurd h List.not_mem_nil⟩⟩⟩⟩⟩
def lw_privs : List (MethodName × Nat) := lw_privs_1
def lw_tbl : List Cond := k2_sels lw_privs ++ tables_1
theorem lw_privs_ok : ∀ q ∈ lw_privs, lw_okq q := lw_r1
-- ===== ONE list of words for every method: the tables' words that hold all through a run =====
def lw_all : List Cond := lw_tbl.filter goodWord
/-- a word of the tables by its place: claim/WORDS.tsv -/
theorem lw_w {w : Cond} (i : Nat) (h : lw_tbl[i]? = some w) (g : goodWord w = true) : w ∈ lw_all := List.mem_filter.mpr ⟨List.mem_of_getElem? h, g⟩
theorem lw_all_tbl {w : Cond} (h : w ∈ lw_all) : w ∈ lw_tbl := (List.mem_filter.mp h).1
theorem lw_self : GoodIn lw_all lw_all := fun w h => ⟨h, good_of_word (List.mem_filter.mp h).2⟩
/-- a class's field words, by their places -/
theorem lw_in (ws : List Cond) (ps : List Nat) (hp : ws = ps.filterMap (fun i => lw_tbl[i]?)) (hg : ws.all goodWord = true) : ∀ w ∈ ws, w ∈ lw_all := by
  intro w h
  have h1 := List.all_eq_true.mp hg w h
  rw [hp] at h
  obtain ⟨i, -, hi⟩ := List.mem_filterMap.mp h
  exact lw_w i hi h1
/-- the words of a contract for the method y with code b, L locals, answer r -/
abbrev ws_ (y : MethodName) (b : ByteArray) (L : Nat) (r : Option FieldType) : List Cond := Cond.code y b L r :: lw_all
theorem lw_meth {y : MethodName} {b : ByteArray} {L : Nat} {r : Option FieldType} (h : Cond.code y b L r ∈ lw_all) : GoodIn lw_all (ws_ y b L r) := by
  intro w hw
  rcases List.mem_cons.mp hw with e | e
  · rw [e]
    exact lw_self _ h
  · exact lw_self _ e
theorem lw_app {a c : List Cond} (ha : ∀ w ∈ a, w ∈ lw_all) (hc : GoodIn lw_all c) : GoodIn lw_all (a ++ c) := by
  intro w hw
  rcases List.mem_append.mp hw with e | e
  · exact lw_self w (ha w e)
  · exact hc w e
/-- what a call through an object asks: cwV n hts (lw_V ..) -/
theorem lw_V {own : String} {idx : Nat} {C : String} {y : MethodName} {b : ByteArray} {L : Nat} {r : Option FieldType} (h1 : Cond.methodLink own idx y ∈ lw_all) (h2 : Cond.instanceMethod y ∈ lw_all) (h3 : Cond.selects C y y ∈ lw_all) (h4 : Cond.initialized C ∈ lw_all) (h5 : Cond.code y b L r ∈ lw_all) : GoodIn lw_all (wsV own idx C y (ws_ y b L r)) := by
  refine lw_app ?_ (lw_meth h5)
  intro w hw
  simp only [List.mem_cons, List.not_mem_nil, or_false] at hw
  rcases hw with e | e | e | e
  · rw [e]; exact h1
  · rw [e]; exact h2
  · rw [e]; exact h3
  · rw [e]; exact h4
/-- what a static call asks: va_cwS n hts (lw_S ..) -/
theorem lw_S {own : String} {idx : Nat} {y : MethodName} {b : ByteArray} {L : Nat} {r : Option FieldType} (h1 : Cond.methodLink own idx y ∈ lw_all) (h2 : Cond.static y ∈ lw_all) (h3 : Cond.initialized y.cls ∈ lw_all) (h4 : Cond.code y b L r ∈ lw_all) : GoodIn lw_all (va_wsS own idx y (ws_ y b L r)) := by
  refine lw_app ?_ (lw_meth h4)
  intro w hw
  simp only [List.mem_cons, List.not_mem_nil, or_false] at hw
  rcases hw with e | e | e
  · rw [e]; exact h1
  · rw [e]; exact h2
  · rw [e]; exact h3
/-- the words of a contract for a method WITH HANDLERS (hh: its table) -/
abbrev wsW_ (y : MethodName) (b : ByteArray) (L : Nat) (r : Option FieldType) (hh : List (Nat × Nat × Nat × Nat)) : List Cond := Cond.codeWith y b L r hh :: lw_all
theorem lw_methW {y : MethodName} {b : ByteArray} {L : Nat} {r : Option FieldType} {hh : List (Nat × Nat × Nat × Nat)} (h : Cond.codeWith y b L r hh ∈ lw_all) : GoodIn lw_all (wsW_ y b L r hh) := by
  intro w hw
  rcases List.mem_cons.mp hw with e | e
  · rw [e]
    exact lw_self _ h
  · exact lw_self _ e
/-- any list of words by their places (lw_in), good -/
theorem lw_good {ws : List Cond} (h : ∀ w ∈ ws, w ∈ lw_all) : GoodIn lw_all ws := fun w hw => lw_self w (h w hw)
/-- what a call of a method with handlers asks: vx_cwVW n hts (lw_VW ..), vx_cwSW n hts (lw_SW ..) -/
theorem lw_VW {own : String} {idx : Nat} {C : String} {y : MethodName} {b : ByteArray} {L : Nat} {r : Option FieldType} {hh : List (Nat × Nat × Nat × Nat)} (h1 : Cond.methodLink own idx y ∈ lw_all) (h2 : Cond.instanceMethod y ∈ lw_all) (h3 : Cond.selects C y y ∈ lw_all) (h4 : Cond.initialized C ∈ lw_all) (h5 : Cond.codeWith y b L r hh ∈ lw_all) : GoodIn lw_all (wsV own idx C y (wsW_ y b L r hh)) := by
  refine lw_app ?_ (lw_methW h5)
  intro w hw
  simp only [List.mem_cons, List.not_mem_nil, or_false] at hw
  rcases hw with e | e | e | e
  · rw [e]; exact h1
  · rw [e]; exact h2
  · rw [e]; exact h3
  · rw [e]; exact h4
theorem lw_SW {own : String} {idx : Nat} {y : MethodName} {b : ByteArray} {L : Nat} {r : Option FieldType} {hh : List (Nat × Nat × Nat × Nat)} (h1 : Cond.methodLink own idx y ∈ lw_all) (h2 : Cond.static y ∈ lw_all) (h3 : Cond.initialized y.cls ∈ lw_all) (h4 : Cond.codeWith y b L r hh ∈ lw_all) : GoodIn lw_all (va_wsS own idx y (wsW_ y b L r hh)) := by
  refine lw_app ?_ (lw_methW h4)
  intro w hw
  simp only [List.mem_cons, List.not_mem_nil, or_false] at hw
  rcases hw with e | e | e
  · rw [e]; exact h1
  · rw [e]; exact h2
  · rw [e]; exact h3
/-- a word by its place in its run of the tables -/
theorem lw_at {r : List Cond} (hr : ∀ w ∈ r, w ∈ lw_tbl) {w : Cond} (i : Nat) (h : r[i]? = some w) : w ∈ lw_tbl := hr w (List.mem_of_getElem? h)
theorem lw_g {w : Cond} (h : w ∈ lw_tbl) (g : goodWord w = true) : w ∈ lw_all := List.mem_filter.mpr ⟨h, g⟩
theorem lw_ms : ∀ w ∈ k2_sels lw_privs, w ∈ lw_tbl := fun w h => show w ∈ k2_sels lw_privs ++ tables_1 from List.mem_append_left _ h
theorem lw_m1 : ∀ w ∈ tables_1_1, w ∈ lw_tbl := fun w h => show w ∈ k2_sels lw_privs ++ tables_1 from List.mem_append_right (k2_sels lw_privs) (show w ∈ tables_1 from List.mem_append_left _ h)
theorem lw_m2 : ∀ w ∈ tables_1_2, w ∈ lw_tbl := fun w h => show w ∈ k2_sels lw_privs ++ tables_1 from List.mem_append_right (k2_sels lw_privs) (show w ∈ tables_1 from List.mem_append_right _ h)
theorem qs0 : (Cond.selects "FragmentHouse$Fragments" ⟨"FragmentHouse$Fragments", "find", "(III)I"⟩ ⟨"FragmentHouse$Fragments", "find", "(III)I"⟩) ∈ lw_all := lw_g (lw_at lw_ms 0 rfl) rfl
theorem qs1 : (Cond.selects "FragmentHouse$Fragments" ⟨"FragmentHouse$Fragments", "remove", "(I)V"⟩ ⟨"FragmentHouse$Fragments", "remove", "(I)V"⟩) ∈ lw_all := lw_g (lw_at lw_ms 1 rfl) rfl
theorem qs2 : (Cond.selects "FragmentHouseModel" ⟨"FragmentHouseModel", "word", "(I)V"⟩ ⟨"FragmentHouseModel", "word", "(I)V"⟩) ∈ lw_all := lw_g (lw_at lw_ms 2 rfl) rfl
theorem qs3 : (Cond.selects "FragmentHouseModel" ⟨"FragmentHouseModel", "find", "(III)I"⟩ ⟨"FragmentHouseModel", "find", "(III)I"⟩) ∈ lw_all := lw_g (lw_at lw_ms 3 rfl) rfl
theorem qs4 : (Cond.selects "FragmentHouseModel" ⟨"FragmentHouseModel", "begin", "(III)I"⟩ ⟨"FragmentHouseModel", "begin", "(III)I"⟩) ∈ lw_all := lw_g (lw_at lw_ms 4 rfl) rfl
end
section
/-! FragmentHouse -/
set_option maxRecDepth 100000
def RX0 : String := "FragmentHouse"
def TX0 : u_T := fun k => match k with
  | 0 => ("FragmentHouse", "tray", "[B", true)
  | 1 => ("FragmentHouse", "trayed", "I", false)
  | 2 => ("FragmentHouse", "fragments", "LFragmentHouse$Fragments;", true)
  | 3 => ("FragmentHouse", "now", "I", false)
  | 4 => ("FragmentHouse", "whole", "[B", true)
  | _ => ("FragmentHouse", "wholeLength", "I", false)
def tyX0 : Nat → FieldType := fun k => match k with
  | 0 => .array .byte
  | 1 => .int
  | 2 => .object "FragmentHouse$Fragments"
  | 3 => .int
  | 4 => .array .byte
  | _ => .int
abbrev wsX00 : List Cond := u_ws RX0 TX0 6
theorem nmX0 : ∀ a, a < 6 → ∀ b, b < 6 → a ≠ b → (TX0 a).2.1 ≠ (TX0 b).2.1 := by decide +kernel
theorem tyX0_ok : ∀ k, k < 6 → parseFieldDescriptor (TX0 k).2.2.1 = some (tyX0 k) := by decide +kernel
abbrev cX0_init : ByteArray := prog_1_method_1_code
def yX0_init : MethodName := ⟨RX0, "<init>", "()V"⟩
theorem dX0_init_0 : decode cX0_init 0 = .ok (.aload_n 0, 1) := by decide +kernel
theorem dX0_init_1 : decode cX0_init 1 = .ok (.invokespecial 1, 3) := by decide +kernel
theorem dX0_init_4 : decode cX0_init 4 = .ok (.aload_n 0, 1) := by decide +kernel
theorem dX0_init_5 : decode cX0_init 5 = .ok (.sipush 1480, 3) := by decide +kernel
theorem dX0_init_8 : decode cX0_init 8 = .ok (.newarray .byte, 2) := by decide +kernel
theorem dX0_init_10 : decode cX0_init 10 = .ok (.putfield 9, 3) := by decide +kernel
theorem dX0_init_13 : decode cX0_init 13 = .ok (.aload_n 0, 1) := by decide +kernel
theorem dX0_init_14 : decode cX0_init 14 = .ok (.new 13, 3) := by decide +kernel
theorem dX0_init_17 : decode cX0_init 17 = .ok (.dup, 1) := by decide +kernel
theorem dX0_init_18 : decode cX0_init 18 = .ok (.invokespecial 15, 3) := by decide +kernel
theorem dX0_init_21 : decode cX0_init 21 = .ok (.putfield 16, 3) := by decide +kernel
theorem dX0_init_24 : decode cX0_init 24 = .ok (.aload_n 0, 1) := by decide +kernel
theorem dX0_init_25 : decode cX0_init 25 = .ok (.sipush 4096, 3) := by decide +kernel
theorem dX0_init_28 : decode cX0_init 28 = .ok (.newarray .byte, 2) := by decide +kernel
theorem dX0_init_30 : decode cX0_init 30 = .ok (.putfield 20, 3) := by decide +kernel
theorem dX0_init_33 : decode cX0_init 33 = .ok (.aload_n 0, 1) := by decide +kernel
theorem dX0_init_34 : decode cX0_init 34 = .ok (.iconst (-1), 1) := by decide +kernel
theorem dX0_init_35 : decode cX0_init 35 = .ok (.putfield 23, 3) := by decide +kernel
theorem dX0_init_38 : decode cX0_init 38 = .ok (.aload_n 0, 1) := by decide +kernel
theorem dX0_init_39 : decode cX0_init 39 = .ok (.getfield 16, 3) := by decide +kernel
theorem dX0_init_42 : decode cX0_init 42 = .ok (.invokevirtual 27, 3) := by decide +kernel
theorem dX0_init_45 : decode cX0_init 45 = .ok (.return_, 1) := by decide +kernel
abbrev cX0_feed : ByteArray := prog_1_method_2_code
def yX0_feed : MethodName := ⟨RX0, "feed", "(IIIII)I"⟩
theorem dX0_feed_0 : decode cX0_feed 0 = .ok (.aload_n 0, 1) := by decide +kernel
theorem dX0_feed_1 : decode cX0_feed 1 = .ok (.getfield 30, 3) := by decide +kernel
theorem dX0_feed_4 : decode cX0_feed 4 = .ok (.bipush 20, 2) := by decide +kernel
theorem dX0_feed_6 : decode cX0_feed 6 = .ok (.iadd, 1) := by decide +kernel
theorem dX0_feed_7 : decode cX0_feed 7 = .ok (.sipush 1480, 3) := by decide +kernel
theorem dX0_feed_10 : decode cX0_feed 10 = .ok (.if_icmp .le 5, 3) := by decide +kernel
theorem dX0_feed_13 : decode cX0_feed 13 = .ok (.iconst (-1), 1) := by decide +kernel
theorem dX0_feed_14 : decode cX0_feed 14 = .ok (.ireturn, 1) := by decide +kernel
theorem dX0_feed_15 : decode cX0_feed 15 = .ok (.aload_n 0, 1) := by decide +kernel
theorem dX0_feed_16 : decode cX0_feed 16 = .ok (.getfield 9, 3) := by decide +kernel
theorem dX0_feed_19 : decode cX0_feed 19 = .ok (.aload_n 0, 1) := by decide +kernel
theorem dX0_feed_20 : decode cX0_feed 20 = .ok (.getfield 30, 3) := by decide +kernel
theorem dX0_feed_23 : decode cX0_feed 23 = .ok (.iload_n 1, 1) := by decide +kernel
theorem dX0_feed_24 : decode cX0_feed 24 = .ok (.invokestatic 33, 3) := by decide +kernel
theorem dX0_feed_27 : decode cX0_feed 27 = .ok (.aload_n 0, 1) := by decide +kernel
theorem dX0_feed_28 : decode cX0_feed 28 = .ok (.getfield 9, 3) := by decide +kernel
theorem dX0_feed_31 : decode cX0_feed 31 = .ok (.aload_n 0, 1) := by decide +kernel
theorem dX0_feed_32 : decode cX0_feed 32 = .ok (.getfield 30, 3) := by decide +kernel
theorem dX0_feed_35 : decode cX0_feed 35 = .ok (.iconst 4, 1) := by decide +kernel
theorem dX0_feed_36 : decode cX0_feed 36 = .ok (.iadd, 1) := by decide +kernel
theorem dX0_feed_37 : decode cX0_feed 37 = .ok (.iload_n 2, 1) := by decide +kernel
theorem dX0_feed_38 : decode cX0_feed 38 = .ok (.invokestatic 33, 3) := by decide +kernel
theorem dX0_feed_41 : decode cX0_feed 41 = .ok (.aload_n 0, 1) := by decide +kernel
theorem dX0_feed_42 : decode cX0_feed 42 = .ok (.getfield 9, 3) := by decide +kernel
theorem dX0_feed_45 : decode cX0_feed 45 = .ok (.aload_n 0, 1) := by decide +kernel
theorem dX0_feed_46 : decode cX0_feed 46 = .ok (.getfield 30, 3) := by decide +kernel
theorem dX0_feed_49 : decode cX0_feed 49 = .ok (.bipush 8, 2) := by decide +kernel
theorem dX0_feed_51 : decode cX0_feed 51 = .ok (.iadd, 1) := by decide +kernel
theorem dX0_feed_52 : decode cX0_feed 52 = .ok (.iload_n 3, 1) := by decide +kernel
theorem dX0_feed_53 : decode cX0_feed 53 = .ok (.invokestatic 33, 3) := by decide +kernel
theorem dX0_feed_56 : decode cX0_feed 56 = .ok (.aload_n 0, 1) := by decide +kernel
theorem dX0_feed_57 : decode cX0_feed 57 = .ok (.getfield 9, 3) := by decide +kernel
theorem dX0_feed_60 : decode cX0_feed 60 = .ok (.aload_n 0, 1) := by decide +kernel
theorem dX0_feed_61 : decode cX0_feed 61 = .ok (.getfield 30, 3) := by decide +kernel
theorem dX0_feed_64 : decode cX0_feed 64 = .ok (.bipush 12, 2) := by decide +kernel
theorem dX0_feed_66 : decode cX0_feed 66 = .ok (.iadd, 1) := by decide +kernel
theorem dX0_feed_67 : decode cX0_feed 67 = .ok (.iload 4, 2) := by decide +kernel
theorem dX0_feed_69 : decode cX0_feed 69 = .ok (.invokestatic 33, 3) := by decide +kernel
theorem dX0_feed_72 : decode cX0_feed 72 = .ok (.aload_n 0, 1) := by decide +kernel
theorem dX0_feed_73 : decode cX0_feed 73 = .ok (.getfield 9, 3) := by decide +kernel
theorem dX0_feed_76 : decode cX0_feed 76 = .ok (.aload_n 0, 1) := by decide +kernel
theorem dX0_feed_77 : decode cX0_feed 77 = .ok (.getfield 30, 3) := by decide +kernel
theorem dX0_feed_80 : decode cX0_feed 80 = .ok (.bipush 16, 2) := by decide +kernel
theorem dX0_feed_82 : decode cX0_feed 82 = .ok (.iadd, 1) := by decide +kernel
theorem dX0_feed_83 : decode cX0_feed 83 = .ok (.iload 5, 2) := by decide +kernel
theorem dX0_feed_85 : decode cX0_feed 85 = .ok (.invokestatic 33, 3) := by decide +kernel
theorem dX0_feed_88 : decode cX0_feed 88 = .ok (.aload_n 0, 1) := by decide +kernel
theorem dX0_feed_89 : decode cX0_feed 89 = .ok (.dup, 1) := by decide +kernel
theorem dX0_feed_90 : decode cX0_feed 90 = .ok (.getfield 30, 3) := by decide +kernel
theorem dX0_feed_93 : decode cX0_feed 93 = .ok (.bipush 20, 2) := by decide +kernel
theorem dX0_feed_95 : decode cX0_feed 95 = .ok (.iadd, 1) := by decide +kernel
theorem dX0_feed_96 : decode cX0_feed 96 = .ok (.putfield 30, 3) := by decide +kernel
theorem dX0_feed_99 : decode cX0_feed 99 = .ok (.aload_n 0, 1) := by decide +kernel
theorem dX0_feed_100 : decode cX0_feed 100 = .ok (.getfield 30, 3) := by decide +kernel
theorem dX0_feed_103 : decode cX0_feed 103 = .ok (.ireturn, 1) := by decide +kernel
abbrev cX0_end : ByteArray := prog_1_method_3_code
def yX0_end : MethodName := ⟨RX0, "end", "(I)I"⟩
theorem dX0_end_0 : decode cX0_end 0 = .ok (.iload_n 1, 1) := by decide +kernel
theorem dX0_end_1 : decode cX0_end 1 = .ok (.ifCond .lt 11, 3) := by decide +kernel
theorem dX0_end_4 : decode cX0_end 4 = .ok (.iload_n 1, 1) := by decide +kernel
theorem dX0_end_5 : decode cX0_end 5 = .ok (.aload_n 0, 1) := by decide +kernel
theorem dX0_end_6 : decode cX0_end 6 = .ok (.getfield 30, 3) := by decide +kernel
theorem dX0_end_9 : decode cX0_end 9 = .ok (.if_icmp .le 5, 3) := by decide +kernel
theorem dX0_end_12 : decode cX0_end 12 = .ok (.iconst (-1), 1) := by decide +kernel
theorem dX0_end_13 : decode cX0_end 13 = .ok (.ireturn, 1) := by decide +kernel
theorem dX0_end_14 : decode cX0_end 14 = .ok (.aload_n 0, 1) := by decide +kernel
theorem dX0_end_15 : decode cX0_end 15 = .ok (.iload_n 1, 1) := by decide +kernel
theorem dX0_end_16 : decode cX0_end 16 = .ok (.putfield 30, 3) := by decide +kernel
theorem dX0_end_19 : decode cX0_end 19 = .ok (.iload_n 1, 1) := by decide +kernel
theorem dX0_end_20 : decode cX0_end 20 = .ok (.ireturn, 1) := by decide +kernel
abbrev cX0_take : ByteArray := prog_1_method_4_code
def yX0_take : MethodName := ⟨RX0, "take", "(IIIIZ)I"⟩
theorem dX0_take_0 : decode cX0_take 0 = .ok (.iload 4, 2) := by decide +kernel
theorem dX0_take_2 : decode cX0_take 2 = .ok (.ifCond .lt 11, 3) := by decide +kernel
theorem dX0_take_5 : decode cX0_take 5 = .ok (.iload 4, 2) := by decide +kernel
theorem dX0_take_7 : decode cX0_take 7 = .ok (.sipush 8191, 3) := by decide +kernel
theorem dX0_take_10 : decode cX0_take 10 = .ok (.if_icmp .le 6, 3) := by decide +kernel
theorem dX0_take_13 : decode cX0_take 13 = .ok (.bipush (-4), 2) := by decide +kernel
theorem dX0_take_15 : decode cX0_take 15 = .ok (.ireturn, 1) := by decide +kernel
theorem dX0_take_16 : decode cX0_take 16 = .ok (.aload_n 0, 1) := by decide +kernel
theorem dX0_take_17 : decode cX0_take 17 = .ok (.getfield 30, 3) := by decide +kernel
theorem dX0_take_20 : decode cX0_take 20 = .ok (.istore 6, 2) := by decide +kernel
theorem dX0_take_22 : decode cX0_take 22 = .ok (.aload_n 0, 1) := by decide +kernel
theorem dX0_take_23 : decode cX0_take 23 = .ok (.iconst 0, 1) := by decide +kernel
theorem dX0_take_24 : decode cX0_take 24 = .ok (.putfield 30, 3) := by decide +kernel
theorem dX0_take_27 : decode cX0_take 27 = .ok (.iload 5, 2) := by decide +kernel
theorem dX0_take_29 : decode cX0_take 29 = .ok (.ifCond .ne 18, 3) := by decide +kernel
theorem dX0_take_32 : decode cX0_take 32 = .ok (.iload 6, 2) := by decide +kernel
theorem dX0_take_34 : decode cX0_take 34 = .ok (.bipush 8, 2) := by decide +kernel
theorem dX0_take_36 : decode cX0_take 36 = .ok (.if_icmp .lt 25, 3) := by decide +kernel
theorem dX0_take_39 : decode cX0_take 39 = .ok (.iload 6, 2) := by decide +kernel
theorem dX0_take_41 : decode cX0_take 41 = .ok (.bipush 8, 2) := by decide +kernel
theorem dX0_take_43 : decode cX0_take 43 = .ok (.irem, 1) := by decide +kernel
theorem dX0_take_44 : decode cX0_take 44 = .ok (.ifCond .ne 17, 3) := by decide +kernel
theorem dX0_take_47 : decode cX0_take 47 = .ok (.bipush 8, 2) := by decide +kernel
theorem dX0_take_49 : decode cX0_take 49 = .ok (.iload 4, 2) := by decide +kernel
theorem dX0_take_51 : decode cX0_take 51 = .ok (.imul, 1) := by decide +kernel
theorem dX0_take_52 : decode cX0_take 52 = .ok (.iload 6, 2) := by decide +kernel
theorem dX0_take_54 : decode cX0_take 54 = .ok (.iadd, 1) := by decide +kernel
theorem dX0_take_55 : decode cX0_take 55 = .ok (.sipush 4096, 3) := by decide +kernel
theorem dX0_take_58 : decode cX0_take 58 = .ok (.if_icmp .le 6, 3) := by decide +kernel
theorem dX0_take_61 : decode cX0_take 61 = .ok (.bipush (-2), 2) := by decide +kernel
theorem dX0_take_63 : decode cX0_take 63 = .ok (.ireturn, 1) := by decide +kernel
theorem dX0_take_64 : decode cX0_take 64 = .ok (.aload_n 0, 1) := by decide +kernel
theorem dX0_take_65 : decode cX0_take 65 = .ok (.getfield 16, 3) := by decide +kernel
theorem dX0_take_68 : decode cX0_take 68 = .ok (.getfield 39, 3) := by decide +kernel
theorem dX0_take_71 : decode cX0_take 71 = .ok (.istore 7, 2) := by decide +kernel
theorem dX0_take_73 : decode cX0_take 73 = .ok (.aload_n 0, 1) := by decide +kernel
theorem dX0_take_74 : decode cX0_take 74 = .ok (.getfield 16, 3) := by decide +kernel
theorem dX0_take_77 : decode cX0_take 77 = .ok (.iload_n 1, 1) := by decide +kernel
theorem dX0_take_78 : decode cX0_take 78 = .ok (.iload_n 2, 1) := by decide +kernel
theorem dX0_take_79 : decode cX0_take 79 = .ok (.iload_n 3, 1) := by decide +kernel
theorem dX0_take_80 : decode cX0_take 80 = .ok (.invokevirtual 42, 3) := by decide +kernel
theorem dX0_take_83 : decode cX0_take 83 = .ok (.istore 8, 2) := by decide +kernel
theorem dX0_take_85 : decode cX0_take 85 = .ok (.iload 8, 2) := by decide +kernel
theorem dX0_take_87 : decode cX0_take 87 = .ok (.ifCond .ne 12, 3) := by decide +kernel
theorem dX0_take_90 : decode cX0_take 90 = .ok (.iload 7, 2) := by decide +kernel
theorem dX0_take_92 : decode cX0_take 92 = .ok (.iconst 4, 1) := by decide +kernel
theorem dX0_take_93 : decode cX0_take 93 = .ok (.if_icmp .ne 6, 3) := by decide +kernel
theorem dX0_take_96 : decode cX0_take 96 = .ok (.bipush (-2), 2) := by decide +kernel
theorem dX0_take_98 : decode cX0_take 98 = .ok (.ireturn, 1) := by decide +kernel
theorem dX0_take_99 : decode cX0_take 99 = .ok (.aload_n 0, 1) := by decide +kernel
theorem dX0_take_100 : decode cX0_take 100 = .ok (.getfield 16, 3) := by decide +kernel
theorem dX0_take_103 : decode cX0_take 103 = .ok (.aload_n 0, 1) := by decide +kernel
theorem dX0_take_104 : decode cX0_take 104 = .ok (.getfield 9, 3) := by decide +kernel
theorem dX0_take_107 : decode cX0_take 107 = .ok (.iconst 0, 1) := by decide +kernel
theorem dX0_take_108 : decode cX0_take 108 = .ok (.iload 6, 2) := by decide +kernel
theorem dX0_take_110 : decode cX0_take 110 = .ok (.iload_n 1, 1) := by decide +kernel
theorem dX0_take_111 : decode cX0_take 111 = .ok (.iload_n 2, 1) := by decide +kernel
theorem dX0_take_112 : decode cX0_take 112 = .ok (.iload_n 3, 1) := by decide +kernel
theorem dX0_take_113 : decode cX0_take 113 = .ok (.bipush 8, 2) := by decide +kernel
theorem dX0_take_115 : decode cX0_take 115 = .ok (.iload 4, 2) := by decide +kernel
theorem dX0_take_117 : decode cX0_take 117 = .ok (.imul, 1) := by decide +kernel
theorem dX0_take_118 : decode cX0_take 118 = .ok (.iload 5, 2) := by decide +kernel
theorem dX0_take_120 : decode cX0_take 120 = .ok (.aload_n 0, 1) := by decide +kernel
theorem dX0_take_121 : decode cX0_take 121 = .ok (.getfield 46, 3) := by decide +kernel
theorem dX0_take_124 : decode cX0_take 124 = .ok (.invokevirtual 49, 3) := by decide +kernel
theorem dX0_take_127 : decode cX0_take 127 = .ok (.astore 9, 2) := by decide +kernel
theorem dX0_take_129 : decode cX0_take 129 = .ok (.aload 9, 2) := by decide +kernel
theorem dX0_take_131 : decode cX0_take 131 = .ok (.ifnonnull 27, 3) := by decide +kernel
theorem dX0_take_134 : decode cX0_take 134 = .ok (.iload 8, 2) := by decide +kernel
theorem dX0_take_136 : decode cX0_take 136 = .ok (.ifCond .eq 20, 3) := by decide +kernel
theorem dX0_take_139 : decode cX0_take 139 = .ok (.aload_n 0, 1) := by decide +kernel
theorem dX0_take_140 : decode cX0_take 140 = .ok (.getfield 16, 3) := by decide +kernel
theorem dX0_take_143 : decode cX0_take 143 = .ok (.getfield 39, 3) := by decide +kernel
theorem dX0_take_146 : decode cX0_take 146 = .ok (.iload 7, 2) := by decide +kernel
theorem dX0_take_148 : decode cX0_take 148 = .ok (.if_icmp .ge 8, 3) := by decide +kernel
theorem dX0_take_151 : decode cX0_take 151 = .ok (.bipush (-3), 2) := by decide +kernel
theorem dX0_take_153 : decode cX0_take 153 = .ok (.goto 4, 3) := by decide +kernel
theorem dX0_take_156 : decode cX0_take 156 = .ok (.iconst (-1), 1) := by decide +kernel
theorem dX0_take_157 : decode cX0_take 157 = .ok (.ireturn, 1) := by decide +kernel
theorem dX0_take_158 : decode cX0_take 158 = .ok (.aload 9, 2) := by decide +kernel
theorem dX0_take_160 : decode cX0_take 160 = .ok (.getfield 53, 3) := by decide +kernel
theorem dX0_take_163 : decode cX0_take 163 = .ok (.iconst 0, 1) := by decide +kernel
theorem dX0_take_164 : decode cX0_take 164 = .ok (.aload_n 0, 1) := by decide +kernel
theorem dX0_take_165 : decode cX0_take 165 = .ok (.getfield 20, 3) := by decide +kernel
theorem dX0_take_168 : decode cX0_take 168 = .ok (.iconst 0, 1) := by decide +kernel
theorem dX0_take_169 : decode cX0_take 169 = .ok (.aload 9, 2) := by decide +kernel
theorem dX0_take_171 : decode cX0_take 171 = .ok (.getfield 58, 3) := by decide +kernel
theorem dX0_take_174 : decode cX0_take 174 = .ok (.invokestatic 61, 3) := by decide +kernel
theorem dX0_take_177 : decode cX0_take 177 = .ok (.aload_n 0, 1) := by decide +kernel
theorem dX0_take_178 : decode cX0_take 178 = .ok (.aload 9, 2) := by decide +kernel
theorem dX0_take_180 : decode cX0_take 180 = .ok (.getfield 58, 3) := by decide +kernel
theorem dX0_take_183 : decode cX0_take 183 = .ok (.putfield 23, 3) := by decide +kernel
theorem dX0_take_186 : decode cX0_take 186 = .ok (.aload 9, 2) := by decide +kernel
theorem dX0_take_188 : decode cX0_take 188 = .ok (.getfield 58, 3) := by decide +kernel
theorem dX0_take_191 : decode cX0_take 191 = .ok (.ireturn, 1) := by decide +kernel
abbrev cX0_pass : ByteArray := prog_1_method_5_code
def yX0_pass : MethodName := ⟨RX0, "pass", "(I)I"⟩
theorem dX0_pass_0 : decode cX0_pass 0 = .ok (.iload_n 1, 1) := by decide +kernel
theorem dX0_pass_1 : decode cX0_pass 1 = .ok (.aload_n 0, 1) := by decide +kernel
theorem dX0_pass_2 : decode cX0_pass 2 = .ok (.getfield 46, 3) := by decide +kernel
theorem dX0_pass_5 : decode cX0_pass 5 = .ok (.if_icmp .lt 9, 3) := by decide +kernel
theorem dX0_pass_8 : decode cX0_pass 8 = .ok (.iload_n 1, 1) := by decide +kernel
theorem dX0_pass_9 : decode cX0_pass 9 = .ok (.ldc 65, 2) := by decide +kernel
theorem dX0_pass_11 : decode cX0_pass 11 = .ok (.if_icmp .le 5, 3) := by decide +kernel
theorem dX0_pass_14 : decode cX0_pass 14 = .ok (.iconst (-1), 1) := by decide +kernel
theorem dX0_pass_15 : decode cX0_pass 15 = .ok (.ireturn, 1) := by decide +kernel
theorem dX0_pass_16 : decode cX0_pass 16 = .ok (.aload_n 0, 1) := by decide +kernel
theorem dX0_pass_17 : decode cX0_pass 17 = .ok (.iload_n 1, 1) := by decide +kernel
theorem dX0_pass_18 : decode cX0_pass 18 = .ok (.putfield 46, 3) := by decide +kernel
theorem dX0_pass_21 : decode cX0_pass 21 = .ok (.iconst 0, 1) := by decide +kernel
theorem dX0_pass_22 : decode cX0_pass 22 = .ok (.istore_n 2, 1) := by decide +kernel
theorem dX0_pass_23 : decode cX0_pass 23 = .ok (.aload_n 0, 1) := by decide +kernel
theorem dX0_pass_24 : decode cX0_pass 24 = .ok (.getfield 16, 3) := by decide +kernel
theorem dX0_pass_27 : decode cX0_pass 27 = .ok (.invokevirtual 66, 3) := by decide +kernel
theorem dX0_pass_30 : decode cX0_pass 30 = .ok (.aload_n 0, 1) := by decide +kernel
theorem dX0_pass_31 : decode cX0_pass 31 = .ok (.getfield 46, 3) := by decide +kernel
theorem dX0_pass_34 : decode cX0_pass 34 = .ok (.if_icmp .gt 16, 3) := by decide +kernel
theorem dX0_pass_37 : decode cX0_pass 37 = .ok (.aload_n 0, 1) := by decide +kernel
theorem dX0_pass_38 : decode cX0_pass 38 = .ok (.getfield 16, 3) := by decide +kernel
theorem dX0_pass_41 : decode cX0_pass 41 = .ok (.invokevirtual 70, 3) := by decide +kernel
theorem dX0_pass_44 : decode cX0_pass 44 = .ok (.iinc 2 1, 3) := by decide +kernel
theorem dX0_pass_47 : decode cX0_pass 47 = .ok (.goto (-24), 3) := by decide +kernel
theorem dX0_pass_50 : decode cX0_pass 50 = .ok (.iload_n 2, 1) := by decide +kernel
theorem dX0_pass_51 : decode cX0_pass 51 = .ok (.ireturn, 1) := by decide +kernel
abbrev cX0_making : ByteArray := prog_1_method_6_code
def yX0_making : MethodName := ⟨RX0, "making", "()I"⟩
theorem dX0_making_0 : decode cX0_making 0 = .ok (.aload_n 0, 1) := by decide +kernel
theorem dX0_making_1 : decode cX0_making 1 = .ok (.getfield 16, 3) := by decide +kernel
theorem dX0_making_4 : decode cX0_making 4 = .ok (.getfield 39, 3) := by decide +kernel
theorem dX0_making_7 : decode cX0_making 7 = .ok (.ireturn, 1) := by decide +kernel
abbrev cX0_made : ByteArray := prog_1_method_7_code
def yX0_made : MethodName := ⟨RX0, "made", "()I"⟩
theorem dX0_made_0 : decode cX0_made 0 = .ok (.aload_n 0, 1) := by decide +kernel
theorem dX0_made_1 : decode cX0_made 1 = .ok (.getfield 16, 3) := by decide +kernel
theorem dX0_made_4 : decode cX0_made 4 = .ok (.getfield 73, 3) := by decide +kernel
theorem dX0_made_7 : decode cX0_made 7 = .ok (.ireturn, 1) := by decide +kernel
abbrev cX0_length : ByteArray := prog_1_method_8_code
def yX0_length : MethodName := ⟨RX0, "length", "()I"⟩
theorem dX0_length_0 : decode cX0_length 0 = .ok (.aload_n 0, 1) := by decide +kernel
theorem dX0_length_1 : decode cX0_length 1 = .ok (.getfield 23, 3) := by decide +kernel
theorem dX0_length_4 : decode cX0_length 4 = .ok (.ireturn, 1) := by decide +kernel
abbrev cX0_at : ByteArray := prog_1_method_9_code
def yX0_at : MethodName := ⟨RX0, "at", "(I)I"⟩
theorem dX0_at_0 : decode cX0_at 0 = .ok (.iload_n 1, 1) := by decide +kernel
theorem dX0_at_1 : decode cX0_at 1 = .ok (.ifCond .lt 24, 3) := by decide +kernel
theorem dX0_at_4 : decode cX0_at 4 = .ok (.iload_n 1, 1) := by decide +kernel
theorem dX0_at_5 : decode cX0_at 5 = .ok (.aload_n 0, 1) := by decide +kernel
theorem dX0_at_6 : decode cX0_at 6 = .ok (.getfield 23, 3) := by decide +kernel
theorem dX0_at_9 : decode cX0_at 9 = .ok (.if_icmp .ge 16, 3) := by decide +kernel
theorem dX0_at_12 : decode cX0_at 12 = .ok (.aload_n 0, 1) := by decide +kernel
theorem dX0_at_13 : decode cX0_at 13 = .ok (.getfield 20, 3) := by decide +kernel
theorem dX0_at_16 : decode cX0_at 16 = .ok (.iload_n 1, 1) := by decide +kernel
theorem dX0_at_17 : decode cX0_at 17 = .ok (.baload, 1) := by decide +kernel
theorem dX0_at_18 : decode cX0_at 18 = .ok (.sipush 255, 3) := by decide +kernel
theorem dX0_at_21 : decode cX0_at 21 = .ok (.iand, 1) := by decide +kernel
theorem dX0_at_22 : decode cX0_at 22 = .ok (.goto 4, 3) := by decide +kernel
theorem dX0_at_25 : decode cX0_at 25 = .ok (.iconst (-1), 1) := by decide +kernel
theorem dX0_at_26 : decode cX0_at 26 = .ok (.ireturn, 1) := by decide +kernel
theorem q6 : (Jvm.Cond.initialized "FragmentHouse") ∈ lw_all := lw_g (lw_at lw_m1 1 rfl) rfl
theorem q13 : (Jvm.Cond.instantiable "FragmentHouse" (6 : Nat)) ∈ lw_all := lw_g (lw_at lw_m1 8 rfl) rfl
theorem q15 : (Jvm.Cond.instanceMethod ({ cls := "FragmentHouse", name := "<init>", desc := "()V" } : Jvm.MethodName)) ∈ lw_all := lw_g (lw_at lw_m1 10 rfl) rfl
theorem q16 : (Jvm.Cond.code ({ cls := "FragmentHouse", name := "<init>", desc := "()V" } : Jvm.MethodName) prog_1_method_1_code (1 : Nat) (Option.none : Option Jvm.ClassFile.FieldType)) ∈ lw_all := lw_g (lw_at lw_m1 11 rfl) rfl
theorem q17 : (Jvm.Cond.methodLink "FragmentHouse" (1 : Nat) ({ cls := "java/lang/Object", name := "<init>", desc := "()V" } : Jvm.MethodName)) ∈ lw_all := lw_g (lw_at lw_m1 12 rfl) rfl
theorem q20 : (Jvm.Cond.classLink "FragmentHouse" (13 : Nat) "FragmentHouse$Fragments") ∈ lw_all := lw_g (lw_at lw_m1 15 rfl) rfl
theorem q22 : (Jvm.Cond.methodLink "FragmentHouse" (15 : Nat) ({ cls := "FragmentHouse$Fragments", name := "<init>", desc := "()V" } : Jvm.MethodName)) ∈ lw_all := lw_g (lw_at lw_m1 17 rfl) rfl
theorem q42 : (Jvm.Cond.fieldLink "FragmentHouse" (53 : Nat) "FragmentHouse$Making" "bytes" "[B") ∈ lw_all := lw_g (lw_at lw_m1 37 rfl) rfl
theorem q46 : (Jvm.Cond.fieldLink "FragmentHouse" (58 : Nat) "FragmentHouse$Making" "end" "I") ∈ lw_all := lw_g (lw_at lw_m1 41 rfl) rfl
theorem q68 : (Jvm.Cond.fieldLink "FragmentHouse" (39 : Nat) "FragmentHouse$Fragments" "size" "I") ∈ lw_all := lw_g (lw_at lw_m1 63 rfl) rfl
theorem q70 : (Jvm.Cond.fieldLink "FragmentHouse" (73 : Nat) "FragmentHouse$Fragments" "made" "I") ∈ lw_all := lw_g (lw_at lw_m1 65 rfl) rfl
theorem q78 : (Jvm.Cond.methodLink "FragmentHouse" (27 : Nat) ({ cls := "FragmentHouse$Fragments", name := "begin", desc := "()V" } : Jvm.MethodName)) ∈ lw_all := lw_g (lw_at lw_m1 73 rfl) rfl
theorem q82 : (Jvm.Cond.fieldLink "FragmentHouse" (9 : Nat) "FragmentHouse" "tray" "[B") ∈ lw_all := lw_g (lw_at lw_m1 77 rfl) rfl
theorem q83 : (Jvm.Cond.fieldLink "FragmentHouse" (30 : Nat) "FragmentHouse" "trayed" "I") ∈ lw_all := lw_g (lw_at lw_m1 78 rfl) rfl
theorem q84 : (Jvm.Cond.fieldLink "FragmentHouse" (16 : Nat) "FragmentHouse" "fragments" "LFragmentHouse$Fragments;") ∈ lw_all := lw_g (lw_at lw_m1 79 rfl) rfl
theorem q85 : (Jvm.Cond.fieldLink "FragmentHouse" (46 : Nat) "FragmentHouse" "now" "I") ∈ lw_all := lw_g (lw_at lw_m1 80 rfl) rfl
theorem q86 : (Jvm.Cond.fieldLink "FragmentHouse" (20 : Nat) "FragmentHouse" "whole" "[B") ∈ lw_all := lw_g (lw_at lw_m1 81 rfl) rfl
theorem q87 : (Jvm.Cond.fieldLink "FragmentHouse" (23 : Nat) "FragmentHouse" "wholeLength" "I") ∈ lw_all := lw_g (lw_at lw_m1 82 rfl) rfl
theorem q88 : (Jvm.Cond.laysFinal "FragmentHouse" "FragmentHouse" "tray" "[B") ∈ lw_all := lw_g (lw_at lw_m1 83 rfl) rfl
theorem q89 : (Jvm.Cond.soleField "FragmentHouse" "tray") ∈ lw_all := lw_g (lw_at lw_m1 84 rfl) rfl
theorem q90 : (Jvm.Cond.lays "FragmentHouse" "FragmentHouse" "trayed" "I") ∈ lw_all := lw_g (lw_at lw_m1 85 rfl) rfl
theorem q91 : (Jvm.Cond.soleField "FragmentHouse" "trayed") ∈ lw_all := lw_g (lw_at lw_m1 86 rfl) rfl
theorem q92 : (Jvm.Cond.laysFinal "FragmentHouse" "FragmentHouse" "fragments" "LFragmentHouse$Fragments;") ∈ lw_all := lw_g (lw_at lw_m1 87 rfl) rfl
theorem q93 : (Jvm.Cond.soleField "FragmentHouse" "fragments") ∈ lw_all := lw_g (lw_at lw_m1 88 rfl) rfl
theorem q94 : (Jvm.Cond.lays "FragmentHouse" "FragmentHouse" "now" "I") ∈ lw_all := lw_g (lw_at lw_m1 89 rfl) rfl
theorem q95 : (Jvm.Cond.soleField "FragmentHouse" "now") ∈ lw_all := lw_g (lw_at lw_m1 90 rfl) rfl
theorem q96 : (Jvm.Cond.laysFinal "FragmentHouse" "FragmentHouse" "whole" "[B") ∈ lw_all := lw_g (lw_at lw_m1 91 rfl) rfl
theorem q97 : (Jvm.Cond.soleField "FragmentHouse" "whole") ∈ lw_all := lw_g (lw_at lw_m1 92 rfl) rfl
theorem q98 : (Jvm.Cond.lays "FragmentHouse" "FragmentHouse" "wholeLength" "I") ∈ lw_all := lw_g (lw_at lw_m1 93 rfl) rfl
theorem q99 : (Jvm.Cond.soleField "FragmentHouse" "wholeLength") ∈ lw_all := lw_g (lw_at lw_m1 94 rfl) rfl
theorem q100 : (Jvm.Cond.superclass "FragmentHouse" "java/lang/Object") ∈ lw_all := lw_g (lw_at lw_m1 95 rfl) rfl
theorem q102 : (Jvm.Cond.instanceMethod ({ cls := "FragmentHouse", name := "feed", desc := "(IIIII)I" } : Jvm.MethodName)) ∈ lw_all := lw_g (lw_at lw_m1 97 rfl) rfl
theorem q103 : (Jvm.Cond.selects "FragmentHouse" ({ cls := "FragmentHouse", name := "feed", desc := "(IIIII)I" } : Jvm.MethodName) ({ cls := "FragmentHouse", name := "feed", desc := "(IIIII)I" } : Jvm.MethodName)) ∈ lw_all := lw_g (lw_at lw_m1 98 rfl) rfl
theorem q104 : (Jvm.Cond.code ({ cls := "FragmentHouse", name := "feed", desc := "(IIIII)I" } : Jvm.MethodName) prog_1_method_2_code (6 : Nat) (Option.some Jvm.ClassFile.FieldType.int)) ∈ lw_all := lw_g (lw_at lw_m1 99 rfl) rfl
theorem q105 : (Jvm.Cond.methodLink "FragmentHouse" (33 : Nat) ({ cls := "FragmentHouse$Net", name := "putFour", desc := "([BII)V" } : Jvm.MethodName)) ∈ lw_all := lw_g (lw_at lw_m1 100 rfl) rfl
theorem q112 : (Jvm.Cond.instanceMethod ({ cls := "FragmentHouse", name := "end", desc := "(I)I" } : Jvm.MethodName)) ∈ lw_all := lw_g (lw_at lw_m1 107 rfl) rfl
theorem q113 : (Jvm.Cond.selects "FragmentHouse" ({ cls := "FragmentHouse", name := "end", desc := "(I)I" } : Jvm.MethodName) ({ cls := "FragmentHouse", name := "end", desc := "(I)I" } : Jvm.MethodName)) ∈ lw_all := lw_g (lw_at lw_m1 108 rfl) rfl
theorem q114 : (Jvm.Cond.code ({ cls := "FragmentHouse", name := "end", desc := "(I)I" } : Jvm.MethodName) prog_1_method_3_code (2 : Nat) (Option.some Jvm.ClassFile.FieldType.int)) ∈ lw_all := lw_g (lw_at lw_m1 109 rfl) rfl
theorem q116 : (Jvm.Cond.instanceMethod ({ cls := "FragmentHouse", name := "take", desc := "(IIIIZ)I" } : Jvm.MethodName)) ∈ lw_all := lw_g (lw_at lw_m1 111 rfl) rfl
theorem q117 : (Jvm.Cond.selects "FragmentHouse" ({ cls := "FragmentHouse", name := "take", desc := "(IIIIZ)I" } : Jvm.MethodName) ({ cls := "FragmentHouse", name := "take", desc := "(IIIIZ)I" } : Jvm.MethodName)) ∈ lw_all := lw_g (lw_at lw_m1 112 rfl) rfl
theorem q118 : (Jvm.Cond.code ({ cls := "FragmentHouse", name := "take", desc := "(IIIIZ)I" } : Jvm.MethodName) prog_1_method_4_code (10 : Nat) (Option.some Jvm.ClassFile.FieldType.int)) ∈ lw_all := lw_g (lw_at lw_m1 113 rfl) rfl
theorem q119 : (Jvm.Cond.methodLink "FragmentHouse" (42 : Nat) ({ cls := "FragmentHouse$Fragments", name := "knows", desc := "(III)Z" } : Jvm.MethodName)) ∈ lw_all := lw_g (lw_at lw_m1 114 rfl) rfl
theorem q127 : (Jvm.Cond.methodLink "FragmentHouse" (49 : Nat) ({ cls := "FragmentHouse$Fragments", name := "take", desc := "([BIIIIIIZI)LFragmentHouse$Making;" } : Jvm.MethodName)) ∈ lw_all := lw_g (lw_at lw_m1 122 rfl) rfl
theorem q150 : (Jvm.Cond.methodLink "FragmentHouse" (61 : Nat) ({ cls := "FragmentHouse$Net", name := "copy", desc := "([BI[BII)V" } : Jvm.MethodName)) ∈ lw_all := lw_g (lw_at lw_m1 145 rfl) rfl
theorem q154 : (Jvm.Cond.instanceMethod ({ cls := "FragmentHouse", name := "pass", desc := "(I)I" } : Jvm.MethodName)) ∈ lw_all := lw_g (lw_at lw_m1 149 rfl) rfl
theorem q155 : (Jvm.Cond.selects "FragmentHouse" ({ cls := "FragmentHouse", name := "pass", desc := "(I)I" } : Jvm.MethodName) ({ cls := "FragmentHouse", name := "pass", desc := "(I)I" } : Jvm.MethodName)) ∈ lw_all := lw_g (lw_at lw_m1 150 rfl) rfl
theorem q156 : (Jvm.Cond.code ({ cls := "FragmentHouse", name := "pass", desc := "(I)I" } : Jvm.MethodName) prog_1_method_5_code (3 : Nat) (Option.some Jvm.ClassFile.FieldType.int)) ∈ lw_all := lw_g (lw_at lw_m1 151 rfl) rfl
theorem q157 : (Jvm.Cond.constant "FragmentHouse" (65 : Nat) (2000000000 : Int32)) ∈ lw_all := lw_g (lw_at lw_m1 152 rfl) rfl
theorem q158 : (Jvm.Cond.methodLink "FragmentHouse" (66 : Nat) ({ cls := "FragmentHouse$Fragments", name := "due", desc := "()I" } : Jvm.MethodName)) ∈ lw_all := lw_g (lw_at lw_m1 153 rfl) rfl
theorem q163 : (Jvm.Cond.methodLink "FragmentHouse" (70 : Nat) ({ cls := "FragmentHouse$Fragments", name := "act", desc := "()V" } : Jvm.MethodName)) ∈ lw_all := lw_g (lw_at lw_m1 158 rfl) rfl
theorem q168 : (Jvm.Cond.instanceMethod ({ cls := "FragmentHouse", name := "making", desc := "()I" } : Jvm.MethodName)) ∈ lw_all := lw_g (lw_at lw_m1 163 rfl) rfl
theorem q169 : (Jvm.Cond.selects "FragmentHouse" ({ cls := "FragmentHouse", name := "making", desc := "()I" } : Jvm.MethodName) ({ cls := "FragmentHouse", name := "making", desc := "()I" } : Jvm.MethodName)) ∈ lw_all := lw_g (lw_at lw_m1 164 rfl) rfl
theorem q170 : (Jvm.Cond.code ({ cls := "FragmentHouse", name := "making", desc := "()I" } : Jvm.MethodName) prog_1_method_6_code (1 : Nat) (Option.some Jvm.ClassFile.FieldType.int)) ∈ lw_all := lw_g (lw_at lw_m1 165 rfl) rfl
theorem q172 : (Jvm.Cond.instanceMethod ({ cls := "FragmentHouse", name := "made", desc := "()I" } : Jvm.MethodName)) ∈ lw_all := lw_g (lw_at lw_m1 167 rfl) rfl
theorem q173 : (Jvm.Cond.selects "FragmentHouse" ({ cls := "FragmentHouse", name := "made", desc := "()I" } : Jvm.MethodName) ({ cls := "FragmentHouse", name := "made", desc := "()I" } : Jvm.MethodName)) ∈ lw_all := lw_g (lw_at lw_m1 168 rfl) rfl
theorem q174 : (Jvm.Cond.code ({ cls := "FragmentHouse", name := "made", desc := "()I" } : Jvm.MethodName) prog_1_method_7_code (1 : Nat) (Option.some Jvm.ClassFile.FieldType.int)) ∈ lw_all := lw_g (lw_at lw_m1 169 rfl) rfl
theorem q176 : (Jvm.Cond.instanceMethod ({ cls := "FragmentHouse", name := "length", desc := "()I" } : Jvm.MethodName)) ∈ lw_all := lw_g (lw_at lw_m1 171 rfl) rfl
theorem q177 : (Jvm.Cond.selects "FragmentHouse" ({ cls := "FragmentHouse", name := "length", desc := "()I" } : Jvm.MethodName) ({ cls := "FragmentHouse", name := "length", desc := "()I" } : Jvm.MethodName)) ∈ lw_all := lw_g (lw_at lw_m1 172 rfl) rfl
theorem q178 : (Jvm.Cond.code ({ cls := "FragmentHouse", name := "length", desc := "()I" } : Jvm.MethodName) prog_1_method_8_code (1 : Nat) (Option.some Jvm.ClassFile.FieldType.int)) ∈ lw_all := lw_g (lw_at lw_m1 173 rfl) rfl
theorem q180 : (Jvm.Cond.instanceMethod ({ cls := "FragmentHouse", name := "at", desc := "(I)I" } : Jvm.MethodName)) ∈ lw_all := lw_g (lw_at lw_m1 175 rfl) rfl
theorem q181 : (Jvm.Cond.selects "FragmentHouse" ({ cls := "FragmentHouse", name := "at", desc := "(I)I" } : Jvm.MethodName) ({ cls := "FragmentHouse", name := "at", desc := "(I)I" } : Jvm.MethodName)) ∈ lw_all := lw_g (lw_at lw_m1 176 rfl) rfl
theorem q182 : (Jvm.Cond.code ({ cls := "FragmentHouse", name := "at", desc := "(I)I" } : Jvm.MethodName) prog_1_method_9_code (2 : Nat) (Option.some Jvm.ClassFile.FieldType.int)) ∈ lw_all := lw_g (lw_at lw_m1 177 rfl) rfl
theorem in_X0 : ∀ w ∈ wsX00, w ∈ lw_all := lw_in wsX00 [88, 90, 92, 94, 96, 98] (by decide +kernel) (by decide +kernel)
end
section
/-! FragmentHouse$Fragments -/
set_option maxRecDepth 100000
def RX1 : String := "FragmentHouse$Fragments"
def TX1 : u_T := fun k => match k with
  | 0 => ("FragmentHouse$Fragments", "row", "[LFragmentHouse$Making;", true)
  | 1 => ("FragmentHouse$Fragments", "size", "I", false)
  | _ => ("FragmentHouse$Fragments", "made", "I", false)
def tyX1 : Nat → FieldType := fun k => match k with
  | 0 => .array (.object "FragmentHouse$Making")
  | 1 => .int
  | _ => .int
abbrev wsX10 : List Cond := u_ws RX1 TX1 3
theorem nmX1 : ∀ a, a < 3 → ∀ b, b < 3 → a ≠ b → (TX1 a).2.1 ≠ (TX1 b).2.1 := by decide +kernel
theorem tyX1_ok : ∀ k, k < 3 → parseFieldDescriptor (TX1 k).2.2.1 = some (tyX1 k) := by decide +kernel
abbrev cX1_init : ByteArray := prog_2_method_1_code
def yX1_init : MethodName := ⟨RX1, "<init>", "()V"⟩
theorem dX1_init_0 : decode cX1_init 0 = .ok (.aload_n 0, 1) := by decide +kernel
theorem dX1_init_1 : decode cX1_init 1 = .ok (.invokespecial 1, 3) := by decide +kernel
theorem dX1_init_4 : decode cX1_init 4 = .ok (.aload_n 0, 1) := by decide +kernel
theorem dX1_init_5 : decode cX1_init 5 = .ok (.iconst 4, 1) := by decide +kernel
theorem dX1_init_6 : decode cX1_init 6 = .ok (.anewarray 9, 3) := by decide +kernel
theorem dX1_init_9 : decode cX1_init 9 = .ok (.putfield 11, 3) := by decide +kernel
theorem dX1_init_12 : decode cX1_init 12 = .ok (.iconst 0, 1) := by decide +kernel
theorem dX1_init_13 : decode cX1_init 13 = .ok (.istore_n 1, 1) := by decide +kernel
theorem dX1_init_14 : decode cX1_init 14 = .ok (.iload_n 1, 1) := by decide +kernel
theorem dX1_init_15 : decode cX1_init 15 = .ok (.iconst 4, 1) := by decide +kernel
theorem dX1_init_16 : decode cX1_init 16 = .ok (.if_icmp .ge 22, 3) := by decide +kernel
theorem dX1_init_19 : decode cX1_init 19 = .ok (.aload_n 0, 1) := by decide +kernel
theorem dX1_init_20 : decode cX1_init 20 = .ok (.getfield 11, 3) := by decide +kernel
theorem dX1_init_23 : decode cX1_init 23 = .ok (.iload_n 1, 1) := by decide +kernel
theorem dX1_init_24 : decode cX1_init 24 = .ok (.new 9, 3) := by decide +kernel
theorem dX1_init_27 : decode cX1_init 27 = .ok (.dup, 1) := by decide +kernel
theorem dX1_init_28 : decode cX1_init 28 = .ok (.invokespecial 15, 3) := by decide +kernel
theorem dX1_init_31 : decode cX1_init 31 = .ok (.aastore, 1) := by decide +kernel
theorem dX1_init_32 : decode cX1_init 32 = .ok (.iinc 1 1, 3) := by decide +kernel
theorem dX1_init_35 : decode cX1_init 35 = .ok (.goto (-21), 3) := by decide +kernel
theorem dX1_init_38 : decode cX1_init 38 = .ok (.return_, 1) := by decide +kernel
abbrev cX1_begin : ByteArray := prog_2_method_2_code
def yX1_begin : MethodName := ⟨RX1, "begin", "()V"⟩
theorem dX1_begin_0 : decode cX1_begin 0 = .ok (.aload_n 0, 1) := by decide +kernel
theorem dX1_begin_1 : decode cX1_begin 1 = .ok (.iconst 0, 1) := by decide +kernel
theorem dX1_begin_2 : decode cX1_begin 2 = .ok (.putfield 16, 3) := by decide +kernel
theorem dX1_begin_5 : decode cX1_begin 5 = .ok (.aload_n 0, 1) := by decide +kernel
theorem dX1_begin_6 : decode cX1_begin 6 = .ok (.iconst 0, 1) := by decide +kernel
theorem dX1_begin_7 : decode cX1_begin 7 = .ok (.putfield 20, 3) := by decide +kernel
theorem dX1_begin_10 : decode cX1_begin 10 = .ok (.return_, 1) := by decide +kernel
abbrev cX1_knows : ByteArray := prog_2_method_5_code
def yX1_knows : MethodName := ⟨RX1, "knows", "(III)Z"⟩
theorem dX1_knows_0 : decode cX1_knows 0 = .ok (.aload_n 0, 1) := by decide +kernel
theorem dX1_knows_1 : decode cX1_knows 1 = .ok (.iload_n 1, 1) := by decide +kernel
theorem dX1_knows_2 : decode cX1_knows 2 = .ok (.iload_n 2, 1) := by decide +kernel
theorem dX1_knows_3 : decode cX1_knows 3 = .ok (.iload_n 3, 1) := by decide +kernel
theorem dX1_knows_4 : decode cX1_knows 4 = .ok (.invokevirtual 32, 3) := by decide +kernel
theorem dX1_knows_7 : decode cX1_knows 7 = .ok (.aload_n 0, 1) := by decide +kernel
theorem dX1_knows_8 : decode cX1_knows 8 = .ok (.getfield 16, 3) := by decide +kernel
theorem dX1_knows_11 : decode cX1_knows 11 = .ok (.if_icmp .ge 7, 3) := by decide +kernel
theorem dX1_knows_14 : decode cX1_knows 14 = .ok (.iconst 1, 1) := by decide +kernel
theorem dX1_knows_15 : decode cX1_knows 15 = .ok (.goto 4, 3) := by decide +kernel
theorem dX1_knows_18 : decode cX1_knows 18 = .ok (.iconst 0, 1) := by decide +kernel
theorem dX1_knows_19 : decode cX1_knows 19 = .ok (.ireturn, 1) := by decide +kernel
abbrev cX1_find : ByteArray := prog_2_method_4_code
def yX1_find : MethodName := ⟨RX1, "find", "(III)I"⟩
theorem dX1_find_0 : decode cX1_find 0 = .ok (.iconst 0, 1) := by decide +kernel
theorem dX1_find_1 : decode cX1_find 1 = .ok (.istore 4, 2) := by decide +kernel
theorem dX1_find_3 : decode cX1_find 3 = .ok (.iload 4, 2) := by decide +kernel
theorem dX1_find_5 : decode cX1_find 5 = .ok (.aload_n 0, 1) := by decide +kernel
theorem dX1_find_6 : decode cX1_find 6 = .ok (.getfield 16, 3) := by decide +kernel
theorem dX1_find_9 : decode cX1_find 9 = .ok (.if_icmp .ge 51, 3) := by decide +kernel
theorem dX1_find_12 : decode cX1_find 12 = .ok (.aload_n 0, 1) := by decide +kernel
theorem dX1_find_13 : decode cX1_find 13 = .ok (.getfield 11, 3) := by decide +kernel
theorem dX1_find_16 : decode cX1_find 16 = .ok (.iload 4, 2) := by decide +kernel
theorem dX1_find_18 : decode cX1_find 18 = .ok (.aaload, 1) := by decide +kernel
theorem dX1_find_19 : decode cX1_find 19 = .ok (.getfield 23, 3) := by decide +kernel
theorem dX1_find_22 : decode cX1_find 22 = .ok (.iload_n 1, 1) := by decide +kernel
theorem dX1_find_23 : decode cX1_find 23 = .ok (.if_icmp .ne 31, 3) := by decide +kernel
theorem dX1_find_26 : decode cX1_find 26 = .ok (.aload_n 0, 1) := by decide +kernel
theorem dX1_find_27 : decode cX1_find 27 = .ok (.getfield 11, 3) := by decide +kernel
theorem dX1_find_30 : decode cX1_find 30 = .ok (.iload 4, 2) := by decide +kernel
theorem dX1_find_32 : decode cX1_find 32 = .ok (.aaload, 1) := by decide +kernel
theorem dX1_find_33 : decode cX1_find 33 = .ok (.getfield 26, 3) := by decide +kernel
theorem dX1_find_36 : decode cX1_find 36 = .ok (.iload_n 2, 1) := by decide +kernel
theorem dX1_find_37 : decode cX1_find 37 = .ok (.if_icmp .ne 17, 3) := by decide +kernel
theorem dX1_find_40 : decode cX1_find 40 = .ok (.aload_n 0, 1) := by decide +kernel
theorem dX1_find_41 : decode cX1_find 41 = .ok (.getfield 11, 3) := by decide +kernel
theorem dX1_find_44 : decode cX1_find 44 = .ok (.iload 4, 2) := by decide +kernel
theorem dX1_find_46 : decode cX1_find 46 = .ok (.aaload, 1) := by decide +kernel
theorem dX1_find_47 : decode cX1_find 47 = .ok (.getfield 29, 3) := by decide +kernel
theorem dX1_find_50 : decode cX1_find 50 = .ok (.iload_n 3, 1) := by decide +kernel
theorem dX1_find_51 : decode cX1_find 51 = .ok (.if_icmp .eq 9, 3) := by decide +kernel
theorem dX1_find_54 : decode cX1_find 54 = .ok (.iinc 4 1, 3) := by decide +kernel
theorem dX1_find_57 : decode cX1_find 57 = .ok (.goto (-54), 3) := by decide +kernel
theorem dX1_find_60 : decode cX1_find 60 = .ok (.iload 4, 2) := by decide +kernel
theorem dX1_find_62 : decode cX1_find 62 = .ok (.ireturn, 1) := by decide +kernel
abbrev cX1_take : ByteArray := prog_2_method_6_code
def yX1_take : MethodName := ⟨RX1, "take", "([BIIIIIIZI)LFragmentHouse$Making;"⟩
theorem dX1_take_0 : decode cX1_take 0 = .ok (.iload 8, 2) := by decide +kernel
theorem dX1_take_2 : decode cX1_take 2 = .ok (.ifCond .ne 16, 3) := by decide +kernel
theorem dX1_take_5 : decode cX1_take 5 = .ok (.iload_n 3, 1) := by decide +kernel
theorem dX1_take_6 : decode cX1_take 6 = .ok (.bipush 8, 2) := by decide +kernel
theorem dX1_take_8 : decode cX1_take 8 = .ok (.if_icmp .lt 20, 3) := by decide +kernel
theorem dX1_take_11 : decode cX1_take 11 = .ok (.iload_n 3, 1) := by decide +kernel
theorem dX1_take_12 : decode cX1_take 12 = .ok (.bipush 8, 2) := by decide +kernel
theorem dX1_take_14 : decode cX1_take 14 = .ok (.irem, 1) := by decide +kernel
theorem dX1_take_15 : decode cX1_take 15 = .ok (.ifCond .ne 13, 3) := by decide +kernel
theorem dX1_take_18 : decode cX1_take 18 = .ok (.iload 7, 2) := by decide +kernel
theorem dX1_take_20 : decode cX1_take 20 = .ok (.iload_n 3, 1) := by decide +kernel
theorem dX1_take_21 : decode cX1_take 21 = .ok (.iadd, 1) := by decide +kernel
theorem dX1_take_22 : decode cX1_take 22 = .ok (.sipush 4096, 3) := by decide +kernel
theorem dX1_take_25 : decode cX1_take 25 = .ok (.if_icmp .le 5, 3) := by decide +kernel
theorem dX1_take_28 : decode cX1_take 28 = .ok (.aconst_null, 1) := by decide +kernel
theorem dX1_take_29 : decode cX1_take 29 = .ok (.areturn, 1) := by decide +kernel
theorem dX1_take_30 : decode cX1_take 30 = .ok (.aload_n 0, 1) := by decide +kernel
theorem dX1_take_31 : decode cX1_take 31 = .ok (.iload 4, 2) := by decide +kernel
theorem dX1_take_33 : decode cX1_take 33 = .ok (.iload 5, 2) := by decide +kernel
theorem dX1_take_35 : decode cX1_take 35 = .ok (.iload 6, 2) := by decide +kernel
theorem dX1_take_37 : decode cX1_take 37 = .ok (.invokevirtual 32, 3) := by decide +kernel
theorem dX1_take_40 : decode cX1_take 40 = .ok (.istore 10, 2) := by decide +kernel
theorem dX1_take_42 : decode cX1_take 42 = .ok (.iload 10, 2) := by decide +kernel
theorem dX1_take_44 : decode cX1_take 44 = .ok (.iconst 4, 1) := by decide +kernel
theorem dX1_take_45 : decode cX1_take 45 = .ok (.if_icmp .ne 5, 3) := by decide +kernel
theorem dX1_take_48 : decode cX1_take 48 = .ok (.aconst_null, 1) := by decide +kernel
theorem dX1_take_49 : decode cX1_take 49 = .ok (.areturn, 1) := by decide +kernel
theorem dX1_take_50 : decode cX1_take 50 = .ok (.iload 10, 2) := by decide +kernel
theorem dX1_take_52 : decode cX1_take 52 = .ok (.aload_n 0, 1) := by decide +kernel
theorem dX1_take_53 : decode cX1_take 53 = .ok (.getfield 16, 3) := by decide +kernel
theorem dX1_take_56 : decode cX1_take 56 = .ok (.if_icmp .ne 31, 3) := by decide +kernel
theorem dX1_take_59 : decode cX1_take 59 = .ok (.aload_n 0, 1) := by decide +kernel
theorem dX1_take_60 : decode cX1_take 60 = .ok (.getfield 11, 3) := by decide +kernel
theorem dX1_take_63 : decode cX1_take 63 = .ok (.iload 10, 2) := by decide +kernel
theorem dX1_take_65 : decode cX1_take 65 = .ok (.aaload, 1) := by decide +kernel
theorem dX1_take_66 : decode cX1_take 66 = .ok (.iload 4, 2) := by decide +kernel
theorem dX1_take_68 : decode cX1_take 68 = .ok (.iload 5, 2) := by decide +kernel
theorem dX1_take_70 : decode cX1_take 70 = .ok (.iload 6, 2) := by decide +kernel
theorem dX1_take_72 : decode cX1_take 72 = .ok (.iload 9, 2) := by decide +kernel
theorem dX1_take_74 : decode cX1_take 74 = .ok (.invokevirtual 36, 3) := by decide +kernel
theorem dX1_take_77 : decode cX1_take 77 = .ok (.aload_n 0, 1) := by decide +kernel
theorem dX1_take_78 : decode cX1_take 78 = .ok (.dup, 1) := by decide +kernel
theorem dX1_take_79 : decode cX1_take 79 = .ok (.getfield 16, 3) := by decide +kernel
theorem dX1_take_82 : decode cX1_take 82 = .ok (.iconst 1, 1) := by decide +kernel
theorem dX1_take_83 : decode cX1_take 83 = .ok (.iadd, 1) := by decide +kernel
theorem dX1_take_84 : decode cX1_take 84 = .ok (.putfield 16, 3) := by decide +kernel
theorem dX1_take_87 : decode cX1_take 87 = .ok (.aload_n 0, 1) := by decide +kernel
theorem dX1_take_88 : decode cX1_take 88 = .ok (.getfield 11, 3) := by decide +kernel
theorem dX1_take_91 : decode cX1_take 91 = .ok (.iload 10, 2) := by decide +kernel
theorem dX1_take_93 : decode cX1_take 93 = .ok (.aaload, 1) := by decide +kernel
theorem dX1_take_94 : decode cX1_take 94 = .ok (.astore 11, 2) := by decide +kernel
theorem dX1_take_96 : decode cX1_take 96 = .ok (.aload 11, 2) := by decide +kernel
theorem dX1_take_98 : decode cX1_take 98 = .ok (.aload_n 1, 1) := by decide +kernel
theorem dX1_take_99 : decode cX1_take 99 = .ok (.iload_n 2, 1) := by decide +kernel
theorem dX1_take_100 : decode cX1_take 100 = .ok (.iload 7, 2) := by decide +kernel
theorem dX1_take_102 : decode cX1_take 102 = .ok (.iload_n 3, 1) := by decide +kernel
theorem dX1_take_103 : decode cX1_take 103 = .ok (.iload 8, 2) := by decide +kernel
theorem dX1_take_105 : decode cX1_take 105 = .ok (.invokevirtual 40, 3) := by decide +kernel
theorem dX1_take_108 : decode cX1_take 108 = .ok (.ifCond .ne 11, 3) := by decide +kernel
theorem dX1_take_111 : decode cX1_take 111 = .ok (.aload_n 0, 1) := by decide +kernel
theorem dX1_take_112 : decode cX1_take 112 = .ok (.iload 10, 2) := by decide +kernel
theorem dX1_take_114 : decode cX1_take 114 = .ok (.invokevirtual 44, 3) := by decide +kernel
theorem dX1_take_117 : decode cX1_take 117 = .ok (.aconst_null, 1) := by decide +kernel
theorem dX1_take_118 : decode cX1_take 118 = .ok (.areturn, 1) := by decide +kernel
theorem dX1_take_119 : decode cX1_take 119 = .ok (.aload 11, 2) := by decide +kernel
theorem dX1_take_121 : decode cX1_take 121 = .ok (.invokevirtual 48, 3) := by decide +kernel
theorem dX1_take_124 : decode cX1_take 124 = .ok (.ifCond .ne 5, 3) := by decide +kernel
theorem dX1_take_127 : decode cX1_take 127 = .ok (.aconst_null, 1) := by decide +kernel
theorem dX1_take_128 : decode cX1_take 128 = .ok (.areturn, 1) := by decide +kernel
theorem dX1_take_129 : decode cX1_take 129 = .ok (.aload_n 0, 1) := by decide +kernel
theorem dX1_take_130 : decode cX1_take 130 = .ok (.iload 10, 2) := by decide +kernel
theorem dX1_take_132 : decode cX1_take 132 = .ok (.invokevirtual 44, 3) := by decide +kernel
theorem dX1_take_135 : decode cX1_take 135 = .ok (.aload_n 0, 1) := by decide +kernel
theorem dX1_take_136 : decode cX1_take 136 = .ok (.dup, 1) := by decide +kernel
theorem dX1_take_137 : decode cX1_take 137 = .ok (.getfield 20, 3) := by decide +kernel
theorem dX1_take_140 : decode cX1_take 140 = .ok (.iconst 1, 1) := by decide +kernel
theorem dX1_take_141 : decode cX1_take 141 = .ok (.iadd, 1) := by decide +kernel
theorem dX1_take_142 : decode cX1_take 142 = .ok (.putfield 20, 3) := by decide +kernel
theorem dX1_take_145 : decode cX1_take 145 = .ok (.aload 11, 2) := by decide +kernel
theorem dX1_take_147 : decode cX1_take 147 = .ok (.areturn, 1) := by decide +kernel
abbrev cX1_remove : ByteArray := prog_2_method_3_code
def yX1_remove : MethodName := ⟨RX1, "remove", "(I)V"⟩
theorem dX1_remove_0 : decode cX1_remove 0 = .ok (.aload_n 0, 1) := by decide +kernel
theorem dX1_remove_1 : decode cX1_remove 1 = .ok (.getfield 11, 3) := by decide +kernel
theorem dX1_remove_4 : decode cX1_remove 4 = .ok (.iload_n 1, 1) := by decide +kernel
theorem dX1_remove_5 : decode cX1_remove 5 = .ok (.aaload, 1) := by decide +kernel
theorem dX1_remove_6 : decode cX1_remove 6 = .ok (.astore_n 2, 1) := by decide +kernel
theorem dX1_remove_7 : decode cX1_remove 7 = .ok (.iload_n 1, 1) := by decide +kernel
theorem dX1_remove_8 : decode cX1_remove 8 = .ok (.istore_n 3, 1) := by decide +kernel
theorem dX1_remove_9 : decode cX1_remove 9 = .ok (.iload_n 3, 1) := by decide +kernel
theorem dX1_remove_10 : decode cX1_remove 10 = .ok (.iconst 1, 1) := by decide +kernel
theorem dX1_remove_11 : decode cX1_remove 11 = .ok (.iadd, 1) := by decide +kernel
theorem dX1_remove_12 : decode cX1_remove 12 = .ok (.aload_n 0, 1) := by decide +kernel
theorem dX1_remove_13 : decode cX1_remove 13 = .ok (.getfield 16, 3) := by decide +kernel
theorem dX1_remove_16 : decode cX1_remove 16 = .ok (.if_icmp .ge 23, 3) := by decide +kernel
theorem dX1_remove_19 : decode cX1_remove 19 = .ok (.aload_n 0, 1) := by decide +kernel
theorem dX1_remove_20 : decode cX1_remove 20 = .ok (.getfield 11, 3) := by decide +kernel
theorem dX1_remove_23 : decode cX1_remove 23 = .ok (.iload_n 3, 1) := by decide +kernel
theorem dX1_remove_24 : decode cX1_remove 24 = .ok (.aload_n 0, 1) := by decide +kernel
theorem dX1_remove_25 : decode cX1_remove 25 = .ok (.getfield 11, 3) := by decide +kernel
theorem dX1_remove_28 : decode cX1_remove 28 = .ok (.iload_n 3, 1) := by decide +kernel
theorem dX1_remove_29 : decode cX1_remove 29 = .ok (.iconst 1, 1) := by decide +kernel
theorem dX1_remove_30 : decode cX1_remove 30 = .ok (.iadd, 1) := by decide +kernel
theorem dX1_remove_31 : decode cX1_remove 31 = .ok (.aaload, 1) := by decide +kernel
theorem dX1_remove_32 : decode cX1_remove 32 = .ok (.aastore, 1) := by decide +kernel
theorem dX1_remove_33 : decode cX1_remove 33 = .ok (.iinc 3 1, 3) := by decide +kernel
theorem dX1_remove_36 : decode cX1_remove 36 = .ok (.goto (-27), 3) := by decide +kernel
theorem dX1_remove_39 : decode cX1_remove 39 = .ok (.aload_n 0, 1) := by decide +kernel
theorem dX1_remove_40 : decode cX1_remove 40 = .ok (.dup, 1) := by decide +kernel
theorem dX1_remove_41 : decode cX1_remove 41 = .ok (.getfield 16, 3) := by decide +kernel
theorem dX1_remove_44 : decode cX1_remove 44 = .ok (.iconst 1, 1) := by decide +kernel
theorem dX1_remove_45 : decode cX1_remove 45 = .ok (.isub, 1) := by decide +kernel
theorem dX1_remove_46 : decode cX1_remove 46 = .ok (.putfield 16, 3) := by decide +kernel
theorem dX1_remove_49 : decode cX1_remove 49 = .ok (.aload_n 0, 1) := by decide +kernel
theorem dX1_remove_50 : decode cX1_remove 50 = .ok (.getfield 11, 3) := by decide +kernel
theorem dX1_remove_53 : decode cX1_remove 53 = .ok (.aload_n 0, 1) := by decide +kernel
theorem dX1_remove_54 : decode cX1_remove 54 = .ok (.getfield 16, 3) := by decide +kernel
theorem dX1_remove_57 : decode cX1_remove 57 = .ok (.aload_n 2, 1) := by decide +kernel
theorem dX1_remove_58 : decode cX1_remove 58 = .ok (.aastore, 1) := by decide +kernel
theorem dX1_remove_59 : decode cX1_remove 59 = .ok (.return_, 1) := by decide +kernel
abbrev cX1_due : ByteArray := prog_2_method_7_code
def yX1_due : MethodName := ⟨RX1, "due", "()I"⟩
theorem dX1_due_0 : decode cX1_due 0 = .ok (.aload_n 0, 1) := by decide +kernel
theorem dX1_due_1 : decode cX1_due 1 = .ok (.getfield 16, 3) := by decide +kernel
theorem dX1_due_4 : decode cX1_due 4 = .ok (.ifCond .ne 8, 3) := by decide +kernel
theorem dX1_due_7 : decode cX1_due 7 = .ok (.ldc 54, 2) := by decide +kernel
theorem dX1_due_9 : decode cX1_due 9 = .ok (.goto 16, 3) := by decide +kernel
theorem dX1_due_12 : decode cX1_due 12 = .ok (.aload_n 0, 1) := by decide +kernel
theorem dX1_due_13 : decode cX1_due 13 = .ok (.getfield 11, 3) := by decide +kernel
theorem dX1_due_16 : decode cX1_due 16 = .ok (.iconst 0, 1) := by decide +kernel
theorem dX1_due_17 : decode cX1_due 17 = .ok (.aaload, 1) := by decide +kernel
theorem dX1_due_18 : decode cX1_due 18 = .ok (.getfield 55, 3) := by decide +kernel
theorem dX1_due_21 : decode cX1_due 21 = .ok (.sipush 15000, 3) := by decide +kernel
theorem dX1_due_24 : decode cX1_due 24 = .ok (.iadd, 1) := by decide +kernel
theorem dX1_due_25 : decode cX1_due 25 = .ok (.ireturn, 1) := by decide +kernel
abbrev cX1_act : ByteArray := prog_2_method_8_code
def yX1_act : MethodName := ⟨RX1, "act", "()V"⟩
theorem dX1_act_0 : decode cX1_act 0 = .ok (.aload_n 0, 1) := by decide +kernel
theorem dX1_act_1 : decode cX1_act 1 = .ok (.iconst 0, 1) := by decide +kernel
theorem dX1_act_2 : decode cX1_act 2 = .ok (.invokevirtual 44, 3) := by decide +kernel
theorem dX1_act_5 : decode cX1_act 5 = .ok (.return_, 1) := by decide +kernel
theorem q7 : (Jvm.Cond.initialized "FragmentHouse$Fragments") ∈ lw_all := lw_g (lw_at lw_m1 2 rfl) rfl
theorem q21 : (Jvm.Cond.instantiable "FragmentHouse$Fragments" (3 : Nat)) ∈ lw_all := lw_g (lw_at lw_m1 16 rfl) rfl
theorem q23 : (Jvm.Cond.instanceMethod ({ cls := "FragmentHouse$Fragments", name := "<init>", desc := "()V" } : Jvm.MethodName)) ∈ lw_all := lw_g (lw_at lw_m1 18 rfl) rfl
theorem q24 : (Jvm.Cond.code ({ cls := "FragmentHouse$Fragments", name := "<init>", desc := "()V" } : Jvm.MethodName) prog_2_method_1_code (2 : Nat) (Option.none : Option Jvm.ClassFile.FieldType)) ∈ lw_all := lw_g (lw_at lw_m1 19 rfl) rfl
theorem q25 : (Jvm.Cond.methodLink "FragmentHouse$Fragments" (1 : Nat) ({ cls := "java/lang/Object", name := "<init>", desc := "()V" } : Jvm.MethodName)) ∈ lw_all := lw_g (lw_at lw_m1 20 rfl) rfl
theorem q26 : (Jvm.Cond.classLink "FragmentHouse$Fragments" (9 : Nat) "FragmentHouse$Making") ∈ lw_all := lw_g (lw_at lw_m1 21 rfl) rfl
theorem q29 : (Jvm.Cond.methodLinkNest "FragmentHouse$Fragments" (15 : Nat) ({ cls := "FragmentHouse$Making", name := "<init>", desc := "()V" } : Jvm.MethodName) "FragmentHouse") ∈ lw_tbl := lw_at lw_m1 24 rfl
theorem q34 : (Jvm.Cond.fieldLink "FragmentHouse$Fragments" (23 : Nat) "FragmentHouse$Making" "from" "I") ∈ lw_all := lw_g (lw_at lw_m1 29 rfl) rfl
theorem q36 : (Jvm.Cond.fieldLink "FragmentHouse$Fragments" (26 : Nat) "FragmentHouse$Making" "identification" "I") ∈ lw_all := lw_g (lw_at lw_m1 31 rfl) rfl
theorem q38 : (Jvm.Cond.fieldLink "FragmentHouse$Fragments" (29 : Nat) "FragmentHouse$Making" "protocol" "I") ∈ lw_all := lw_g (lw_at lw_m1 33 rfl) rfl
theorem q40 : (Jvm.Cond.fieldLink "FragmentHouse$Fragments" (55 : Nat) "FragmentHouse$Making" "since" "I") ∈ lw_all := lw_g (lw_at lw_m1 35 rfl) rfl
theorem q66 : (Jvm.Cond.fieldLink "FragmentHouse$Fragments" (11 : Nat) "FragmentHouse$Fragments" "row" "[LFragmentHouse$Making;") ∈ lw_all := lw_g (lw_at lw_m1 61 rfl) rfl
theorem q67 : (Jvm.Cond.fieldLink "FragmentHouse$Fragments" (16 : Nat) "FragmentHouse$Fragments" "size" "I") ∈ lw_all := lw_g (lw_at lw_m1 62 rfl) rfl
theorem q69 : (Jvm.Cond.fieldLink "FragmentHouse$Fragments" (20 : Nat) "FragmentHouse$Fragments" "made" "I") ∈ lw_all := lw_g (lw_at lw_m1 64 rfl) rfl
theorem q71 : (Jvm.Cond.laysFinal "FragmentHouse$Fragments" "FragmentHouse$Fragments" "row" "[LFragmentHouse$Making;") ∈ lw_all := lw_g (lw_at lw_m1 66 rfl) rfl
theorem q72 : (Jvm.Cond.soleField "FragmentHouse$Fragments" "row") ∈ lw_all := lw_g (lw_at lw_m1 67 rfl) rfl
theorem q73 : (Jvm.Cond.lays "FragmentHouse$Fragments" "FragmentHouse$Fragments" "size" "I") ∈ lw_all := lw_g (lw_at lw_m1 68 rfl) rfl
theorem q74 : (Jvm.Cond.soleField "FragmentHouse$Fragments" "size") ∈ lw_all := lw_g (lw_at lw_m1 69 rfl) rfl
theorem q75 : (Jvm.Cond.lays "FragmentHouse$Fragments" "FragmentHouse$Fragments" "made" "I") ∈ lw_all := lw_g (lw_at lw_m1 70 rfl) rfl
theorem q76 : (Jvm.Cond.soleField "FragmentHouse$Fragments" "made") ∈ lw_all := lw_g (lw_at lw_m1 71 rfl) rfl
theorem q77 : (Jvm.Cond.superclass "FragmentHouse$Fragments" "java/lang/Object") ∈ lw_all := lw_g (lw_at lw_m1 72 rfl) rfl
theorem q79 : (Jvm.Cond.instanceMethod ({ cls := "FragmentHouse$Fragments", name := "begin", desc := "()V" } : Jvm.MethodName)) ∈ lw_all := lw_g (lw_at lw_m1 74 rfl) rfl
theorem q80 : (Jvm.Cond.selects "FragmentHouse$Fragments" ({ cls := "FragmentHouse$Fragments", name := "begin", desc := "()V" } : Jvm.MethodName) ({ cls := "FragmentHouse$Fragments", name := "begin", desc := "()V" } : Jvm.MethodName)) ∈ lw_all := lw_g (lw_at lw_m1 75 rfl) rfl
theorem q81 : (Jvm.Cond.code ({ cls := "FragmentHouse$Fragments", name := "begin", desc := "()V" } : Jvm.MethodName) prog_2_method_2_code (1 : Nat) (Option.none : Option Jvm.ClassFile.FieldType)) ∈ lw_all := lw_g (lw_at lw_m1 76 rfl) rfl
theorem q120 : (Jvm.Cond.instanceMethod ({ cls := "FragmentHouse$Fragments", name := "knows", desc := "(III)Z" } : Jvm.MethodName)) ∈ lw_all := lw_g (lw_at lw_m1 115 rfl) rfl
theorem q121 : (Jvm.Cond.selects "FragmentHouse$Fragments" ({ cls := "FragmentHouse$Fragments", name := "knows", desc := "(III)Z" } : Jvm.MethodName) ({ cls := "FragmentHouse$Fragments", name := "knows", desc := "(III)Z" } : Jvm.MethodName)) ∈ lw_all := lw_g (lw_at lw_m1 116 rfl) rfl
theorem q122 : (Jvm.Cond.code ({ cls := "FragmentHouse$Fragments", name := "knows", desc := "(III)Z" } : Jvm.MethodName) prog_2_method_5_code (4 : Nat) (Option.some Jvm.ClassFile.FieldType.boolean)) ∈ lw_all := lw_g (lw_at lw_m1 117 rfl) rfl
theorem q123 : (Jvm.Cond.methodLink "FragmentHouse$Fragments" (32 : Nat) ({ cls := "FragmentHouse$Fragments", name := "find", desc := "(III)I" } : Jvm.MethodName)) ∈ lw_all := lw_g (lw_at lw_m1 118 rfl) rfl
theorem q124 : (Jvm.Cond.privateMethod ({ cls := "FragmentHouse$Fragments", name := "find", desc := "(III)I" } : Jvm.MethodName)) ∈ lw_tbl := lw_at lw_m1 119 rfl
theorem q125 : (Jvm.Cond.instanceMethod ({ cls := "FragmentHouse$Fragments", name := "find", desc := "(III)I" } : Jvm.MethodName)) ∈ lw_all := lw_g (lw_at lw_m1 120 rfl) rfl
theorem q126 : (Jvm.Cond.code ({ cls := "FragmentHouse$Fragments", name := "find", desc := "(III)I" } : Jvm.MethodName) prog_2_method_4_code (5 : Nat) (Option.some Jvm.ClassFile.FieldType.int)) ∈ lw_all := lw_g (lw_at lw_m1 121 rfl) rfl
theorem q128 : (Jvm.Cond.instanceMethod ({ cls := "FragmentHouse$Fragments", name := "take", desc := "([BIIIIIIZI)LFragmentHouse$Making;" } : Jvm.MethodName)) ∈ lw_all := lw_g (lw_at lw_m1 123 rfl) rfl
theorem q129 : (Jvm.Cond.selects "FragmentHouse$Fragments" ({ cls := "FragmentHouse$Fragments", name := "take", desc := "([BIIIIIIZI)LFragmentHouse$Making;" } : Jvm.MethodName) ({ cls := "FragmentHouse$Fragments", name := "take", desc := "([BIIIIIIZI)LFragmentHouse$Making;" } : Jvm.MethodName)) ∈ lw_all := lw_g (lw_at lw_m1 124 rfl) rfl
theorem q130 : (Jvm.Cond.code ({ cls := "FragmentHouse$Fragments", name := "take", desc := "([BIIIIIIZI)LFragmentHouse$Making;" } : Jvm.MethodName) prog_2_method_6_code (12 : Nat) (Option.some (Jvm.ClassFile.FieldType.object "FragmentHouse$Making"))) ∈ lw_all := lw_g (lw_at lw_m1 125 rfl) rfl
theorem q131 : (Jvm.Cond.methodLink "FragmentHouse$Fragments" (36 : Nat) ({ cls := "FragmentHouse$Making", name := "begin", desc := "(IIII)V" } : Jvm.MethodName)) ∈ lw_all := lw_g (lw_at lw_m1 126 rfl) rfl
theorem q135 : (Jvm.Cond.methodLink "FragmentHouse$Fragments" (40 : Nat) ({ cls := "FragmentHouse$Making", name := "add", desc := "([BIIIZ)Z" } : Jvm.MethodName)) ∈ lw_all := lw_g (lw_at lw_m1 130 rfl) rfl
theorem q142 : (Jvm.Cond.methodLink "FragmentHouse$Fragments" (44 : Nat) ({ cls := "FragmentHouse$Fragments", name := "remove", desc := "(I)V" } : Jvm.MethodName)) ∈ lw_all := lw_g (lw_at lw_m1 137 rfl) rfl
theorem q143 : (Jvm.Cond.privateMethod ({ cls := "FragmentHouse$Fragments", name := "remove", desc := "(I)V" } : Jvm.MethodName)) ∈ lw_tbl := lw_at lw_m1 138 rfl
theorem q144 : (Jvm.Cond.instanceMethod ({ cls := "FragmentHouse$Fragments", name := "remove", desc := "(I)V" } : Jvm.MethodName)) ∈ lw_all := lw_g (lw_at lw_m1 139 rfl) rfl
theorem q145 : (Jvm.Cond.code ({ cls := "FragmentHouse$Fragments", name := "remove", desc := "(I)V" } : Jvm.MethodName) prog_2_method_3_code (4 : Nat) (Option.none : Option Jvm.ClassFile.FieldType)) ∈ lw_all := lw_g (lw_at lw_m1 140 rfl) rfl
theorem q146 : (Jvm.Cond.methodLink "FragmentHouse$Fragments" (48 : Nat) ({ cls := "FragmentHouse$Making", name := "isWhole", desc := "()Z" } : Jvm.MethodName)) ∈ lw_all := lw_g (lw_at lw_m1 141 rfl) rfl
theorem q159 : (Jvm.Cond.instanceMethod ({ cls := "FragmentHouse$Fragments", name := "due", desc := "()I" } : Jvm.MethodName)) ∈ lw_all := lw_g (lw_at lw_m1 154 rfl) rfl
theorem q160 : (Jvm.Cond.selects "FragmentHouse$Fragments" ({ cls := "FragmentHouse$Fragments", name := "due", desc := "()I" } : Jvm.MethodName) ({ cls := "FragmentHouse$Fragments", name := "due", desc := "()I" } : Jvm.MethodName)) ∈ lw_all := lw_g (lw_at lw_m1 155 rfl) rfl
theorem q161 : (Jvm.Cond.code ({ cls := "FragmentHouse$Fragments", name := "due", desc := "()I" } : Jvm.MethodName) prog_2_method_7_code (1 : Nat) (Option.some Jvm.ClassFile.FieldType.int)) ∈ lw_all := lw_g (lw_at lw_m1 156 rfl) rfl
theorem q162 : (Jvm.Cond.constant "FragmentHouse$Fragments" (54 : Nat) (2147483647 : Int32)) ∈ lw_all := lw_g (lw_at lw_m1 157 rfl) rfl
theorem q164 : (Jvm.Cond.instanceMethod ({ cls := "FragmentHouse$Fragments", name := "act", desc := "()V" } : Jvm.MethodName)) ∈ lw_all := lw_g (lw_at lw_m1 159 rfl) rfl
theorem q165 : (Jvm.Cond.selects "FragmentHouse$Fragments" ({ cls := "FragmentHouse$Fragments", name := "act", desc := "()V" } : Jvm.MethodName) ({ cls := "FragmentHouse$Fragments", name := "act", desc := "()V" } : Jvm.MethodName)) ∈ lw_all := lw_g (lw_at lw_m1 160 rfl) rfl
theorem q166 : (Jvm.Cond.code ({ cls := "FragmentHouse$Fragments", name := "act", desc := "()V" } : Jvm.MethodName) prog_2_method_8_code (1 : Nat) (Option.none : Option Jvm.ClassFile.FieldType)) ∈ lw_all := lw_g (lw_at lw_m1 161 rfl) rfl
theorem in_X1 : ∀ w ∈ wsX10, w ∈ lw_all := lw_in wsX10 [71, 73, 75] (by decide +kernel) (by decide +kernel)
end
section
/-! FragmentHouse$Making -/
set_option maxRecDepth 100000
def RX2 : String := "FragmentHouse$Making"
def TX2 : u_T := fun k => match k with
  | 0 => ("FragmentHouse$Making", "from", "I", false)
  | 1 => ("FragmentHouse$Making", "identification", "I", false)
  | 2 => ("FragmentHouse$Making", "protocol", "I", false)
  | 3 => ("FragmentHouse$Making", "since", "I", false)
  | 4 => ("FragmentHouse$Making", "bytes", "[B", true)
  | 5 => ("FragmentHouse$Making", "there", "[Z", true)
  | 6 => ("FragmentHouse$Making", "reach", "I", false)
  | _ => ("FragmentHouse$Making", "end", "I", false)
def tyX2 : Nat → FieldType := fun k => match k with
  | 0 => .int
  | 1 => .int
  | 2 => .int
  | 3 => .int
  | 4 => .array .byte
  | 5 => .array .boolean
  | 6 => .int
  | _ => .int
abbrev wsX20 : List Cond := u_ws RX2 TX2 8
theorem nmX2 : ∀ a, a < 8 → ∀ b, b < 8 → a ≠ b → (TX2 a).2.1 ≠ (TX2 b).2.1 := by decide +kernel
theorem tyX2_ok : ∀ k, k < 8 → parseFieldDescriptor (TX2 k).2.2.1 = some (tyX2 k) := by decide +kernel
abbrev cX2_init : ByteArray := prog_3_method_1_code
def yX2_init : MethodName := ⟨RX2, "<init>", "()V"⟩
theorem dX2_init_0 : decode cX2_init 0 = .ok (.aload_n 0, 1) := by decide +kernel
theorem dX2_init_1 : decode cX2_init 1 = .ok (.invokespecial 1, 3) := by decide +kernel
theorem dX2_init_4 : decode cX2_init 4 = .ok (.aload_n 0, 1) := by decide +kernel
theorem dX2_init_5 : decode cX2_init 5 = .ok (.sipush 4096, 3) := by decide +kernel
theorem dX2_init_8 : decode cX2_init 8 = .ok (.newarray .byte, 2) := by decide +kernel
theorem dX2_init_10 : decode cX2_init 10 = .ok (.putfield 9, 3) := by decide +kernel
theorem dX2_init_13 : decode cX2_init 13 = .ok (.aload_n 0, 1) := by decide +kernel
theorem dX2_init_14 : decode cX2_init 14 = .ok (.sipush 4096, 3) := by decide +kernel
theorem dX2_init_17 : decode cX2_init 17 = .ok (.newarray .boolean, 2) := by decide +kernel
theorem dX2_init_19 : decode cX2_init 19 = .ok (.putfield 13, 3) := by decide +kernel
theorem dX2_init_22 : decode cX2_init 22 = .ok (.return_, 1) := by decide +kernel
abbrev cX2_begin : ByteArray := prog_3_method_2_code
def yX2_begin : MethodName := ⟨RX2, "begin", "(IIII)V"⟩
theorem dX2_begin_0 : decode cX2_begin 0 = .ok (.aload_n 0, 1) := by decide +kernel
theorem dX2_begin_1 : decode cX2_begin 1 = .ok (.iload_n 1, 1) := by decide +kernel
theorem dX2_begin_2 : decode cX2_begin 2 = .ok (.putfield 17, 3) := by decide +kernel
theorem dX2_begin_5 : decode cX2_begin 5 = .ok (.aload_n 0, 1) := by decide +kernel
theorem dX2_begin_6 : decode cX2_begin 6 = .ok (.iload_n 2, 1) := by decide +kernel
theorem dX2_begin_7 : decode cX2_begin 7 = .ok (.putfield 21, 3) := by decide +kernel
theorem dX2_begin_10 : decode cX2_begin 10 = .ok (.aload_n 0, 1) := by decide +kernel
theorem dX2_begin_11 : decode cX2_begin 11 = .ok (.iload_n 3, 1) := by decide +kernel
theorem dX2_begin_12 : decode cX2_begin 12 = .ok (.putfield 24, 3) := by decide +kernel
theorem dX2_begin_15 : decode cX2_begin 15 = .ok (.aload_n 0, 1) := by decide +kernel
theorem dX2_begin_16 : decode cX2_begin 16 = .ok (.iload 4, 2) := by decide +kernel
theorem dX2_begin_18 : decode cX2_begin 18 = .ok (.putfield 27, 3) := by decide +kernel
theorem dX2_begin_21 : decode cX2_begin 21 = .ok (.aload_n 0, 1) := by decide +kernel
theorem dX2_begin_22 : decode cX2_begin 22 = .ok (.iconst 0, 1) := by decide +kernel
theorem dX2_begin_23 : decode cX2_begin 23 = .ok (.putfield 30, 3) := by decide +kernel
theorem dX2_begin_26 : decode cX2_begin 26 = .ok (.aload_n 0, 1) := by decide +kernel
theorem dX2_begin_27 : decode cX2_begin 27 = .ok (.iconst (-1), 1) := by decide +kernel
theorem dX2_begin_28 : decode cX2_begin 28 = .ok (.putfield 33, 3) := by decide +kernel
theorem dX2_begin_31 : decode cX2_begin 31 = .ok (.iconst 0, 1) := by decide +kernel
theorem dX2_begin_32 : decode cX2_begin 32 = .ok (.istore 5, 2) := by decide +kernel
theorem dX2_begin_34 : decode cX2_begin 34 = .ok (.iload 5, 2) := by decide +kernel
theorem dX2_begin_36 : decode cX2_begin 36 = .ok (.sipush 4096, 3) := by decide +kernel
theorem dX2_begin_39 : decode cX2_begin 39 = .ok (.if_icmp .ge 17, 3) := by decide +kernel
theorem dX2_begin_42 : decode cX2_begin 42 = .ok (.aload_n 0, 1) := by decide +kernel
theorem dX2_begin_43 : decode cX2_begin 43 = .ok (.getfield 13, 3) := by decide +kernel
theorem dX2_begin_46 : decode cX2_begin 46 = .ok (.iload 5, 2) := by decide +kernel
theorem dX2_begin_48 : decode cX2_begin 48 = .ok (.iconst 0, 1) := by decide +kernel
theorem dX2_begin_49 : decode cX2_begin 49 = .ok (.bastore, 1) := by decide +kernel
theorem dX2_begin_50 : decode cX2_begin 50 = .ok (.iinc 5 1, 3) := by decide +kernel
theorem dX2_begin_53 : decode cX2_begin 53 = .ok (.goto (-19), 3) := by decide +kernel
theorem dX2_begin_56 : decode cX2_begin 56 = .ok (.return_, 1) := by decide +kernel
abbrev cX2_add : ByteArray := prog_3_method_3_code
def yX2_add : MethodName := ⟨RX2, "add", "([BIIIZ)Z"⟩
theorem dX2_add_0 : decode cX2_add 0 = .ok (.iload_n 3, 1) := by decide +kernel
theorem dX2_add_1 : decode cX2_add 1 = .ok (.iload 4, 2) := by decide +kernel
theorem dX2_add_3 : decode cX2_add 3 = .ok (.iadd, 1) := by decide +kernel
theorem dX2_add_4 : decode cX2_add 4 = .ok (.istore 6, 2) := by decide +kernel
theorem dX2_add_6 : decode cX2_add 6 = .ok (.iload 5, 2) := by decide +kernel
theorem dX2_add_8 : decode cX2_add 8 = .ok (.ifCond .eq 19, 3) := by decide +kernel
theorem dX2_add_11 : decode cX2_add 11 = .ok (.aload_n 0, 1) := by decide +kernel
theorem dX2_add_12 : decode cX2_add 12 = .ok (.getfield 33, 3) := by decide +kernel
theorem dX2_add_15 : decode cX2_add 15 = .ok (.ifCond .lt 12, 3) := by decide +kernel
theorem dX2_add_18 : decode cX2_add 18 = .ok (.aload_n 0, 1) := by decide +kernel
theorem dX2_add_19 : decode cX2_add 19 = .ok (.getfield 33, 3) := by decide +kernel
theorem dX2_add_22 : decode cX2_add 22 = .ok (.iload 6, 2) := by decide +kernel
theorem dX2_add_24 : decode cX2_add 24 = .ok (.if_icmp .ne 33, 3) := by decide +kernel
theorem dX2_add_27 : decode cX2_add 27 = .ok (.aload_n 0, 1) := by decide +kernel
theorem dX2_add_28 : decode cX2_add 28 = .ok (.getfield 33, 3) := by decide +kernel
theorem dX2_add_31 : decode cX2_add 31 = .ok (.ifCond .lt 12, 3) := by decide +kernel
theorem dX2_add_34 : decode cX2_add 34 = .ok (.iload 6, 2) := by decide +kernel
theorem dX2_add_36 : decode cX2_add 36 = .ok (.aload_n 0, 1) := by decide +kernel
theorem dX2_add_37 : decode cX2_add 37 = .ok (.getfield 33, 3) := by decide +kernel
theorem dX2_add_40 : decode cX2_add 40 = .ok (.if_icmp .gt 17, 3) := by decide +kernel
theorem dX2_add_43 : decode cX2_add 43 = .ok (.iload 5, 2) := by decide +kernel
theorem dX2_add_45 : decode cX2_add 45 = .ok (.ifCond .eq 14, 3) := by decide +kernel
theorem dX2_add_48 : decode cX2_add 48 = .ok (.aload_n 0, 1) := by decide +kernel
theorem dX2_add_49 : decode cX2_add 49 = .ok (.getfield 30, 3) := by decide +kernel
theorem dX2_add_52 : decode cX2_add 52 = .ok (.iload 6, 2) := by decide +kernel
theorem dX2_add_54 : decode cX2_add 54 = .ok (.if_icmp .le 5, 3) := by decide +kernel
theorem dX2_add_57 : decode cX2_add 57 = .ok (.iconst 0, 1) := by decide +kernel
theorem dX2_add_58 : decode cX2_add 58 = .ok (.ireturn, 1) := by decide +kernel
theorem dX2_add_59 : decode cX2_add 59 = .ok (.iload 5, 2) := by decide +kernel
theorem dX2_add_61 : decode cX2_add 61 = .ok (.ifCond .eq 9, 3) := by decide +kernel
theorem dX2_add_64 : decode cX2_add 64 = .ok (.aload_n 0, 1) := by decide +kernel
theorem dX2_add_65 : decode cX2_add 65 = .ok (.iload 6, 2) := by decide +kernel
theorem dX2_add_67 : decode cX2_add 67 = .ok (.putfield 33, 3) := by decide +kernel
theorem dX2_add_70 : decode cX2_add 70 = .ok (.iconst 0, 1) := by decide +kernel
theorem dX2_add_71 : decode cX2_add 71 = .ok (.istore 7, 2) := by decide +kernel
theorem dX2_add_73 : decode cX2_add 73 = .ok (.iload 7, 2) := by decide +kernel
theorem dX2_add_75 : decode cX2_add 75 = .ok (.iload 4, 2) := by decide +kernel
theorem dX2_add_77 : decode cX2_add 77 = .ok (.if_icmp .ge 46, 3) := by decide +kernel
theorem dX2_add_80 : decode cX2_add 80 = .ok (.aload_n 0, 1) := by decide +kernel
theorem dX2_add_81 : decode cX2_add 81 = .ok (.getfield 13, 3) := by decide +kernel
theorem dX2_add_84 : decode cX2_add 84 = .ok (.iload_n 3, 1) := by decide +kernel
theorem dX2_add_85 : decode cX2_add 85 = .ok (.iload 7, 2) := by decide +kernel
theorem dX2_add_87 : decode cX2_add 87 = .ok (.iadd, 1) := by decide +kernel
theorem dX2_add_88 : decode cX2_add 88 = .ok (.baload, 1) := by decide +kernel
theorem dX2_add_89 : decode cX2_add 89 = .ok (.ifCond .ne 18, 3) := by decide +kernel
theorem dX2_add_92 : decode cX2_add 92 = .ok (.aload_n 0, 1) := by decide +kernel
theorem dX2_add_93 : decode cX2_add 93 = .ok (.getfield 9, 3) := by decide +kernel
theorem dX2_add_96 : decode cX2_add 96 = .ok (.iload_n 3, 1) := by decide +kernel
theorem dX2_add_97 : decode cX2_add 97 = .ok (.iload 7, 2) := by decide +kernel
theorem dX2_add_99 : decode cX2_add 99 = .ok (.iadd, 1) := by decide +kernel
theorem dX2_add_100 : decode cX2_add 100 = .ok (.aload_n 1, 1) := by decide +kernel
theorem dX2_add_101 : decode cX2_add 101 = .ok (.iload_n 2, 1) := by decide +kernel
theorem dX2_add_102 : decode cX2_add 102 = .ok (.iload 7, 2) := by decide +kernel
theorem dX2_add_104 : decode cX2_add 104 = .ok (.iadd, 1) := by decide +kernel
theorem dX2_add_105 : decode cX2_add 105 = .ok (.baload, 1) := by decide +kernel
theorem dX2_add_106 : decode cX2_add 106 = .ok (.bastore, 1) := by decide +kernel
theorem dX2_add_107 : decode cX2_add 107 = .ok (.aload_n 0, 1) := by decide +kernel
theorem dX2_add_108 : decode cX2_add 108 = .ok (.getfield 13, 3) := by decide +kernel
theorem dX2_add_111 : decode cX2_add 111 = .ok (.iload_n 3, 1) := by decide +kernel
theorem dX2_add_112 : decode cX2_add 112 = .ok (.iload 7, 2) := by decide +kernel
theorem dX2_add_114 : decode cX2_add 114 = .ok (.iadd, 1) := by decide +kernel
theorem dX2_add_115 : decode cX2_add 115 = .ok (.iconst 1, 1) := by decide +kernel
theorem dX2_add_116 : decode cX2_add 116 = .ok (.bastore, 1) := by decide +kernel
theorem dX2_add_117 : decode cX2_add 117 = .ok (.iinc 7 1, 3) := by decide +kernel
theorem dX2_add_120 : decode cX2_add 120 = .ok (.goto (-47), 3) := by decide +kernel
theorem dX2_add_123 : decode cX2_add 123 = .ok (.aload_n 0, 1) := by decide +kernel
theorem dX2_add_124 : decode cX2_add 124 = .ok (.aload_n 0, 1) := by decide +kernel
theorem dX2_add_125 : decode cX2_add 125 = .ok (.getfield 30, 3) := by decide +kernel
theorem dX2_add_128 : decode cX2_add 128 = .ok (.iload 6, 2) := by decide +kernel
theorem dX2_add_130 : decode cX2_add 130 = .ok (.invokestatic 36, 3) := by decide +kernel
theorem dX2_add_133 : decode cX2_add 133 = .ok (.putfield 30, 3) := by decide +kernel
theorem dX2_add_136 : decode cX2_add 136 = .ok (.iconst 1, 1) := by decide +kernel
theorem dX2_add_137 : decode cX2_add 137 = .ok (.ireturn, 1) := by decide +kernel
abbrev cX2_isWhole : ByteArray := prog_3_method_4_code
def yX2_isWhole : MethodName := ⟨RX2, "isWhole", "()Z"⟩
theorem dX2_isWhole_0 : decode cX2_isWhole 0 = .ok (.iconst 0, 1) := by decide +kernel
theorem dX2_isWhole_1 : decode cX2_isWhole 1 = .ok (.istore_n 1, 1) := by decide +kernel
theorem dX2_isWhole_2 : decode cX2_isWhole 2 = .ok (.iload_n 1, 1) := by decide +kernel
theorem dX2_isWhole_3 : decode cX2_isWhole 3 = .ok (.aload_n 0, 1) := by decide +kernel
theorem dX2_isWhole_4 : decode cX2_isWhole 4 = .ok (.getfield 33, 3) := by decide +kernel
theorem dX2_isWhole_7 : decode cX2_isWhole 7 = .ok (.if_icmp .ge 20, 3) := by decide +kernel
theorem dX2_isWhole_10 : decode cX2_isWhole 10 = .ok (.aload_n 0, 1) := by decide +kernel
theorem dX2_isWhole_11 : decode cX2_isWhole 11 = .ok (.getfield 13, 3) := by decide +kernel
theorem dX2_isWhole_14 : decode cX2_isWhole 14 = .ok (.iload_n 1, 1) := by decide +kernel
theorem dX2_isWhole_15 : decode cX2_isWhole 15 = .ok (.baload, 1) := by decide +kernel
theorem dX2_isWhole_16 : decode cX2_isWhole 16 = .ok (.ifCond .ne 5, 3) := by decide +kernel
theorem dX2_isWhole_19 : decode cX2_isWhole 19 = .ok (.iconst 0, 1) := by decide +kernel
theorem dX2_isWhole_20 : decode cX2_isWhole 20 = .ok (.ireturn, 1) := by decide +kernel
theorem dX2_isWhole_21 : decode cX2_isWhole 21 = .ok (.iinc 1 1, 3) := by decide +kernel
theorem dX2_isWhole_24 : decode cX2_isWhole 24 = .ok (.goto (-22), 3) := by decide +kernel
theorem dX2_isWhole_27 : decode cX2_isWhole 27 = .ok (.aload_n 0, 1) := by decide +kernel
theorem dX2_isWhole_28 : decode cX2_isWhole 28 = .ok (.getfield 33, 3) := by decide +kernel
theorem dX2_isWhole_31 : decode cX2_isWhole 31 = .ok (.ifCond .lt 7, 3) := by decide +kernel
theorem dX2_isWhole_34 : decode cX2_isWhole 34 = .ok (.iconst 1, 1) := by decide +kernel
theorem dX2_isWhole_35 : decode cX2_isWhole 35 = .ok (.goto 4, 3) := by decide +kernel
theorem dX2_isWhole_38 : decode cX2_isWhole 38 = .ok (.iconst 0, 1) := by decide +kernel
theorem dX2_isWhole_39 : decode cX2_isWhole 39 = .ok (.ireturn, 1) := by decide +kernel
theorem q8 : (Jvm.Cond.initialized "FragmentHouse$Making") ∈ lw_all := lw_g (lw_at lw_m1 3 rfl) rfl
theorem q28 : (Jvm.Cond.instantiable "FragmentHouse$Making" (8 : Nat)) ∈ lw_all := lw_g (lw_at lw_m1 23 rfl) rfl
theorem q30 : (Jvm.Cond.instanceMethod ({ cls := "FragmentHouse$Making", name := "<init>", desc := "()V" } : Jvm.MethodName)) ∈ lw_all := lw_g (lw_at lw_m1 25 rfl) rfl
theorem q31 : (Jvm.Cond.code ({ cls := "FragmentHouse$Making", name := "<init>", desc := "()V" } : Jvm.MethodName) prog_3_method_1_code (1 : Nat) (Option.none : Option Jvm.ClassFile.FieldType)) ∈ lw_all := lw_g (lw_at lw_m1 26 rfl) rfl
theorem q32 : (Jvm.Cond.methodLink "FragmentHouse$Making" (1 : Nat) ({ cls := "java/lang/Object", name := "<init>", desc := "()V" } : Jvm.MethodName)) ∈ lw_all := lw_g (lw_at lw_m1 27 rfl) rfl
theorem q33 : (Jvm.Cond.fieldLink "FragmentHouse$Making" (17 : Nat) "FragmentHouse$Making" "from" "I") ∈ lw_all := lw_g (lw_at lw_m1 28 rfl) rfl
theorem q35 : (Jvm.Cond.fieldLink "FragmentHouse$Making" (21 : Nat) "FragmentHouse$Making" "identification" "I") ∈ lw_all := lw_g (lw_at lw_m1 30 rfl) rfl
theorem q37 : (Jvm.Cond.fieldLink "FragmentHouse$Making" (24 : Nat) "FragmentHouse$Making" "protocol" "I") ∈ lw_all := lw_g (lw_at lw_m1 32 rfl) rfl
theorem q39 : (Jvm.Cond.fieldLink "FragmentHouse$Making" (27 : Nat) "FragmentHouse$Making" "since" "I") ∈ lw_all := lw_g (lw_at lw_m1 34 rfl) rfl
theorem q41 : (Jvm.Cond.fieldLink "FragmentHouse$Making" (9 : Nat) "FragmentHouse$Making" "bytes" "[B") ∈ lw_all := lw_g (lw_at lw_m1 36 rfl) rfl
theorem q43 : (Jvm.Cond.fieldLink "FragmentHouse$Making" (13 : Nat) "FragmentHouse$Making" "there" "[Z") ∈ lw_all := lw_g (lw_at lw_m1 38 rfl) rfl
theorem q44 : (Jvm.Cond.fieldLink "FragmentHouse$Making" (30 : Nat) "FragmentHouse$Making" "reach" "I") ∈ lw_all := lw_g (lw_at lw_m1 39 rfl) rfl
theorem q45 : (Jvm.Cond.fieldLink "FragmentHouse$Making" (33 : Nat) "FragmentHouse$Making" "end" "I") ∈ lw_all := lw_g (lw_at lw_m1 40 rfl) rfl
theorem q47 : (Jvm.Cond.lays "FragmentHouse$Making" "FragmentHouse$Making" "from" "I") ∈ lw_all := lw_g (lw_at lw_m1 42 rfl) rfl
theorem q48 : (Jvm.Cond.soleField "FragmentHouse$Making" "from") ∈ lw_all := lw_g (lw_at lw_m1 43 rfl) rfl
theorem q49 : (Jvm.Cond.lays "FragmentHouse$Making" "FragmentHouse$Making" "identification" "I") ∈ lw_all := lw_g (lw_at lw_m1 44 rfl) rfl
theorem q50 : (Jvm.Cond.soleField "FragmentHouse$Making" "identification") ∈ lw_all := lw_g (lw_at lw_m1 45 rfl) rfl
theorem q51 : (Jvm.Cond.lays "FragmentHouse$Making" "FragmentHouse$Making" "protocol" "I") ∈ lw_all := lw_g (lw_at lw_m1 46 rfl) rfl
theorem q52 : (Jvm.Cond.soleField "FragmentHouse$Making" "protocol") ∈ lw_all := lw_g (lw_at lw_m1 47 rfl) rfl
theorem q53 : (Jvm.Cond.lays "FragmentHouse$Making" "FragmentHouse$Making" "since" "I") ∈ lw_all := lw_g (lw_at lw_m1 48 rfl) rfl
theorem q54 : (Jvm.Cond.soleField "FragmentHouse$Making" "since") ∈ lw_all := lw_g (lw_at lw_m1 49 rfl) rfl
theorem q55 : (Jvm.Cond.laysFinal "FragmentHouse$Making" "FragmentHouse$Making" "bytes" "[B") ∈ lw_all := lw_g (lw_at lw_m1 50 rfl) rfl
theorem q56 : (Jvm.Cond.soleField "FragmentHouse$Making" "bytes") ∈ lw_all := lw_g (lw_at lw_m1 51 rfl) rfl
theorem q57 : (Jvm.Cond.laysFinal "FragmentHouse$Making" "FragmentHouse$Making" "there" "[Z") ∈ lw_all := lw_g (lw_at lw_m1 52 rfl) rfl
theorem q58 : (Jvm.Cond.soleField "FragmentHouse$Making" "there") ∈ lw_all := lw_g (lw_at lw_m1 53 rfl) rfl
theorem q59 : (Jvm.Cond.lays "FragmentHouse$Making" "FragmentHouse$Making" "reach" "I") ∈ lw_all := lw_g (lw_at lw_m1 54 rfl) rfl
theorem q60 : (Jvm.Cond.soleField "FragmentHouse$Making" "reach") ∈ lw_all := lw_g (lw_at lw_m1 55 rfl) rfl
theorem q61 : (Jvm.Cond.lays "FragmentHouse$Making" "FragmentHouse$Making" "end" "I") ∈ lw_all := lw_g (lw_at lw_m1 56 rfl) rfl
theorem q62 : (Jvm.Cond.soleField "FragmentHouse$Making" "end") ∈ lw_all := lw_g (lw_at lw_m1 57 rfl) rfl
theorem q63 : (Jvm.Cond.superclass "FragmentHouse$Making" "java/lang/Object") ∈ lw_all := lw_g (lw_at lw_m1 58 rfl) rfl
theorem q132 : (Jvm.Cond.instanceMethod ({ cls := "FragmentHouse$Making", name := "begin", desc := "(IIII)V" } : Jvm.MethodName)) ∈ lw_all := lw_g (lw_at lw_m1 127 rfl) rfl
theorem q133 : (Jvm.Cond.selects "FragmentHouse$Making" ({ cls := "FragmentHouse$Making", name := "begin", desc := "(IIII)V" } : Jvm.MethodName) ({ cls := "FragmentHouse$Making", name := "begin", desc := "(IIII)V" } : Jvm.MethodName)) ∈ lw_all := lw_g (lw_at lw_m1 128 rfl) rfl
theorem q134 : (Jvm.Cond.code ({ cls := "FragmentHouse$Making", name := "begin", desc := "(IIII)V" } : Jvm.MethodName) prog_3_method_2_code (6 : Nat) (Option.none : Option Jvm.ClassFile.FieldType)) ∈ lw_all := lw_g (lw_at lw_m1 129 rfl) rfl
theorem q136 : (Jvm.Cond.instanceMethod ({ cls := "FragmentHouse$Making", name := "add", desc := "([BIIIZ)Z" } : Jvm.MethodName)) ∈ lw_all := lw_g (lw_at lw_m1 131 rfl) rfl
theorem q137 : (Jvm.Cond.selects "FragmentHouse$Making" ({ cls := "FragmentHouse$Making", name := "add", desc := "([BIIIZ)Z" } : Jvm.MethodName) ({ cls := "FragmentHouse$Making", name := "add", desc := "([BIIIZ)Z" } : Jvm.MethodName)) ∈ lw_all := lw_g (lw_at lw_m1 132 rfl) rfl
theorem q138 : (Jvm.Cond.code ({ cls := "FragmentHouse$Making", name := "add", desc := "([BIIIZ)Z" } : Jvm.MethodName) prog_3_method_3_code (8 : Nat) (Option.some Jvm.ClassFile.FieldType.boolean)) ∈ lw_all := lw_g (lw_at lw_m1 133 rfl) rfl
theorem q139 : (Jvm.Cond.methodLink "FragmentHouse$Making" (36 : Nat) ({ cls := "java/lang/Math", name := "max", desc := "(II)I" } : Jvm.MethodName)) ∈ lw_all := lw_g (lw_at lw_m1 134 rfl) rfl
theorem q147 : (Jvm.Cond.instanceMethod ({ cls := "FragmentHouse$Making", name := "isWhole", desc := "()Z" } : Jvm.MethodName)) ∈ lw_all := lw_g (lw_at lw_m1 142 rfl) rfl
theorem q148 : (Jvm.Cond.selects "FragmentHouse$Making" ({ cls := "FragmentHouse$Making", name := "isWhole", desc := "()Z" } : Jvm.MethodName) ({ cls := "FragmentHouse$Making", name := "isWhole", desc := "()Z" } : Jvm.MethodName)) ∈ lw_all := lw_g (lw_at lw_m1 143 rfl) rfl
theorem q149 : (Jvm.Cond.code ({ cls := "FragmentHouse$Making", name := "isWhole", desc := "()Z" } : Jvm.MethodName) prog_3_method_4_code (2 : Nat) (Option.some Jvm.ClassFile.FieldType.boolean)) ∈ lw_all := lw_g (lw_at lw_m1 144 rfl) rfl
theorem in_X2 : ∀ w ∈ wsX20, w ∈ lw_all := lw_in wsX20 [47, 49, 51, 53, 55, 57, 59, 61] (by decide +kernel) (by decide +kernel)
/-! FragmentHouse$Net -/
set_option maxRecDepth 100000
def RX4 : String := "FragmentHouse$Net"
abbrev cX4_putFour : ByteArray := prog_4_method_5_code
def yX4_putFour : MethodName := ⟨RX4, "putFour", "([BII)V"⟩
theorem dX4_putFour_0 : decode cX4_putFour 0 = .ok (.aload_n 0, 1) := by decide +kernel
theorem dX4_putFour_1 : decode cX4_putFour 1 = .ok (.iload_n 1, 1) := by decide +kernel
theorem dX4_putFour_2 : decode cX4_putFour 2 = .ok (.iload_n 2, 1) := by decide +kernel
theorem dX4_putFour_3 : decode cX4_putFour 3 = .ok (.bipush 16, 2) := by decide +kernel
theorem dX4_putFour_5 : decode cX4_putFour 5 = .ok (.iushr, 1) := by decide +kernel
theorem dX4_putFour_6 : decode cX4_putFour 6 = .ok (.invokestatic 13, 3) := by decide +kernel
theorem dX4_putFour_9 : decode cX4_putFour 9 = .ok (.aload_n 0, 1) := by decide +kernel
theorem dX4_putFour_10 : decode cX4_putFour 10 = .ok (.iload_n 1, 1) := by decide +kernel
theorem dX4_putFour_11 : decode cX4_putFour 11 = .ok (.iconst 2, 1) := by decide +kernel
theorem dX4_putFour_12 : decode cX4_putFour 12 = .ok (.iadd, 1) := by decide +kernel
theorem dX4_putFour_13 : decode cX4_putFour 13 = .ok (.iload_n 2, 1) := by decide +kernel
theorem dX4_putFour_14 : decode cX4_putFour 14 = .ok (.invokestatic 13, 3) := by decide +kernel
theorem dX4_putFour_17 : decode cX4_putFour 17 = .ok (.return_, 1) := by decide +kernel
abbrev cX4_putTwo : ByteArray := prog_4_method_4_code
def yX4_putTwo : MethodName := ⟨RX4, "putTwo", "([BII)V"⟩
theorem dX4_putTwo_0 : decode cX4_putTwo 0 = .ok (.aload_n 0, 1) := by decide +kernel
theorem dX4_putTwo_1 : decode cX4_putTwo 1 = .ok (.iload_n 1, 1) := by decide +kernel
theorem dX4_putTwo_2 : decode cX4_putTwo 2 = .ok (.iload_n 2, 1) := by decide +kernel
theorem dX4_putTwo_3 : decode cX4_putTwo 3 = .ok (.bipush 8, 2) := by decide +kernel
theorem dX4_putTwo_5 : decode cX4_putTwo 5 = .ok (.ishr, 1) := by decide +kernel
theorem dX4_putTwo_6 : decode cX4_putTwo 6 = .ok (.i2b, 1) := by decide +kernel
theorem dX4_putTwo_7 : decode cX4_putTwo 7 = .ok (.bastore, 1) := by decide +kernel
theorem dX4_putTwo_8 : decode cX4_putTwo 8 = .ok (.aload_n 0, 1) := by decide +kernel
theorem dX4_putTwo_9 : decode cX4_putTwo 9 = .ok (.iload_n 1, 1) := by decide +kernel
theorem dX4_putTwo_10 : decode cX4_putTwo 10 = .ok (.iconst 1, 1) := by decide +kernel
theorem dX4_putTwo_11 : decode cX4_putTwo 11 = .ok (.iadd, 1) := by decide +kernel
theorem dX4_putTwo_12 : decode cX4_putTwo 12 = .ok (.iload_n 2, 1) := by decide +kernel
theorem dX4_putTwo_13 : decode cX4_putTwo 13 = .ok (.i2b, 1) := by decide +kernel
theorem dX4_putTwo_14 : decode cX4_putTwo 14 = .ok (.bastore, 1) := by decide +kernel
theorem dX4_putTwo_15 : decode cX4_putTwo 15 = .ok (.return_, 1) := by decide +kernel
abbrev cX4_copy : ByteArray := prog_4_method_8_code
def yX4_copy : MethodName := ⟨RX4, "copy", "([BI[BII)V"⟩
theorem dX4_copy_0 : decode cX4_copy 0 = .ok (.iconst 0, 1) := by decide +kernel
theorem dX4_copy_1 : decode cX4_copy 1 = .ok (.istore 5, 2) := by decide +kernel
theorem dX4_copy_3 : decode cX4_copy 3 = .ok (.iload 5, 2) := by decide +kernel
theorem dX4_copy_5 : decode cX4_copy 5 = .ok (.iload 4, 2) := by decide +kernel
theorem dX4_copy_7 : decode cX4_copy 7 = .ok (.if_icmp .ge 21, 3) := by decide +kernel
theorem dX4_copy_10 : decode cX4_copy 10 = .ok (.aload_n 2, 1) := by decide +kernel
theorem dX4_copy_11 : decode cX4_copy 11 = .ok (.iload_n 3, 1) := by decide +kernel
theorem dX4_copy_12 : decode cX4_copy 12 = .ok (.iload 5, 2) := by decide +kernel
theorem dX4_copy_14 : decode cX4_copy 14 = .ok (.iadd, 1) := by decide +kernel
theorem dX4_copy_15 : decode cX4_copy 15 = .ok (.aload_n 0, 1) := by decide +kernel
theorem dX4_copy_16 : decode cX4_copy 16 = .ok (.iload_n 1, 1) := by decide +kernel
theorem dX4_copy_17 : decode cX4_copy 17 = .ok (.iload 5, 2) := by decide +kernel
theorem dX4_copy_19 : decode cX4_copy 19 = .ok (.iadd, 1) := by decide +kernel
theorem dX4_copy_20 : decode cX4_copy 20 = .ok (.baload, 1) := by decide +kernel
theorem dX4_copy_21 : decode cX4_copy 21 = .ok (.bastore, 1) := by decide +kernel
theorem dX4_copy_22 : decode cX4_copy 22 = .ok (.iinc 5 1, 3) := by decide +kernel
theorem dX4_copy_25 : decode cX4_copy 25 = .ok (.goto (-22), 3) := by decide +kernel
theorem dX4_copy_28 : decode cX4_copy 28 = .ok (.return_, 1) := by decide +kernel
theorem q10 : (Jvm.Cond.initialized "FragmentHouse$Net") ∈ lw_all := lw_g (lw_at lw_m1 5 rfl) rfl
theorem q106 : (Jvm.Cond.static ({ cls := "FragmentHouse$Net", name := "putFour", desc := "([BII)V" } : Jvm.MethodName)) ∈ lw_all := lw_g (lw_at lw_m1 101 rfl) rfl
theorem q107 : (Jvm.Cond.code ({ cls := "FragmentHouse$Net", name := "putFour", desc := "([BII)V" } : Jvm.MethodName) prog_4_method_5_code (3 : Nat) (Option.none : Option Jvm.ClassFile.FieldType)) ∈ lw_all := lw_g (lw_at lw_m1 102 rfl) rfl
theorem q108 : (Jvm.Cond.methodLink "FragmentHouse$Net" (13 : Nat) ({ cls := "FragmentHouse$Net", name := "putTwo", desc := "([BII)V" } : Jvm.MethodName)) ∈ lw_all := lw_g (lw_at lw_m1 103 rfl) rfl
theorem q109 : (Jvm.Cond.static ({ cls := "FragmentHouse$Net", name := "putTwo", desc := "([BII)V" } : Jvm.MethodName)) ∈ lw_all := lw_g (lw_at lw_m1 104 rfl) rfl
theorem q110 : (Jvm.Cond.code ({ cls := "FragmentHouse$Net", name := "putTwo", desc := "([BII)V" } : Jvm.MethodName) prog_4_method_4_code (3 : Nat) (Option.none : Option Jvm.ClassFile.FieldType)) ∈ lw_all := lw_g (lw_at lw_m1 105 rfl) rfl
theorem q151 : (Jvm.Cond.static ({ cls := "FragmentHouse$Net", name := "copy", desc := "([BI[BII)V" } : Jvm.MethodName)) ∈ lw_all := lw_g (lw_at lw_m1 146 rfl) rfl
theorem q152 : (Jvm.Cond.code ({ cls := "FragmentHouse$Net", name := "copy", desc := "([BI[BII)V" } : Jvm.MethodName) prog_4_method_8_code (6 : Nat) (Option.none : Option Jvm.ClassFile.FieldType)) ∈ lw_all := lw_g (lw_at lw_m1 147 rfl) rfl
/-! java/lang/Math -/
set_option maxRecDepth 100000
def RJ0 : String := "java/lang/Math"
abbrev cJ0_max : ByteArray := prog_7_method_65_code
def yJ0_max : MethodName := ⟨RJ0, "max", "(II)I"⟩
theorem dJ0_max_0 : decode cJ0_max 0 = .ok (.iload_n 0, 1) := by decide +kernel
theorem dJ0_max_1 : decode cJ0_max 1 = .ok (.iload_n 1, 1) := by decide +kernel
theorem dJ0_max_2 : decode cJ0_max 2 = .ok (.if_icmp .lt 7, 3) := by decide +kernel
theorem dJ0_max_5 : decode cJ0_max 5 = .ok (.iload_n 0, 1) := by decide +kernel
theorem dJ0_max_6 : decode cJ0_max 6 = .ok (.goto 4, 3) := by decide +kernel
theorem dJ0_max_9 : decode cJ0_max 9 = .ok (.iload_n 1, 1) := by decide +kernel
theorem dJ0_max_10 : decode cJ0_max 10 = .ok (.ireturn, 1) := by decide +kernel
theorem q11 : (Jvm.Cond.initialized "java/lang/Math") ∈ lw_all := lw_g (lw_at lw_m1 6 rfl) rfl
theorem q140 : (Jvm.Cond.static ({ cls := "java/lang/Math", name := "max", desc := "(II)I" } : Jvm.MethodName)) ∈ lw_all := lw_g (lw_at lw_m1 135 rfl) rfl
theorem q141 : (Jvm.Cond.code ({ cls := "java/lang/Math", name := "max", desc := "(II)I" } : Jvm.MethodName) prog_7_method_65_code (2 : Nat) (Option.some Jvm.ClassFile.FieldType.int)) ∈ lw_all := lw_g (lw_at lw_m1 136 rfl) rfl
/-! java/lang/Object -/
set_option maxRecDepth 100000
def RJ1 : String := "java/lang/Object"
abbrev cJ1_init : ByteArray := object_method_1_code
def yJ1_init : MethodName := ⟨RJ1, "<init>", "()V"⟩
theorem dJ1_init_0 : decode cJ1_init 0 = .ok (.return_, 1) := by decide +kernel
theorem q18 : (Jvm.Cond.instanceMethod ({ cls := "java/lang/Object", name := "<init>", desc := "()V" } : Jvm.MethodName)) ∈ lw_all := lw_g (lw_at lw_m1 13 rfl) rfl
theorem q19 : (Jvm.Cond.code ({ cls := "java/lang/Object", name := "<init>", desc := "()V" } : Jvm.MethodName) object_method_1_code (1 : Nat) (Option.none : Option Jvm.ClassFile.FieldType)) ∈ lw_all := lw_g (lw_at lw_m1 14 rfl) rfl
theorem q27 : (Jvm.Cond.arrayOver (Jvm.ClassFile.FieldType.object "FragmentHouse$Making")) ∈ lw_tbl := lw_at lw_m1 22 rfl
set_option maxRecDepth 100000
theorem q64 : (Jvm.Cond.arrayClass Jvm.ClassFile.FieldType.byte) ∈ lw_all := lw_g (lw_at lw_m1 59 rfl) rfl
theorem q65 : (Jvm.Cond.arrayClass Jvm.ClassFile.FieldType.boolean) ∈ lw_all := lw_g (lw_at lw_m1 60 rfl) rfl
theorem q229 : (Jvm.Cond.arrayClass Jvm.ClassFile.FieldType.int) ∈ lw_all := lw_g (lw_at lw_m1 224 rfl) rfl
theorem q5 : (Jvm.Cond.initialized "FragmentHouseLaw") ∈ lw_all := lw_g (lw_at lw_m1 0 rfl) rfl
set_option maxRecDepth 100000
theorem q12 : (Jvm.Cond.classLink "FragmentHouseLaw" (7 : Nat) "FragmentHouse") ∈ lw_all := lw_g (lw_at lw_m1 7 rfl) rfl
theorem q14 : (Jvm.Cond.methodLink "FragmentHouseLaw" (9 : Nat) ({ cls := "FragmentHouse", name := "<init>", desc := "()V" } : Jvm.MethodName)) ∈ lw_all := lw_g (lw_at lw_m1 9 rfl) rfl
theorem q101 : (Jvm.Cond.methodLink "FragmentHouseLaw" (13 : Nat) ({ cls := "FragmentHouse", name := "feed", desc := "(IIIII)I" } : Jvm.MethodName)) ∈ lw_all := lw_g (lw_at lw_m1 96 rfl) rfl
theorem q111 : (Jvm.Cond.methodLink "FragmentHouseLaw" (18 : Nat) ({ cls := "FragmentHouse", name := "end", desc := "(I)I" } : Jvm.MethodName)) ∈ lw_all := lw_g (lw_at lw_m1 106 rfl) rfl
theorem q115 : (Jvm.Cond.methodLink "FragmentHouseLaw" (23 : Nat) ({ cls := "FragmentHouse", name := "take", desc := "(IIIIZ)I" } : Jvm.MethodName)) ∈ lw_all := lw_g (lw_at lw_m1 110 rfl) rfl
theorem q153 : (Jvm.Cond.methodLink "FragmentHouseLaw" (28 : Nat) ({ cls := "FragmentHouse", name := "pass", desc := "(I)I" } : Jvm.MethodName)) ∈ lw_all := lw_g (lw_at lw_m1 148 rfl) rfl
theorem q167 : (Jvm.Cond.methodLink "FragmentHouseLaw" (32 : Nat) ({ cls := "FragmentHouse", name := "making", desc := "()I" } : Jvm.MethodName)) ∈ lw_all := lw_g (lw_at lw_m1 162 rfl) rfl
theorem q171 : (Jvm.Cond.methodLink "FragmentHouseLaw" (37 : Nat) ({ cls := "FragmentHouse", name := "made", desc := "()I" } : Jvm.MethodName)) ∈ lw_all := lw_g (lw_at lw_m1 166 rfl) rfl
theorem q175 : (Jvm.Cond.methodLink "FragmentHouseLaw" (41 : Nat) ({ cls := "FragmentHouse", name := "length", desc := "()I" } : Jvm.MethodName)) ∈ lw_all := lw_g (lw_at lw_m1 170 rfl) rfl
theorem q179 : (Jvm.Cond.methodLink "FragmentHouseLaw" (45 : Nat) ({ cls := "FragmentHouse", name := "at", desc := "(I)I" } : Jvm.MethodName)) ∈ lw_all := lw_g (lw_at lw_m1 174 rfl) rfl
theorem q183 : (Jvm.Cond.classLink "FragmentHouseLaw" (10 : Nat) "FragmentHouseModel") ∈ lw_all := lw_g (lw_at lw_m1 178 rfl) rfl
theorem q185 : (Jvm.Cond.methodLink "FragmentHouseLaw" (12 : Nat) ({ cls := "FragmentHouseModel", name := "<init>", desc := "()V" } : Jvm.MethodName)) ∈ lw_all := lw_g (lw_at lw_m1 180 rfl) rfl
theorem q230 : (Jvm.Cond.methodLink "FragmentHouseLaw" (17 : Nat) ({ cls := "FragmentHouseModel", name := "feed", desc := "(IIIII)I" } : Jvm.MethodName)) ∈ lw_all := lw_g (lw_at lw_m1 225 rfl) rfl
theorem q238 : (Jvm.Cond.methodLink "FragmentHouseLaw" (22 : Nat) ({ cls := "FragmentHouseModel", name := "end", desc := "(I)I" } : Jvm.MethodName)) ∈ lw_all := lw_g (lw_at lw_m1 233 rfl) rfl
theorem q242 : (Jvm.Cond.methodLink "FragmentHouseLaw" (27 : Nat) ({ cls := "FragmentHouseModel", name := "take", desc := "(IIIIZ)I" } : Jvm.MethodName)) ∈ lw_all := lw_g (lw_at lw_m1 237 rfl) rfl
theorem q254 : (Jvm.Cond.methodLink "FragmentHouseLaw" (31 : Nat) ({ cls := "FragmentHouseModel", name := "pass", desc := "(I)I" } : Jvm.MethodName)) ∈ lw_all := lw_g (lw_at lw_m2 9 rfl) rfl
theorem q259 : (Jvm.Cond.methodLink "FragmentHouseLaw" (36 : Nat) ({ cls := "FragmentHouseModel", name := "making", desc := "()I" } : Jvm.MethodName)) ∈ lw_all := lw_g (lw_at lw_m2 14 rfl) rfl
theorem q263 : (Jvm.Cond.methodLink "FragmentHouseLaw" (40 : Nat) ({ cls := "FragmentHouseModel", name := "made", desc := "()I" } : Jvm.MethodName)) ∈ lw_all := lw_g (lw_at lw_m2 18 rfl) rfl
theorem q267 : (Jvm.Cond.methodLink "FragmentHouseLaw" (44 : Nat) ({ cls := "FragmentHouseModel", name := "length", desc := "()I" } : Jvm.MethodName)) ∈ lw_all := lw_g (lw_at lw_m2 22 rfl) rfl
theorem q271 : (Jvm.Cond.methodLink "FragmentHouseLaw" (48 : Nat) ({ cls := "FragmentHouseModel", name := "at", desc := "(I)I" } : Jvm.MethodName)) ∈ lw_all := lw_g (lw_at lw_m2 26 rfl) rfl
end
section
/-! FragmentHouseModel -/
set_option maxRecDepth 100000
def RX3 : String := "FragmentHouseModel"
def TX3 : u_T := fun k => match k with
  | 0 => ("FragmentHouseModel", "tray", "[B", true)
  | 1 => ("FragmentHouseModel", "trayed", "I", false)
  | 2 => ("FragmentHouseModel", "senders", "[I", true)
  | 3 => ("FragmentHouseModel", "identifications", "[I", true)
  | 4 => ("FragmentHouseModel", "protocols", "[I", true)
  | 5 => ("FragmentHouseModel", "ends", "[I", true)
  | 6 => ("FragmentHouseModel", "begun", "[I", true)
  | 7 => ("FragmentHouseModel", "there", "[Z", true)
  | 8 => ("FragmentHouseModel", "bytes", "[I", true)
  | 9 => ("FragmentHouseModel", "whole", "[I", true)
  | 10 => ("FragmentHouseModel", "length", "I", false)
  | 11 => ("FragmentHouseModel", "made", "I", false)
  | _ => ("FragmentHouseModel", "now", "I", false)
def tyX3 : Nat → FieldType := fun k => match k with
  | 0 => .array .byte
  | 1 => .int
  | 2 => .array .int
  | 3 => .array .int
  | 4 => .array .int
  | 5 => .array .int
  | 6 => .array .int
  | 7 => .array .boolean
  | 8 => .array .int
  | 9 => .array .int
  | 10 => .int
  | 11 => .int
  | _ => .int
abbrev wsX30 : List Cond := u_ws RX3 TX3 13
set_option maxRecDepth 100000 in
theorem nmX3 : ∀ a, a < 13 → ∀ b, b < 13 → a ≠ b → (TX3 a).2.1 ≠ (TX3 b).2.1 := by decide +kernel
set_option maxRecDepth 100000 in
theorem tyX3_ok : ∀ k, k < 13 → parseFieldDescriptor (TX3 k).2.2.1 = some (tyX3 k) := by decide +kernel
abbrev cX3_init : ByteArray := prog_6_method_1_code
def yX3_init : MethodName := ⟨RX3, "<init>", "()V"⟩
theorem dX3_init_0 : decode cX3_init 0 = .ok (.aload_n 0, 1) := by decide +kernel
theorem dX3_init_1 : decode cX3_init 1 = .ok (.invokespecial 1, 3) := by decide +kernel
theorem dX3_init_4 : decode cX3_init 4 = .ok (.aload_n 0, 1) := by decide +kernel
theorem dX3_init_5 : decode cX3_init 5 = .ok (.sipush 1480, 3) := by decide +kernel
theorem dX3_init_8 : decode cX3_init 8 = .ok (.newarray .byte, 2) := by decide +kernel
theorem dX3_init_10 : decode cX3_init 10 = .ok (.putfield 9, 3) := by decide +kernel
theorem dX3_init_13 : decode cX3_init 13 = .ok (.aload_n 0, 1) := by decide +kernel
theorem dX3_init_14 : decode cX3_init 14 = .ok (.iconst 4, 1) := by decide +kernel
theorem dX3_init_15 : decode cX3_init 15 = .ok (.newarray .int, 2) := by decide +kernel
theorem dX3_init_17 : decode cX3_init 17 = .ok (.putfield 13, 3) := by decide +kernel
theorem dX3_init_20 : decode cX3_init 20 = .ok (.aload_n 0, 1) := by decide +kernel
theorem dX3_init_21 : decode cX3_init 21 = .ok (.iconst 4, 1) := by decide +kernel
theorem dX3_init_22 : decode cX3_init 22 = .ok (.newarray .int, 2) := by decide +kernel
theorem dX3_init_24 : decode cX3_init 24 = .ok (.putfield 17, 3) := by decide +kernel
theorem dX3_init_27 : decode cX3_init 27 = .ok (.aload_n 0, 1) := by decide +kernel
theorem dX3_init_28 : decode cX3_init 28 = .ok (.iconst 4, 1) := by decide +kernel
theorem dX3_init_29 : decode cX3_init 29 = .ok (.newarray .int, 2) := by decide +kernel
theorem dX3_init_31 : decode cX3_init 31 = .ok (.putfield 20, 3) := by decide +kernel
theorem dX3_init_34 : decode cX3_init 34 = .ok (.aload_n 0, 1) := by decide +kernel
theorem dX3_init_35 : decode cX3_init 35 = .ok (.iconst 4, 1) := by decide +kernel
theorem dX3_init_36 : decode cX3_init 36 = .ok (.newarray .int, 2) := by decide +kernel
theorem dX3_init_38 : decode cX3_init 38 = .ok (.putfield 23, 3) := by decide +kernel
theorem dX3_init_41 : decode cX3_init 41 = .ok (.aload_n 0, 1) := by decide +kernel
theorem dX3_init_42 : decode cX3_init 42 = .ok (.iconst 4, 1) := by decide +kernel
theorem dX3_init_43 : decode cX3_init 43 = .ok (.newarray .int, 2) := by decide +kernel
theorem dX3_init_45 : decode cX3_init 45 = .ok (.putfield 26, 3) := by decide +kernel
theorem dX3_init_48 : decode cX3_init 48 = .ok (.aload_n 0, 1) := by decide +kernel
theorem dX3_init_49 : decode cX3_init 49 = .ok (.iconst 4, 1) := by decide +kernel
theorem dX3_init_50 : decode cX3_init 50 = .ok (.newarray .boolean, 2) := by decide +kernel
theorem dX3_init_52 : decode cX3_init 52 = .ok (.putfield 29, 3) := by decide +kernel
theorem dX3_init_55 : decode cX3_init 55 = .ok (.aload_n 0, 1) := by decide +kernel
theorem dX3_init_56 : decode cX3_init 56 = .ok (.sipush 16384, 3) := by decide +kernel
theorem dX3_init_59 : decode cX3_init 59 = .ok (.newarray .int, 2) := by decide +kernel
theorem dX3_init_61 : decode cX3_init 61 = .ok (.putfield 33, 3) := by decide +kernel
theorem dX3_init_64 : decode cX3_init 64 = .ok (.aload_n 0, 1) := by decide +kernel
theorem dX3_init_65 : decode cX3_init 65 = .ok (.sipush 4096, 3) := by decide +kernel
theorem dX3_init_68 : decode cX3_init 68 = .ok (.newarray .int, 2) := by decide +kernel
theorem dX3_init_70 : decode cX3_init 70 = .ok (.putfield 36, 3) := by decide +kernel
theorem dX3_init_73 : decode cX3_init 73 = .ok (.aload_n 0, 1) := by decide +kernel
theorem dX3_init_74 : decode cX3_init 74 = .ok (.iconst (-1), 1) := by decide +kernel
theorem dX3_init_75 : decode cX3_init 75 = .ok (.putfield 39, 3) := by decide +kernel
theorem dX3_init_78 : decode cX3_init 78 = .ok (.return_, 1) := by decide +kernel
abbrev cX3_feed : ByteArray := prog_6_method_3_code
def yX3_feed : MethodName := ⟨RX3, "feed", "(IIIII)I"⟩
theorem dX3_feed_0 : decode cX3_feed 0 = .ok (.aload_n 0, 1) := by decide +kernel
theorem dX3_feed_1 : decode cX3_feed 1 = .ok (.getfield 43, 3) := by decide +kernel
theorem dX3_feed_4 : decode cX3_feed 4 = .ok (.bipush 20, 2) := by decide +kernel
theorem dX3_feed_6 : decode cX3_feed 6 = .ok (.iadd, 1) := by decide +kernel
theorem dX3_feed_7 : decode cX3_feed 7 = .ok (.sipush 1480, 3) := by decide +kernel
theorem dX3_feed_10 : decode cX3_feed 10 = .ok (.if_icmp .le 5, 3) := by decide +kernel
theorem dX3_feed_13 : decode cX3_feed 13 = .ok (.iconst (-1), 1) := by decide +kernel
theorem dX3_feed_14 : decode cX3_feed 14 = .ok (.ireturn, 1) := by decide +kernel
theorem dX3_feed_15 : decode cX3_feed 15 = .ok (.aload_n 0, 1) := by decide +kernel
theorem dX3_feed_16 : decode cX3_feed 16 = .ok (.iload_n 1, 1) := by decide +kernel
theorem dX3_feed_17 : decode cX3_feed 17 = .ok (.invokevirtual 46, 3) := by decide +kernel
theorem dX3_feed_20 : decode cX3_feed 20 = .ok (.aload_n 0, 1) := by decide +kernel
theorem dX3_feed_21 : decode cX3_feed 21 = .ok (.iload_n 2, 1) := by decide +kernel
theorem dX3_feed_22 : decode cX3_feed 22 = .ok (.invokevirtual 46, 3) := by decide +kernel
theorem dX3_feed_25 : decode cX3_feed 25 = .ok (.aload_n 0, 1) := by decide +kernel
theorem dX3_feed_26 : decode cX3_feed 26 = .ok (.iload_n 3, 1) := by decide +kernel
theorem dX3_feed_27 : decode cX3_feed 27 = .ok (.invokevirtual 46, 3) := by decide +kernel
theorem dX3_feed_30 : decode cX3_feed 30 = .ok (.aload_n 0, 1) := by decide +kernel
theorem dX3_feed_31 : decode cX3_feed 31 = .ok (.iload 4, 2) := by decide +kernel
theorem dX3_feed_33 : decode cX3_feed 33 = .ok (.invokevirtual 46, 3) := by decide +kernel
theorem dX3_feed_36 : decode cX3_feed 36 = .ok (.aload_n 0, 1) := by decide +kernel
theorem dX3_feed_37 : decode cX3_feed 37 = .ok (.iload 5, 2) := by decide +kernel
theorem dX3_feed_39 : decode cX3_feed 39 = .ok (.invokevirtual 46, 3) := by decide +kernel
theorem dX3_feed_42 : decode cX3_feed 42 = .ok (.aload_n 0, 1) := by decide +kernel
theorem dX3_feed_43 : decode cX3_feed 43 = .ok (.getfield 43, 3) := by decide +kernel
theorem dX3_feed_46 : decode cX3_feed 46 = .ok (.ireturn, 1) := by decide +kernel
abbrev cX3_word : ByteArray := prog_6_method_4_code
def yX3_word : MethodName := ⟨RX3, "word", "(I)V"⟩
theorem dX3_word_0 : decode cX3_word 0 = .ok (.iconst 0, 1) := by decide +kernel
theorem dX3_word_1 : decode cX3_word 1 = .ok (.istore_n 2, 1) := by decide +kernel
theorem dX3_word_2 : decode cX3_word 2 = .ok (.iload_n 2, 1) := by decide +kernel
theorem dX3_word_3 : decode cX3_word 3 = .ok (.iconst 4, 1) := by decide +kernel
theorem dX3_word_4 : decode cX3_word 4 = .ok (.if_icmp .ge 38, 3) := by decide +kernel
theorem dX3_word_7 : decode cX3_word 7 = .ok (.aload_n 0, 1) := by decide +kernel
theorem dX3_word_8 : decode cX3_word 8 = .ok (.getfield 9, 3) := by decide +kernel
theorem dX3_word_11 : decode cX3_word 11 = .ok (.aload_n 0, 1) := by decide +kernel
theorem dX3_word_12 : decode cX3_word 12 = .ok (.getfield 43, 3) := by decide +kernel
theorem dX3_word_15 : decode cX3_word 15 = .ok (.iload_n 1, 1) := by decide +kernel
theorem dX3_word_16 : decode cX3_word 16 = .ok (.bipush 24, 2) := by decide +kernel
theorem dX3_word_18 : decode cX3_word 18 = .ok (.bipush 8, 2) := by decide +kernel
theorem dX3_word_20 : decode cX3_word 20 = .ok (.iload_n 2, 1) := by decide +kernel
theorem dX3_word_21 : decode cX3_word 21 = .ok (.imul, 1) := by decide +kernel
theorem dX3_word_22 : decode cX3_word 22 = .ok (.isub, 1) := by decide +kernel
theorem dX3_word_23 : decode cX3_word 23 = .ok (.ishr, 1) := by decide +kernel
theorem dX3_word_24 : decode cX3_word 24 = .ok (.i2b, 1) := by decide +kernel
theorem dX3_word_25 : decode cX3_word 25 = .ok (.bastore, 1) := by decide +kernel
theorem dX3_word_26 : decode cX3_word 26 = .ok (.aload_n 0, 1) := by decide +kernel
theorem dX3_word_27 : decode cX3_word 27 = .ok (.dup, 1) := by decide +kernel
theorem dX3_word_28 : decode cX3_word 28 = .ok (.getfield 43, 3) := by decide +kernel
theorem dX3_word_31 : decode cX3_word 31 = .ok (.iconst 1, 1) := by decide +kernel
theorem dX3_word_32 : decode cX3_word 32 = .ok (.iadd, 1) := by decide +kernel
theorem dX3_word_33 : decode cX3_word 33 = .ok (.putfield 43, 3) := by decide +kernel
theorem dX3_word_36 : decode cX3_word 36 = .ok (.iinc 2 1, 3) := by decide +kernel
theorem dX3_word_39 : decode cX3_word 39 = .ok (.goto (-37), 3) := by decide +kernel
theorem dX3_word_42 : decode cX3_word 42 = .ok (.return_, 1) := by decide +kernel
abbrev cX3_end : ByteArray := prog_6_method_5_code
def yX3_end : MethodName := ⟨RX3, "end", "(I)I"⟩
theorem dX3_end_0 : decode cX3_end 0 = .ok (.iload_n 1, 1) := by decide +kernel
theorem dX3_end_1 : decode cX3_end 1 = .ok (.ifCond .lt 11, 3) := by decide +kernel
theorem dX3_end_4 : decode cX3_end 4 = .ok (.iload_n 1, 1) := by decide +kernel
theorem dX3_end_5 : decode cX3_end 5 = .ok (.aload_n 0, 1) := by decide +kernel
theorem dX3_end_6 : decode cX3_end 6 = .ok (.getfield 43, 3) := by decide +kernel
theorem dX3_end_9 : decode cX3_end 9 = .ok (.if_icmp .le 5, 3) := by decide +kernel
theorem dX3_end_12 : decode cX3_end 12 = .ok (.iconst (-1), 1) := by decide +kernel
theorem dX3_end_13 : decode cX3_end 13 = .ok (.ireturn, 1) := by decide +kernel
theorem dX3_end_14 : decode cX3_end 14 = .ok (.aload_n 0, 1) := by decide +kernel
theorem dX3_end_15 : decode cX3_end 15 = .ok (.iload_n 1, 1) := by decide +kernel
theorem dX3_end_16 : decode cX3_end 16 = .ok (.putfield 43, 3) := by decide +kernel
theorem dX3_end_19 : decode cX3_end 19 = .ok (.iload_n 1, 1) := by decide +kernel
theorem dX3_end_20 : decode cX3_end 20 = .ok (.ireturn, 1) := by decide +kernel
abbrev cX3_take : ByteArray := prog_6_method_8_code
def yX3_take : MethodName := ⟨RX3, "take", "(IIIIZ)I"⟩
theorem dX3_take_0 : decode cX3_take 0 = .ok (.iload 4, 2) := by decide +kernel
theorem dX3_take_2 : decode cX3_take 2 = .ok (.ifCond .lt 11, 3) := by decide +kernel
theorem dX3_take_5 : decode cX3_take 5 = .ok (.iload 4, 2) := by decide +kernel
theorem dX3_take_7 : decode cX3_take 7 = .ok (.sipush 8191, 3) := by decide +kernel
theorem dX3_take_10 : decode cX3_take 10 = .ok (.if_icmp .le 6, 3) := by decide +kernel
theorem dX3_take_13 : decode cX3_take 13 = .ok (.bipush (-4), 2) := by decide +kernel
theorem dX3_take_15 : decode cX3_take 15 = .ok (.ireturn, 1) := by decide +kernel
theorem dX3_take_16 : decode cX3_take 16 = .ok (.aload_n 0, 1) := by decide +kernel
theorem dX3_take_17 : decode cX3_take 17 = .ok (.getfield 43, 3) := by decide +kernel
theorem dX3_take_20 : decode cX3_take 20 = .ok (.istore 6, 2) := by decide +kernel
theorem dX3_take_22 : decode cX3_take 22 = .ok (.aload_n 0, 1) := by decide +kernel
theorem dX3_take_23 : decode cX3_take 23 = .ok (.iconst 0, 1) := by decide +kernel
theorem dX3_take_24 : decode cX3_take 24 = .ok (.putfield 43, 3) := by decide +kernel
theorem dX3_take_27 : decode cX3_take 27 = .ok (.bipush 8, 2) := by decide +kernel
theorem dX3_take_29 : decode cX3_take 29 = .ok (.iload 4, 2) := by decide +kernel
theorem dX3_take_31 : decode cX3_take 31 = .ok (.imul, 1) := by decide +kernel
theorem dX3_take_32 : decode cX3_take 32 = .ok (.istore 7, 2) := by decide +kernel
theorem dX3_take_34 : decode cX3_take 34 = .ok (.iload 7, 2) := by decide +kernel
theorem dX3_take_36 : decode cX3_take 36 = .ok (.iload 6, 2) := by decide +kernel
theorem dX3_take_38 : decode cX3_take 38 = .ok (.iadd, 1) := by decide +kernel
theorem dX3_take_39 : decode cX3_take 39 = .ok (.istore 8, 2) := by decide +kernel
theorem dX3_take_41 : decode cX3_take 41 = .ok (.iload 8, 2) := by decide +kernel
theorem dX3_take_43 : decode cX3_take 43 = .ok (.sipush 4096, 3) := by decide +kernel
theorem dX3_take_46 : decode cX3_take 46 = .ok (.if_icmp .gt 21, 3) := by decide +kernel
theorem dX3_take_49 : decode cX3_take 49 = .ok (.iload 5, 2) := by decide +kernel
theorem dX3_take_51 : decode cX3_take 51 = .ok (.ifCond .ne 19, 3) := by decide +kernel
theorem dX3_take_54 : decode cX3_take 54 = .ok (.iload 6, 2) := by decide +kernel
theorem dX3_take_56 : decode cX3_take 56 = .ok (.ifCond .eq 11, 3) := by decide +kernel
theorem dX3_take_59 : decode cX3_take 59 = .ok (.iload 6, 2) := by decide +kernel
theorem dX3_take_61 : decode cX3_take 61 = .ok (.bipush 8, 2) := by decide +kernel
theorem dX3_take_63 : decode cX3_take 63 = .ok (.irem, 1) := by decide +kernel
theorem dX3_take_64 : decode cX3_take 64 = .ok (.ifCond .eq 6, 3) := by decide +kernel
theorem dX3_take_67 : decode cX3_take 67 = .ok (.bipush (-2), 2) := by decide +kernel
theorem dX3_take_69 : decode cX3_take 69 = .ok (.ireturn, 1) := by decide +kernel
theorem dX3_take_70 : decode cX3_take 70 = .ok (.aload_n 0, 1) := by decide +kernel
theorem dX3_take_71 : decode cX3_take 71 = .ok (.iload_n 1, 1) := by decide +kernel
theorem dX3_take_72 : decode cX3_take 72 = .ok (.iload_n 2, 1) := by decide +kernel
theorem dX3_take_73 : decode cX3_take 73 = .ok (.iload_n 3, 1) := by decide +kernel
theorem dX3_take_74 : decode cX3_take 74 = .ok (.invokevirtual 53, 3) := by decide +kernel
theorem dX3_take_77 : decode cX3_take 77 = .ok (.istore 9, 2) := by decide +kernel
theorem dX3_take_79 : decode cX3_take 79 = .ok (.iload 9, 2) := by decide +kernel
theorem dX3_take_81 : decode cX3_take 81 = .ok (.ifCond .ge 12, 3) := by decide +kernel
theorem dX3_take_84 : decode cX3_take 84 = .ok (.aload_n 0, 1) := by decide +kernel
theorem dX3_take_85 : decode cX3_take 85 = .ok (.iload_n 1, 1) := by decide +kernel
theorem dX3_take_86 : decode cX3_take 86 = .ok (.iload_n 2, 1) := by decide +kernel
theorem dX3_take_87 : decode cX3_take 87 = .ok (.iload_n 3, 1) := by decide +kernel
theorem dX3_take_88 : decode cX3_take 88 = .ok (.invokevirtual 57, 3) := by decide +kernel
theorem dX3_take_91 : decode cX3_take 91 = .ok (.istore 9, 2) := by decide +kernel
theorem dX3_take_93 : decode cX3_take 93 = .ok (.iload 9, 2) := by decide +kernel
theorem dX3_take_95 : decode cX3_take 95 = .ok (.ifCond .ge 6, 3) := by decide +kernel
theorem dX3_take_98 : decode cX3_take 98 = .ok (.bipush (-2), 2) := by decide +kernel
theorem dX3_take_100 : decode cX3_take 100 = .ok (.ireturn, 1) := by decide +kernel
theorem dX3_take_101 : decode cX3_take 101 = .ok (.aload_n 0, 1) := by decide +kernel
theorem dX3_take_102 : decode cX3_take 102 = .ok (.getfield 23, 3) := by decide +kernel
theorem dX3_take_105 : decode cX3_take 105 = .ok (.iload 9, 2) := by decide +kernel
theorem dX3_take_107 : decode cX3_take 107 = .ok (.iaload, 1) := by decide +kernel
theorem dX3_take_108 : decode cX3_take 108 = .ok (.ifCond .lt 36, 3) := by decide +kernel
theorem dX3_take_111 : decode cX3_take 111 = .ok (.iload 8, 2) := by decide +kernel
theorem dX3_take_113 : decode cX3_take 113 = .ok (.aload_n 0, 1) := by decide +kernel
theorem dX3_take_114 : decode cX3_take 114 = .ok (.getfield 23, 3) := by decide +kernel
theorem dX3_take_117 : decode cX3_take 117 = .ok (.iload 9, 2) := by decide +kernel
theorem dX3_take_119 : decode cX3_take 119 = .ok (.iaload, 1) := by decide +kernel
theorem dX3_take_120 : decode cX3_take 120 = .ok (.if_icmp .gt 20, 3) := by decide +kernel
theorem dX3_take_123 : decode cX3_take 123 = .ok (.iload 5, 2) := by decide +kernel
theorem dX3_take_125 : decode cX3_take 125 = .ok (.ifCond .eq 19, 3) := by decide +kernel
theorem dX3_take_128 : decode cX3_take 128 = .ok (.iload 8, 2) := by decide +kernel
theorem dX3_take_130 : decode cX3_take 130 = .ok (.aload_n 0, 1) := by decide +kernel
theorem dX3_take_131 : decode cX3_take 131 = .ok (.getfield 23, 3) := by decide +kernel
theorem dX3_take_134 : decode cX3_take 134 = .ok (.iload 9, 2) := by decide +kernel
theorem dX3_take_136 : decode cX3_take 136 = .ok (.iaload, 1) := by decide +kernel
theorem dX3_take_137 : decode cX3_take 137 = .ok (.if_icmp .eq 7, 3) := by decide +kernel
theorem dX3_take_140 : decode cX3_take 140 = .ok (.iconst 1, 1) := by decide +kernel
theorem dX3_take_141 : decode cX3_take 141 = .ok (.goto 4, 3) := by decide +kernel
theorem dX3_take_144 : decode cX3_take 144 = .ok (.iconst 0, 1) := by decide +kernel
theorem dX3_take_145 : decode cX3_take 145 = .ok (.istore 10, 2) := by decide +kernel
theorem dX3_take_147 : decode cX3_take 147 = .ok (.iload 8, 2) := by decide +kernel
theorem dX3_take_149 : decode cX3_take 149 = .ok (.istore 11, 2) := by decide +kernel
theorem dX3_take_151 : decode cX3_take 151 = .ok (.iload 11, 2) := by decide +kernel
theorem dX3_take_153 : decode cX3_take 153 = .ok (.sipush 4096, 3) := by decide +kernel
theorem dX3_take_156 : decode cX3_take 156 = .ok (.if_icmp .ge 43, 3) := by decide +kernel
theorem dX3_take_159 : decode cX3_take 159 = .ok (.iload 5, 2) := by decide +kernel
theorem dX3_take_161 : decode cX3_take 161 = .ok (.ifCond .eq 38, 3) := by decide +kernel
theorem dX3_take_164 : decode cX3_take 164 = .ok (.iload 10, 2) := by decide +kernel
theorem dX3_take_166 : decode cX3_take 166 = .ok (.ifCond .ne 20, 3) := by decide +kernel
theorem dX3_take_169 : decode cX3_take 169 = .ok (.aload_n 0, 1) := by decide +kernel
theorem dX3_take_170 : decode cX3_take 170 = .ok (.getfield 33, 3) := by decide +kernel
theorem dX3_take_173 : decode cX3_take 173 = .ok (.iload 9, 2) := by decide +kernel
theorem dX3_take_175 : decode cX3_take 175 = .ok (.sipush 4096, 3) := by decide +kernel
theorem dX3_take_178 : decode cX3_take 178 = .ok (.imul, 1) := by decide +kernel
theorem dX3_take_179 : decode cX3_take 179 = .ok (.iload 11, 2) := by decide +kernel
theorem dX3_take_181 : decode cX3_take 181 = .ok (.iadd, 1) := by decide +kernel
theorem dX3_take_182 : decode cX3_take 182 = .ok (.iaload, 1) := by decide +kernel
theorem dX3_take_183 : decode cX3_take 183 = .ok (.ifCond .le 7, 3) := by decide +kernel
theorem dX3_take_186 : decode cX3_take 186 = .ok (.iconst 1, 1) := by decide +kernel
theorem dX3_take_187 : decode cX3_take 187 = .ok (.goto 4, 3) := by decide +kernel
theorem dX3_take_190 : decode cX3_take 190 = .ok (.iconst 0, 1) := by decide +kernel
theorem dX3_take_191 : decode cX3_take 191 = .ok (.istore 10, 2) := by decide +kernel
theorem dX3_take_193 : decode cX3_take 193 = .ok (.iinc 11 1, 3) := by decide +kernel
theorem dX3_take_196 : decode cX3_take 196 = .ok (.goto (-45), 3) := by decide +kernel
theorem dX3_take_199 : decode cX3_take 199 = .ok (.iload 10, 2) := by decide +kernel
theorem dX3_take_201 : decode cX3_take 201 = .ok (.ifCond .eq 14, 3) := by decide +kernel
theorem dX3_take_204 : decode cX3_take 204 = .ok (.aload_n 0, 1) := by decide +kernel
theorem dX3_take_205 : decode cX3_take 205 = .ok (.getfield 29, 3) := by decide +kernel
theorem dX3_take_208 : decode cX3_take 208 = .ok (.iload 9, 2) := by decide +kernel
theorem dX3_take_210 : decode cX3_take 210 = .ok (.iconst 0, 1) := by decide +kernel
theorem dX3_take_211 : decode cX3_take 211 = .ok (.bastore, 1) := by decide +kernel
theorem dX3_take_212 : decode cX3_take 212 = .ok (.bipush (-3), 2) := by decide +kernel
theorem dX3_take_214 : decode cX3_take 214 = .ok (.ireturn, 1) := by decide +kernel
theorem dX3_take_215 : decode cX3_take 215 = .ok (.iload 5, 2) := by decide +kernel
theorem dX3_take_217 : decode cX3_take 217 = .ok (.ifCond .eq 12, 3) := by decide +kernel
theorem dX3_take_220 : decode cX3_take 220 = .ok (.aload_n 0, 1) := by decide +kernel
theorem dX3_take_221 : decode cX3_take 221 = .ok (.getfield 23, 3) := by decide +kernel
theorem dX3_take_224 : decode cX3_take 224 = .ok (.iload 9, 2) := by decide +kernel
theorem dX3_take_226 : decode cX3_take 226 = .ok (.iload 8, 2) := by decide +kernel
theorem dX3_take_228 : decode cX3_take 228 = .ok (.iastore, 1) := by decide +kernel
theorem dX3_take_229 : decode cX3_take 229 = .ok (.iconst 0, 1) := by decide +kernel
theorem dX3_take_230 : decode cX3_take 230 = .ok (.istore 11, 2) := by decide +kernel
theorem dX3_take_232 : decode cX3_take 232 = .ok (.iload 11, 2) := by decide +kernel
theorem dX3_take_234 : decode cX3_take 234 = .ok (.iload 6, 2) := by decide +kernel
theorem dX3_take_236 : decode cX3_take 236 = .ok (.if_icmp .ge 59, 3) := by decide +kernel
theorem dX3_take_239 : decode cX3_take 239 = .ok (.aload_n 0, 1) := by decide +kernel
theorem dX3_take_240 : decode cX3_take 240 = .ok (.getfield 33, 3) := by decide +kernel
theorem dX3_take_243 : decode cX3_take 243 = .ok (.iload 9, 2) := by decide +kernel
theorem dX3_take_245 : decode cX3_take 245 = .ok (.sipush 4096, 3) := by decide +kernel
theorem dX3_take_248 : decode cX3_take 248 = .ok (.imul, 1) := by decide +kernel
theorem dX3_take_249 : decode cX3_take 249 = .ok (.iload 7, 2) := by decide +kernel
theorem dX3_take_251 : decode cX3_take 251 = .ok (.iadd, 1) := by decide +kernel
theorem dX3_take_252 : decode cX3_take 252 = .ok (.iload 11, 2) := by decide +kernel
theorem dX3_take_254 : decode cX3_take 254 = .ok (.iadd, 1) := by decide +kernel
theorem dX3_take_255 : decode cX3_take 255 = .ok (.iaload, 1) := by decide +kernel
theorem dX3_take_256 : decode cX3_take 256 = .ok (.ifCond .ne 33, 3) := by decide +kernel
theorem dX3_take_259 : decode cX3_take 259 = .ok (.aload_n 0, 1) := by decide +kernel
theorem dX3_take_260 : decode cX3_take 260 = .ok (.getfield 33, 3) := by decide +kernel
theorem dX3_take_263 : decode cX3_take 263 = .ok (.iload 9, 2) := by decide +kernel
theorem dX3_take_265 : decode cX3_take 265 = .ok (.sipush 4096, 3) := by decide +kernel
theorem dX3_take_268 : decode cX3_take 268 = .ok (.imul, 1) := by decide +kernel
theorem dX3_take_269 : decode cX3_take 269 = .ok (.iload 7, 2) := by decide +kernel
theorem dX3_take_271 : decode cX3_take 271 = .ok (.iadd, 1) := by decide +kernel
theorem dX3_take_272 : decode cX3_take 272 = .ok (.iload 11, 2) := by decide +kernel
theorem dX3_take_274 : decode cX3_take 274 = .ok (.iadd, 1) := by decide +kernel
theorem dX3_take_275 : decode cX3_take 275 = .ok (.aload_n 0, 1) := by decide +kernel
theorem dX3_take_276 : decode cX3_take 276 = .ok (.getfield 9, 3) := by decide +kernel
theorem dX3_take_279 : decode cX3_take 279 = .ok (.iload 11, 2) := by decide +kernel
theorem dX3_take_281 : decode cX3_take 281 = .ok (.baload, 1) := by decide +kernel
theorem dX3_take_282 : decode cX3_take 282 = .ok (.sipush 255, 3) := by decide +kernel
theorem dX3_take_285 : decode cX3_take 285 = .ok (.iand, 1) := by decide +kernel
theorem dX3_take_286 : decode cX3_take 286 = .ok (.iconst 1, 1) := by decide +kernel
theorem dX3_take_287 : decode cX3_take 287 = .ok (.iadd, 1) := by decide +kernel
theorem dX3_take_288 : decode cX3_take 288 = .ok (.iastore, 1) := by decide +kernel
theorem dX3_take_289 : decode cX3_take 289 = .ok (.iinc 11 1, 3) := by decide +kernel
theorem dX3_take_292 : decode cX3_take 292 = .ok (.goto (-60), 3) := by decide +kernel
theorem dX3_take_295 : decode cX3_take 295 = .ok (.aload_n 0, 1) := by decide +kernel
theorem dX3_take_296 : decode cX3_take 296 = .ok (.getfield 23, 3) := by decide +kernel
theorem dX3_take_299 : decode cX3_take 299 = .ok (.iload 9, 2) := by decide +kernel
theorem dX3_take_301 : decode cX3_take 301 = .ok (.iaload, 1) := by decide +kernel
theorem dX3_take_302 : decode cX3_take 302 = .ok (.ifCond .ge 5, 3) := by decide +kernel
theorem dX3_take_305 : decode cX3_take 305 = .ok (.iconst (-1), 1) := by decide +kernel
theorem dX3_take_306 : decode cX3_take 306 = .ok (.ireturn, 1) := by decide +kernel
theorem dX3_take_307 : decode cX3_take 307 = .ok (.iconst 0, 1) := by decide +kernel
theorem dX3_take_308 : decode cX3_take 308 = .ok (.istore 11, 2) := by decide +kernel
theorem dX3_take_310 : decode cX3_take 310 = .ok (.iload 11, 2) := by decide +kernel
theorem dX3_take_312 : decode cX3_take 312 = .ok (.aload_n 0, 1) := by decide +kernel
theorem dX3_take_313 : decode cX3_take 313 = .ok (.getfield 23, 3) := by decide +kernel
theorem dX3_take_316 : decode cX3_take 316 = .ok (.iload 9, 2) := by decide +kernel
theorem dX3_take_318 : decode cX3_take 318 = .ok (.iaload, 1) := by decide +kernel
theorem dX3_take_319 : decode cX3_take 319 = .ok (.if_icmp .ge 28, 3) := by decide +kernel
theorem dX3_take_322 : decode cX3_take 322 = .ok (.aload_n 0, 1) := by decide +kernel
theorem dX3_take_323 : decode cX3_take 323 = .ok (.getfield 33, 3) := by decide +kernel
theorem dX3_take_326 : decode cX3_take 326 = .ok (.iload 9, 2) := by decide +kernel
theorem dX3_take_328 : decode cX3_take 328 = .ok (.sipush 4096, 3) := by decide +kernel
theorem dX3_take_331 : decode cX3_take 331 = .ok (.imul, 1) := by decide +kernel
theorem dX3_take_332 : decode cX3_take 332 = .ok (.iload 11, 2) := by decide +kernel
theorem dX3_take_334 : decode cX3_take 334 = .ok (.iadd, 1) := by decide +kernel
theorem dX3_take_335 : decode cX3_take 335 = .ok (.iaload, 1) := by decide +kernel
theorem dX3_take_336 : decode cX3_take 336 = .ok (.ifCond .ne 5, 3) := by decide +kernel
theorem dX3_take_339 : decode cX3_take 339 = .ok (.iconst (-1), 1) := by decide +kernel
theorem dX3_take_340 : decode cX3_take 340 = .ok (.ireturn, 1) := by decide +kernel
theorem dX3_take_341 : decode cX3_take 341 = .ok (.iinc 11 1, 3) := by decide +kernel
theorem dX3_take_344 : decode cX3_take 344 = .ok (.goto (-34), 3) := by decide +kernel
theorem dX3_take_347 : decode cX3_take 347 = .ok (.aload_n 0, 1) := by decide +kernel
theorem dX3_take_348 : decode cX3_take 348 = .ok (.aload_n 0, 1) := by decide +kernel
theorem dX3_take_349 : decode cX3_take 349 = .ok (.getfield 23, 3) := by decide +kernel
theorem dX3_take_352 : decode cX3_take 352 = .ok (.iload 9, 2) := by decide +kernel
theorem dX3_take_354 : decode cX3_take 354 = .ok (.iaload, 1) := by decide +kernel
theorem dX3_take_355 : decode cX3_take 355 = .ok (.putfield 39, 3) := by decide +kernel
theorem dX3_take_358 : decode cX3_take 358 = .ok (.iconst 0, 1) := by decide +kernel
theorem dX3_take_359 : decode cX3_take 359 = .ok (.istore 11, 2) := by decide +kernel
theorem dX3_take_361 : decode cX3_take 361 = .ok (.iload 11, 2) := by decide +kernel
theorem dX3_take_363 : decode cX3_take 363 = .ok (.aload_n 0, 1) := by decide +kernel
theorem dX3_take_364 : decode cX3_take 364 = .ok (.getfield 39, 3) := by decide +kernel
theorem dX3_take_367 : decode cX3_take 367 = .ok (.if_icmp .ge 32, 3) := by decide +kernel
theorem dX3_take_370 : decode cX3_take 370 = .ok (.aload_n 0, 1) := by decide +kernel
theorem dX3_take_371 : decode cX3_take 371 = .ok (.getfield 36, 3) := by decide +kernel
theorem dX3_take_374 : decode cX3_take 374 = .ok (.iload 11, 2) := by decide +kernel
theorem dX3_take_376 : decode cX3_take 376 = .ok (.aload_n 0, 1) := by decide +kernel
theorem dX3_take_377 : decode cX3_take 377 = .ok (.getfield 33, 3) := by decide +kernel
theorem dX3_take_380 : decode cX3_take 380 = .ok (.iload 9, 2) := by decide +kernel
theorem dX3_take_382 : decode cX3_take 382 = .ok (.sipush 4096, 3) := by decide +kernel
theorem dX3_take_385 : decode cX3_take 385 = .ok (.imul, 1) := by decide +kernel
theorem dX3_take_386 : decode cX3_take 386 = .ok (.iload 11, 2) := by decide +kernel
theorem dX3_take_388 : decode cX3_take 388 = .ok (.iadd, 1) := by decide +kernel
theorem dX3_take_389 : decode cX3_take 389 = .ok (.iaload, 1) := by decide +kernel
theorem dX3_take_390 : decode cX3_take 390 = .ok (.iconst 1, 1) := by decide +kernel
theorem dX3_take_391 : decode cX3_take 391 = .ok (.isub, 1) := by decide +kernel
theorem dX3_take_392 : decode cX3_take 392 = .ok (.iastore, 1) := by decide +kernel
theorem dX3_take_393 : decode cX3_take 393 = .ok (.iinc 11 1, 3) := by decide +kernel
theorem dX3_take_396 : decode cX3_take 396 = .ok (.goto (-35), 3) := by decide +kernel
theorem dX3_take_399 : decode cX3_take 399 = .ok (.aload_n 0, 1) := by decide +kernel
theorem dX3_take_400 : decode cX3_take 400 = .ok (.getfield 29, 3) := by decide +kernel
theorem dX3_take_403 : decode cX3_take 403 = .ok (.iload 9, 2) := by decide +kernel
theorem dX3_take_405 : decode cX3_take 405 = .ok (.iconst 0, 1) := by decide +kernel
theorem dX3_take_406 : decode cX3_take 406 = .ok (.bastore, 1) := by decide +kernel
theorem dX3_take_407 : decode cX3_take 407 = .ok (.aload_n 0, 1) := by decide +kernel
theorem dX3_take_408 : decode cX3_take 408 = .ok (.dup, 1) := by decide +kernel
theorem dX3_take_409 : decode cX3_take 409 = .ok (.getfield 60, 3) := by decide +kernel
theorem dX3_take_412 : decode cX3_take 412 = .ok (.iconst 1, 1) := by decide +kernel
theorem dX3_take_413 : decode cX3_take 413 = .ok (.iadd, 1) := by decide +kernel
theorem dX3_take_414 : decode cX3_take 414 = .ok (.putfield 60, 3) := by decide +kernel
theorem dX3_take_417 : decode cX3_take 417 = .ok (.aload_n 0, 1) := by decide +kernel
theorem dX3_take_418 : decode cX3_take 418 = .ok (.getfield 39, 3) := by decide +kernel
theorem dX3_take_421 : decode cX3_take 421 = .ok (.ireturn, 1) := by decide +kernel
abbrev cX3_find : ByteArray := prog_6_method_6_code
def yX3_find : MethodName := ⟨RX3, "find", "(III)I"⟩
theorem dX3_find_0 : decode cX3_find 0 = .ok (.iconst 0, 1) := by decide +kernel
theorem dX3_find_1 : decode cX3_find 1 = .ok (.istore 4, 2) := by decide +kernel
theorem dX3_find_3 : decode cX3_find 3 = .ok (.iload 4, 2) := by decide +kernel
theorem dX3_find_5 : decode cX3_find 5 = .ok (.iconst 4, 1) := by decide +kernel
theorem dX3_find_6 : decode cX3_find 6 = .ok (.if_icmp .ge 55, 3) := by decide +kernel
theorem dX3_find_9 : decode cX3_find 9 = .ok (.aload_n 0, 1) := by decide +kernel
theorem dX3_find_10 : decode cX3_find 10 = .ok (.getfield 29, 3) := by decide +kernel
theorem dX3_find_13 : decode cX3_find 13 = .ok (.iload 4, 2) := by decide +kernel
theorem dX3_find_15 : decode cX3_find 15 = .ok (.baload, 1) := by decide +kernel
theorem dX3_find_16 : decode cX3_find 16 = .ok (.ifCond .eq 39, 3) := by decide +kernel
theorem dX3_find_19 : decode cX3_find 19 = .ok (.aload_n 0, 1) := by decide +kernel
theorem dX3_find_20 : decode cX3_find 20 = .ok (.getfield 13, 3) := by decide +kernel
theorem dX3_find_23 : decode cX3_find 23 = .ok (.iload 4, 2) := by decide +kernel
theorem dX3_find_25 : decode cX3_find 25 = .ok (.iaload, 1) := by decide +kernel
theorem dX3_find_26 : decode cX3_find 26 = .ok (.iload_n 1, 1) := by decide +kernel
theorem dX3_find_27 : decode cX3_find 27 = .ok (.if_icmp .ne 28, 3) := by decide +kernel
theorem dX3_find_30 : decode cX3_find 30 = .ok (.aload_n 0, 1) := by decide +kernel
theorem dX3_find_31 : decode cX3_find 31 = .ok (.getfield 17, 3) := by decide +kernel
theorem dX3_find_34 : decode cX3_find 34 = .ok (.iload 4, 2) := by decide +kernel
theorem dX3_find_36 : decode cX3_find 36 = .ok (.iaload, 1) := by decide +kernel
theorem dX3_find_37 : decode cX3_find 37 = .ok (.iload_n 2, 1) := by decide +kernel
theorem dX3_find_38 : decode cX3_find 38 = .ok (.if_icmp .ne 17, 3) := by decide +kernel
theorem dX3_find_41 : decode cX3_find 41 = .ok (.aload_n 0, 1) := by decide +kernel
theorem dX3_find_42 : decode cX3_find 42 = .ok (.getfield 20, 3) := by decide +kernel
theorem dX3_find_45 : decode cX3_find 45 = .ok (.iload 4, 2) := by decide +kernel
theorem dX3_find_47 : decode cX3_find 47 = .ok (.iaload, 1) := by decide +kernel
theorem dX3_find_48 : decode cX3_find 48 = .ok (.iload_n 3, 1) := by decide +kernel
theorem dX3_find_49 : decode cX3_find 49 = .ok (.if_icmp .ne 6, 3) := by decide +kernel
theorem dX3_find_52 : decode cX3_find 52 = .ok (.iload 4, 2) := by decide +kernel
theorem dX3_find_54 : decode cX3_find 54 = .ok (.ireturn, 1) := by decide +kernel
theorem dX3_find_55 : decode cX3_find 55 = .ok (.iinc 4 1, 3) := by decide +kernel
theorem dX3_find_58 : decode cX3_find 58 = .ok (.goto (-55), 3) := by decide +kernel
theorem dX3_find_61 : decode cX3_find 61 = .ok (.iconst (-1), 1) := by decide +kernel
theorem dX3_find_62 : decode cX3_find 62 = .ok (.ireturn, 1) := by decide +kernel
abbrev cX3_begin : ByteArray := prog_6_method_7_code
def yX3_begin : MethodName := ⟨RX3, "begin", "(III)I"⟩
theorem dX3_begin_0 : decode cX3_begin 0 = .ok (.iconst 0, 1) := by decide +kernel
theorem dX3_begin_1 : decode cX3_begin 1 = .ok (.istore 4, 2) := by decide +kernel
theorem dX3_begin_3 : decode cX3_begin 3 = .ok (.iload 4, 2) := by decide +kernel
theorem dX3_begin_5 : decode cX3_begin 5 = .ok (.iconst 4, 1) := by decide +kernel
theorem dX3_begin_6 : decode cX3_begin 6 = .ok (.if_icmp .ge 105, 3) := by decide +kernel
theorem dX3_begin_9 : decode cX3_begin 9 = .ok (.aload_n 0, 1) := by decide +kernel
theorem dX3_begin_10 : decode cX3_begin 10 = .ok (.getfield 29, 3) := by decide +kernel
theorem dX3_begin_13 : decode cX3_begin 13 = .ok (.iload 4, 2) := by decide +kernel
theorem dX3_begin_15 : decode cX3_begin 15 = .ok (.baload, 1) := by decide +kernel
theorem dX3_begin_16 : decode cX3_begin 16 = .ok (.ifCond .ne 89, 3) := by decide +kernel
theorem dX3_begin_19 : decode cX3_begin 19 = .ok (.aload_n 0, 1) := by decide +kernel
theorem dX3_begin_20 : decode cX3_begin 20 = .ok (.getfield 29, 3) := by decide +kernel
theorem dX3_begin_23 : decode cX3_begin 23 = .ok (.iload 4, 2) := by decide +kernel
theorem dX3_begin_25 : decode cX3_begin 25 = .ok (.iconst 1, 1) := by decide +kernel
theorem dX3_begin_26 : decode cX3_begin 26 = .ok (.bastore, 1) := by decide +kernel
theorem dX3_begin_27 : decode cX3_begin 27 = .ok (.aload_n 0, 1) := by decide +kernel
theorem dX3_begin_28 : decode cX3_begin 28 = .ok (.getfield 13, 3) := by decide +kernel
theorem dX3_begin_31 : decode cX3_begin 31 = .ok (.iload 4, 2) := by decide +kernel
theorem dX3_begin_33 : decode cX3_begin 33 = .ok (.iload_n 1, 1) := by decide +kernel
theorem dX3_begin_34 : decode cX3_begin 34 = .ok (.iastore, 1) := by decide +kernel
theorem dX3_begin_35 : decode cX3_begin 35 = .ok (.aload_n 0, 1) := by decide +kernel
theorem dX3_begin_36 : decode cX3_begin 36 = .ok (.getfield 17, 3) := by decide +kernel
theorem dX3_begin_39 : decode cX3_begin 39 = .ok (.iload 4, 2) := by decide +kernel
theorem dX3_begin_41 : decode cX3_begin 41 = .ok (.iload_n 2, 1) := by decide +kernel
theorem dX3_begin_42 : decode cX3_begin 42 = .ok (.iastore, 1) := by decide +kernel
theorem dX3_begin_43 : decode cX3_begin 43 = .ok (.aload_n 0, 1) := by decide +kernel
theorem dX3_begin_44 : decode cX3_begin 44 = .ok (.getfield 20, 3) := by decide +kernel
theorem dX3_begin_47 : decode cX3_begin 47 = .ok (.iload 4, 2) := by decide +kernel
theorem dX3_begin_49 : decode cX3_begin 49 = .ok (.iload_n 3, 1) := by decide +kernel
theorem dX3_begin_50 : decode cX3_begin 50 = .ok (.iastore, 1) := by decide +kernel
theorem dX3_begin_51 : decode cX3_begin 51 = .ok (.aload_n 0, 1) := by decide +kernel
theorem dX3_begin_52 : decode cX3_begin 52 = .ok (.getfield 23, 3) := by decide +kernel
theorem dX3_begin_55 : decode cX3_begin 55 = .ok (.iload 4, 2) := by decide +kernel
theorem dX3_begin_57 : decode cX3_begin 57 = .ok (.iconst (-1), 1) := by decide +kernel
theorem dX3_begin_58 : decode cX3_begin 58 = .ok (.iastore, 1) := by decide +kernel
theorem dX3_begin_59 : decode cX3_begin 59 = .ok (.aload_n 0, 1) := by decide +kernel
theorem dX3_begin_60 : decode cX3_begin 60 = .ok (.getfield 26, 3) := by decide +kernel
theorem dX3_begin_63 : decode cX3_begin 63 = .ok (.iload 4, 2) := by decide +kernel
theorem dX3_begin_65 : decode cX3_begin 65 = .ok (.aload_n 0, 1) := by decide +kernel
theorem dX3_begin_66 : decode cX3_begin 66 = .ok (.getfield 50, 3) := by decide +kernel
theorem dX3_begin_69 : decode cX3_begin 69 = .ok (.iastore, 1) := by decide +kernel
theorem dX3_begin_70 : decode cX3_begin 70 = .ok (.iconst 0, 1) := by decide +kernel
theorem dX3_begin_71 : decode cX3_begin 71 = .ok (.istore 5, 2) := by decide +kernel
theorem dX3_begin_73 : decode cX3_begin 73 = .ok (.iload 5, 2) := by decide +kernel
theorem dX3_begin_75 : decode cX3_begin 75 = .ok (.sipush 4096, 3) := by decide +kernel
theorem dX3_begin_78 : decode cX3_begin 78 = .ok (.if_icmp .ge 24, 3) := by decide +kernel
theorem dX3_begin_81 : decode cX3_begin 81 = .ok (.aload_n 0, 1) := by decide +kernel
theorem dX3_begin_82 : decode cX3_begin 82 = .ok (.getfield 33, 3) := by decide +kernel
theorem dX3_begin_85 : decode cX3_begin 85 = .ok (.iload 4, 2) := by decide +kernel
theorem dX3_begin_87 : decode cX3_begin 87 = .ok (.sipush 4096, 3) := by decide +kernel
theorem dX3_begin_90 : decode cX3_begin 90 = .ok (.imul, 1) := by decide +kernel
theorem dX3_begin_91 : decode cX3_begin 91 = .ok (.iload 5, 2) := by decide +kernel
theorem dX3_begin_93 : decode cX3_begin 93 = .ok (.iadd, 1) := by decide +kernel
theorem dX3_begin_94 : decode cX3_begin 94 = .ok (.iconst 0, 1) := by decide +kernel
theorem dX3_begin_95 : decode cX3_begin 95 = .ok (.iastore, 1) := by decide +kernel
theorem dX3_begin_96 : decode cX3_begin 96 = .ok (.iinc 5 1, 3) := by decide +kernel
theorem dX3_begin_99 : decode cX3_begin 99 = .ok (.goto (-26), 3) := by decide +kernel
theorem dX3_begin_102 : decode cX3_begin 102 = .ok (.iload 4, 2) := by decide +kernel
theorem dX3_begin_104 : decode cX3_begin 104 = .ok (.ireturn, 1) := by decide +kernel
theorem dX3_begin_105 : decode cX3_begin 105 = .ok (.iinc 4 1, 3) := by decide +kernel
theorem dX3_begin_108 : decode cX3_begin 108 = .ok (.goto (-105), 3) := by decide +kernel
theorem dX3_begin_111 : decode cX3_begin 111 = .ok (.iconst (-1), 1) := by decide +kernel
theorem dX3_begin_112 : decode cX3_begin 112 = .ok (.ireturn, 1) := by decide +kernel
abbrev cX3_pass : ByteArray := prog_6_method_9_code
def yX3_pass : MethodName := ⟨RX3, "pass", "(I)I"⟩
theorem dX3_pass_0 : decode cX3_pass 0 = .ok (.iload_n 1, 1) := by decide +kernel
theorem dX3_pass_1 : decode cX3_pass 1 = .ok (.aload_n 0, 1) := by decide +kernel
theorem dX3_pass_2 : decode cX3_pass 2 = .ok (.getfield 50, 3) := by decide +kernel
theorem dX3_pass_5 : decode cX3_pass 5 = .ok (.if_icmp .lt 9, 3) := by decide +kernel
theorem dX3_pass_8 : decode cX3_pass 8 = .ok (.iload_n 1, 1) := by decide +kernel
theorem dX3_pass_9 : decode cX3_pass 9 = .ok (.ldc 63, 2) := by decide +kernel
theorem dX3_pass_11 : decode cX3_pass 11 = .ok (.if_icmp .le 5, 3) := by decide +kernel
theorem dX3_pass_14 : decode cX3_pass 14 = .ok (.iconst (-1), 1) := by decide +kernel
theorem dX3_pass_15 : decode cX3_pass 15 = .ok (.ireturn, 1) := by decide +kernel
theorem dX3_pass_16 : decode cX3_pass 16 = .ok (.aload_n 0, 1) := by decide +kernel
theorem dX3_pass_17 : decode cX3_pass 17 = .ok (.iload_n 1, 1) := by decide +kernel
theorem dX3_pass_18 : decode cX3_pass 18 = .ok (.putfield 50, 3) := by decide +kernel
theorem dX3_pass_21 : decode cX3_pass 21 = .ok (.iconst 0, 1) := by decide +kernel
theorem dX3_pass_22 : decode cX3_pass 22 = .ok (.istore_n 2, 1) := by decide +kernel
theorem dX3_pass_23 : decode cX3_pass 23 = .ok (.iconst 0, 1) := by decide +kernel
theorem dX3_pass_24 : decode cX3_pass 24 = .ok (.istore_n 3, 1) := by decide +kernel
theorem dX3_pass_25 : decode cX3_pass 25 = .ok (.iload_n 3, 1) := by decide +kernel
theorem dX3_pass_26 : decode cX3_pass 26 = .ok (.iconst 4, 1) := by decide +kernel
theorem dX3_pass_27 : decode cX3_pass 27 = .ok (.if_icmp .ge 42, 3) := by decide +kernel
theorem dX3_pass_30 : decode cX3_pass 30 = .ok (.aload_n 0, 1) := by decide +kernel
theorem dX3_pass_31 : decode cX3_pass 31 = .ok (.getfield 29, 3) := by decide +kernel
theorem dX3_pass_34 : decode cX3_pass 34 = .ok (.iload_n 3, 1) := by decide +kernel
theorem dX3_pass_35 : decode cX3_pass 35 = .ok (.baload, 1) := by decide +kernel
theorem dX3_pass_36 : decode cX3_pass 36 = .ok (.ifCond .eq 27, 3) := by decide +kernel
theorem dX3_pass_39 : decode cX3_pass 39 = .ok (.iload_n 1, 1) := by decide +kernel
theorem dX3_pass_40 : decode cX3_pass 40 = .ok (.aload_n 0, 1) := by decide +kernel
theorem dX3_pass_41 : decode cX3_pass 41 = .ok (.getfield 26, 3) := by decide +kernel
theorem dX3_pass_44 : decode cX3_pass 44 = .ok (.iload_n 3, 1) := by decide +kernel
theorem dX3_pass_45 : decode cX3_pass 45 = .ok (.iaload, 1) := by decide +kernel
theorem dX3_pass_46 : decode cX3_pass 46 = .ok (.isub, 1) := by decide +kernel
theorem dX3_pass_47 : decode cX3_pass 47 = .ok (.sipush 15000, 3) := by decide +kernel
theorem dX3_pass_50 : decode cX3_pass 50 = .ok (.if_icmp .lt 13, 3) := by decide +kernel
theorem dX3_pass_53 : decode cX3_pass 53 = .ok (.aload_n 0, 1) := by decide +kernel
theorem dX3_pass_54 : decode cX3_pass 54 = .ok (.getfield 29, 3) := by decide +kernel
theorem dX3_pass_57 : decode cX3_pass 57 = .ok (.iload_n 3, 1) := by decide +kernel
theorem dX3_pass_58 : decode cX3_pass 58 = .ok (.iconst 0, 1) := by decide +kernel
theorem dX3_pass_59 : decode cX3_pass 59 = .ok (.bastore, 1) := by decide +kernel
theorem dX3_pass_60 : decode cX3_pass 60 = .ok (.iinc 2 1, 3) := by decide +kernel
theorem dX3_pass_63 : decode cX3_pass 63 = .ok (.iinc 3 1, 3) := by decide +kernel
theorem dX3_pass_66 : decode cX3_pass 66 = .ok (.goto (-41), 3) := by decide +kernel
theorem dX3_pass_69 : decode cX3_pass 69 = .ok (.iload_n 2, 1) := by decide +kernel
theorem dX3_pass_70 : decode cX3_pass 70 = .ok (.ireturn, 1) := by decide +kernel
abbrev cX3_making : ByteArray := prog_6_method_10_code
def yX3_making : MethodName := ⟨RX3, "making", "()I"⟩
theorem dX3_making_0 : decode cX3_making 0 = .ok (.iconst 0, 1) := by decide +kernel
theorem dX3_making_1 : decode cX3_making 1 = .ok (.istore_n 1, 1) := by decide +kernel
theorem dX3_making_2 : decode cX3_making 2 = .ok (.iconst 0, 1) := by decide +kernel
theorem dX3_making_3 : decode cX3_making 3 = .ok (.istore_n 2, 1) := by decide +kernel
theorem dX3_making_4 : decode cX3_making 4 = .ok (.iload_n 2, 1) := by decide +kernel
theorem dX3_making_5 : decode cX3_making 5 = .ok (.iconst 4, 1) := by decide +kernel
theorem dX3_making_6 : decode cX3_making 6 = .ok (.if_icmp .ge 21, 3) := by decide +kernel
theorem dX3_making_9 : decode cX3_making 9 = .ok (.aload_n 0, 1) := by decide +kernel
theorem dX3_making_10 : decode cX3_making 10 = .ok (.getfield 29, 3) := by decide +kernel
theorem dX3_making_13 : decode cX3_making 13 = .ok (.iload_n 2, 1) := by decide +kernel
theorem dX3_making_14 : decode cX3_making 14 = .ok (.baload, 1) := by decide +kernel
theorem dX3_making_15 : decode cX3_making 15 = .ok (.ifCond .eq 6, 3) := by decide +kernel
theorem dX3_making_18 : decode cX3_making 18 = .ok (.iinc 1 1, 3) := by decide +kernel
theorem dX3_making_21 : decode cX3_making 21 = .ok (.iinc 2 1, 3) := by decide +kernel
theorem dX3_making_24 : decode cX3_making 24 = .ok (.goto (-20), 3) := by decide +kernel
theorem dX3_making_27 : decode cX3_making 27 = .ok (.iload_n 1, 1) := by decide +kernel
theorem dX3_making_28 : decode cX3_making 28 = .ok (.ireturn, 1) := by decide +kernel
abbrev cX3_made : ByteArray := prog_6_method_11_code
def yX3_made : MethodName := ⟨RX3, "made", "()I"⟩
theorem dX3_made_0 : decode cX3_made 0 = .ok (.aload_n 0, 1) := by decide +kernel
theorem dX3_made_1 : decode cX3_made 1 = .ok (.getfield 60, 3) := by decide +kernel
theorem dX3_made_4 : decode cX3_made 4 = .ok (.ireturn, 1) := by decide +kernel
abbrev cX3_length : ByteArray := prog_6_method_12_code
def yX3_length : MethodName := ⟨RX3, "length", "()I"⟩
theorem dX3_length_0 : decode cX3_length 0 = .ok (.aload_n 0, 1) := by decide +kernel
theorem dX3_length_1 : decode cX3_length 1 = .ok (.getfield 39, 3) := by decide +kernel
theorem dX3_length_4 : decode cX3_length 4 = .ok (.ireturn, 1) := by decide +kernel
abbrev cX3_at : ByteArray := prog_6_method_13_code
def yX3_at : MethodName := ⟨RX3, "at", "(I)I"⟩
theorem dX3_at_0 : decode cX3_at 0 = .ok (.iload_n 1, 1) := by decide +kernel
theorem dX3_at_1 : decode cX3_at 1 = .ok (.ifCond .lt 20, 3) := by decide +kernel
theorem dX3_at_4 : decode cX3_at 4 = .ok (.iload_n 1, 1) := by decide +kernel
theorem dX3_at_5 : decode cX3_at 5 = .ok (.aload_n 0, 1) := by decide +kernel
theorem dX3_at_6 : decode cX3_at 6 = .ok (.getfield 39, 3) := by decide +kernel
theorem dX3_at_9 : decode cX3_at 9 = .ok (.if_icmp .ge 12, 3) := by decide +kernel
theorem dX3_at_12 : decode cX3_at 12 = .ok (.aload_n 0, 1) := by decide +kernel
theorem dX3_at_13 : decode cX3_at 13 = .ok (.getfield 36, 3) := by decide +kernel
theorem dX3_at_16 : decode cX3_at 16 = .ok (.iload_n 1, 1) := by decide +kernel
theorem dX3_at_17 : decode cX3_at 17 = .ok (.iaload, 1) := by decide +kernel
theorem dX3_at_18 : decode cX3_at 18 = .ok (.goto 4, 3) := by decide +kernel
theorem dX3_at_21 : decode cX3_at 21 = .ok (.iconst (-1), 1) := by decide +kernel
theorem dX3_at_22 : decode cX3_at 22 = .ok (.ireturn, 1) := by decide +kernel
theorem q9 : (Jvm.Cond.initialized "FragmentHouseModel") ∈ lw_all := lw_g (lw_at lw_m1 4 rfl) rfl
theorem q184 : (Jvm.Cond.instantiable "FragmentHouseModel" (13 : Nat)) ∈ lw_all := lw_g (lw_at lw_m1 179 rfl) rfl
theorem q186 : (Jvm.Cond.instanceMethod ({ cls := "FragmentHouseModel", name := "<init>", desc := "()V" } : Jvm.MethodName)) ∈ lw_all := lw_g (lw_at lw_m1 181 rfl) rfl
theorem q187 : (Jvm.Cond.code ({ cls := "FragmentHouseModel", name := "<init>", desc := "()V" } : Jvm.MethodName) prog_6_method_1_code (1 : Nat) (Option.none : Option Jvm.ClassFile.FieldType)) ∈ lw_all := lw_g (lw_at lw_m1 182 rfl) rfl
theorem q188 : (Jvm.Cond.methodLink "FragmentHouseModel" (1 : Nat) ({ cls := "java/lang/Object", name := "<init>", desc := "()V" } : Jvm.MethodName)) ∈ lw_all := lw_g (lw_at lw_m1 183 rfl) rfl
theorem q189 : (Jvm.Cond.fieldLink "FragmentHouseModel" (9 : Nat) "FragmentHouseModel" "tray" "[B") ∈ lw_all := lw_g (lw_at lw_m1 184 rfl) rfl
theorem q190 : (Jvm.Cond.fieldLink "FragmentHouseModel" (43 : Nat) "FragmentHouseModel" "trayed" "I") ∈ lw_all := lw_g (lw_at lw_m1 185 rfl) rfl
theorem q191 : (Jvm.Cond.fieldLink "FragmentHouseModel" (13 : Nat) "FragmentHouseModel" "senders" "[I") ∈ lw_all := lw_g (lw_at lw_m1 186 rfl) rfl
theorem q192 : (Jvm.Cond.fieldLink "FragmentHouseModel" (17 : Nat) "FragmentHouseModel" "identifications" "[I") ∈ lw_all := lw_g (lw_at lw_m1 187 rfl) rfl
theorem q193 : (Jvm.Cond.fieldLink "FragmentHouseModel" (20 : Nat) "FragmentHouseModel" "protocols" "[I") ∈ lw_all := lw_g (lw_at lw_m1 188 rfl) rfl
theorem q194 : (Jvm.Cond.fieldLink "FragmentHouseModel" (23 : Nat) "FragmentHouseModel" "ends" "[I") ∈ lw_all := lw_g (lw_at lw_m1 189 rfl) rfl
theorem q195 : (Jvm.Cond.fieldLink "FragmentHouseModel" (26 : Nat) "FragmentHouseModel" "begun" "[I") ∈ lw_all := lw_g (lw_at lw_m1 190 rfl) rfl
theorem q196 : (Jvm.Cond.fieldLink "FragmentHouseModel" (29 : Nat) "FragmentHouseModel" "there" "[Z") ∈ lw_all := lw_g (lw_at lw_m1 191 rfl) rfl
theorem q197 : (Jvm.Cond.fieldLink "FragmentHouseModel" (33 : Nat) "FragmentHouseModel" "bytes" "[I") ∈ lw_all := lw_g (lw_at lw_m1 192 rfl) rfl
theorem q198 : (Jvm.Cond.fieldLink "FragmentHouseModel" (36 : Nat) "FragmentHouseModel" "whole" "[I") ∈ lw_all := lw_g (lw_at lw_m1 193 rfl) rfl
theorem q199 : (Jvm.Cond.fieldLink "FragmentHouseModel" (39 : Nat) "FragmentHouseModel" "length" "I") ∈ lw_all := lw_g (lw_at lw_m1 194 rfl) rfl
theorem q200 : (Jvm.Cond.fieldLink "FragmentHouseModel" (60 : Nat) "FragmentHouseModel" "made" "I") ∈ lw_all := lw_g (lw_at lw_m1 195 rfl) rfl
theorem q201 : (Jvm.Cond.fieldLink "FragmentHouseModel" (50 : Nat) "FragmentHouseModel" "now" "I") ∈ lw_all := lw_g (lw_at lw_m1 196 rfl) rfl
theorem q202 : (Jvm.Cond.laysFinal "FragmentHouseModel" "FragmentHouseModel" "tray" "[B") ∈ lw_all := lw_g (lw_at lw_m1 197 rfl) rfl
theorem q203 : (Jvm.Cond.soleField "FragmentHouseModel" "tray") ∈ lw_all := lw_g (lw_at lw_m1 198 rfl) rfl
theorem q204 : (Jvm.Cond.lays "FragmentHouseModel" "FragmentHouseModel" "trayed" "I") ∈ lw_all := lw_g (lw_at lw_m1 199 rfl) rfl
theorem q205 : (Jvm.Cond.soleField "FragmentHouseModel" "trayed") ∈ lw_all := lw_g (lw_at lw_m1 200 rfl) rfl
theorem q206 : (Jvm.Cond.laysFinal "FragmentHouseModel" "FragmentHouseModel" "senders" "[I") ∈ lw_all := lw_g (lw_at lw_m1 201 rfl) rfl
theorem q207 : (Jvm.Cond.soleField "FragmentHouseModel" "senders") ∈ lw_all := lw_g (lw_at lw_m1 202 rfl) rfl
theorem q208 : (Jvm.Cond.laysFinal "FragmentHouseModel" "FragmentHouseModel" "identifications" "[I") ∈ lw_all := lw_g (lw_at lw_m1 203 rfl) rfl
theorem q209 : (Jvm.Cond.soleField "FragmentHouseModel" "identifications") ∈ lw_all := lw_g (lw_at lw_m1 204 rfl) rfl
theorem q210 : (Jvm.Cond.laysFinal "FragmentHouseModel" "FragmentHouseModel" "protocols" "[I") ∈ lw_all := lw_g (lw_at lw_m1 205 rfl) rfl
theorem q211 : (Jvm.Cond.soleField "FragmentHouseModel" "protocols") ∈ lw_all := lw_g (lw_at lw_m1 206 rfl) rfl
theorem q212 : (Jvm.Cond.laysFinal "FragmentHouseModel" "FragmentHouseModel" "ends" "[I") ∈ lw_all := lw_g (lw_at lw_m1 207 rfl) rfl
theorem q213 : (Jvm.Cond.soleField "FragmentHouseModel" "ends") ∈ lw_all := lw_g (lw_at lw_m1 208 rfl) rfl
theorem q214 : (Jvm.Cond.laysFinal "FragmentHouseModel" "FragmentHouseModel" "begun" "[I") ∈ lw_all := lw_g (lw_at lw_m1 209 rfl) rfl
theorem q215 : (Jvm.Cond.soleField "FragmentHouseModel" "begun") ∈ lw_all := lw_g (lw_at lw_m1 210 rfl) rfl
theorem q216 : (Jvm.Cond.laysFinal "FragmentHouseModel" "FragmentHouseModel" "there" "[Z") ∈ lw_all := lw_g (lw_at lw_m1 211 rfl) rfl
theorem q217 : (Jvm.Cond.soleField "FragmentHouseModel" "there") ∈ lw_all := lw_g (lw_at lw_m1 212 rfl) rfl
theorem q218 : (Jvm.Cond.laysFinal "FragmentHouseModel" "FragmentHouseModel" "bytes" "[I") ∈ lw_all := lw_g (lw_at lw_m1 213 rfl) rfl
theorem q219 : (Jvm.Cond.soleField "FragmentHouseModel" "bytes") ∈ lw_all := lw_g (lw_at lw_m1 214 rfl) rfl
theorem q220 : (Jvm.Cond.laysFinal "FragmentHouseModel" "FragmentHouseModel" "whole" "[I") ∈ lw_all := lw_g (lw_at lw_m1 215 rfl) rfl
theorem q221 : (Jvm.Cond.soleField "FragmentHouseModel" "whole") ∈ lw_all := lw_g (lw_at lw_m1 216 rfl) rfl
theorem q222 : (Jvm.Cond.lays "FragmentHouseModel" "FragmentHouseModel" "length" "I") ∈ lw_all := lw_g (lw_at lw_m1 217 rfl) rfl
theorem q223 : (Jvm.Cond.soleField "FragmentHouseModel" "length") ∈ lw_all := lw_g (lw_at lw_m1 218 rfl) rfl
theorem q224 : (Jvm.Cond.lays "FragmentHouseModel" "FragmentHouseModel" "made" "I") ∈ lw_all := lw_g (lw_at lw_m1 219 rfl) rfl
theorem q225 : (Jvm.Cond.soleField "FragmentHouseModel" "made") ∈ lw_all := lw_g (lw_at lw_m1 220 rfl) rfl
theorem q226 : (Jvm.Cond.lays "FragmentHouseModel" "FragmentHouseModel" "now" "I") ∈ lw_all := lw_g (lw_at lw_m1 221 rfl) rfl
theorem q227 : (Jvm.Cond.soleField "FragmentHouseModel" "now") ∈ lw_all := lw_g (lw_at lw_m1 222 rfl) rfl
theorem q228 : (Jvm.Cond.superclass "FragmentHouseModel" "java/lang/Object") ∈ lw_all := lw_g (lw_at lw_m1 223 rfl) rfl
theorem q231 : (Jvm.Cond.instanceMethod ({ cls := "FragmentHouseModel", name := "feed", desc := "(IIIII)I" } : Jvm.MethodName)) ∈ lw_all := lw_g (lw_at lw_m1 226 rfl) rfl
theorem q232 : (Jvm.Cond.selects "FragmentHouseModel" ({ cls := "FragmentHouseModel", name := "feed", desc := "(IIIII)I" } : Jvm.MethodName) ({ cls := "FragmentHouseModel", name := "feed", desc := "(IIIII)I" } : Jvm.MethodName)) ∈ lw_all := lw_g (lw_at lw_m1 227 rfl) rfl
theorem q233 : (Jvm.Cond.code ({ cls := "FragmentHouseModel", name := "feed", desc := "(IIIII)I" } : Jvm.MethodName) prog_6_method_3_code (6 : Nat) (Option.some Jvm.ClassFile.FieldType.int)) ∈ lw_all := lw_g (lw_at lw_m1 228 rfl) rfl
theorem q234 : (Jvm.Cond.methodLink "FragmentHouseModel" (46 : Nat) ({ cls := "FragmentHouseModel", name := "word", desc := "(I)V" } : Jvm.MethodName)) ∈ lw_all := lw_g (lw_at lw_m1 229 rfl) rfl
theorem q235 : (Jvm.Cond.privateMethod ({ cls := "FragmentHouseModel", name := "word", desc := "(I)V" } : Jvm.MethodName)) ∈ lw_tbl := lw_at lw_m1 230 rfl
theorem q236 : (Jvm.Cond.instanceMethod ({ cls := "FragmentHouseModel", name := "word", desc := "(I)V" } : Jvm.MethodName)) ∈ lw_all := lw_g (lw_at lw_m1 231 rfl) rfl
theorem q237 : (Jvm.Cond.code ({ cls := "FragmentHouseModel", name := "word", desc := "(I)V" } : Jvm.MethodName) prog_6_method_4_code (3 : Nat) (Option.none : Option Jvm.ClassFile.FieldType)) ∈ lw_all := lw_g (lw_at lw_m1 232 rfl) rfl
theorem q239 : (Jvm.Cond.instanceMethod ({ cls := "FragmentHouseModel", name := "end", desc := "(I)I" } : Jvm.MethodName)) ∈ lw_all := lw_g (lw_at lw_m1 234 rfl) rfl
theorem q240 : (Jvm.Cond.selects "FragmentHouseModel" ({ cls := "FragmentHouseModel", name := "end", desc := "(I)I" } : Jvm.MethodName) ({ cls := "FragmentHouseModel", name := "end", desc := "(I)I" } : Jvm.MethodName)) ∈ lw_all := lw_g (lw_at lw_m1 235 rfl) rfl
theorem q241 : (Jvm.Cond.code ({ cls := "FragmentHouseModel", name := "end", desc := "(I)I" } : Jvm.MethodName) prog_6_method_5_code (2 : Nat) (Option.some Jvm.ClassFile.FieldType.int)) ∈ lw_all := lw_g (lw_at lw_m1 236 rfl) rfl
theorem q243 : (Jvm.Cond.instanceMethod ({ cls := "FragmentHouseModel", name := "take", desc := "(IIIIZ)I" } : Jvm.MethodName)) ∈ lw_all := lw_g (lw_at lw_m1 238 rfl) rfl
theorem q244 : (Jvm.Cond.selects "FragmentHouseModel" ({ cls := "FragmentHouseModel", name := "take", desc := "(IIIIZ)I" } : Jvm.MethodName) ({ cls := "FragmentHouseModel", name := "take", desc := "(IIIIZ)I" } : Jvm.MethodName)) ∈ lw_all := lw_g (lw_at lw_m1 239 rfl) rfl
theorem q245 : (Jvm.Cond.code ({ cls := "FragmentHouseModel", name := "take", desc := "(IIIIZ)I" } : Jvm.MethodName) prog_6_method_8_code (12 : Nat) (Option.some Jvm.ClassFile.FieldType.int)) ∈ lw_all := lw_g (lw_at lw_m2 0 rfl) rfl
theorem q246 : (Jvm.Cond.methodLink "FragmentHouseModel" (53 : Nat) ({ cls := "FragmentHouseModel", name := "find", desc := "(III)I" } : Jvm.MethodName)) ∈ lw_all := lw_g (lw_at lw_m2 1 rfl) rfl
theorem q247 : (Jvm.Cond.privateMethod ({ cls := "FragmentHouseModel", name := "find", desc := "(III)I" } : Jvm.MethodName)) ∈ lw_tbl := lw_at lw_m2 2 rfl
theorem q248 : (Jvm.Cond.instanceMethod ({ cls := "FragmentHouseModel", name := "find", desc := "(III)I" } : Jvm.MethodName)) ∈ lw_all := lw_g (lw_at lw_m2 3 rfl) rfl
theorem q249 : (Jvm.Cond.code ({ cls := "FragmentHouseModel", name := "find", desc := "(III)I" } : Jvm.MethodName) prog_6_method_6_code (5 : Nat) (Option.some Jvm.ClassFile.FieldType.int)) ∈ lw_all := lw_g (lw_at lw_m2 4 rfl) rfl
theorem q250 : (Jvm.Cond.methodLink "FragmentHouseModel" (57 : Nat) ({ cls := "FragmentHouseModel", name := "begin", desc := "(III)I" } : Jvm.MethodName)) ∈ lw_all := lw_g (lw_at lw_m2 5 rfl) rfl
theorem q251 : (Jvm.Cond.privateMethod ({ cls := "FragmentHouseModel", name := "begin", desc := "(III)I" } : Jvm.MethodName)) ∈ lw_tbl := lw_at lw_m2 6 rfl
theorem q252 : (Jvm.Cond.instanceMethod ({ cls := "FragmentHouseModel", name := "begin", desc := "(III)I" } : Jvm.MethodName)) ∈ lw_all := lw_g (lw_at lw_m2 7 rfl) rfl
theorem q253 : (Jvm.Cond.code ({ cls := "FragmentHouseModel", name := "begin", desc := "(III)I" } : Jvm.MethodName) prog_6_method_7_code (6 : Nat) (Option.some Jvm.ClassFile.FieldType.int)) ∈ lw_all := lw_g (lw_at lw_m2 8 rfl) rfl
theorem q255 : (Jvm.Cond.instanceMethod ({ cls := "FragmentHouseModel", name := "pass", desc := "(I)I" } : Jvm.MethodName)) ∈ lw_all := lw_g (lw_at lw_m2 10 rfl) rfl
theorem q256 : (Jvm.Cond.selects "FragmentHouseModel" ({ cls := "FragmentHouseModel", name := "pass", desc := "(I)I" } : Jvm.MethodName) ({ cls := "FragmentHouseModel", name := "pass", desc := "(I)I" } : Jvm.MethodName)) ∈ lw_all := lw_g (lw_at lw_m2 11 rfl) rfl
theorem q257 : (Jvm.Cond.code ({ cls := "FragmentHouseModel", name := "pass", desc := "(I)I" } : Jvm.MethodName) prog_6_method_9_code (4 : Nat) (Option.some Jvm.ClassFile.FieldType.int)) ∈ lw_all := lw_g (lw_at lw_m2 12 rfl) rfl
theorem q258 : (Jvm.Cond.constant "FragmentHouseModel" (63 : Nat) (2000000000 : Int32)) ∈ lw_all := lw_g (lw_at lw_m2 13 rfl) rfl
theorem q260 : (Jvm.Cond.instanceMethod ({ cls := "FragmentHouseModel", name := "making", desc := "()I" } : Jvm.MethodName)) ∈ lw_all := lw_g (lw_at lw_m2 15 rfl) rfl
theorem q261 : (Jvm.Cond.selects "FragmentHouseModel" ({ cls := "FragmentHouseModel", name := "making", desc := "()I" } : Jvm.MethodName) ({ cls := "FragmentHouseModel", name := "making", desc := "()I" } : Jvm.MethodName)) ∈ lw_all := lw_g (lw_at lw_m2 16 rfl) rfl
theorem q262 : (Jvm.Cond.code ({ cls := "FragmentHouseModel", name := "making", desc := "()I" } : Jvm.MethodName) prog_6_method_10_code (3 : Nat) (Option.some Jvm.ClassFile.FieldType.int)) ∈ lw_all := lw_g (lw_at lw_m2 17 rfl) rfl
theorem q264 : (Jvm.Cond.instanceMethod ({ cls := "FragmentHouseModel", name := "made", desc := "()I" } : Jvm.MethodName)) ∈ lw_all := lw_g (lw_at lw_m2 19 rfl) rfl
theorem q265 : (Jvm.Cond.selects "FragmentHouseModel" ({ cls := "FragmentHouseModel", name := "made", desc := "()I" } : Jvm.MethodName) ({ cls := "FragmentHouseModel", name := "made", desc := "()I" } : Jvm.MethodName)) ∈ lw_all := lw_g (lw_at lw_m2 20 rfl) rfl
theorem q266 : (Jvm.Cond.code ({ cls := "FragmentHouseModel", name := "made", desc := "()I" } : Jvm.MethodName) prog_6_method_11_code (1 : Nat) (Option.some Jvm.ClassFile.FieldType.int)) ∈ lw_all := lw_g (lw_at lw_m2 21 rfl) rfl
theorem q268 : (Jvm.Cond.instanceMethod ({ cls := "FragmentHouseModel", name := "length", desc := "()I" } : Jvm.MethodName)) ∈ lw_all := lw_g (lw_at lw_m2 23 rfl) rfl
theorem q269 : (Jvm.Cond.selects "FragmentHouseModel" ({ cls := "FragmentHouseModel", name := "length", desc := "()I" } : Jvm.MethodName) ({ cls := "FragmentHouseModel", name := "length", desc := "()I" } : Jvm.MethodName)) ∈ lw_all := lw_g (lw_at lw_m2 24 rfl) rfl
theorem q270 : (Jvm.Cond.code ({ cls := "FragmentHouseModel", name := "length", desc := "()I" } : Jvm.MethodName) prog_6_method_12_code (1 : Nat) (Option.some Jvm.ClassFile.FieldType.int)) ∈ lw_all := lw_g (lw_at lw_m2 25 rfl) rfl
theorem q272 : (Jvm.Cond.instanceMethod ({ cls := "FragmentHouseModel", name := "at", desc := "(I)I" } : Jvm.MethodName)) ∈ lw_all := lw_g (lw_at lw_m2 27 rfl) rfl
theorem q273 : (Jvm.Cond.selects "FragmentHouseModel" ({ cls := "FragmentHouseModel", name := "at", desc := "(I)I" } : Jvm.MethodName) ({ cls := "FragmentHouseModel", name := "at", desc := "(I)I" } : Jvm.MethodName)) ∈ lw_all := lw_g (lw_at lw_m2 28 rfl) rfl
theorem q274 : (Jvm.Cond.code ({ cls := "FragmentHouseModel", name := "at", desc := "(I)I" } : Jvm.MethodName) prog_6_method_13_code (2 : Nat) (Option.some Jvm.ClassFile.FieldType.int)) ∈ lw_all := lw_g (lw_at lw_m2 29 rfl) rfl
theorem in_X3 : ∀ w ∈ wsX30, w ∈ lw_all := lw_in wsX30 [202, 204, 206, 208, 210, 212, 214, 216, 218, 220, 222, 224, 226] (by decide +kernel) (by decide +kernel)
end
section
/-! the law's own entry -/
set_option maxRecDepth 100000
abbrev cL_law : ByteArray := code
theorem dL_law_0 : decode cL_law 0 = .ok (.new 7, 3) := by decide +kernel
theorem dL_law_3 : decode cL_law 3 = .ok (.dup, 1) := by decide +kernel
theorem dL_law_4 : decode cL_law 4 = .ok (.invokespecial 9, 3) := by decide +kernel
theorem dL_law_7 : decode cL_law 7 = .ok (.astore_n 1, 1) := by decide +kernel
theorem dL_law_8 : decode cL_law 8 = .ok (.new 10, 3) := by decide +kernel
theorem dL_law_11 : decode cL_law 11 = .ok (.dup, 1) := by decide +kernel
theorem dL_law_12 : decode cL_law 12 = .ok (.invokespecial 12, 3) := by decide +kernel
theorem dL_law_15 : decode cL_law 15 = .ok (.astore_n 2, 1) := by decide +kernel
theorem dL_law_16 : decode cL_law 16 = .ok (.iconst 0, 1) := by decide +kernel
theorem dL_law_17 : decode cL_law 17 = .ok (.istore_n 3, 1) := by decide +kernel
theorem dL_law_18 : decode cL_law 18 = .ok (.iload_n 3, 1) := by decide +kernel
theorem dL_law_19 : decode cL_law 19 = .ok (.aload_n 0, 1) := by decide +kernel
theorem dL_law_20 : decode cL_law 20 = .ok (.arraylength, 1) := by decide +kernel
theorem dL_law_21 : decode cL_law 21 = .ok (.bipush 6, 2) := by decide +kernel
theorem dL_law_23 : decode cL_law 23 = .ok (.isub, 1) := by decide +kernel
theorem dL_law_24 : decode cL_law 24 = .ok (.if_icmp .gt 312, 3) := by decide +kernel
theorem dL_law_27 : decode cL_law 27 = .ok (.aload_n 0, 1) := by decide +kernel
theorem dL_law_28 : decode cL_law 28 = .ok (.iload_n 3, 1) := by decide +kernel
theorem dL_law_29 : decode cL_law 29 = .ok (.iaload, 1) := by decide +kernel
theorem dL_law_30 : decode cL_law 30 = .ok (.bipush 7, 2) := by decide +kernel
theorem dL_law_32 : decode cL_law 32 = .ok (.iand, 1) := by decide +kernel
theorem dL_law_33 : decode cL_law 33 = .ok (.tableswitch 297 0 7 #[47, 110, 133, 212, 235, 248, 261, 274], 47) := by decide +kernel
theorem dL_law_80 : decode cL_law 80 = .ok (.aload_n 1, 1) := by decide +kernel
theorem dL_law_81 : decode cL_law 81 = .ok (.aload_n 0, 1) := by decide +kernel
theorem dL_law_82 : decode cL_law 82 = .ok (.iload_n 3, 1) := by decide +kernel
theorem dL_law_83 : decode cL_law 83 = .ok (.iconst 1, 1) := by decide +kernel
theorem dL_law_84 : decode cL_law 84 = .ok (.iadd, 1) := by decide +kernel
theorem dL_law_85 : decode cL_law 85 = .ok (.iaload, 1) := by decide +kernel
theorem dL_law_86 : decode cL_law 86 = .ok (.aload_n 0, 1) := by decide +kernel
theorem dL_law_87 : decode cL_law 87 = .ok (.iload_n 3, 1) := by decide +kernel
theorem dL_law_88 : decode cL_law 88 = .ok (.iconst 2, 1) := by decide +kernel
theorem dL_law_89 : decode cL_law 89 = .ok (.iadd, 1) := by decide +kernel
theorem dL_law_90 : decode cL_law 90 = .ok (.iaload, 1) := by decide +kernel
theorem dL_law_91 : decode cL_law 91 = .ok (.aload_n 0, 1) := by decide +kernel
theorem dL_law_92 : decode cL_law 92 = .ok (.iload_n 3, 1) := by decide +kernel
theorem dL_law_93 : decode cL_law 93 = .ok (.iconst 3, 1) := by decide +kernel
theorem dL_law_94 : decode cL_law 94 = .ok (.iadd, 1) := by decide +kernel
theorem dL_law_95 : decode cL_law 95 = .ok (.iaload, 1) := by decide +kernel
theorem dL_law_96 : decode cL_law 96 = .ok (.aload_n 0, 1) := by decide +kernel
theorem dL_law_97 : decode cL_law 97 = .ok (.iload_n 3, 1) := by decide +kernel
theorem dL_law_98 : decode cL_law 98 = .ok (.iconst 4, 1) := by decide +kernel
theorem dL_law_99 : decode cL_law 99 = .ok (.iadd, 1) := by decide +kernel
theorem dL_law_100 : decode cL_law 100 = .ok (.iaload, 1) := by decide +kernel
theorem dL_law_101 : decode cL_law 101 = .ok (.aload_n 0, 1) := by decide +kernel
theorem dL_law_102 : decode cL_law 102 = .ok (.iload_n 3, 1) := by decide +kernel
theorem dL_law_103 : decode cL_law 103 = .ok (.iconst 5, 1) := by decide +kernel
theorem dL_law_104 : decode cL_law 104 = .ok (.iadd, 1) := by decide +kernel
theorem dL_law_105 : decode cL_law 105 = .ok (.iaload, 1) := by decide +kernel
theorem dL_law_106 : decode cL_law 106 = .ok (.invokevirtual 13, 3) := by decide +kernel
theorem dL_law_109 : decode cL_law 109 = .ok (.aload_n 2, 1) := by decide +kernel
theorem dL_law_110 : decode cL_law 110 = .ok (.aload_n 0, 1) := by decide +kernel
theorem dL_law_111 : decode cL_law 111 = .ok (.iload_n 3, 1) := by decide +kernel
theorem dL_law_112 : decode cL_law 112 = .ok (.iconst 1, 1) := by decide +kernel
theorem dL_law_113 : decode cL_law 113 = .ok (.iadd, 1) := by decide +kernel
theorem dL_law_114 : decode cL_law 114 = .ok (.iaload, 1) := by decide +kernel
theorem dL_law_115 : decode cL_law 115 = .ok (.aload_n 0, 1) := by decide +kernel
theorem dL_law_116 : decode cL_law 116 = .ok (.iload_n 3, 1) := by decide +kernel
theorem dL_law_117 : decode cL_law 117 = .ok (.iconst 2, 1) := by decide +kernel
theorem dL_law_118 : decode cL_law 118 = .ok (.iadd, 1) := by decide +kernel
theorem dL_law_119 : decode cL_law 119 = .ok (.iaload, 1) := by decide +kernel
theorem dL_law_120 : decode cL_law 120 = .ok (.aload_n 0, 1) := by decide +kernel
theorem dL_law_121 : decode cL_law 121 = .ok (.iload_n 3, 1) := by decide +kernel
theorem dL_law_122 : decode cL_law 122 = .ok (.iconst 3, 1) := by decide +kernel
theorem dL_law_123 : decode cL_law 123 = .ok (.iadd, 1) := by decide +kernel
theorem dL_law_124 : decode cL_law 124 = .ok (.iaload, 1) := by decide +kernel
theorem dL_law_125 : decode cL_law 125 = .ok (.aload_n 0, 1) := by decide +kernel
theorem dL_law_126 : decode cL_law 126 = .ok (.iload_n 3, 1) := by decide +kernel
theorem dL_law_127 : decode cL_law 127 = .ok (.iconst 4, 1) := by decide +kernel
theorem dL_law_128 : decode cL_law 128 = .ok (.iadd, 1) := by decide +kernel
theorem dL_law_129 : decode cL_law 129 = .ok (.iaload, 1) := by decide +kernel
theorem dL_law_130 : decode cL_law 130 = .ok (.aload_n 0, 1) := by decide +kernel
theorem dL_law_131 : decode cL_law 131 = .ok (.iload_n 3, 1) := by decide +kernel
theorem dL_law_132 : decode cL_law 132 = .ok (.iconst 5, 1) := by decide +kernel
theorem dL_law_133 : decode cL_law 133 = .ok (.iadd, 1) := by decide +kernel
theorem dL_law_134 : decode cL_law 134 = .ok (.iaload, 1) := by decide +kernel
theorem dL_law_135 : decode cL_law 135 = .ok (.invokevirtual 17, 3) := by decide +kernel
theorem dL_law_138 : decode cL_law 138 = .ok (.if_icmp .eq 192, 3) := by decide +kernel
theorem dL_law_141 : decode cL_law 141 = .ok (.iconst 0, 1) := by decide +kernel
theorem dL_law_142 : decode cL_law 142 = .ok (.ireturn, 1) := by decide +kernel
theorem dL_law_143 : decode cL_law 143 = .ok (.aload_n 1, 1) := by decide +kernel
theorem dL_law_144 : decode cL_law 144 = .ok (.aload_n 0, 1) := by decide +kernel
theorem dL_law_145 : decode cL_law 145 = .ok (.iload_n 3, 1) := by decide +kernel
theorem dL_law_146 : decode cL_law 146 = .ok (.iconst 1, 1) := by decide +kernel
theorem dL_law_147 : decode cL_law 147 = .ok (.iadd, 1) := by decide +kernel
theorem dL_law_148 : decode cL_law 148 = .ok (.iaload, 1) := by decide +kernel
theorem dL_law_149 : decode cL_law 149 = .ok (.invokevirtual 18, 3) := by decide +kernel
theorem dL_law_152 : decode cL_law 152 = .ok (.aload_n 2, 1) := by decide +kernel
theorem dL_law_153 : decode cL_law 153 = .ok (.aload_n 0, 1) := by decide +kernel
theorem dL_law_154 : decode cL_law 154 = .ok (.iload_n 3, 1) := by decide +kernel
theorem dL_law_155 : decode cL_law 155 = .ok (.iconst 1, 1) := by decide +kernel
theorem dL_law_156 : decode cL_law 156 = .ok (.iadd, 1) := by decide +kernel
theorem dL_law_157 : decode cL_law 157 = .ok (.iaload, 1) := by decide +kernel
theorem dL_law_158 : decode cL_law 158 = .ok (.invokevirtual 22, 3) := by decide +kernel
theorem dL_law_161 : decode cL_law 161 = .ok (.if_icmp .eq 169, 3) := by decide +kernel
theorem dL_law_164 : decode cL_law 164 = .ok (.iconst 0, 1) := by decide +kernel
theorem dL_law_165 : decode cL_law 165 = .ok (.ireturn, 1) := by decide +kernel
theorem dL_law_166 : decode cL_law 166 = .ok (.aload_n 1, 1) := by decide +kernel
theorem dL_law_167 : decode cL_law 167 = .ok (.aload_n 0, 1) := by decide +kernel
theorem dL_law_168 : decode cL_law 168 = .ok (.iload_n 3, 1) := by decide +kernel
theorem dL_law_169 : decode cL_law 169 = .ok (.iconst 1, 1) := by decide +kernel
theorem dL_law_170 : decode cL_law 170 = .ok (.iadd, 1) := by decide +kernel
theorem dL_law_171 : decode cL_law 171 = .ok (.iaload, 1) := by decide +kernel
theorem dL_law_172 : decode cL_law 172 = .ok (.aload_n 0, 1) := by decide +kernel
theorem dL_law_173 : decode cL_law 173 = .ok (.iload_n 3, 1) := by decide +kernel
theorem dL_law_174 : decode cL_law 174 = .ok (.iconst 2, 1) := by decide +kernel
theorem dL_law_175 : decode cL_law 175 = .ok (.iadd, 1) := by decide +kernel
theorem dL_law_176 : decode cL_law 176 = .ok (.iaload, 1) := by decide +kernel
theorem dL_law_177 : decode cL_law 177 = .ok (.aload_n 0, 1) := by decide +kernel
theorem dL_law_178 : decode cL_law 178 = .ok (.iload_n 3, 1) := by decide +kernel
theorem dL_law_179 : decode cL_law 179 = .ok (.iconst 3, 1) := by decide +kernel
theorem dL_law_180 : decode cL_law 180 = .ok (.iadd, 1) := by decide +kernel
theorem dL_law_181 : decode cL_law 181 = .ok (.iaload, 1) := by decide +kernel
theorem dL_law_182 : decode cL_law 182 = .ok (.aload_n 0, 1) := by decide +kernel
theorem dL_law_183 : decode cL_law 183 = .ok (.iload_n 3, 1) := by decide +kernel
theorem dL_law_184 : decode cL_law 184 = .ok (.iconst 4, 1) := by decide +kernel
theorem dL_law_185 : decode cL_law 185 = .ok (.iadd, 1) := by decide +kernel
theorem dL_law_186 : decode cL_law 186 = .ok (.iaload, 1) := by decide +kernel
theorem dL_law_187 : decode cL_law 187 = .ok (.aload_n 0, 1) := by decide +kernel
theorem dL_law_188 : decode cL_law 188 = .ok (.iload_n 3, 1) := by decide +kernel
theorem dL_law_189 : decode cL_law 189 = .ok (.iconst 5, 1) := by decide +kernel
theorem dL_law_190 : decode cL_law 190 = .ok (.iadd, 1) := by decide +kernel
theorem dL_law_191 : decode cL_law 191 = .ok (.iaload, 1) := by decide +kernel
theorem dL_law_192 : decode cL_law 192 = .ok (.ifCond .eq 7, 3) := by decide +kernel
theorem dL_law_195 : decode cL_law 195 = .ok (.iconst 1, 1) := by decide +kernel
theorem dL_law_196 : decode cL_law 196 = .ok (.goto 4, 3) := by decide +kernel
theorem dL_law_199 : decode cL_law 199 = .ok (.iconst 0, 1) := by decide +kernel
theorem dL_law_200 : decode cL_law 200 = .ok (.invokevirtual 23, 3) := by decide +kernel
theorem dL_law_203 : decode cL_law 203 = .ok (.aload_n 2, 1) := by decide +kernel
theorem dL_law_204 : decode cL_law 204 = .ok (.aload_n 0, 1) := by decide +kernel
theorem dL_law_205 : decode cL_law 205 = .ok (.iload_n 3, 1) := by decide +kernel
theorem dL_law_206 : decode cL_law 206 = .ok (.iconst 1, 1) := by decide +kernel
theorem dL_law_207 : decode cL_law 207 = .ok (.iadd, 1) := by decide +kernel
theorem dL_law_208 : decode cL_law 208 = .ok (.iaload, 1) := by decide +kernel
theorem dL_law_209 : decode cL_law 209 = .ok (.aload_n 0, 1) := by decide +kernel
theorem dL_law_210 : decode cL_law 210 = .ok (.iload_n 3, 1) := by decide +kernel
theorem dL_law_211 : decode cL_law 211 = .ok (.iconst 2, 1) := by decide +kernel
theorem dL_law_212 : decode cL_law 212 = .ok (.iadd, 1) := by decide +kernel
theorem dL_law_213 : decode cL_law 213 = .ok (.iaload, 1) := by decide +kernel
theorem dL_law_214 : decode cL_law 214 = .ok (.aload_n 0, 1) := by decide +kernel
theorem dL_law_215 : decode cL_law 215 = .ok (.iload_n 3, 1) := by decide +kernel
theorem dL_law_216 : decode cL_law 216 = .ok (.iconst 3, 1) := by decide +kernel
theorem dL_law_217 : decode cL_law 217 = .ok (.iadd, 1) := by decide +kernel
theorem dL_law_218 : decode cL_law 218 = .ok (.iaload, 1) := by decide +kernel
theorem dL_law_219 : decode cL_law 219 = .ok (.aload_n 0, 1) := by decide +kernel
theorem dL_law_220 : decode cL_law 220 = .ok (.iload_n 3, 1) := by decide +kernel
theorem dL_law_221 : decode cL_law 221 = .ok (.iconst 4, 1) := by decide +kernel
theorem dL_law_222 : decode cL_law 222 = .ok (.iadd, 1) := by decide +kernel
theorem dL_law_223 : decode cL_law 223 = .ok (.iaload, 1) := by decide +kernel
theorem dL_law_224 : decode cL_law 224 = .ok (.aload_n 0, 1) := by decide +kernel
theorem dL_law_225 : decode cL_law 225 = .ok (.iload_n 3, 1) := by decide +kernel
theorem dL_law_226 : decode cL_law 226 = .ok (.iconst 5, 1) := by decide +kernel
theorem dL_law_227 : decode cL_law 227 = .ok (.iadd, 1) := by decide +kernel
theorem dL_law_228 : decode cL_law 228 = .ok (.iaload, 1) := by decide +kernel
theorem dL_law_229 : decode cL_law 229 = .ok (.ifCond .eq 7, 3) := by decide +kernel
theorem dL_law_232 : decode cL_law 232 = .ok (.iconst 1, 1) := by decide +kernel
theorem dL_law_233 : decode cL_law 233 = .ok (.goto 4, 3) := by decide +kernel
theorem dL_law_236 : decode cL_law 236 = .ok (.iconst 0, 1) := by decide +kernel
theorem dL_law_237 : decode cL_law 237 = .ok (.invokevirtual 27, 3) := by decide +kernel
theorem dL_law_240 : decode cL_law 240 = .ok (.if_icmp .eq 90, 3) := by decide +kernel
theorem dL_law_243 : decode cL_law 243 = .ok (.iconst 0, 1) := by decide +kernel
theorem dL_law_244 : decode cL_law 244 = .ok (.ireturn, 1) := by decide +kernel
theorem dL_law_245 : decode cL_law 245 = .ok (.aload_n 1, 1) := by decide +kernel
theorem dL_law_246 : decode cL_law 246 = .ok (.aload_n 0, 1) := by decide +kernel
theorem dL_law_247 : decode cL_law 247 = .ok (.iload_n 3, 1) := by decide +kernel
theorem dL_law_248 : decode cL_law 248 = .ok (.iconst 1, 1) := by decide +kernel
theorem dL_law_249 : decode cL_law 249 = .ok (.iadd, 1) := by decide +kernel
theorem dL_law_250 : decode cL_law 250 = .ok (.iaload, 1) := by decide +kernel
theorem dL_law_251 : decode cL_law 251 = .ok (.invokevirtual 28, 3) := by decide +kernel
theorem dL_law_254 : decode cL_law 254 = .ok (.aload_n 2, 1) := by decide +kernel
theorem dL_law_255 : decode cL_law 255 = .ok (.aload_n 0, 1) := by decide +kernel
theorem dL_law_256 : decode cL_law 256 = .ok (.iload_n 3, 1) := by decide +kernel
theorem dL_law_257 : decode cL_law 257 = .ok (.iconst 1, 1) := by decide +kernel
theorem dL_law_258 : decode cL_law 258 = .ok (.iadd, 1) := by decide +kernel
theorem dL_law_259 : decode cL_law 259 = .ok (.iaload, 1) := by decide +kernel
theorem dL_law_260 : decode cL_law 260 = .ok (.invokevirtual 31, 3) := by decide +kernel
theorem dL_law_263 : decode cL_law 263 = .ok (.if_icmp .eq 67, 3) := by decide +kernel
theorem dL_law_266 : decode cL_law 266 = .ok (.iconst 0, 1) := by decide +kernel
theorem dL_law_267 : decode cL_law 267 = .ok (.ireturn, 1) := by decide +kernel
theorem dL_law_268 : decode cL_law 268 = .ok (.aload_n 1, 1) := by decide +kernel
theorem dL_law_269 : decode cL_law 269 = .ok (.invokevirtual 32, 3) := by decide +kernel
theorem dL_law_272 : decode cL_law 272 = .ok (.aload_n 2, 1) := by decide +kernel
theorem dL_law_273 : decode cL_law 273 = .ok (.invokevirtual 36, 3) := by decide +kernel
theorem dL_law_276 : decode cL_law 276 = .ok (.if_icmp .eq 54, 3) := by decide +kernel
theorem dL_law_279 : decode cL_law 279 = .ok (.iconst 0, 1) := by decide +kernel
theorem dL_law_280 : decode cL_law 280 = .ok (.ireturn, 1) := by decide +kernel
theorem dL_law_281 : decode cL_law 281 = .ok (.aload_n 1, 1) := by decide +kernel
theorem dL_law_282 : decode cL_law 282 = .ok (.invokevirtual 37, 3) := by decide +kernel
theorem dL_law_285 : decode cL_law 285 = .ok (.aload_n 2, 1) := by decide +kernel
theorem dL_law_286 : decode cL_law 286 = .ok (.invokevirtual 40, 3) := by decide +kernel
theorem dL_law_289 : decode cL_law 289 = .ok (.if_icmp .eq 41, 3) := by decide +kernel
theorem dL_law_292 : decode cL_law 292 = .ok (.iconst 0, 1) := by decide +kernel
theorem dL_law_293 : decode cL_law 293 = .ok (.ireturn, 1) := by decide +kernel
theorem dL_law_294 : decode cL_law 294 = .ok (.aload_n 1, 1) := by decide +kernel
theorem dL_law_295 : decode cL_law 295 = .ok (.invokevirtual 41, 3) := by decide +kernel
theorem dL_law_298 : decode cL_law 298 = .ok (.aload_n 2, 1) := by decide +kernel
theorem dL_law_299 : decode cL_law 299 = .ok (.invokevirtual 44, 3) := by decide +kernel
theorem dL_law_302 : decode cL_law 302 = .ok (.if_icmp .eq 28, 3) := by decide +kernel
theorem dL_law_305 : decode cL_law 305 = .ok (.iconst 0, 1) := by decide +kernel
theorem dL_law_306 : decode cL_law 306 = .ok (.ireturn, 1) := by decide +kernel
theorem dL_law_307 : decode cL_law 307 = .ok (.aload_n 1, 1) := by decide +kernel
theorem dL_law_308 : decode cL_law 308 = .ok (.aload_n 0, 1) := by decide +kernel
theorem dL_law_309 : decode cL_law 309 = .ok (.iload_n 3, 1) := by decide +kernel
theorem dL_law_310 : decode cL_law 310 = .ok (.iconst 1, 1) := by decide +kernel
theorem dL_law_311 : decode cL_law 311 = .ok (.iadd, 1) := by decide +kernel
theorem dL_law_312 : decode cL_law 312 = .ok (.iaload, 1) := by decide +kernel
theorem dL_law_313 : decode cL_law 313 = .ok (.invokevirtual 45, 3) := by decide +kernel
theorem dL_law_316 : decode cL_law 316 = .ok (.aload_n 2, 1) := by decide +kernel
theorem dL_law_317 : decode cL_law 317 = .ok (.aload_n 0, 1) := by decide +kernel
theorem dL_law_318 : decode cL_law 318 = .ok (.iload_n 3, 1) := by decide +kernel
theorem dL_law_319 : decode cL_law 319 = .ok (.iconst 1, 1) := by decide +kernel
theorem dL_law_320 : decode cL_law 320 = .ok (.iadd, 1) := by decide +kernel
theorem dL_law_321 : decode cL_law 321 = .ok (.iaload, 1) := by decide +kernel
theorem dL_law_322 : decode cL_law 322 = .ok (.invokevirtual 48, 3) := by decide +kernel
theorem dL_law_325 : decode cL_law 325 = .ok (.if_icmp .eq 5, 3) := by decide +kernel
theorem dL_law_328 : decode cL_law 328 = .ok (.iconst 0, 1) := by decide +kernel
theorem dL_law_329 : decode cL_law 329 = .ok (.ireturn, 1) := by decide +kernel
theorem dL_law_330 : decode cL_law 330 = .ok (.iinc 3 6, 3) := by decide +kernel
theorem dL_law_333 : decode cL_law 333 = .ok (.goto (-315), 3) := by decide +kernel
theorem dL_law_336 : decode cL_law 336 = .ok (.iconst 1, 1) := by decide +kernel
theorem dL_law_337 : decode cL_law 337 = .ok (.ireturn, 1) := by decide +kernel
end
section
/-! my own base: worlds by membership, one shape of contract (MM), its entry, its returns, its calls -/
abbrev vwCl : List vw_C := [(RX0, TX0, 6), (RX1, TX1, 3), (RX2, TX2, 8), (RX3, TX3, 13)]
theorem wP_of {D : va_G} {cl : List vw_C} {ws : va_W} {H : Heap} (h : ∀ q ∈ ws, va_at D cl q H) : va_P D cl ws H := fun _ _ hk => h _ (List.mem_of_getElem? hk)
theorem wP_mem {D : va_G} {cl : List vw_C} {ws : va_W} {H : Heap} (h : va_P D cl ws H) {q : Nat × va_E} (hq : q ∈ ws) : va_at D cl q H := by
  obtain ⟨k, hk⟩ := List.getElem?_of_mem hq
  exact h k q hk
theorem wP_perm {D : va_G} {cl : List vw_C} {ws ws' : va_W} {H : Heap} (h : va_P D cl ws H) (p : ws.Perm ws') : va_P D cl ws' H := wP_of fun q hq => wP_mem h (p.mem_iff.mpr hq)
theorem wD_mem {A : Nat → Prop} {ws : va_W} (h : va_D A ws) {q : Nat × va_E} (hq : q ∈ ws) : A q.1 := by
  obtain ⟨k, hk⟩ := List.getElem?_of_mem hq
  exact h.2 k q hk
theorem wD_nd {A : Nat → Prop} {ws : va_W} (h : va_D A ws) : (ws.map Prod.fst).Nodup := by
  refine List.pairwise_iff_getElem.mpr ?_
  intro i j hi hj hij e
  rw [List.length_map] at hi hj
  rw [List.getElem_map, List.getElem_map] at e
  have := h.1 i j ws[i] ws[j] (List.getElem?_eq_getElem hi) (List.getElem?_eq_getElem hj) e
  omega
theorem wD_of {A : Nat → Prop} {ws : va_W} (h1 : (ws.map Prod.fst).Nodup) (h2 : ∀ q ∈ ws, A q.1) : va_D A ws := by
  refine ⟨fun i j p q hi hj e => ?_, fun k q hk => h2 q (List.mem_of_getElem? hk)⟩
  obtain ⟨li, hi⟩ := List.getElem?_eq_some_iff.mp hi
  obtain ⟨lj, hj⟩ := List.getElem?_eq_some_iff.mp hj
  have h3 := List.pairwise_iff_getElem.mp h1
  rcases Nat.lt_trichotomy i j with h | h | h
  · exfalso
    have h4 := h3 i j (by rw [List.length_map]; exact li) (by rw [List.length_map]; exact lj) h
    rw [List.getElem_map, List.getElem_map, hi, hj] at h4
    exact h4 e
  · exact h
  · exfalso
    have h4 := h3 j i (by rw [List.length_map]; exact lj) (by rw [List.length_map]; exact li) h
    rw [List.getElem_map, List.getElem_map, hi, hj] at h4
    exact h4 e.symm
theorem wD_perm {A : Nat → Prop} {ws ws' : va_W} (h : va_D A ws) (p : ws.Perm ws') : va_D A ws' := wD_of ((p.map Prod.fst).nodup_iff.mp (wD_nd h)) (fun q hq => wD_mem h (p.mem_iff.mpr hq))
theorem wP_left {D : va_G} {cl : List vw_C} {a b : va_W} {H : Heap} (h : va_P D cl (a ++ b) H) : va_P D cl a H := wP_of fun q hq => wP_mem h (List.mem_append_left _ hq)
theorem wP_right {D : va_G} {cl : List vw_C} {a b : va_W} {H : Heap} (h : va_P D cl (a ++ b) H) : va_P D cl b H := wP_of fun q hq => wP_mem h (List.mem_append_right _ hq)
theorem wD_left {A : Nat → Prop} {a b : va_W} (h : va_D A (a ++ b)) : va_D A a := by
  have h1 := wD_nd h
  rw [List.map_append, List.nodup_append] at h1
  exact wD_of h1.1 (fun q hq => wD_mem h (List.mem_append_left _ hq))
/-- an array's contents as another function that agrees below its length -/
theorem wP_cell {D : va_G} {cl : List vw_C} {A : Nat → Prop} {ws : va_W} {H : Heap} {p a : Nat} {cA : ClassId} {x y : vp_A} (h : va_P D cl ws H) (hD : va_D A ws) (hp : ws[p]? = some (a, .inl (cA, x))) (e : vp_cell cA x = vp_cell cA y) : va_P D cl (ws.set p (a, .inl (cA, y))) H :=
  h.set hD hp (by have h1 := h p _ hp; show H[a]? = some (vp_cell cA y); rw [← e]; exact h1) (fun _ _ => rfl)
theorem vp_ci {cA : ClassId} {n : Nat} {f g : Nat → Int32} (h : ∀ j, j < n → f j = g j) : vp_cell cA (n, .inl f) = vp_cell cA (n, .inl g) := by
  rw [vp_cell_i, vp_cell_i]
  unfold arrV
  congr 1
  apply Array.ext
  · simp
  · intro i h1 h2
    simp at h1
    simp [h i h1]
theorem vp_cq {cA : ClassId} {n : Nat} {f g : Nat → Option Nat} (h : ∀ j, j < n → f j = g j) : vp_cell cA (n, .inr (.inr (.inr (.inr f)))) = vp_cell cA (n, .inr (.inr (.inr (.inr g)))) := by
  rw [vp_cell_q, vp_cell_q]
  unfold arrV
  congr 1
  apply Array.ext
  · simp
  · intro i h1 h2
    simp at h1
    simp [h i h1]
/-- cells in another order, by their places -/
theorem perm_idx {L L' : va_W} (n : Nat) (hn : L.length = n) (is : List Nat) (h : (List.range n).Perm is) (e : is.filterMap (fun i => L[i]?) = L') : L.Perm L' := by
  subst hn
  subst e
  have h1 : L = (List.range L.length).filterMap (fun i => L[i]?) := by
    clear h
    induction L with
    | nil => rfl
    | cons a L ih =>
      rw [List.length_cons, List.range_succ_eq_map, List.filterMap_cons, List.filterMap_map]
      show a :: L = a :: List.filterMap (fun i => L[i]?) (List.range L.length)
      rw [← ih]
  have h2 := h.filterMap (fun i => L[i]?)
  rw [← h1] at h2
  exact h2
theorem w_free {A0 : Nat → Prop} {wc wr : va_W} {H0 H : Heap} {locs : List Loc} (hD : va_D A0 (wc ++ wr)) (hS : va_S A0 H0 H locs) (hA : ∀ q, H0.size ≤ q → A0 q) : ∀ q, va_A wc H.size q → A0 q := by
  intro q h
  rcases h with ⟨k, e, h⟩ | h
  · exact wD_mem hD (q := (q, e)) (List.mem_append_left _ (List.mem_of_getElem? h))
  · exact hA q (Nat.le_trans hS.1 h)
theorem w_join {A0 : Nat → Prop} {D : va_G} {cl : List vw_C} {wc wr w1 : va_W} {H H1 : Heap} (hP : va_P D cl (wc ++ wr) H) (hD : va_D A0 (wc ++ wr)) (hk : ∀ q : Nat, q < H.size → ¬ va_A wc H.size q → H1[q]? = H[q]?) (hF : ∀ q, va_A wc H.size q → A0 q) (hP1 : va_P D cl w1 H1) (hD1 : va_D (va_A wc H.size) w1) : va_P D cl (w1 ++ wr) H1 ∧ va_D A0 (w1 ++ wr) := by
  have hn := wD_nd hD
  rw [List.map_append, List.nodup_append] at hn
  have apart : ∀ q ∈ wr, q.1 < H.size ∧ ¬ va_A wc H.size q.1 := by
    intro q hq
    have hl := (wP_mem hP (List.mem_append_right _ hq)).lt
    refine ⟨hl, fun h => ?_⟩
    rcases h with ⟨k2, e, h⟩ | h
    · exact hn.2.2 q.1 (List.mem_map.mpr ⟨(q.1, e), List.mem_of_getElem? h, rfl⟩) q.1 (List.mem_map.mpr ⟨q, hq, rfl⟩) rfl
    · omega
  constructor
  · refine wP_of fun q hq => ?_
    rcases List.mem_append.mp hq with h | h
    · exact wP_mem hP1 h
    · exact (wP_mem hP (List.mem_append_right _ h)).kept (hk q.1 (apart q h).1 (apart q h).2)
  · refine wD_of ?_ fun q hq => ?_
    · rw [List.map_append, List.nodup_append]
      refine ⟨wD_nd hD1, hn.2.1, fun a ha b hb => ?_⟩
      obtain ⟨x, hx, rfl⟩ := List.mem_map.mp ha
      obtain ⟨y, hy, rfl⟩ := List.mem_map.mp hb
      intro e
      exact (apart y hy).2 (by rw [← e]; exact wD_mem hD1 hx)
    · rcases List.mem_append.mp hq with h | h
      · exact hF _ (wD_mem hD1 h)
      · exact wD_mem hD (List.mem_append_right _ h)
/-- what every contract carries along: the nest mate's link and the array class over Making -/
def EX (U : State) : Prop := va_Nw (.methodLinkNest "FragmentHouse$Fragments" 15 yX2_init "FragmentHouse") U ∧ va_AO "FragmentHouse$Making" U
theorem EX.warm {s U : State} (hW : s.WarmedH U.vm) (h : EX s) : EX U := ⟨va_Nw.warmM hW h.1, va_AO.moved hW.alike h.2⟩
theorem EX.call {U : State} {g : JFrame} {mk : MethodId} {a : Array Value} (h : EX U) : EX (U.calling g mk a) := ⟨va_Nw.same rfl (u := U) (U := U.calling g mk a) rfl h.1, va_AO.moved (u := U) (U := U.calling g mk a) (Vm.Alike.refl U.vm) h.2⟩
abbrev tyL : Type := List (ClassId × FieldType)
def Qm {S : Type} (post : Option Value → S → Prop) (B : S → State → Prop) (A : Nat → Prop) : Array Value → State → Outcome → State → Prop := fun _ st oc t => (∃ (v : Option Value) (u : S), oc = .returned v ∧ post v u ∧ B u t) ∧ va_F A st t
def Bm {S : Type} (D : va_G) (T : S → tyL) (B : S → va_W) (A : Nat → Prop) : S → State → Prop := fun u t => va_P D vwCl (B u) t.heap ∧ va_K D vwCl (T u) t ∧ va_D A (B u)
def Pm (D : va_G) (tys : tyL) (w : va_W) (sz : Nat) : State → Prop := fun U => U.heap.size = sz ∧ va_P D vwCl w U.heap ∧ va_K D vwCl tys U ∧ va_D (fun _ => True) w ∧ EX U
/-- A CONTRACT: method y (code cd, L locals, answer rt), its room, the tables' classes, arguments, world before; what it answers and the world behind -/
def MM (l : Launch) (y : MethodName) (cd : ByteArray) (L : Nat) (rt : Option FieldType) (rm : Room) (D : va_G) (tys : tyL) (av : List Value) (w : va_W) {S : Type} (post : Option Value → S → Prop) (T : S → tyL) (B : S → va_W) : Prop :=
  ∀ sz : Nat, Met l y (ws_ y cd L rt) rm (va_Pc av (Pm D tys w sz)) (Qm post (Bm D T B (va_A w sz)) (va_A w sz)) rm.cells rm.slots (va_A w sz)
theorem MM_of {l : Launch} {y : MethodName} {cd : ByteArray} {L : Nat} {rt : Option FieldType} {rm : Room} {D : va_G} {tys : tyL} {av : List Value} {w : va_W} {S : Type} {post : Option Value → S → Prop} {T : S → tyL} {B : S → va_W} (hy : plainName y.cls = true) (hlen : (lg_sl av).length ≤ L)
    (body : ∀ (p : Program) (e : Env) (s : State) (m : MethodId) (below : List Frame) (meth : Method) (c : Code) (A : Nat → Prop) (ls : Array Slot) (R : Room) (Q : State → Prop) (args : Array Value), R = rm → Q = MQ below (Qm post (Bm D T B A) A) args s rm.cells rm.slots A → p.tables.exec = Jvm.exec → c.code = cd → meth.sig.returnType = rt → meth.locks = false → c.maxLocals = L → s.vm.findClass y.cls = some m.cls → (∀ w ∈ lw_all, w.before args s = true) → meth.name = y.name → va_K D vwCl tys s → EX s → (∀ q : Nat, s.heap.size ≤ q → A q) → va_P D vwCl w s.heap → va_D A w → va_S A s.heap s.heap [] → lv_has ls L (lv_args 0 av) →
      W p l e R s m args below meth c s.heap [] 0 0 Q (F0 m 0 ls [])) : MM l y cd L rt rm D tys av w post T B := by
  intro sz
  refine Met.ofW (cc := cd) (maxL := L) (ret := rt) hy rfl ?_
  intro p e s m args below meth c s₁ B0 hml hv
  obtain ⟨rfl, hsz, hP, hK, hD0, hE⟩ := hv
  have hts := atoms_spec (ws := ws_ y cd L rt) B0.pre
  have hts : ∀ w ∈ lw_all, w.before _ s = true := fun w h => hts w (List.mem_cons_of_mem _ h)
  have hown : s.vm.findClass y.cls = some m.cls := findClass_of_methodNamed B0.named
  subst hsz
  have hD := hD0.self (sz := s.heap.size)
  have hl := lv_entry av (n := L) hlen
  rw [lg_entry_eq]
  exact body p e s m below meth c (va_A w s.heap.size) _ rm _ _ rfl rfl B0.exec B0.bytes B0.returns B0.notSynchronized hml hown hts (name_of_methodNamed B0.named B0.method).1 hK hE (fun q h => Or.inr h) hP hD va_S.rf hl
section RET
variable {p : Program} {l : Launch} {e : Env} {R : Room} {s : State} {m : MethodId} {args : Array Value} {below : List Frame} {meth : Method} {c : Code} {H : Heap} {locs : List Loc} {cells slots mc ms : Nat} {Q : State → Prop} {cc : ByteArray} {pc : Nat} {ls : Array Slot} {rest : List Value}
theorem lv_as {x y : Int32} (h : x = y) (k : W p l e R s m args below meth c H locs cells slots Q (F0 m pc ls (.int y :: rest))) : W p l e R s m args below meth c H locs cells slots Q (F0 m pc ls (.int x :: rest)) := by rw [h]; exact k
theorem ret_i {S : Type} {post : Option Value → S → Prop} {D : va_G} {T : S → tyL} {B : S → va_W} {A : Nat → Prop} {v : Int32} {ty : FieldType} (hx : p.tables.exec = Jvm.exec) (hb : c.code = cc) (hr : meth.sig.returnType = some ty) (hn : narrow ty (.int v) = .int v) (hlk : meth.locks = false) (hQ : Q = MQ below (Qm post (Bm D T B A) A) args s mc ms A) (hc : cells ≤ mc) (hs : slots ≤ ms) (u : S) (hpost : post (some (.int v)) u) (hK : va_K D vwCl (T u) s) (hP : va_P D vwCl (B u) H) (hD : va_D A (B u)) (hS : va_S A s.heap H locs) (hdg : decode cc pc = .ok (.ireturn, 1)) : W p l e R s m args below meth c H locs cells slots Q (F0 m pc ls [.int v]) := by
  subst hQ
  exact W.widen hc hs (W.zret hx hb hr hn (fun t ht hW => ⟨⟨_, u, rfl, hpost, by rw [ht]; exact hP, va_K.moved hW.alike hK, hD⟩, hS.F ht⟩) hS.2.2 hdg hlk)
theorem ret_v {S : Type} {post : Option Value → S → Prop} {D : va_G} {T : S → tyL} {B : S → va_W} {A : Nat → Prop} (hx : p.tables.exec = Jvm.exec) (hb : c.code = cc) (hr : meth.sig.returnType = none) (hlk : meth.locks = false) (hQ : Q = MQ below (Qm post (Bm D T B A) A) args s mc ms A) (hc : cells ≤ mc) (hs : slots ≤ ms) (u : S) (hpost : post none u) (hK : va_K D vwCl (T u) s) (hP : va_P D vwCl (B u) H) (hD : va_D A (B u)) (hS : va_S A s.heap H locs) (hdg : decode cc pc = .ok (.return_, 1)) : W p l e R s m args below meth c H locs cells slots Q (F0 m pc ls []) := by
  subst hQ
  exact W.widen hc hs (W.vret hx hb hr (fun t ht hW => ⟨⟨_, u, rfl, hpost, by rw [ht]; exact hP, va_K.moved hW.alike hK, hD⟩, hS.F ht⟩) hS.2.2 hdg hlk)
theorem ret_a {S : Type} {post : Option Value → S → Prop} {D : va_G} {T : S → tyL} {B : S → va_W} {A : Nat → Prop} {v : Value} {n : String} (hx : p.tables.exec = Jvm.exec) (hb : c.code = cc) (hr : meth.sig.returnType = some (.object n)) (hv : v = .null ∨ ∃ a, v = .ref a) (hlk : meth.locks = false) (hQ : Q = MQ below (Qm post (Bm D T B A) A) args s mc ms A) (hc : cells ≤ mc) (hs : slots ≤ ms) (u : S) (hpost : post (some v) u) (hK : va_K D vwCl (T u) s) (hP : va_P D vwCl (B u) H) (hD : va_D A (B u)) (hS : va_S A s.heap H locs) (hdg : decode cc pc = .ok (.areturn, 1)) : W p l e R s m args below meth c H locs cells slots Q (F0 m pc ls [v]) := by
  subst hQ
  exact W.widen hc hs (W.aret hx hb hr (Or.inl ⟨n, rfl⟩) hv (fun t ht hW => ⟨⟨_, u, rfl, hpost, by rw [ht]; exact hP, va_K.moved hW.alike hK, hD⟩, hS.F ht⟩) hS.2.2 hdg hlk)
/-- behind a call's run -/
theorem call_run {S : Type} {post : Option Value → S → Prop} {D : va_G} {T : S → tyL} {B : S → va_W} {A0 : Nat → Prop} {H0 : Heap} {wc wr : va_W} {a : Array Value} {st0 : List Value} (hr : va_Run p l e R s m args below meth c H locs cells slots mc ms (F0 m pc ls st0) rest (Qm post (Bm D T B (va_A wc H.size)) (va_A wc H.size) a) (va_A wc H.size)) (hP : va_P D vwCl (wc ++ wr) H) (hD : va_D A0 (wc ++ wr)) (hS : va_S A0 H0 H locs) (hA : ∀ q, H0.size ≤ q → A0 q)
    (kk : ∀ (v : Option Value) (u : S) (H1 : Heap) (locs1 : List Loc), post v u → va_K D vwCl (T u) s → va_P D vwCl (B u ++ wr) H1 → va_D A0 (B u ++ wr) → va_S A0 H0 H1 locs1 → W p l e R s m args below meth c H1 locs1 (cells + mc) (slots + ms) Q (F0 m (pc + 3) ls (v.toList ++ rest))) : W p l e R s m args below meth c H locs cells slots Q (F0 m pc ls st0) := by
  intro T1 hT X
  obtain ⟨v, st₀, t, T', L, h0, X', hL, e1, e2, ⟨⟨v1, u, hv, hp, hB, hKu, hDu⟩, hz, hk⟩, st⟩ := hr T1 hT X
  cases hv
  rw [h0] at hz hk
  have hF := w_free hD hS hA
  rw [← e1] at hB
  obtain ⟨hP1, hD1⟩ := w_join (H1 := T'.heap) hP hD (fun q h1 h2 => by rw [e1]; exact hk q h1 h2) hF hB hDu
  have hal : s.vm.Alike t.vm := by rw [← e2]; exact X'.warmed.alike
  obtain ⟨t2, a1, b1⟩ := kk v u T'.heap (locs ++ L) hp (va_K.moved hal.symm hKu) hP1 hD1
    ⟨Nat.le_trans hS.1 (by rw [e1]; exact hz), fun q h1 h2 => by rw [e1, hk q (Nat.lt_of_lt_of_le h1 hS.1) (fun z => h2 (hF q z))]; exact hS.2.1 q h1 h2, fun q hq => by
      rcases List.mem_append.mp hq with h | h
      · exact hS.2.2 q h
      · exact hF _ (hL q h)⟩ T' rfl X'
  exact ⟨t2, st t2 a1, b1⟩
theorem pm_blind {D : va_G} {tys : tyL} {av : List Value} {w : va_W} {sz : Nat} : FrameBlind (va_Pc av (Pm D tys w sz)) := fun a U g mk q => by
  obtain ⟨q0, q1, qP, qK, qD, qE⟩ := q
  exact ⟨q0, q1, qP, va_K.moved (u := U) (U := U.calling g mk a) (Vm.Alike.refl U.vm) qK, qD, qE.call⟩
/-- a call of an object's method -/
theorem call_V {S : Type} {post : Option Value → S → Prop} {D : va_G} {T : S → tyL} {B : S → va_W} {A0 : Nat → Prop} {H0 : Heap} {wc : va_W} {nA : Nat} (wr : va_W) {y : MethodName} {cd : ByteArray} {L nL idx a q0 ci : Nat} {rt : Option FieldType} {rm : Room} {tys' : tyL} (As : List Value) {own : String} {st0 : List Value} {fs : List Value} {q : vw_C} (S0 : CallFix p m c cc nL s args lw_all own) (hM : MM l y cd L rt rm D tys' (.ref a :: As) wc post T B)
    (lw : GoodIn lw_all (wsV own idx q.1 y (ws_ y cd L rt))) (hd : y.cls = q.1 ∧ y.cls ≠ "java/lang/invoke/MethodHandle" ∧ y.cls ≠ "java/lang/invoke/VarHandle" ∧ (parseMethodDescriptor y.desc).map (fun d => d.parameters.length) = some nA) (hnA : As.length = nA) (hR : rm.frames + 1 ≤ R.frames ∧ 8 + (L + 11) + rm.locals ≤ R.locals)
    (hKc : va_K D vwCl tys' s) (hE : EX s) (hc : vwCl[ci]? = some q) (he : wc[q0]? = some (a, .inr (ci, fs))) (hP : va_P D vwCl (wc ++ wr) H) (hD : va_D A0 (wc ++ wr)) (hS : va_S A0 H0 H locs) (hA : ∀ q, H0.size ≤ q → A0 q) (hsz : ls.size = nL) (hst : st0 = As.reverse ++ .ref a :: rest) (hW : (rest.map fun v => v.category).sum ≤ 8) (hdg : decode cc pc = .ok (.invokevirtual idx, 3)) (hf : cells + rm.cells ≤ R.cells ∧ slots + rm.slots ≤ R.slots)
    (kk : ∀ (v : Option Value) (u : S) (H1 : Heap) (locs1 : List Loc), post v u → va_K D vwCl (T u) s → va_P D vwCl (B u ++ wr) H1 → va_D A0 (B u ++ wr) → va_S A0 H0 H1 locs1 → W p l e R s m args below meth c H1 locs1 (cells + rm.cells) (slots + rm.slots) Q (F0 m (pc + 3) ls (v.toList ++ rest))) : W p l e R s m args below meth c H locs cells slots Q (F0 m pc ls st0) :=
  call_run (va_runV (As := As) (rest := rest) S0 (hM H.size) (cwV nA S0.2.2.2.2 lw rfl rfl rfl hd hR) ⟨pm_blind, va_recv hKc (wP_left hP) hc he, fun U hU hW => ⟨rfl, by rw [hU], by rw [hU]; exact wP_left hP, va_K.moved hW.alike hKc, (wD_left hD).weaken (fun _ _ _ _ => trivial), hE.warm hW⟩⟩ rfl hnA hsz hst (lv_room hW) hdg hf) hP hD hS hA kk
/-- a call of a static method -/
theorem call_S {S : Type} {post : Option Value → S → Prop} {D : va_G} {T : S → tyL} {B : S → va_W} {A0 : Nat → Prop} {H0 : Heap} {wc : va_W} {nA : Nat} (wr : va_W) {y : MethodName} {cd : ByteArray} {L nL idx : Nat} {rt : Option FieldType} {rm : Room} {tys' : tyL} (As : List Value) {own : String} {st0 : List Value} (S0 : CallFix p m c cc nL s args lw_all own) (hM : MM l y cd L rt rm D tys' As wc post T B)
    (lw : GoodIn lw_all (va_wsS own idx y (ws_ y cd L rt))) (hd : y.cls ≠ "java/lang/invoke/MethodHandle" ∧ y.cls ≠ "java/lang/invoke/VarHandle" ∧ (parseMethodDescriptor y.desc).map (fun d => d.parameters.length) = some nA) (hnA : As.length = nA) (hR : rm.frames + 1 ≤ R.frames ∧ 8 + (L + 11) + rm.locals ≤ R.locals)
    (hKc : va_K D vwCl tys' s) (hE : EX s) (hP : va_P D vwCl (wc ++ wr) H) (hD : va_D A0 (wc ++ wr)) (hS : va_S A0 H0 H locs) (hA : ∀ q, H0.size ≤ q → A0 q) (hsz : ls.size = nL) (hst : st0 = As.reverse ++ rest) (hW : (rest.map fun v => v.category).sum ≤ 8) (hdg : decode cc pc = .ok (.invokestatic idx, 3)) (hf : cells + rm.cells ≤ R.cells ∧ slots + rm.slots ≤ R.slots)
    (kk : ∀ (v : Option Value) (u : S) (H1 : Heap) (locs1 : List Loc), post v u → va_K D vwCl (T u) s → va_P D vwCl (B u ++ wr) H1 → va_D A0 (B u ++ wr) → va_S A0 H0 H1 locs1 → W p l e R s m args below meth c H1 locs1 (cells + rm.cells) (slots + rm.slots) Q (F0 m (pc + 3) ls (v.toList ++ rest))) : W p l e R s m args below meth c H locs cells slots Q (F0 m pc ls st0) :=
  call_run (va_runS (As := As) (rest := rest) S0 (hM H.size) (va_cwS nA S0.2.2.2.2 lw rfl rfl rfl hd hR) ⟨pm_blind, fun U hU hW => ⟨rfl, by rw [hU], by rw [hU]; exact wP_left hP, va_K.moved hW.alike hKc, (wD_left hD).weaken (fun _ _ _ _ => trivial), hE.warm hW⟩⟩ rfl hnA hsz hst (lv_room hW) hdg hf) hP hD hS hA kk
/-- a constructor's call -/
theorem call_I {S : Type} {post : Option Value → S → Prop} {D : va_G} {T : S → tyL} {B : S → va_W} {A0 : Nat → Prop} {H0 : Heap} {wc : va_W} {nA : Nat} (wr : va_W) {y : MethodName} {cd : ByteArray} {L nL idx a : Nat} {rm : Room} {tys' : tyL} (As : List Value) {own : String} {st0 : List Value} (S0 : CallFix p m c cc nL s args lw_all own) (hM : MM l y cd L none rm D tys' (.ref a :: As) wc post T B)
    (q1 : Cond.code y cd L none ∈ lw_all) (q2 : Cond.initialized y.cls ∈ lw_all) (q3 : Cond.methodLink own idx y ∈ lw_all) (q4 : Cond.instanceMethod y ∈ lw_all) (hy1 : y.name = "<init>") (hd : y.cls ≠ "java/lang/invoke/MethodHandle" ∧ y.cls ≠ "java/lang/invoke/VarHandle" ∧ (parseMethodDescriptor y.desc).map (fun d => d.parameters.length) = some nA) (hnA : As.length = nA) (hR : rm.frames + 1 ≤ R.frames ∧ 8 + (L + 11) + rm.locals ≤ R.locals)
    (hKc : va_K D vwCl tys' s) (hE : EX s) (hP : va_P D vwCl (wc ++ wr) H) (hD : va_D A0 (wc ++ wr)) (hS : va_S A0 H0 H locs) (hA : ∀ q, H0.size ≤ q → A0 q) (hsz : ls.size = nL) (hst : st0 = As.reverse ++ .ref a :: rest) (hW : (rest.map fun v => v.category).sum ≤ 8) (hdg : decode cc pc = .ok (.invokespecial idx, 3)) (hf : cells + rm.cells ≤ R.cells ∧ slots + rm.slots ≤ R.slots)
    (kk : ∀ (v : Option Value) (u : S) (H1 : Heap) (locs1 : List Loc), post v u → va_K D vwCl (T u) s → va_P D vwCl (B u ++ wr) H1 → va_D A0 (B u ++ wr) → va_S A0 H0 H1 locs1 → W p l e R s m args below meth c H1 locs1 (cells + rm.cells) (slots + rm.slots) Q (F0 m (pc + 3) ls (v.toList ++ rest))) : W p l e R s m args below meth c H locs cells slots Q (F0 m pc ls st0) :=
  call_run (va_runI (As := As) (rest := rest) S0 (hM H.size) (cwI nA S0.2.2.2.2 (lw_meth q1) rfl rfl rfl (S0.2.2.2.2 _ q2) (S0.2.2.2.2 _ q3) (S0.2.2.2.2 _ q4) hy1 hd hR) ⟨pm_blind, fun U hU hW => ⟨rfl, by rw [hU], by rw [hU]; exact wP_left hP, va_K.moved hW.alike hKc, (wD_left hD).weaken (fun _ _ _ _ => trivial), hE.warm hW⟩⟩ rfl hnA hsz hst (lv_room hW) hdg hf) hP hD hS hA kk
/-- a nest mate's private constructor -/
theorem call_IN {S : Type} {post : Option Value → S → Prop} {D : va_G} {T : S → tyL} {B : S → va_W} {A0 : Nat → Prop} {H0 : Heap} {wc : va_W} {nA : Nat} (wr : va_W) {y : MethodName} {cd : ByteArray} {L nL idx a : Nat} {rm : Room} {tys' : tyL} (As : List Value) {own host : String} {st0 : List Value} (S0 : CallFix p m c cc nL s args lw_all own) (hM : MM l y cd L none rm D tys' (.ref a :: As) wc post T B)
    (q1 : Cond.code y cd L none ∈ lw_all) (q2 : Cond.initialized y.cls ∈ lw_all) (q3 : va_Nw (.methodLinkNest own idx y host) s) (q4 : Cond.instanceMethod y ∈ lw_all) (hy1 : y.name = "<init>") (hd : y.cls ≠ "java/lang/invoke/MethodHandle" ∧ y.cls ≠ "java/lang/invoke/VarHandle" ∧ (parseMethodDescriptor y.desc).map (fun d => d.parameters.length) = some nA) (hnA : As.length = nA) (hR : rm.frames + 1 ≤ R.frames ∧ 8 + (L + 11) + rm.locals ≤ R.locals)
    (hKc : va_K D vwCl tys' s) (hE : EX s) (hP : va_P D vwCl (wc ++ wr) H) (hD : va_D A0 (wc ++ wr)) (hS : va_S A0 H0 H locs) (hA : ∀ q, H0.size ≤ q → A0 q) (hsz : ls.size = nL) (hst : st0 = As.reverse ++ .ref a :: rest) (hW : (rest.map fun v => v.category).sum ≤ 8) (hdg : decode cc pc = .ok (.invokespecial idx, 3)) (hf : cells + rm.cells ≤ R.cells ∧ slots + rm.slots ≤ R.slots)
    (kk : ∀ (v : Option Value) (u : S) (H1 : Heap) (locs1 : List Loc), post v u → va_K D vwCl (T u) s → va_P D vwCl (B u ++ wr) H1 → va_D A0 (B u ++ wr) → va_S A0 H0 H1 locs1 → W p l e R s m args below meth c H1 locs1 (cells + rm.cells) (slots + rm.slots) Q (F0 m (pc + 3) ls (v.toList ++ rest))) : W p l e R s m args below meth c H locs cells slots Q (F0 m pc ls st0) :=
  call_run (va_runIN (As := As) (rest := rest) S0 (hM H.size) ⟨va_cnB nA S0.2.2.2.2 (lw_meth q1) rfl rfl rfl q3 (S0.2.2.2.2 _ q2) hd hR, hy1, S0.2.2.2.2 _ q4⟩ ⟨pm_blind, fun U hU hW => ⟨rfl, by rw [hU], by rw [hU]; exact wP_left hP, va_K.moved hW.alike hKc, (wD_left hD).weaken (fun _ _ _ _ => trivial), hE.warm hW⟩⟩ rfl hnA hsz hst (lv_room hW) hdg hf) hP hD hS hA kk
end RET
/-- a byte, as an int -/
def nb (x : Int32) : Int32 := x.toInt8.toInt32
theorem nb_nb (x : Int32) : nb (nb x) = nb x := by
  have h := pk_vb x
  rw [vp_nar_byte] at h
  exact h
theorem nI_inc1 (e : Nat) : nI e + Int32.ofInt 1 = nI (e + 1) := nI_1 e
theorem nI_m1 {e : Nat} (h : e ≤ 4096) (h2 : nI e = -1) : False := by
  have h3 := nI_toInt (n := e) (by omega)
  rw [h2] at h3
  have h4 : ((-1 : Int32)).toInt = -1 := by decide +kernel
  omega
/-- an array class is one -/
theorem K_u {D : va_G} {cl : List vw_C} {t1 t2 : tyL} {s : State} {c1 c2 : ClassId} {ty : FieldType} (h1 : va_K D cl t1 s) (h2 : va_K D cl t2 s) (i j : Nat) (e1 : t1[i]? = some (c1, ty)) (e2 : t2[j]? = some (c2, ty)) : c2 = c1 := by
  have a := (h1.2 i _ e1).2
  have b := (h2.2 j _ e2).2
  cases ty <;> first | (obtain ⟨_, _, _, _, _, a4⟩ := a; obtain ⟨_, _, _, _, _, b4⟩ := b; exact Option.some.inj (b4.symm.trans a4)) | exact Option.some.inj (Eq.trans (Eq.symm b) a)
abbrev tyS (cB cZ cR cI : ClassId) : tyL := [(cB, .byte), (cZ, .boolean), (cR, .object "FragmentHouse$Making"), (cI, .int)]
/-- h below i, else g -/
def lo (i : Nat) (h g : Nat → Int32) : Nat → Int32 := fun j => if j < i then h j else g j
theorem lo_0 (h g : Nat → Int32) : lo 0 h g = g := by
  funext j
  simp [lo]
theorem lo_s (i : Nat) (h g : Nat → Int32) : upd (lo i h g) i (h i) = lo (i + 1) h g := by
  funext j
  unfold upd lo
  by_cases h1 : j = i
  · subst h1
    simp
  · by_cases h2 : j < i
    · rw [if_neg h1, if_pos h2, if_pos (by omega)]
    · rw [if_neg h1, if_neg h2, if_neg (by omega)]
section ARR
variable {p : Program} {l : Launch} {e : Env} {R : Room} {s : State} {m : MethodId} {args : Array Value} {below : List Frame} {meth : Method} {c : Code} {H H0 : Heap} {locs : List Loc} {cells slots : Nat} {Q : State → Prop} {cc : ByteArray} {pc : Nat} {ls : Array Slot} {rest : List Value} {D : va_G} {cl : List vw_C} {tys : tyL} {ws : va_W} {A : Nat → Prop} {a : Nat}
theorem ab_iald (hx : p.tables.exec = Jvm.exec) (hb : c.code = cc) (hK : va_K D cl tys s) (hP : va_P D cl ws H) (q0 t0 : Nat) {cA : ClassId} {n : Nat} {f : Nat → Int32} (ha : ws[q0]? = some (a, .inl (cA, n, .inl f))) (ht : tys[t0]? = some (cA, .int)) {i : Int32} (j : Nat) (hi : i = nI j) (hj : j < n) (hn : n < 2 ^ 31) (hdg : decode cc pc = .ok (.iaload, 1))
    (kk : W p l e R s m args below meth c H locs cells slots Q (F0 m (pc + 1) ls (.int (f j) :: rest))) : W p l e R s m args below meth c H locs cells slots Q (F0 m pc ls (.int i :: .ref a :: rest)) := by
  subst hi
  refine va_iald hx hb hK hP q0 t0 ha ht (vp_in_nI hj hn) hdg ?_
  rw [nI_clamp (Nat.lt_trans hj hn)]
  exact kk
theorem ab_bald (hx : p.tables.exec = Jvm.exec) (hb : c.code = cc) (hK : va_K D cl tys s) (hP : va_P D cl ws H) (q0 t0 : Nat) {cA : ClassId} {n : Nat} {f : Nat → Int32} (ha : ws[q0]? = some (a, .inl (cA, n, .inl f))) (ht : tys[t0]? = some (cA, .byte)) {i : Int32} (j : Nat) (hi : i = nI j) (hj : j < n) (hn : n < 2 ^ 31) (hdg : decode cc pc = .ok (.baload, 1))
    (kk : W p l e R s m args below meth c H locs cells slots Q (F0 m (pc + 1) ls (.int (f j) :: rest))) : W p l e R s m args below meth c H locs cells slots Q (F0 m pc ls (.int i :: .ref a :: rest)) := by
  subst hi
  refine va_bald hx hb hK hP q0 t0 ha ht (vp_in_nI hj hn) hdg ?_
  rw [nI_clamp (Nat.lt_trans hj hn)]
  exact kk
theorem ab_zald (hx : p.tables.exec = Jvm.exec) (hb : c.code = cc) (hK : va_K D cl tys s) (hP : va_P D cl ws H) (q0 t0 : Nat) {cA : ClassId} {n : Nat} {f : Nat → Int32} (ha : ws[q0]? = some (a, .inl (cA, n, .inl f))) (ht : tys[t0]? = some (cA, .boolean)) {i : Int32} (j : Nat) (hi : i = nI j) (hj : j < n) (hn : n < 2 ^ 31) (hdg : decode cc pc = .ok (.baload, 1))
    (kk : W p l e R s m args below meth c H locs cells slots Q (F0 m (pc + 1) ls (.int (f j) :: rest))) : W p l e R s m args below meth c H locs cells slots Q (F0 m pc ls (.int i :: .ref a :: rest)) := by
  subst hi
  refine va_zald hx hb hK hP q0 t0 ha ht (vp_in_nI hj hn) hdg ?_
  rw [nI_clamp (Nat.lt_trans hj hn)]
  exact kk
theorem ab_aald (hx : p.tables.exec = Jvm.exec) (hb : c.code = cc) (hK : va_K D cl tys s) (hP : va_P D cl ws H) (q0 t0 : Nat) {cA : ClassId} {C : String} {n v : Nat} {f : Nat → Option Nat} (ha : ws[q0]? = some (a, .inl (cA, n, .inr (.inr (.inr (.inr f)))))) (ht : tys[t0]? = some (cA, .object C)) {i : Int32} (j : Nat) (hi : i = nI j) (hj : j < n) (hn : n < 2 ^ 31) (hv : f j = some v) (hdg : decode cc pc = .ok (.aaload, 1))
    (kk : W p l e R s m args below meth c H locs cells slots Q (F0 m (pc + 1) ls (.ref v :: rest))) : W p l e R s m args below meth c H locs cells slots Q (F0 m pc ls (.int i :: .ref a :: rest)) := by
  subst hi
  refine va_aldq hx hb hK hP q0 t0 ha ht (vp_in_nI hj hn) hdg ?_
  rw [nI_clamp (Nat.lt_trans hj hn), hv]
  exact kk
theorem ab_iast (hx : p.tables.exec = Jvm.exec) (hb : c.code = cc) (hK : va_K D cl tys s) (hP : va_P D cl ws H) (hD : va_D A ws) (hS : va_S A H0 H locs) (q0 t0 : Nat) {cA : ClassId} {n : Nat} {f : Nat → Int32} (ha : ws[q0]? = some (a, .inl (cA, n, .inl f))) (ht : tys[t0]? = some (cA, .int)) {i x : Int32} (j : Nat) (hi : i = nI j) (hj : j < n) (hn : n < 2 ^ 31) (hdg : decode cc pc = .ok (.iastore, 1))
    (kk : ∀ (H1 : Heap) (locs1 : List Loc), va_P D cl (ws.set q0 (a, .inl (cA, n, .inl (upd f j x)))) H1 → va_D A (ws.set q0 (a, .inl (cA, n, .inl (upd f j x)))) → va_S A H0 H1 locs1 → W p l e R s m args below meth c H1 locs1 cells slots Q (F0 m (pc + 1) ls rest)) : W p l e R s m args below meth c H locs cells slots Q (F0 m pc ls (.int x :: .int i :: .ref a :: rest)) := by
  subst hi
  refine va_iast hx hb hK hP hD hS q0 t0 ha ht (vp_in_nI hj hn) hdg ?_
  rw [nI_clamp (Nat.lt_trans hj hn)]
  exact kk
theorem ab_bast (hx : p.tables.exec = Jvm.exec) (hb : c.code = cc) (hK : va_K D cl tys s) (hP : va_P D cl ws H) (hD : va_D A ws) (hS : va_S A H0 H locs) (q0 t0 : Nat) {cA : ClassId} {n : Nat} {f : Nat → Int32} (ha : ws[q0]? = some (a, .inl (cA, n, .inl f))) (ht : tys[t0]? = some (cA, .byte)) {i x y : Int32} (j : Nat) (hi : i = nI j) (hj : j < n) (hn : n < 2 ^ 31) (hy : nb x = y) (hdg : decode cc pc = .ok (.bastore, 1))
    (kk : ∀ (H1 : Heap) (locs1 : List Loc), va_P D cl (ws.set q0 (a, .inl (cA, n, .inl (upd f j y)))) H1 → va_D A (ws.set q0 (a, .inl (cA, n, .inl (upd f j y)))) → va_S A H0 H1 locs1 → W p l e R s m args below meth c H1 locs1 cells slots Q (F0 m (pc + 1) ls rest)) : W p l e R s m args below meth c H locs cells slots Q (F0 m pc ls (.int x :: .int i :: .ref a :: rest)) := by
  subst hi
  refine va_bast hx hb hK hP hD hS q0 t0 ha ht (vp_in_nI hj hn) hdg ?_
  rw [nI_clamp (Nat.lt_trans hj hn), vp_nar_byte]
  rw [← hy] at kk
  exact kk
theorem ab_zast (hx : p.tables.exec = Jvm.exec) (hb : c.code = cc) (hK : va_K D cl tys s) (hP : va_P D cl ws H) (hD : va_D A ws) (hS : va_S A H0 H locs) (q0 t0 : Nat) {cA : ClassId} {n : Nat} {f : Nat → Int32} (ha : ws[q0]? = some (a, .inl (cA, n, .inl f))) (ht : tys[t0]? = some (cA, .boolean)) {i x y : Int32} (j : Nat) (hi : i = nI j) (hj : j < n) (hn : n < 2 ^ 31) (hy : vp_nar .boolean x = y) (hdg : decode cc pc = .ok (.bastore, 1))
    (kk : ∀ (H1 : Heap) (locs1 : List Loc), va_P D cl (ws.set q0 (a, .inl (cA, n, .inl (upd f j y)))) H1 → va_D A (ws.set q0 (a, .inl (cA, n, .inl (upd f j y)))) → va_S A H0 H1 locs1 → W p l e R s m args below meth c H1 locs1 cells slots Q (F0 m (pc + 1) ls rest)) : W p l e R s m args below meth c H locs cells slots Q (F0 m pc ls (.int x :: .int i :: .ref a :: rest)) := by
  subst hi
  refine va_zast hx hb hK hP hD hS q0 t0 ha ht (vp_in_nI hj hn) hdg ?_
  rw [nI_clamp (Nat.lt_trans hj hn), hy]
  exact kk
theorem ab_aast (hx : p.tables.exec = Jvm.exec) (hb : c.code = cc) (hK : va_K D cl tys s) (hP : va_P D cl ws H) (hD : va_D A ws) (hS : va_S A H0 H locs) (q0 t0 qk ci : Nat) {cA : ClassId} {r : vw_C} {n v : Nat} {vs : List Value} {f : Nat → Option Nat} (ha : ws[q0]? = some (a, .inl (cA, n, .inr (.inr (.inr (.inr f)))))) (ht : tys[t0]? = some (cA, .object r.1)) (hv : ws[qk]? = some (v, .inr (ci, vs))) (hc : cl[ci]? = some r) {i : Int32} (j : Nat) (hi : i = nI j) (hj : j < n) (hn : n < 2 ^ 31) (hdg : decode cc pc = .ok (.aastore, 1))
    (kk : ∀ (H1 : Heap) (locs1 : List Loc), va_P D cl (ws.set q0 (a, .inl (cA, n, .inr (.inr (.inr (.inr (va_up f j (some v)))))))) H1 → va_D A (ws.set q0 (a, .inl (cA, n, .inr (.inr (.inr (.inr (va_up f j (some v)))))))) → va_S A H0 H1 locs1 → W p l e R s m args below meth c H1 locs1 cells slots Q (F0 m (pc + 1) ls rest)) : W p l e R s m args below meth c H locs cells slots Q (F0 m pc ls (.ref v :: .int i :: .ref a :: rest)) := by
  subst hi
  refine va_astq hx hb hK hP hD hS q0 t0 qk ci ha ht hv hc (vp_in_nI hj hn) hdg ?_
  rw [nI_clamp (Nat.lt_trans hj hn)]
  exact kk
end ARR
end
section
/-! what the cells hold: bytes put into the tray; a Making; the row of four -/
/-- Net.putTwo, Net.putFour -/
def two (f : Nat → Int32) (a : Nat) (v : Int32) : Nat → Int32 := upd (upd f a (nb (v >>> (nI 8 &&& 31)))) (a + 1) (nb v)
def four (f : Nat → Int32) (a : Nat) (v : Int32) : Nat → Int32 := two (two f a (v.toUInt32 >>> ((nI 16 : Int32).toUInt32 &&& Int32.toUInt32 31)).toInt32) (a + 2) v
/-- a Making: its three addresses (itself, bytes, there); from, identification, protocol, since, reach, end, bytes, there -/
abbrev MkV : Type := Int32 × Int32 × Int32 × Int32 × Int32 × Int32 × (Nat → Int32) × (Nat → Int32)
abbrev Mk : Type := (Nat × Nat × Nat) × MkV
abbrev kFr (x : Mk) : Int32 := x.2.1
abbrev kId (x : Mk) : Int32 := x.2.2.1
abbrev kPr (x : Mk) : Int32 := x.2.2.2.1
abbrev kSi (x : Mk) : Int32 := x.2.2.2.2.1
abbrev kRe (x : Mk) : Int32 := x.2.2.2.2.2.1
abbrev kEn (x : Mk) : Int32 := x.2.2.2.2.2.2.1
abbrev kBy (x : Mk) : Nat → Int32 := x.2.2.2.2.2.2.2.1
abbrev kTh (x : Mk) : Nat → Int32 := x.2.2.2.2.2.2.2.2
abbrev kA (x : Mk) : Nat := x.1.1
def mkw (cB cZ : ClassId) (x : Mk) : va_W := [(kA x, .inr (2, [.int (kFr x), .int (kId x), .int (kPr x), .int (kSi x), .ref x.1.2.1, .ref x.1.2.2, .int (kRe x), .int (kEn x)])), (x.1.2.1, .inl (cB, 4096, .inl (kBy x))), (x.1.2.2, .inl (cZ, 4096, .inl (kTh x)))]
def mkBegin (x : Mk) (fr id pr nw : Int32) : Mk := (x.1, fr, id, pr, nw, nI 0, (-1), kBy x, lo 4096 (fun _ => 0) (kTh x))
def addBad (x : Mk) (t last : Int32) : Prop := (¬ last = 0 ∧ ¬ kEn x < 0 ∧ ¬ kEn x = t) ∨ (¬ kEn x < 0 ∧ kEn x < t) ∨ (¬ last = 0 ∧ t < kRe x)
def thS (off i : Nat) (th : Nat → Int32) : Nat → Int32 := fun j => if off ≤ j ∧ j < off + i then 1 else th j
def byS (off i : Nat) (th tr by_ : Nat → Int32) : Nat → Int32 := fun j => if (off ≤ j ∧ j < off + i) ∧ th j = 0 then nb (tr (j - off)) else by_ j
def mkAdd (x : Mk) (off n : Nat) (last : Int32) (tr : Nat → Int32) : Mk := (x.1, kFr x, kId x, kPr x, kSi x, (if kRe x < nI (off + n) then nI (off + n) else kRe x), (if last = 0 then kEn x else nI (off + n)), byS off n (kTh x) tr (kBy x), thS off n (kTh x))
/-- what is known of an end: none, or a number up to 4096 -/
def okEn (en : Int32) : Prop := en = -1 ∨ ∃ e : Nat, e ≤ 4096 ∧ en = nI e
def isWh (x : Mk) : Prop := ∃ e : Nat, e ≤ 4096 ∧ kEn x = nI e ∧ ∀ k, k < e → ¬ kTh x k = 0
theorem thS_0 (off : Nat) (th : Nat → Int32) : thS off 0 th = th := by
  funext j
  unfold thS
  rw [if_neg (by omega)]
theorem byS_0 (off : Nat) (th tr by_ : Nat → Int32) : byS off 0 th tr by_ = by_ := by
  funext j
  unfold byS
  rw [if_neg (by omega)]
theorem thS_at (off i : Nat) (th : Nat → Int32) : thS off i th (off + i) = th (off + i) := by
  unfold thS
  rw [if_neg (by omega)]
theorem thS_s (off i : Nat) (th : Nat → Int32) : upd (thS off i th) (off + i) 1 = thS off (i + 1) th := by
  funext j
  unfold upd thS
  by_cases h : j = off + i
  · rw [if_pos h, if_pos (by omega)]
  · by_cases h2 : off ≤ j ∧ j < off + i
    · rw [if_neg h, if_pos h2, if_pos (by omega)]
    · rw [if_neg h, if_neg h2, if_neg (by omega)]
theorem byS_s (off i : Nat) (th tr by_ : Nat → Int32) (h0 : th (off + i) = 0) : upd (byS off i th tr by_) (off + i) (nb (tr i)) = byS off (i + 1) th tr by_ := by
  funext j
  unfold upd byS
  by_cases h : j = off + i
  · subst h
    rw [if_pos rfl, if_pos ⟨by omega, h0⟩, Nat.add_sub_cancel_left]
  · by_cases h2 : (off ≤ j ∧ j < off + i) ∧ th j = 0
    · rw [if_neg h, if_pos h2, if_pos ⟨by omega, h2.2⟩]
    · rw [if_neg h, if_neg h2, if_neg]
      rintro ⟨h3, h4⟩
      exact h2 ⟨by omega, h4⟩
theorem byS_k (off i : Nat) (th tr by_ : Nat → Int32) (h0 : ¬ th (off + i) = 0) : byS off i th tr by_ = byS off (i + 1) th tr by_ := by
  funext j
  unfold byS
  by_cases h2 : (off ≤ j ∧ j < off + i) ∧ th j = 0
  · rw [if_pos h2, if_pos ⟨by omega, h2.2⟩]
  · rw [if_neg h2, if_neg]
    rintro ⟨h3, h4⟩
    by_cases h : j = off + i
    · subst h
      exact h0 h4
    · exact h2 ⟨by omega, h4⟩
/-- the row's Makings, by their places -/
def mks (cB cZ : ClassId) (M : Nat → Mk) : va_W := [0, 1, 2, 3].flatMap (fun i => mkw cB cZ (M i))
def mksX (cB cZ : ClassId) (k : Nat) (M : Nat → Mk) : va_W := ([0, 1, 2, 3].erase k).flatMap (fun i => mkw cB cZ (M i))
def rowOf (M : Nat → Mk) : Nat → Option Nat := fun k => some (kA (M k))
def frw (cB cZ cR : ClassId) (hf hr sz : Nat) (md : Int32) (M : Nat → Mk) : va_W := [(hf, .inr (1, [.ref hr, .int (nI sz), .int md])), (hr, .inl (cR, 4, .inr (.inr (.inr (.inr (rowOf M))))))] ++ mks cB cZ M
def rotI (k sz j : Nat) : Nat := if k ≤ j ∧ j + 1 < sz then j + 1 else if j + 1 = sz then k else j
def rotM (k sz : Nat) (M : Nat → Mk) : Nat → Mk := fun j => M (rotI k sz j)
theorem mks_perm (cB cZ : ClassId) {k sz : Nat} (hk : k < sz) (hs : sz ≤ 4) (M : Nat → Mk) : (mks cB cZ M).Perm (mks cB cZ (rotM k sz M)) := by
  have e : mks cB cZ (rotM k sz M) = [rotI k sz 0, rotI k sz 1, rotI k sz 2, rotI k sz 3].flatMap (fun i => mkw cB cZ (M i)) := rfl
  rw [e]
  unfold mks
  refine List.Perm.flatMap_right _ ?_
  have h : ∀ sz, sz < 5 → ∀ k, k < sz → List.Perm [0, 1, 2, 3] [rotI k sz 0, rotI k sz 1, rotI k sz 2, rotI k sz 3] := by decide
  exact h sz (by omega) k hk
theorem mks_split (cB cZ : ClassId) {k : Nat} (hk : k < 4) (M : Nat → Mk) : (mks cB cZ M).Perm (mkw cB cZ (M k) ++ mksX cB cZ k M) := by
  have h : ∀ k, k < 4 → List.Perm [0, 1, 2, 3] (k :: ([0, 1, 2, 3].erase k)) := by decide
  exact List.Perm.flatMap_right _ (h k hk)
theorem mksX_up (cB cZ : ClassId) {k : Nat} (hk : k < 4) (M : Nat → Mk) (x : Mk) : mksX cB cZ k (va_up M k x) = mksX cB cZ k M := by
  have h : k = 0 ∨ k = 1 ∨ k = 2 ∨ k = 3 := by omega
  rcases h with rfl | rfl | rfl | rfl <;> rfl
/-- a Making's own cell, by its place -/
theorem mks_get (cB cZ : ClassId) {k : Nat} (hk : k < 4) (M : Nat → Mk) (X : va_W) : (X ++ mks cB cZ M)[X.length + 3 * k]? = some (kA (M k), .inr (2, [.int (kFr (M k)), .int (kId (M k)), .int (kPr (M k)), .int (kSi (M k)), .ref (M k).1.2.1, .ref (M k).1.2.2, .int (kRe (M k)), .int (kEn (M k))])) := by
  rw [List.getElem?_append_right (by omega), Nat.add_sub_cancel_left]
  have h : k = 0 ∨ k = 1 ∨ k = 2 ∨ k = 3 := by omega
  rcases h with rfl | rfl | rfl | rfl <;> rfl
theorem mks_getY (cB cZ : ClassId) {k : Nat} (hk : k < 4) (M : Nat → Mk) (X Y : va_W) : (X ++ (mks cB cZ M ++ Y))[X.length + 3 * k]? = some (kA (M k), .inr (2, [.int (kFr (M k)), .int (kId (M k)), .int (kPr (M k)), .int (kSi (M k)), .ref (M k).1.2.1, .ref (M k).1.2.2, .int (kRe (M k)), .int (kEn (M k))])) := by
  have h := mks_get cB cZ hk M X
  have hl := (List.getElem?_eq_some_iff.mp h).1
  rw [← List.append_assoc, List.getElem?_append_left hl]
  exact h
/-- the row while a Making is taken out -/
def shR (k j : Nat) (M : Nat → Mk) : Nat → Option Nat := fun i => if k ≤ i ∧ i < j then rowOf M (i + 1) else rowOf M i
theorem shR_0 (k : Nat) (M : Nat → Mk) : shR k k M = rowOf M := by
  funext i
  unfold shR
  rw [if_neg (by omega)]
theorem shR_at (k j : Nat) (M : Nat → Mk) : shR k j M (j + 1) = some (kA (M (j + 1))) := by
  unfold shR
  rw [if_neg (by omega)]
  rfl
theorem shR_s {k j : Nat} (h : k ≤ j) (M : Nat → Mk) : va_up (shR k j M) j (some (kA (M (j + 1)))) = shR k (j + 1) M := by
  funext i
  unfold va_up shR
  by_cases h1 : i = j
  · subst h1
    rw [if_pos rfl, if_pos (by omega)]
    rfl
  · by_cases h2 : k ≤ i ∧ i < j
    · rw [if_neg h1, if_pos h2, if_pos (by omega)]
    · rw [if_neg h1, if_neg h2, if_neg (by omega)]
theorem shR_end {k sz : Nat} (h : k < sz) (M : Nat → Mk) : va_up (shR k (sz - 1) M) (sz - 1) (some (kA (M k))) = rowOf (rotM k sz M) := by
  funext i
  unfold va_up shR rowOf rotM rotI
  by_cases h1 : i = sz - 1
  · rw [if_pos h1, if_neg (by omega), if_pos (by omega)]
  · by_cases h2 : k ≤ i ∧ i < sz - 1
    · rw [if_neg h1, if_pos h2, if_pos (by omega)]
    · rw [if_neg h1, if_neg h2, if_neg (by omega), if_neg (by omega)]
def keyOf (x : Mk) (fr id pr : Int32) : Prop := kFr x = fr ∧ kId x = id ∧ kPr x = pr
def takeTail (k sz : Nat) (md : Int32) (M : Nat → Mk) (off n : Nat) (last : Int32) (tr : Nat → Int32) (v : Option Value) (u : Nat × Int32 × (Nat → Mk)) : Prop :=
  (addBad (M k) (nI (off + n)) last ∧ v = some .null ∧ u = (sz - 1, md, rotM k sz M)) ∨
  (¬ addBad (M k) (nI (off + n)) last ∧ ¬ isWh (mkAdd (M k) off n last tr) ∧ v = some .null ∧ u = (sz, md, va_up M k (mkAdd (M k) off n last tr))) ∨
  (¬ addBad (M k) (nI (off + n)) last ∧ isWh (mkAdd (M k) off n last tr) ∧ v = some (.ref (kA (M k))) ∧ u = (sz - 1, md + nI 1, rotM k sz (va_up M k (mkAdd (M k) off n last tr))))
def takeRel (sz : Nat) (md : Int32) (M : Nat → Mk) (fr id pr : Int32) (off n : Nat) (last now : Int32) (tr : Nat → Int32) (v : Option Value) (u : Nat × Int32 × (Nat → Mk)) : Prop :=
  ∃ k, k < 4 ∧ (∀ j, j < k → ¬ keyOf (M j) fr id pr) ∧ ((k < sz ∧ keyOf (M k) fr id pr ∧ takeTail k sz md M off n last tr v u) ∨ (k = sz ∧ takeTail k (sz + 1) md (va_up M k (mkBegin (M k) fr id pr now)) off n last tr v u))
theorem okEn_add (x : Mk) {off n : Nat} (last : Int32) (tr : Nat → Int32) (h : okEn (kEn x)) (ho : off + n ≤ 4096) : okEn (kEn (mkAdd x off n last tr)) := by
  show okEn (if last = 0 then kEn x else nI (off + n))
  by_cases h1 : last = 0
  · rw [if_pos h1]; exact h
  · rw [if_neg h1]; exact Or.inr ⟨off + n, ho, rfl⟩
/-- a Making brought to the front, with the tray or without -/
theorem fr_split (cB cZ : ClassId) {k : Nat} (hk : k < 4) (M : Nat → Mk) (X T : va_W) : (X ++ (mks cB cZ M ++ T)).Perm ((mkw cB cZ (M k) ++ T) ++ (X ++ mksX cB cZ k M)) := by
  have h1 : (X ++ (mks cB cZ M ++ T)).Perm (X ++ ((mkw cB cZ (M k) ++ mksX cB cZ k M) ++ T)) := ((mks_split cB cZ hk M).append_right T).append_left X
  refine h1.trans ?_
  generalize mkw cB cZ (M k) = a
  generalize mksX cB cZ k M = b
  have h2 : (X ++ (a ++ b ++ T)).Perm ((a ++ X) ++ (b ++ T)) := by
    rw [List.append_assoc a b T, ← List.append_assoc X a]
    exact List.perm_append_comm.append_right _
  refine h2.trans ?_
  rw [List.append_assoc, List.append_assoc]
  refine List.Perm.append_left a ?_
  rw [← List.append_assoc]
  exact List.perm_append_comm
theorem fr_back (cB cZ : ClassId) {k : Nat} (hk : k < 4) (M : Nat → Mk) (x : Mk) (X T : va_W) : ((mkw cB cZ x ++ T) ++ (X ++ mksX cB cZ k M)).Perm (X ++ (mks cB cZ (va_up M k x) ++ T)) := by
  have h := (fr_split cB cZ hk (va_up M k x) X T).symm
  rw [mksX_up cB cZ hk, va_up_self] at h
  exact h
theorem va_up_id {α : Type} (M : Nat → α) (k : Nat) : va_up M k (M k) = M := by
  funext j
  by_cases h : j = k
  · subst h; rw [va_up_self]
  · rw [va_up_ne _ _ h]
theorem va_up_up {α : Type} (M : Nat → α) (k : Nat) (x y : α) : va_up (va_up M k x) k y = va_up M k y := bx_uu M k x y
/-- the whole house -/
def hsw (cB cZ cR : ClassId) (h0 tr wh hf hr n : Nat) (tray : Nat → Int32) (now : Int32) (whole : Nat → Int32) (wl : Int32) (sz : Nat) (md : Int32) (M : Nat → Mk) : va_W := [(h0, .inr (0, [.ref tr, .int (nI n), .ref hf, .int now, .ref wh, .int wl])), (tr, .inl (cB, 1480, .inl tray)), (wh, .inl (cB, 4096, .inl whole))] ++ frw cB cZ cR hf hr sz md M
def feedT (t : Nat → Int32) (n : Nat) (a b c d e : Int32) : Nat → Int32 := four (four (four (four (four t n a) (n + 4) b) (n + 8) c) (n + 12) d) (n + 16) e
theorem hs_perm (a b c : Nat × va_E) (F : va_W) : ([a, b, c] ++ F).Perm ((F ++ [b]) ++ [a, c]) := by
  have h1 : ([a, b, c] ++ F).Perm (F ++ [a, b, c]) := List.perm_append_comm
  refine h1.trans ?_
  rw [List.append_assoc]
  exact (List.Perm.swap b a [c]).append_left F
theorem copy_perm (cB cZ : ClassId) (a b c d e : Nat × va_E) (M : Nat → Mk) {j : Nat} (hj : j < 4) : ([a, b, c, d, e] ++ mks cB cZ M).Perm ([((M j).1.2.1, .inl (cB, 4096, .inl (kBy (M j)))), c] ++ ([(kA (M j), .inr (2, [.int (kFr (M j)), .int (kId (M j)), .int (kPr (M j)), .int (kSi (M j)), .ref (M j).1.2.1, .ref (M j).1.2.2, .int (kRe (M j)), .int (kEn (M j))])), ((M j).1.2.2, .inl (cZ, 4096, .inl (kTh (M j)))), a, b, d, e] ++ mksX cB cZ j M)) := by
  refine ((mks_split cB cZ hj M).append_left [a, b, c, d, e]).trans ?_
  rw [← List.append_assoc, ← List.append_assoc]
  refine List.Perm.append_right _ ?_
  exact perm_idx 8 rfl [6, 2, 5, 7, 0, 1, 3, 4] (by decide) rfl
theorem rotM_end {k sz : Nat} (h : k < sz) (M : Nat → Mk) : rotM k sz M (sz - 1) = M k := by
  unfold rotM rotI
  rw [if_neg (by omega), if_pos (by omega)]
theorem takeRel_ref {sz : Nat} {md : Int32} {M : Nat → Mk} {fr id pr : Int32} {off n : Nat} {last now : Int32} {tr : Nat → Int32} {v : Option Value} {u : Nat × Int32 × (Nat → Mk)} (hs : sz ≤ 4) (h : takeRel sz md M fr id pr off n last now tr v u) : v = some .null ∨ (u.1 < 4 ∧ v = some (.ref (kA (u.2.2 u.1))) ∧ isWh (u.2.2 u.1)) := by
  obtain ⟨k, hk, -, h | h⟩ := h
  · obtain ⟨h1, -, h2⟩ := h
    rcases h2 with ⟨-, h3, -⟩ | ⟨-, -, h3, -⟩ | ⟨-, h3, h4, rfl⟩
    · exact Or.inl h3
    · exact Or.inl h3
    · refine Or.inr ⟨by show sz - 1 < 4; omega, ?_, ?_⟩
      · show v = some (.ref (kA (rotM k sz _ (sz - 1))))
        rw [rotM_end h1, va_up_self]
        exact h4
      · show isWh (rotM k sz _ (sz - 1))
        rw [rotM_end h1, va_up_self]
        exact h3
  · obtain ⟨rfl, h2⟩ := h
    rcases h2 with ⟨-, h3, -⟩ | ⟨-, -, h3, -⟩ | ⟨-, h3, h4, rfl⟩
    · exact Or.inl h3
    · exact Or.inl h3
    · have h1 : k < k + 1 := by omega
      refine Or.inr ⟨by show k + 1 - 1 < 4; omega, ?_, ?_⟩
      · show v = some (.ref (kA (rotM k (k + 1) _ (k + 1 - 1))))
        rw [rotM_end h1, va_up_self]
        exact h4
      · show isWh (rotM k (k + 1) _ (k + 1 - 1))
        rw [rotM_end h1, va_up_self]
        exact h3
def kBad (n o : Nat) (last : Int32) : Prop := (last = 0 ∧ ¬ (8 ≤ n ∧ n % 8 = 0)) ∨ 4096 < 8 * o + n
def hTake (n : Nat) (tray : Nat → Int32) (now : Int32) (whole : Nat → Int32) (wl : Int32) (sz : Nat) (md : Int32) (M : Nat → Mk) (fr id pr ofs last : Int32) (r : Option Value) (u : Nat × (Nat → Int32) × Int32 × Nat × Int32 × (Nat → Mk)) : Prop :=
  ((ofs < 0 ∨ nI 8191 < ofs) ∧ r = some (.int (-4)) ∧ u = (n, whole, wl, sz, md, M)) ∨
  ∃ o, o ≤ 8191 ∧ ofs = nI o ∧ (
    (kBad n o last ∧ r = some (.int (-2)) ∧ u = (0, whole, wl, sz, md, M)) ∨
    (¬ kBad n o last ∧ (
      (sz = 4 ∧ (∀ j, j < sz → ¬ keyOf (M j) fr id pr) ∧ r = some (.int (-2)) ∧ u = (0, whole, wl, sz, md, M)) ∨
      (∃ v w, ((∃ j, j < sz ∧ keyOf (M j) fr id pr) ∨ sz < 4) ∧ takeRel sz md M fr id pr (8 * o) n last now tray v w ∧ (
        (v = some .null ∧ (∃ j, j < sz ∧ keyOf (M j) fr id pr) ∧ w.1 < sz ∧ r = some (.int (-3)) ∧ u = (0, whole, wl, w.1, w.2.1, w.2.2)) ∨
        (v = some .null ∧ ((∀ j, j < sz → ¬ keyOf (M j) fr id pr) ∨ sz ≤ w.1) ∧ r = some (.int (-1)) ∧ u = (0, whole, wl, w.1, w.2.1, w.2.2)) ∨
        (∃ e, e ≤ 4096 ∧ kEn (w.2.2 w.1) = nI e ∧ v = some (.ref (kA (w.2.2 w.1))) ∧ r = some (.int (nI e)) ∧ u = (0, lo e (fun j => nb (kBy (w.2.2 w.1) j)) whole, nI e, w.1, w.2.1, w.2.2)))))))
theorem ins_perm (a b c d e : Nat × va_E) (Z : va_W) : (([a, b, c, d] ++ Z) ++ [e]).Perm ([a, b, e, c, d] ++ Z) := by
  have h1 : (([a, b, c, d] ++ Z) ++ [e]).Perm ([e] ++ ([a, b, c, d] ++ Z)) := List.perm_append_comm
  refine h1.trans ?_
  rw [← List.append_assoc]
  exact (perm_idx (L := [e, a, b, c, d]) 5 rfl [1, 2, 0, 3, 4] (by decide) rfl).append_right Z
theorem takeRel_sz {sz : Nat} {md : Int32} {M : Nat → Mk} {fr id pr : Int32} {off n : Nat} {last now : Int32} {tr : Nat → Int32} {v : Option Value} {u : Nat × Int32 × (Nat → Mk)} (hs : sz ≤ 4) (h : takeRel sz md M fr id pr off n last now tr v u) : u.1 < 2 ^ 31 := by
  obtain ⟨k, hk, -, h | h⟩ := h
  · obtain ⟨h1, -, h2⟩ := h
    rcases h2 with ⟨-, -, rfl⟩ | ⟨-, -, -, rfl⟩ | ⟨-, -, -, rfl⟩
    · show sz - 1 < 2 ^ 31; omega
    · show sz < 2 ^ 31; omega
    · show sz - 1 < 2 ^ 31; omega
  · obtain ⟨rfl, h2⟩ := h
    rcases h2 with ⟨-, -, rfl⟩ | ⟨-, -, -, rfl⟩ | ⟨-, -, -, rfl⟩
    · show k + 1 - 1 < 2 ^ 31; omega
    · show k + 1 < 2 ^ 31; omega
    · show k + 1 - 1 < 2 ^ 31; omega
theorem pm_swap (a b : Nat × va_E) (X Z : va_W) : ((a :: b :: X) ++ Z).Perm ([b] ++ ((a :: X) ++ Z)) := List.Perm.swap b a (X ++ Z)
end
section
/-! what the model's cells hold, and what its methods do to them -/
abbrev Fn : Type := Nat → Int32
def mw (cB cZ cI : ClassId) (m0 m1 m2 m3 m4 m5 m6 m7 m8 m9 n : Nat) (tray sn ids ps es bs th by_ wh : Fn) (ln md nw : Int32) : va_W := [(m0, .inr (3, [.ref m1, .int (nI n), .ref m2, .ref m3, .ref m4, .ref m5, .ref m6, .ref m7, .ref m8, .ref m9, .int ln, .int md, .int nw])), (m1, .inl (cB, 1480, .inl tray)), (m2, .inl (cI, 4, .inl sn)), (m3, .inl (cI, 4, .inl ids)), (m4, .inl (cI, 4, .inl ps)), (m5, .inl (cI, 4, .inl es)), (m6, .inl (cI, 4, .inl bs)), (m7, .inl (cZ, 4, .inl th)), (m8, .inl (cI, 16384, .inl by_)), (m9, .inl (cI, 4096, .inl wh))]
def seg (off i : Nat) (h g : Fn) : Fn := fun j => if off ≤ j ∧ j < off + i then h (j - off) else g j
theorem seg_0 (off : Nat) (h g : Fn) : seg off 0 h g = g := by
  funext j
  unfold seg
  rw [if_neg (by omega)]
theorem seg_s (off i : Nat) (h g : Fn) : upd (seg off i h g) (off + i) (h i) = seg off (i + 1) h g := by
  funext j
  unfold upd seg
  by_cases h1 : j = off + i
  · subst h1
    rw [if_pos rfl, if_pos (by omega), Nat.add_sub_cancel_left]
  · by_cases h2 : off ≤ j ∧ j < off + i
    · rw [if_neg h1, if_pos h2, if_pos (by omega)]
    · rw [if_neg h1, if_neg h2, if_neg (by omega)]
def wv (v : Int32) (k : Nat) : Int32 := nb (v >>> ((nI 24 - nI (8 * k)) &&& 31))
def wordT (t : Fn) (n : Nat) (v : Int32) : Fn := seg n 4 (wv v) t
def feedM (t : Fn) (n : Nat) (a b c d e : Int32) : Fn := wordT (wordT (wordT (wordT (wordT t n a) (n + 4) b) (n + 8) c) (n + 12) d) (n + 16) e
def stM (off i : Nat) (tr by_ : Fn) : Fn := fun j => if (off ≤ j ∧ j < off + i) ∧ by_ j = 0 then (tr (j - off) &&& nI 255) + nI 1 else by_ j
theorem stM_0 (off : Nat) (tr by_ : Fn) : stM off 0 tr by_ = by_ := by
  funext j
  unfold stM
  rw [if_neg (by omega)]
theorem stM_at (off i : Nat) (tr by_ : Fn) : stM off i tr by_ (off + i) = by_ (off + i) := by
  unfold stM
  rw [if_neg (by omega)]
theorem stM_s (off i : Nat) (tr by_ : Fn) (h0 : by_ (off + i) = 0) : upd (stM off i tr by_) (off + i) ((tr i &&& nI 255) + nI 1) = stM off (i + 1) tr by_ := by
  funext j
  unfold upd stM
  by_cases h : j = off + i
  · subst h
    rw [if_pos rfl, if_pos ⟨by omega, h0⟩, Nat.add_sub_cancel_left]
  · by_cases h2 : (off ≤ j ∧ j < off + i) ∧ by_ j = 0
    · rw [if_neg h, if_pos h2, if_pos ⟨by omega, h2.2⟩]
    · rw [if_neg h, if_neg h2, if_neg]
      rintro ⟨h3, h4⟩
      exact h2 ⟨by omega, h4⟩
theorem stM_k (off i : Nat) (tr by_ : Fn) (h0 : ¬ by_ (off + i) = 0) : stM off i tr by_ = stM off (i + 1) tr by_ := by
  funext j
  unfold stM
  by_cases h2 : (off ≤ j ∧ j < off + i) ∧ by_ j = 0
  · rw [if_pos h2, if_pos ⟨by omega, h2.2⟩]
  · rw [if_neg h2, if_neg]
    rintro ⟨h3, h4⟩
    by_cases h : j = off + i
    · subst h
      exact h0 h4
    · exact h2 ⟨by omega, h4⟩
def mkey (sn ids ps th : Fn) (fr id pr : Int32) (i : Nat) : Prop := ¬ th i = 0 ∧ sn i = fr ∧ ids i = id ∧ ps i = pr
def mw0 (es : Fn) (k to_ : Nat) (last : Int32) : Prop := ¬ es k < 0 ∧ (es k < nI to_ ∨ (¬ last = 0 ∧ ¬ nI to_ = es k))
def mwi (by_ : Fn) (k to_ i : Nat) (last : Int32) : Prop := ¬ last = 0 ∧ ∃ j, to_ ≤ j ∧ j < i ∧ 0 < by_ (k * 4096 + j)
def mWrong (es by_ : Fn) (k to_ : Nat) (last : Int32) : Prop := mw0 es k to_ last ∨ mwi by_ k to_ 4096 last
def mEs (es : Fn) (k to_ : Nat) (last : Int32) : Fn := if last = 0 then es else upd es k (nI to_)
def mTail (k n o : Nat) (last : Int32) (tr es th by_ wh : Fn) (ln md : Int32) (r : Option Value) (u : Fn × Fn × Fn × Fn × Int32 × Int32) : Prop :=
  (mWrong es by_ k (8 * o + n) last ∧ r = some (.int (-3)) ∧ u = (es, upd th k 0, by_, wh, ln, md)) ∨
  (¬ mWrong es by_ k (8 * o + n) last ∧ (
    (mEs es k (8 * o + n) last k = -1 ∧ r = some (.int (-1)) ∧ u = (mEs es k (8 * o + n) last, th, stM (k * 4096 + 8 * o) n tr by_, wh, ln, md)) ∨
    (∃ e, e ≤ 4096 ∧ mEs es k (8 * o + n) last k = nI e ∧ (
      ((∃ i, i < e ∧ stM (k * 4096 + 8 * o) n tr by_ (k * 4096 + i) = 0) ∧ r = some (.int (-1)) ∧ u = (mEs es k (8 * o + n) last, th, stM (k * 4096 + 8 * o) n tr by_, wh, ln, md)) ∨
      ((∀ i, i < e → ¬ stM (k * 4096 + 8 * o) n tr by_ (k * 4096 + i) = 0) ∧ r = some (.int (nI e)) ∧ u = (mEs es k (8 * o + n) last, upd th k 0, stM (k * 4096 + 8 * o) n tr by_, lo e (fun j => stM (k * 4096 + 8 * o) n tr by_ (k * 4096 + j) - nI 1) wh, nI e, md + nI 1))))))
abbrev MU : Type := Nat × Fn × Fn × Fn × Fn × Fn × Fn × Fn × Fn × Int32 × Int32
def mTake (n : Nat) (tray sn ids ps es bs th by_ wh : Fn) (ln md nw fr id pr ofs last : Int32) (r : Option Value) (u : MU) : Prop :=
  ((ofs < 0 ∨ nI 8191 < ofs) ∧ r = some (.int (-4)) ∧ u = (n, sn, ids, ps, es, bs, th, by_, wh, ln, md)) ∨
  ∃ o, o ≤ 8191 ∧ ofs = nI o ∧ (
    (kBad n o last ∧ r = some (.int (-2)) ∧ u = (0, sn, ids, ps, es, bs, th, by_, wh, ln, md)) ∨
    (¬ kBad n o last ∧ (
      ((∀ i, i < 4 → ¬ mkey sn ids ps th fr id pr i) ∧ (∀ i, i < 4 → ¬ th i = 0) ∧ r = some (.int (-2)) ∧ u = (0, sn, ids, ps, es, bs, th, by_, wh, ln, md)) ∨
      (∃ k w, k < 4 ∧ mkey sn ids ps th fr id pr k ∧ mTail k n o last tray es th by_ wh ln md r w ∧ u = (0, sn, ids, ps, w.1, bs, w.2.1, w.2.2.1, w.2.2.2.1, w.2.2.2.2.1, w.2.2.2.2.2)) ∨
      (∃ k w, k < 4 ∧ th k = 0 ∧ (∀ i, i < 4 → ¬ mkey sn ids ps th fr id pr i) ∧ mTail k n o last tray (upd es k (-1)) (upd th k 1) (seg (k * 4096) 4096 (fun _ => 0) by_) wh ln md r w ∧ u = (0, upd sn k fr, upd ids k id, upd ps k pr, w.1, upd bs k nw, w.2.1, w.2.2.1, w.2.2.2.1, w.2.2.2.2.1, w.2.2.2.2.2)))))
def mwB (cB cZ cI : ClassId) (m0 m1 m2 m3 m4 m5 m6 m7 m8 m9 n : Nat) (tray sn ids ps es bs th by_ wh : Fn) (ln md nw fr id pr : Int32) (u : Option Nat) : va_W := match u with
  | none => mw cB cZ cI m0 m1 m2 m3 m4 m5 m6 m7 m8 m9 n tray sn ids ps es bs th by_ wh ln md nw
  | some k => mw cB cZ cI m0 m1 m2 m3 m4 m5 m6 m7 m8 m9 n tray (upd sn k fr) (upd ids k id) (upd ps k pr) (upd es k (-1)) (upd bs k nw) (upd th k 1) (seg (k * 4096) 4096 (fun _ => 0) by_) wh ln md nw
def cnt (p : Nat → Bool) : Nat → Nat
  | 0 => 0
  | i + 1 => cnt p i + (if p i = true then 1 else 0)
theorem cnt_le (p : Nat → Bool) (i : Nat) : cnt p i ≤ i := by
  induction i with
  | zero => exact Nat.le_refl _
  | succ i ih =>
    unfold cnt
    split <;> omega
def isT (th : Fn) (i : Nat) : Bool := decide (¬ th i = 0)
def isX (th bs : Fn) (t : Int32) (i : Nat) : Bool := decide (¬ th i = 0 ∧ nI 15000 ≤ t - bs i)
def thP (th bs : Fn) (t : Int32) (i : Nat) : Fn := fun j => if j < i ∧ isX th bs t j = true then 0 else th j
theorem thP_0 (th bs : Fn) (t : Int32) : thP th bs t 0 = th := by
  funext j
  unfold thP
  rw [if_neg (by omega)]
theorem thP_at (th bs : Fn) (t : Int32) (i : Nat) : thP th bs t i i = th i := by
  unfold thP
  rw [if_neg (by omega)]
theorem thP_s (th bs : Fn) (t : Int32) (i : Nat) (h : isX th bs t i = true) : upd (thP th bs t i) i 0 = thP th bs t (i + 1) := by
  funext j
  unfold upd thP
  by_cases h1 : j = i
  · subst h1
    rw [if_pos rfl, if_pos ⟨by omega, h⟩]
  · by_cases h2 : j < i ∧ isX th bs t j = true
    · rw [if_neg h1, if_pos h2, if_pos ⟨by omega, h2.2⟩]
    · rw [if_neg h1, if_neg h2, if_neg]
      rintro ⟨h3, h4⟩
      exact h2 ⟨by omega, h4⟩
theorem thP_k (th bs : Fn) (t : Int32) (i : Nat) (h : ¬ isX th bs t i = true) : thP th bs t i = thP th bs t (i + 1) := by
  funext j
  unfold thP
  by_cases h2 : j < i ∧ isX th bs t j = true
  · rw [if_pos h2, if_pos ⟨by omega, h2.2⟩]
  · rw [if_neg h2, if_neg]
    rintro ⟨h3, h4⟩
    by_cases h1 : j = i
    · subst h1
      exact h h4
    · exact h2 ⟨by omega, h4⟩
theorem okEn_es {es : Fn} {k n o : Nat} {last : Int32} (h : okEn (es k)) (ho : 8 * o + n ≤ 4096) : okEn (mEs es k (8 * o + n) last k) := by
  unfold mEs
  by_cases h1 : last = 0
  · rw [if_pos h1]; exact h
  · rw [if_neg h1, pk_us]; exact Or.inr ⟨8 * o + n, ho, rfl⟩
end
section
/-! the plain law: how the house's row and the model's four slots stand together -/
theorem by_pos (x : Int32) : ¬ (x &&& nI 255) + nI 1 = 0 ∧ 0 < (x &&& nI 255) + nI 1 := by
  obtain ⟨j, hj, e⟩ := pk_andE x (m := nI 255) 8 (by decide +kernel)
  rw [e, nI_add]
  refine ⟨nI_ne0 (by omega) (by omega), ?_⟩
  have h := nI_lt (a := 0) (b := j + 1) (by omega) (by omega)
  rw [nI_0] at h
  exact h
theorem nb_and (x : Int32) : nb x &&& nI 255 = x &&& nI 255 := by
  unfold nb
  apply Int32.toBitVec_inj.mp
  apply BitVec.eq_of_getLsbD_eq
  intro i hi
  have h255 : (nI 255).toBitVec.getLsbD i = decide (i < 8) := by
    have h : ∀ i, i < 32 → (nI 255).toBitVec.getLsbD i = decide (i < 8) := by decide +kernel
    exact h i hi
  rw [Int32.toBitVec_and, Int32.toBitVec_and, BitVec.getLsbD_and, BitVec.getLsbD_and, h255]
  by_cases h8 : i < 8
  · have e : (x.toInt8.toInt32).toBitVec.getLsbD i = x.toBitVec.getLsbD i := by
      rw [Int8.toBitVec_toInt32, Int32.toBitVec_toInt8, BitVec.getLsbD_signExtend, if_pos h8, BitVec.getLsbD_signExtend, if_pos hi]
      simp [h8, hi]
    rw [e]
  · simp [h8]
theorem nd_inj {l : List Nat} (h : l.Nodup) {a b i : Nat} (ha : l[a]? = some i) (hb : l[b]? = some i) : a = b := by
  obtain ⟨la, ha⟩ := List.getElem?_eq_some_iff.mp ha
  obtain ⟨lb, hb⟩ := List.getElem?_eq_some_iff.mp hb
  have h3 := List.pairwise_iff_getElem.mp h
  rcases Nat.lt_trichotomy a b with q | q | q
  · exact absurd (ha.trans hb.symm) (h3 a b la lb q)
  · exact q
  · exact absurd (hb.trans ha.symm) (h3 b a lb la q)
/-- a Making and the slot i of the model hold the same datagram -/
def mt (x : Mk) (sn ids ps es bs by_ : Fn) (i : Nat) : Prop := sn i = kFr x ∧ ids i = kId x ∧ ps i = kPr x ∧ es i = kEn x ∧ bs i = kSi x ∧ ∀ j, j < 4096 → (kTh x j = 0 ∧ by_ (i * 4096 + j) = 0) ∨ (¬ kTh x j = 0 ∧ by_ (i * 4096 + j) = (kBy x j &&& nI 255) + nI 1)
/-- reach and end -/
def mkOk (x : Mk) : Prop := ∃ r : Nat, r ≤ 4096 ∧ kRe x = nI r ∧ (∀ j, r ≤ j → j < 4096 → kTh x j = 0) ∧ ((kEn x = -1 ∧ (r = 0 ∨ ¬ kTh x (r - 1) = 0)) ∨ ∃ e, e ≤ 4096 ∧ kEn x = nI e ∧ r ≤ e)
theorem mkOk_en {x : Mk} (h : mkOk x) : okEn (kEn x) := by
  obtain ⟨r, -, -, -, h | ⟨e, h1, h2, -⟩⟩ := h
  · exact Or.inl h.1
  · exact Or.inr ⟨e, h1, h2⟩
def RC (idx : List Nat) (sz : Nat) (M : Nat → Mk) (sn ids ps es bs th by_ : Fn) (t : Nat) : Prop :=
  idx.length = sz ∧ idx.Nodup ∧ (∀ i, i ∈ idx ↔ i < 4 ∧ ¬ th i = 0) ∧
  (∀ k i, idx[k]? = some i → mt (M k) sn ids ps es bs by_ i ∧ mkOk (M k)) ∧
  (∀ k k', k < sz → k' < sz → keyOf (M k) (kFr (M k')) (kId (M k')) (kPr (M k')) → k = k') ∧
  (∀ k, k < sz → ∃ s, s ≤ t ∧ kSi (M k) = nI s) ∧
  (∀ k k', k ≤ k' → k' < sz → kSi (M k) ≤ kSi (M k')) ∧
  (∀ k, k < 4 → okEn (es k))
theorem rc_at {idx : List Nat} {sz : Nat} {M : Nat → Mk} {sn ids ps es bs th by_ : Fn} {t : Nat} (h : RC idx sz M sn ids ps es bs th by_ t) {k : Nat} (hk : k < sz) : ∃ i, idx[k]? = some i ∧ i < 4 ∧ ¬ th i = 0 := by
  have hl : k < idx.length := by rw [h.1]; exact hk
  refine ⟨idx[k], List.getElem?_eq_getElem hl, ?_⟩
  exact (h.2.2.1 _).mp (List.getElem_mem hl)
theorem rc_lt {idx : List Nat} {sz : Nat} {M : Nat → Mk} {sn ids ps es bs th by_ : Fn} {t : Nat} (h : RC idx sz M sn ids ps es bs th by_ t) {k i : Nat} (hk : idx[k]? = some i) : k < sz ∧ i < 4 ∧ ¬ th i = 0 := by
  have hl := (List.getElem?_eq_some_iff.mp hk).1
  refine ⟨by rw [← h.1]; exact hl, ?_⟩
  exact (h.2.2.1 _).mp (List.mem_of_getElem? hk)
theorem rc_perm {idx : List Nat} {sz : Nat} {M : Nat → Mk} {sn ids ps es bs th by_ : Fn} {t : Nat} (h : RC idx sz M sn ids ps es bs th by_ t) : idx.Perm ((List.range 4).filter (isT th)) := by
  refine (List.perm_ext_iff_of_nodup h.2.1 (List.Pairwise.filter _ List.nodup_range)).mpr fun a => ?_
  rw [h.2.2.1 a, List.mem_filter, List.mem_range]
  unfold isT
  rw [decide_eq_true_iff]
theorem cnt_filter (p : Nat → Bool) (n : Nat) : cnt p n = ((List.range n).filter p).length := by
  induction n with
  | zero => rfl
  | succ n ih =>
    rw [List.range_succ, List.filter_append, List.length_append, ← ih]
    show cnt p n + _ = _
    congr 1
    cases hp : p n <;> simp [hp]
theorem rc_cnt {idx : List Nat} {sz : Nat} {M : Nat → Mk} {sn ids ps es bs th by_ : Fn} {t : Nat} (h : RC idx sz M sn ids ps es bs th by_ t) : cnt (isT th) 4 = sz := by
  rw [cnt_filter, ← (rc_perm h).length_eq, h.1]
theorem rc_sz {idx : List Nat} {sz : Nat} {M : Nat → Mk} {sn ids ps es bs th by_ : Fn} {t : Nat} (h : RC idx sz M sn ids ps es bs th by_ t) : sz ≤ 4 := by
  rw [← rc_cnt h]
  exact cnt_le _ _
/-- a slot is free just when fewer than four are there -/
theorem rc_full {idx : List Nat} {sz : Nat} {M : Nat → Mk} {sn ids ps es bs th by_ : Fn} {t : Nat} (h : RC idx sz M sn ids ps es bs th by_ t) : sz = 4 ↔ ∀ i, i < 4 → ¬ th i = 0 := by
  have hc := rc_cnt h
  have e : cnt (isT th) 4 = 0 + (if isT th 0 = true then 1 else 0) + (if isT th 1 = true then 1 else 0) + (if isT th 2 = true then 1 else 0) + (if isT th 3 = true then 1 else 0) := rfl
  have hb : ∀ i, isT th i = true ↔ ¬ th i = 0 := fun i => by unfold isT; exact decide_eq_true_iff
  rw [e] at hc
  constructor
  · intro h4 i hi
    rw [← hb i]
    rcases (show i = 0 ∨ i = 1 ∨ i = 2 ∨ i = 3 by omega) with rfl | rfl | rfl | rfl <;> (cases h0 : isT th 0 <;> cases h1 : isT th 1 <;> cases h2 : isT th 2 <;> cases h3 : isT th 3 <;> simp [h0, h1, h2, h3] at hc ⊢ <;> omega)
  · intro h4
    have g : ∀ i, i < 4 → isT th i = true := fun i hi => (hb i).mpr (h4 i hi)
    rw [g 0 (by omega), g 1 (by omega), g 2 (by omega), g 3 (by omega)] at hc
    simp at hc
    omega
/-- a key that a Making of the row has is a slot's, and the other way round -/
theorem rc_key {idx : List Nat} {sz : Nat} {M : Nat → Mk} {sn ids ps es bs th by_ : Fn} {t : Nat} (h : RC idx sz M sn ids ps es bs th by_ t) {fr id pr : Int32} {k i : Nat} (hi : idx[k]? = some i) : keyOf (M k) fr id pr ↔ mkey sn ids ps th fr id pr i := by
  obtain ⟨⟨a1, a2, a3, -⟩, -⟩ := h.2.2.2.1 k i hi
  have h0 := (rc_lt h hi).2.2
  unfold keyOf mkey
  rw [a1, a2, a3]
  exact ⟨fun q => ⟨h0, q⟩, fun q => q.2⟩
theorem rc_upd {idx : List Nat} {sz : Nat} {M : Nat → Mk} {sn ids ps es bs th by_ es2 by2 : Fn} {t kh k : Nat} (h : RC idx sz M sn ids ps es bs th by_ t) (hk : idx[kh]? = some k) (x2 : Mk) (hf : kFr x2 = kFr (M kh)) (hi : kId x2 = kId (M kh)) (hp : kPr x2 = kPr (M kh)) (hs : kSi x2 = kSi (M kh)) (hm : mt x2 sn ids ps es2 bs by2 k) (hok : mkOk x2) (he : ∀ i, i ≠ k → es2 i = es i) (hb : ∀ i j, i ≠ k → i < 4 → j < 4096 → by2 (i * 4096 + j) = by_ (i * 4096 + j)) : RC idx sz (va_up M kh x2) sn ids ps es2 bs th by2 t := by
  obtain ⟨h1, h2, h3, h4, h5, h6, h7, h8⟩ := (fun z => z) h
  have hu : ∀ q, kFr (va_up M kh x2 q) = kFr (M q) ∧ kId (va_up M kh x2 q) = kId (M q) ∧ kPr (va_up M kh x2 q) = kPr (M q) ∧ kSi (va_up M kh x2 q) = kSi (M q) := by
    intro q
    by_cases e : q = kh
    · subst e
      rw [va_up_self]
      exact ⟨hf, hi, hp, hs⟩
    · rw [va_up_ne _ _ e]
      exact ⟨rfl, rfl, rfl, rfl⟩
  refine ⟨h1, h2, h3, ?_, ?_, ?_, ?_, ?_⟩
  · intro q i hq
    by_cases e : q = kh
    · subst e
      rw [hk] at hq
      cases hq
      rw [va_up_self]
      exact ⟨hm, hok⟩
    · rw [va_up_ne _ _ e]
      have hik : i ≠ k := fun z => by
        subst z
        exact e (nd_inj h2 hq hk)
      obtain ⟨⟨a1, a2, a3, a4, a5, a6⟩, a7⟩ := h4 q i hq
      have hi4 := (rc_lt h hq).2.1
      exact ⟨⟨a1, a2, a3, by rw [he i hik]; exact a4, a5, fun j hj => by rw [hb i j hik hi4 hj]; exact a6 j hj⟩, a7⟩
  · intro q q' hq hq' hkey
    refine h5 q q' hq hq' ?_
    unfold keyOf at hkey ⊢
    rw [(hu q).1, (hu q).2.1, (hu q).2.2.1, (hu q').1, (hu q').2.1, (hu q').2.2.1] at hkey
    exact hkey
  · intro q hq
    rw [(hu q).2.2.2]
    exact h6 q hq
  · intro q q' hq hq'
    rw [(hu q).2.2.2, (hu q').2.2.2]
    exact h7 q q' hq hq'
  · intro q hq
    by_cases e : q = k
    · subst e
      rw [hm.2.2.2.1]
      exact mkOk_en hok
    · rw [he q e]
      exact h8 q hq
theorem er_get (l : List Nat) (k j : Nat) : (l.eraseIdx k)[j]? = if j < k then l[j]? else l[j + 1]? := List.getElem?_eraseIdx
theorem rc_del {idx : List Nat} {sz : Nat} {M : Nat → Mk} {sn ids ps es bs th by_ : Fn} {t kh k : Nat} (h : RC idx sz M sn ids ps es bs th by_ t) (hk : idx[kh]? = some k) : RC (idx.eraseIdx kh) (sz - 1) (rotM kh sz M) sn ids ps es bs (upd th k 0) by_ t := by
  obtain ⟨h1, h2, h3, h4, h5, h6, h7, h8⟩ := (fun z => z) h
  have hks := (rc_lt h hk).1
  have hr : ∀ j, j < sz - 1 → rotM kh sz M j = M (if j < kh then j else j + 1) := by
    intro j hj
    unfold rotM rotI
    by_cases e : j < kh
    · rw [if_neg (by omega), if_neg (by omega), if_pos e]
    · rw [if_pos (by omega), if_neg e]
  have hg : ∀ j i, (idx.eraseIdx kh)[j]? = some i → j < sz - 1 ∧ idx[if j < kh then j else j + 1]? = some i ∧ i ≠ k := by
    intro j i hj
    have hl := (List.getElem?_eq_some_iff.mp hj).1
    rw [List.length_eraseIdx_of_lt (by rw [h1]; exact hks), h1] at hl
    rw [er_get] at hj
    have hj' : idx[if j < kh then j else j + 1]? = some i := by
      by_cases e : j < kh
      · rw [if_pos e] at hj ⊢; exact hj
      · rw [if_neg e] at hj ⊢; exact hj
    refine ⟨hl, hj', fun e => ?_⟩
    subst e
    have := nd_inj h2 hj' hk
    split at this <;> omega
  refine ⟨by rw [List.length_eraseIdx_of_lt (by rw [h1]; exact hks), h1], h2.eraseIdx kh, ?_, ?_, ?_, ?_, ?_, h8⟩
  · intro i
    constructor
    · intro hi
      obtain ⟨j, hj⟩ := List.getElem?_of_mem hi
      obtain ⟨-, g2, g3⟩ := hg j i hj
      have := (h3 i).mp (List.mem_of_getElem? g2)
      exact ⟨this.1, by rw [pk_un g3]; exact this.2⟩
    · rintro ⟨hi, ht⟩
      have hne : i ≠ k := fun e => by subst e; rw [pk_us] at ht; exact ht rfl
      rw [pk_un hne] at ht
      obtain ⟨j, hj⟩ := List.getElem?_of_mem ((h3 i).mpr ⟨hi, ht⟩)
      have hjk : j ≠ kh := fun e => by subst e; rw [hk] at hj; cases hj; exact hne rfl
      by_cases e : j < kh
      · exact List.mem_of_getElem? (i := j) (by rw [er_get, if_pos e]; exact hj)
      · exact List.mem_of_getElem? (i := j - 1) (by rw [er_get, if_neg (by omega), show j - 1 + 1 = j by omega]; exact hj)
  · intro j i hj
    obtain ⟨g1, g2, g3⟩ := hg j i hj
    rw [hr j g1]
    exact h4 _ i g2
  · intro q q' hq hq' hkey
    rw [hr q hq, hr q' hq'] at hkey
    have := h5 _ _ (by split <;> omega) (by split <;> omega) hkey
    split at this <;> split at this <;> omega
  · intro q hq
    rw [hr q hq]
    exact h6 _ (by split <;> omega)
  · intro q q' hq hq'
    rw [hr q (by omega), hr q' hq']
    exact h7 _ _ (by split <;> split <;> omega) (by split <;> omega)
theorem rc_new {idx : List Nat} {sz : Nat} {M : Nat → Mk} {sn ids ps es bs th by_ : Fn} {t k : Nat} (h : RC idx sz M sn ids ps es bs th by_ t) (hk4 : k < 4) (hk0 : th k = 0) {fr id pr : Int32} (hno : ∀ j, j < sz → ¬ keyOf (M j) fr id pr) (ht : t < 2 ^ 31) : RC (idx ++ [k]) (sz + 1) (va_up M sz (mkBegin (M sz) fr id pr (nI t))) (upd sn k fr) (upd ids k id) (upd ps k pr) (upd es k (-1)) (upd bs k (nI t)) (upd th k 1) (seg (k * 4096) 4096 (fun _ => 0) by_) t := by
  obtain ⟨h1, h2, h3, h4, h5, h6, h7, h8⟩ := (fun z => z) h
  have hki : k ∉ idx := fun q => ((h3 k).mp q).2 hk0
  have hx : va_up M sz (mkBegin (M sz) fr id pr (nI t)) sz = mkBegin (M sz) fr id pr (nI t) := va_up_self _ _ _
  have ho : ∀ j, j < sz → va_up M sz (mkBegin (M sz) fr id pr (nI t)) j = M j := fun j hj => va_up_ne _ _ (by omega)
  refine ⟨by rw [List.length_append, h1]; rfl, ?_, ?_, ?_, ?_, ?_, ?_, ?_⟩
  · rw [List.nodup_append]
    refine ⟨h2, by simp, fun a ha b hb => ?_⟩
    rw [List.mem_singleton] at hb
    subst hb
    exact fun e => hki (e ▸ ha)
  · intro i
    rw [List.mem_append, List.mem_singleton, h3 i]
    by_cases e : i = k
    · subst e
      rw [pk_us]
      exact ⟨fun _ => ⟨hk4, by decide⟩, fun _ => Or.inr rfl⟩
    · rw [pk_un e]
      exact ⟨fun q => q.elim (fun z => z) (fun q => absurd q e), fun q => Or.inl q⟩
  · intro q i hq
    by_cases hl : q < sz
    · rw [List.getElem?_append_left (by rw [h1]; exact hl)] at hq
      rw [ho q hl]
      have hik : i ≠ k := fun e => hki (e ▸ List.mem_of_getElem? hq)
      obtain ⟨⟨a1, a2, a3, a4, a5, a6⟩, a7⟩ := h4 q i hq
      refine ⟨⟨by rw [pk_un hik]; exact a1, by rw [pk_un hik]; exact a2, by rw [pk_un hik]; exact a3, by rw [pk_un hik]; exact a4, by rw [pk_un hik]; exact a5, fun j hj => ?_⟩, a7⟩
      have hi4 := (rc_lt h hq).2.1
      have e : seg (k * 4096) 4096 (fun _ => 0) by_ (i * 4096 + j) = by_ (i * 4096 + j) := by
        unfold seg
        rw [if_neg]
        omega
      rw [e]
      exact a6 j hj
    · have hq2 : q = sz ∧ i = k := by
        have hl2 := (List.getElem?_eq_some_iff.mp hq).1
        rw [List.length_append, h1] at hl2
        have : q = sz := by simp at hl2; omega
        subst this
        rw [List.getElem?_append_right (by omega), h1, Nat.sub_self] at hq
        cases hq
        exact ⟨rfl, rfl⟩
      obtain ⟨rfl, rfl⟩ := hq2
      rw [hx]
      refine ⟨⟨pk_us, pk_us, pk_us, pk_us, pk_us, fun j hj => Or.inl ⟨?_, ?_⟩⟩, 0, by omega, rfl, fun j _ hj => ?_, Or.inl ⟨rfl, Or.inl rfl⟩⟩
      · show lo 4096 (fun _ => 0) _ j = 0
        unfold lo
        rw [if_pos hj]
      · unfold seg
        rw [if_pos (by omega)]
      · show lo 4096 (fun _ => 0) _ j = 0
        unfold lo
        rw [if_pos hj]
  · intro q q' hq hq' hkey
    by_cases a : q < sz <;> by_cases b : q' < sz
    · rw [ho q a, ho q' b] at hkey
      exact h5 q q' a b hkey
    · have : q' = sz := by omega
      subst this
      rw [ho q a, hx] at hkey
      exact absurd hkey (hno q a)
    · have : q = sz := by omega
      subst this
      rw [ho q' b, hx] at hkey
      exact absurd (show keyOf (M q') fr id pr from ⟨hkey.1.symm, hkey.2.1.symm, hkey.2.2.symm⟩) (hno q' b)
    · omega
  · intro q hq
    by_cases a : q < sz
    · rw [ho q a]; exact h6 q a
    · have : q = sz := by omega
      subst this
      rw [hx]
      exact ⟨t, Nat.le_refl _, rfl⟩
  · intro q q' hq hq'
    by_cases b : q' < sz
    · rw [ho q (by omega), ho q' b]
      exact h7 q q' hq b
    · have : q' = sz := by omega
      subst this
      rw [hx]
      by_cases a : q < q'
      · rw [ho q a]
        obtain ⟨s0, hs, e⟩ := h6 q a
        show kSi (M q) ≤ nI t
        rw [e]
        exact nI_le hs ht
      · have : q = q' := by omega
        subst this
        rw [hx]
        exact Int32.le_refl _
  · intro q hq
    by_cases e : q = k
    · subst e
      rw [pk_us]
      exact Or.inl rfl
    · rw [pk_un e]
      exact h8 q hq
end
section
/-! the plain law: each call keeps the two together -/
theorem nI_m1lt : (-1 : Int32) < 0 := by decide +kernel
theorem bad_iff {x : Mk} {sn ids ps es bs by_ : Fn} {k to_ : Nat} {last : Int32} (hm : mt x sn ids ps es bs by_ k) (hok : mkOk x) (ht : to_ ≤ 4096) : addBad x (nI to_) last ↔ mWrong es by_ k to_ last := by
  obtain ⟨r, hr, hre, hth, hen⟩ := hok
  have e1 : es k = kEn x := hm.2.2.2.1
  unfold addBad mWrong mw0 mwi
  rw [e1, hre]
  constructor
  · rintro (⟨a1, a2, a3⟩ | ⟨a1, a2⟩ | ⟨a1, a2⟩)
    · exact Or.inl ⟨a2, Or.inr ⟨a1, fun z => a3 z.symm⟩⟩
    · exact Or.inl ⟨a1, Or.inl a2⟩
    · have hlt : to_ < r := (nI_ltI (by omega) (by omega)).mp a2
      rcases hen with ⟨b1, b2⟩ | ⟨e, b1, b2, b3⟩
      · refine Or.inr ⟨a1, r - 1, by omega, by omega, ?_⟩
        rcases b2 with b2 | b2
        · omega
        · rcases hm.2.2.2.2.2 (r - 1) (by omega) with c | c
          · exact absurd c.1 b2
          · rw [c.2]; exact (by_pos _).2
      · refine Or.inl ⟨by rw [b2]; exact nI_pos (by omega), Or.inr ⟨a1, fun z => ?_⟩⟩
        rw [b2] at z
        have := (nI_eq (by omega) (by omega)).mp z
        omega
  · rintro (⟨a1, a2 | ⟨a2, a3⟩⟩ | ⟨a1, j, a2, a3, a4⟩)
    · exact Or.inr (Or.inl ⟨a1, a2⟩)
    · exact Or.inl ⟨a2, a1, fun z => a3 z.symm⟩
    · refine Or.inr (Or.inr ⟨a1, ?_⟩)
      rcases Nat.lt_or_ge j r with c | c
      · exact nI_lt (by omega) (by omega)
      · rcases hm.2.2.2.2.2 j a3 with d | d
        · rw [d.2] at a4
          exact absurd a4 (by decide)
        · exact absurd (hth j c a3) d.1
theorem add_mt {x : Mk} {sn ids ps es bs by_ tr : Fn} {k o n : Nat} {last : Int32} (hm : mt x sn ids ps es bs by_ k) (ho : 8 * o + n ≤ 4096) : mt (mkAdd x (8 * o) n last tr) sn ids ps (mEs es k (8 * o + n) last) bs (stM (k * 4096 + 8 * o) n tr by_) k := by
  obtain ⟨a1, a2, a3, a4, a5, a6⟩ := hm
  refine ⟨a1, a2, a3, ?_, a5, ?_⟩
  · show mEs es k (8 * o + n) last k = if last = 0 then kEn x else nI (8 * o + n)
    unfold mEs
    by_cases h : last = 0
    · rw [if_pos h, if_pos h]; exact a4
    · rw [if_neg h, if_neg h, pk_us]
  · intro j hj
    have hT : kTh (mkAdd x (8 * o) n last tr) j = thS (8 * o) n (kTh x) j := rfl
    have hB : kBy (mkAdd x (8 * o) n last tr) j = byS (8 * o) n (kTh x) tr (kBy x) j := rfl
    rw [hT, hB]
    unfold thS byS stM
    by_cases hin : 8 * o ≤ j ∧ j < 8 * o + n
    · have hin2 : k * 4096 + 8 * o ≤ k * 4096 + j ∧ k * 4096 + j < k * 4096 + 8 * o + n := by omega
      refine Or.inr ⟨by rw [if_pos hin]; decide, ?_⟩
      rcases a6 j hj with ⟨b1, b2⟩ | ⟨b1, b2⟩
      · rw [if_pos ⟨hin2, b2⟩, if_pos ⟨hin, b1⟩, nb_and, show k * 4096 + j - (k * 4096 + 8 * o) = j - 8 * o by omega]
      · rw [if_neg (fun z => (by_pos (kBy x j)).1 (b2.symm.trans z.2)), if_neg (fun z => b1 z.2)]
        exact b2
    · have hin2 : ¬ (k * 4096 + 8 * o ≤ k * 4096 + j ∧ k * 4096 + j < k * 4096 + 8 * o + n) := by omega
      rw [if_neg hin, if_neg (fun z => hin2 z.1), if_neg (fun z => hin z.1)]
      exact a6 j hj
theorem add_ok {x : Mk} {o n : Nat} {last : Int32} {tr : Fn} (hok : mkOk x) (ho : 8 * o + n ≤ 4096) (hn : last = 0 → 0 < n) (hg : ¬ addBad x (nI (8 * o + n)) last) : mkOk (mkAdd x (8 * o) n last tr) := by
  obtain ⟨r, hr, hre, hth, hen⟩ := hok
  have g1 : ¬ (¬ last = 0 ∧ ¬ kEn x < 0 ∧ ¬ kEn x = nI (8 * o + n)) := fun z => hg (Or.inl z)
  have g2 : ¬ (¬ kEn x < 0 ∧ kEn x < nI (8 * o + n)) := fun z => hg (Or.inr (Or.inl z))
  have g3 : ¬ (¬ last = 0 ∧ nI (8 * o + n) < kRe x) := fun z => hg (Or.inr (Or.inr z))
  have hT : ∀ j, kTh (mkAdd x (8 * o) n last tr) j = if 8 * o ≤ j ∧ j < 8 * o + n then 1 else kTh x j := fun j => rfl
  have hE : kEn (mkAdd x (8 * o) n last tr) = if last = 0 then kEn x else nI (8 * o + n) := rfl
  have hR : kRe (mkAdd x (8 * o) n last tr) = if kRe x < nI (8 * o + n) then nI (8 * o + n) else kRe x := rfl
  refine ⟨if r < 8 * o + n then 8 * o + n else r, by split <;> omega, ?_, ?_, ?_⟩
  · rw [hR, hre]
    by_cases h : r < 8 * o + n
    · rw [if_pos h, if_pos ((nI_ltI (by omega) (by omega)).mpr h)]
    · rw [if_neg h, if_neg (fun z => h ((nI_ltI (by omega) (by omega)).mp z))]
  · intro j hj hj2
    rw [hT, if_neg (by split at hj <;> omega)]
    exact hth j (by split at hj <;> omega) hj2
  · by_cases hl : last = 0
    · have hn0 := hn hl
      rcases hen with ⟨b1, b2⟩ | ⟨e, b1, b2, b3⟩
      · refine Or.inl ⟨by rw [hE, if_pos hl]; exact b1, Or.inr ?_⟩
        rw [hT]
        by_cases h : r < 8 * o + n
        · rw [if_pos h, if_pos (by omega)]
          decide
        · rw [if_neg h]
          split
          · decide
          · rcases b2 with b2 | b2
            · omega
            · exact b2
      · refine Or.inr ⟨e, b1, by rw [hE, if_pos hl]; exact b2, ?_⟩
        have : 8 * o + n ≤ e := by
          rcases Nat.lt_or_ge e (8 * o + n) with c | c
          · exact absurd ⟨by rw [b2]; exact nI_pos (by omega), by rw [b2]; exact nI_lt c (by omega)⟩ g2
          · exact c
        split <;> omega
    · refine Or.inr ⟨8 * o + n, ho, by rw [hE, if_neg hl], ?_⟩
      have : r ≤ 8 * o + n := by
        rcases Nat.lt_or_ge (8 * o + n) r with c | c
        · exact absurd ⟨hl, by rw [hre]; exact nI_lt c (by omega)⟩ g3
        · exact c
      split <;> omega
theorem wh_iff {x : Mk} {sn ids ps es bs by_ : Fn} {k e : Nat} (hm : mt x sn ids ps es bs by_ k) (he : e ≤ 4096) : (∀ i, i < e → ¬ kTh x i = 0) ↔ ∀ i, i < e → ¬ by_ (k * 4096 + i) = 0 := by
  constructor
  · intro h i hi
    rcases hm.2.2.2.2.2 i (by omega) with c | c
    · exact absurd c.1 (h i hi)
    · rw [c.2]; exact (by_pos _).1
  · intro h i hi
    rcases hm.2.2.2.2.2 i (by omega) with c | c
    · exact absurd c.2 (h i hi)
    · exact c.1
theorem tail_sim {idx : List Nat} {sz : Nat} {M : Nat → Mk} {sn ids ps es bs th by_ wh tr : Fn} {t kh k o n : Nat} {last ln md : Int32} {v r : Option Value} {w : Nat × Int32 × (Nat → Mk)} {w2 : Fn × Fn × Fn × Fn × Int32 × Int32} (h : RC idx sz M sn ids ps es bs th by_ t) (hk : idx[kh]? = some k) (ho : 8 * o + n ≤ 4096) (hn : last = 0 → 0 < n) (hv : takeTail kh sz md M (8 * o) n last tr v w) (hm : mTail k n o last tr es th by_ wh ln md r w2) :
    (v = some .null ∧ r = some (.int (-3)) ∧ addBad (M kh) (nI (8 * o + n)) last ∧ w.1 + 1 = sz ∧ w.2.1 = md ∧ w2.2.2.2 = (wh, ln, md) ∧ ∃ idx', RC idx' w.1 w.2.2 sn ids ps w2.1 bs w2.2.1 w2.2.2.1 t) ∨
    (v = some .null ∧ r = some (.int (-1)) ∧ w.1 = sz ∧ w.2.1 = md ∧ w2.2.2.2 = (wh, ln, md) ∧ ∃ idx', RC idx' w.1 w.2.2 sn ids ps w2.1 bs w2.2.1 w2.2.2.1 t) ∨
    (∃ e, e ≤ 4096 ∧ kEn (w.2.2 w.1) = nI e ∧ v = some (.ref (kA (w.2.2 w.1))) ∧ r = some (.int (nI e)) ∧ w.2.1 = md + nI 1 ∧ w2.2.2.2.2 = (nI e, md + nI 1) ∧ (∀ j, j < e → nb (kBy (w.2.2 w.1) j) &&& nI 255 = w2.2.2.2.1 j) ∧ ∃ idx', RC idx' w.1 w.2.2 sn ids ps w2.1 bs w2.2.1 w2.2.2.1 t) := by
  obtain ⟨hks, hk4, hk0⟩ := rc_lt h hk
  obtain ⟨hmt, hok⟩ := h.2.2.2.1 kh k hk
  have hb := bad_iff (to_ := 8 * o + n) (last := last) hmt hok ho
  rcases hv with ⟨v1, v2, rfl⟩ | ⟨v1, v2, v3, rfl⟩ | ⟨v1, v2, v3, rfl⟩
  · rcases hm with ⟨m1, m2, rfl⟩ | ⟨m1, -⟩
    · exact Or.inl ⟨v2, m2, v1, by show sz - 1 + 1 = sz; omega, rfl, rfl, _, rc_del h hk⟩
    · exact absurd (hb.mp v1) m1
  all_goals
    have hmt2 := add_mt (last := last) (tr := tr) hmt ho
    have hok2 := add_ok (tr := tr) hok ho hn v1
    have hrc : RC idx sz (va_up M kh (mkAdd (M kh) (8 * o) n last tr)) sn ids ps (mEs es k (8 * o + n) last) bs th (stM (k * 4096 + 8 * o) n tr by_) t := by
      refine rc_upd h hk (mkAdd (M kh) (8 * o) n last tr) rfl rfl rfl rfl hmt2 hok2 (fun i hi => ?_) (fun i j hi hi4 hj => ?_)
      · unfold mEs
        split
        · rfl
        · exact pk_un hi
      · unfold stM
        rw [if_neg]
        rintro ⟨z, -⟩
        omega
    rcases hm with ⟨m1, -⟩ | ⟨m1, m2⟩
    · exact absurd (hb.mpr m1) v1
  · rcases m2 with ⟨m3, m4, rfl⟩ | ⟨e, m3, m4, ⟨m5, m6, rfl⟩ | ⟨m5, m6, rfl⟩⟩
    · exact Or.inr (Or.inl ⟨v3, m4, rfl, rfl, rfl, idx, hrc⟩)
    · exact Or.inr (Or.inl ⟨v3, m6, rfl, rfl, rfl, idx, hrc⟩)
    · exact absurd ⟨e, m3, by rw [← m4]; exact hmt2.2.2.2.1.symm, (wh_iff hmt2 m3).mpr m5⟩ v2
  · obtain ⟨e0, d1, d2, d3⟩ := v2
    have d4 := hmt2.2.2.2.1
    rcases m2 with ⟨m3, m4, rfl⟩ | ⟨e, m3, m4, ⟨m5, m6, rfl⟩ | ⟨m5, m6, rfl⟩⟩
    · rw [m3, d2] at d4
      exact absurd d4.symm (fun z => nI_m1 d1 z)
    · rw [m4, d2] at d4
      have : e = e0 := (nI_eq (by omega) (by omega)).mp d4
      subst this
      obtain ⟨i, i1, i2⟩ := m5
      exact absurd i2 ((wh_iff hmt2 m3).mp d3 i i1)
    · rw [m4, d2] at d4
      have : e = e0 := (nI_eq (by omega) (by omega)).mp d4
      subst this
      have hrot : rotM kh sz (va_up M kh (mkAdd (M kh) (8 * o) n last tr)) (sz - 1) = mkAdd (M kh) (8 * o) n last tr := by rw [rotM_end hks, va_up_self]
      refine Or.inr (Or.inr ⟨e, m3, ?_, ?_, m6, rfl, rfl, ?_, _, rc_del hrc hk⟩)
      · show kEn (rotM kh sz _ (sz - 1)) = nI e
        rw [hrot]; exact d2
      · show v = some (.ref (kA (rotM kh sz _ (sz - 1))))
        rw [hrot]; exact v3
      · intro j hj
        show nb (kBy (rotM kh sz _ (sz - 1)) j) &&& nI 255 = lo e (fun j => stM (k * 4096 + 8 * o) n tr by_ (k * 4096 + j) - nI 1) wh j
        rw [hrot, nb_and]
        unfold lo
        rw [if_pos hj]
        rcases hmt2.2.2.2.2.2 j (by omega) with c | c
        · exact absurd c.1 (d3 j hj)
        · show _ = stM (k * 4096 + 8 * o) n tr by_ (k * 4096 + j) - nI 1
          rw [c.2, Int32.add_sub_cancel]
/-- all that the two hold together; n, tray, now (t), the last length, made are the same on both sides -/
def Rel (t : Nat) (whole : Fn) (wl : Int32) (sz : Nat) (M : Nat → Mk) (sn ids ps es bs th by_ wh : Fn) : Prop :=
  t ≤ 2000000000 ∧ (∃ idx, RC idx sz M sn ids ps es bs th by_ t) ∧ okEn wl ∧ ∀ e j, e ≤ 4096 → wl = nI e → j < e → whole j &&& nI 255 = wh j
theorem take_sim {n t : Nat} {tray whole : Fn} {wl md : Int32} {sz : Nat} {M : Nat → Mk} {sn ids ps es bs th by_ wh : Fn} {fr id pr ofs last : Int32} {r1 r2 : Option Value} {u1 : Nat × (Nat → Int32) × Int32 × Nat × Int32 × (Nat → Mk)} {u2 : MU} (h : Rel t whole wl sz M sn ids ps es bs th by_ wh) (h1 : hTake n tray (nI t) whole wl sz md M fr id pr ofs last r1 u1) (h2 : mTake n tray sn ids ps es bs th by_ wh wl md (nI t) fr id pr ofs last r2 u2) (hn : n ≤ 1480) :
    r1 = r2 ∧ (∃ z, r1 = some (.int z)) ∧ ∃ n' whole' wl' sz' md' M' sn' ids' ps' es' bs' th' by' wh', n' ≤ 1480 ∧ u1 = (n', whole', wl', sz', md', M') ∧ u2 = (n', sn', ids', ps', es', bs', th', by', wh', wl', md') ∧ Rel t whole' wl' sz' M' sn' ids' ps' es' bs' th' by' wh' := by
  obtain ⟨ht, ⟨idx, hrc⟩, hwl, hwh⟩ := (fun z => z) h
  rcases h1 with ⟨a1, a2, rfl⟩ | ⟨o, ho, rfl, h1⟩
  · rcases h2 with ⟨b1, b2, rfl⟩ | ⟨o, ho, rfl, -⟩
    · exact ⟨a2.trans b2.symm, ⟨_, a2⟩, _, _, _, _, _, _, _, _, _, _, _, _, _, _, hn, rfl, rfl, h⟩
    · rcases a1 with a1 | a1
      · exact absurd a1 (nI_pos (by omega))
      · exact absurd a1 (nI_nlt (by omega) (by omega))
  · rcases h2 with ⟨b1, b2, rfl⟩ | ⟨o2, ho2, e2, h2⟩
    · rcases b1 with b1 | b1
      · exact absurd b1 (nI_pos (by omega))
      · exact absurd b1 (nI_nlt (by omega) (by omega))
    · have e3 : o = o2 := (nI_eq (by omega) (by omega)).mp e2
      subst e3
      rcases h1 with ⟨a1, a2, rfl⟩ | ⟨a1, h1⟩
      · rcases h2 with ⟨b1, b2, rfl⟩ | ⟨b1, -⟩
        · exact ⟨a2.trans b2.symm, ⟨_, a2⟩, _, _, _, _, _, _, _, _, _, _, _, _, _, _, by omega, rfl, rfl, h⟩
        · exact absurd a1 b1
      · rcases h2 with ⟨b1, -⟩ | ⟨-, h2⟩
        · exact absurd b1 a1
        have hlen : 8 * o + n ≤ 4096 := Nat.not_lt.mp (fun z => a1 (Or.inr z))
        have hn0 : last = 0 → 0 < n := fun z => by
          have : 8 ≤ n ∧ n % 8 = 0 := Decidable.byContradiction (fun y => a1 (Or.inl ⟨z, y⟩))
          omega
        have key1 : ∀ i, i < 4 → mkey sn ids ps th fr id pr i → ∃ k, k < sz ∧ idx[k]? = some i ∧ keyOf (M k) fr id pr := by
          intro i hi hk
          obtain ⟨k, hk2⟩ := List.getElem?_of_mem ((hrc.2.2.1 i).mpr ⟨hi, hk.1⟩)
          exact ⟨k, (rc_lt hrc hk2).1, hk2, (rc_key hrc hk2).mpr hk⟩
        have key2 : ∀ k, k < sz → keyOf (M k) fr id pr → ∃ i, i < 4 ∧ idx[k]? = some i ∧ mkey sn ids ps th fr id pr i := by
          intro k hk hk2
          obtain ⟨i, c1, c2, -⟩ := rc_at hrc hk
          exact ⟨i, c2, c1, (rc_key hrc c1).mp hk2⟩
        rcases h1 with ⟨c1, c2, c3, rfl⟩ | ⟨v, w, c1, c2, c3⟩
        · rcases h2 with ⟨d1, d2, d3, rfl⟩ | ⟨k, w2, d1, d2, -⟩ | ⟨k, w2, d1, d2, -⟩
          · exact ⟨c3.trans d3.symm, ⟨_, c3⟩, _, _, _, _, _, _, _, _, _, _, _, _, _, _, by omega, rfl, rfl, h⟩
          · obtain ⟨q, q1, -, q2⟩ := key1 k d1 d2
            exact absurd q2 (c2 q q1)
          · exact absurd d2 ((rc_full hrc).mp c1 k d1)
        · rcases h2 with ⟨d1, d2, d3, rfl⟩ | ⟨k, w2, d1, d2, d3, rfl⟩ | ⟨k, w2, d1, d2, d3, d4, rfl⟩
          · exfalso
            rcases c1 with ⟨j, j1, j2⟩ | c1
            · obtain ⟨i, i1, -, i2⟩ := key2 j j1 j2
              exact d1 i i1 i2
            · have := (rc_full hrc).mpr d2
              omega
          · obtain ⟨q, q1, q2, q3⟩ := key1 k d1 d2
            obtain ⟨kh, g1, g2, ⟨g3, g4, g5⟩ | ⟨g3, g5⟩⟩ := c2
            · have e4 : kh = q := hrc.2.2.2.2.1 kh q g3 q1 ⟨g4.1.trans q3.1.symm, g4.2.1.trans q3.2.1.symm, g4.2.2.trans q3.2.2.symm⟩
              subst e4
              have hex : ∃ j, j < sz ∧ keyOf (M j) fr id pr := ⟨kh, g3, g4⟩
              rcases tail_sim hrc q2 hlen hn0 g5 d3 with ⟨s1, s2, s3, s4, s5, s6, idx', s7⟩ | ⟨s1, s2, s4, s5, s6, idx', s7⟩ | ⟨e, s0, s1, s2, s3, s5, s6, s8, idx', s7⟩
              · rcases c3 with ⟨y1, y2, y3, y4, rfl⟩ | ⟨y1, y2, y4, rfl⟩ | ⟨e, y0, y1, y2, y4, rfl⟩
                · refine ⟨y4.trans s2.symm, ⟨_, y4⟩, 0, whole, wl, w.1, w.2.1, w.2.2, sn, ids, ps, w2.1, bs, w2.2.1, w2.2.2.1, wh, by omega, rfl, ?_, ht, ⟨idx', s7⟩, hwl, hwh⟩
                  rw [s5]
                  simp only [s6]
                · rcases y2 with y2 | y2
                  · exact absurd g4 (y2 kh g3)
                  · omega
                · rw [s1] at y2; cases y2
              · rcases c3 with ⟨y1, y2, y3, y4, rfl⟩ | ⟨y1, y2, y4, rfl⟩ | ⟨e, y0, y1, y2, y4, rfl⟩
                · omega
                · refine ⟨y4.trans s2.symm, ⟨_, y4⟩, 0, whole, wl, w.1, w.2.1, w.2.2, sn, ids, ps, w2.1, bs, w2.2.1, w2.2.2.1, wh, by omega, rfl, ?_, ht, ⟨idx', s7⟩, hwl, hwh⟩
                  rw [s5]
                  simp only [s6]
                · rw [s1] at y2; cases y2
              · rcases c3 with ⟨y1, -⟩ | ⟨y1, -⟩ | ⟨e', y0, y1, y2, y4, rfl⟩
                · rw [s2] at y1; cases y1
                · rw [s2] at y1; cases y1
                · have e5 : e = e' := (nI_eq (by omega) (by omega)).mp (s1.symm.trans y1)
                  subst e5
                  refine ⟨y4.trans s3.symm, ⟨_, y4⟩, 0, _, nI e, w.1, w.2.1, w.2.2, sn, ids, ps, w2.1, bs, w2.2.1, w2.2.2.1, w2.2.2.2.1, by omega, rfl, ?_, ht, ⟨idx', s7⟩, Or.inr ⟨e, s0, rfl⟩, ?_⟩
                  · rw [s5]
                    simp only [s6]
                  · intro e9 j k1 k2 k3
                    have e6 : e = e9 := (nI_eq (by omega) (by omega)).mp k2
                    subst e6
                    unfold lo
                    rw [if_pos k3]
                    exact s8 j k3
            · exact absurd q3 (g2 q (by omega))
          · have hno : ∀ j, j < sz → ¬ keyOf (M j) fr id pr := fun j j1 j2 => by
              obtain ⟨i, i1, -, i2⟩ := key2 j j1 j2
              exact d3 i i1 i2
            obtain ⟨kh, g1, g2, ⟨g3, g4, g5⟩ | ⟨g3, g5⟩⟩ := c2
            · exact absurd g4 (hno kh g3)
            · subst g3
              have hrc2 := rc_new hrc d1 d2 hno (show t < 2 ^ 31 by omega)
              have hget : (idx ++ [k])[kh]? = some k := by
                rw [List.getElem?_append_right (by rw [hrc.1]; omega), hrc.1, Nat.sub_self]
                rfl
              have hgood : ¬ addBad (va_up M kh (mkBegin (M kh) fr id pr (nI t)) kh) (nI (8 * o + n)) last := by
                rw [va_up_self]
                rintro (⟨-, z, -⟩ | ⟨z, -⟩ | ⟨-, z⟩)
                · exact z nI_m1lt
                · exact z nI_m1lt
                · exact absurd z (nI_nlt (by omega) (by omega))
              rcases tail_sim hrc2 hget hlen hn0 g5 d4 with ⟨s1, s2, s3, s4, s5, s6, idx', s7⟩ | ⟨s1, s2, s4, s5, s6, idx', s7⟩ | ⟨e, s0, s1, s2, s3, s5, s6, s8, idx', s7⟩
              · exact absurd s3 hgood
              · rcases c3 with ⟨y1, ⟨y2, y5, y6⟩, y3, y4, rfl⟩ | ⟨y1, y2, y4, rfl⟩ | ⟨e, y0, y1, y2, y4, rfl⟩
                · exact absurd y6 (hno y2 y5)
                · refine ⟨y4.trans s2.symm, ⟨_, y4⟩, 0, whole, wl, w.1, w.2.1, w.2.2, _, _, _, w2.1, _, w2.2.1, w2.2.2.1, wh, by omega, rfl, ?_, ht, ⟨idx', s7⟩, hwl, hwh⟩
                  rw [s5]
                  simp only [s6]
                · rw [s1] at y2; cases y2
              · rcases c3 with ⟨y1, -⟩ | ⟨y1, -⟩ | ⟨e', y0, y1, y2, y4, rfl⟩
                · rw [s2] at y1; cases y1
                · rw [s2] at y1; cases y1
                · have e5 : e = e' := (nI_eq (by omega) (by omega)).mp (s1.symm.trans y1)
                  subst e5
                  refine ⟨y4.trans s3.symm, ⟨_, y4⟩, 0, _, nI e, w.1, w.2.1, w.2.2, _, _, _, w2.1, _, w2.2.1, w2.2.2.1, w2.2.2.2.1, by omega, rfl, ?_, ht, ⟨idx', s7⟩, Or.inr ⟨e, s0, rfl⟩, ?_⟩
                  · rw [s5]
                    simp only [s6]
                  · intro e9 j k1 k2 k3
                    have e6 : e = e9 := (nI_eq (by omega) (by omega)).mp k2
                    subst e6
                    unfold lo
                    rw [if_pos k3]
                    exact s8 j k3
end
section
/-! the tray: both sides put the same bytes in; the clock (bt, s_l, s_u, b_ushr, b_sshr: rows of the kit, BITS.to-paste) -/
def bt (x : Int32) (i : Nat) : Bool := x.toBitVec.getLsbD i
theorem s_l : ∀ n, n < 32 → ((nI n &&& 31).toBitVec.smod 32).toNat = n := by decide +kernel
theorem s_u : ∀ n, n < 32 → (((nI n).toUInt32 &&& Int32.toUInt32 31).toBitVec % 32).toNat = n := by decide +kernel
theorem b_ushr (n : Nat) (hn : n < 32) (x : Int32) (i : Nat) : bt ((x.toUInt32 >>> ((nI n).toUInt32 &&& Int32.toUInt32 31)).toInt32) i = bt x (n + i) := by
  show (x.toUInt32 >>> ((nI n).toUInt32 &&& Int32.toUInt32 31)).toBitVec.getLsbD i = x.toUInt32.toBitVec.getLsbD (n + i)
  rw [UInt32.toBitVec_shiftRight]
  show (x.toUInt32.toBitVec >>> (((nI n).toUInt32 &&& Int32.toUInt32 31).toBitVec % 32).toNat).getLsbD i = _
  rw [s_u n hn, BitVec.getLsbD_ushiftRight]
theorem b_sshr (n : Nat) (hn : n < 32) (x : Int32) {i : Nat} (hi : i < 32) : bt (x >>> (nI n &&& 31)) i = if n + i < 32 then bt x (n + i) else bt x 31 := by
  unfold bt
  rw [Int32.toBitVec_shiftRight]
  show (x.toBitVec.sshiftRight ((nI n &&& 31).toBitVec.smod 32).toNat).getLsbD i = _
  rw [s_l n hn, BitVec.getLsbD_sshiftRight, BitVec.msb_eq_getLsbD_last]
  simp [hi]
theorem nb_ext {x y : Int32} (h : ∀ i, i < 8 → bt x i = bt y i) : nb x = nb y := by
  unfold nb
  congr 1
  apply Int8.toBitVec_inj.mp
  rw [Int32.toBitVec_toInt8, Int32.toBitVec_toInt8]
  apply BitVec.eq_of_getLsbD_eq
  intro i hi
  rw [BitVec.getLsbD_signExtend, BitVec.getLsbD_signExtend, if_pos (by omega), if_pos (by omega)]
  have := h i hi
  unfold bt at this
  rw [this]
theorem wv0 (v : Int32) : nb ((v.toUInt32 >>> ((nI 16 : Int32).toUInt32 &&& Int32.toUInt32 31)).toInt32 >>> (nI 8 &&& 31)) = wv v 0 := by
  unfold wv
  rw [show nI 24 - nI (8 * 0) = nI 24 by decide +kernel]
  refine nb_ext fun i hi => ?_
  rw [b_sshr 8 (by omega) _ (by omega), if_pos (by omega), b_ushr 16 (by omega), b_sshr 24 (by omega) _ (by omega), if_pos (by omega)]
  congr 1
  omega
theorem wv1 (v : Int32) : nb (v.toUInt32 >>> ((nI 16 : Int32).toUInt32 &&& Int32.toUInt32 31)).toInt32 = wv v 1 := by
  unfold wv
  rw [show nI 24 - nI (8 * 1) = nI 16 by decide +kernel]
  refine nb_ext fun i hi => ?_
  rw [b_ushr 16 (by omega), b_sshr 16 (by omega) _ (by omega), if_pos (by omega)]
theorem wv2 (v : Int32) : nb (v >>> (nI 8 &&& 31)) = wv v 2 := by
  unfold wv
  rw [show nI 24 - nI (8 * 2) = nI 8 by decide +kernel]
theorem wv3 (v : Int32) : nb v = wv v 3 := by
  unfold wv
  rw [show nI 24 - nI (8 * 3) = nI 0 by decide +kernel]
  refine nb_ext fun i hi => ?_
  rw [b_sshr 0 (by omega) _ (by omega), if_pos (by omega), Nat.zero_add]
theorem four_word (f : Fn) (a : Nat) (v : Int32) : four f a v = wordT f a v := by
  unfold four two wordT
  rw [wv0, wv1, wv2, wv3]
  have e0 := seg_s a 0 (wv v) f
  have e1 := seg_s a 1 (wv v) f
  have e2 := seg_s a 2 (wv v) f
  have e3 := seg_s a 3 (wv v) f
  rw [seg_0, Nat.add_zero] at e0
  rw [e0, e1, show a + 2 + 1 = a + 3 from rfl, e2, e3]
theorem feed_same (f : Fn) (n : Nat) (a b c d e : Int32) : feedT f n a b c d e = feedM f n a b c d e := by
  unfold feedT feedM
  rw [four_word, four_word, four_word, four_word, four_word]
/-- a list of which the first c pass a test, and no other -/
theorem filter_take (p : Nat → Bool) : ∀ (l : List Nat) (c : Nat), (∀ k i, l[k]? = some i → (k < c ↔ p i = true)) → l.filter p = l.take c ∧ l.filter (fun i => !p i) = l.drop c
  | [], c, _ => by simp
  | a :: l, 0, h => by
    have h0 : p a = false := by
      have := h 0 a rfl
      cases hp : p a
      · rfl
      · rw [hp] at this; simp at this
    obtain ⟨r1, r2⟩ := filter_take p l 0 (fun k i hk => by
      have := h (k + 1) i hk
      constructor
      · intro z; omega
      · intro z; have := this.mpr z; omega)
    rw [List.filter_cons, List.filter_cons, h0, r1, r2]
    simp
  | a :: l, c + 1, h => by
    have h0 : p a = true := (h 0 a rfl).mp (by omega)
    obtain ⟨r1, r2⟩ := filter_take p l c (fun k i hk => by
      have := h (k + 1) i hk
      rw [← this]
      omega)
    rw [List.filter_cons, List.filter_cons, h0, r1, r2]
    simp
theorem pass_sim {t c : Nat} {whole : Fn} {wl : Int32} {sz : Nat} {M M' : Nat → Mk} {sn ids ps es bs th by_ wh : Fn} {tt : Int32} (h : Rel t whole wl sz M sn ids ps es bs th by_ wh) (h1 : ¬ tt < nI t) (h2 : tt ≤ nI 2000000000) (hc : c ≤ sz) (h3 : ∀ j, j + c < sz → M' j = M (j + c)) (h4 : ∀ j, j < c → kSi (M j) + nI 15000 ≤ tt) (h5 : c < sz → ¬ (kSi (M c) + nI 15000 ≤ tt)) :
    cnt (isX th bs tt) 4 = c ∧ ∃ t', tt = nI t' ∧ t ≤ t' ∧ Rel t' whole wl (sz - c) M' sn ids ps es bs (thP th bs tt 4) by_ wh := by
  obtain ⟨ht, ⟨idx, hrc⟩, hwl, hwh⟩ := (fun z => z) h
  obtain ⟨g1, g2, g3, g4, g5, g6, g7, g8⟩ := (fun z => z) hrc
  obtain ⟨t', ht', rfl⟩ : ∃ t', t' ≤ 2000000000 ∧ tt = nI t' := by
    refine nI_of2 (n := 2000000000) (nI_toInt (by decide)) (fun z => h1 ?_) h2
    exact Int32.lt_of_lt_of_le z (nI_pos' (by omega))
  have htt : t ≤ t' := by
    rcases Nat.lt_or_ge t' t with z | z
    · exact absurd (nI_lt z (by omega)) h1
    · exact z
  -- the two ways to say that a datagram's time is over
  have hX : ∀ k i, idx[k]? = some i → (isX th bs (nI t') i = true ↔ kSi (M k) + nI 15000 ≤ nI t') := by
    intro k i hk
    obtain ⟨l1, l2, l3⟩ := rc_lt hrc hk
    obtain ⟨s0, hs, e⟩ := g6 k l1
    have hb : bs i = nI s0 := by rw [(g4 k i hk).1.2.2.2.2.1, e]
    unfold isX
    rw [decide_eq_true_iff, hb, e, nI_add, pk_sub (by omega), nI_leI (by omega) (by omega), nI_leI (by omega) (by omega)]
    constructor
    · intro z; omega
    · intro z; exact ⟨l3, by omega⟩
  have hlt : ∀ k i, idx[k]? = some i → (k < c ↔ isX th bs (nI t') i = true) := by
    intro k i hk
    rw [hX k i hk]
    obtain ⟨l1, l2, l3⟩ := rc_lt hrc hk
    constructor
    · intro z; exact h4 k z
    · intro z
      rcases Nat.lt_or_ge k c with y | y
      · exact y
      · exfalso
        refine h5 (by omega) ?_
        obtain ⟨s0, hs, e⟩ := g6 c (by omega)
        obtain ⟨s1, hs1, e1⟩ := g6 k l1
        have := g7 c k y l1
        rw [e, e1, nI_leI (by omega) (by omega)] at this
        rw [e1, nI_add, nI_leI (by omega) (by omega)] at z
        rw [e, nI_add, nI_leI (by omega) (by omega)]
        omega
  obtain ⟨f1, f2⟩ := filter_take (isX th bs (nI t')) idx c hlt
  have hperm := rc_perm hrc
  refine ⟨?_, t', rfl, htt, ht', ⟨idx.drop c, ?_⟩, hwl, hwh⟩
  · rw [cnt_filter]
    have e : (List.range 4).filter (isX th bs (nI t')) = ((List.range 4).filter (isT th)).filter (isX th bs (nI t')) := by
      rw [List.filter_filter]
      congr 1
      funext i
      unfold isX isT
      by_cases z : th i = 0 <;> simp [z]
    rw [e, ← (hperm.filter (isX th bs (nI t'))).length_eq, f1, List.length_take, g1]
    omega
  · have hth : ∀ i, i < 4 → (¬ thP th bs (nI t') 4 i = 0 ↔ (¬ th i = 0 ∧ ¬ isX th bs (nI t') i = true)) := by
      intro i hi
      unfold thP
      by_cases z : isX th bs (nI t') i = true
      · rw [if_pos ⟨hi, z⟩]
        exact ⟨fun q => absurd rfl q, fun q => absurd z q.2⟩
      · rw [if_neg (fun q => z q.2)]
        exact ⟨fun q => ⟨q, z⟩, fun q => q.1⟩
    have hg : ∀ k i, (idx.drop c)[k]? = some i → idx[k + c]? = some i := by
      intro k i hk
      rw [List.getElem?_drop] at hk
      rw [Nat.add_comm]
      exact hk
    have hs : ∀ k, k < sz - c → M' k = M (k + c) := fun k hk => h3 k (by omega)
    refine ⟨by rw [List.length_drop, g1], ?_, ?_, ?_, ?_, ?_, ?_, g8⟩
    · rw [← f2]
      exact List.Pairwise.filter _ g2
    · intro i
      rw [← f2, List.mem_filter, g3 i]
      constructor
      · rintro ⟨⟨q1, q2⟩, q3⟩
        exact ⟨q1, (hth i q1).mpr ⟨q2, by simpa using q3⟩⟩
      · rintro ⟨q1, q2⟩
        have := (hth i q1).mp q2
        exact ⟨⟨q1, this.1⟩, by simpa using this.2⟩
    · intro k i hk
      have := hg k i hk
      rw [hs k (by have := (rc_lt hrc this).1; omega)]
      exact g4 _ i this
    · intro k k' hk hk' hkey
      rw [hs k hk, hs k' hk'] at hkey
      have := g5 _ _ (by omega) (by omega) hkey
      omega
    · intro k hk
      rw [hs k hk]
      obtain ⟨s0, hs0, e⟩ := g6 (k + c) (by omega)
      exact ⟨s0, by omega, e⟩
    · intro k k' hk hk'
      rw [hs k (by omega), hs k' hk']
      exact g7 _ _ (by omega) (by omega)
/-- at the start: nothing is there -/
theorem rel_start (M : Nat → Mk) (whole sn ids ps bs by_ wh : Fn) : Rel 0 whole (-1) 0 M sn ids ps (fun _ => 0) bs (fun _ => 0) by_ wh := by
  refine ⟨by omega, ⟨[], rfl, List.nodup_nil, fun i => ?_, fun k i hk => by simp at hk, fun k k' hk => by omega, fun k hk => by omega, fun k k' _ hk => by omega, fun k _ => Or.inr ⟨0, by omega, rfl⟩⟩, Or.inl rfl, fun e j he h => absurd h.symm (nI_m1 he)⟩
  constructor
  · intro q; cases q
  · rintro ⟨-, q⟩; exact absurd rfl q
end
section
/-! Net: putTwo, putFour, copy -/
set_option maxHeartbeats 4000000 in
set_option maxRecDepth 100000 in
/-- Net.putTwo -/
theorem m_putTwo (l : Launch) (D : va_G) (cB cZ cR cI : ClassId) (b N a : Nat) (f : Nat → Int32) (v : Int32) (hN : N < 2 ^ 31) (ha : a + 2 ≤ N) : MM l yX4_putTwo cX4_putTwo 3 none { frames := 0, cells := 0, slots := 0, locals := 0 } D (tyS cB cZ cR cI) [.ref b, .int (nI a), .int v] [(b, .inl (cB, N, .inl f))] (S := Unit) (fun r u => r = none) (fun _ => tyS cB cZ cR cI) (fun u => [(b, .inl (cB, N, .inl (two f a v)))]) := by
  refine MM_of (by decide) (Nat.le_of_ble_eq_true rfl) ?_
  intro p e s m below meth c A ls R Q args hRm hQ hx hb hr hlk hml hown hts hin hK hE hA hP hD hS hl
  have hown : s.vm.findClass "FragmentHouse$Net" = some m.cls := hown
  replace hl : lv_has ls 3 [(0, .ref b), (1, .int (nI a)), (2, .int v)] := hl
  replace hP : va_P D vwCl [(b, .inl (cB, N, .inl f))] s.heap := hP
  replace hD : va_D A [(b, .inl (cB, N, .inl f))] := hD
  refine lv_aload_n hx hb dX4_putTwo_0 rfl (lv_at hl 0 rfl) ?_
  refine lv_iload_n hx hb dX4_putTwo_1 rfl (lv_at hl 1 rfl) ?_
  refine lv_iload_n hx hb dX4_putTwo_2 rfl (lv_at hl 2 rfl) ?_
  refine lv_bipush (v := nI 8) hx hb dX4_putTwo_3 (by decide +kernel) ?_
  refine lv_ishr hx hb dX4_putTwo_5 ?_
  refine lv_i2b (v := nb (v >>> ((nI 8) &&& 31))) hx hb dX4_putTwo_6 rfl ?_
  refine ab_bast (y := nb (v >>> ((nI 8) &&& 31))) hx hb hK hP hD hS 0 0 rfl rfl a (rfl) (by omega) hN (nb_nb _) dX4_putTwo_7 (fun H locs hP hD hS => ?_)
  have hP : va_P D vwCl [(b, .inl (cB, N, .inl (upd f a (nb (v >>> ((nI 8) &&& 31))))))] H := hP
  have hD : va_D A [(b, .inl (cB, N, .inl (upd f a (nb (v >>> ((nI 8) &&& 31))))))] := hD
  refine lv_aload_n hx hb dX4_putTwo_8 rfl (lv_at hl 0 rfl) ?_
  refine lv_iload_n hx hb dX4_putTwo_9 rfl (lv_at hl 1 rfl) ?_
  refine lv_iconst (v := nI 1) hx hb dX4_putTwo_10 (by decide +kernel) ?_
  refine lv_iadd hx hb dX4_putTwo_11 ?_
  refine lv_as (y := nI (a + 1)) (nI_add _ _) ?_
  refine lv_iload_n hx hb dX4_putTwo_12 rfl (lv_at hl 2 rfl) ?_
  refine lv_i2b (v := nb v) hx hb dX4_putTwo_13 rfl ?_
  refine ab_bast (y := nb v) hx hb hK hP hD hS 0 0 rfl rfl (a + 1) (rfl) (by omega) hN (nb_nb _) dX4_putTwo_14 (fun H locs hP hD hS => ?_)
  have hP : va_P D vwCl [(b, .inl (cB, N, .inl (upd (upd f a (nb (v >>> ((nI 8) &&& 31)))) (a + 1) (nb v))))] H := hP
  have hD : va_D A [(b, .inl (cB, N, .inl (upd (upd f a (nb (v >>> ((nI 8) &&& 31)))) (a + 1) (nb v))))] := hD
  exact ret_v hx hb hr hlk hQ (Nat.le_refl _) (Nat.le_refl _) () rfl hK hP hD hS dX4_putTwo_15
set_option maxHeartbeats 4000000 in
set_option maxRecDepth 100000 in
/-- Net.putFour -/
theorem m_putFour (l : Launch) (D : va_G) (cB cZ cR cI : ClassId) (b N a : Nat) (f : Nat → Int32) (v : Int32) (hN : N < 2 ^ 31) (ha : a + 4 ≤ N) : MM l yX4_putFour cX4_putFour 3 none { frames := 1, cells := 0, slots := 0, locals := 22 } D (tyS cB cZ cR cI) [.ref b, .int (nI a), .int v] [(b, .inl (cB, N, .inl f))] (S := Unit) (fun r u => r = none) (fun _ => tyS cB cZ cR cI) (fun u => [(b, .inl (cB, N, .inl (four f a v)))]) := by
  refine MM_of (by decide) (Nat.le_of_ble_eq_true rfl) ?_
  intro p e s m below meth c A ls R Q args hRm hQ hx hb hr hlk hml hown hts hin hK hE hA hP hD hS hl
  have hown : s.vm.findClass "FragmentHouse$Net" = some m.cls := hown
  replace hl : lv_has ls 3 [(0, .ref b), (1, .int (nI a)), (2, .int v)] := hl
  replace hP : va_P D vwCl [(b, .inl (cB, N, .inl f))] s.heap := hP
  replace hD : va_D A [(b, .inl (cB, N, .inl f))] := hD
  refine lv_aload_n hx hb dX4_putFour_0 rfl (lv_at hl 0 rfl) ?_
  refine lv_iload_n hx hb dX4_putFour_1 rfl (lv_at hl 1 rfl) ?_
  refine lv_iload_n hx hb dX4_putFour_2 rfl (lv_at hl 2 rfl) ?_
  refine lv_bipush (v := nI 16) hx hb dX4_putFour_3 (by decide +kernel) ?_
  refine lv_iushr (v := (v.toUInt32 >>> ((nI 16 : Int32).toUInt32 &&& Int32.toUInt32 31)).toInt32) hx hb dX4_putFour_5 rfl ?_
  refine call_S (nA := 3) (rest := []) ([]) [.ref b, .int (nI a), .int ((v.toUInt32 >>> ((nI 16 : Int32).toUInt32 &&& Int32.toUInt32 31)).toInt32)] ⟨hx, hb, hml, hown, hts⟩ (m_putTwo l D cB cZ cR cI b N a f ((v.toUInt32 >>> ((nI 16 : Int32).toUInt32 &&& Int32.toUInt32 31)).toInt32) hN (by omega)) (lw_S q108 q109 q10 q110) (by decide +kernel) rfl (by subst hRm; exact ⟨by decide, by decide⟩) hK hE hP hD hS hA hl.1 rfl (Nat.le_of_ble_eq_true rfl) dX4_putFour_6 (by subst hRm; exact ⟨by decide, by decide⟩) (fun v u H locs hv hKu hP hD hS => ?_)
  obtain rfl : v = none := hv
  refine W.eq (g2 := F0 m 9 ls []) rfl ?_
  refine W.cs (cells' := 0) (slots' := 0) rfl rfl ?_
  have hP : va_P D vwCl [(b, .inl (cB, N, .inl (two f a ((v.toUInt32 >>> ((nI 16 : Int32).toUInt32 &&& Int32.toUInt32 31)).toInt32))))] H := hP
  have hD : va_D A [(b, .inl (cB, N, .inl (two f a ((v.toUInt32 >>> ((nI 16 : Int32).toUInt32 &&& Int32.toUInt32 31)).toInt32))))] := hD
  refine lv_aload_n hx hb dX4_putFour_9 rfl (lv_at hl 0 rfl) ?_
  refine lv_iload_n hx hb dX4_putFour_10 rfl (lv_at hl 1 rfl) ?_
  refine lv_iconst (v := nI 2) hx hb dX4_putFour_11 (by decide +kernel) ?_
  refine lv_iadd hx hb dX4_putFour_12 ?_
  refine lv_as (y := nI (a + 2)) (nI_add _ _) ?_
  refine lv_iload_n hx hb dX4_putFour_13 rfl (lv_at hl 2 rfl) ?_
  refine call_S (nA := 3) (rest := []) ([]) [.ref b, .int (nI (a + 2)), .int v] ⟨hx, hb, hml, hown, hts⟩ (m_putTwo l D cB cZ cR cI b N (a + 2) (two f a ((v.toUInt32 >>> ((nI 16 : Int32).toUInt32 &&& Int32.toUInt32 31)).toInt32)) v hN (by omega)) (lw_S q108 q109 q10 q110) (by decide +kernel) rfl (by subst hRm; exact ⟨by decide, by decide⟩) hK hE hP hD hS hA hl.1 rfl (Nat.le_of_ble_eq_true rfl) dX4_putFour_14 (by subst hRm; exact ⟨by decide, by decide⟩) (fun v u H locs hv hKu hP hD hS => ?_)
  obtain rfl : v = none := hv
  refine W.eq (g2 := F0 m 17 ls []) rfl ?_
  refine W.cs (cells' := 0) (slots' := 0) rfl rfl ?_
  have hP : va_P D vwCl [(b, .inl (cB, N, .inl (four f a v)))] H := hP
  have hD : va_D A [(b, .inl (cB, N, .inl (four f a v)))] := hD
  exact ret_v hx hb hr hlk hQ (Nat.le_refl _) (Nat.le_refl _) () rfl hK hP hD hS dX4_putFour_17
set_option maxHeartbeats 4000000 in
set_option maxRecDepth 100000 in
/-- Net.copy from 0 to 0 -/
theorem m_copy (l : Launch) (D : va_G) (cB cZ cR cI : ClassId) (b t N1 N2 n : Nat) (f g : Nat → Int32) (hN1 : N1 < 2 ^ 31) (hN2 : N2 < 2 ^ 31) (h1 : n ≤ N1) (h2 : n ≤ N2) : MM l yX4_copy cX4_copy 6 none { frames := 0, cells := 0, slots := 0, locals := 0 } D (tyS cB cZ cR cI) [.ref b, .int (nI 0), .ref t, .int (nI 0), .int (nI n)] [(b, .inl (cB, N1, .inl f)), (t, .inl (cB, N2, .inl g))] (S := Unit) (fun r u => r = none) (fun _ => tyS cB cZ cR cI) (fun u => [(b, .inl (cB, N1, .inl f)), (t, .inl (cB, N2, .inl (lo n (fun j => nb (f j)) g)))]) := by
  refine MM_of (by decide) (Nat.le_of_ble_eq_true rfl) ?_
  intro p e s m below meth c A ls R Q args hRm hQ hx hb hr hlk hml hown hts hin hK hE hA hP hD hS hl
  have hown : s.vm.findClass "FragmentHouse$Net" = some m.cls := hown
  replace hl : lv_has ls 6 [(0, .ref b), (1, .int (nI 0)), (2, .ref t), (3, .int (nI 0)), (4, .int (nI n))] := hl
  replace hP : va_P D vwCl [(b, .inl (cB, N1, .inl f)), (t, .inl (cB, N2, .inl g))] s.heap := hP
  replace hD : va_D A [(b, .inl (cB, N1, .inl f)), (t, .inl (cB, N2, .inl g))] := hD
  refine lv_iconst (v := nI 0) hx hb dX4_copy_0 (by decide +kernel) ?_
  refine lv_istore (lv' := [(5, .int (nI 0)), (0, .ref b), (1, .int (nI 0)), (2, .ref t), (3, .int (nI 0)), (4, .int (nI n))]) hx hb dX4_copy_1 hl (by decide) rfl (fun ls hl => ?_)
  have loop : ∀ (d i : Nat) (H : Heap) (locs : List Loc) (ls : Array Slot), i ≤ n → n + 1 ≤ i + d → va_P D vwCl [(b, .inl (cB, N1, .inl f)), (t, .inl (cB, N2, .inl (lo i (fun j => nb (f j)) g)))] H → va_D A [(b, .inl (cB, N1, .inl f)), (t, .inl (cB, N2, .inl (lo i (fun j => nb (f j)) g)))] → va_S A s.heap H locs → lv_has ls 6 [(0, .ref b), (1, .int (nI 0)), (2, .ref t), (3, .int (nI 0)), (4, .int (nI n)), (5, .int (nI i))] → W p l e R s m args below meth c H locs 0 0 Q (F0 m 3 ls []) := by
    intro d
    induction d with
    | zero => intro i H locs ls q1 q2; exact absurd q2 (by omega)
    | succ d ih =>
      intro i H locs ls q1 q2 hP hD hS hl
      refine lv_iload hx hb dX4_copy_3 (lv_at hl 5 rfl) ?_
      refine lv_iload hx hb dX4_copy_5 (lv_at hl 4 rfl) ?_
      refine lv_icmp_ge (tgt := 28) hx hb dX4_copy_7 (by decide) (fun c1 => ?_) (fun c1 => ?_)
      · skip
        have c1 : n ≤ i := (nI_leI (by omega) (by omega)).mp c1
        obtain rfl : i = n := by omega
        exact ret_v hx hb hr hlk hQ (Nat.le_refl _) (Nat.le_refl _) () rfl hK hP hD hS dX4_copy_28
      · skip
        have c1 : ¬ (n ≤ i) := fun h => c1 ((nI_leI (by omega) (by omega)).mpr h)
        refine lv_aload_n hx hb dX4_copy_10 rfl (lv_at hl 2 rfl) ?_
        refine lv_iload_n hx hb dX4_copy_11 rfl (lv_at hl 3 rfl) ?_
        refine lv_iload hx hb dX4_copy_12 (lv_at hl 5 rfl) ?_
        refine lv_iadd hx hb dX4_copy_14 ?_
        refine lv_as (y := nI (0 + i)) (nI_add _ _) ?_
        refine lv_aload_n hx hb dX4_copy_15 rfl (lv_at hl 0 rfl) ?_
        refine lv_iload_n hx hb dX4_copy_16 rfl (lv_at hl 1 rfl) ?_
        refine lv_iload hx hb dX4_copy_17 (lv_at hl 5 rfl) ?_
        refine lv_iadd hx hb dX4_copy_19 ?_
        refine lv_as (y := nI (0 + i)) (nI_add _ _) ?_
        refine ab_bald hx hb hK hP 0 0 rfl rfl (0 + i) (rfl) (by omega) hN1 dX4_copy_20 ?_
        refine ab_bast (y := nb (f (0 + i))) hx hb hK hP hD hS 1 0 rfl rfl (0 + i) (rfl) (by omega) hN2 (rfl) dX4_copy_21 (fun H locs hP hD hS => ?_)
        have hP : va_P D vwCl [(b, .inl (cB, N1, .inl f)), (t, .inl (cB, N2, .inl (upd (lo i (fun j => nb (f j)) g) (0 + i) (nb (f (0 + i))))))] H := hP
        have hD : va_D A [(b, .inl (cB, N1, .inl f)), (t, .inl (cB, N2, .inl (upd (lo i (fun j => nb (f j)) g) (0 + i) (nb (f (0 + i))))))] := hD
        rw [show (0 + i) = i from Nat.zero_add i] at hP hD
        rw [lo_s i (fun j => nb (f j)) g] at hP hD
        refine lv_iinc (v := nI (i + 1)) (lv' := [(5, .int (nI (i + 1))), (0, .ref b), (1, .int (nI 0)), (2, .ref t), (3, .int (nI 0)), (4, .int (nI n))]) hx hb dX4_copy_22 hl (k := 5) rfl (nI_inc1 _) (by decide) rfl (fun ls hl => ?_)
        refine lv_goto (tgt := 3) hx hb dX4_copy_25 (by decide) ?_
        exact ih (i + 1) H locs ls (by omega) (by omega) hP hD hS (lv_sub hl [1, 2, 3, 4, 5, 0] rfl)
  rw [← lo_0 (fun j => nb (f j)) g] at hP hD
  exact loop (n + 1) 0 _ _ ls (by omega) (by omega) hP hD hS (lv_sub hl [1, 2, 3, 4, 5, 0] rfl)
end
section
/-! Making: its constructor, begin, add, isWhole -/
set_option maxHeartbeats 4000000 in
set_option maxRecDepth 100000 in
/-- Making() -/
theorem m_mkInit (l : Launch) (D : va_G) (a : Nat) : MM l yX2_init cX2_init 1 none { frames := 1, cells := 2, slots := 8192, locals := 12 } D [] [.ref a] [(a, .inr (2, [.int 0, .int 0, .int 0, .int 0, .null, .null, .int 0, .int 0]))] (S := (Nat × Nat × ClassId × ClassId)) (fun r u => r = none) (fun u => [(u.2.2.1, .byte), (u.2.2.2, .boolean)]) (fun u => mkw u.2.2.1 u.2.2.2 ((a, u.1, u.2.1), 0, 0, 0, 0, 0, 0, (fun _ => 0), (fun _ => 0))) := by
  refine MM_of (by decide) (Nat.le_of_ble_eq_true rfl) ?_
  intro p e s m below meth c A ls R Q args hRm hQ hx hb hr hlk hml hown hts hin hK hE hA hP hD hS hl
  have hown : s.vm.findClass "FragmentHouse$Making" = some m.cls := hown
  have hin : meth.name = "<init>" := hin
  replace hl : lv_has ls 1 [(0, .ref a)] := hl
  replace hP : va_P D vwCl [(a, .inr (2, [.int 0, .int 0, .int 0, .int 0, .null, .null, .int 0, .int 0]))] s.heap := hP
  replace hD : va_D A [(a, .inr (2, [.int 0, .int 0, .int 0, .int 0, .null, .null, .int 0, .int 0]))] := hD
  refine lv_aload_n hx hb dX2_init_0 rfl (lv_at hl 0 rfl) ?_
  refine W.objInit hx hb hown (hts _ q32) (hts _ q18) (hts _ q19) rfl (by rw [hml]; exact hl.1) rfl dX2_init_1 (by subst hRm; decide) (by subst hRm; exact Nat.le_of_ble_eq_true rfl) ?_
  refine W.eq (g2 := F0 m 4 ls []) rfl ?_
  refine lv_aload_n hx hb dX2_init_4 rfl (lv_at hl 0 rfl) ?_
  refine lv_sipush (v := nI 4096) hx hb dX2_init_5 (by decide +kernel) ?_
  refine va_newa (atype := .byte) (ty := .byte) (a0 := (4096, .inl (fun _ => 0))) (N' := 4096) hx hb (hts _ q64) rfl hK hP hD hS hA (fun _ => rfl) (nI_pos (by decide)) (nI_clamp (by decide)) (by decide) (by subst hRm; decide) (by subst hRm; decide) dX2_init_8 (fun b cB H hK hP hD hS => ?_)
  refine W.cs (cells' := 1) (slots' := 4096) rfl rfl ?_
  have hP : va_P D vwCl [(a, .inr (2, [.int 0, .int 0, .int 0, .int 0, .null, .null, .int 0, .int 0])), (b, .inl (cB, 4096, .inl (fun _ => 0)))] H := hP
  have hD : va_D A [(a, .inr (2, [.int 0, .int 0, .int 0, .int 0, .null, .null, .int 0, .int 0])), (b, .inl (cB, 4096, .inl (fun _ => 0)))] := hD
  refine va_putF (D := D) (ci := 2) (v := .ref b) (ty := .array .byte) (C := RX2) (T := TX2) (N := 8) hx hb hts in_X2 tyX2 tyX2_ok nmX2 hown hK hP hD hS 0 rfl rfl 4 (by decide) (hts _ q41) (fun _ h9 => h9) rfl hin rfl (by decide +kernel) rfl rfl (Nat.le_of_ble_eq_true rfl) dX2_init_10 (fun H locs hP hD hS => ?_)
  have hP : va_P D vwCl [(a, .inr (2, [.int 0, .int 0, .int 0, .int 0, .ref b, .null, .int 0, .int 0])), (b, .inl (cB, 4096, .inl (fun _ => 0)))] H := hP
  have hD : va_D A [(a, .inr (2, [.int 0, .int 0, .int 0, .int 0, .ref b, .null, .int 0, .int 0])), (b, .inl (cB, 4096, .inl (fun _ => 0)))] := hD
  refine lv_aload_n hx hb dX2_init_13 rfl (lv_at hl 0 rfl) ?_
  refine lv_sipush (v := nI 4096) hx hb dX2_init_14 (by decide +kernel) ?_
  refine va_newa (atype := .boolean) (ty := .boolean) (a0 := (4096, .inl (fun _ => 0))) (N' := 4096) hx hb (hts _ q65) rfl hK hP hD hS hA (fun _ => rfl) (nI_pos (by decide)) (nI_clamp (by decide)) (by decide) (by subst hRm; decide) (by subst hRm; decide) dX2_init_17 (fun t cZ H hK hP hD hS => ?_)
  refine W.cs (cells' := 2) (slots' := 8192) rfl rfl ?_
  have hP : va_P D vwCl [(a, .inr (2, [.int 0, .int 0, .int 0, .int 0, .ref b, .null, .int 0, .int 0])), (b, .inl (cB, 4096, .inl (fun _ => 0))), (t, .inl (cZ, 4096, .inl (fun _ => 0)))] H := hP
  have hD : va_D A [(a, .inr (2, [.int 0, .int 0, .int 0, .int 0, .ref b, .null, .int 0, .int 0])), (b, .inl (cB, 4096, .inl (fun _ => 0))), (t, .inl (cZ, 4096, .inl (fun _ => 0)))] := hD
  refine va_putF (D := D) (ci := 2) (v := .ref t) (ty := .array .boolean) (C := RX2) (T := TX2) (N := 8) hx hb hts in_X2 tyX2 tyX2_ok nmX2 hown hK hP hD hS 0 rfl rfl 5 (by decide) (hts _ q43) (fun _ h9 => h9) rfl hin rfl (by decide +kernel) rfl rfl (Nat.le_of_ble_eq_true rfl) dX2_init_19 (fun H locs hP hD hS => ?_)
  have hP : va_P D vwCl [(a, .inr (2, [.int 0, .int 0, .int 0, .int 0, .ref b, .ref t, .int 0, .int 0])), (b, .inl (cB, 4096, .inl (fun _ => 0))), (t, .inl (cZ, 4096, .inl (fun _ => 0)))] H := hP
  have hD : va_D A [(a, .inr (2, [.int 0, .int 0, .int 0, .int 0, .ref b, .ref t, .int 0, .int 0])), (b, .inl (cB, 4096, .inl (fun _ => 0))), (t, .inl (cZ, 4096, .inl (fun _ => 0)))] := hD
  exact ret_v hx hb hr hlk hQ (Nat.le_refl _) (Nat.le_refl _) (b, t, cB, cZ) rfl hK hP hD hS dX2_init_22
set_option maxHeartbeats 4000000 in
set_option maxRecDepth 100000 in
/-- Making.begin -/
theorem m_mkBegin (l : Launch) (D : va_G) (cB cZ cR cI : ClassId) (x : Mk) (nf ni np nw : Int32) : MM l yX2_begin cX2_begin 6 none { frames := 0, cells := 0, slots := 0, locals := 0 } D (tyS cB cZ cR cI) [.ref (kA x), .int nf, .int ni, .int np, .int nw] (mkw cB cZ x) (S := Unit) (fun r u => r = none) (fun _ => tyS cB cZ cR cI) (fun u => mkw cB cZ (mkBegin x nf ni np nw)) := by
  obtain ⟨⟨a, b, t⟩, fr, id, pr, si, re, en, by_, th⟩ := x
  refine MM_of (by decide) (Nat.le_of_ble_eq_true rfl) ?_
  intro p e s m below meth c A ls R Q args hRm hQ hx hb hr hlk hml hown hts hin hK hE hA hP hD hS hl
  have hown : s.vm.findClass "FragmentHouse$Making" = some m.cls := hown
  replace hl : lv_has ls 6 [(0, .ref a), (1, .int nf), (2, .int ni), (3, .int np), (4, .int nw)] := hl
  replace hP : va_P D vwCl [(a, .inr (2, [.int fr, .int id, .int pr, .int si, .ref b, .ref t, .int re, .int en])), (b, .inl (cB, 4096, .inl by_)), (t, .inl (cZ, 4096, .inl th))] s.heap := hP
  replace hD : va_D A [(a, .inr (2, [.int fr, .int id, .int pr, .int si, .ref b, .ref t, .int re, .int en])), (b, .inl (cB, 4096, .inl by_)), (t, .inl (cZ, 4096, .inl th))] := hD
  refine lv_aload_n hx hb dX2_begin_0 rfl (lv_at hl 0 rfl) ?_
  refine lv_iload_n hx hb dX2_begin_1 rfl (lv_at hl 1 rfl) ?_
  refine va_put (D := D) (ci := 2) (v := .int nf) (ty := .int) (C := RX2) (T := TX2) (N := 8) hx hb hts in_X2 tyX2 tyX2_ok nmX2 hown hK hP hD hS 0 rfl rfl 0 (by decide) (hts _ q33) (fun _ h9 => h9) rfl (by decide +kernel) rfl rfl (Nat.le_of_ble_eq_true rfl) dX2_begin_2 (fun H locs hP hD hS => ?_)
  have hP : va_P D vwCl [(a, .inr (2, [.int nf, .int id, .int pr, .int si, .ref b, .ref t, .int re, .int en])), (b, .inl (cB, 4096, .inl by_)), (t, .inl (cZ, 4096, .inl th))] H := hP
  have hD : va_D A [(a, .inr (2, [.int nf, .int id, .int pr, .int si, .ref b, .ref t, .int re, .int en])), (b, .inl (cB, 4096, .inl by_)), (t, .inl (cZ, 4096, .inl th))] := hD
  refine lv_aload_n hx hb dX2_begin_5 rfl (lv_at hl 0 rfl) ?_
  refine lv_iload_n hx hb dX2_begin_6 rfl (lv_at hl 2 rfl) ?_
  refine va_put (D := D) (ci := 2) (v := .int ni) (ty := .int) (C := RX2) (T := TX2) (N := 8) hx hb hts in_X2 tyX2 tyX2_ok nmX2 hown hK hP hD hS 0 rfl rfl 1 (by decide) (hts _ q35) (fun _ h9 => h9) rfl (by decide +kernel) rfl rfl (Nat.le_of_ble_eq_true rfl) dX2_begin_7 (fun H locs hP hD hS => ?_)
  have hP : va_P D vwCl [(a, .inr (2, [.int nf, .int ni, .int pr, .int si, .ref b, .ref t, .int re, .int en])), (b, .inl (cB, 4096, .inl by_)), (t, .inl (cZ, 4096, .inl th))] H := hP
  have hD : va_D A [(a, .inr (2, [.int nf, .int ni, .int pr, .int si, .ref b, .ref t, .int re, .int en])), (b, .inl (cB, 4096, .inl by_)), (t, .inl (cZ, 4096, .inl th))] := hD
  refine lv_aload_n hx hb dX2_begin_10 rfl (lv_at hl 0 rfl) ?_
  refine lv_iload_n hx hb dX2_begin_11 rfl (lv_at hl 3 rfl) ?_
  refine va_put (D := D) (ci := 2) (v := .int np) (ty := .int) (C := RX2) (T := TX2) (N := 8) hx hb hts in_X2 tyX2 tyX2_ok nmX2 hown hK hP hD hS 0 rfl rfl 2 (by decide) (hts _ q37) (fun _ h9 => h9) rfl (by decide +kernel) rfl rfl (Nat.le_of_ble_eq_true rfl) dX2_begin_12 (fun H locs hP hD hS => ?_)
  have hP : va_P D vwCl [(a, .inr (2, [.int nf, .int ni, .int np, .int si, .ref b, .ref t, .int re, .int en])), (b, .inl (cB, 4096, .inl by_)), (t, .inl (cZ, 4096, .inl th))] H := hP
  have hD : va_D A [(a, .inr (2, [.int nf, .int ni, .int np, .int si, .ref b, .ref t, .int re, .int en])), (b, .inl (cB, 4096, .inl by_)), (t, .inl (cZ, 4096, .inl th))] := hD
  refine lv_aload_n hx hb dX2_begin_15 rfl (lv_at hl 0 rfl) ?_
  refine lv_iload hx hb dX2_begin_16 (lv_at hl 4 rfl) ?_
  refine va_put (D := D) (ci := 2) (v := .int nw) (ty := .int) (C := RX2) (T := TX2) (N := 8) hx hb hts in_X2 tyX2 tyX2_ok nmX2 hown hK hP hD hS 0 rfl rfl 3 (by decide) (hts _ q39) (fun _ h9 => h9) rfl (by decide +kernel) rfl rfl (Nat.le_of_ble_eq_true rfl) dX2_begin_18 (fun H locs hP hD hS => ?_)
  have hP : va_P D vwCl [(a, .inr (2, [.int nf, .int ni, .int np, .int nw, .ref b, .ref t, .int re, .int en])), (b, .inl (cB, 4096, .inl by_)), (t, .inl (cZ, 4096, .inl th))] H := hP
  have hD : va_D A [(a, .inr (2, [.int nf, .int ni, .int np, .int nw, .ref b, .ref t, .int re, .int en])), (b, .inl (cB, 4096, .inl by_)), (t, .inl (cZ, 4096, .inl th))] := hD
  refine lv_aload_n hx hb dX2_begin_21 rfl (lv_at hl 0 rfl) ?_
  refine lv_iconst (v := nI 0) hx hb dX2_begin_22 (by decide +kernel) ?_
  refine va_put (D := D) (ci := 2) (v := .int (nI 0)) (ty := .int) (C := RX2) (T := TX2) (N := 8) hx hb hts in_X2 tyX2 tyX2_ok nmX2 hown hK hP hD hS 0 rfl rfl 6 (by decide) (hts _ q44) (fun _ h9 => h9) rfl (by decide +kernel) rfl rfl (Nat.le_of_ble_eq_true rfl) dX2_begin_23 (fun H locs hP hD hS => ?_)
  have hP : va_P D vwCl [(a, .inr (2, [.int nf, .int ni, .int np, .int nw, .ref b, .ref t, .int (nI 0), .int en])), (b, .inl (cB, 4096, .inl by_)), (t, .inl (cZ, 4096, .inl th))] H := hP
  have hD : va_D A [(a, .inr (2, [.int nf, .int ni, .int np, .int nw, .ref b, .ref t, .int (nI 0), .int en])), (b, .inl (cB, 4096, .inl by_)), (t, .inl (cZ, 4096, .inl th))] := hD
  refine lv_aload_n hx hb dX2_begin_26 rfl (lv_at hl 0 rfl) ?_
  refine lv_iconst (v := (-1)) hx hb dX2_begin_27 (by decide +kernel) ?_
  refine va_put (D := D) (ci := 2) (v := .int (-1)) (ty := .int) (C := RX2) (T := TX2) (N := 8) hx hb hts in_X2 tyX2 tyX2_ok nmX2 hown hK hP hD hS 0 rfl rfl 7 (by decide) (hts _ q45) (fun _ h9 => h9) rfl (by decide +kernel) rfl rfl (Nat.le_of_ble_eq_true rfl) dX2_begin_28 (fun H locs hP hD hS => ?_)
  have hP : va_P D vwCl [(a, .inr (2, [.int nf, .int ni, .int np, .int nw, .ref b, .ref t, .int (nI 0), .int (-1)])), (b, .inl (cB, 4096, .inl by_)), (t, .inl (cZ, 4096, .inl th))] H := hP
  have hD : va_D A [(a, .inr (2, [.int nf, .int ni, .int np, .int nw, .ref b, .ref t, .int (nI 0), .int (-1)])), (b, .inl (cB, 4096, .inl by_)), (t, .inl (cZ, 4096, .inl th))] := hD
  refine lv_iconst (v := nI 0) hx hb dX2_begin_31 (by decide +kernel) ?_
  refine lv_istore (lv' := [(5, .int (nI 0)), (0, .ref a), (1, .int nf), (2, .int ni), (3, .int np), (4, .int nw)]) hx hb dX2_begin_32 hl (by decide) rfl (fun ls hl => ?_)
  have loop : ∀ (d i : Nat) (H : Heap) (locs : List Loc) (ls : Array Slot), i ≤ 4096 → 4096 + 1 ≤ i + d → va_P D vwCl [(a, .inr (2, [.int nf, .int ni, .int np, .int nw, .ref b, .ref t, .int (nI 0), .int (-1)])), (b, .inl (cB, 4096, .inl by_)), (t, .inl (cZ, 4096, .inl (lo i (fun _ => 0) th)))] H → va_D A [(a, .inr (2, [.int nf, .int ni, .int np, .int nw, .ref b, .ref t, .int (nI 0), .int (-1)])), (b, .inl (cB, 4096, .inl by_)), (t, .inl (cZ, 4096, .inl (lo i (fun _ => 0) th)))] → va_S A s.heap H locs → lv_has ls 6 [(0, .ref a), (1, .int nf), (2, .int ni), (3, .int np), (4, .int nw), (5, .int (nI i))] → W p l e R s m args below meth c H locs 0 0 Q (F0 m 34 ls []) := by
    intro d
    induction d with
    | zero => intro i H locs ls q1 q2; exact absurd q2 (by omega)
    | succ d ih =>
      intro i H locs ls q1 q2 hP hD hS hl
      refine lv_iload hx hb dX2_begin_34 (lv_at hl 5 rfl) ?_
      refine lv_sipush (v := nI 4096) hx hb dX2_begin_36 (by decide +kernel) ?_
      refine lv_icmp_ge (tgt := 56) hx hb dX2_begin_39 (by decide) (fun c1 => ?_) (fun c1 => ?_)
      · skip
        have c1 : 4096 ≤ i := (nI_leI (by omega) (by omega)).mp c1
        obtain rfl : i = 4096 := by omega
        exact ret_v hx hb hr hlk hQ (Nat.le_refl _) (Nat.le_refl _) () rfl hK hP hD hS dX2_begin_56
      · skip
        have c1 : ¬ (4096 ≤ i) := fun h => c1 ((nI_leI (by omega) (by omega)).mpr h)
        refine lv_aload_n hx hb dX2_begin_42 rfl (lv_at hl 0 rfl) ?_
        refine va_get (D := D) (ci := 2) (v := .ref t) (C := RX2) (T := TX2) (N := 8) hx hb hts in_X2 hown hK hP 0 rfl rfl 5 (by decide) (hts _ q43) (fun _ h9 => h9) rfl dX2_begin_43 ?_
        refine lv_iload hx hb dX2_begin_46 (lv_at hl 5 rfl) ?_
        refine lv_iconst (v := nI 0) hx hb dX2_begin_48 (by decide +kernel) ?_
        refine ab_zast (y := 0) hx hb hK hP hD hS 2 1 rfl rfl i (rfl) (by omega) (by decide) (by decide +kernel) dX2_begin_49 (fun H locs hP hD hS => ?_)
        have hP : va_P D vwCl [(a, .inr (2, [.int nf, .int ni, .int np, .int nw, .ref b, .ref t, .int (nI 0), .int (-1)])), (b, .inl (cB, 4096, .inl by_)), (t, .inl (cZ, 4096, .inl (upd (lo i (fun _ => 0) th) i 0)))] H := hP
        have hD : va_D A [(a, .inr (2, [.int nf, .int ni, .int np, .int nw, .ref b, .ref t, .int (nI 0), .int (-1)])), (b, .inl (cB, 4096, .inl by_)), (t, .inl (cZ, 4096, .inl (upd (lo i (fun _ => 0) th) i 0)))] := hD
        rw [lo_s i (fun _ => 0) th] at hP hD
        refine lv_iinc (v := nI (i + 1)) (lv' := [(5, .int (nI (i + 1))), (0, .ref a), (1, .int nf), (2, .int ni), (3, .int np), (4, .int nw)]) hx hb dX2_begin_50 hl (k := 5) rfl (nI_inc1 _) (by decide) rfl (fun ls hl => ?_)
        refine lv_goto (tgt := 34) hx hb dX2_begin_53 (by decide) ?_
        exact ih (i + 1) H locs ls (by omega) (by omega) hP hD hS (lv_sub hl [1, 2, 3, 4, 5, 0] rfl)
  have hP := hP
  rw [← lo_0 (fun _ => 0) th] at hP hD
  exact loop 4097 0 _ _ ls (by omega) (by omega) hP hD hS (lv_sub hl [1, 2, 3, 4, 5, 0] rfl)
set_option maxHeartbeats 4000000 in
set_option maxRecDepth 100000 in
/-- Making.add -/
theorem m_mkAdd (l : Launch) (D : va_G) (cB cZ cR cI : ClassId) (x : Mk) (f off n : Nat) (last : Int32) (tr : Nat → Int32) (hn : n ≤ 1480) (ho : off + n ≤ 4096) : MM l yX2_add cX2_add 8 (some .boolean) { frames := 1, cells := 0, slots := 0, locals := 14 } D (tyS cB cZ cR cI) [.ref (kA x), .ref f, .int (nI 0), .int (nI off), .int (nI n), .int last] (mkw cB cZ x ++ [(f, .inl (cB, 1480, .inl tr))]) (S := Mk) (fun r u => (addBad x (nI (off + n)) last ∧ r = some (.int 0) ∧ u = x) ∨ (¬ addBad x (nI (off + n)) last ∧ r = some (.int 1) ∧ u = mkAdd x off n last tr)) (fun _ => tyS cB cZ cR cI) (fun u => mkw cB cZ u ++ [(f, .inl (cB, 1480, .inl tr))]) := by
  obtain ⟨⟨a, b, t⟩, fr, id, pr, si, re, en, by_, th⟩ := x
  refine MM_of (by decide) (Nat.le_of_ble_eq_true rfl) ?_
  intro p e s m below meth c A ls R Q args hRm hQ hx hb hr hlk hml hown hts hin hK hE hA hP hD hS hl
  have hown : s.vm.findClass "FragmentHouse$Making" = some m.cls := hown
  replace hl : lv_has ls 8 [(0, .ref a), (1, .ref f), (2, .int (nI 0)), (3, .int (nI off)), (4, .int (nI n)), (5, .int last)] := hl
  replace hP : va_P D vwCl [(a, .inr (2, [.int fr, .int id, .int pr, .int si, .ref b, .ref t, .int re, .int en])), (b, .inl (cB, 4096, .inl by_)), (t, .inl (cZ, 4096, .inl th)), (f, .inl (cB, 1480, .inl tr))] s.heap := hP
  replace hD : va_D A [(a, .inr (2, [.int fr, .int id, .int pr, .int si, .ref b, .ref t, .int re, .int en])), (b, .inl (cB, 4096, .inl by_)), (t, .inl (cZ, 4096, .inl th)), (f, .inl (cB, 1480, .inl tr))] := hD
  refine lv_iload_n hx hb dX2_add_0 rfl (lv_at hl 3 rfl) ?_
  refine lv_iload hx hb dX2_add_1 (lv_at hl 4 rfl) ?_
  refine lv_iadd hx hb dX2_add_3 ?_
  refine lv_as (y := nI (off + n)) (nI_add _ _) ?_
  refine lv_istore (lv' := [(6, .int (nI (off + n))), (0, .ref a), (1, .ref f), (2, .int (nI 0)), (3, .int (nI off)), (4, .int (nI n)), (5, .int last)]) hx hb dX2_add_4 hl (by decide) rfl (fun ls hl => ?_)
  have k57 : addBad ((a, b, t), fr, id, pr, si, re, en, by_, th) (nI (off + n)) last → W p l e R s m args below meth c s.heap [] 0 0 Q (F0 m 57 ls []) := by
    intro hbad
    refine lv_iconst (v := nI 0) hx hb dX2_add_57 (by decide +kernel) ?_
    exact ret_i hx hb hr rfl hlk hQ (Nat.le_refl _) (Nat.le_refl _) ((a, b, t), fr, id, pr, si, re, en, by_, th) (Or.inl ⟨hbad, rfl, rfl⟩) hK hP hD hS dX2_add_58
  have k70 : ¬ addBad ((a, b, t), fr, id, pr, si, re, en, by_, th) (nI (off + n)) last → ∀ (H : Heap) (locs : List Loc), va_P D vwCl [(a, .inr (2, [.int fr, .int id, .int pr, .int si, .ref b, .ref t, .int re, .int (if last = 0 then en else nI (off + n))])), (b, .inl (cB, 4096, .inl by_)), (t, .inl (cZ, 4096, .inl th)), (f, .inl (cB, 1480, .inl tr))] H → va_D A [(a, .inr (2, [.int fr, .int id, .int pr, .int si, .ref b, .ref t, .int re, .int (if last = 0 then en else nI (off + n))])), (b, .inl (cB, 4096, .inl by_)), (t, .inl (cZ, 4096, .inl th)), (f, .inl (cB, 1480, .inl tr))] → va_S A s.heap H locs → W p l e R s m args below meth c H locs 0 0 Q (F0 m 70 ls []) := by
    intro hgood H locs hP hD hS
    refine lv_iconst (v := nI 0) hx hb dX2_add_70 (by decide +kernel) ?_
    refine lv_istore (lv' := [(7, .int (nI 0)), (6, .int (nI (off + n))), (0, .ref a), (1, .ref f), (2, .int (nI 0)), (3, .int (nI off)), (4, .int (nI n)), (5, .int last)]) hx hb dX2_add_71 hl (by decide) rfl (fun ls hl => ?_)
    have loop : ∀ (d i : Nat) (H : Heap) (locs : List Loc) (ls : Array Slot), i ≤ n → n + 1 ≤ i + d → va_P D vwCl [(a, .inr (2, [.int fr, .int id, .int pr, .int si, .ref b, .ref t, .int re, .int (if last = 0 then en else nI (off + n))])), (b, .inl (cB, 4096, .inl (byS off i th tr by_))), (t, .inl (cZ, 4096, .inl (thS off i th))), (f, .inl (cB, 1480, .inl tr))] H → va_D A [(a, .inr (2, [.int fr, .int id, .int pr, .int si, .ref b, .ref t, .int re, .int (if last = 0 then en else nI (off + n))])), (b, .inl (cB, 4096, .inl (byS off i th tr by_))), (t, .inl (cZ, 4096, .inl (thS off i th))), (f, .inl (cB, 1480, .inl tr))] → va_S A s.heap H locs → lv_has ls 8 [(0, .ref a), (1, .ref f), (2, .int (nI 0)), (3, .int (nI off)), (4, .int (nI n)), (5, .int last), (6, .int (nI (off + n))), (7, .int (nI i))] → W p l e R s m args below meth c H locs 0 0 Q (F0 m 73 ls []) := by
      intro d
      induction d with
      | zero => intro i H locs ls q1 q2; exact absurd q2 (by omega)
      | succ d ih =>
        intro i H locs ls q1 q2 hP hD hS hl
        refine lv_iload hx hb dX2_add_73 (lv_at hl 7 rfl) ?_
        refine lv_iload hx hb dX2_add_75 (lv_at hl 4 rfl) ?_
        refine lv_icmp_ge (tgt := 123) hx hb dX2_add_77 (by decide) (fun c2 => ?_) (fun c2 => ?_)
        · skip
          have c2 : n ≤ i := (nI_leI (by omega) (by omega)).mp c2
          obtain rfl : i = n := by omega
          refine lv_aload_n hx hb dX2_add_123 rfl (lv_at hl 0 rfl) ?_
          refine lv_aload_n hx hb dX2_add_124 rfl (lv_at hl 0 rfl) ?_
          refine va_get (D := D) (ci := 2) (v := .int re) (C := RX2) (T := TX2) (N := 8) hx hb hts in_X2 hown hK hP 0 rfl rfl 6 (by decide) (hts _ q44) (fun _ h9 => h9) rfl dX2_add_125 ?_
          refine lv_iload hx hb dX2_add_128 (lv_at hl 6 rfl) ?_
          refine va_mmax hx hb (hml.trans hl.1.symm) hown (hts _ q139) (hts _ q140) (hts _ q11) (hts _ q141) (by subst hRm; decide) (by subst hRm; exact Nat.le_of_ble_eq_true rfl) (Nat.zero_le _) (Nat.zero_le _) dX2_add_130 ?_
          refine va_put (D := D) (ci := 2) (v := .int (if re < nI (off + i) then nI (off + i) else re)) (ty := .int) (C := RX2) (T := TX2) (N := 8) hx hb hts in_X2 tyX2 tyX2_ok nmX2 hown hK hP hD hS 0 rfl rfl 6 (by decide) (hts _ q44) (fun _ h9 => h9) rfl (by decide +kernel) rfl rfl (Nat.le_of_ble_eq_true rfl) dX2_add_133 (fun H locs hP hD hS => ?_)
          have hP : va_P D vwCl [(a, .inr (2, [.int fr, .int id, .int pr, .int si, .ref b, .ref t, .int (if re < nI (off + i) then nI (off + i) else re), .int (if last = 0 then en else nI (off + i))])), (b, .inl (cB, 4096, .inl (byS off i th tr by_))), (t, .inl (cZ, 4096, .inl (thS off i th))), (f, .inl (cB, 1480, .inl tr))] H := hP
          have hD : va_D A [(a, .inr (2, [.int fr, .int id, .int pr, .int si, .ref b, .ref t, .int (if re < nI (off + i) then nI (off + i) else re), .int (if last = 0 then en else nI (off + i))])), (b, .inl (cB, 4096, .inl (byS off i th tr by_))), (t, .inl (cZ, 4096, .inl (thS off i th))), (f, .inl (cB, 1480, .inl tr))] := hD
          refine lv_iconst (v := nI 1) hx hb dX2_add_136 (by decide +kernel) ?_
          exact ret_i hx hb hr rfl hlk hQ (Nat.le_refl _) (Nat.le_refl _) (mkAdd ((a, b, t), fr, id, pr, si, re, en, by_, th) off i last tr) (Or.inr ⟨hgood, rfl, rfl⟩) hK hP hD hS dX2_add_137
        · skip
          have c2 : ¬ (n ≤ i) := fun h => c2 ((nI_leI (by omega) (by omega)).mpr h)
          refine lv_aload_n hx hb dX2_add_80 rfl (lv_at hl 0 rfl) ?_
          refine va_get (D := D) (ci := 2) (v := .ref t) (C := RX2) (T := TX2) (N := 8) hx hb hts in_X2 hown hK hP 0 rfl rfl 5 (by decide) (hts _ q43) (fun _ h9 => h9) rfl dX2_add_81 ?_
          refine lv_iload_n hx hb dX2_add_84 rfl (lv_at hl 3 rfl) ?_
          refine lv_iload hx hb dX2_add_85 (lv_at hl 7 rfl) ?_
          refine lv_iadd hx hb dX2_add_87 ?_
          refine lv_as (y := nI (off + i)) (nI_add _ _) ?_
          refine ab_zald hx hb hK hP 2 1 rfl rfl (off + i) (rfl) (by omega) (by decide) dX2_add_88 ?_
          refine lv_as (y := th (off + i)) (thS_at off i th) ?_
          have k107 : ∀ (H : Heap) (locs : List Loc), va_P D vwCl [(a, .inr (2, [.int fr, .int id, .int pr, .int si, .ref b, .ref t, .int re, .int (if last = 0 then en else nI (off + n))])), (b, .inl (cB, 4096, .inl (byS off (i + 1) th tr by_))), (t, .inl (cZ, 4096, .inl (thS off i th))), (f, .inl (cB, 1480, .inl tr))] H → va_D A [(a, .inr (2, [.int fr, .int id, .int pr, .int si, .ref b, .ref t, .int re, .int (if last = 0 then en else nI (off + n))])), (b, .inl (cB, 4096, .inl (byS off (i + 1) th tr by_))), (t, .inl (cZ, 4096, .inl (thS off i th))), (f, .inl (cB, 1480, .inl tr))] → va_S A s.heap H locs → W p l e R s m args below meth c H locs 0 0 Q (F0 m 107 ls []) := by
            intro H locs hP hD hS
            refine lv_aload_n hx hb dX2_add_107 rfl (lv_at hl 0 rfl) ?_
            refine va_get (D := D) (ci := 2) (v := .ref t) (C := RX2) (T := TX2) (N := 8) hx hb hts in_X2 hown hK hP 0 rfl rfl 5 (by decide) (hts _ q43) (fun _ h9 => h9) rfl dX2_add_108 ?_
            refine lv_iload_n hx hb dX2_add_111 rfl (lv_at hl 3 rfl) ?_
            refine lv_iload hx hb dX2_add_112 (lv_at hl 7 rfl) ?_
            refine lv_iadd hx hb dX2_add_114 ?_
            refine lv_as (y := nI (off + i)) (nI_add _ _) ?_
            refine lv_iconst (v := nI 1) hx hb dX2_add_115 (by decide +kernel) ?_
            refine ab_zast (y := 1) hx hb hK hP hD hS 2 1 rfl rfl (off + i) (rfl) (by omega) (by decide) (by decide +kernel) dX2_add_116 (fun H locs hP hD hS => ?_)
            have hP : va_P D vwCl [(a, .inr (2, [.int fr, .int id, .int pr, .int si, .ref b, .ref t, .int re, .int (if last = 0 then en else nI (off + n))])), (b, .inl (cB, 4096, .inl (byS off (i + 1) th tr by_))), (t, .inl (cZ, 4096, .inl (upd (thS off i th) (off + i) 1))), (f, .inl (cB, 1480, .inl tr))] H := hP
            have hD : va_D A [(a, .inr (2, [.int fr, .int id, .int pr, .int si, .ref b, .ref t, .int re, .int (if last = 0 then en else nI (off + n))])), (b, .inl (cB, 4096, .inl (byS off (i + 1) th tr by_))), (t, .inl (cZ, 4096, .inl (upd (thS off i th) (off + i) 1))), (f, .inl (cB, 1480, .inl tr))] := hD
            rw [thS_s] at hP hD
            refine lv_iinc (v := nI (i + 1)) (lv' := [(7, .int (nI (i + 1))), (0, .ref a), (1, .ref f), (2, .int (nI 0)), (3, .int (nI off)), (4, .int (nI n)), (5, .int last), (6, .int (nI (off + n)))]) hx hb dX2_add_117 hl (k := 7) rfl (nI_inc1 _) (by decide) rfl (fun ls hl => ?_)
            refine lv_goto (tgt := 73) hx hb dX2_add_120 (by decide) ?_
            exact ih (i + 1) H locs ls (by omega) (by omega) hP hD hS (lv_sub hl [1, 2, 3, 4, 5, 6, 7, 0] rfl)
          refine lv_if_ne (tgt := 107) hx hb dX2_add_89 (by decide) (fun c3 => ?_) (fun c3 => ?_)
          · skip
            exact k107 H locs (by rw [← byS_k off i th tr by_ c3]; exact hP) (by rw [← byS_k off i th tr by_ c3]; exact hD) hS
          · skip
            refine lv_aload_n hx hb dX2_add_92 rfl (lv_at hl 0 rfl) ?_
            refine va_get (D := D) (ci := 2) (v := .ref b) (C := RX2) (T := TX2) (N := 8) hx hb hts in_X2 hown hK hP 0 rfl rfl 4 (by decide) (hts _ q41) (fun _ h9 => h9) rfl dX2_add_93 ?_
            refine lv_iload_n hx hb dX2_add_96 rfl (lv_at hl 3 rfl) ?_
            refine lv_iload hx hb dX2_add_97 (lv_at hl 7 rfl) ?_
            refine lv_iadd hx hb dX2_add_99 ?_
            refine lv_as (y := nI (off + i)) (nI_add _ _) ?_
            refine lv_aload_n hx hb dX2_add_100 rfl (lv_at hl 1 rfl) ?_
            refine lv_iload_n hx hb dX2_add_101 rfl (lv_at hl 2 rfl) ?_
            refine lv_iload hx hb dX2_add_102 (lv_at hl 7 rfl) ?_
            refine lv_iadd hx hb dX2_add_104 ?_
            refine lv_as (y := nI (0 + i)) (nI_add _ _) ?_
            refine ab_bald hx hb hK hP 3 0 rfl rfl (0 + i) (rfl) (by omega) (by decide) dX2_add_105 ?_
            refine ab_bast (y := nb (tr (0 + i))) hx hb hK hP hD hS 1 0 rfl rfl (off + i) (rfl) (by omega) (by decide) (rfl) dX2_add_106 (fun H locs hP hD hS => ?_)
            have hP : va_P D vwCl [(a, .inr (2, [.int fr, .int id, .int pr, .int si, .ref b, .ref t, .int re, .int (if last = 0 then en else nI (off + n))])), (b, .inl (cB, 4096, .inl (upd (byS off i th tr by_) (off + i) (nb (tr (0 + i)))))), (t, .inl (cZ, 4096, .inl (thS off i th))), (f, .inl (cB, 1480, .inl tr))] H := hP
            have hD : va_D A [(a, .inr (2, [.int fr, .int id, .int pr, .int si, .ref b, .ref t, .int re, .int (if last = 0 then en else nI (off + n))])), (b, .inl (cB, 4096, .inl (upd (byS off i th tr by_) (off + i) (nb (tr (0 + i)))))), (t, .inl (cZ, 4096, .inl (thS off i th))), (f, .inl (cB, 1480, .inl tr))] := hD
            rw [show (0 + i) = i from Nat.zero_add i, byS_s off i th tr by_ c3] at hP hD
            exact k107 H locs hP hD hS
    have hP := hP
    rw [← byS_0 off th tr by_] at hP hD
    have hP : va_P D vwCl [(a, .inr (2, [.int fr, .int id, .int pr, .int si, .ref b, .ref t, .int re, .int (if last = 0 then en else nI (off + n))])), (b, .inl (cB, 4096, .inl (byS off 0 th tr by_))), (t, .inl (cZ, 4096, .inl (thS off 0 th))), (f, .inl (cB, 1480, .inl tr))] H := by rw [byS_0, thS_0]; rw [byS_0] at hP; exact hP
    have hD : va_D A [(a, .inr (2, [.int fr, .int id, .int pr, .int si, .ref b, .ref t, .int re, .int (if last = 0 then en else nI (off + n))])), (b, .inl (cB, 4096, .inl (byS off 0 th tr by_))), (t, .inl (cZ, 4096, .inl (thS off 0 th))), (f, .inl (cB, 1480, .inl tr))] := by rw [byS_0, thS_0]; rw [byS_0] at hD; exact hD
    exact loop (n + 1) 0 _ _ ls (by omega) (by omega) hP hD hS (lv_sub hl [2, 3, 4, 5, 6, 7, 1, 0] rfl)
  have k59 : ¬ addBad ((a, b, t), fr, id, pr, si, re, en, by_, th) (nI (off + n)) last → W p l e R s m args below meth c s.heap [] 0 0 Q (F0 m 59 ls []) := by
    intro hgood
    refine lv_iload hx hb dX2_add_59 (lv_at hl 6 rfl) ?_
    refine lv_if_eq (tgt := 70) hx hb dX2_add_61 (by decide) (fun c4 => ?_) (fun c4 => ?_)
    · skip
      exact k70 hgood _ _ (by rw [if_pos c4]; exact hP) (by rw [if_pos c4]; exact hD) hS
    · skip
      refine lv_aload_n hx hb dX2_add_64 rfl (lv_at hl 1 rfl) ?_
      refine lv_iload hx hb dX2_add_65 (lv_at hl 0 rfl) ?_
      refine va_put (D := D) (ci := 2) (v := .int (nI (off + n))) (ty := .int) (C := RX2) (T := TX2) (N := 8) hx hb hts in_X2 tyX2 tyX2_ok nmX2 hown hK hP hD hS 0 rfl rfl 7 (by decide) (hts _ q45) (fun _ h9 => h9) rfl (by decide +kernel) rfl rfl (Nat.le_of_ble_eq_true rfl) dX2_add_67 (fun H locs hP hD hS => ?_)
      have hP : va_P D vwCl [(a, .inr (2, [.int fr, .int id, .int pr, .int si, .ref b, .ref t, .int re, .int (nI (off + n))])), (b, .inl (cB, 4096, .inl by_)), (t, .inl (cZ, 4096, .inl th)), (f, .inl (cB, 1480, .inl tr))] H := hP
      have hD : va_D A [(a, .inr (2, [.int fr, .int id, .int pr, .int si, .ref b, .ref t, .int re, .int (nI (off + n))])), (b, .inl (cB, 4096, .inl by_)), (t, .inl (cZ, 4096, .inl th)), (f, .inl (cB, 1480, .inl tr))] := hD
      exact k70 hgood _ _ (by rw [if_neg c4]; exact hP) (by rw [if_neg c4]; exact hD) hS
  have k43 : ¬ (¬ last = 0 ∧ ¬ en < 0 ∧ ¬ en = nI (off + n)) → ¬ (¬ en < 0 ∧ en < nI (off + n)) → W p l e R s m args below meth c s.heap [] 0 0 Q (F0 m 43 ls []) := by
    intro n1 n2
    refine lv_iload hx hb dX2_add_43 (lv_at hl 6 rfl) ?_
    refine lv_if_eq (tgt := 59) hx hb dX2_add_45 (by decide) (fun c5 => ?_) (fun c5 => ?_)
    · skip
      exact k59 (fun h => h.elim n1 (fun h => h.elim n2 (fun h => h.1 c5)))
    · skip
      refine lv_aload_n hx hb dX2_add_48 rfl (lv_at hl 1 rfl) ?_
      refine va_get (D := D) (ci := 2) (v := .int re) (C := RX2) (T := TX2) (N := 8) hx hb hts in_X2 hown hK hP 0 rfl rfl 6 (by decide) (hts _ q44) (fun _ h9 => h9) rfl dX2_add_49 ?_
      refine lv_iload hx hb dX2_add_52 (lv_at hl 0 rfl) ?_
      refine lv_icmp_le (tgt := 59) hx hb dX2_add_54 (by decide) (fun c6 => ?_) (fun c6 => ?_)
      · skip
        exact k59 (fun h => h.elim n1 (fun h => h.elim n2 (fun h => absurd h.2 (Int32.not_lt.mpr c6))))
      · skip
        exact k57 (Or.inr (Or.inr ⟨c5, Int32.not_le.mp c6⟩))
  have k27 : ¬ (¬ last = 0 ∧ ¬ en < 0 ∧ ¬ en = nI (off + n)) → W p l e R s m args below meth c s.heap [] 0 0 Q (F0 m 27 ls []) := by
    intro n1
    refine lv_aload_n hx hb dX2_add_27 rfl (lv_at hl 1 rfl) ?_
    refine va_get (D := D) (ci := 2) (v := .int en) (C := RX2) (T := TX2) (N := 8) hx hb hts in_X2 hown hK hP 0 rfl rfl 7 (by decide) (hts _ q45) (fun _ h9 => h9) rfl dX2_add_28 ?_
    refine lv_if_lt (tgt := 43) hx hb dX2_add_31 (by decide) (fun c7 => ?_) (fun c7 => ?_)
    · skip
      exact k43 n1 (fun h => h.1 c7)
    · skip
      refine lv_iload hx hb dX2_add_34 (lv_at hl 0 rfl) ?_
      refine lv_aload_n hx hb dX2_add_36 rfl (lv_at hl 1 rfl) ?_
      refine va_get (D := D) (ci := 2) (v := .int en) (C := RX2) (T := TX2) (N := 8) hx hb hts in_X2 hown hK hP 0 rfl rfl 7 (by decide) (hts _ q45) (fun _ h9 => h9) rfl dX2_add_37 ?_
      refine lv_icmp_gt (tgt := 57) hx hb dX2_add_40 (by decide) (fun c8 => ?_) (fun c8 => ?_)
      · skip
        exact k57 (Or.inr (Or.inl ⟨c7, c8⟩))
      · skip
        exact k43 n1 (fun h => c8 h.2)
  refine lv_iload hx hb dX2_add_6 (lv_at hl 6 rfl) ?_
  refine lv_if_eq (tgt := 27) hx hb dX2_add_8 (by decide) (fun c9 => ?_) (fun c9 => ?_)
  · skip
    exact k27 (fun h => h.1 c9)
  · skip
    refine lv_aload_n hx hb dX2_add_11 rfl (lv_at hl 1 rfl) ?_
    refine va_get (D := D) (ci := 2) (v := .int en) (C := RX2) (T := TX2) (N := 8) hx hb hts in_X2 hown hK hP 0 rfl rfl 7 (by decide) (hts _ q45) (fun _ h9 => h9) rfl dX2_add_12 ?_
    refine lv_if_lt (tgt := 27) hx hb dX2_add_15 (by decide) (fun c10 => ?_) (fun c10 => ?_)
    · skip
      exact k27 (fun h => h.2.1 c10)
    · skip
      refine lv_aload_n hx hb dX2_add_18 rfl (lv_at hl 1 rfl) ?_
      refine va_get (D := D) (ci := 2) (v := .int en) (C := RX2) (T := TX2) (N := 8) hx hb hts in_X2 hown hK hP 0 rfl rfl 7 (by decide) (hts _ q45) (fun _ h9 => h9) rfl dX2_add_19 ?_
      refine lv_iload hx hb dX2_add_22 (lv_at hl 0 rfl) ?_
      refine lv_icmp_ne (tgt := 57) hx hb dX2_add_24 (by decide) (fun c11 => ?_) (fun c11 => ?_)
      · skip
        exact k57 (Or.inl ⟨c9, c10, c11⟩)
      · skip
        exact k27 (fun h => h.2.2 c11)
set_option maxHeartbeats 4000000 in
set_option maxRecDepth 100000 in
/-- Making.isWhole -/
theorem m_mkWhole (l : Launch) (D : va_G) (cB cZ cR cI : ClassId) (x : Mk) (he : okEn (kEn x)) : MM l yX2_isWhole cX2_isWhole 2 (some .boolean) { frames := 0, cells := 0, slots := 0, locals := 0 } D (tyS cB cZ cR cI) [.ref (kA x)] (mkw cB cZ x) (S := Unit) (fun r u => (isWh x ∧ r = some (.int 1)) ∨ (¬ isWh x ∧ r = some (.int 0))) (fun _ => tyS cB cZ cR cI) (fun u => mkw cB cZ x) := by
  obtain ⟨⟨a, b, t⟩, fr, id, pr, si, re, en, by_, th⟩ := x
  refine MM_of (by decide) (Nat.le_of_ble_eq_true rfl) ?_
  intro p e s m below meth c A ls R Q args hRm hQ hx hb hr hlk hml hown hts hin hK hE hA hP hD hS hl
  have hown : s.vm.findClass "FragmentHouse$Making" = some m.cls := hown
  replace hl : lv_has ls 2 [(0, .ref a)] := hl
  replace hP : va_P D vwCl [(a, .inr (2, [.int fr, .int id, .int pr, .int si, .ref b, .ref t, .int re, .int en])), (b, .inl (cB, 4096, .inl by_)), (t, .inl (cZ, 4096, .inl th))] s.heap := hP
  replace hD : va_D A [(a, .inr (2, [.int fr, .int id, .int pr, .int si, .ref b, .ref t, .int re, .int en])), (b, .inl (cB, 4096, .inl by_)), (t, .inl (cZ, 4096, .inl th))] := hD
  have he : okEn en := he
  refine lv_iconst (v := nI 0) hx hb dX2_isWhole_0 (by decide +kernel) ?_
  refine lv_istore_n (lv' := [(1, .int (nI 0)), (0, .ref a)]) hx hb dX2_isWhole_1 rfl hl (by decide) rfl (fun ls hl => ?_)
  rcases he with rfl | ⟨e9, he9, rfl⟩
  · skip
    refine lv_iload_n hx hb dX2_isWhole_2 rfl (lv_at hl 0 rfl) ?_
    refine lv_aload_n hx hb dX2_isWhole_3 rfl (lv_at hl 1 rfl) ?_
    refine va_get (D := D) (ci := 2) (v := .int (-1)) (C := RX2) (T := TX2) (N := 8) hx hb hts in_X2 hown hK hP 0 rfl rfl 7 (by decide) (hts _ q45) (fun _ h9 => h9) rfl dX2_isWhole_4 ?_
    refine lv_icmp_ge (tgt := 27) hx hb dX2_isWhole_7 (by decide) (fun c12 => ?_) (fun c12 => ?_)
    · skip
      refine lv_aload_n hx hb dX2_isWhole_27 rfl (lv_at hl 1 rfl) ?_
      refine va_get (D := D) (ci := 2) (v := .int (-1)) (C := RX2) (T := TX2) (N := 8) hx hb hts in_X2 hown hK hP 0 rfl rfl 7 (by decide) (hts _ q45) (fun _ h9 => h9) rfl dX2_isWhole_28 ?_
      refine lv_if_lt (tgt := 38) hx hb dX2_isWhole_31 (by decide) (fun c13 => ?_) (fun c13 => ?_)
      · skip
        refine lv_iconst (v := nI 0) hx hb dX2_isWhole_38 (by decide +kernel) ?_
        exact ret_i hx hb hr rfl hlk hQ (Nat.le_refl _) (Nat.le_refl _) () (Or.inr ⟨fun h => by obtain ⟨e9, h1, h2, h3⟩ := h; exact nI_m1 h1 h2.symm, rfl⟩) hK hP hD hS dX2_isWhole_39
      · skip
        exact absurd (by decide) c13
    · skip
      exact absurd (by decide) c12
  · skip
    have loop : ∀ (d i : Nat) (ls : Array Slot), i ≤ e9 → e9 + 1 ≤ i + d → (∀ k, k < i → ¬ th k = 0) → lv_has ls 2 [(0, .ref a), (1, .int (nI i))] → W p l e R s m args below meth c s.heap [] 0 0 Q (F0 m 2 ls []) := by
      intro d
      induction d with
      | zero => intro i ls q1 q2; exact absurd q2 (by omega)
      | succ d ih =>
        intro i ls q1 q2 q3 hl
        refine lv_iload_n hx hb dX2_isWhole_2 rfl (lv_at hl 1 rfl) ?_
        refine lv_aload_n hx hb dX2_isWhole_3 rfl (lv_at hl 0 rfl) ?_
        refine va_get (D := D) (ci := 2) (v := .int (nI e9)) (C := RX2) (T := TX2) (N := 8) hx hb hts in_X2 hown hK hP 0 rfl rfl 7 (by decide) (hts _ q45) (fun _ h9 => h9) rfl dX2_isWhole_4 ?_
        refine lv_icmp_ge (tgt := 27) hx hb dX2_isWhole_7 (by decide) (fun c14 => ?_) (fun c14 => ?_)
        · skip
          have c14 : e9 ≤ i := (nI_leI (by omega) (by omega)).mp c14
          obtain rfl : i = e9 := by omega
          refine lv_aload_n hx hb dX2_isWhole_27 rfl (lv_at hl 0 rfl) ?_
          refine va_get (D := D) (ci := 2) (v := .int (nI i)) (C := RX2) (T := TX2) (N := 8) hx hb hts in_X2 hown hK hP 0 rfl rfl 7 (by decide) (hts _ q45) (fun _ h9 => h9) rfl dX2_isWhole_28 ?_
          refine lv_if_lt (tgt := 38) hx hb dX2_isWhole_31 (by decide) (fun c15 => ?_) (fun c15 => ?_)
          · skip
            exact absurd c15 (nI_pos (by omega))
          · skip
            refine lv_iconst (v := nI 1) hx hb dX2_isWhole_34 (by decide +kernel) ?_
            refine lv_goto (tgt := 39) hx hb dX2_isWhole_35 (by decide) ?_
            exact ret_i hx hb hr rfl hlk hQ (Nat.le_refl _) (Nat.le_refl _) () (Or.inl ⟨⟨i, he9, rfl, q3⟩, rfl⟩) hK hP hD hS dX2_isWhole_39
        · skip
          have c14 : ¬ (e9 ≤ i) := fun h => c14 ((nI_leI (by omega) (by omega)).mpr h)
          refine lv_aload_n hx hb dX2_isWhole_10 rfl (lv_at hl 0 rfl) ?_
          refine va_get (D := D) (ci := 2) (v := .ref t) (C := RX2) (T := TX2) (N := 8) hx hb hts in_X2 hown hK hP 0 rfl rfl 5 (by decide) (hts _ q43) (fun _ h9 => h9) rfl dX2_isWhole_11 ?_
          refine lv_iload_n hx hb dX2_isWhole_14 rfl (lv_at hl 1 rfl) ?_
          refine ab_zald hx hb hK hP 2 1 rfl rfl i (rfl) (by omega) (by decide) dX2_isWhole_15 ?_
          refine lv_if_ne (tgt := 21) hx hb dX2_isWhole_16 (by decide) (fun c16 => ?_) (fun c16 => ?_)
          · skip
            refine lv_iinc (v := nI (i + 1)) (lv' := [(1, .int (nI (i + 1))), (0, .ref a)]) hx hb dX2_isWhole_21 hl (k := 1) rfl (nI_inc1 _) (by decide) rfl (fun ls hl => ?_)
            refine lv_goto (tgt := 2) hx hb dX2_isWhole_24 (by decide) ?_
            exact ih (i + 1) ls (by omega) (by omega) (lt_s q3 c16) (lv_sub hl [1, 0] rfl)
          · skip
            refine lv_iconst (v := nI 0) hx hb dX2_isWhole_19 (by decide +kernel) ?_
            exact ret_i hx hb hr rfl hlk hQ (Nat.le_refl _) (Nat.le_refl _) () (Or.inr ⟨fun h => by obtain ⟨e8, h1, h2, h3⟩ := h; have h4 : e9 = e8 := (nI_eq (by omega) (by omega)).mp h2; subst h4; exact h3 i (by omega) c16, rfl⟩) hK hP hD hS dX2_isWhole_20
    exact loop (e9 + 1) 0 ls (by omega) (by omega) (fun k h => absurd h (by omega)) (lv_sub hl [1, 0] rfl)
end
section
/-! Fragments: its constructor, begin, remove, find, knows, due, act -/
set_option maxHeartbeats 4000000 in
set_option maxRecDepth 100000 in
/-- Fragments() -/
theorem m_frInit (l : Launch) (D : va_G) (a : Nat) : MM l yX1_init cX1_init 2 none { frames := 2, cells := 13, slots := 32804, locals := 32 } D [] [.ref a] [(a, .inr (1, [.null, .int 0, .int 0]))] (S := (Nat × ClassId × ClassId × ClassId × (Nat → Mk))) (fun r u => r = none) (fun u => [(u.2.2.2.1, .object "FragmentHouse$Making"), (u.2.1, .byte), (u.2.2.1, .boolean)]) (fun u => frw u.2.1 u.2.2.1 u.2.2.2.1 a u.1 0 0 u.2.2.2.2) := by
  refine MM_of (by decide) (Nat.le_of_ble_eq_true rfl) ?_
  intro p e s m below meth c A ls R Q args hRm hQ hx hb hrt hlk hml hown hts hin hK hE hA hP hD hS hl
  have hown : s.vm.findClass "FragmentHouse$Fragments" = some m.cls := hown
  have hin : meth.name = "<init>" := hin
  replace hl : lv_has ls 2 [(0, .ref a)] := hl
  replace hP : va_P D vwCl [(a, .inr (1, [.null, .int 0, .int 0]))] s.heap := hP
  replace hD : va_D A [(a, .inr (1, [.null, .int 0, .int 0]))] := hD
  refine lv_aload_n hx hb dX1_init_0 rfl (lv_at hl 0 rfl) ?_
  refine W.objInit hx hb hown (hts _ q25) (hts _ q18) (hts _ q19) rfl (by rw [hml]; exact hl.1) rfl dX1_init_1 (by subst hRm; decide) (by subst hRm; exact Nat.le_of_ble_eq_true rfl) ?_
  refine W.eq (g2 := F0 m 4 ls []) rfl ?_
  refine lv_aload_n hx hb dX1_init_4 rfl (lv_at hl 0 rfl) ?_
  refine lv_iconst (v := nI 4) hx hb dX1_init_5 (by decide +kernel) ?_
  refine va_newq (N' := 4) hx hb hown (hts _ q26) hE.2 hK hP hD hS hA (nI_pos (by decide)) (nI_clamp (by decide)) (by decide) (by subst hRm; decide) (by subst hRm; decide) dX1_init_6 (fun hr cR H hK hP hD hS => ?_)
  refine W.cs (cells' := 1) (slots' := 4) rfl rfl ?_
  have hP : va_P D vwCl [(a, .inr (1, [.null, .int 0, .int 0])), (hr, .inl (cR, 4, .inr (.inr (.inr (.inr (fun _ => none))))))] H := hP
  have hD : va_D A [(a, .inr (1, [.null, .int 0, .int 0])), (hr, .inl (cR, 4, .inr (.inr (.inr (.inr (fun _ => none))))))] := hD
  have hK : va_K D vwCl [(cR, .object "FragmentHouse$Making")] s := hK
  refine va_putF (D := D) (ci := 1) (v := .ref hr) (ty := .array (.object "FragmentHouse$Making")) (C := RX1) (T := TX1) (N := 3) hx hb hts in_X1 tyX1 tyX1_ok nmX1 hown hK hP hD hS 0 rfl rfl 0 (by decide) (hts _ q66) (fun _ h9 => h9) rfl hin rfl (by decide +kernel) rfl rfl (Nat.le_of_ble_eq_true rfl) dX1_init_9 (fun H locs hP hD hS => ?_)
  have hP : va_P D vwCl [(a, .inr (1, [.ref hr, .int 0, .int 0])), (hr, .inl (cR, 4, .inr (.inr (.inr (.inr (fun _ => none))))))] H := hP
  have hD : va_D A [(a, .inr (1, [.ref hr, .int 0, .int 0])), (hr, .inl (cR, 4, .inr (.inr (.inr (.inr (fun _ => none))))))] := hD
  refine lv_iconst (v := nI 0) hx hb dX1_init_12 (by decide +kernel) ?_
  refine lv_istore_n (lv' := [(1, .int (nI 0)), (0, .ref a)]) hx hb dX1_init_13 rfl hl (by decide) rfl (fun ls hl => ?_)
  refine lv_iload_n hx hb dX1_init_14 rfl (lv_at hl 0 rfl) ?_
  refine lv_iconst (v := nI 4) hx hb dX1_init_15 (by decide +kernel) ?_
  refine lv_icmp_ge (tgt := 38) hx hb dX1_init_16 (by decide) (fun c1 => ?_) (fun c1 => ?_)
  · skip
    have c1 : 4 ≤ 0 := (nI_leI (by omega) (by omega)).mp c1
    exact absurd c1 (by decide)
  · skip
    have c1 : ¬ (4 ≤ 0) := fun h => c1 ((nI_leI (by omega) (by omega)).mpr h)
    refine lv_aload_n hx hb dX1_init_19 rfl (lv_at hl 1 rfl) ?_
    refine va_get (D := D) (ci := 1) (v := .ref hr) (C := RX1) (T := TX1) (N := 3) hx hb hts in_X1 hown hK hP 0 rfl rfl 0 (by decide) (hts _ q66) (fun _ h9 => h9) rfl dX1_init_20 ?_
    refine lv_iload_n hx hb dX1_init_23 rfl (lv_at hl 0 rfl) ?_
    refine va_new (ci := 2) (fs := [.int 0, .int 0, .int 0, .int 0, .null, .null, .int 0, .int 0]) (C := RX2) (T := TX2) (N := 8) hx hb hts in_X2 tyX2 tyX2_ok hown (hts _ q26) (hts _ q28) (hts _ q8) hK hP hD hS hA rfl (fun j hj => by rcases (show j = 0 ∨ j = 1 ∨ j = 2 ∨ j = 3 ∨ j = 4 ∨ j = 5 ∨ j = 6 ∨ j = 7 by omega) with rfl | rfl | rfl | rfl | rfl | rfl | rfl | rfl <;> rfl) (by subst hRm; decide) (by subst hRm; decide) dX1_init_24 (fun k0 H hP hD hS => ?_)
    refine W.cs (cells' := 2) (slots' := 12) rfl rfl ?_
    have hP : va_P D vwCl [(a, .inr (1, [.ref hr, .int 0, .int 0])), (hr, .inl (cR, 4, .inr (.inr (.inr (.inr (fun _ => none)))))), (k0, .inr (2, [.int 0, .int 0, .int 0, .int 0, .null, .null, .int 0, .int 0]))] H := hP
    have hD : va_D A [(a, .inr (1, [.ref hr, .int 0, .int 0])), (hr, .inl (cR, 4, .inr (.inr (.inr (.inr (fun _ => none)))))), (k0, .inr (2, [.int 0, .int 0, .int 0, .int 0, .null, .null, .int 0, .int 0]))] := hD
    refine lv_dup hx hb dX1_init_27 rfl ?_
    refine call_IN (nA := 0) (rest := [.ref k0, .int (nI 0), .ref hr]) ([(a, .inr (1, [.ref hr, .int 0, .int 0])), (hr, .inl (cR, 4, .inr (.inr (.inr (.inr (fun _ => none))))))]) [] ⟨hx, hb, hml, hown, hts⟩ (m_mkInit l D k0) q31 q8 hE.1 q30 rfl (by decide +kernel) rfl (by subst hRm; exact ⟨by decide, by decide⟩) (hK.sub [] rfl) hE (hP.sub [2, 0, 1] rfl) (hD.sub [2, 0, 1] (by decide) rfl) hS hA hl.1 rfl (Nat.le_of_ble_eq_true rfl) dX1_init_28 (by subst hRm; exact ⟨by decide, by decide⟩) (fun v u H locs hv hKu hP hD hS => ?_)
    obtain ⟨b0, t0, cB, cZ⟩ := u
    obtain rfl : v = none := hv
    refine W.eq (g2 := F0 m 31 ls [.ref k0, .int (nI 0), .ref hr]) rfl ?_
    refine W.cs (cells' := 4) (slots' := 8204) rfl rfl ?_
    have hK : va_K D vwCl [(cR, .object "FragmentHouse$Making"), (cB, .byte), (cZ, .boolean)] s := hK.app hKu
    clear hKu
    have hP : va_P D vwCl [(k0, .inr (2, [.int 0, .int 0, .int 0, .int 0, .ref b0, .ref t0, .int 0, .int 0])), (b0, .inl (cB, 4096, .inl (fun _ => 0))), (t0, .inl (cZ, 4096, .inl (fun _ => 0))), (a, .inr (1, [.ref hr, .int 0, .int 0])), (hr, .inl (cR, 4, .inr (.inr (.inr (.inr (fun _ => none))))))] H := hP
    have hD : va_D A [(k0, .inr (2, [.int 0, .int 0, .int 0, .int 0, .ref b0, .ref t0, .int 0, .int 0])), (b0, .inl (cB, 4096, .inl (fun _ => 0))), (t0, .inl (cZ, 4096, .inl (fun _ => 0))), (a, .inr (1, [.ref hr, .int 0, .int 0])), (hr, .inl (cR, 4, .inr (.inr (.inr (.inr (fun _ => none))))))] := hD
    refine ab_aast hx hb hK hP hD hS 4 0 0 2 rfl rfl rfl rfl 0 rfl (by decide) (by decide) dX1_init_31 (fun H locs hP hD hS => ?_)
    have hP : va_P D vwCl [(k0, .inr (2, [.int 0, .int 0, .int 0, .int 0, .ref b0, .ref t0, .int 0, .int 0])), (b0, .inl (cB, 4096, .inl (fun _ => 0))), (t0, .inl (cZ, 4096, .inl (fun _ => 0))), (a, .inr (1, [.ref hr, .int 0, .int 0])), (hr, .inl (cR, 4, .inr (.inr (.inr (.inr (va_up (fun _ => none) 0 (some k0)))))))] H := hP
    have hD : va_D A [(k0, .inr (2, [.int 0, .int 0, .int 0, .int 0, .ref b0, .ref t0, .int 0, .int 0])), (b0, .inl (cB, 4096, .inl (fun _ => 0))), (t0, .inl (cZ, 4096, .inl (fun _ => 0))), (a, .inr (1, [.ref hr, .int 0, .int 0])), (hr, .inl (cR, 4, .inr (.inr (.inr (.inr (va_up (fun _ => none) 0 (some k0)))))))] := hD
    refine lv_iinc (v := nI (0 + 1)) (lv' := [(1, .int (nI (0 + 1))), (0, .ref a)]) hx hb dX1_init_32 hl (k := 0) rfl (nI_inc1 _) (by decide) rfl (fun ls hl => ?_)
    refine lv_goto (tgt := 14) hx hb dX1_init_35 (by decide) ?_
    skip
    refine lv_iload_n hx hb dX1_init_14 rfl (lv_at hl 0 rfl) ?_
    refine lv_iconst (v := nI 4) hx hb dX1_init_15 (by decide +kernel) ?_
    refine lv_icmp_ge (tgt := 38) hx hb dX1_init_16 (by decide) (fun c2 => ?_) (fun c2 => ?_)
    · skip
      have c2 : 4 ≤ (0 + 1) := (nI_leI (by omega) (by omega)).mp c2
      exact absurd c2 (by decide)
    · skip
      have c2 : ¬ (4 ≤ (0 + 1)) := fun h => c2 ((nI_leI (by omega) (by omega)).mpr h)
      refine lv_aload_n hx hb dX1_init_19 rfl (lv_at hl 1 rfl) ?_
      refine va_get (D := D) (ci := 1) (v := .ref hr) (C := RX1) (T := TX1) (N := 3) hx hb hts in_X1 hown hK hP 3 rfl rfl 0 (by decide) (hts _ q66) (fun _ h9 => h9) rfl dX1_init_20 ?_
      refine lv_iload_n hx hb dX1_init_23 rfl (lv_at hl 0 rfl) ?_
      refine va_new (ci := 2) (fs := [.int 0, .int 0, .int 0, .int 0, .null, .null, .int 0, .int 0]) (C := RX2) (T := TX2) (N := 8) hx hb hts in_X2 tyX2 tyX2_ok hown (hts _ q26) (hts _ q28) (hts _ q8) hK hP hD hS hA rfl (fun j hj => by rcases (show j = 0 ∨ j = 1 ∨ j = 2 ∨ j = 3 ∨ j = 4 ∨ j = 5 ∨ j = 6 ∨ j = 7 by omega) with rfl | rfl | rfl | rfl | rfl | rfl | rfl | rfl <;> rfl) (by subst hRm; decide) (by subst hRm; decide) dX1_init_24 (fun k1 H hP hD hS => ?_)
      refine W.cs (cells' := 5) (slots' := 8212) rfl rfl ?_
      have hP : va_P D vwCl [(k0, .inr (2, [.int 0, .int 0, .int 0, .int 0, .ref b0, .ref t0, .int 0, .int 0])), (b0, .inl (cB, 4096, .inl (fun _ => 0))), (t0, .inl (cZ, 4096, .inl (fun _ => 0))), (a, .inr (1, [.ref hr, .int 0, .int 0])), (hr, .inl (cR, 4, .inr (.inr (.inr (.inr (va_up (fun _ => none) 0 (some k0))))))), (k1, .inr (2, [.int 0, .int 0, .int 0, .int 0, .null, .null, .int 0, .int 0]))] H := hP
      have hD : va_D A [(k0, .inr (2, [.int 0, .int 0, .int 0, .int 0, .ref b0, .ref t0, .int 0, .int 0])), (b0, .inl (cB, 4096, .inl (fun _ => 0))), (t0, .inl (cZ, 4096, .inl (fun _ => 0))), (a, .inr (1, [.ref hr, .int 0, .int 0])), (hr, .inl (cR, 4, .inr (.inr (.inr (.inr (va_up (fun _ => none) 0 (some k0))))))), (k1, .inr (2, [.int 0, .int 0, .int 0, .int 0, .null, .null, .int 0, .int 0]))] := hD
      refine lv_dup hx hb dX1_init_27 rfl ?_
      refine call_IN (nA := 0) (rest := [.ref k1, .int (nI (0 + 1)), .ref hr]) ([(k0, .inr (2, [.int 0, .int 0, .int 0, .int 0, .ref b0, .ref t0, .int 0, .int 0])), (b0, .inl (cB, 4096, .inl (fun _ => 0))), (t0, .inl (cZ, 4096, .inl (fun _ => 0))), (a, .inr (1, [.ref hr, .int 0, .int 0])), (hr, .inl (cR, 4, .inr (.inr (.inr (.inr (va_up (fun _ => none) 0 (some k0)))))))]) [] ⟨hx, hb, hml, hown, hts⟩ (m_mkInit l D k1) q31 q8 hE.1 q30 rfl (by decide +kernel) rfl (by subst hRm; exact ⟨by decide, by decide⟩) (hK.sub [] rfl) hE (hP.sub [5, 0, 1, 2, 3, 4] rfl) (hD.sub [5, 0, 1, 2, 3, 4] (by decide) rfl) hS hA hl.1 rfl (Nat.le_of_ble_eq_true rfl) dX1_init_28 (by subst hRm; exact ⟨by decide, by decide⟩) (fun v u H locs hv hKu hP hD hS => ?_)
      obtain ⟨b1, t1, cB1, cZ1⟩ := u
      obtain rfl : v = none := hv
      refine W.eq (g2 := F0 m 31 ls [.ref k1, .int (nI (0 + 1)), .ref hr]) rfl ?_
      refine W.cs (cells' := 7) (slots' := 16404) rfl rfl ?_
      have eZ : cZ1 = cZ := K_u hK hKu 2 1 rfl rfl
      have eB : cB1 = cB := K_u hK hKu 1 0 rfl rfl
      subst eZ
      subst eB
      clear hKu
      have hP : va_P D vwCl [(k1, .inr (2, [.int 0, .int 0, .int 0, .int 0, .ref b1, .ref t1, .int 0, .int 0])), (b1, .inl (cB1, 4096, .inl (fun _ => 0))), (t1, .inl (cZ1, 4096, .inl (fun _ => 0))), (k0, .inr (2, [.int 0, .int 0, .int 0, .int 0, .ref b0, .ref t0, .int 0, .int 0])), (b0, .inl (cB1, 4096, .inl (fun _ => 0))), (t0, .inl (cZ1, 4096, .inl (fun _ => 0))), (a, .inr (1, [.ref hr, .int 0, .int 0])), (hr, .inl (cR, 4, .inr (.inr (.inr (.inr (va_up (fun _ => none) 0 (some k0)))))))] H := hP
      have hD : va_D A [(k1, .inr (2, [.int 0, .int 0, .int 0, .int 0, .ref b1, .ref t1, .int 0, .int 0])), (b1, .inl (cB1, 4096, .inl (fun _ => 0))), (t1, .inl (cZ1, 4096, .inl (fun _ => 0))), (k0, .inr (2, [.int 0, .int 0, .int 0, .int 0, .ref b0, .ref t0, .int 0, .int 0])), (b0, .inl (cB1, 4096, .inl (fun _ => 0))), (t0, .inl (cZ1, 4096, .inl (fun _ => 0))), (a, .inr (1, [.ref hr, .int 0, .int 0])), (hr, .inl (cR, 4, .inr (.inr (.inr (.inr (va_up (fun _ => none) 0 (some k0)))))))] := hD
      refine ab_aast hx hb hK hP hD hS 7 0 0 2 rfl rfl rfl rfl 1 rfl (by decide) (by decide) dX1_init_31 (fun H locs hP hD hS => ?_)
      have hP : va_P D vwCl [(k1, .inr (2, [.int 0, .int 0, .int 0, .int 0, .ref b1, .ref t1, .int 0, .int 0])), (b1, .inl (cB1, 4096, .inl (fun _ => 0))), (t1, .inl (cZ1, 4096, .inl (fun _ => 0))), (k0, .inr (2, [.int 0, .int 0, .int 0, .int 0, .ref b0, .ref t0, .int 0, .int 0])), (b0, .inl (cB1, 4096, .inl (fun _ => 0))), (t0, .inl (cZ1, 4096, .inl (fun _ => 0))), (a, .inr (1, [.ref hr, .int 0, .int 0])), (hr, .inl (cR, 4, .inr (.inr (.inr (.inr (va_up (va_up (fun _ => none) 0 (some k0)) 1 (some k1)))))))] H := hP
      have hD : va_D A [(k1, .inr (2, [.int 0, .int 0, .int 0, .int 0, .ref b1, .ref t1, .int 0, .int 0])), (b1, .inl (cB1, 4096, .inl (fun _ => 0))), (t1, .inl (cZ1, 4096, .inl (fun _ => 0))), (k0, .inr (2, [.int 0, .int 0, .int 0, .int 0, .ref b0, .ref t0, .int 0, .int 0])), (b0, .inl (cB1, 4096, .inl (fun _ => 0))), (t0, .inl (cZ1, 4096, .inl (fun _ => 0))), (a, .inr (1, [.ref hr, .int 0, .int 0])), (hr, .inl (cR, 4, .inr (.inr (.inr (.inr (va_up (va_up (fun _ => none) 0 (some k0)) 1 (some k1)))))))] := hD
      refine lv_iinc (v := nI ((0 + 1) + 1)) (lv' := [(1, .int (nI ((0 + 1) + 1))), (0, .ref a)]) hx hb dX1_init_32 hl (k := 0) rfl (nI_inc1 _) (by decide) rfl (fun ls hl => ?_)
      refine lv_goto (tgt := 14) hx hb dX1_init_35 (by decide) ?_
      skip
      refine lv_iload_n hx hb dX1_init_14 rfl (lv_at hl 0 rfl) ?_
      refine lv_iconst (v := nI 4) hx hb dX1_init_15 (by decide +kernel) ?_
      refine lv_icmp_ge (tgt := 38) hx hb dX1_init_16 (by decide) (fun c3 => ?_) (fun c3 => ?_)
      · skip
        have c3 : 4 ≤ ((0 + 1) + 1) := (nI_leI (by omega) (by omega)).mp c3
        exact absurd c3 (by decide)
      · skip
        have c3 : ¬ (4 ≤ ((0 + 1) + 1)) := fun h => c3 ((nI_leI (by omega) (by omega)).mpr h)
        refine lv_aload_n hx hb dX1_init_19 rfl (lv_at hl 1 rfl) ?_
        refine va_get (D := D) (ci := 1) (v := .ref hr) (C := RX1) (T := TX1) (N := 3) hx hb hts in_X1 hown hK hP 6 rfl rfl 0 (by decide) (hts _ q66) (fun _ h9 => h9) rfl dX1_init_20 ?_
        refine lv_iload_n hx hb dX1_init_23 rfl (lv_at hl 0 rfl) ?_
        refine va_new (ci := 2) (fs := [.int 0, .int 0, .int 0, .int 0, .null, .null, .int 0, .int 0]) (C := RX2) (T := TX2) (N := 8) hx hb hts in_X2 tyX2 tyX2_ok hown (hts _ q26) (hts _ q28) (hts _ q8) hK hP hD hS hA rfl (fun j hj => by rcases (show j = 0 ∨ j = 1 ∨ j = 2 ∨ j = 3 ∨ j = 4 ∨ j = 5 ∨ j = 6 ∨ j = 7 by omega) with rfl | rfl | rfl | rfl | rfl | rfl | rfl | rfl <;> rfl) (by subst hRm; decide) (by subst hRm; decide) dX1_init_24 (fun k2 H hP hD hS => ?_)
        refine W.cs (cells' := 8) (slots' := 16412) rfl rfl ?_
        have hP : va_P D vwCl [(k1, .inr (2, [.int 0, .int 0, .int 0, .int 0, .ref b1, .ref t1, .int 0, .int 0])), (b1, .inl (cB1, 4096, .inl (fun _ => 0))), (t1, .inl (cZ1, 4096, .inl (fun _ => 0))), (k0, .inr (2, [.int 0, .int 0, .int 0, .int 0, .ref b0, .ref t0, .int 0, .int 0])), (b0, .inl (cB1, 4096, .inl (fun _ => 0))), (t0, .inl (cZ1, 4096, .inl (fun _ => 0))), (a, .inr (1, [.ref hr, .int 0, .int 0])), (hr, .inl (cR, 4, .inr (.inr (.inr (.inr (va_up (va_up (fun _ => none) 0 (some k0)) 1 (some k1))))))), (k2, .inr (2, [.int 0, .int 0, .int 0, .int 0, .null, .null, .int 0, .int 0]))] H := hP
        have hD : va_D A [(k1, .inr (2, [.int 0, .int 0, .int 0, .int 0, .ref b1, .ref t1, .int 0, .int 0])), (b1, .inl (cB1, 4096, .inl (fun _ => 0))), (t1, .inl (cZ1, 4096, .inl (fun _ => 0))), (k0, .inr (2, [.int 0, .int 0, .int 0, .int 0, .ref b0, .ref t0, .int 0, .int 0])), (b0, .inl (cB1, 4096, .inl (fun _ => 0))), (t0, .inl (cZ1, 4096, .inl (fun _ => 0))), (a, .inr (1, [.ref hr, .int 0, .int 0])), (hr, .inl (cR, 4, .inr (.inr (.inr (.inr (va_up (va_up (fun _ => none) 0 (some k0)) 1 (some k1))))))), (k2, .inr (2, [.int 0, .int 0, .int 0, .int 0, .null, .null, .int 0, .int 0]))] := hD
        refine lv_dup hx hb dX1_init_27 rfl ?_
        refine call_IN (nA := 0) (rest := [.ref k2, .int (nI ((0 + 1) + 1)), .ref hr]) ([(k1, .inr (2, [.int 0, .int 0, .int 0, .int 0, .ref b1, .ref t1, .int 0, .int 0])), (b1, .inl (cB1, 4096, .inl (fun _ => 0))), (t1, .inl (cZ1, 4096, .inl (fun _ => 0))), (k0, .inr (2, [.int 0, .int 0, .int 0, .int 0, .ref b0, .ref t0, .int 0, .int 0])), (b0, .inl (cB1, 4096, .inl (fun _ => 0))), (t0, .inl (cZ1, 4096, .inl (fun _ => 0))), (a, .inr (1, [.ref hr, .int 0, .int 0])), (hr, .inl (cR, 4, .inr (.inr (.inr (.inr (va_up (va_up (fun _ => none) 0 (some k0)) 1 (some k1)))))))]) [] ⟨hx, hb, hml, hown, hts⟩ (m_mkInit l D k2) q31 q8 hE.1 q30 rfl (by decide +kernel) rfl (by subst hRm; exact ⟨by decide, by decide⟩) (hK.sub [] rfl) hE (hP.sub [8, 0, 1, 2, 3, 4, 5, 6, 7] rfl) (hD.sub [8, 0, 1, 2, 3, 4, 5, 6, 7] (by decide) rfl) hS hA hl.1 rfl (Nat.le_of_ble_eq_true rfl) dX1_init_28 (by subst hRm; exact ⟨by decide, by decide⟩) (fun v u H locs hv hKu hP hD hS => ?_)
        obtain ⟨b2, t2, cB2, cZ2⟩ := u
        obtain rfl : v = none := hv
        refine W.eq (g2 := F0 m 31 ls [.ref k2, .int (nI ((0 + 1) + 1)), .ref hr]) rfl ?_
        refine W.cs (cells' := 10) (slots' := 24604) rfl rfl ?_
        have eZ : cZ2 = cZ1 := K_u hK hKu 2 1 rfl rfl
        have eB : cB2 = cB1 := K_u hK hKu 1 0 rfl rfl
        subst eZ
        subst eB
        clear hKu
        have hP : va_P D vwCl [(k2, .inr (2, [.int 0, .int 0, .int 0, .int 0, .ref b2, .ref t2, .int 0, .int 0])), (b2, .inl (cB2, 4096, .inl (fun _ => 0))), (t2, .inl (cZ2, 4096, .inl (fun _ => 0))), (k1, .inr (2, [.int 0, .int 0, .int 0, .int 0, .ref b1, .ref t1, .int 0, .int 0])), (b1, .inl (cB2, 4096, .inl (fun _ => 0))), (t1, .inl (cZ2, 4096, .inl (fun _ => 0))), (k0, .inr (2, [.int 0, .int 0, .int 0, .int 0, .ref b0, .ref t0, .int 0, .int 0])), (b0, .inl (cB2, 4096, .inl (fun _ => 0))), (t0, .inl (cZ2, 4096, .inl (fun _ => 0))), (a, .inr (1, [.ref hr, .int 0, .int 0])), (hr, .inl (cR, 4, .inr (.inr (.inr (.inr (va_up (va_up (fun _ => none) 0 (some k0)) 1 (some k1)))))))] H := hP
        have hD : va_D A [(k2, .inr (2, [.int 0, .int 0, .int 0, .int 0, .ref b2, .ref t2, .int 0, .int 0])), (b2, .inl (cB2, 4096, .inl (fun _ => 0))), (t2, .inl (cZ2, 4096, .inl (fun _ => 0))), (k1, .inr (2, [.int 0, .int 0, .int 0, .int 0, .ref b1, .ref t1, .int 0, .int 0])), (b1, .inl (cB2, 4096, .inl (fun _ => 0))), (t1, .inl (cZ2, 4096, .inl (fun _ => 0))), (k0, .inr (2, [.int 0, .int 0, .int 0, .int 0, .ref b0, .ref t0, .int 0, .int 0])), (b0, .inl (cB2, 4096, .inl (fun _ => 0))), (t0, .inl (cZ2, 4096, .inl (fun _ => 0))), (a, .inr (1, [.ref hr, .int 0, .int 0])), (hr, .inl (cR, 4, .inr (.inr (.inr (.inr (va_up (va_up (fun _ => none) 0 (some k0)) 1 (some k1)))))))] := hD
        refine ab_aast hx hb hK hP hD hS 10 0 0 2 rfl rfl rfl rfl 2 rfl (by decide) (by decide) dX1_init_31 (fun H locs hP hD hS => ?_)
        have hP : va_P D vwCl [(k2, .inr (2, [.int 0, .int 0, .int 0, .int 0, .ref b2, .ref t2, .int 0, .int 0])), (b2, .inl (cB2, 4096, .inl (fun _ => 0))), (t2, .inl (cZ2, 4096, .inl (fun _ => 0))), (k1, .inr (2, [.int 0, .int 0, .int 0, .int 0, .ref b1, .ref t1, .int 0, .int 0])), (b1, .inl (cB2, 4096, .inl (fun _ => 0))), (t1, .inl (cZ2, 4096, .inl (fun _ => 0))), (k0, .inr (2, [.int 0, .int 0, .int 0, .int 0, .ref b0, .ref t0, .int 0, .int 0])), (b0, .inl (cB2, 4096, .inl (fun _ => 0))), (t0, .inl (cZ2, 4096, .inl (fun _ => 0))), (a, .inr (1, [.ref hr, .int 0, .int 0])), (hr, .inl (cR, 4, .inr (.inr (.inr (.inr (va_up (va_up (va_up (fun _ => none) 0 (some k0)) 1 (some k1)) 2 (some k2)))))))] H := hP
        have hD : va_D A [(k2, .inr (2, [.int 0, .int 0, .int 0, .int 0, .ref b2, .ref t2, .int 0, .int 0])), (b2, .inl (cB2, 4096, .inl (fun _ => 0))), (t2, .inl (cZ2, 4096, .inl (fun _ => 0))), (k1, .inr (2, [.int 0, .int 0, .int 0, .int 0, .ref b1, .ref t1, .int 0, .int 0])), (b1, .inl (cB2, 4096, .inl (fun _ => 0))), (t1, .inl (cZ2, 4096, .inl (fun _ => 0))), (k0, .inr (2, [.int 0, .int 0, .int 0, .int 0, .ref b0, .ref t0, .int 0, .int 0])), (b0, .inl (cB2, 4096, .inl (fun _ => 0))), (t0, .inl (cZ2, 4096, .inl (fun _ => 0))), (a, .inr (1, [.ref hr, .int 0, .int 0])), (hr, .inl (cR, 4, .inr (.inr (.inr (.inr (va_up (va_up (va_up (fun _ => none) 0 (some k0)) 1 (some k1)) 2 (some k2)))))))] := hD
        refine lv_iinc (v := nI (((0 + 1) + 1) + 1)) (lv' := [(1, .int (nI (((0 + 1) + 1) + 1))), (0, .ref a)]) hx hb dX1_init_32 hl (k := 0) rfl (nI_inc1 _) (by decide) rfl (fun ls hl => ?_)
        refine lv_goto (tgt := 14) hx hb dX1_init_35 (by decide) ?_
        skip
        refine lv_iload_n hx hb dX1_init_14 rfl (lv_at hl 0 rfl) ?_
        refine lv_iconst (v := nI 4) hx hb dX1_init_15 (by decide +kernel) ?_
        refine lv_icmp_ge (tgt := 38) hx hb dX1_init_16 (by decide) (fun c4 => ?_) (fun c4 => ?_)
        · skip
          have c4 : 4 ≤ (((0 + 1) + 1) + 1) := (nI_leI (by omega) (by omega)).mp c4
          exact absurd c4 (by decide)
        · skip
          have c4 : ¬ (4 ≤ (((0 + 1) + 1) + 1)) := fun h => c4 ((nI_leI (by omega) (by omega)).mpr h)
          refine lv_aload_n hx hb dX1_init_19 rfl (lv_at hl 1 rfl) ?_
          refine va_get (D := D) (ci := 1) (v := .ref hr) (C := RX1) (T := TX1) (N := 3) hx hb hts in_X1 hown hK hP 9 rfl rfl 0 (by decide) (hts _ q66) (fun _ h9 => h9) rfl dX1_init_20 ?_
          refine lv_iload_n hx hb dX1_init_23 rfl (lv_at hl 0 rfl) ?_
          refine va_new (ci := 2) (fs := [.int 0, .int 0, .int 0, .int 0, .null, .null, .int 0, .int 0]) (C := RX2) (T := TX2) (N := 8) hx hb hts in_X2 tyX2 tyX2_ok hown (hts _ q26) (hts _ q28) (hts _ q8) hK hP hD hS hA rfl (fun j hj => by rcases (show j = 0 ∨ j = 1 ∨ j = 2 ∨ j = 3 ∨ j = 4 ∨ j = 5 ∨ j = 6 ∨ j = 7 by omega) with rfl | rfl | rfl | rfl | rfl | rfl | rfl | rfl <;> rfl) (by subst hRm; decide) (by subst hRm; decide) dX1_init_24 (fun k3 H hP hD hS => ?_)
          refine W.cs (cells' := 11) (slots' := 24612) rfl rfl ?_
          have hP : va_P D vwCl [(k2, .inr (2, [.int 0, .int 0, .int 0, .int 0, .ref b2, .ref t2, .int 0, .int 0])), (b2, .inl (cB2, 4096, .inl (fun _ => 0))), (t2, .inl (cZ2, 4096, .inl (fun _ => 0))), (k1, .inr (2, [.int 0, .int 0, .int 0, .int 0, .ref b1, .ref t1, .int 0, .int 0])), (b1, .inl (cB2, 4096, .inl (fun _ => 0))), (t1, .inl (cZ2, 4096, .inl (fun _ => 0))), (k0, .inr (2, [.int 0, .int 0, .int 0, .int 0, .ref b0, .ref t0, .int 0, .int 0])), (b0, .inl (cB2, 4096, .inl (fun _ => 0))), (t0, .inl (cZ2, 4096, .inl (fun _ => 0))), (a, .inr (1, [.ref hr, .int 0, .int 0])), (hr, .inl (cR, 4, .inr (.inr (.inr (.inr (va_up (va_up (va_up (fun _ => none) 0 (some k0)) 1 (some k1)) 2 (some k2))))))), (k3, .inr (2, [.int 0, .int 0, .int 0, .int 0, .null, .null, .int 0, .int 0]))] H := hP
          have hD : va_D A [(k2, .inr (2, [.int 0, .int 0, .int 0, .int 0, .ref b2, .ref t2, .int 0, .int 0])), (b2, .inl (cB2, 4096, .inl (fun _ => 0))), (t2, .inl (cZ2, 4096, .inl (fun _ => 0))), (k1, .inr (2, [.int 0, .int 0, .int 0, .int 0, .ref b1, .ref t1, .int 0, .int 0])), (b1, .inl (cB2, 4096, .inl (fun _ => 0))), (t1, .inl (cZ2, 4096, .inl (fun _ => 0))), (k0, .inr (2, [.int 0, .int 0, .int 0, .int 0, .ref b0, .ref t0, .int 0, .int 0])), (b0, .inl (cB2, 4096, .inl (fun _ => 0))), (t0, .inl (cZ2, 4096, .inl (fun _ => 0))), (a, .inr (1, [.ref hr, .int 0, .int 0])), (hr, .inl (cR, 4, .inr (.inr (.inr (.inr (va_up (va_up (va_up (fun _ => none) 0 (some k0)) 1 (some k1)) 2 (some k2))))))), (k3, .inr (2, [.int 0, .int 0, .int 0, .int 0, .null, .null, .int 0, .int 0]))] := hD
          refine lv_dup hx hb dX1_init_27 rfl ?_
          refine call_IN (nA := 0) (rest := [.ref k3, .int (nI (((0 + 1) + 1) + 1)), .ref hr]) ([(k2, .inr (2, [.int 0, .int 0, .int 0, .int 0, .ref b2, .ref t2, .int 0, .int 0])), (b2, .inl (cB2, 4096, .inl (fun _ => 0))), (t2, .inl (cZ2, 4096, .inl (fun _ => 0))), (k1, .inr (2, [.int 0, .int 0, .int 0, .int 0, .ref b1, .ref t1, .int 0, .int 0])), (b1, .inl (cB2, 4096, .inl (fun _ => 0))), (t1, .inl (cZ2, 4096, .inl (fun _ => 0))), (k0, .inr (2, [.int 0, .int 0, .int 0, .int 0, .ref b0, .ref t0, .int 0, .int 0])), (b0, .inl (cB2, 4096, .inl (fun _ => 0))), (t0, .inl (cZ2, 4096, .inl (fun _ => 0))), (a, .inr (1, [.ref hr, .int 0, .int 0])), (hr, .inl (cR, 4, .inr (.inr (.inr (.inr (va_up (va_up (va_up (fun _ => none) 0 (some k0)) 1 (some k1)) 2 (some k2)))))))]) [] ⟨hx, hb, hml, hown, hts⟩ (m_mkInit l D k3) q31 q8 hE.1 q30 rfl (by decide +kernel) rfl (by subst hRm; exact ⟨by decide, by decide⟩) (hK.sub [] rfl) hE (hP.sub [11, 0, 1, 2, 3, 4, 5, 6, 7, 8, 9, 10] rfl) (hD.sub [11, 0, 1, 2, 3, 4, 5, 6, 7, 8, 9, 10] (by decide) rfl) hS hA hl.1 rfl (Nat.le_of_ble_eq_true rfl) dX1_init_28 (by subst hRm; exact ⟨by decide, by decide⟩) (fun v u H locs hv hKu hP hD hS => ?_)
          obtain ⟨b3, t3, cB3, cZ3⟩ := u
          obtain rfl : v = none := hv
          refine W.eq (g2 := F0 m 31 ls [.ref k3, .int (nI (((0 + 1) + 1) + 1)), .ref hr]) rfl ?_
          refine W.cs (cells' := 13) (slots' := 32804) rfl rfl ?_
          have eZ : cZ3 = cZ2 := K_u hK hKu 2 1 rfl rfl
          have eB : cB3 = cB2 := K_u hK hKu 1 0 rfl rfl
          subst eZ
          subst eB
          clear hKu
          have hP : va_P D vwCl [(k3, .inr (2, [.int 0, .int 0, .int 0, .int 0, .ref b3, .ref t3, .int 0, .int 0])), (b3, .inl (cB3, 4096, .inl (fun _ => 0))), (t3, .inl (cZ3, 4096, .inl (fun _ => 0))), (k2, .inr (2, [.int 0, .int 0, .int 0, .int 0, .ref b2, .ref t2, .int 0, .int 0])), (b2, .inl (cB3, 4096, .inl (fun _ => 0))), (t2, .inl (cZ3, 4096, .inl (fun _ => 0))), (k1, .inr (2, [.int 0, .int 0, .int 0, .int 0, .ref b1, .ref t1, .int 0, .int 0])), (b1, .inl (cB3, 4096, .inl (fun _ => 0))), (t1, .inl (cZ3, 4096, .inl (fun _ => 0))), (k0, .inr (2, [.int 0, .int 0, .int 0, .int 0, .ref b0, .ref t0, .int 0, .int 0])), (b0, .inl (cB3, 4096, .inl (fun _ => 0))), (t0, .inl (cZ3, 4096, .inl (fun _ => 0))), (a, .inr (1, [.ref hr, .int 0, .int 0])), (hr, .inl (cR, 4, .inr (.inr (.inr (.inr (va_up (va_up (va_up (fun _ => none) 0 (some k0)) 1 (some k1)) 2 (some k2)))))))] H := hP
          have hD : va_D A [(k3, .inr (2, [.int 0, .int 0, .int 0, .int 0, .ref b3, .ref t3, .int 0, .int 0])), (b3, .inl (cB3, 4096, .inl (fun _ => 0))), (t3, .inl (cZ3, 4096, .inl (fun _ => 0))), (k2, .inr (2, [.int 0, .int 0, .int 0, .int 0, .ref b2, .ref t2, .int 0, .int 0])), (b2, .inl (cB3, 4096, .inl (fun _ => 0))), (t2, .inl (cZ3, 4096, .inl (fun _ => 0))), (k1, .inr (2, [.int 0, .int 0, .int 0, .int 0, .ref b1, .ref t1, .int 0, .int 0])), (b1, .inl (cB3, 4096, .inl (fun _ => 0))), (t1, .inl (cZ3, 4096, .inl (fun _ => 0))), (k0, .inr (2, [.int 0, .int 0, .int 0, .int 0, .ref b0, .ref t0, .int 0, .int 0])), (b0, .inl (cB3, 4096, .inl (fun _ => 0))), (t0, .inl (cZ3, 4096, .inl (fun _ => 0))), (a, .inr (1, [.ref hr, .int 0, .int 0])), (hr, .inl (cR, 4, .inr (.inr (.inr (.inr (va_up (va_up (va_up (fun _ => none) 0 (some k0)) 1 (some k1)) 2 (some k2)))))))] := hD
          refine ab_aast hx hb hK hP hD hS 13 0 0 2 rfl rfl rfl rfl 3 rfl (by decide) (by decide) dX1_init_31 (fun H locs hP hD hS => ?_)
          have hP : va_P D vwCl [(k3, .inr (2, [.int 0, .int 0, .int 0, .int 0, .ref b3, .ref t3, .int 0, .int 0])), (b3, .inl (cB3, 4096, .inl (fun _ => 0))), (t3, .inl (cZ3, 4096, .inl (fun _ => 0))), (k2, .inr (2, [.int 0, .int 0, .int 0, .int 0, .ref b2, .ref t2, .int 0, .int 0])), (b2, .inl (cB3, 4096, .inl (fun _ => 0))), (t2, .inl (cZ3, 4096, .inl (fun _ => 0))), (k1, .inr (2, [.int 0, .int 0, .int 0, .int 0, .ref b1, .ref t1, .int 0, .int 0])), (b1, .inl (cB3, 4096, .inl (fun _ => 0))), (t1, .inl (cZ3, 4096, .inl (fun _ => 0))), (k0, .inr (2, [.int 0, .int 0, .int 0, .int 0, .ref b0, .ref t0, .int 0, .int 0])), (b0, .inl (cB3, 4096, .inl (fun _ => 0))), (t0, .inl (cZ3, 4096, .inl (fun _ => 0))), (a, .inr (1, [.ref hr, .int 0, .int 0])), (hr, .inl (cR, 4, .inr (.inr (.inr (.inr (va_up (va_up (va_up (va_up (fun _ => none) 0 (some k0)) 1 (some k1)) 2 (some k2)) 3 (some k3)))))))] H := hP
          have hD : va_D A [(k3, .inr (2, [.int 0, .int 0, .int 0, .int 0, .ref b3, .ref t3, .int 0, .int 0])), (b3, .inl (cB3, 4096, .inl (fun _ => 0))), (t3, .inl (cZ3, 4096, .inl (fun _ => 0))), (k2, .inr (2, [.int 0, .int 0, .int 0, .int 0, .ref b2, .ref t2, .int 0, .int 0])), (b2, .inl (cB3, 4096, .inl (fun _ => 0))), (t2, .inl (cZ3, 4096, .inl (fun _ => 0))), (k1, .inr (2, [.int 0, .int 0, .int 0, .int 0, .ref b1, .ref t1, .int 0, .int 0])), (b1, .inl (cB3, 4096, .inl (fun _ => 0))), (t1, .inl (cZ3, 4096, .inl (fun _ => 0))), (k0, .inr (2, [.int 0, .int 0, .int 0, .int 0, .ref b0, .ref t0, .int 0, .int 0])), (b0, .inl (cB3, 4096, .inl (fun _ => 0))), (t0, .inl (cZ3, 4096, .inl (fun _ => 0))), (a, .inr (1, [.ref hr, .int 0, .int 0])), (hr, .inl (cR, 4, .inr (.inr (.inr (.inr (va_up (va_up (va_up (va_up (fun _ => none) 0 (some k0)) 1 (some k1)) 2 (some k2)) 3 (some k3)))))))] := hD
          refine lv_iinc (v := nI ((((0 + 1) + 1) + 1) + 1)) (lv' := [(1, .int (nI ((((0 + 1) + 1) + 1) + 1))), (0, .ref a)]) hx hb dX1_init_32 hl (k := 0) rfl (nI_inc1 _) (by decide) rfl (fun ls hl => ?_)
          refine lv_goto (tgt := 14) hx hb dX1_init_35 (by decide) ?_
          skip
          refine lv_iload_n hx hb dX1_init_14 rfl (lv_at hl 0 rfl) ?_
          refine lv_iconst (v := nI 4) hx hb dX1_init_15 (by decide +kernel) ?_
          refine lv_icmp_ge (tgt := 38) hx hb dX1_init_16 (by decide) (fun c5 => ?_) (fun c5 => ?_)
          · skip
            have c5 : 4 ≤ ((((0 + 1) + 1) + 1) + 1) := (nI_leI (by omega) (by omega)).mp c5
            have hP := hP.sub (ws' := [(a, .inr (1, [.ref hr, .int 0, .int 0])), (hr, .inl (cR, 4, .inr (.inr (.inr (.inr (va_up (va_up (va_up (va_up (fun _ => none) 0 (some k0)) 1 (some k1)) 2 (some k2)) 3 (some k3))))))), (k0, .inr (2, [.int 0, .int 0, .int 0, .int 0, .ref b0, .ref t0, .int 0, .int 0])), (b0, .inl (cB3, 4096, .inl (fun _ => 0))), (t0, .inl (cZ3, 4096, .inl (fun _ => 0))), (k1, .inr (2, [.int 0, .int 0, .int 0, .int 0, .ref b1, .ref t1, .int 0, .int 0])), (b1, .inl (cB3, 4096, .inl (fun _ => 0))), (t1, .inl (cZ3, 4096, .inl (fun _ => 0))), (k2, .inr (2, [.int 0, .int 0, .int 0, .int 0, .ref b2, .ref t2, .int 0, .int 0])), (b2, .inl (cB3, 4096, .inl (fun _ => 0))), (t2, .inl (cZ3, 4096, .inl (fun _ => 0))), (k3, .inr (2, [.int 0, .int 0, .int 0, .int 0, .ref b3, .ref t3, .int 0, .int 0])), (b3, .inl (cB3, 4096, .inl (fun _ => 0))), (t3, .inl (cZ3, 4096, .inl (fun _ => 0)))]) [12, 13, 9, 10, 11, 6, 7, 8, 3, 4, 5, 0, 1, 2] rfl
            have hD := hD.sub (ws' := [(a, .inr (1, [.ref hr, .int 0, .int 0])), (hr, .inl (cR, 4, .inr (.inr (.inr (.inr (va_up (va_up (va_up (va_up (fun _ => none) 0 (some k0)) 1 (some k1)) 2 (some k2)) 3 (some k3))))))), (k0, .inr (2, [.int 0, .int 0, .int 0, .int 0, .ref b0, .ref t0, .int 0, .int 0])), (b0, .inl (cB3, 4096, .inl (fun _ => 0))), (t0, .inl (cZ3, 4096, .inl (fun _ => 0))), (k1, .inr (2, [.int 0, .int 0, .int 0, .int 0, .ref b1, .ref t1, .int 0, .int 0])), (b1, .inl (cB3, 4096, .inl (fun _ => 0))), (t1, .inl (cZ3, 4096, .inl (fun _ => 0))), (k2, .inr (2, [.int 0, .int 0, .int 0, .int 0, .ref b2, .ref t2, .int 0, .int 0])), (b2, .inl (cB3, 4096, .inl (fun _ => 0))), (t2, .inl (cZ3, 4096, .inl (fun _ => 0))), (k3, .inr (2, [.int 0, .int 0, .int 0, .int 0, .ref b3, .ref t3, .int 0, .int 0])), (b3, .inl (cB3, 4096, .inl (fun _ => 0))), (t3, .inl (cZ3, 4096, .inl (fun _ => 0)))]) [12, 13, 9, 10, 11, 6, 7, 8, 3, 4, 5, 0, 1, 2] (by decide) rfl
            obtain ⟨M, hM⟩ : ∃ M : Nat → Mk, M = (fun k => match k with | 0 => ((k0, b0, t0), 0, 0, 0, 0, 0, 0, (fun _ => 0), (fun _ => 0)) | 1 => ((k1, b1, t1), 0, 0, 0, 0, 0, 0, (fun _ => 0), (fun _ => 0)) | 2 => ((k2, b2, t2), 0, 0, 0, 0, 0, 0, (fun _ => 0), (fun _ => 0)) | _ => ((k3, b3, t3), 0, 0, 0, 0, 0, 0, (fun _ => 0), (fun _ => 0))) := ⟨_, rfl⟩
            have hrow : ∀ j, j < 4 → (va_up (va_up (va_up (va_up (fun _ => none) 0 (some k0)) 1 (some k1)) 2 (some k2)) 3 (some k3)) j = rowOf M j := by
              intro j hj
              rw [hM]
              rcases (show j = 0 ∨ j = 1 ∨ j = 2 ∨ j = 3 by omega) with rfl | rfl | rfl | rfl <;> rfl
            have hP := wP_cell hP hD (p := 1) rfl (vp_cq hrow)
            have hD := hD.set (p := 1) (e := .inl (cR, 4, .inr (.inr (.inr (.inr (rowOf M)))))) rfl
            exact ret_v hx hb hrt hlk hQ (Nat.le_refl _) (Nat.le_refl _) (hr, cB3, cZ3, cR, M) rfl hK (by rw [hM] at hP ⊢; exact hP) (by rw [hM] at hD ⊢; exact hD) hS dX1_init_38
          · skip
            have c5 : ¬ (4 ≤ ((((0 + 1) + 1) + 1) + 1)) := fun h => c5 ((nI_leI (by omega) (by omega)).mpr h)
            exact absurd (show 4 ≤ 4 from Nat.le_refl 4) c5
set_option maxHeartbeats 4000000 in
set_option maxRecDepth 100000 in
/-- Fragments.begin -/
theorem m_frBegin (l : Launch) (D : va_G) (cB cZ cR : ClassId) (hf hr sz : Nat) (md : Int32) (M : Nat → Mk) : MM l yX1_begin cX1_begin 1 none { frames := 0, cells := 0, slots := 0, locals := 0 } D [] [.ref hf] (frw cB cZ cR hf hr sz md M) (S := Unit) (fun r u => r = none) (fun _ => []) (fun u => frw cB cZ cR hf hr 0 (nI 0) M) := by
  refine MM_of (by decide) (Nat.le_of_ble_eq_true rfl) ?_
  intro p e s m below meth c A ls R Q args hRm hQ hx hb hrt hlk hml hown hts hin hK hE hA hP hD hS hl
  have hown : s.vm.findClass "FragmentHouse$Fragments" = some m.cls := hown
  replace hl : lv_has ls 1 [(0, .ref hf)] := hl
  replace hP : va_P D vwCl ([(hf, .inr (1, [.ref hr, .int (nI sz), .int md])), (hr, .inl (cR, 4, .inr (.inr (.inr (.inr (rowOf M))))))] ++ mks cB cZ M) s.heap := hP
  replace hD : va_D A ([(hf, .inr (1, [.ref hr, .int (nI sz), .int md])), (hr, .inl (cR, 4, .inr (.inr (.inr (.inr (rowOf M))))))] ++ mks cB cZ M) := hD
  refine lv_aload_n hx hb dX1_begin_0 rfl (lv_at hl 0 rfl) ?_
  refine lv_iconst (v := nI 0) hx hb dX1_begin_1 (by decide +kernel) ?_
  refine va_put (D := D) (ci := 1) (v := .int (nI 0)) (ty := .int) (C := RX1) (T := TX1) (N := 3) hx hb hts in_X1 tyX1 tyX1_ok nmX1 hown hK hP hD hS 0 rfl rfl 1 (by decide) (hts _ q67) (fun _ h9 => h9) rfl (by decide +kernel) rfl rfl (Nat.le_of_ble_eq_true rfl) dX1_begin_2 (fun H locs hP hD hS => ?_)
  have hP : va_P D vwCl ([(hf, .inr (1, [.ref hr, .int (nI 0), .int md])), (hr, .inl (cR, 4, .inr (.inr (.inr (.inr (rowOf M))))))] ++ mks cB cZ M) H := hP
  have hD : va_D A ([(hf, .inr (1, [.ref hr, .int (nI 0), .int md])), (hr, .inl (cR, 4, .inr (.inr (.inr (.inr (rowOf M))))))] ++ mks cB cZ M) := hD
  refine lv_aload_n hx hb dX1_begin_5 rfl (lv_at hl 0 rfl) ?_
  refine lv_iconst (v := nI 0) hx hb dX1_begin_6 (by decide +kernel) ?_
  refine va_put (D := D) (ci := 1) (v := .int (nI 0)) (ty := .int) (C := RX1) (T := TX1) (N := 3) hx hb hts in_X1 tyX1 tyX1_ok nmX1 hown hK hP hD hS 0 rfl rfl 2 (by decide) (hts _ q69) (fun _ h9 => h9) rfl (by decide +kernel) rfl rfl (Nat.le_of_ble_eq_true rfl) dX1_begin_7 (fun H locs hP hD hS => ?_)
  have hP : va_P D vwCl ([(hf, .inr (1, [.ref hr, .int (nI 0), .int (nI 0)])), (hr, .inl (cR, 4, .inr (.inr (.inr (.inr (rowOf M))))))] ++ mks cB cZ M) H := hP
  have hD : va_D A ([(hf, .inr (1, [.ref hr, .int (nI 0), .int (nI 0)])), (hr, .inl (cR, 4, .inr (.inr (.inr (.inr (rowOf M))))))] ++ mks cB cZ M) := hD
  exact ret_v hx hb hrt hlk hQ (Nat.le_refl _) (Nat.le_refl _) () rfl hK hP hD hS dX1_begin_10
set_option maxHeartbeats 4000000 in
set_option maxRecDepth 100000 in
/-- Fragments.remove -/
theorem m_frRemove (l : Launch) (D : va_G) (cB cZ cR cI : ClassId) (hf hr sz : Nat) (md : Int32) (M : Nat → Mk) (k : Nat) (hk : k < sz) (hs : sz ≤ 4) : MM l yX1_remove cX1_remove 4 none { frames := 0, cells := 0, slots := 0, locals := 0 } D (tyS cB cZ cR cI) [.ref hf, .int (nI k)] (frw cB cZ cR hf hr sz md M) (S := Unit) (fun r u => r = none) (fun _ => tyS cB cZ cR cI) (fun u => frw cB cZ cR hf hr (sz - 1) md (rotM k sz M)) := by
  refine MM_of (by decide) (Nat.le_of_ble_eq_true rfl) ?_
  intro p e s m below meth c A ls R Q args hRm hQ hx hb hrt hlk hml hown hts hin hK hE hA hP hD hS hl
  have hown : s.vm.findClass "FragmentHouse$Fragments" = some m.cls := hown
  replace hl : lv_has ls 4 [(0, .ref hf), (1, .int (nI k))] := hl
  replace hP : va_P D vwCl ([(hf, .inr (1, [.ref hr, .int (nI sz), .int md])), (hr, .inl (cR, 4, .inr (.inr (.inr (.inr (rowOf M))))))] ++ mks cB cZ M) s.heap := hP
  replace hD : va_D A ([(hf, .inr (1, [.ref hr, .int (nI sz), .int md])), (hr, .inl (cR, 4, .inr (.inr (.inr (.inr (rowOf M))))))] ++ mks cB cZ M) := hD
  refine lv_aload_n hx hb dX1_remove_0 rfl (lv_at hl 0 rfl) ?_
  refine va_get (D := D) (ci := 1) (v := .ref hr) (C := RX1) (T := TX1) (N := 3) hx hb hts in_X1 hown hK hP 0 rfl rfl 0 (by decide) (hts _ q66) (fun _ h9 => h9) rfl dX1_remove_1 ?_
  refine lv_iload_n hx hb dX1_remove_4 rfl (lv_at hl 1 rfl) ?_
  refine ab_aald (v := kA (M k)) hx hb hK hP 1 2 rfl rfl k (rfl) (by omega) (by decide) rfl dX1_remove_5 ?_
  refine lv_astore_n (lv' := [(2, .ref (kA (M k))), (0, .ref hf), (1, .int (nI k))]) hx hb dX1_remove_6 rfl hl (by decide) rfl (fun ls hl => ?_)
  refine lv_iload_n hx hb dX1_remove_7 rfl (lv_at hl 2 rfl) ?_
  refine lv_istore_n (lv' := [(3, .int (nI k)), (2, .ref (kA (M k))), (0, .ref hf), (1, .int (nI k))]) hx hb dX1_remove_8 rfl hl (by decide) rfl (fun ls hl => ?_)
  have loop : ∀ (d j : Nat) (H : Heap) (locs : List Loc) (ls : Array Slot), k ≤ j → j + 1 ≤ sz → sz ≤ j + d → va_P D vwCl ([(hf, .inr (1, [.ref hr, .int (nI sz), .int md])), (hr, .inl (cR, 4, .inr (.inr (.inr (.inr (shR k j M))))))] ++ mks cB cZ M) H → va_D A ([(hf, .inr (1, [.ref hr, .int (nI sz), .int md])), (hr, .inl (cR, 4, .inr (.inr (.inr (.inr (shR k j M))))))] ++ mks cB cZ M) → va_S A s.heap H locs → lv_has ls 4 [(0, .ref hf), (1, .int (nI k)), (2, .ref (kA (M k))), (3, .int (nI j))] → W p l e R s m args below meth c H locs 0 0 Q (F0 m 9 ls []) := by
    intro d
    induction d with
    | zero => intro j H locs ls q0 q1 q2; exact absurd q2 (by omega)
    | succ d ih =>
      intro j H locs ls q0 q1 q2 hP hD hS hl
      refine lv_iload_n hx hb dX1_remove_9 rfl (lv_at hl 3 rfl) ?_
      refine lv_iconst (v := nI 1) hx hb dX1_remove_10 (by decide +kernel) ?_
      refine lv_iadd hx hb dX1_remove_11 ?_
      refine lv_as (y := nI (j + 1)) (nI_add _ _) ?_
      refine lv_aload_n hx hb dX1_remove_12 rfl (lv_at hl 0 rfl) ?_
      refine va_get (D := D) (ci := 1) (v := .int (nI sz)) (C := RX1) (T := TX1) (N := 3) hx hb hts in_X1 hown hK hP 0 rfl rfl 1 (by decide) (hts _ q67) (fun _ h9 => h9) rfl dX1_remove_13 ?_
      refine lv_icmp_ge (tgt := 39) hx hb dX1_remove_16 (by decide) (fun c6 => ?_) (fun c6 => ?_)
      · skip
        have c6 : sz ≤ (j + 1) := (nI_leI (by omega) (by omega)).mp c6
        obtain rfl : j = sz - 1 := by omega
        refine lv_aload_n hx hb dX1_remove_39 rfl (lv_at hl 0 rfl) ?_
        refine lv_dup hx hb dX1_remove_40 rfl ?_
        refine va_get (D := D) (ci := 1) (v := .int (nI sz)) (C := RX1) (T := TX1) (N := 3) hx hb hts in_X1 hown hK hP 0 rfl rfl 1 (by decide) (hts _ q67) (fun _ h9 => h9) rfl dX1_remove_41 ?_
        refine lv_iconst (v := nI 1) hx hb dX1_remove_44 (by decide +kernel) ?_
        refine lv_isub hx hb dX1_remove_45 ?_
        refine lv_as (y := nI (sz - 1)) (pk_sub (by omega)) ?_
        refine va_put (D := D) (ci := 1) (v := .int (nI (sz - 1))) (ty := .int) (C := RX1) (T := TX1) (N := 3) hx hb hts in_X1 tyX1 tyX1_ok nmX1 hown hK hP hD hS 0 rfl rfl 1 (by decide) (hts _ q67) (fun _ h9 => h9) rfl (by decide +kernel) rfl rfl (Nat.le_of_ble_eq_true rfl) dX1_remove_46 (fun H locs hP hD hS => ?_)
        have hP : va_P D vwCl ([(hf, .inr (1, [.ref hr, .int (nI (sz - 1)), .int md])), (hr, .inl (cR, 4, .inr (.inr (.inr (.inr (shR k (sz - 1) M))))))] ++ mks cB cZ M) H := hP
        have hD : va_D A ([(hf, .inr (1, [.ref hr, .int (nI (sz - 1)), .int md])), (hr, .inl (cR, 4, .inr (.inr (.inr (.inr (shR k (sz - 1) M))))))] ++ mks cB cZ M) := hD
        refine lv_aload_n hx hb dX1_remove_49 rfl (lv_at hl 0 rfl) ?_
        refine va_get (D := D) (ci := 1) (v := .ref hr) (C := RX1) (T := TX1) (N := 3) hx hb hts in_X1 hown hK hP 0 rfl rfl 0 (by decide) (hts _ q66) (fun _ h9 => h9) rfl dX1_remove_50 ?_
        refine lv_aload_n hx hb dX1_remove_53 rfl (lv_at hl 0 rfl) ?_
        refine va_get (D := D) (ci := 1) (v := .int (nI (sz - 1))) (C := RX1) (T := TX1) (N := 3) hx hb hts in_X1 hown hK hP 0 rfl rfl 1 (by decide) (hts _ q67) (fun _ h9 => h9) rfl dX1_remove_54 ?_
        refine lv_aload_n hx hb dX1_remove_57 rfl (lv_at hl 2 rfl) ?_
        refine ab_aast (v := kA (M k)) hx hb hK hP hD hS 1 2 (2 + 3 * k) 2 rfl rfl (mks_get cB cZ (by omega) M [_, _]) rfl (sz - 1) rfl (by omega) (by decide) dX1_remove_58 (fun H locs hP hD hS => ?_)
        have hP : va_P D vwCl ([(hf, .inr (1, [.ref hr, .int (nI (sz - 1)), .int md])), (hr, .inl (cR, 4, .inr (.inr (.inr (.inr (va_up (shR k (sz - 1) M) (sz - 1) (some (kA (M k)))))))))] ++ mks cB cZ M) H := hP
        have hD : va_D A ([(hf, .inr (1, [.ref hr, .int (nI (sz - 1)), .int md])), (hr, .inl (cR, 4, .inr (.inr (.inr (.inr (va_up (shR k (sz - 1) M) (sz - 1) (some (kA (M k)))))))))] ++ mks cB cZ M) := hD
        rw [shR_end hk] at hP hD
        have hP := wP_perm hP ((mks_perm cB cZ hk hs M).append_left _)
        have hD := wD_perm hD ((mks_perm cB cZ hk hs M).append_left _)
        exact ret_v hx hb hrt hlk hQ (Nat.le_refl _) (Nat.le_refl _) () rfl hK hP hD hS dX1_remove_59
      · skip
        have c6 : ¬ (sz ≤ (j + 1)) := fun h => c6 ((nI_leI (by omega) (by omega)).mpr h)
        refine lv_aload_n hx hb dX1_remove_19 rfl (lv_at hl 0 rfl) ?_
        refine va_get (D := D) (ci := 1) (v := .ref hr) (C := RX1) (T := TX1) (N := 3) hx hb hts in_X1 hown hK hP 0 rfl rfl 0 (by decide) (hts _ q66) (fun _ h9 => h9) rfl dX1_remove_20 ?_
        refine lv_iload_n hx hb dX1_remove_23 rfl (lv_at hl 3 rfl) ?_
        refine lv_aload_n hx hb dX1_remove_24 rfl (lv_at hl 0 rfl) ?_
        refine va_get (D := D) (ci := 1) (v := .ref hr) (C := RX1) (T := TX1) (N := 3) hx hb hts in_X1 hown hK hP 0 rfl rfl 0 (by decide) (hts _ q66) (fun _ h9 => h9) rfl dX1_remove_25 ?_
        refine lv_iload_n hx hb dX1_remove_28 rfl (lv_at hl 3 rfl) ?_
        refine lv_iconst (v := nI 1) hx hb dX1_remove_29 (by decide +kernel) ?_
        refine lv_iadd hx hb dX1_remove_30 ?_
        refine lv_as (y := nI (j + 1)) (nI_add _ _) ?_
        refine ab_aald (v := kA (M (j + 1))) hx hb hK hP 1 2 rfl rfl (j + 1) (rfl) (by omega) (by decide) (shR_at k j M) dX1_remove_31 ?_
        refine ab_aast (v := kA (M (j + 1))) hx hb hK hP hD hS 1 2 (2 + 3 * (j + 1)) 2 rfl rfl (mks_get cB cZ (by omega) M [_, _]) rfl j rfl (by omega) (by decide) dX1_remove_32 (fun H locs hP hD hS => ?_)
        have hP : va_P D vwCl ([(hf, .inr (1, [.ref hr, .int (nI sz), .int md])), (hr, .inl (cR, 4, .inr (.inr (.inr (.inr (va_up (shR k j M) j (some (kA (M (j + 1))))))))))] ++ mks cB cZ M) H := hP
        have hD : va_D A ([(hf, .inr (1, [.ref hr, .int (nI sz), .int md])), (hr, .inl (cR, 4, .inr (.inr (.inr (.inr (va_up (shR k j M) j (some (kA (M (j + 1))))))))))] ++ mks cB cZ M) := hD
        rw [shR_s q0] at hP hD
        refine lv_iinc (v := nI (j + 1)) (lv' := [(3, .int (nI (j + 1))), (0, .ref hf), (1, .int (nI k)), (2, .ref (kA (M k)))]) hx hb dX1_remove_33 hl (k := 3) rfl (nI_inc1 _) (by decide) rfl (fun ls hl => ?_)
        refine lv_goto (tgt := 9) hx hb dX1_remove_36 (by decide) ?_
        exact ih (j + 1) H locs ls (by omega) (by omega) (by omega) hP hD hS (lv_sub hl [1, 2, 3, 0] rfl)
  rw [← shR_0 k M] at hP hD
  exact loop sz k _ _ ls (by omega) (by omega) (by omega) hP hD hS (lv_sub hl [2, 3, 1, 0] rfl)
set_option maxHeartbeats 4000000 in
set_option maxRecDepth 100000 in
/-- Fragments.find -/
theorem m_frFind (l : Launch) (D : va_G) (cB cZ cR cI : ClassId) (hf hr sz : Nat) (md : Int32) (M : Nat → Mk) (fr id pr : Int32) (hs : sz ≤ 4) : MM l yX1_find cX1_find 5 (some .int) { frames := 0, cells := 0, slots := 0, locals := 0 } D (tyS cB cZ cR cI) [.ref hf, .int fr, .int id, .int pr] (frw cB cZ cR hf hr sz md M) (S := Nat) (fun r u => u ≤ sz ∧ r = some (.int (nI u)) ∧ (∀ j, j < u → ¬ keyOf (M j) fr id pr) ∧ (u < sz → keyOf (M u) fr id pr)) (fun _ => tyS cB cZ cR cI) (fun u => frw cB cZ cR hf hr sz md M) := by
  refine MM_of (by decide) (Nat.le_of_ble_eq_true rfl) ?_
  intro p e s m below meth c A ls R Q args hRm hQ hx hb hrt hlk hml hown hts hin hK hE hA hP hD hS hl
  have hown : s.vm.findClass "FragmentHouse$Fragments" = some m.cls := hown
  replace hl : lv_has ls 5 [(0, .ref hf), (1, .int fr), (2, .int id), (3, .int pr)] := hl
  replace hP : va_P D vwCl ([(hf, .inr (1, [.ref hr, .int (nI sz), .int md])), (hr, .inl (cR, 4, .inr (.inr (.inr (.inr (rowOf M))))))] ++ mks cB cZ M) s.heap := hP
  replace hD : va_D A ([(hf, .inr (1, [.ref hr, .int (nI sz), .int md])), (hr, .inl (cR, 4, .inr (.inr (.inr (.inr (rowOf M))))))] ++ mks cB cZ M) := hD
  refine lv_iconst (v := nI 0) hx hb dX1_find_0 (by decide +kernel) ?_
  refine lv_istore (lv' := [(4, .int (nI 0)), (0, .ref hf), (1, .int fr), (2, .int id), (3, .int pr)]) hx hb dX1_find_1 hl (by decide) rfl (fun ls hl => ?_)
  have loop : ∀ (d i : Nat) (ls : Array Slot), i ≤ sz → sz + 1 ≤ i + d → (∀ j, j < i → ¬ keyOf (M j) fr id pr) → lv_has ls 5 [(0, .ref hf), (1, .int fr), (2, .int id), (3, .int pr), (4, .int (nI i))] → W p l e R s m args below meth c s.heap [] 0 0 Q (F0 m 3 ls []) := by
    intro d
    induction d with
    | zero => intro i ls q1 q2; exact absurd q2 (by omega)
    | succ d ih =>
      intro i ls q1 q2 q3 hl
      refine lv_iload hx hb dX1_find_3 (lv_at hl 4 rfl) ?_
      refine lv_aload_n hx hb dX1_find_5 rfl (lv_at hl 0 rfl) ?_
      refine va_get (D := D) (ci := 1) (v := .int (nI sz)) (C := RX1) (T := TX1) (N := 3) hx hb hts in_X1 hown hK hP 0 rfl rfl 1 (by decide) (hts _ q67) (fun _ h9 => h9) rfl dX1_find_6 ?_
      refine lv_icmp_ge (tgt := 60) hx hb dX1_find_9 (by decide) (fun c7 => ?_) (fun c7 => ?_)
      · skip
        have c7 : sz ≤ i := (nI_leI (by omega) (by omega)).mp c7
        obtain rfl : i = sz := by omega
        refine lv_iload hx hb dX1_find_60 (lv_at hl 4 rfl) ?_
        exact ret_i hx hb hrt rfl hlk hQ (Nat.le_refl _) (Nat.le_refl _) i (⟨Nat.le_refl _, rfl, q3, fun h => absurd h (by omega)⟩) hK hP hD hS dX1_find_62
      · skip
        have c7 : ¬ (sz ≤ i) := fun h => c7 ((nI_leI (by omega) (by omega)).mpr h)
        have k54 : ¬ keyOf (M i) fr id pr → W p l e R s m args below meth c s.heap [] 0 0 Q (F0 m 54 ls []) := by
          intro hno
          refine lv_iinc (v := nI (i + 1)) (lv' := [(4, .int (nI (i + 1))), (0, .ref hf), (1, .int fr), (2, .int id), (3, .int pr)]) hx hb dX1_find_54 hl (k := 4) rfl (nI_inc1 _) (by decide) rfl (fun ls hl => ?_)
          refine lv_goto (tgt := 3) hx hb dX1_find_57 (by decide) ?_
          exact ih (i + 1) ls (by omega) (by omega) (lt_s q3 hno) (lv_sub hl [1, 2, 3, 4, 0] rfl)
        refine lv_aload_n hx hb dX1_find_12 rfl (lv_at hl 0 rfl) ?_
        refine va_get (D := D) (ci := 1) (v := .ref hr) (C := RX1) (T := TX1) (N := 3) hx hb hts in_X1 hown hK hP 0 rfl rfl 0 (by decide) (hts _ q66) (fun _ h9 => h9) rfl dX1_find_13 ?_
        refine lv_iload hx hb dX1_find_16 (lv_at hl 4 rfl) ?_
        refine ab_aald (v := kA (M i)) hx hb hK hP 1 2 rfl rfl i (rfl) (by omega) (by decide) rfl dX1_find_18 ?_
        refine va_get (D := D) (ci := 2) (v := .int (kFr (M i))) (C := RX2) (T := TX2) (N := 8) hx hb hts in_X2 hown hK hP (2 + 3 * i) (mks_get cB cZ (by omega) M [_, _]) rfl 0 (by decide) (hts _ q34) (fun _ h9 => h9) rfl dX1_find_19 ?_
        refine lv_iload_n hx hb dX1_find_22 rfl (lv_at hl 1 rfl) ?_
        refine lv_icmp_ne (tgt := 54) hx hb dX1_find_23 (by decide) (fun c8 => ?_) (fun c8 => ?_)
        · skip
          exact k54 (fun h => c8 h.1)
        · skip
          refine lv_aload_n hx hb dX1_find_26 rfl (lv_at hl 0 rfl) ?_
          refine va_get (D := D) (ci := 1) (v := .ref hr) (C := RX1) (T := TX1) (N := 3) hx hb hts in_X1 hown hK hP 0 rfl rfl 0 (by decide) (hts _ q66) (fun _ h9 => h9) rfl dX1_find_27 ?_
          refine lv_iload hx hb dX1_find_30 (lv_at hl 4 rfl) ?_
          refine ab_aald (v := kA (M i)) hx hb hK hP 1 2 rfl rfl i (rfl) (by omega) (by decide) rfl dX1_find_32 ?_
          refine va_get (D := D) (ci := 2) (v := .int (kId (M i))) (C := RX2) (T := TX2) (N := 8) hx hb hts in_X2 hown hK hP (2 + 3 * i) (mks_get cB cZ (by omega) M [_, _]) rfl 1 (by decide) (hts _ q36) (fun _ h9 => h9) rfl dX1_find_33 ?_
          refine lv_iload_n hx hb dX1_find_36 rfl (lv_at hl 2 rfl) ?_
          refine lv_icmp_ne (tgt := 54) hx hb dX1_find_37 (by decide) (fun c9 => ?_) (fun c9 => ?_)
          · skip
            exact k54 (fun h => c9 h.2.1)
          · skip
            refine lv_aload_n hx hb dX1_find_40 rfl (lv_at hl 0 rfl) ?_
            refine va_get (D := D) (ci := 1) (v := .ref hr) (C := RX1) (T := TX1) (N := 3) hx hb hts in_X1 hown hK hP 0 rfl rfl 0 (by decide) (hts _ q66) (fun _ h9 => h9) rfl dX1_find_41 ?_
            refine lv_iload hx hb dX1_find_44 (lv_at hl 4 rfl) ?_
            refine ab_aald (v := kA (M i)) hx hb hK hP 1 2 rfl rfl i (rfl) (by omega) (by decide) rfl dX1_find_46 ?_
            refine va_get (D := D) (ci := 2) (v := .int (kPr (M i))) (C := RX2) (T := TX2) (N := 8) hx hb hts in_X2 hown hK hP (2 + 3 * i) (mks_get cB cZ (by omega) M [_, _]) rfl 2 (by decide) (hts _ q38) (fun _ h9 => h9) rfl dX1_find_47 ?_
            refine lv_iload_n hx hb dX1_find_50 rfl (lv_at hl 3 rfl) ?_
            refine lv_icmp_eq (tgt := 60) hx hb dX1_find_51 (by decide) (fun c10 => ?_) (fun c10 => ?_)
            · skip
              refine lv_iload hx hb dX1_find_60 (lv_at hl 4 rfl) ?_
              exact ret_i hx hb hrt rfl hlk hQ (Nat.le_refl _) (Nat.le_refl _) i (⟨by omega, rfl, q3, fun _ => ⟨c8, c9, c10⟩⟩) hK hP hD hS dX1_find_62
            · skip
              exact k54 (fun h => c10 h.2.2)
  exact loop (sz + 1) 0 ls (by omega) (by omega) (fun j h => absurd h (by omega)) (lv_sub hl [1, 2, 3, 4, 0] rfl)
set_option maxHeartbeats 4000000 in
set_option maxRecDepth 100000 in
/-- Fragments.knows -/
theorem m_frKnows (l : Launch) (D : va_G) (cB cZ cR cI : ClassId) (hf hr sz : Nat) (md : Int32) (M : Nat → Mk) (fr id pr : Int32) (hs : sz ≤ 4) : MM l yX1_knows cX1_knows 4 (some .boolean) { frames := 1, cells := 0, slots := 0, locals := 24 } D (tyS cB cZ cR cI) [.ref hf, .int fr, .int id, .int pr] (frw cB cZ cR hf hr sz md M) (S := Unit) (fun r u => ((∃ j, j < sz ∧ keyOf (M j) fr id pr) ∧ r = some (.int 1)) ∨ ((∀ j, j < sz → ¬ keyOf (M j) fr id pr) ∧ r = some (.int 0))) (fun _ => tyS cB cZ cR cI) (fun u => frw cB cZ cR hf hr sz md M) := by
  refine MM_of (by decide) (Nat.le_of_ble_eq_true rfl) ?_
  intro p e s m below meth c A ls R Q args hRm hQ hx hb hrt hlk hml hown hts hin hK hE hA hP hD hS hl
  have hown : s.vm.findClass "FragmentHouse$Fragments" = some m.cls := hown
  replace hl : lv_has ls 4 [(0, .ref hf), (1, .int fr), (2, .int id), (3, .int pr)] := hl
  replace hP : va_P D vwCl ([(hf, .inr (1, [.ref hr, .int (nI sz), .int md])), (hr, .inl (cR, 4, .inr (.inr (.inr (.inr (rowOf M))))))] ++ mks cB cZ M) s.heap := hP
  replace hD : va_D A ([(hf, .inr (1, [.ref hr, .int (nI sz), .int md])), (hr, .inl (cR, 4, .inr (.inr (.inr (.inr (rowOf M))))))] ++ mks cB cZ M) := hD
  refine lv_aload_n hx hb dX1_knows_0 rfl (lv_at hl 0 rfl) ?_
  refine lv_iload_n hx hb dX1_knows_1 rfl (lv_at hl 1 rfl) ?_
  refine lv_iload_n hx hb dX1_knows_2 rfl (lv_at hl 2 rfl) ?_
  refine lv_iload_n hx hb dX1_knows_3 rfl (lv_at hl 3 rfl) ?_
  refine call_V (nA := 3) (rest := []) (q := (RX1, TX1, 3)) (ci := 1) (q0 := 0) ([]) [.int fr, .int id, .int pr] ⟨hx, hb, hml, hown, hts⟩ (m_frFind l D cB cZ cR cI hf hr sz md M fr id pr hs) (lw_V q123 q125 qs0 q7 q126) (by decide +kernel) rfl (by subst hRm; exact ⟨by decide, by decide⟩) hK hE rfl rfl hP hD hS hA hl.1 rfl (Nat.le_of_ble_eq_true rfl) dX1_knows_4 (by subst hRm; exact ⟨by decide, by decide⟩) (fun v u H locs hv hKu hP hD hS => ?_)
  obtain ⟨hu1, rfl, hu2, hu3⟩ := hv
  refine W.eq (g2 := F0 m 7 ls [.int (nI u)]) rfl ?_
  refine W.cs (cells' := 0) (slots' := 0) rfl rfl ?_
  have hP := wP_left hP
  have hD := wD_left hD
  have hP : va_P D vwCl ([(hf, .inr (1, [.ref hr, .int (nI sz), .int md])), (hr, .inl (cR, 4, .inr (.inr (.inr (.inr (rowOf M))))))] ++ mks cB cZ M) H := hP
  have hD : va_D A ([(hf, .inr (1, [.ref hr, .int (nI sz), .int md])), (hr, .inl (cR, 4, .inr (.inr (.inr (.inr (rowOf M))))))] ++ mks cB cZ M) := hD
  refine lv_aload_n hx hb dX1_knows_7 rfl (lv_at hl 0 rfl) ?_
  refine va_get (D := D) (ci := 1) (v := .int (nI sz)) (C := RX1) (T := TX1) (N := 3) hx hb hts in_X1 hown hK hP 0 rfl rfl 1 (by decide) (hts _ q67) (fun _ h9 => h9) rfl dX1_knows_8 ?_
  refine lv_icmp_ge (tgt := 18) hx hb dX1_knows_11 (by decide) (fun c11 => ?_) (fun c11 => ?_)
  · skip
    have c11 : sz ≤ u := (nI_leI (by omega) (by omega)).mp c11
    refine lv_iconst (v := nI 0) hx hb dX1_knows_18 (by decide +kernel) ?_
    exact ret_i hx hb hrt rfl hlk hQ (Nat.le_refl _) (Nat.le_refl _) () (Or.inr ⟨fun j h => hu2 j (by omega), rfl⟩) hK hP hD hS dX1_knows_19
  · skip
    have c11 : ¬ (sz ≤ u) := fun h => c11 ((nI_leI (by omega) (by omega)).mpr h)
    refine lv_iconst (v := nI 1) hx hb dX1_knows_14 (by decide +kernel) ?_
    refine lv_goto (tgt := 19) hx hb dX1_knows_15 (by decide) ?_
    exact ret_i hx hb hrt rfl hlk hQ (Nat.le_refl _) (Nat.le_refl _) () (Or.inl ⟨⟨u, by omega, hu3 (by omega)⟩, rfl⟩) hK hP hD hS dX1_knows_19
set_option maxHeartbeats 4000000 in
set_option maxRecDepth 100000 in
/-- Fragments.due -/
theorem m_frDue (l : Launch) (D : va_G) (cB cZ cR cI : ClassId) (hf hr sz : Nat) (md : Int32) (M : Nat → Mk) (hs : sz ≤ 4) : MM l yX1_due cX1_due 1 (some .int) { frames := 0, cells := 0, slots := 0, locals := 0 } D (tyS cB cZ cR cI) [.ref hf] (frw cB cZ cR hf hr sz md M) (S := Unit) (fun r u => (sz = 0 ∧ r = some (.int (nI 2147483647))) ∨ (0 < sz ∧ r = some (.int (kSi (M 0) + nI 15000)))) (fun _ => tyS cB cZ cR cI) (fun u => frw cB cZ cR hf hr sz md M) := by
  refine MM_of (by decide) (Nat.le_of_ble_eq_true rfl) ?_
  intro p e s m below meth c A ls R Q args hRm hQ hx hb hrt hlk hml hown hts hin hK hE hA hP hD hS hl
  have hown : s.vm.findClass "FragmentHouse$Fragments" = some m.cls := hown
  replace hl : lv_has ls 1 [(0, .ref hf)] := hl
  replace hP : va_P D vwCl ([(hf, .inr (1, [.ref hr, .int (nI sz), .int md])), (hr, .inl (cR, 4, .inr (.inr (.inr (.inr (rowOf M))))))] ++ mks cB cZ M) s.heap := hP
  replace hD : va_D A ([(hf, .inr (1, [.ref hr, .int (nI sz), .int md])), (hr, .inl (cR, 4, .inr (.inr (.inr (.inr (rowOf M))))))] ++ mks cB cZ M) := hD
  refine lv_aload_n hx hb dX1_due_0 rfl (lv_at hl 0 rfl) ?_
  refine va_get (D := D) (ci := 1) (v := .int (nI sz)) (C := RX1) (T := TX1) (N := 3) hx hb hts in_X1 hown hK hP 0 rfl rfl 1 (by decide) (hts _ q67) (fun _ h9 => h9) rfl dX1_due_1 ?_
  refine lv_if_ne (tgt := 12) hx hb dX1_due_4 (by decide) (fun c12 => ?_) (fun c12 => ?_)
  · skip
    have h0 : 0 < sz := by
      rcases Nat.eq_zero_or_pos sz with h | h
      · rw [h] at c12; exact absurd nI_0 c12
      · exact h
    refine lv_aload_n hx hb dX1_due_12 rfl (lv_at hl 0 rfl) ?_
    refine va_get (D := D) (ci := 1) (v := .ref hr) (C := RX1) (T := TX1) (N := 3) hx hb hts in_X1 hown hK hP 0 rfl rfl 0 (by decide) (hts _ q66) (fun _ h9 => h9) rfl dX1_due_13 ?_
    refine lv_iconst (v := nI 0) hx hb dX1_due_16 (by decide +kernel) ?_
    refine ab_aald (v := kA (M 0)) hx hb hK hP 1 2 rfl rfl 0 (rfl) (by omega) (by decide) rfl dX1_due_17 ?_
    refine va_get (D := D) (ci := 2) (v := .int (kSi (M 0))) (C := RX2) (T := TX2) (N := 8) hx hb hts in_X2 hown hK hP (2 + 3 * 0) (mks_get cB cZ (by omega) M [_, _]) rfl 3 (by decide) (hts _ q40) (fun _ h9 => h9) rfl dX1_due_18 ?_
    refine lv_sipush (v := nI 15000) hx hb dX1_due_21 (by decide +kernel) ?_
    refine lv_iadd hx hb dX1_due_24 ?_
    exact ret_i hx hb hrt rfl hlk hQ (Nat.le_refl _) (Nat.le_refl _) () (Or.inr ⟨h0, rfl⟩) hK hP hD hS dX1_due_25
  · skip
    have h0 : sz = 0 := (nI_eq (by omega) (by omega)).mp (show nI sz = nI 0 from c12)
    refine lv_ldc hx hb hown (hts _ q162) dX1_due_7 ?_
    refine lv_as (y := nI 2147483647) (by decide +kernel) ?_
    refine lv_goto (tgt := 25) hx hb dX1_due_9 (by decide) ?_
    exact ret_i hx hb hrt rfl hlk hQ (Nat.le_refl _) (Nat.le_refl _) () (Or.inl ⟨h0, rfl⟩) hK hP hD hS dX1_due_25
set_option maxHeartbeats 4000000 in
set_option maxRecDepth 100000 in
/-- Fragments.act -/
theorem m_frAct (l : Launch) (D : va_G) (cB cZ cR cI : ClassId) (hf hr sz : Nat) (md : Int32) (M : Nat → Mk) (hk : 0 < sz) (hs : sz ≤ 4) : MM l yX1_act cX1_act 1 none { frames := 1, cells := 0, slots := 0, locals := 23 } D (tyS cB cZ cR cI) [.ref hf] (frw cB cZ cR hf hr sz md M) (S := Unit) (fun r u => r = none) (fun _ => tyS cB cZ cR cI) (fun u => frw cB cZ cR hf hr (sz - 1) md (rotM 0 sz M)) := by
  refine MM_of (by decide) (Nat.le_of_ble_eq_true rfl) ?_
  intro p e s m below meth c A ls R Q args hRm hQ hx hb hrt hlk hml hown hts hin hK hE hA hP hD hS hl
  have hown : s.vm.findClass "FragmentHouse$Fragments" = some m.cls := hown
  replace hl : lv_has ls 1 [(0, .ref hf)] := hl
  replace hP : va_P D vwCl ([(hf, .inr (1, [.ref hr, .int (nI sz), .int md])), (hr, .inl (cR, 4, .inr (.inr (.inr (.inr (rowOf M))))))] ++ mks cB cZ M) s.heap := hP
  replace hD : va_D A ([(hf, .inr (1, [.ref hr, .int (nI sz), .int md])), (hr, .inl (cR, 4, .inr (.inr (.inr (.inr (rowOf M))))))] ++ mks cB cZ M) := hD
  refine lv_aload_n hx hb dX1_act_0 rfl (lv_at hl 0 rfl) ?_
  refine lv_iconst (v := nI 0) hx hb dX1_act_1 (by decide +kernel) ?_
  refine call_V (nA := 1) (rest := []) (q := (RX1, TX1, 3)) (ci := 1) (q0 := 0) ([]) [.int (nI 0)] ⟨hx, hb, hml, hown, hts⟩ (m_frRemove l D cB cZ cR cI hf hr sz md M 0 hk hs) (lw_V q142 q144 qs1 q7 q145) (by decide +kernel) rfl (by subst hRm; exact ⟨by decide, by decide⟩) hK hE rfl rfl hP hD hS hA hl.1 rfl (Nat.le_of_ble_eq_true rfl) dX1_act_2 (by subst hRm; exact ⟨by decide, by decide⟩) (fun v u H locs hv hKu hP hD hS => ?_)
  obtain rfl : v = none := hv
  refine W.eq (g2 := F0 m 5 ls []) rfl ?_
  refine W.cs (cells' := 0) (slots' := 0) rfl rfl ?_
  have hP := wP_left hP
  have hD := wD_left hD
  exact ret_v hx hb hrt hlk hQ (Nat.le_refl _) (Nat.le_refl _) () rfl hK hP hD hS dX1_act_5
end
section
/-! Fragments.take -/
set_option maxHeartbeats 4000000 in
set_option maxRecDepth 100000 in
/-- Fragments.take -/
theorem m_frTake (l : Launch) (D : va_G) (cB cZ cR cI : ClassId) (hf hr sz : Nat) (md : Int32) (M : Nat → Mk) (f : Nat) (tr : Nat → Int32) (off n : Nat) (fr id pr last now : Int32) (hs : sz ≤ 4) (hn : n ≤ 1480) (ho : off + n ≤ 4096) (hq : last = 0 → 8 ≤ n ∧ n % 8 = 0) (hroom : (∃ j, j < sz ∧ keyOf (M j) fr id pr) ∨ sz < 4) (hen : ∀ j, j < sz → okEn (kEn (M j))) : MM l yX1_take cX1_take 12 (some (.object "FragmentHouse$Making")) { frames := 2, cells := 0, slots := 0, locals := 41 } D (tyS cB cZ cR cI) [.ref hf, .ref f, .int (nI 0), .int (nI n), .int fr, .int id, .int pr, .int (nI off), .int last, .int now] (frw cB cZ cR hf hr sz md M ++ [(f, .inl (cB, 1480, .inl tr))]) (S := (Nat × Int32 × (Nat → Mk))) (fun r u => takeRel sz md M fr id pr off n last now tr r u) (fun _ => tyS cB cZ cR cI) (fun u => frw cB cZ cR hf hr u.1 u.2.1 u.2.2 ++ [(f, .inl (cB, 1480, .inl tr))]) := by
  refine MM_of (by decide) (Nat.le_of_ble_eq_true rfl) ?_
  intro p e s m below meth c A ls R Q args hRm hQ hx hb hrt hlk hml hown hts hin hK hE hA hP hD hS hl
  have hown : s.vm.findClass "FragmentHouse$Fragments" = some m.cls := hown
  replace hl : lv_has ls 12 [(0, .ref hf), (1, .ref f), (2, .int (nI 0)), (3, .int (nI n)), (4, .int fr), (5, .int id), (6, .int pr), (7, .int (nI off)), (8, .int last), (9, .int now)] := hl
  replace hP : va_P D vwCl ([(hf, .inr (1, [.ref hr, .int (nI sz), .int md])), (hr, .inl (cR, 4, .inr (.inr (.inr (.inr (rowOf M))))))] ++ (mks cB cZ M ++ [(f, .inl (cB, 1480, .inl tr))])) s.heap := hP
  replace hD : va_D A ([(hf, .inr (1, [.ref hr, .int (nI sz), .int md])), (hr, .inl (cR, 4, .inr (.inr (.inr (.inr (rowOf M))))))] ++ (mks cB cZ M ++ [(f, .inl (cB, 1480, .inl tr))])) := hD
  have k87 : ∀ (k sz1 : Nat) (M1 : Nat → Mk) (H : Heap) (locs : List Loc) (ls : Array Slot), k < sz1 → sz1 ≤ 4 → okEn (kEn (M1 k)) → (∀ v u, takeTail k sz1 md M1 off n last tr v u → takeRel sz md M fr id pr off n last now tr v u) → va_P D vwCl ([(hf, .inr (1, [.ref hr, .int (nI sz1), .int md])), (hr, .inl (cR, 4, .inr (.inr (.inr (.inr (rowOf M1))))))] ++ (mks cB cZ M1 ++ [(f, .inl (cB, 1480, .inl tr))])) H → va_D A ([(hf, .inr (1, [.ref hr, .int (nI sz1), .int md])), (hr, .inl (cR, 4, .inr (.inr (.inr (.inr (rowOf M1))))))] ++ (mks cB cZ M1 ++ [(f, .inl (cB, 1480, .inl tr))])) → va_S A s.heap H locs → lv_has ls 12 [(10, .int (nI k)), (0, .ref hf), (1, .ref f), (2, .int (nI 0)), (3, .int (nI n)), (4, .int fr), (5, .int id), (6, .int pr), (7, .int (nI off)), (8, .int last), (9, .int now)] → W p l e R s m args below meth c H locs 0 0 Q (F0 m 87 ls []) := by
    intro k sz1 M1 H locs ls hk hs1 hok hrel hP hD hS hl
    refine lv_aload_n hx hb dX1_take_87 rfl (lv_at hl 1 rfl) ?_
    refine va_get (D := D) (ci := 1) (v := .ref hr) (C := RX1) (T := TX1) (N := 3) hx hb hts in_X1 hown hK hP 0 rfl rfl 0 (by decide) (hts _ q66) (fun _ h9 => h9) rfl dX1_take_88 ?_
    refine lv_iload hx hb dX1_take_91 (lv_at hl 0 rfl) ?_
    refine ab_aald (v := kA (M1 k)) hx hb hK hP 1 2 rfl rfl k (rfl) (by omega) (by decide) rfl dX1_take_93 ?_
    refine lv_astore (lv' := [(11, .ref (kA (M1 k))), (10, .int (nI k)), (0, .ref hf), (1, .ref f), (2, .int (nI 0)), (3, .int (nI n)), (4, .int fr), (5, .int id), (6, .int pr), (7, .int (nI off)), (8, .int last), (9, .int now)]) hx hb dX1_take_94 hl (by decide) rfl (fun ls hl => ?_)
    refine lv_aload hx hb dX1_take_96 (lv_at hl 0 rfl) ?_
    refine lv_aload_n hx hb dX1_take_98 rfl (lv_at hl 3 rfl) ?_
    refine lv_iload_n hx hb dX1_take_99 rfl (lv_at hl 4 rfl) ?_
    refine lv_iload hx hb dX1_take_100 (lv_at hl 9 rfl) ?_
    refine lv_iload_n hx hb dX1_take_102 rfl (lv_at hl 5 rfl) ?_
    refine lv_iload hx hb dX1_take_103 (lv_at hl 10 rfl) ?_
    refine call_V (nA := 5) (rest := []) (q := (RX2, TX2, 8)) (ci := 2) (q0 := 0) ([(hf, .inr (1, [.ref hr, .int (nI sz1), .int md])), (hr, .inl (cR, 4, .inr (.inr (.inr (.inr (rowOf M1))))))] ++ mksX cB cZ k M1) [.ref f, .int (nI 0), .int (nI off), .int (nI n), .int last] ⟨hx, hb, hml, hown, hts⟩ (m_mkAdd l D cB cZ cR cI (M1 k) f off n last tr hn ho) (lw_V q135 q136 q137 q8 q138) (by decide +kernel) rfl (by subst hRm; exact ⟨by decide, by decide⟩) hK hE rfl rfl (wP_perm hP (fr_split cB cZ (by omega) M1 [(hf, .inr (1, [.ref hr, .int (nI sz1), .int md])), (hr, .inl (cR, 4, .inr (.inr (.inr (.inr (rowOf M1))))))] [(f, .inl (cB, 1480, .inl tr))])) (wD_perm hD (fr_split cB cZ (by omega) M1 [(hf, .inr (1, [.ref hr, .int (nI sz1), .int md])), (hr, .inl (cR, 4, .inr (.inr (.inr (.inr (rowOf M1))))))] [(f, .inl (cB, 1480, .inl tr))])) hS hA hl.1 rfl (Nat.le_of_ble_eq_true rfl) dX1_take_105 (by subst hRm; exact ⟨by decide, by decide⟩) (fun v u H locs hv hKu hP hD hS => ?_)
    have hP := wP_perm hP (fr_back cB cZ (show k < 4 by omega) M1 u [(hf, .inr (1, [.ref hr, .int (nI sz1), .int md])), (hr, .inl (cR, 4, .inr (.inr (.inr (.inr (rowOf M1))))))] [(f, .inl (cB, 1480, .inl tr))])
    have hD := wD_perm hD (fr_back cB cZ (show k < 4 by omega) M1 u [(hf, .inr (1, [.ref hr, .int (nI sz1), .int md])), (hr, .inl (cR, 4, .inr (.inr (.inr (.inr (rowOf M1))))))] [(f, .inl (cB, 1480, .inl tr))])
    rcases hv with ⟨hbad, rfl, rfl⟩ | ⟨hgood, rfl, rfl⟩
    · skip
      refine W.eq (g2 := F0 m 108 ls [.int 0]) rfl ?_
      refine W.cs (cells' := 0) (slots' := 0) rfl rfl ?_
      rw [va_up_id] at hP hD
      have hP : va_P D vwCl ([(hf, .inr (1, [.ref hr, .int (nI sz1), .int md])), (hr, .inl (cR, 4, .inr (.inr (.inr (.inr (rowOf M1))))))] ++ (mks cB cZ M1 ++ [(f, .inl (cB, 1480, .inl tr))])) H := hP
      have hD : va_D A ([(hf, .inr (1, [.ref hr, .int (nI sz1), .int md])), (hr, .inl (cR, 4, .inr (.inr (.inr (.inr (rowOf M1))))))] ++ (mks cB cZ M1 ++ [(f, .inl (cB, 1480, .inl tr))])) := hD
      refine lv_if_ne (tgt := 119) hx hb dX1_take_108 (by decide) (fun c13 => ?_) (fun c13 => ?_)
      · skip
        exact absurd rfl c13
      · skip
        refine lv_aload_n hx hb dX1_take_111 rfl (lv_at hl 2 rfl) ?_
        refine lv_iload hx hb dX1_take_112 (lv_at hl 1 rfl) ?_
        refine call_V (nA := 1) (rest := []) (q := (RX1, TX1, 3)) (ci := 1) (q0 := 0) ([(f, .inl (cB, 1480, .inl tr))]) [.int (nI k)] ⟨hx, hb, hml, hown, hts⟩ (m_frRemove l D cB cZ cR cI hf hr sz1 md M1 k hk hs1) (lw_V q142 q144 qs1 q7 q145) (by decide +kernel) rfl (by subst hRm; exact ⟨by decide, by decide⟩) hK hE rfl rfl hP hD hS hA hl.1 rfl (Nat.le_of_ble_eq_true rfl) dX1_take_114 (by subst hRm; exact ⟨by decide, by decide⟩) (fun v u H locs hv hKu hP hD hS => ?_)
        obtain rfl : v = none := hv
        refine W.eq (g2 := F0 m 117 ls []) rfl ?_
        refine W.cs (cells' := 0) (slots' := 0) rfl rfl ?_
        refine lv_null hx hb dX1_take_117 ?_
        exact ret_a hx hb hrt (Or.inl rfl) hlk hQ (Nat.le_refl _) (Nat.le_refl _) (sz1 - 1, md, rotM k sz1 M1) (hrel _ _ (Or.inl ⟨hbad, rfl, rfl⟩)) hK hP hD hS dX1_take_118
    · skip
      refine W.eq (g2 := F0 m 108 ls [.int 1]) rfl ?_
      refine W.cs (cells' := 0) (slots' := 0) rfl rfl ?_
      obtain ⟨x2, hx2⟩ : ∃ x2, x2 = mkAdd (M1 k) off n last tr := ⟨_, rfl⟩
      have hok2 : okEn (kEn x2) := by rw [hx2]; exact okEn_add (M1 k) last tr hok ho
      rw [← hx2] at hP hD
      have hrow : rowOf M1 = rowOf (va_up M1 k x2) := by
        funext j
        by_cases h : j = k
        · subst h; unfold rowOf; rw [va_up_self, hx2]; rfl
        · unfold rowOf; rw [va_up_ne _ _ h]
      rw [hrow] at hP hD
      obtain ⟨M2, hM2⟩ : ∃ M2, M2 = va_up M1 k x2 := ⟨_, rfl⟩
      have hM2k : M2 k = x2 := by rw [hM2, va_up_self]
      have hA2 : kA (M1 k) = kA (M2 k) := by rw [hM2k, hx2]; rfl
      rw [← hM2] at hP hD
      rw [← hM2k] at hok2
      rw [hA2] at hl
      have hP : va_P D vwCl ([(hf, .inr (1, [.ref hr, .int (nI sz1), .int md])), (hr, .inl (cR, 4, .inr (.inr (.inr (.inr (rowOf M2))))))] ++ (mks cB cZ M2 ++ [(f, .inl (cB, 1480, .inl tr))])) H := hP
      have hD : va_D A ([(hf, .inr (1, [.ref hr, .int (nI sz1), .int md])), (hr, .inl (cR, 4, .inr (.inr (.inr (.inr (rowOf M2))))))] ++ (mks cB cZ M2 ++ [(f, .inl (cB, 1480, .inl tr))])) := hD
      refine lv_if_ne (tgt := 119) hx hb dX1_take_108 (by decide) (fun c14 => ?_) (fun c14 => ?_)
      · skip
        refine lv_aload hx hb dX1_take_119 (lv_at hl 0 rfl) ?_
        refine call_V (nA := 0) (rest := []) (q := (RX2, TX2, 8)) (ci := 2) (q0 := 0) ([(f, .inl (cB, 1480, .inl tr))] ++ ([(hf, .inr (1, [.ref hr, .int (nI sz1), .int md])), (hr, .inl (cR, 4, .inr (.inr (.inr (.inr (rowOf M2))))))] ++ mksX cB cZ k M2)) [] ⟨hx, hb, hml, hown, hts⟩ (m_mkWhole l D cB cZ cR cI (M2 k) hok2) (lw_V q146 q147 q148 q8 q149) (by decide +kernel) rfl (by subst hRm; exact ⟨by decide, by decide⟩) hK hE rfl rfl (by have h := wP_perm hP (fr_split cB cZ (show k < 4 by omega) M2 [(hf, .inr (1, [.ref hr, .int (nI sz1), .int md])), (hr, .inl (cR, 4, .inr (.inr (.inr (.inr (rowOf M2))))))] [(f, .inl (cB, 1480, .inl tr))]); rw [List.append_assoc] at h; exact h) (by have h := wD_perm hD (fr_split cB cZ (show k < 4 by omega) M2 [(hf, .inr (1, [.ref hr, .int (nI sz1), .int md])), (hr, .inl (cR, 4, .inr (.inr (.inr (.inr (rowOf M2))))))] [(f, .inl (cB, 1480, .inl tr))]); rw [List.append_assoc] at h; exact h) hS hA hl.1 rfl (Nat.le_of_ble_eq_true rfl) dX1_take_121 (by subst hRm; exact ⟨by decide, by decide⟩) (fun v u H locs hv hKu hP hD hS => ?_)
        rw [← List.append_assoc] at hP hD
        have hP := wP_perm hP (fr_split cB cZ (show k < 4 by omega) M2 [(hf, .inr (1, [.ref hr, .int (nI sz1), .int md])), (hr, .inl (cR, 4, .inr (.inr (.inr (.inr (rowOf M2))))))] [(f, .inl (cB, 1480, .inl tr))]).symm
        have hD := wD_perm hD (fr_split cB cZ (show k < 4 by omega) M2 [(hf, .inr (1, [.ref hr, .int (nI sz1), .int md])), (hr, .inl (cR, 4, .inr (.inr (.inr (.inr (rowOf M2))))))] [(f, .inl (cB, 1480, .inl tr))]).symm
        have hP : va_P D vwCl ([(hf, .inr (1, [.ref hr, .int (nI sz1), .int md])), (hr, .inl (cR, 4, .inr (.inr (.inr (.inr (rowOf M2))))))] ++ (mks cB cZ M2 ++ [(f, .inl (cB, 1480, .inl tr))])) H := hP
        have hD : va_D A ([(hf, .inr (1, [.ref hr, .int (nI sz1), .int md])), (hr, .inl (cR, 4, .inr (.inr (.inr (.inr (rowOf M2))))))] ++ (mks cB cZ M2 ++ [(f, .inl (cB, 1480, .inl tr))])) := hD
        rcases hv with ⟨hwh, rfl⟩ | ⟨hwh, rfl⟩
        · skip
          refine W.eq (g2 := F0 m 124 ls [.int 1]) rfl ?_
          refine W.cs (cells' := 0) (slots' := 0) rfl rfl ?_
          refine lv_if_ne (tgt := 129) hx hb dX1_take_124 (by decide) (fun c15 => ?_) (fun c15 => ?_)
          · skip
            refine lv_aload_n hx hb dX1_take_129 rfl (lv_at hl 2 rfl) ?_
            refine lv_iload hx hb dX1_take_130 (lv_at hl 1 rfl) ?_
            refine call_V (nA := 1) (rest := []) (q := (RX1, TX1, 3)) (ci := 1) (q0 := 0) ([(f, .inl (cB, 1480, .inl tr))]) [.int (nI k)] ⟨hx, hb, hml, hown, hts⟩ (m_frRemove l D cB cZ cR cI hf hr sz1 md M2 k hk hs1) (lw_V q142 q144 qs1 q7 q145) (by decide +kernel) rfl (by subst hRm; exact ⟨by decide, by decide⟩) hK hE rfl rfl hP hD hS hA hl.1 rfl (Nat.le_of_ble_eq_true rfl) dX1_take_132 (by subst hRm; exact ⟨by decide, by decide⟩) (fun v u H locs hv hKu hP hD hS => ?_)
            obtain rfl : v = none := hv
            refine W.eq (g2 := F0 m 135 ls []) rfl ?_
            refine W.cs (cells' := 0) (slots' := 0) rfl rfl ?_
            have hP : va_P D vwCl ([(hf, .inr (1, [.ref hr, .int (nI (sz1 - 1)), .int md])), (hr, .inl (cR, 4, .inr (.inr (.inr (.inr (rowOf (rotM k sz1 M2)))))))] ++ (mks cB cZ (rotM k sz1 M2) ++ [(f, .inl (cB, 1480, .inl tr))])) H := hP
            have hD : va_D A ([(hf, .inr (1, [.ref hr, .int (nI (sz1 - 1)), .int md])), (hr, .inl (cR, 4, .inr (.inr (.inr (.inr (rowOf (rotM k sz1 M2)))))))] ++ (mks cB cZ (rotM k sz1 M2) ++ [(f, .inl (cB, 1480, .inl tr))])) := hD
            refine lv_aload_n hx hb dX1_take_135 rfl (lv_at hl 2 rfl) ?_
            refine lv_dup hx hb dX1_take_136 rfl ?_
            refine va_get (D := D) (ci := 1) (v := .int md) (C := RX1) (T := TX1) (N := 3) hx hb hts in_X1 hown hK hP 0 rfl rfl 2 (by decide) (hts _ q69) (fun _ h9 => h9) rfl dX1_take_137 ?_
            refine lv_iconst (v := nI 1) hx hb dX1_take_140 (by decide +kernel) ?_
            refine lv_iadd hx hb dX1_take_141 ?_
            refine va_put (D := D) (ci := 1) (v := .int (md + (nI 1))) (ty := .int) (C := RX1) (T := TX1) (N := 3) hx hb hts in_X1 tyX1 tyX1_ok nmX1 hown hK hP hD hS 0 rfl rfl 2 (by decide) (hts _ q69) (fun _ h9 => h9) rfl (by decide +kernel) rfl rfl (Nat.le_of_ble_eq_true rfl) dX1_take_142 (fun H locs hP hD hS => ?_)
            have hP : va_P D vwCl ([(hf, .inr (1, [.ref hr, .int (nI (sz1 - 1)), .int (md + (nI 1))])), (hr, .inl (cR, 4, .inr (.inr (.inr (.inr (rowOf (rotM k sz1 M2)))))))] ++ (mks cB cZ (rotM k sz1 M2) ++ [(f, .inl (cB, 1480, .inl tr))])) H := hP
            have hD : va_D A ([(hf, .inr (1, [.ref hr, .int (nI (sz1 - 1)), .int (md + (nI 1))])), (hr, .inl (cR, 4, .inr (.inr (.inr (.inr (rowOf (rotM k sz1 M2)))))))] ++ (mks cB cZ (rotM k sz1 M2) ++ [(f, .inl (cB, 1480, .inl tr))])) := hD
            refine lv_aload hx hb dX1_take_145 (lv_at hl 0 rfl) ?_
            exact ret_a hx hb hrt (Or.inr ⟨_, rfl⟩) hlk hQ (Nat.le_refl _) (Nat.le_refl _) (sz1 - 1, md + nI 1, rotM k sz1 M2) (hrel _ _ (Or.inr (Or.inr ⟨hgood, by rw [← hx2, ← hM2k]; exact hwh, by rw [hA2], by rw [← hx2, ← hM2]⟩))) hK hP hD hS dX1_take_147
          · skip
            exact absurd (show (1 : Int32) = 0 from c15) (by decide)
        · skip
          refine W.eq (g2 := F0 m 124 ls [.int 0]) rfl ?_
          refine W.cs (cells' := 0) (slots' := 0) rfl rfl ?_
          refine lv_if_ne (tgt := 129) hx hb dX1_take_124 (by decide) (fun c16 => ?_) (fun c16 => ?_)
          · skip
            exact absurd rfl c16
          · skip
            refine lv_null hx hb dX1_take_127 ?_
            exact ret_a hx hb hrt (Or.inl rfl) hlk hQ (Nat.le_refl _) (Nat.le_refl _) (sz1, md, M2) (hrel _ _ (Or.inr (Or.inl ⟨hgood, by rw [← hx2, ← hM2k]; exact hwh, rfl, by rw [← hx2, ← hM2]⟩))) hK hP hD hS dX1_take_128
      · skip
        exact absurd (show (1 : Int32) = 0 from c14) (by decide)
  have k30 : W p l e R s m args below meth c s.heap [] 0 0 Q (F0 m 30 ls []) := by
    refine lv_aload_n hx hb dX1_take_30 rfl (lv_at hl 0 rfl) ?_
    refine lv_iload hx hb dX1_take_31 (lv_at hl 4 rfl) ?_
    refine lv_iload hx hb dX1_take_33 (lv_at hl 5 rfl) ?_
    refine lv_iload hx hb dX1_take_35 (lv_at hl 6 rfl) ?_
    refine call_V (nA := 3) (rest := []) (q := (RX1, TX1, 3)) (ci := 1) (q0 := 0) ([(f, .inl (cB, 1480, .inl tr))]) [.int fr, .int id, .int pr] ⟨hx, hb, hml, hown, hts⟩ (m_frFind l D cB cZ cR cI hf hr sz md M fr id pr hs) (lw_V q123 q125 qs0 q7 q126) (by decide +kernel) rfl (by subst hRm; exact ⟨by decide, by decide⟩) hK hE rfl rfl hP hD hS hA hl.1 rfl (Nat.le_of_ble_eq_true rfl) dX1_take_37 (by subst hRm; exact ⟨by decide, by decide⟩) (fun v u H locs hv hKu hP hD hS => ?_)
    obtain ⟨hu1, rfl, hu2, hu3⟩ := hv
    refine W.eq (g2 := F0 m 40 ls [.int (nI u)]) rfl ?_
    refine W.cs (cells' := 0) (slots' := 0) rfl rfl ?_
    have hP : va_P D vwCl ([(hf, .inr (1, [.ref hr, .int (nI sz), .int md])), (hr, .inl (cR, 4, .inr (.inr (.inr (.inr (rowOf M))))))] ++ (mks cB cZ M ++ [(f, .inl (cB, 1480, .inl tr))])) H := hP
    have hD : va_D A ([(hf, .inr (1, [.ref hr, .int (nI sz), .int md])), (hr, .inl (cR, 4, .inr (.inr (.inr (.inr (rowOf M))))))] ++ (mks cB cZ M ++ [(f, .inl (cB, 1480, .inl tr))])) := hD
    have hu4 : u < 4 := by
      rcases Nat.lt_or_ge u 4 with h | h
      · exact h
      · rcases hroom with ⟨j, h1, h2⟩ | h1
        · exact absurd h2 (hu2 j (by omega))
        · omega
    refine lv_istore (lv' := [(10, .int (nI u)), (0, .ref hf), (1, .ref f), (2, .int (nI 0)), (3, .int (nI n)), (4, .int fr), (5, .int id), (6, .int pr), (7, .int (nI off)), (8, .int last), (9, .int now)]) hx hb dX1_take_40 hl (by decide) rfl (fun ls hl => ?_)
    refine lv_iload hx hb dX1_take_42 (lv_at hl 0 rfl) ?_
    refine lv_iconst (v := nI 4) hx hb dX1_take_44 (by decide +kernel) ?_
    refine lv_icmp_ne (tgt := 50) hx hb dX1_take_45 (by decide) (fun c17 => ?_) (fun c17 => ?_)
    · skip
      have c17 : ¬ (u = 4) := fun h => c17 ((nI_eq (by omega) (by omega)).mpr h)
      refine lv_iload hx hb dX1_take_50 (lv_at hl 0 rfl) ?_
      refine lv_aload_n hx hb dX1_take_52 rfl (lv_at hl 1 rfl) ?_
      refine va_get (D := D) (ci := 1) (v := .int (nI sz)) (C := RX1) (T := TX1) (N := 3) hx hb hts in_X1 hown hK hP 0 rfl rfl 1 (by decide) (hts _ q67) (fun _ h9 => h9) rfl dX1_take_53 ?_
      refine lv_icmp_ne (tgt := 87) hx hb dX1_take_56 (by decide) (fun c18 => ?_) (fun c18 => ?_)
      · skip
        have c18 : ¬ (u = sz) := fun h => c18 ((nI_eq (by omega) (by omega)).mpr h)
        exact k87 u sz M H locs ls (by omega) hs (hen u (by omega)) (fun v w h => ⟨u, hu4, hu2, Or.inl ⟨by omega, hu3 (by omega), h⟩⟩) hP hD hS (lv_sub hl [0, 1, 2, 3, 4, 5, 6, 7, 8, 9, 10] rfl)
      · skip
        have c18 : u = sz := (nI_eq (by omega) (by omega)).mp c18
        obtain rfl : u = sz := by omega
        refine lv_aload_n hx hb dX1_take_59 rfl (lv_at hl 1 rfl) ?_
        refine va_get (D := D) (ci := 1) (v := .ref hr) (C := RX1) (T := TX1) (N := 3) hx hb hts in_X1 hown hK hP 0 rfl rfl 0 (by decide) (hts _ q66) (fun _ h9 => h9) rfl dX1_take_60 ?_
        refine lv_iload hx hb dX1_take_63 (lv_at hl 0 rfl) ?_
        refine ab_aald (v := kA (M u)) hx hb hK hP 1 2 rfl rfl u (rfl) (by omega) (by decide) rfl dX1_take_65 ?_
        refine lv_iload hx hb dX1_take_66 (lv_at hl 5 rfl) ?_
        refine lv_iload hx hb dX1_take_68 (lv_at hl 6 rfl) ?_
        refine lv_iload hx hb dX1_take_70 (lv_at hl 7 rfl) ?_
        refine lv_iload hx hb dX1_take_72 (lv_at hl 10 rfl) ?_
        refine call_V (nA := 4) (rest := []) (q := (RX2, TX2, 8)) (ci := 2) (q0 := 0) ([(f, .inl (cB, 1480, .inl tr))] ++ ([(hf, .inr (1, [.ref hr, .int (nI u), .int md])), (hr, .inl (cR, 4, .inr (.inr (.inr (.inr (rowOf M))))))] ++ mksX cB cZ u M)) [.int fr, .int id, .int pr, .int now] ⟨hx, hb, hml, hown, hts⟩ (m_mkBegin l D cB cZ cR cI (M u) fr id pr now) (lw_V q131 q132 q133 q8 q134) (by decide +kernel) rfl (by subst hRm; exact ⟨by decide, by decide⟩) hK hE rfl rfl (by have h := wP_perm hP (fr_split cB cZ hu4 M [(hf, .inr (1, [.ref hr, .int (nI u), .int md])), (hr, .inl (cR, 4, .inr (.inr (.inr (.inr (rowOf M))))))] [(f, .inl (cB, 1480, .inl tr))]); rw [List.append_assoc] at h; exact h) (by have h := wD_perm hD (fr_split cB cZ hu4 M [(hf, .inr (1, [.ref hr, .int (nI u), .int md])), (hr, .inl (cR, 4, .inr (.inr (.inr (.inr (rowOf M))))))] [(f, .inl (cB, 1480, .inl tr))]); rw [List.append_assoc] at h; exact h) hS hA hl.1 rfl (Nat.le_of_ble_eq_true rfl) dX1_take_74 (by subst hRm; exact ⟨by decide, by decide⟩) (fun v w9 H locs hv hKu hP hD hS => ?_)
        obtain rfl : v = none := hv
        refine W.eq (g2 := F0 m 77 ls []) rfl ?_
        refine W.cs (cells' := 0) (slots' := 0) rfl rfl ?_
        rw [← List.append_assoc] at hP hD
        have hP := wP_perm hP (fr_back cB cZ hu4 M (mkBegin (M u) fr id pr now) [(hf, .inr (1, [.ref hr, .int (nI u), .int md])), (hr, .inl (cR, 4, .inr (.inr (.inr (.inr (rowOf M))))))] [(f, .inl (cB, 1480, .inl tr))])
        have hD := wD_perm hD (fr_back cB cZ hu4 M (mkBegin (M u) fr id pr now) [(hf, .inr (1, [.ref hr, .int (nI u), .int md])), (hr, .inl (cR, 4, .inr (.inr (.inr (.inr (rowOf M))))))] [(f, .inl (cB, 1480, .inl tr))])
        have hrow : rowOf M = rowOf (va_up M u (mkBegin (M u) fr id pr now)) := by
          funext j
          by_cases h : j = u
          · subst h; unfold rowOf; rw [va_up_self]; rfl
          · unfold rowOf; rw [va_up_ne _ _ h]
        rw [hrow] at hP hD
        have hP : va_P D vwCl ([(hf, .inr (1, [.ref hr, .int (nI u), .int md])), (hr, .inl (cR, 4, .inr (.inr (.inr (.inr (rowOf (va_up M u (mkBegin (M u) fr id pr now))))))))] ++ (mks cB cZ (va_up M u (mkBegin (M u) fr id pr now)) ++ [(f, .inl (cB, 1480, .inl tr))])) H := hP
        have hD : va_D A ([(hf, .inr (1, [.ref hr, .int (nI u), .int md])), (hr, .inl (cR, 4, .inr (.inr (.inr (.inr (rowOf (va_up M u (mkBegin (M u) fr id pr now))))))))] ++ (mks cB cZ (va_up M u (mkBegin (M u) fr id pr now)) ++ [(f, .inl (cB, 1480, .inl tr))])) := hD
        refine lv_aload_n hx hb dX1_take_77 rfl (lv_at hl 1 rfl) ?_
        refine lv_dup hx hb dX1_take_78 rfl ?_
        refine va_get (D := D) (ci := 1) (v := .int (nI u)) (C := RX1) (T := TX1) (N := 3) hx hb hts in_X1 hown hK hP 0 rfl rfl 1 (by decide) (hts _ q67) (fun _ h9 => h9) rfl dX1_take_79 ?_
        refine lv_iconst (v := nI 1) hx hb dX1_take_82 (by decide +kernel) ?_
        refine lv_iadd hx hb dX1_take_83 ?_
        refine lv_as (y := nI (u + 1)) (nI_add _ _) ?_
        refine va_put (D := D) (ci := 1) (v := .int (nI (u + 1))) (ty := .int) (C := RX1) (T := TX1) (N := 3) hx hb hts in_X1 tyX1 tyX1_ok nmX1 hown hK hP hD hS 0 rfl rfl 1 (by decide) (hts _ q67) (fun _ h9 => h9) rfl (by decide +kernel) rfl rfl (Nat.le_of_ble_eq_true rfl) dX1_take_84 (fun H locs hP hD hS => ?_)
        have hP : va_P D vwCl ([(hf, .inr (1, [.ref hr, .int (nI (u + 1)), .int md])), (hr, .inl (cR, 4, .inr (.inr (.inr (.inr (rowOf (va_up M u (mkBegin (M u) fr id pr now))))))))] ++ (mks cB cZ (va_up M u (mkBegin (M u) fr id pr now)) ++ [(f, .inl (cB, 1480, .inl tr))])) H := hP
        have hD : va_D A ([(hf, .inr (1, [.ref hr, .int (nI (u + 1)), .int md])), (hr, .inl (cR, 4, .inr (.inr (.inr (.inr (rowOf (va_up M u (mkBegin (M u) fr id pr now))))))))] ++ (mks cB cZ (va_up M u (mkBegin (M u) fr id pr now)) ++ [(f, .inl (cB, 1480, .inl tr))])) := hD
        exact k87 u (u + 1) _ H locs ls (by omega) (by omega) (by rw [va_up_self]; exact Or.inl rfl) (fun v w h => ⟨u, hu4, hu2, Or.inr ⟨rfl, h⟩⟩) hP hD hS (lv_sub hl [0, 1, 2, 3, 4, 5, 6, 7, 8, 9, 10] rfl)
    · skip
      have c17 : u = 4 := (nI_eq (by omega) (by omega)).mp c17
      exact absurd c17 (by omega)
  have k18 : W p l e R s m args below meth c s.heap [] 0 0 Q (F0 m 18 ls []) := by
    refine lv_iload hx hb dX1_take_18 (lv_at hl 7 rfl) ?_
    refine lv_iload_n hx hb dX1_take_20 rfl (lv_at hl 3 rfl) ?_
    refine lv_iadd hx hb dX1_take_21 ?_
    refine lv_as (y := nI (off + n)) (nI_add _ _) ?_
    refine lv_sipush (v := nI 4096) hx hb dX1_take_22 (by decide +kernel) ?_
    refine lv_icmp_le (tgt := 30) hx hb dX1_take_25 (by decide) (fun c19 => ?_) (fun c19 => ?_)
    · skip
      have c19 : (off + n) ≤ 4096 := (nI_leI (by omega) (by omega)).mp c19
      exact k30
    · skip
      have c19 : ¬ ((off + n) ≤ 4096) := fun h => c19 ((nI_leI (by omega) (by omega)).mpr h)
      exact absurd ho c19
  refine lv_iload hx hb dX1_take_0 (lv_at hl 8 rfl) ?_
  refine lv_if_ne (tgt := 18) hx hb dX1_take_2 (by decide) (fun c20 => ?_) (fun c20 => ?_)
  · skip
    exact k18
  · skip
    obtain ⟨hq1, hq2⟩ := hq c20
    refine lv_iload_n hx hb dX1_take_5 rfl (lv_at hl 3 rfl) ?_
    refine lv_bipush (v := nI 8) hx hb dX1_take_6 (by decide +kernel) ?_
    refine lv_icmp_lt (tgt := 28) hx hb dX1_take_8 (by decide) (fun c21 => ?_) (fun c21 => ?_)
    · skip
      have c21 : n < 8 := (nI_ltI (by omega) (by omega)).mp c21
      exact absurd c21 (by omega)
    · skip
      have c21 : ¬ (n < 8) := fun h => c21 ((nI_ltI (by omega) (by omega)).mpr h)
      refine lv_iload_n hx hb dX1_take_11 rfl (lv_at hl 3 rfl) ?_
      refine lv_bipush (v := nI 8) hx hb dX1_take_12 (by decide +kernel) ?_
      refine lv_irem hx hb dX1_take_14 (by decide +kernel) ?_
      refine lv_as (y := nI (n % 8)) (pk_rem (by omega) (by omega) (by omega)) ?_
      refine lv_if_ne (tgt := 28) hx hb dX1_take_15 (by decide) (fun c22 => ?_) (fun c22 => ?_)
      · skip
        exact absurd (show nI (n % 8) = 0 by rw [hq2]; rfl) c22
      · skip
        exact k18
end
section
/-! FragmentHouse: its constructor, feed, end, making, made, length, at -/
set_option maxHeartbeats 4000000 in
set_option maxRecDepth 100000 in
/-- FragmentHouse() -/
theorem m_hInit (l : Launch) (D : va_G) (a : Nat) : MM l yX0_init cX0_init 1 none { frames := 3, cells := 16, slots := 38383, locals := 53 } D [] [.ref a] [(a, .inr (0, [.null, .int 0, .null, .int 0, .null, .int 0]))] (S := (Nat × Nat × Nat × Nat × ClassId × ClassId × ClassId × (Nat → Mk))) (fun r u => r = none) (fun u => [(u.2.2.2.2.1, .byte), (u.2.2.2.2.2.2.1, .object "FragmentHouse$Making"), (u.2.2.2.2.2.1, .boolean)]) (fun u => hsw u.2.2.2.2.1 u.2.2.2.2.2.1 u.2.2.2.2.2.2.1 a u.1 u.2.1 u.2.2.1 u.2.2.2.1 0 (fun _ => 0) 0 (fun _ => 0) (-1) 0 (nI 0) u.2.2.2.2.2.2.2) := by
  refine MM_of (by decide) (Nat.le_of_ble_eq_true rfl) ?_
  intro p e s m below meth c A ls R Q args hRm hQ hx hb hrt hlk hml hown hts hin hK hE hA hP hD hS hl
  have hown : s.vm.findClass "FragmentHouse" = some m.cls := hown
  have hin : meth.name = "<init>" := hin
  replace hl : lv_has ls 1 [(0, .ref a)] := hl
  replace hP : va_P D vwCl [(a, .inr (0, [.null, .int 0, .null, .int 0, .null, .int 0]))] s.heap := hP
  replace hD : va_D A [(a, .inr (0, [.null, .int 0, .null, .int 0, .null, .int 0]))] := hD
  refine lv_aload_n hx hb dX0_init_0 rfl (lv_at hl 0 rfl) ?_
  refine W.objInit hx hb hown (hts _ q17) (hts _ q18) (hts _ q19) rfl (by rw [hml]; exact hl.1) rfl dX0_init_1 (by subst hRm; decide) (by subst hRm; exact Nat.le_of_ble_eq_true rfl) ?_
  refine W.eq (g2 := F0 m 4 ls []) rfl ?_
  refine lv_aload_n hx hb dX0_init_4 rfl (lv_at hl 0 rfl) ?_
  refine lv_sipush (v := nI 1480) hx hb dX0_init_5 (by decide +kernel) ?_
  refine va_newa (atype := .byte) (ty := .byte) (a0 := (1480, .inl (fun _ => 0))) (N' := 1480) hx hb (hts _ q64) rfl hK hP hD hS hA (fun _ => rfl) (nI_pos (by decide)) (nI_clamp (by decide)) (by decide) (by subst hRm; decide) (by subst hRm; decide) dX0_init_8 (fun tr cB H hK hP hD hS => ?_)
  refine W.cs (cells' := 1) (slots' := 1480) rfl rfl ?_
  have hP : va_P D vwCl [(a, .inr (0, [.null, .int 0, .null, .int 0, .null, .int 0])), (tr, .inl (cB, 1480, .inl (fun _ => 0)))] H := hP
  have hD : va_D A [(a, .inr (0, [.null, .int 0, .null, .int 0, .null, .int 0])), (tr, .inl (cB, 1480, .inl (fun _ => 0)))] := hD
  have hK : va_K D vwCl [(cB, .byte)] s := hK
  refine va_putF (D := D) (ci := 0) (v := .ref tr) (ty := .array .byte) (C := RX0) (T := TX0) (N := 6) hx hb hts in_X0 tyX0 tyX0_ok nmX0 hown hK hP hD hS 0 rfl rfl 0 (by decide) (hts _ q82) (fun _ h9 => h9) rfl hin rfl (by decide +kernel) rfl rfl (Nat.le_of_ble_eq_true rfl) dX0_init_10 (fun H locs hP hD hS => ?_)
  have hP : va_P D vwCl [(a, .inr (0, [.ref tr, .int 0, .null, .int 0, .null, .int 0])), (tr, .inl (cB, 1480, .inl (fun _ => 0)))] H := hP
  have hD : va_D A [(a, .inr (0, [.ref tr, .int 0, .null, .int 0, .null, .int 0])), (tr, .inl (cB, 1480, .inl (fun _ => 0)))] := hD
  refine lv_aload_n hx hb dX0_init_13 rfl (lv_at hl 0 rfl) ?_
  refine va_new (ci := 1) (fs := [.null, .int 0, .int 0]) (C := RX1) (T := TX1) (N := 3) hx hb hts in_X1 tyX1 tyX1_ok hown (hts _ q20) (hts _ q21) (hts _ q7) hK hP hD hS hA rfl (fun j hj => by rcases (show j = 0 ∨ j = 1 ∨ j = 2 by omega) with rfl | rfl | rfl <;> rfl) (by subst hRm; decide) (by subst hRm; decide) dX0_init_14 (fun hf H hP hD hS => ?_)
  refine W.cs (cells' := 2) (slots' := 1483) rfl rfl ?_
  have hP : va_P D vwCl [(a, .inr (0, [.ref tr, .int 0, .null, .int 0, .null, .int 0])), (tr, .inl (cB, 1480, .inl (fun _ => 0))), (hf, .inr (1, [.null, .int 0, .int 0]))] H := hP
  have hD : va_D A [(a, .inr (0, [.ref tr, .int 0, .null, .int 0, .null, .int 0])), (tr, .inl (cB, 1480, .inl (fun _ => 0))), (hf, .inr (1, [.null, .int 0, .int 0]))] := hD
  refine lv_dup hx hb dX0_init_17 rfl ?_
  refine call_I (nA := 0) (rest := [.ref hf, .ref a]) ([(a, .inr (0, [.ref tr, .int 0, .null, .int 0, .null, .int 0])), (tr, .inl (cB, 1480, .inl (fun _ => 0)))]) [] ⟨hx, hb, hml, hown, hts⟩ (m_frInit l D hf) q24 q7 q22 q23 rfl (by decide +kernel) rfl (by subst hRm; exact ⟨by decide, by decide⟩) (hK.sub [] rfl) hE (hP.sub [2, 0, 1] rfl) (hD.sub [2, 0, 1] (by decide) rfl) hS hA hl.1 rfl (Nat.le_of_ble_eq_true rfl) dX0_init_18 (by subst hRm; exact ⟨by decide, by decide⟩) (fun v u H locs hv hKu hP hD hS => ?_)
  obtain ⟨hr, cB1, cZ, cR, M⟩ := u
  obtain rfl : v = none := hv
  refine W.eq (g2 := F0 m 21 ls [.ref hf, .ref a]) rfl ?_
  refine W.cs (cells' := 15) (slots' := 34287) rfl rfl ?_
  obtain rfl : cB1 = cB := K_u hK hKu 0 1 rfl rfl
  have hK : va_K D vwCl [(cB1, .byte), (cR, .object "FragmentHouse$Making"), (cZ, .boolean)] s := (hK.app hKu).sub [0, 1, 3] rfl
  have hP := wP_perm hP List.perm_append_comm
  have hD := wD_perm hD List.perm_append_comm
  have hP : va_P D vwCl ([(a, .inr (0, [.ref tr, .int 0, .null, .int 0, .null, .int 0])), (tr, .inl (cB1, 1480, .inl (fun _ => 0))), (hf, .inr (1, [.ref hr, .int (nI 0), .int 0])), (hr, .inl (cR, 4, .inr (.inr (.inr (.inr (rowOf M))))))] ++ mks cB1 cZ M) H := hP
  have hD : va_D A ([(a, .inr (0, [.ref tr, .int 0, .null, .int 0, .null, .int 0])), (tr, .inl (cB1, 1480, .inl (fun _ => 0))), (hf, .inr (1, [.ref hr, .int (nI 0), .int 0])), (hr, .inl (cR, 4, .inr (.inr (.inr (.inr (rowOf M))))))] ++ mks cB1 cZ M) := hD
  refine va_putF (D := D) (ci := 0) (v := .ref hf) (ty := .object "FragmentHouse$Fragments") (C := RX0) (T := TX0) (N := 6) hx hb hts in_X0 tyX0 tyX0_ok nmX0 hown hK hP hD hS 0 rfl rfl 2 (by decide) (hts _ q84) (fun _ h9 => h9) rfl hin rfl (by decide +kernel) rfl rfl (Nat.le_of_ble_eq_true rfl) dX0_init_21 (fun H locs hP hD hS => ?_)
  have hP : va_P D vwCl ([(a, .inr (0, [.ref tr, .int 0, .ref hf, .int 0, .null, .int 0])), (tr, .inl (cB1, 1480, .inl (fun _ => 0))), (hf, .inr (1, [.ref hr, .int (nI 0), .int 0])), (hr, .inl (cR, 4, .inr (.inr (.inr (.inr (rowOf M))))))] ++ mks cB1 cZ M) H := hP
  have hD : va_D A ([(a, .inr (0, [.ref tr, .int 0, .ref hf, .int 0, .null, .int 0])), (tr, .inl (cB1, 1480, .inl (fun _ => 0))), (hf, .inr (1, [.ref hr, .int (nI 0), .int 0])), (hr, .inl (cR, 4, .inr (.inr (.inr (.inr (rowOf M))))))] ++ mks cB1 cZ M) := hD
  refine lv_aload_n hx hb dX0_init_24 rfl (lv_at hl 0 rfl) ?_
  refine lv_sipush (v := nI 4096) hx hb dX0_init_25 (by decide +kernel) ?_
  refine va_newa (atype := .byte) (ty := .byte) (a0 := (4096, .inl (fun _ => 0))) (N' := 4096) hx hb (hts _ q64) rfl hK hP hD hS hA (fun _ => rfl) (nI_pos (by decide)) (nI_clamp (by decide)) (by decide) (by subst hRm; decide) (by subst hRm; decide) dX0_init_28 (fun wh cB2 H hK hP hD hS => ?_)
  refine W.cs (cells' := 16) (slots' := 38383) rfl rfl ?_
  obtain rfl : cB2 = cB1 := K_u hK hK 0 3 rfl rfl
  have hK : va_K D vwCl [(cB2, .byte), (cR, .object "FragmentHouse$Making"), (cZ, .boolean)] s := hK.sub [0, 1, 2] rfl
  have hP : va_P D vwCl (([(a, .inr (0, [.ref tr, .int 0, .ref hf, .int 0, .null, .int 0])), (tr, .inl (cB2, 1480, .inl (fun _ => 0))), (hf, .inr (1, [.ref hr, .int (nI 0), .int 0])), (hr, .inl (cR, 4, .inr (.inr (.inr (.inr (rowOf M))))))] ++ mks cB2 cZ M) ++ [(wh, .inl (cB2, 4096, .inl (fun _ => 0)))]) H := hP
  have hD : va_D A (([(a, .inr (0, [.ref tr, .int 0, .ref hf, .int 0, .null, .int 0])), (tr, .inl (cB2, 1480, .inl (fun _ => 0))), (hf, .inr (1, [.ref hr, .int (nI 0), .int 0])), (hr, .inl (cR, 4, .inr (.inr (.inr (.inr (rowOf M))))))] ++ mks cB2 cZ M) ++ [(wh, .inl (cB2, 4096, .inl (fun _ => 0)))]) := hD
  have hP := wP_perm hP (ins_perm _ _ _ _ _ _)
  have hD := wD_perm hD (ins_perm _ _ _ _ _ _)
  have hP : va_P D vwCl ([(a, .inr (0, [.ref tr, .int 0, .ref hf, .int 0, .null, .int 0])), (tr, .inl (cB2, 1480, .inl (fun _ => 0))), (wh, .inl (cB2, 4096, .inl (fun _ => 0))), (hf, .inr (1, [.ref hr, .int (nI 0), .int 0])), (hr, .inl (cR, 4, .inr (.inr (.inr (.inr (rowOf M))))))] ++ mks cB2 cZ M) H := hP
  have hD : va_D A ([(a, .inr (0, [.ref tr, .int 0, .ref hf, .int 0, .null, .int 0])), (tr, .inl (cB2, 1480, .inl (fun _ => 0))), (wh, .inl (cB2, 4096, .inl (fun _ => 0))), (hf, .inr (1, [.ref hr, .int (nI 0), .int 0])), (hr, .inl (cR, 4, .inr (.inr (.inr (.inr (rowOf M))))))] ++ mks cB2 cZ M) := hD
  refine va_putF (D := D) (ci := 0) (v := .ref wh) (ty := .array .byte) (C := RX0) (T := TX0) (N := 6) hx hb hts in_X0 tyX0 tyX0_ok nmX0 hown hK hP hD hS 0 rfl rfl 4 (by decide) (hts _ q86) (fun _ h9 => h9) rfl hin rfl (by decide +kernel) rfl rfl (Nat.le_of_ble_eq_true rfl) dX0_init_30 (fun H locs hP hD hS => ?_)
  have hP : va_P D vwCl ([(a, .inr (0, [.ref tr, .int 0, .ref hf, .int 0, .ref wh, .int 0])), (tr, .inl (cB2, 1480, .inl (fun _ => 0))), (wh, .inl (cB2, 4096, .inl (fun _ => 0))), (hf, .inr (1, [.ref hr, .int (nI 0), .int 0])), (hr, .inl (cR, 4, .inr (.inr (.inr (.inr (rowOf M))))))] ++ mks cB2 cZ M) H := hP
  have hD : va_D A ([(a, .inr (0, [.ref tr, .int 0, .ref hf, .int 0, .ref wh, .int 0])), (tr, .inl (cB2, 1480, .inl (fun _ => 0))), (wh, .inl (cB2, 4096, .inl (fun _ => 0))), (hf, .inr (1, [.ref hr, .int (nI 0), .int 0])), (hr, .inl (cR, 4, .inr (.inr (.inr (.inr (rowOf M))))))] ++ mks cB2 cZ M) := hD
  refine lv_aload_n hx hb dX0_init_33 rfl (lv_at hl 0 rfl) ?_
  refine lv_iconst (v := (-1)) hx hb dX0_init_34 (by decide +kernel) ?_
  refine va_put (D := D) (ci := 0) (v := .int (-1)) (ty := .int) (C := RX0) (T := TX0) (N := 6) hx hb hts in_X0 tyX0 tyX0_ok nmX0 hown hK hP hD hS 0 rfl rfl 5 (by decide) (hts _ q87) (fun _ h9 => h9) rfl (by decide +kernel) rfl rfl (Nat.le_of_ble_eq_true rfl) dX0_init_35 (fun H locs hP hD hS => ?_)
  have hP : va_P D vwCl ([(a, .inr (0, [.ref tr, .int 0, .ref hf, .int 0, .ref wh, .int (-1)])), (tr, .inl (cB2, 1480, .inl (fun _ => 0))), (wh, .inl (cB2, 4096, .inl (fun _ => 0))), (hf, .inr (1, [.ref hr, .int (nI 0), .int 0])), (hr, .inl (cR, 4, .inr (.inr (.inr (.inr (rowOf M))))))] ++ mks cB2 cZ M) H := hP
  have hD : va_D A ([(a, .inr (0, [.ref tr, .int 0, .ref hf, .int 0, .ref wh, .int (-1)])), (tr, .inl (cB2, 1480, .inl (fun _ => 0))), (wh, .inl (cB2, 4096, .inl (fun _ => 0))), (hf, .inr (1, [.ref hr, .int (nI 0), .int 0])), (hr, .inl (cR, 4, .inr (.inr (.inr (.inr (rowOf M))))))] ++ mks cB2 cZ M) := hD
  refine lv_aload_n hx hb dX0_init_38 rfl (lv_at hl 0 rfl) ?_
  refine va_get (D := D) (ci := 0) (v := .ref hf) (C := RX0) (T := TX0) (N := 6) hx hb hts in_X0 hown hK hP 0 rfl rfl 2 (by decide) (hts _ q84) (fun _ h9 => h9) rfl dX0_init_39 ?_
  have hP : va_P D vwCl ([(a, .inr (0, [.ref tr, .int 0, .ref hf, .int 0, .ref wh, .int (-1)])), (tr, .inl (cB2, 1480, .inl (fun _ => 0))), (wh, .inl (cB2, 4096, .inl (fun _ => 0)))] ++ frw cB2 cZ cR hf hr 0 0 M) _ := hP
  have hD : va_D A ([(a, .inr (0, [.ref tr, .int 0, .ref hf, .int 0, .ref wh, .int (-1)])), (tr, .inl (cB2, 1480, .inl (fun _ => 0))), (wh, .inl (cB2, 4096, .inl (fun _ => 0)))] ++ frw cB2 cZ cR hf hr 0 0 M) := hD
  refine call_V (nA := 0) (rest := []) (q := (RX1, TX1, 3)) (ci := 1) (q0 := 0) ([(a, .inr (0, [.ref tr, .int 0, .ref hf, .int 0, .ref wh, .int (-1)])), (tr, .inl (cB2, 1480, .inl (fun _ => 0))), (wh, .inl (cB2, 4096, .inl (fun _ => 0)))]) [] ⟨hx, hb, hml, hown, hts⟩ (m_frBegin l D cB2 cZ cR hf hr 0 0 M) (lw_V q78 q79 q80 q7 q81) (by decide +kernel) rfl (by subst hRm; exact ⟨by decide, by decide⟩) (hK.sub [] rfl) hE rfl rfl (wP_perm hP List.perm_append_comm) (wD_perm hD List.perm_append_comm) hS hA hl.1 rfl (Nat.le_of_ble_eq_true rfl) dX0_init_42 (by subst hRm; exact ⟨by decide, by decide⟩) (fun v u H locs hv hKu hP hD hS => ?_)
  obtain rfl : v = none := hv
  refine W.eq (g2 := F0 m 45 ls []) rfl ?_
  refine W.cs (cells' := 16) (slots' := 38383) rfl rfl ?_
  have hP : va_P D vwCl (frw cB2 cZ cR hf hr 0 (nI 0) M ++ [(a, .inr (0, [.ref tr, .int 0, .ref hf, .int 0, .ref wh, .int (-1)])), (tr, .inl (cB2, 1480, .inl (fun _ => 0))), (wh, .inl (cB2, 4096, .inl (fun _ => 0)))]) _ := hP
  have hD : va_D A (frw cB2 cZ cR hf hr 0 (nI 0) M ++ [(a, .inr (0, [.ref tr, .int 0, .ref hf, .int 0, .ref wh, .int (-1)])), (tr, .inl (cB2, 1480, .inl (fun _ => 0))), (wh, .inl (cB2, 4096, .inl (fun _ => 0)))]) := hD
  have hP := wP_perm hP List.perm_append_comm
  have hD := wD_perm hD List.perm_append_comm
  exact ret_v hx hb hrt hlk hQ (Nat.le_refl _) (Nat.le_refl _) (tr, wh, hf, hr, cB2, cZ, cR, M) rfl hK hP hD hS dX0_init_45
set_option maxHeartbeats 4000000 in
set_option maxRecDepth 100000 in
/-- FragmentHouse.feed -/
theorem m_hFeed (l : Launch) (D : va_G) (cB cZ cR cI : ClassId) (h0 tr wh hf hr n : Nat) (tray : Nat → Int32) (now : Int32) (whole : Nat → Int32) (wl : Int32) (sz : Nat) (md : Int32) (M : Nat → Mk) (a b c0 d e0 : Int32) (hn : n ≤ 1480) : MM l yX0_feed cX0_feed 6 (some .int) { frames := 2, cells := 0, slots := 0, locals := 44 } D (tyS cB cZ cR cI) [.ref h0, .int a, .int b, .int c0, .int d, .int e0] (hsw cB cZ cR h0 tr wh hf hr n tray now whole wl sz md M) (S := (Nat × (Nat → Int32))) (fun r u => (n + 20 ≤ 1480 ∧ r = some (.int (nI (n + 20))) ∧ u = (n + 20, feedT tray n a b c0 d e0)) ∨ (1480 < n + 20 ∧ r = some (.int (-1)) ∧ u = (n, tray))) (fun _ => tyS cB cZ cR cI) (fun u => hsw cB cZ cR h0 tr wh hf hr u.1 u.2 now whole wl sz md M) := by
  refine MM_of (by decide) (Nat.le_of_ble_eq_true rfl) ?_
  intro p e s m below meth c A ls R Q args hRm hQ hx hb hrt hlk hml hown hts hin hK hE hA hP hD hS hl
  have hown : s.vm.findClass "FragmentHouse" = some m.cls := hown
  replace hl : lv_has ls 6 [(0, .ref h0), (1, .int a), (2, .int b), (3, .int c0), (4, .int d), (5, .int e0)] := hl
  replace hP : va_P D vwCl ([(h0, .inr (0, [.ref tr, .int (nI n), .ref hf, .int now, .ref wh, .int wl])), (tr, .inl (cB, 1480, .inl tray)), (wh, .inl (cB, 4096, .inl whole)), (hf, .inr (1, [.ref hr, .int (nI sz), .int md])), (hr, .inl (cR, 4, .inr (.inr (.inr (.inr (rowOf M))))))] ++ mks cB cZ M) s.heap := hP
  replace hD : va_D A ([(h0, .inr (0, [.ref tr, .int (nI n), .ref hf, .int now, .ref wh, .int wl])), (tr, .inl (cB, 1480, .inl tray)), (wh, .inl (cB, 4096, .inl whole)), (hf, .inr (1, [.ref hr, .int (nI sz), .int md])), (hr, .inl (cR, 4, .inr (.inr (.inr (.inr (rowOf M))))))] ++ mks cB cZ M) := hD
  refine lv_aload_n hx hb dX0_feed_0 rfl (lv_at hl 0 rfl) ?_
  refine va_get (D := D) (ci := 0) (v := .int (nI n)) (C := RX0) (T := TX0) (N := 6) hx hb hts in_X0 hown hK hP 0 rfl rfl 1 (by decide) (hts _ q83) (fun _ h9 => h9) rfl dX0_feed_1 ?_
  refine lv_bipush (v := nI 20) hx hb dX0_feed_4 (by decide +kernel) ?_
  refine lv_iadd hx hb dX0_feed_6 ?_
  refine lv_as (y := nI (n + 20)) (nI_add _ _) ?_
  refine lv_sipush (v := nI 1480) hx hb dX0_feed_7 (by decide +kernel) ?_
  refine lv_icmp_le (tgt := 15) hx hb dX0_feed_10 (by decide) (fun c13 => ?_) (fun c13 => ?_)
  · skip
    have c13 : (n + 20) ≤ 1480 := (nI_leI (by omega) (by omega)).mp c13
    refine lv_aload_n hx hb dX0_feed_15 rfl (lv_at hl 0 rfl) ?_
    refine va_get (D := D) (ci := 0) (v := .ref tr) (C := RX0) (T := TX0) (N := 6) hx hb hts in_X0 hown hK hP 0 rfl rfl 0 (by decide) (hts _ q82) (fun _ h9 => h9) rfl dX0_feed_16 ?_
    refine lv_aload_n hx hb dX0_feed_19 rfl (lv_at hl 0 rfl) ?_
    refine va_get (D := D) (ci := 0) (v := .int (nI n)) (C := RX0) (T := TX0) (N := 6) hx hb hts in_X0 hown hK hP 0 rfl rfl 1 (by decide) (hts _ q83) (fun _ h9 => h9) rfl dX0_feed_20 ?_
    refine lv_iload_n hx hb dX0_feed_23 rfl (lv_at hl 1 rfl) ?_
    refine call_S (nA := 3) (rest := []) ([(h0, .inr (0, [.ref tr, .int (nI n), .ref hf, .int now, .ref wh, .int wl])), (wh, .inl (cB, 4096, .inl whole)), (hf, .inr (1, [.ref hr, .int (nI sz), .int md])), (hr, .inl (cR, 4, .inr (.inr (.inr (.inr (rowOf M))))))] ++ mks cB cZ M) [.ref tr, .int (nI n), .int a] ⟨hx, hb, hml, hown, hts⟩ (m_putFour l D cB cZ cR cI tr 1480 n tray a (by decide) (by omega)) (lw_S q105 q106 q10 q107) (by decide +kernel) rfl (by subst hRm; exact ⟨by decide, by decide⟩) hK hE (wP_perm hP (pm_swap _ _ _ _)) (wD_perm hD (pm_swap _ _ _ _)) hS hA hl.1 rfl (Nat.le_of_ble_eq_true rfl) dX0_feed_24 (by subst hRm; exact ⟨by decide, by decide⟩) (fun v u H locs hv hKu hP hD hS => ?_)
    obtain rfl : v = none := hv
    refine W.eq (g2 := F0 m 27 ls []) rfl ?_
    refine W.cs (cells' := 0) (slots' := 0) rfl rfl ?_
    have hP : va_P D vwCl ([(tr, .inl (cB, 1480, .inl (four tray n a)))] ++ ([(h0, .inr (0, [.ref tr, .int (nI n), .ref hf, .int now, .ref wh, .int wl])), (wh, .inl (cB, 4096, .inl whole)), (hf, .inr (1, [.ref hr, .int (nI sz), .int md])), (hr, .inl (cR, 4, .inr (.inr (.inr (.inr (rowOf M))))))] ++ mks cB cZ M)) _ := hP
    have hD : va_D A ([(tr, .inl (cB, 1480, .inl (four tray n a)))] ++ ([(h0, .inr (0, [.ref tr, .int (nI n), .ref hf, .int now, .ref wh, .int wl])), (wh, .inl (cB, 4096, .inl whole)), (hf, .inr (1, [.ref hr, .int (nI sz), .int md])), (hr, .inl (cR, 4, .inr (.inr (.inr (.inr (rowOf M))))))] ++ mks cB cZ M)) := hD
    have hP := wP_perm hP (pm_swap _ _ _ _).symm
    have hD := wD_perm hD (pm_swap _ _ _ _).symm
    have hP : va_P D vwCl ([(h0, .inr (0, [.ref tr, .int (nI n), .ref hf, .int now, .ref wh, .int wl])), (tr, .inl (cB, 1480, .inl (four tray n a))), (wh, .inl (cB, 4096, .inl whole)), (hf, .inr (1, [.ref hr, .int (nI sz), .int md])), (hr, .inl (cR, 4, .inr (.inr (.inr (.inr (rowOf M))))))] ++ mks cB cZ M) H := hP
    have hD : va_D A ([(h0, .inr (0, [.ref tr, .int (nI n), .ref hf, .int now, .ref wh, .int wl])), (tr, .inl (cB, 1480, .inl (four tray n a))), (wh, .inl (cB, 4096, .inl whole)), (hf, .inr (1, [.ref hr, .int (nI sz), .int md])), (hr, .inl (cR, 4, .inr (.inr (.inr (.inr (rowOf M))))))] ++ mks cB cZ M) := hD
    refine lv_aload_n hx hb dX0_feed_27 rfl (lv_at hl 0 rfl) ?_
    refine va_get (D := D) (ci := 0) (v := .ref tr) (C := RX0) (T := TX0) (N := 6) hx hb hts in_X0 hown hK hP 0 rfl rfl 0 (by decide) (hts _ q82) (fun _ h9 => h9) rfl dX0_feed_28 ?_
    refine lv_aload_n hx hb dX0_feed_31 rfl (lv_at hl 0 rfl) ?_
    refine va_get (D := D) (ci := 0) (v := .int (nI n)) (C := RX0) (T := TX0) (N := 6) hx hb hts in_X0 hown hK hP 0 rfl rfl 1 (by decide) (hts _ q83) (fun _ h9 => h9) rfl dX0_feed_32 ?_
    refine lv_iconst (v := nI 4) hx hb dX0_feed_35 (by decide +kernel) ?_
    refine lv_iadd hx hb dX0_feed_36 ?_
    refine lv_as (y := nI (n + 4)) (nI_add _ _) ?_
    refine lv_iload_n hx hb dX0_feed_37 rfl (lv_at hl 2 rfl) ?_
    refine call_S (nA := 3) (rest := []) ([(h0, .inr (0, [.ref tr, .int (nI n), .ref hf, .int now, .ref wh, .int wl])), (wh, .inl (cB, 4096, .inl whole)), (hf, .inr (1, [.ref hr, .int (nI sz), .int md])), (hr, .inl (cR, 4, .inr (.inr (.inr (.inr (rowOf M))))))] ++ mks cB cZ M) [.ref tr, .int (nI (n + 4)), .int b] ⟨hx, hb, hml, hown, hts⟩ (m_putFour l D cB cZ cR cI tr 1480 (n + 4) (four tray n a) b (by decide) (by omega)) (lw_S q105 q106 q10 q107) (by decide +kernel) rfl (by subst hRm; exact ⟨by decide, by decide⟩) hK hE (wP_perm hP (pm_swap _ _ _ _)) (wD_perm hD (pm_swap _ _ _ _)) hS hA hl.1 rfl (Nat.le_of_ble_eq_true rfl) dX0_feed_38 (by subst hRm; exact ⟨by decide, by decide⟩) (fun v u H locs hv hKu hP hD hS => ?_)
    obtain rfl : v = none := hv
    refine W.eq (g2 := F0 m 41 ls []) rfl ?_
    refine W.cs (cells' := 0) (slots' := 0) rfl rfl ?_
    have hP : va_P D vwCl ([(tr, .inl (cB, 1480, .inl (four (four tray n a) (n + 4) b)))] ++ ([(h0, .inr (0, [.ref tr, .int (nI n), .ref hf, .int now, .ref wh, .int wl])), (wh, .inl (cB, 4096, .inl whole)), (hf, .inr (1, [.ref hr, .int (nI sz), .int md])), (hr, .inl (cR, 4, .inr (.inr (.inr (.inr (rowOf M))))))] ++ mks cB cZ M)) _ := hP
    have hD : va_D A ([(tr, .inl (cB, 1480, .inl (four (four tray n a) (n + 4) b)))] ++ ([(h0, .inr (0, [.ref tr, .int (nI n), .ref hf, .int now, .ref wh, .int wl])), (wh, .inl (cB, 4096, .inl whole)), (hf, .inr (1, [.ref hr, .int (nI sz), .int md])), (hr, .inl (cR, 4, .inr (.inr (.inr (.inr (rowOf M))))))] ++ mks cB cZ M)) := hD
    have hP := wP_perm hP (pm_swap _ _ _ _).symm
    have hD := wD_perm hD (pm_swap _ _ _ _).symm
    have hP : va_P D vwCl ([(h0, .inr (0, [.ref tr, .int (nI n), .ref hf, .int now, .ref wh, .int wl])), (tr, .inl (cB, 1480, .inl (four (four tray n a) (n + 4) b))), (wh, .inl (cB, 4096, .inl whole)), (hf, .inr (1, [.ref hr, .int (nI sz), .int md])), (hr, .inl (cR, 4, .inr (.inr (.inr (.inr (rowOf M))))))] ++ mks cB cZ M) H := hP
    have hD : va_D A ([(h0, .inr (0, [.ref tr, .int (nI n), .ref hf, .int now, .ref wh, .int wl])), (tr, .inl (cB, 1480, .inl (four (four tray n a) (n + 4) b))), (wh, .inl (cB, 4096, .inl whole)), (hf, .inr (1, [.ref hr, .int (nI sz), .int md])), (hr, .inl (cR, 4, .inr (.inr (.inr (.inr (rowOf M))))))] ++ mks cB cZ M) := hD
    refine lv_aload_n hx hb dX0_feed_41 rfl (lv_at hl 0 rfl) ?_
    refine va_get (D := D) (ci := 0) (v := .ref tr) (C := RX0) (T := TX0) (N := 6) hx hb hts in_X0 hown hK hP 0 rfl rfl 0 (by decide) (hts _ q82) (fun _ h9 => h9) rfl dX0_feed_42 ?_
    refine lv_aload_n hx hb dX0_feed_45 rfl (lv_at hl 0 rfl) ?_
    refine va_get (D := D) (ci := 0) (v := .int (nI n)) (C := RX0) (T := TX0) (N := 6) hx hb hts in_X0 hown hK hP 0 rfl rfl 1 (by decide) (hts _ q83) (fun _ h9 => h9) rfl dX0_feed_46 ?_
    refine lv_bipush (v := nI 8) hx hb dX0_feed_49 (by decide +kernel) ?_
    refine lv_iadd hx hb dX0_feed_51 ?_
    refine lv_as (y := nI (n + 8)) (nI_add _ _) ?_
    refine lv_iload_n hx hb dX0_feed_52 rfl (lv_at hl 3 rfl) ?_
    refine call_S (nA := 3) (rest := []) ([(h0, .inr (0, [.ref tr, .int (nI n), .ref hf, .int now, .ref wh, .int wl])), (wh, .inl (cB, 4096, .inl whole)), (hf, .inr (1, [.ref hr, .int (nI sz), .int md])), (hr, .inl (cR, 4, .inr (.inr (.inr (.inr (rowOf M))))))] ++ mks cB cZ M) [.ref tr, .int (nI (n + 8)), .int c0] ⟨hx, hb, hml, hown, hts⟩ (m_putFour l D cB cZ cR cI tr 1480 (n + 8) (four (four tray n a) (n + 4) b) c0 (by decide) (by omega)) (lw_S q105 q106 q10 q107) (by decide +kernel) rfl (by subst hRm; exact ⟨by decide, by decide⟩) hK hE (wP_perm hP (pm_swap _ _ _ _)) (wD_perm hD (pm_swap _ _ _ _)) hS hA hl.1 rfl (Nat.le_of_ble_eq_true rfl) dX0_feed_53 (by subst hRm; exact ⟨by decide, by decide⟩) (fun v u H locs hv hKu hP hD hS => ?_)
    obtain rfl : v = none := hv
    refine W.eq (g2 := F0 m 56 ls []) rfl ?_
    refine W.cs (cells' := 0) (slots' := 0) rfl rfl ?_
    have hP : va_P D vwCl ([(tr, .inl (cB, 1480, .inl (four (four (four tray n a) (n + 4) b) (n + 8) c0)))] ++ ([(h0, .inr (0, [.ref tr, .int (nI n), .ref hf, .int now, .ref wh, .int wl])), (wh, .inl (cB, 4096, .inl whole)), (hf, .inr (1, [.ref hr, .int (nI sz), .int md])), (hr, .inl (cR, 4, .inr (.inr (.inr (.inr (rowOf M))))))] ++ mks cB cZ M)) _ := hP
    have hD : va_D A ([(tr, .inl (cB, 1480, .inl (four (four (four tray n a) (n + 4) b) (n + 8) c0)))] ++ ([(h0, .inr (0, [.ref tr, .int (nI n), .ref hf, .int now, .ref wh, .int wl])), (wh, .inl (cB, 4096, .inl whole)), (hf, .inr (1, [.ref hr, .int (nI sz), .int md])), (hr, .inl (cR, 4, .inr (.inr (.inr (.inr (rowOf M))))))] ++ mks cB cZ M)) := hD
    have hP := wP_perm hP (pm_swap _ _ _ _).symm
    have hD := wD_perm hD (pm_swap _ _ _ _).symm
    have hP : va_P D vwCl ([(h0, .inr (0, [.ref tr, .int (nI n), .ref hf, .int now, .ref wh, .int wl])), (tr, .inl (cB, 1480, .inl (four (four (four tray n a) (n + 4) b) (n + 8) c0))), (wh, .inl (cB, 4096, .inl whole)), (hf, .inr (1, [.ref hr, .int (nI sz), .int md])), (hr, .inl (cR, 4, .inr (.inr (.inr (.inr (rowOf M))))))] ++ mks cB cZ M) H := hP
    have hD : va_D A ([(h0, .inr (0, [.ref tr, .int (nI n), .ref hf, .int now, .ref wh, .int wl])), (tr, .inl (cB, 1480, .inl (four (four (four tray n a) (n + 4) b) (n + 8) c0))), (wh, .inl (cB, 4096, .inl whole)), (hf, .inr (1, [.ref hr, .int (nI sz), .int md])), (hr, .inl (cR, 4, .inr (.inr (.inr (.inr (rowOf M))))))] ++ mks cB cZ M) := hD
    refine lv_aload_n hx hb dX0_feed_56 rfl (lv_at hl 0 rfl) ?_
    refine va_get (D := D) (ci := 0) (v := .ref tr) (C := RX0) (T := TX0) (N := 6) hx hb hts in_X0 hown hK hP 0 rfl rfl 0 (by decide) (hts _ q82) (fun _ h9 => h9) rfl dX0_feed_57 ?_
    refine lv_aload_n hx hb dX0_feed_60 rfl (lv_at hl 0 rfl) ?_
    refine va_get (D := D) (ci := 0) (v := .int (nI n)) (C := RX0) (T := TX0) (N := 6) hx hb hts in_X0 hown hK hP 0 rfl rfl 1 (by decide) (hts _ q83) (fun _ h9 => h9) rfl dX0_feed_61 ?_
    refine lv_bipush (v := nI 12) hx hb dX0_feed_64 (by decide +kernel) ?_
    refine lv_iadd hx hb dX0_feed_66 ?_
    refine lv_as (y := nI (n + 12)) (nI_add _ _) ?_
    refine lv_iload hx hb dX0_feed_67 (lv_at hl 4 rfl) ?_
    refine call_S (nA := 3) (rest := []) ([(h0, .inr (0, [.ref tr, .int (nI n), .ref hf, .int now, .ref wh, .int wl])), (wh, .inl (cB, 4096, .inl whole)), (hf, .inr (1, [.ref hr, .int (nI sz), .int md])), (hr, .inl (cR, 4, .inr (.inr (.inr (.inr (rowOf M))))))] ++ mks cB cZ M) [.ref tr, .int (nI (n + 12)), .int d] ⟨hx, hb, hml, hown, hts⟩ (m_putFour l D cB cZ cR cI tr 1480 (n + 12) (four (four (four tray n a) (n + 4) b) (n + 8) c0) d (by decide) (by omega)) (lw_S q105 q106 q10 q107) (by decide +kernel) rfl (by subst hRm; exact ⟨by decide, by decide⟩) hK hE (wP_perm hP (pm_swap _ _ _ _)) (wD_perm hD (pm_swap _ _ _ _)) hS hA hl.1 rfl (Nat.le_of_ble_eq_true rfl) dX0_feed_69 (by subst hRm; exact ⟨by decide, by decide⟩) (fun v u H locs hv hKu hP hD hS => ?_)
    obtain rfl : v = none := hv
    refine W.eq (g2 := F0 m 72 ls []) rfl ?_
    refine W.cs (cells' := 0) (slots' := 0) rfl rfl ?_
    have hP : va_P D vwCl ([(tr, .inl (cB, 1480, .inl (four (four (four (four tray n a) (n + 4) b) (n + 8) c0) (n + 12) d)))] ++ ([(h0, .inr (0, [.ref tr, .int (nI n), .ref hf, .int now, .ref wh, .int wl])), (wh, .inl (cB, 4096, .inl whole)), (hf, .inr (1, [.ref hr, .int (nI sz), .int md])), (hr, .inl (cR, 4, .inr (.inr (.inr (.inr (rowOf M))))))] ++ mks cB cZ M)) _ := hP
    have hD : va_D A ([(tr, .inl (cB, 1480, .inl (four (four (four (four tray n a) (n + 4) b) (n + 8) c0) (n + 12) d)))] ++ ([(h0, .inr (0, [.ref tr, .int (nI n), .ref hf, .int now, .ref wh, .int wl])), (wh, .inl (cB, 4096, .inl whole)), (hf, .inr (1, [.ref hr, .int (nI sz), .int md])), (hr, .inl (cR, 4, .inr (.inr (.inr (.inr (rowOf M))))))] ++ mks cB cZ M)) := hD
    have hP := wP_perm hP (pm_swap _ _ _ _).symm
    have hD := wD_perm hD (pm_swap _ _ _ _).symm
    have hP : va_P D vwCl ([(h0, .inr (0, [.ref tr, .int (nI n), .ref hf, .int now, .ref wh, .int wl])), (tr, .inl (cB, 1480, .inl (four (four (four (four tray n a) (n + 4) b) (n + 8) c0) (n + 12) d))), (wh, .inl (cB, 4096, .inl whole)), (hf, .inr (1, [.ref hr, .int (nI sz), .int md])), (hr, .inl (cR, 4, .inr (.inr (.inr (.inr (rowOf M))))))] ++ mks cB cZ M) H := hP
    have hD : va_D A ([(h0, .inr (0, [.ref tr, .int (nI n), .ref hf, .int now, .ref wh, .int wl])), (tr, .inl (cB, 1480, .inl (four (four (four (four tray n a) (n + 4) b) (n + 8) c0) (n + 12) d))), (wh, .inl (cB, 4096, .inl whole)), (hf, .inr (1, [.ref hr, .int (nI sz), .int md])), (hr, .inl (cR, 4, .inr (.inr (.inr (.inr (rowOf M))))))] ++ mks cB cZ M) := hD
    refine lv_aload_n hx hb dX0_feed_72 rfl (lv_at hl 0 rfl) ?_
    refine va_get (D := D) (ci := 0) (v := .ref tr) (C := RX0) (T := TX0) (N := 6) hx hb hts in_X0 hown hK hP 0 rfl rfl 0 (by decide) (hts _ q82) (fun _ h9 => h9) rfl dX0_feed_73 ?_
    refine lv_aload_n hx hb dX0_feed_76 rfl (lv_at hl 0 rfl) ?_
    refine va_get (D := D) (ci := 0) (v := .int (nI n)) (C := RX0) (T := TX0) (N := 6) hx hb hts in_X0 hown hK hP 0 rfl rfl 1 (by decide) (hts _ q83) (fun _ h9 => h9) rfl dX0_feed_77 ?_
    refine lv_bipush (v := nI 16) hx hb dX0_feed_80 (by decide +kernel) ?_
    refine lv_iadd hx hb dX0_feed_82 ?_
    refine lv_as (y := nI (n + 16)) (nI_add _ _) ?_
    refine lv_iload hx hb dX0_feed_83 (lv_at hl 5 rfl) ?_
    refine call_S (nA := 3) (rest := []) ([(h0, .inr (0, [.ref tr, .int (nI n), .ref hf, .int now, .ref wh, .int wl])), (wh, .inl (cB, 4096, .inl whole)), (hf, .inr (1, [.ref hr, .int (nI sz), .int md])), (hr, .inl (cR, 4, .inr (.inr (.inr (.inr (rowOf M))))))] ++ mks cB cZ M) [.ref tr, .int (nI (n + 16)), .int e0] ⟨hx, hb, hml, hown, hts⟩ (m_putFour l D cB cZ cR cI tr 1480 (n + 16) (four (four (four (four tray n a) (n + 4) b) (n + 8) c0) (n + 12) d) e0 (by decide) (by omega)) (lw_S q105 q106 q10 q107) (by decide +kernel) rfl (by subst hRm; exact ⟨by decide, by decide⟩) hK hE (wP_perm hP (pm_swap _ _ _ _)) (wD_perm hD (pm_swap _ _ _ _)) hS hA hl.1 rfl (Nat.le_of_ble_eq_true rfl) dX0_feed_85 (by subst hRm; exact ⟨by decide, by decide⟩) (fun v u H locs hv hKu hP hD hS => ?_)
    obtain rfl : v = none := hv
    refine W.eq (g2 := F0 m 88 ls []) rfl ?_
    refine W.cs (cells' := 0) (slots' := 0) rfl rfl ?_
    have hP : va_P D vwCl ([(tr, .inl (cB, 1480, .inl (four (four (four (four (four tray n a) (n + 4) b) (n + 8) c0) (n + 12) d) (n + 16) e0)))] ++ ([(h0, .inr (0, [.ref tr, .int (nI n), .ref hf, .int now, .ref wh, .int wl])), (wh, .inl (cB, 4096, .inl whole)), (hf, .inr (1, [.ref hr, .int (nI sz), .int md])), (hr, .inl (cR, 4, .inr (.inr (.inr (.inr (rowOf M))))))] ++ mks cB cZ M)) _ := hP
    have hD : va_D A ([(tr, .inl (cB, 1480, .inl (four (four (four (four (four tray n a) (n + 4) b) (n + 8) c0) (n + 12) d) (n + 16) e0)))] ++ ([(h0, .inr (0, [.ref tr, .int (nI n), .ref hf, .int now, .ref wh, .int wl])), (wh, .inl (cB, 4096, .inl whole)), (hf, .inr (1, [.ref hr, .int (nI sz), .int md])), (hr, .inl (cR, 4, .inr (.inr (.inr (.inr (rowOf M))))))] ++ mks cB cZ M)) := hD
    have hP := wP_perm hP (pm_swap _ _ _ _).symm
    have hD := wD_perm hD (pm_swap _ _ _ _).symm
    have hP : va_P D vwCl ([(h0, .inr (0, [.ref tr, .int (nI n), .ref hf, .int now, .ref wh, .int wl])), (tr, .inl (cB, 1480, .inl (four (four (four (four (four tray n a) (n + 4) b) (n + 8) c0) (n + 12) d) (n + 16) e0))), (wh, .inl (cB, 4096, .inl whole)), (hf, .inr (1, [.ref hr, .int (nI sz), .int md])), (hr, .inl (cR, 4, .inr (.inr (.inr (.inr (rowOf M))))))] ++ mks cB cZ M) H := hP
    have hD : va_D A ([(h0, .inr (0, [.ref tr, .int (nI n), .ref hf, .int now, .ref wh, .int wl])), (tr, .inl (cB, 1480, .inl (four (four (four (four (four tray n a) (n + 4) b) (n + 8) c0) (n + 12) d) (n + 16) e0))), (wh, .inl (cB, 4096, .inl whole)), (hf, .inr (1, [.ref hr, .int (nI sz), .int md])), (hr, .inl (cR, 4, .inr (.inr (.inr (.inr (rowOf M))))))] ++ mks cB cZ M) := hD
    refine lv_aload_n hx hb dX0_feed_88 rfl (lv_at hl 0 rfl) ?_
    refine lv_dup hx hb dX0_feed_89 rfl ?_
    refine va_get (D := D) (ci := 0) (v := .int (nI n)) (C := RX0) (T := TX0) (N := 6) hx hb hts in_X0 hown hK hP 0 rfl rfl 1 (by decide) (hts _ q83) (fun _ h9 => h9) rfl dX0_feed_90 ?_
    refine lv_bipush (v := nI 20) hx hb dX0_feed_93 (by decide +kernel) ?_
    refine lv_iadd hx hb dX0_feed_95 ?_
    refine lv_as (y := nI (n + 20)) (nI_add _ _) ?_
    refine va_put (D := D) (ci := 0) (v := .int (nI (n + 20))) (ty := .int) (C := RX0) (T := TX0) (N := 6) hx hb hts in_X0 tyX0 tyX0_ok nmX0 hown hK hP hD hS 0 rfl rfl 1 (by decide) (hts _ q83) (fun _ h9 => h9) rfl (by decide +kernel) rfl rfl (Nat.le_of_ble_eq_true rfl) dX0_feed_96 (fun H locs hP hD hS => ?_)
    have hP : va_P D vwCl ([(h0, .inr (0, [.ref tr, .int (nI (n + 20)), .ref hf, .int now, .ref wh, .int wl])), (tr, .inl (cB, 1480, .inl (four (four (four (four (four tray n a) (n + 4) b) (n + 8) c0) (n + 12) d) (n + 16) e0))), (wh, .inl (cB, 4096, .inl whole)), (hf, .inr (1, [.ref hr, .int (nI sz), .int md])), (hr, .inl (cR, 4, .inr (.inr (.inr (.inr (rowOf M))))))] ++ mks cB cZ M) H := hP
    have hD : va_D A ([(h0, .inr (0, [.ref tr, .int (nI (n + 20)), .ref hf, .int now, .ref wh, .int wl])), (tr, .inl (cB, 1480, .inl (four (four (four (four (four tray n a) (n + 4) b) (n + 8) c0) (n + 12) d) (n + 16) e0))), (wh, .inl (cB, 4096, .inl whole)), (hf, .inr (1, [.ref hr, .int (nI sz), .int md])), (hr, .inl (cR, 4, .inr (.inr (.inr (.inr (rowOf M))))))] ++ mks cB cZ M) := hD
    refine lv_aload_n hx hb dX0_feed_99 rfl (lv_at hl 0 rfl) ?_
    refine va_get (D := D) (ci := 0) (v := .int (nI (n + 20))) (C := RX0) (T := TX0) (N := 6) hx hb hts in_X0 hown hK hP 0 rfl rfl 1 (by decide) (hts _ q83) (fun _ h9 => h9) rfl dX0_feed_100 ?_
    exact ret_i hx hb hrt rfl hlk hQ (Nat.le_refl _) (Nat.le_refl _) (n + 20, feedT tray n a b c0 d e0) (Or.inl ⟨c13, rfl, rfl⟩) hK hP hD hS dX0_feed_103
  · skip
    have c13 : ¬ ((n + 20) ≤ 1480) := fun h => c13 ((nI_leI (by omega) (by omega)).mpr h)
    refine lv_iconst (v := (-1)) hx hb dX0_feed_13 (by decide +kernel) ?_
    exact ret_i hx hb hrt rfl hlk hQ (Nat.le_refl _) (Nat.le_refl _) (n, tray) (Or.inr ⟨by omega, rfl, rfl⟩) hK hP hD hS dX0_feed_14
set_option maxHeartbeats 4000000 in
set_option maxRecDepth 100000 in
/-- FragmentHouse.end -/
theorem m_hEnd (l : Launch) (D : va_G) (cB cZ cR cI : ClassId) (h0 tr wh hf hr n : Nat) (tray : Nat → Int32) (now : Int32) (whole : Nat → Int32) (wl : Int32) (sz : Nat) (md : Int32) (M : Nat → Mk) (k : Int32) (hn : n ≤ 1480) : MM l yX0_end cX0_end 2 (some .int) { frames := 0, cells := 0, slots := 0, locals := 0 } D (tyS cB cZ cR cI) [.ref h0, .int k] (hsw cB cZ cR h0 tr wh hf hr n tray now whole wl sz md M) (S := Nat) (fun r u => (∃ j, j ≤ n ∧ k = nI j ∧ r = some (.int (nI j)) ∧ u = j) ∨ ((k < 0 ∨ nI n < k) ∧ r = some (.int (-1)) ∧ u = n)) (fun _ => tyS cB cZ cR cI) (fun u => hsw cB cZ cR h0 tr wh hf hr u tray now whole wl sz md M) := by
  refine MM_of (by decide) (Nat.le_of_ble_eq_true rfl) ?_
  intro p e s m below meth c A ls R Q args hRm hQ hx hb hrt hlk hml hown hts hin hK hE hA hP hD hS hl
  have hown : s.vm.findClass "FragmentHouse" = some m.cls := hown
  replace hl : lv_has ls 2 [(0, .ref h0), (1, .int k)] := hl
  replace hP : va_P D vwCl ([(h0, .inr (0, [.ref tr, .int (nI n), .ref hf, .int now, .ref wh, .int wl])), (tr, .inl (cB, 1480, .inl tray)), (wh, .inl (cB, 4096, .inl whole)), (hf, .inr (1, [.ref hr, .int (nI sz), .int md])), (hr, .inl (cR, 4, .inr (.inr (.inr (.inr (rowOf M))))))] ++ mks cB cZ M) s.heap := hP
  replace hD : va_D A ([(h0, .inr (0, [.ref tr, .int (nI n), .ref hf, .int now, .ref wh, .int wl])), (tr, .inl (cB, 1480, .inl tray)), (wh, .inl (cB, 4096, .inl whole)), (hf, .inr (1, [.ref hr, .int (nI sz), .int md])), (hr, .inl (cR, 4, .inr (.inr (.inr (.inr (rowOf M))))))] ++ mks cB cZ M) := hD
  have k12 : (k < 0 ∨ nI n < k) → W p l e R s m args below meth c s.heap [] 0 0 Q (F0 m 12 ls []) := by
    intro hk
    refine lv_iconst (v := (-1)) hx hb dX0_end_12 (by decide +kernel) ?_
    exact ret_i hx hb hrt rfl hlk hQ (Nat.le_refl _) (Nat.le_refl _) n (Or.inr ⟨hk, rfl, rfl⟩) hK hP hD hS dX0_end_13
  refine lv_iload_n hx hb dX0_end_0 rfl (lv_at hl 1 rfl) ?_
  refine lv_if_lt (tgt := 12) hx hb dX0_end_1 (by decide) (fun c14 => ?_) (fun c14 => ?_)
  · skip
    exact k12 (Or.inl c14)
  · skip
    refine lv_iload_n hx hb dX0_end_4 rfl (lv_at hl 1 rfl) ?_
    refine lv_aload_n hx hb dX0_end_5 rfl (lv_at hl 0 rfl) ?_
    refine va_get (D := D) (ci := 0) (v := .int (nI n)) (C := RX0) (T := TX0) (N := 6) hx hb hts in_X0 hown hK hP 0 rfl rfl 1 (by decide) (hts _ q83) (fun _ h9 => h9) rfl dX0_end_6 ?_
    refine lv_icmp_le (tgt := 14) hx hb dX0_end_9 (by decide) (fun c15 => ?_) (fun c15 => ?_)
    · skip
      obtain ⟨j, hj, rfl⟩ := nI_of2 (n := n) (nI_toInt (by omega)) c14 c15
      refine lv_aload_n hx hb dX0_end_14 rfl (lv_at hl 0 rfl) ?_
      refine lv_iload_n hx hb dX0_end_15 rfl (lv_at hl 1 rfl) ?_
      refine va_put (D := D) (ci := 0) (v := .int (nI j)) (ty := .int) (C := RX0) (T := TX0) (N := 6) hx hb hts in_X0 tyX0 tyX0_ok nmX0 hown hK hP hD hS 0 rfl rfl 1 (by decide) (hts _ q83) (fun _ h9 => h9) rfl (by decide +kernel) rfl rfl (Nat.le_of_ble_eq_true rfl) dX0_end_16 (fun H locs hP hD hS => ?_)
      have hP : va_P D vwCl ([(h0, .inr (0, [.ref tr, .int (nI j), .ref hf, .int now, .ref wh, .int wl])), (tr, .inl (cB, 1480, .inl tray)), (wh, .inl (cB, 4096, .inl whole)), (hf, .inr (1, [.ref hr, .int (nI sz), .int md])), (hr, .inl (cR, 4, .inr (.inr (.inr (.inr (rowOf M))))))] ++ mks cB cZ M) H := hP
      have hD : va_D A ([(h0, .inr (0, [.ref tr, .int (nI j), .ref hf, .int now, .ref wh, .int wl])), (tr, .inl (cB, 1480, .inl tray)), (wh, .inl (cB, 4096, .inl whole)), (hf, .inr (1, [.ref hr, .int (nI sz), .int md])), (hr, .inl (cR, 4, .inr (.inr (.inr (.inr (rowOf M))))))] ++ mks cB cZ M) := hD
      refine lv_iload_n hx hb dX0_end_19 rfl (lv_at hl 1 rfl) ?_
      exact ret_i hx hb hrt rfl hlk hQ (Nat.le_refl _) (Nat.le_refl _) j (Or.inl ⟨j, hj, rfl, rfl, rfl⟩) hK hP hD hS dX0_end_20
    · skip
      exact k12 (Or.inr (Int32.not_le.mp c15))
set_option maxHeartbeats 4000000 in
set_option maxRecDepth 100000 in
/-- FragmentHouse.making -/
theorem m_hMaking (l : Launch) (D : va_G) (cB cZ cR cI : ClassId) (h0 tr wh hf hr n : Nat) (tray : Nat → Int32) (now : Int32) (whole : Nat → Int32) (wl : Int32) (sz : Nat) (md : Int32) (M : Nat → Mk) : MM l yX0_making cX0_making 1 (some .int) { frames := 0, cells := 0, slots := 0, locals := 0 } D (tyS cB cZ cR cI) [.ref h0] (hsw cB cZ cR h0 tr wh hf hr n tray now whole wl sz md M) (S := Unit) (fun r u => r = some (.int (nI sz))) (fun _ => tyS cB cZ cR cI) (fun u => hsw cB cZ cR h0 tr wh hf hr n tray now whole wl sz md M) := by
  refine MM_of (by decide) (Nat.le_of_ble_eq_true rfl) ?_
  intro p e s m below meth c A ls R Q args hRm hQ hx hb hrt hlk hml hown hts hin hK hE hA hP hD hS hl
  have hown : s.vm.findClass "FragmentHouse" = some m.cls := hown
  replace hl : lv_has ls 1 [(0, .ref h0)] := hl
  replace hP : va_P D vwCl ([(h0, .inr (0, [.ref tr, .int (nI n), .ref hf, .int now, .ref wh, .int wl])), (tr, .inl (cB, 1480, .inl tray)), (wh, .inl (cB, 4096, .inl whole)), (hf, .inr (1, [.ref hr, .int (nI sz), .int md])), (hr, .inl (cR, 4, .inr (.inr (.inr (.inr (rowOf M))))))] ++ mks cB cZ M) s.heap := hP
  replace hD : va_D A ([(h0, .inr (0, [.ref tr, .int (nI n), .ref hf, .int now, .ref wh, .int wl])), (tr, .inl (cB, 1480, .inl tray)), (wh, .inl (cB, 4096, .inl whole)), (hf, .inr (1, [.ref hr, .int (nI sz), .int md])), (hr, .inl (cR, 4, .inr (.inr (.inr (.inr (rowOf M))))))] ++ mks cB cZ M) := hD
  refine lv_aload_n hx hb dX0_making_0 rfl (lv_at hl 0 rfl) ?_
  refine va_get (D := D) (ci := 0) (v := .ref hf) (C := RX0) (T := TX0) (N := 6) hx hb hts in_X0 hown hK hP 0 rfl rfl 2 (by decide) (hts _ q84) (fun _ h9 => h9) rfl dX0_making_1 ?_
  refine va_get (D := D) (ci := 1) (v := .int (nI sz)) (C := RX1) (T := TX1) (N := 3) hx hb hts in_X1 hown hK hP 3 rfl rfl 1 (by decide) (hts _ q68) (fun _ h9 => h9) rfl dX0_making_4 ?_
  exact ret_i hx hb hrt rfl hlk hQ (Nat.le_refl _) (Nat.le_refl _) () rfl hK hP hD hS dX0_making_7
set_option maxHeartbeats 4000000 in
set_option maxRecDepth 100000 in
/-- FragmentHouse.made -/
theorem m_hMade (l : Launch) (D : va_G) (cB cZ cR cI : ClassId) (h0 tr wh hf hr n : Nat) (tray : Nat → Int32) (now : Int32) (whole : Nat → Int32) (wl : Int32) (sz : Nat) (md : Int32) (M : Nat → Mk) : MM l yX0_made cX0_made 1 (some .int) { frames := 0, cells := 0, slots := 0, locals := 0 } D (tyS cB cZ cR cI) [.ref h0] (hsw cB cZ cR h0 tr wh hf hr n tray now whole wl sz md M) (S := Unit) (fun r u => r = some (.int md)) (fun _ => tyS cB cZ cR cI) (fun u => hsw cB cZ cR h0 tr wh hf hr n tray now whole wl sz md M) := by
  refine MM_of (by decide) (Nat.le_of_ble_eq_true rfl) ?_
  intro p e s m below meth c A ls R Q args hRm hQ hx hb hrt hlk hml hown hts hin hK hE hA hP hD hS hl
  have hown : s.vm.findClass "FragmentHouse" = some m.cls := hown
  replace hl : lv_has ls 1 [(0, .ref h0)] := hl
  replace hP : va_P D vwCl ([(h0, .inr (0, [.ref tr, .int (nI n), .ref hf, .int now, .ref wh, .int wl])), (tr, .inl (cB, 1480, .inl tray)), (wh, .inl (cB, 4096, .inl whole)), (hf, .inr (1, [.ref hr, .int (nI sz), .int md])), (hr, .inl (cR, 4, .inr (.inr (.inr (.inr (rowOf M))))))] ++ mks cB cZ M) s.heap := hP
  replace hD : va_D A ([(h0, .inr (0, [.ref tr, .int (nI n), .ref hf, .int now, .ref wh, .int wl])), (tr, .inl (cB, 1480, .inl tray)), (wh, .inl (cB, 4096, .inl whole)), (hf, .inr (1, [.ref hr, .int (nI sz), .int md])), (hr, .inl (cR, 4, .inr (.inr (.inr (.inr (rowOf M))))))] ++ mks cB cZ M) := hD
  refine lv_aload_n hx hb dX0_made_0 rfl (lv_at hl 0 rfl) ?_
  refine va_get (D := D) (ci := 0) (v := .ref hf) (C := RX0) (T := TX0) (N := 6) hx hb hts in_X0 hown hK hP 0 rfl rfl 2 (by decide) (hts _ q84) (fun _ h9 => h9) rfl dX0_made_1 ?_
  refine va_get (D := D) (ci := 1) (v := .int md) (C := RX1) (T := TX1) (N := 3) hx hb hts in_X1 hown hK hP 3 rfl rfl 2 (by decide) (hts _ q70) (fun _ h9 => h9) rfl dX0_made_4 ?_
  exact ret_i hx hb hrt rfl hlk hQ (Nat.le_refl _) (Nat.le_refl _) () rfl hK hP hD hS dX0_made_7
set_option maxHeartbeats 4000000 in
set_option maxRecDepth 100000 in
/-- FragmentHouse.length -/
theorem m_hLength (l : Launch) (D : va_G) (cB cZ cR cI : ClassId) (h0 tr wh hf hr n : Nat) (tray : Nat → Int32) (now : Int32) (whole : Nat → Int32) (wl : Int32) (sz : Nat) (md : Int32) (M : Nat → Mk) : MM l yX0_length cX0_length 1 (some .int) { frames := 0, cells := 0, slots := 0, locals := 0 } D (tyS cB cZ cR cI) [.ref h0] (hsw cB cZ cR h0 tr wh hf hr n tray now whole wl sz md M) (S := Unit) (fun r u => r = some (.int wl)) (fun _ => tyS cB cZ cR cI) (fun u => hsw cB cZ cR h0 tr wh hf hr n tray now whole wl sz md M) := by
  refine MM_of (by decide) (Nat.le_of_ble_eq_true rfl) ?_
  intro p e s m below meth c A ls R Q args hRm hQ hx hb hrt hlk hml hown hts hin hK hE hA hP hD hS hl
  have hown : s.vm.findClass "FragmentHouse" = some m.cls := hown
  replace hl : lv_has ls 1 [(0, .ref h0)] := hl
  replace hP : va_P D vwCl ([(h0, .inr (0, [.ref tr, .int (nI n), .ref hf, .int now, .ref wh, .int wl])), (tr, .inl (cB, 1480, .inl tray)), (wh, .inl (cB, 4096, .inl whole)), (hf, .inr (1, [.ref hr, .int (nI sz), .int md])), (hr, .inl (cR, 4, .inr (.inr (.inr (.inr (rowOf M))))))] ++ mks cB cZ M) s.heap := hP
  replace hD : va_D A ([(h0, .inr (0, [.ref tr, .int (nI n), .ref hf, .int now, .ref wh, .int wl])), (tr, .inl (cB, 1480, .inl tray)), (wh, .inl (cB, 4096, .inl whole)), (hf, .inr (1, [.ref hr, .int (nI sz), .int md])), (hr, .inl (cR, 4, .inr (.inr (.inr (.inr (rowOf M))))))] ++ mks cB cZ M) := hD
  refine lv_aload_n hx hb dX0_length_0 rfl (lv_at hl 0 rfl) ?_
  refine va_get (D := D) (ci := 0) (v := .int wl) (C := RX0) (T := TX0) (N := 6) hx hb hts in_X0 hown hK hP 0 rfl rfl 5 (by decide) (hts _ q87) (fun _ h9 => h9) rfl dX0_length_1 ?_
  exact ret_i hx hb hrt rfl hlk hQ (Nat.le_refl _) (Nat.le_refl _) () rfl hK hP hD hS dX0_length_4
set_option maxHeartbeats 4000000 in
set_option maxRecDepth 100000 in
/-- FragmentHouse.at -/
theorem m_hAt (l : Launch) (D : va_G) (cB cZ cR cI : ClassId) (h0 tr wh hf hr n : Nat) (tray : Nat → Int32) (now : Int32) (whole : Nat → Int32) (wl : Int32) (sz : Nat) (md : Int32) (M : Nat → Mk) (i : Int32) (hw : okEn wl) : MM l yX0_at cX0_at 2 (some .int) { frames := 0, cells := 0, slots := 0, locals := 0 } D (tyS cB cZ cR cI) [.ref h0, .int i] (hsw cB cZ cR h0 tr wh hf hr n tray now whole wl sz md M) (S := Unit) (fun r u => (∃ e0 j, e0 ≤ 4096 ∧ wl = nI e0 ∧ j < e0 ∧ i = nI j ∧ r = some (.int (whole j &&& nI 255))) ∨ ((i < 0 ∨ wl ≤ i) ∧ r = some (.int (-1)))) (fun _ => tyS cB cZ cR cI) (fun u => hsw cB cZ cR h0 tr wh hf hr n tray now whole wl sz md M) := by
  refine MM_of (by decide) (Nat.le_of_ble_eq_true rfl) ?_
  intro p e s m below meth c A ls R Q args hRm hQ hx hb hrt hlk hml hown hts hin hK hE hA hP hD hS hl
  have hown : s.vm.findClass "FragmentHouse" = some m.cls := hown
  replace hl : lv_has ls 2 [(0, .ref h0), (1, .int i)] := hl
  replace hP : va_P D vwCl ([(h0, .inr (0, [.ref tr, .int (nI n), .ref hf, .int now, .ref wh, .int wl])), (tr, .inl (cB, 1480, .inl tray)), (wh, .inl (cB, 4096, .inl whole)), (hf, .inr (1, [.ref hr, .int (nI sz), .int md])), (hr, .inl (cR, 4, .inr (.inr (.inr (.inr (rowOf M))))))] ++ mks cB cZ M) s.heap := hP
  replace hD : va_D A ([(h0, .inr (0, [.ref tr, .int (nI n), .ref hf, .int now, .ref wh, .int wl])), (tr, .inl (cB, 1480, .inl tray)), (wh, .inl (cB, 4096, .inl whole)), (hf, .inr (1, [.ref hr, .int (nI sz), .int md])), (hr, .inl (cR, 4, .inr (.inr (.inr (.inr (rowOf M))))))] ++ mks cB cZ M) := hD
  have k25 : (i < 0 ∨ wl ≤ i) → W p l e R s m args below meth c s.heap [] 0 0 Q (F0 m 25 ls []) := by
    intro hk
    refine lv_iconst (v := (-1)) hx hb dX0_at_25 (by decide +kernel) ?_
    exact ret_i hx hb hrt rfl hlk hQ (Nat.le_refl _) (Nat.le_refl _) () (Or.inr ⟨hk, rfl⟩) hK hP hD hS dX0_at_26
  refine lv_iload_n hx hb dX0_at_0 rfl (lv_at hl 1 rfl) ?_
  refine lv_if_lt (tgt := 25) hx hb dX0_at_1 (by decide) (fun c16 => ?_) (fun c16 => ?_)
  · skip
    exact k25 (Or.inl c16)
  · skip
    refine lv_iload_n hx hb dX0_at_4 rfl (lv_at hl 1 rfl) ?_
    refine lv_aload_n hx hb dX0_at_5 rfl (lv_at hl 0 rfl) ?_
    refine va_get (D := D) (ci := 0) (v := .int wl) (C := RX0) (T := TX0) (N := 6) hx hb hts in_X0 hown hK hP 0 rfl rfl 5 (by decide) (hts _ q87) (fun _ h9 => h9) rfl dX0_at_6 ?_
    refine lv_icmp_ge (tgt := 25) hx hb dX0_at_9 (by decide) (fun c17 => ?_) (fun c17 => ?_)
    · skip
      exact k25 (Or.inr c17)
    · skip
      obtain ⟨j, hj0, rfl⟩ := nI_of c16
      obtain ⟨e0, he0, rfl⟩ : ∃ e0, e0 ≤ 4096 ∧ wl = nI e0 := by
        rcases hw with rfl | h
        · exact absurd (Int32.le_trans (show (-1 : Int32) ≤ 0 by decide) (nI_pos' hj0)) c17
        · exact h
      have hj : j < e0 := by
        rcases Nat.lt_or_ge j e0 with h | h
        · exact h
        · exact absurd (nI_le h hj0) c17
      refine lv_aload_n hx hb dX0_at_12 rfl (lv_at hl 0 rfl) ?_
      refine va_get (D := D) (ci := 0) (v := .ref wh) (C := RX0) (T := TX0) (N := 6) hx hb hts in_X0 hown hK hP 0 rfl rfl 4 (by decide) (hts _ q86) (fun _ h9 => h9) rfl dX0_at_13 ?_
      refine lv_iload_n hx hb dX0_at_16 rfl (lv_at hl 1 rfl) ?_
      refine ab_bald hx hb hK hP 2 0 rfl rfl j (rfl) (by omega) (by decide) dX0_at_17 ?_
      refine lv_sipush (v := nI 255) hx hb dX0_at_18 (by decide +kernel) ?_
      refine lv_iand hx hb dX0_at_21 ?_
      refine lv_goto (tgt := 26) hx hb dX0_at_22 (by decide) ?_
      exact ret_i hx hb hrt rfl hlk hQ (Nat.le_refl _) (Nat.le_refl _) () (Or.inl ⟨e0, j, he0, rfl, hj, rfl, rfl⟩) hK hP hD hS dX0_at_26
end
section
/-! FragmentHouse.take, pass -/
set_option maxHeartbeats 4000000 in
set_option maxRecDepth 100000 in
/-- FragmentHouse.take -/
theorem m_hTake (l : Launch) (D : va_G) (cB cZ cR cI : ClassId) (h0 tr wh hf hr n : Nat) (tray : Nat → Int32) (now : Int32) (whole : Nat → Int32) (wl : Int32) (sz : Nat) (md : Int32) (M : Nat → Mk) (fr id pr ofs last : Int32) (hn : n ≤ 1480) (hs : sz ≤ 4) (hen : ∀ j, j < sz → okEn (kEn (M j))) : MM l yX0_take cX0_take 10 (some .int) { frames := 3, cells := 0, slots := 0, locals := 72 } D (tyS cB cZ cR cI) [.ref h0, .int fr, .int id, .int pr, .int ofs, .int last] (hsw cB cZ cR h0 tr wh hf hr n tray now whole wl sz md M) (S := (Nat × (Nat → Int32) × Int32 × Nat × Int32 × (Nat → Mk))) (fun r u => hTake n tray now whole wl sz md M fr id pr ofs last r u) (fun _ => tyS cB cZ cR cI) (fun u => hsw cB cZ cR h0 tr wh hf hr u.1 tray now u.2.1 u.2.2.1 u.2.2.2.1 u.2.2.2.2.1 u.2.2.2.2.2) := by
  refine MM_of (by decide) (Nat.le_of_ble_eq_true rfl) ?_
  intro p e s m below meth c A ls R Q args hRm hQ hx hb hrt hlk hml hown hts hin hK hE hA hP hD hS hl
  have hown : s.vm.findClass "FragmentHouse" = some m.cls := hown
  replace hl : lv_has ls 10 [(0, .ref h0), (1, .int fr), (2, .int id), (3, .int pr), (4, .int ofs), (5, .int last)] := hl
  replace hP : va_P D vwCl ([(h0, .inr (0, [.ref tr, .int (nI n), .ref hf, .int now, .ref wh, .int wl])), (tr, .inl (cB, 1480, .inl tray)), (wh, .inl (cB, 4096, .inl whole)), (hf, .inr (1, [.ref hr, .int (nI sz), .int md])), (hr, .inl (cR, 4, .inr (.inr (.inr (.inr (rowOf M))))))] ++ mks cB cZ M) s.heap := hP
  replace hD : va_D A ([(h0, .inr (0, [.ref tr, .int (nI n), .ref hf, .int now, .ref wh, .int wl])), (tr, .inl (cB, 1480, .inl tray)), (wh, .inl (cB, 4096, .inl whole)), (hf, .inr (1, [.ref hr, .int (nI sz), .int md])), (hr, .inl (cR, 4, .inr (.inr (.inr (.inr (rowOf M))))))] ++ mks cB cZ M) := hD
  have k13 : (ofs < 0 ∨ nI 8191 < ofs) → W p l e R s m args below meth c s.heap [] 0 0 Q (F0 m 13 ls []) := by
    intro hk
    refine lv_bipush (v := (-4)) hx hb dX0_take_13 (by decide +kernel) ?_
    exact ret_i hx hb hrt rfl hlk hQ (Nat.le_refl _) (Nat.le_refl _) (n, whole, wl, sz, md, M) (Or.inl ⟨hk, rfl, rfl⟩) hK hP hD hS dX0_take_15
  refine lv_iload hx hb dX0_take_0 (lv_at hl 4 rfl) ?_
  refine lv_if_lt (tgt := 13) hx hb dX0_take_2 (by decide) (fun c18 => ?_) (fun c18 => ?_)
  · skip
    exact k13 (Or.inl c18)
  · skip
    refine lv_iload hx hb dX0_take_5 (lv_at hl 4 rfl) ?_
    refine lv_sipush (v := nI 8191) hx hb dX0_take_7 (by decide +kernel) ?_
    refine lv_icmp_le (tgt := 16) hx hb dX0_take_10 (by decide) (fun c19 => ?_) (fun c19 => ?_)
    · skip
      obtain ⟨o, ho, rfl⟩ := nI_of2 (n := 8191) (nI_toInt (by decide)) c18 c19
      refine lv_aload_n hx hb dX0_take_16 rfl (lv_at hl 0 rfl) ?_
      refine va_get (D := D) (ci := 0) (v := .int (nI n)) (C := RX0) (T := TX0) (N := 6) hx hb hts in_X0 hown hK hP 0 rfl rfl 1 (by decide) (hts _ q83) (fun _ h9 => h9) rfl dX0_take_17 ?_
      refine lv_istore (lv' := [(6, .int (nI n)), (0, .ref h0), (1, .int fr), (2, .int id), (3, .int pr), (4, .int (nI o)), (5, .int last)]) hx hb dX0_take_20 hl (by decide) rfl (fun ls hl => ?_)
      refine lv_aload_n hx hb dX0_take_22 rfl (lv_at hl 1 rfl) ?_
      refine lv_iconst (v := nI 0) hx hb dX0_take_23 (by decide +kernel) ?_
      refine va_put (D := D) (ci := 0) (v := .int (nI 0)) (ty := .int) (C := RX0) (T := TX0) (N := 6) hx hb hts in_X0 tyX0 tyX0_ok nmX0 hown hK hP hD hS 0 rfl rfl 1 (by decide) (hts _ q83) (fun _ h9 => h9) rfl (by decide +kernel) rfl rfl (Nat.le_of_ble_eq_true rfl) dX0_take_24 (fun H locs hP hD hS => ?_)
      have hP : va_P D vwCl ([(h0, .inr (0, [.ref tr, .int (nI 0), .ref hf, .int now, .ref wh, .int wl])), (tr, .inl (cB, 1480, .inl tray)), (wh, .inl (cB, 4096, .inl whole)), (hf, .inr (1, [.ref hr, .int (nI sz), .int md])), (hr, .inl (cR, 4, .inr (.inr (.inr (.inr (rowOf M))))))] ++ mks cB cZ M) H := hP
      have hD : va_D A ([(h0, .inr (0, [.ref tr, .int (nI 0), .ref hf, .int now, .ref wh, .int wl])), (tr, .inl (cB, 1480, .inl tray)), (wh, .inl (cB, 4096, .inl whole)), (hf, .inr (1, [.ref hr, .int (nI sz), .int md])), (hr, .inl (cR, 4, .inr (.inr (.inr (.inr (rowOf M))))))] ++ mks cB cZ M) := hD
      have k61 : kBad n o last → W p l e R s m args below meth c H locs 0 0 Q (F0 m 61 ls []) := by
        intro hk
        refine lv_bipush (v := (-2)) hx hb dX0_take_61 (by decide +kernel) ?_
        exact ret_i hx hb hrt rfl hlk hQ (Nat.le_refl _) (Nat.le_refl _) (0, whole, wl, sz, md, M) (Or.inr ⟨o, ho, rfl, Or.inl ⟨hk, rfl, rfl⟩⟩) hK hP hD hS dX0_take_63
      have k64 : ¬ kBad n o last → W p l e R s m args below meth c H locs 0 0 Q (F0 m 64 ls []) := by
        intro hgood
        have hq : last = 0 → 8 ≤ n ∧ n % 8 = 0 := fun h => Decidable.byContradiction (fun h2 => hgood (Or.inl ⟨h, h2⟩))
        have ho2 : 8 * o + n ≤ 4096 := Nat.not_lt.mp (fun h => hgood (Or.inr h))
        refine lv_aload_n hx hb dX0_take_64 rfl (lv_at hl 1 rfl) ?_
        refine va_get (D := D) (ci := 0) (v := .ref hf) (C := RX0) (T := TX0) (N := 6) hx hb hts in_X0 hown hK hP 0 rfl rfl 2 (by decide) (hts _ q84) (fun _ h9 => h9) rfl dX0_take_65 ?_
        refine va_get (D := D) (ci := 1) (v := .int (nI sz)) (C := RX1) (T := TX1) (N := 3) hx hb hts in_X1 hown hK hP 3 rfl rfl 1 (by decide) (hts _ q68) (fun _ h9 => h9) rfl dX0_take_68 ?_
        refine lv_istore (lv' := [(7, .int (nI sz)), (6, .int (nI n)), (0, .ref h0), (1, .int fr), (2, .int id), (3, .int pr), (4, .int (nI o)), (5, .int last)]) hx hb dX0_take_71 hl (by decide) rfl (fun ls hl => ?_)
        refine lv_aload_n hx hb dX0_take_73 rfl (lv_at hl 2 rfl) ?_
        refine va_get (D := D) (ci := 0) (v := .ref hf) (C := RX0) (T := TX0) (N := 6) hx hb hts in_X0 hown hK hP 0 rfl rfl 2 (by decide) (hts _ q84) (fun _ h9 => h9) rfl dX0_take_74 ?_
        refine lv_iload_n hx hb dX0_take_77 rfl (lv_at hl 3 rfl) ?_
        refine lv_iload_n hx hb dX0_take_78 rfl (lv_at hl 4 rfl) ?_
        refine lv_iload_n hx hb dX0_take_79 rfl (lv_at hl 5 rfl) ?_
        have hP : va_P D vwCl ([(h0, .inr (0, [.ref tr, .int (nI 0), .ref hf, .int now, .ref wh, .int wl])), (tr, .inl (cB, 1480, .inl tray)), (wh, .inl (cB, 4096, .inl whole))] ++ frw cB cZ cR hf hr sz md M) _ := hP
        have hD : va_D A ([(h0, .inr (0, [.ref tr, .int (nI 0), .ref hf, .int now, .ref wh, .int wl])), (tr, .inl (cB, 1480, .inl tray)), (wh, .inl (cB, 4096, .inl whole))] ++ frw cB cZ cR hf hr sz md M) := hD
        refine call_V (nA := 3) (rest := []) (q := (RX1, TX1, 3)) (ci := 1) (q0 := 0) ([(h0, .inr (0, [.ref tr, .int (nI 0), .ref hf, .int now, .ref wh, .int wl])), (tr, .inl (cB, 1480, .inl tray)), (wh, .inl (cB, 4096, .inl whole))]) [.int fr, .int id, .int pr] ⟨hx, hb, hml, hown, hts⟩ (m_frKnows l D cB cZ cR cI hf hr sz md M fr id pr hs) (lw_V q119 q120 q121 q7 q122) (by decide +kernel) rfl (by subst hRm; exact ⟨by decide, by decide⟩) hK hE rfl rfl (wP_perm hP List.perm_append_comm) (wD_perm hD List.perm_append_comm) hS hA hl.1 rfl (Nat.le_of_ble_eq_true rfl) dX0_take_80 (by subst hRm; exact ⟨by decide, by decide⟩) (fun v u H locs hv hKu hP hD hS => ?_)
        have hP : va_P D vwCl (frw cB cZ cR hf hr sz md M ++ [(h0, .inr (0, [.ref tr, .int (nI 0), .ref hf, .int now, .ref wh, .int wl])), (tr, .inl (cB, 1480, .inl tray)), (wh, .inl (cB, 4096, .inl whole))]) _ := hP
        have hD : va_D A (frw cB cZ cR hf hr sz md M ++ [(h0, .inr (0, [.ref tr, .int (nI 0), .ref hf, .int now, .ref wh, .int wl])), (tr, .inl (cB, 1480, .inl tray)), (wh, .inl (cB, 4096, .inl whole))]) := hD
        have hP := wP_perm hP List.perm_append_comm
        have hD := wD_perm hD List.perm_append_comm
        have hP : va_P D vwCl ([(h0, .inr (0, [.ref tr, .int (nI 0), .ref hf, .int now, .ref wh, .int wl])), (tr, .inl (cB, 1480, .inl tray)), (wh, .inl (cB, 4096, .inl whole)), (hf, .inr (1, [.ref hr, .int (nI sz), .int md])), (hr, .inl (cR, 4, .inr (.inr (.inr (.inr (rowOf M))))))] ++ mks cB cZ M) H := hP
        have hD : va_D A ([(h0, .inr (0, [.ref tr, .int (nI 0), .ref hf, .int now, .ref wh, .int wl])), (tr, .inl (cB, 1480, .inl tray)), (wh, .inl (cB, 4096, .inl whole)), (hf, .inr (1, [.ref hr, .int (nI sz), .int md])), (hr, .inl (cR, 4, .inr (.inr (.inr (.inr (rowOf M))))))] ++ mks cB cZ M) := hD
        have k99 : ∀ (kn : Int32) (ls : Array Slot), ((¬ kn = 0 ∧ (∃ j, j < sz ∧ keyOf (M j) fr id pr)) ∨ (kn = 0 ∧ (∀ j, j < sz → ¬ keyOf (M j) fr id pr) ∧ sz < 4)) → lv_has ls 10 [(8, .int kn), (7, .int (nI sz)), (6, .int (nI n)), (0, .ref h0), (1, .int fr), (2, .int id), (3, .int pr), (4, .int (nI o)), (5, .int last)] → W p l e R s m args below meth c H locs 0 0 Q (F0 m 99 ls []) := by
          intro kn ls hkn hl
          have hroom : (∃ j, j < sz ∧ keyOf (M j) fr id pr) ∨ sz < 4 := by
            rcases hkn with h | h
            · exact Or.inl h.2
            · exact Or.inr h.2.2
          refine lv_aload_n hx hb dX0_take_99 rfl (lv_at hl 3 rfl) ?_
          refine va_get (D := D) (ci := 0) (v := .ref hf) (C := RX0) (T := TX0) (N := 6) hx hb hts in_X0 hown hK hP 0 rfl rfl 2 (by decide) (hts _ q84) (fun _ h9 => h9) rfl dX0_take_100 ?_
          refine lv_aload_n hx hb dX0_take_103 rfl (lv_at hl 3 rfl) ?_
          refine va_get (D := D) (ci := 0) (v := .ref tr) (C := RX0) (T := TX0) (N := 6) hx hb hts in_X0 hown hK hP 0 rfl rfl 0 (by decide) (hts _ q82) (fun _ h9 => h9) rfl dX0_take_104 ?_
          refine lv_iconst (v := nI 0) hx hb dX0_take_107 (by decide +kernel) ?_
          refine lv_iload hx hb dX0_take_108 (lv_at hl 2 rfl) ?_
          refine lv_iload_n hx hb dX0_take_110 rfl (lv_at hl 4 rfl) ?_
          refine lv_iload_n hx hb dX0_take_111 rfl (lv_at hl 5 rfl) ?_
          refine lv_iload_n hx hb dX0_take_112 rfl (lv_at hl 6 rfl) ?_
          refine lv_bipush (v := nI 8) hx hb dX0_take_113 (by decide +kernel) ?_
          refine lv_iload hx hb dX0_take_115 (lv_at hl 7 rfl) ?_
          refine lv_imul hx hb dX0_take_117 ?_
          refine lv_as (y := nI (8 * o)) (pk_mul _ _) ?_
          refine lv_iload hx hb dX0_take_118 (lv_at hl 8 rfl) ?_
          refine lv_aload_n hx hb dX0_take_120 rfl (lv_at hl 3 rfl) ?_
          refine va_get (D := D) (ci := 0) (v := .int now) (C := RX0) (T := TX0) (N := 6) hx hb hts in_X0 hown hK hP 0 rfl rfl 3 (by decide) (hts _ q85) (fun _ h9 => h9) rfl dX0_take_121 ?_
          have hP : va_P D vwCl ([(h0, .inr (0, [.ref tr, .int (nI 0), .ref hf, .int now, .ref wh, .int wl])), (tr, .inl (cB, 1480, .inl tray)), (wh, .inl (cB, 4096, .inl whole))] ++ frw cB cZ cR hf hr sz md M) _ := hP
          have hD : va_D A ([(h0, .inr (0, [.ref tr, .int (nI 0), .ref hf, .int now, .ref wh, .int wl])), (tr, .inl (cB, 1480, .inl tray)), (wh, .inl (cB, 4096, .inl whole))] ++ frw cB cZ cR hf hr sz md M) := hD
          refine call_V (nA := 9) (rest := []) (q := (RX1, TX1, 3)) (ci := 1) (q0 := 0) ([(h0, .inr (0, [.ref tr, .int (nI 0), .ref hf, .int now, .ref wh, .int wl])), (wh, .inl (cB, 4096, .inl whole))]) [.ref tr, .int (nI 0), .int (nI n), .int fr, .int id, .int pr, .int (nI (8 * o)), .int last, .int now] ⟨hx, hb, hml, hown, hts⟩ (m_frTake l D cB cZ cR cI hf hr sz md M tr tray (8 * o) n fr id pr last now hs hn ho2 hq hroom hen) (lw_V q127 q128 q129 q7 q130) (by decide +kernel) rfl (by subst hRm; exact ⟨by decide, by decide⟩) hK hE rfl rfl (wP_perm hP (hs_perm _ _ _ _)) (wD_perm hD (hs_perm _ _ _ _)) hS hA hl.1 rfl (Nat.le_of_ble_eq_true rfl) dX0_take_124 (by subst hRm; exact ⟨by decide, by decide⟩) (fun v u H locs hv hKu hP hD hS => ?_)
          obtain ⟨sz2, md2, M2⟩ := u
          have hP : va_P D vwCl ((frw cB cZ cR hf hr sz2 md2 M2 ++ [(tr, .inl (cB, 1480, .inl tray))]) ++ [(h0, .inr (0, [.ref tr, .int (nI 0), .ref hf, .int now, .ref wh, .int wl])), (wh, .inl (cB, 4096, .inl whole))]) _ := hP
          have hD : va_D A ((frw cB cZ cR hf hr sz2 md2 M2 ++ [(tr, .inl (cB, 1480, .inl tray))]) ++ [(h0, .inr (0, [.ref tr, .int (nI 0), .ref hf, .int now, .ref wh, .int wl])), (wh, .inl (cB, 4096, .inl whole))]) := hD
          have hP := wP_perm hP (hs_perm _ _ _ _).symm
          have hD := wD_perm hD (hs_perm _ _ _ _).symm
          have hP : va_P D vwCl ([(h0, .inr (0, [.ref tr, .int (nI 0), .ref hf, .int now, .ref wh, .int wl])), (tr, .inl (cB, 1480, .inl tray)), (wh, .inl (cB, 4096, .inl whole)), (hf, .inr (1, [.ref hr, .int (nI sz2), .int md2])), (hr, .inl (cR, 4, .inr (.inr (.inr (.inr (rowOf M2))))))] ++ mks cB cZ M2) H := hP
          have hD : va_D A ([(h0, .inr (0, [.ref tr, .int (nI 0), .ref hf, .int now, .ref wh, .int wl])), (tr, .inl (cB, 1480, .inl tray)), (wh, .inl (cB, 4096, .inl whole)), (hf, .inr (1, [.ref hr, .int (nI sz2), .int md2])), (hr, .inl (cR, 4, .inr (.inr (.inr (.inr (rowOf M2))))))] ++ mks cB cZ M2) := hD
          rcases takeRel_ref hs hv with rfl | ⟨h1, rfl, h2⟩
          · skip
            refine W.eq (g2 := F0 m 127 ls [.null]) rfl ?_
            refine W.cs (cells' := 0) (slots' := 0) rfl rfl ?_
            refine lv_astoreN (lv' := [(9, .null), (8, .int kn), (7, .int (nI sz)), (6, .int (nI n)), (0, .ref h0), (1, .int fr), (2, .int id), (3, .int pr), (4, .int (nI o)), (5, .int last)]) hx hb dX0_take_127 hl (by decide) rfl (fun ls hl => ?_)
            refine lv_aloadN hx hb dX0_take_129 (lv_at hl 0 rfl) ?_
            refine lv_ifnonnullN hx hb dX0_take_131 ?_
            have k156 : ((∀ j, j < sz → ¬ keyOf (M j) fr id pr) ∨ sz ≤ sz2) → W p l e R s m args below meth c H locs 0 0 Q (F0 m 156 ls []) := by
              intro hk
              refine lv_iconst (v := (-1)) hx hb dX0_take_156 (by decide +kernel) ?_
              exact ret_i hx hb hrt rfl hlk hQ (Nat.le_refl _) (Nat.le_refl _) (0, whole, wl, sz2, md2, M2) (Or.inr ⟨o, ho, rfl, Or.inr ⟨hgood, Or.inr ⟨_, _, hroom, hv, Or.inr (Or.inl ⟨rfl, hk, rfl, rfl⟩)⟩⟩⟩) hK hP hD hS dX0_take_157
            refine lv_iload hx hb dX0_take_134 (lv_at hl 1 rfl) ?_
            refine lv_if_eq (tgt := 156) hx hb dX0_take_136 (by decide) (fun c20 => ?_) (fun c20 => ?_)
            · skip
              rcases hkn with h | h
              · exact absurd c20 h.1
              · exact k156 (Or.inl h.2.1)
            · skip
              refine lv_aload_n hx hb dX0_take_139 rfl (lv_at hl 4 rfl) ?_
              refine va_get (D := D) (ci := 0) (v := .ref hf) (C := RX0) (T := TX0) (N := 6) hx hb hts in_X0 hown hK hP 0 rfl rfl 2 (by decide) (hts _ q84) (fun _ h9 => h9) rfl dX0_take_140 ?_
              refine va_get (D := D) (ci := 1) (v := .int (nI sz2)) (C := RX1) (T := TX1) (N := 3) hx hb hts in_X1 hown hK hP 3 rfl rfl 1 (by decide) (hts _ q68) (fun _ h9 => h9) rfl dX0_take_143 ?_
              refine lv_iload hx hb dX0_take_146 (lv_at hl 2 rfl) ?_
              refine lv_icmp_ge (tgt := 156) hx hb dX0_take_148 (by decide) (fun c21 => ?_) (fun c21 => ?_)
              · skip
                exact k156 (Or.inr ((Nat.lt_or_ge sz2 sz).elim (fun h => absurd c21 (nI_ge h (by omega))) (fun h => h)))
              · skip
                have hlt : sz2 < sz := by
                  rcases Nat.lt_or_ge sz2 sz with h | h
                  · exact h
                  · exact absurd (nI_le h (takeRel_sz hs hv)) c21
                refine lv_bipush (v := (-3)) hx hb dX0_take_151 (by decide +kernel) ?_
                refine lv_goto (tgt := 157) hx hb dX0_take_153 (by decide) ?_
                exact ret_i hx hb hrt rfl hlk hQ (Nat.le_refl _) (Nat.le_refl _) (0, whole, wl, sz2, md2, M2) (Or.inr ⟨o, ho, rfl, Or.inr ⟨hgood, Or.inr ⟨_, _, hroom, hv, Or.inl ⟨rfl, hkn.elim (fun h => h.2) (fun h => absurd h.1 c20), hlt, rfl, rfl⟩⟩⟩⟩) hK hP hD hS dX0_take_157
          · skip
            have h1 : sz2 < 4 := h1
            obtain ⟨e9, he1, he2, -⟩ := h2
            have he2 : kEn (M2 sz2) = nI e9 := he2
            refine W.eq (g2 := F0 m 127 ls [.ref (kA (M2 sz2))]) rfl ?_
            refine W.cs (cells' := 0) (slots' := 0) rfl rfl ?_
            refine lv_astore (lv' := [(9, .ref (kA (M2 sz2))), (8, .int kn), (7, .int (nI sz)), (6, .int (nI n)), (0, .ref h0), (1, .int fr), (2, .int id), (3, .int pr), (4, .int (nI o)), (5, .int last)]) hx hb dX0_take_127 hl (by decide) rfl (fun ls hl => ?_)
            refine lv_aload hx hb dX0_take_129 (lv_at hl 0 rfl) ?_
            refine lv_ifnonnull (tgt := 158) hx hb dX0_take_131 (by decide) ?_
            refine lv_aload hx hb dX0_take_158 (lv_at hl 0 rfl) ?_
            refine va_get (D := D) (ci := 2) (v := .ref (M2 sz2).1.2.1) (C := RX2) (T := TX2) (N := 8) hx hb hts in_X2 hown hK hP (5 + 3 * sz2) (mks_get cB cZ (by omega) M2 [_, _, _, _, _]) rfl 4 (by decide) (hts _ q42) (fun _ h9 => h9) rfl dX0_take_160 ?_
            refine lv_iconst (v := nI 0) hx hb dX0_take_163 (by decide +kernel) ?_
            refine lv_aload_n hx hb dX0_take_164 rfl (lv_at hl 4 rfl) ?_
            refine va_get (D := D) (ci := 0) (v := .ref wh) (C := RX0) (T := TX0) (N := 6) hx hb hts in_X0 hown hK hP 0 rfl rfl 4 (by decide) (hts _ q86) (fun _ h9 => h9) rfl dX0_take_165 ?_
            refine lv_iconst (v := nI 0) hx hb dX0_take_168 (by decide +kernel) ?_
            refine lv_aload hx hb dX0_take_169 (lv_at hl 0 rfl) ?_
            refine va_get (D := D) (ci := 2) (v := .int (kEn (M2 sz2))) (C := RX2) (T := TX2) (N := 8) hx hb hts in_X2 hown hK hP (5 + 3 * sz2) (mks_get cB cZ (by omega) M2 [_, _, _, _, _]) rfl 7 (by decide) (hts _ q46) (fun _ h9 => h9) rfl dX0_take_171 ?_
            refine lv_as (y := nI e9) (he2) ?_
            refine call_S (nA := 5) (rest := []) ([(kA (M2 sz2), .inr (2, [.int (kFr (M2 sz2)), .int (kId (M2 sz2)), .int (kPr (M2 sz2)), .int (kSi (M2 sz2)), .ref (M2 sz2).1.2.1, .ref (M2 sz2).1.2.2, .int (kRe (M2 sz2)), .int (kEn (M2 sz2))])), ((M2 sz2).1.2.2, .inl (cZ, 4096, .inl (kTh (M2 sz2)))), (h0, .inr (0, [.ref tr, .int (nI 0), .ref hf, .int now, .ref wh, .int wl])), (tr, .inl (cB, 1480, .inl tray)), (hf, .inr (1, [.ref hr, .int (nI sz2), .int md2])), (hr, .inl (cR, 4, .inr (.inr (.inr (.inr (rowOf M2))))))] ++ mksX cB cZ sz2 M2) [.ref (M2 sz2).1.2.1, .int (nI 0), .ref wh, .int (nI 0), .int (nI e9)] ⟨hx, hb, hml, hown, hts⟩ (m_copy l D cB cZ cR cI (M2 sz2).1.2.1 wh 4096 4096 e9 (kBy (M2 sz2)) whole (by decide) (by decide) he1 he1) (lw_S q150 q151 q10 q152) (by decide +kernel) rfl (by subst hRm; exact ⟨by decide, by decide⟩) hK hE (wP_perm hP (copy_perm cB cZ _ _ _ _ _ M2 h1)) (wD_perm hD (copy_perm cB cZ _ _ _ _ _ M2 h1)) hS hA hl.1 rfl (Nat.le_of_ble_eq_true rfl) dX0_take_174 (by subst hRm; exact ⟨by decide, by decide⟩) (fun v9 u9 H locs hv9 hKu hP hD hS => ?_)
            obtain rfl : v9 = none := hv9
            have hP : va_P D vwCl ([((M2 sz2).1.2.1, .inl (cB, 4096, .inl (kBy (M2 sz2)))), (wh, .inl (cB, 4096, .inl (lo e9 (fun j => nb (kBy (M2 sz2) j)) whole)))] ++ ([(kA (M2 sz2), .inr (2, [.int (kFr (M2 sz2)), .int (kId (M2 sz2)), .int (kPr (M2 sz2)), .int (kSi (M2 sz2)), .ref (M2 sz2).1.2.1, .ref (M2 sz2).1.2.2, .int (kRe (M2 sz2)), .int (kEn (M2 sz2))])), ((M2 sz2).1.2.2, .inl (cZ, 4096, .inl (kTh (M2 sz2)))), (h0, .inr (0, [.ref tr, .int (nI 0), .ref hf, .int now, .ref wh, .int wl])), (tr, .inl (cB, 1480, .inl tray)), (hf, .inr (1, [.ref hr, .int (nI sz2), .int md2])), (hr, .inl (cR, 4, .inr (.inr (.inr (.inr (rowOf M2))))))] ++ mksX cB cZ sz2 M2)) _ := hP
            have hD : va_D A ([((M2 sz2).1.2.1, .inl (cB, 4096, .inl (kBy (M2 sz2)))), (wh, .inl (cB, 4096, .inl (lo e9 (fun j => nb (kBy (M2 sz2) j)) whole)))] ++ ([(kA (M2 sz2), .inr (2, [.int (kFr (M2 sz2)), .int (kId (M2 sz2)), .int (kPr (M2 sz2)), .int (kSi (M2 sz2)), .ref (M2 sz2).1.2.1, .ref (M2 sz2).1.2.2, .int (kRe (M2 sz2)), .int (kEn (M2 sz2))])), ((M2 sz2).1.2.2, .inl (cZ, 4096, .inl (kTh (M2 sz2)))), (h0, .inr (0, [.ref tr, .int (nI 0), .ref hf, .int now, .ref wh, .int wl])), (tr, .inl (cB, 1480, .inl tray)), (hf, .inr (1, [.ref hr, .int (nI sz2), .int md2])), (hr, .inl (cR, 4, .inr (.inr (.inr (.inr (rowOf M2))))))] ++ mksX cB cZ sz2 M2)) := hD
            have hP := wP_perm hP (copy_perm cB cZ _ _ _ _ _ M2 h1).symm
            have hD := wD_perm hD (copy_perm cB cZ _ _ _ _ _ M2 h1).symm
            have hP : va_P D vwCl ([(h0, .inr (0, [.ref tr, .int (nI 0), .ref hf, .int now, .ref wh, .int wl])), (tr, .inl (cB, 1480, .inl tray)), (wh, .inl (cB, 4096, .inl (lo e9 (fun j => nb (kBy (M2 sz2) j)) whole))), (hf, .inr (1, [.ref hr, .int (nI sz2), .int md2])), (hr, .inl (cR, 4, .inr (.inr (.inr (.inr (rowOf M2))))))] ++ mks cB cZ M2) H := hP
            have hD : va_D A ([(h0, .inr (0, [.ref tr, .int (nI 0), .ref hf, .int now, .ref wh, .int wl])), (tr, .inl (cB, 1480, .inl tray)), (wh, .inl (cB, 4096, .inl (lo e9 (fun j => nb (kBy (M2 sz2) j)) whole))), (hf, .inr (1, [.ref hr, .int (nI sz2), .int md2])), (hr, .inl (cR, 4, .inr (.inr (.inr (.inr (rowOf M2))))))] ++ mks cB cZ M2) := hD
            refine W.eq (g2 := F0 m 177 ls []) rfl ?_
            refine W.cs (cells' := 0) (slots' := 0) rfl rfl ?_
            refine lv_aload_n hx hb dX0_take_177 rfl (lv_at hl 4 rfl) ?_
            refine lv_aload hx hb dX0_take_178 (lv_at hl 0 rfl) ?_
            refine va_get (D := D) (ci := 2) (v := .int (kEn (M2 sz2))) (C := RX2) (T := TX2) (N := 8) hx hb hts in_X2 hown hK hP (5 + 3 * sz2) (mks_get cB cZ (by omega) M2 [_, _, _, _, _]) rfl 7 (by decide) (hts _ q46) (fun _ h9 => h9) rfl dX0_take_180 ?_
            refine lv_as (y := nI e9) (he2) ?_
            refine va_put (D := D) (ci := 0) (v := .int (nI e9)) (ty := .int) (C := RX0) (T := TX0) (N := 6) hx hb hts in_X0 tyX0 tyX0_ok nmX0 hown hK hP hD hS 0 rfl rfl 5 (by decide) (hts _ q87) (fun _ h9 => h9) rfl (by decide +kernel) rfl rfl (Nat.le_of_ble_eq_true rfl) dX0_take_183 (fun H locs hP hD hS => ?_)
            have hP : va_P D vwCl ([(h0, .inr (0, [.ref tr, .int (nI 0), .ref hf, .int now, .ref wh, .int (nI e9)])), (tr, .inl (cB, 1480, .inl tray)), (wh, .inl (cB, 4096, .inl (lo e9 (fun j => nb (kBy (M2 sz2) j)) whole))), (hf, .inr (1, [.ref hr, .int (nI sz2), .int md2])), (hr, .inl (cR, 4, .inr (.inr (.inr (.inr (rowOf M2))))))] ++ mks cB cZ M2) H := hP
            have hD : va_D A ([(h0, .inr (0, [.ref tr, .int (nI 0), .ref hf, .int now, .ref wh, .int (nI e9)])), (tr, .inl (cB, 1480, .inl tray)), (wh, .inl (cB, 4096, .inl (lo e9 (fun j => nb (kBy (M2 sz2) j)) whole))), (hf, .inr (1, [.ref hr, .int (nI sz2), .int md2])), (hr, .inl (cR, 4, .inr (.inr (.inr (.inr (rowOf M2))))))] ++ mks cB cZ M2) := hD
            refine lv_aload hx hb dX0_take_186 (lv_at hl 0 rfl) ?_
            refine va_get (D := D) (ci := 2) (v := .int (kEn (M2 sz2))) (C := RX2) (T := TX2) (N := 8) hx hb hts in_X2 hown hK hP (5 + 3 * sz2) (mks_get cB cZ (by omega) M2 [_, _, _, _, _]) rfl 7 (by decide) (hts _ q46) (fun _ h9 => h9) rfl dX0_take_188 ?_
            refine lv_as (y := nI e9) (he2) ?_
            exact ret_i hx hb hrt rfl hlk hQ (Nat.le_refl _) (Nat.le_refl _) (0, lo e9 (fun j => nb (kBy (M2 sz2) j)) whole, nI e9, sz2, md2, M2) (Or.inr ⟨o, ho, rfl, Or.inr ⟨hgood, Or.inr ⟨_, _, hroom, hv, Or.inr (Or.inr ⟨e9, he1, he2, rfl, rfl, rfl⟩)⟩⟩⟩) hK hP hD hS dX0_take_191
        rcases hv with ⟨hkn, rfl⟩ | ⟨hkn, rfl⟩
        · skip
          refine W.eq (g2 := F0 m 83 ls [.int 1]) rfl ?_
          refine W.cs (cells' := 0) (slots' := 0) rfl rfl ?_
          refine lv_istore (lv' := [(8, .int 1), (7, .int (nI sz)), (6, .int (nI n)), (0, .ref h0), (1, .int fr), (2, .int id), (3, .int pr), (4, .int (nI o)), (5, .int last)]) hx hb dX0_take_83 hl (by decide) rfl (fun ls hl => ?_)
          refine lv_iload hx hb dX0_take_85 (lv_at hl 0 rfl) ?_
          refine lv_if_ne (tgt := 99) hx hb dX0_take_87 (by decide) (fun c22 => ?_) (fun c22 => ?_)
          · skip
            exact k99 1 ls (Or.inl ⟨c22, hkn⟩) hl
          · skip
            exact absurd (show (1 : Int32) = 0 from c22) (by decide)
        · skip
          refine W.eq (g2 := F0 m 83 ls [.int 0]) rfl ?_
          refine W.cs (cells' := 0) (slots' := 0) rfl rfl ?_
          refine lv_istore (lv' := [(8, .int 0), (7, .int (nI sz)), (6, .int (nI n)), (0, .ref h0), (1, .int fr), (2, .int id), (3, .int pr), (4, .int (nI o)), (5, .int last)]) hx hb dX0_take_83 hl (by decide) rfl (fun ls hl => ?_)
          refine lv_iload hx hb dX0_take_85 (lv_at hl 0 rfl) ?_
          refine lv_if_ne (tgt := 99) hx hb dX0_take_87 (by decide) (fun c23 => ?_) (fun c23 => ?_)
          · skip
            exact absurd rfl c23
          · skip
            refine lv_iload hx hb dX0_take_90 (lv_at hl 1 rfl) ?_
            refine lv_iconst (v := nI 4) hx hb dX0_take_92 (by decide +kernel) ?_
            refine lv_icmp_ne (tgt := 99) hx hb dX0_take_93 (by decide) (fun c24 => ?_) (fun c24 => ?_)
            · skip
              have c24 : ¬ (sz = 4) := fun h => c24 ((nI_eq (by omega) (by omega)).mpr h)
              exact k99 0 ls (Or.inr ⟨rfl, hkn, by omega⟩) hl
            · skip
              have c24 : sz = 4 := (nI_eq (by omega) (by omega)).mp c24
              refine lv_bipush (v := (-2)) hx hb dX0_take_96 (by decide +kernel) ?_
              exact ret_i hx hb hrt rfl hlk hQ (Nat.le_refl _) (Nat.le_refl _) (0, whole, wl, sz, md, M) (Or.inr ⟨o, ho, rfl, Or.inr ⟨hgood, Or.inl ⟨c24, hkn, rfl, rfl⟩⟩⟩) hK hP hD hS dX0_take_98
      have k47 : (last = 0 → 8 ≤ n ∧ n % 8 = 0) → W p l e R s m args below meth c H locs 0 0 Q (F0 m 47 ls []) := by
        intro hq
        refine lv_bipush (v := nI 8) hx hb dX0_take_47 (by decide +kernel) ?_
        refine lv_iload hx hb dX0_take_49 (lv_at hl 5 rfl) ?_
        refine lv_imul hx hb dX0_take_51 ?_
        refine lv_as (y := nI (8 * o)) (pk_mul _ _) ?_
        refine lv_iload hx hb dX0_take_52 (lv_at hl 0 rfl) ?_
        refine lv_iadd hx hb dX0_take_54 ?_
        refine lv_as (y := nI ((8 * o) + n)) (nI_add _ _) ?_
        refine lv_sipush (v := nI 4096) hx hb dX0_take_55 (by decide +kernel) ?_
        refine lv_icmp_le (tgt := 64) hx hb dX0_take_58 (by decide) (fun c25 => ?_) (fun c25 => ?_)
        · skip
          have c25 : ((8 * o) + n) ≤ 4096 := (nI_leI (by omega) (by omega)).mp c25
          exact k64 (fun h => h.elim (fun h => h.2 (hq h.1)) (fun h => absurd h (by omega)))
        · skip
          have c25 : ¬ (((8 * o) + n) ≤ 4096) := fun h => c25 ((nI_leI (by omega) (by omega)).mpr h)
          exact k61 (Or.inr (by omega))
      refine lv_iload hx hb dX0_take_27 (lv_at hl 6 rfl) ?_
      refine lv_if_ne (tgt := 47) hx hb dX0_take_29 (by decide) (fun c26 => ?_) (fun c26 => ?_)
      · skip
        exact k47 (fun h => absurd h c26)
      · skip
        refine lv_iload hx hb dX0_take_32 (lv_at hl 0 rfl) ?_
        refine lv_bipush (v := nI 8) hx hb dX0_take_34 (by decide +kernel) ?_
        refine lv_icmp_lt (tgt := 61) hx hb dX0_take_36 (by decide) (fun c27 => ?_) (fun c27 => ?_)
        · skip
          have c27 : n < 8 := (nI_ltI (by omega) (by omega)).mp c27
          exact k61 (Or.inl ⟨c26, by omega⟩)
        · skip
          have c27 : ¬ (n < 8) := fun h => c27 ((nI_ltI (by omega) (by omega)).mpr h)
          refine lv_iload hx hb dX0_take_39 (lv_at hl 0 rfl) ?_
          refine lv_bipush (v := nI 8) hx hb dX0_take_41 (by decide +kernel) ?_
          refine lv_irem hx hb dX0_take_43 (by decide +kernel) ?_
          refine lv_as (y := nI (n % 8)) (pk_rem (by omega) (by omega) (by omega)) ?_
          refine lv_if_ne (tgt := 61) hx hb dX0_take_44 (by decide) (fun c28 => ?_) (fun c28 => ?_)
          · skip
            exact k61 (Or.inl ⟨c26, fun h => c28 (by rw [h.2]; rfl)⟩)
          · skip
            exact k47 (fun _ => ⟨by omega, (nI_eq (by omega) (by omega)).mp (show nI (n % 8) = nI 0 from c28)⟩)
    · skip
      exact k13 (Or.inr (Int32.not_le.mp c19))
set_option maxHeartbeats 4000000 in
set_option maxRecDepth 100000 in
/-- FragmentHouse.pass -/
theorem m_hPass (l : Launch) (D : va_G) (cB cZ cR cI : ClassId) (h0 tr wh hf hr n : Nat) (tray : Nat → Int32) (now : Int32) (whole : Nat → Int32) (wl : Int32) (sz : Nat) (md : Int32) (M : Nat → Mk) (t : Int32) (hs : sz ≤ 4) : MM l yX0_pass cX0_pass 3 (some .int) { frames := 2, cells := 0, slots := 0, locals := 43 } D (tyS cB cZ cR cI) [.ref h0, .int t] (hsw cB cZ cR h0 tr wh hf hr n tray now whole wl sz md M) (S := (Int32 × Nat × (Nat → Mk))) (fun r u => ((t < now ∨ nI 2000000000 < t) ∧ r = some (.int (-1)) ∧ u = (now, 0, M)) ∨ (¬ t < now ∧ t ≤ nI 2000000000 ∧ u.1 = t ∧ u.2.1 ≤ sz ∧ r = some (.int (nI u.2.1)) ∧ (∀ j, j + u.2.1 < sz → u.2.2 j = M (j + u.2.1)) ∧ (∀ j, j < u.2.1 → kSi (M j) + nI 15000 ≤ t) ∧ (u.2.1 < sz → ¬ (kSi (M u.2.1) + nI 15000 ≤ t)))) (fun _ => tyS cB cZ cR cI) (fun u => hsw cB cZ cR h0 tr wh hf hr n tray u.1 whole wl (sz - u.2.1) md u.2.2) := by
  refine MM_of (by decide) (Nat.le_of_ble_eq_true rfl) ?_
  intro p e s m below meth c A ls R Q args hRm hQ hx hb hrt hlk hml hown hts hin hK hE hA hP hD hS hl
  have hown : s.vm.findClass "FragmentHouse" = some m.cls := hown
  replace hl : lv_has ls 3 [(0, .ref h0), (1, .int t)] := hl
  replace hP : va_P D vwCl ([(h0, .inr (0, [.ref tr, .int (nI n), .ref hf, .int now, .ref wh, .int wl])), (tr, .inl (cB, 1480, .inl tray)), (wh, .inl (cB, 4096, .inl whole)), (hf, .inr (1, [.ref hr, .int (nI sz), .int md])), (hr, .inl (cR, 4, .inr (.inr (.inr (.inr (rowOf M))))))] ++ mks cB cZ M) s.heap := hP
  replace hD : va_D A ([(h0, .inr (0, [.ref tr, .int (nI n), .ref hf, .int now, .ref wh, .int wl])), (tr, .inl (cB, 1480, .inl tray)), (wh, .inl (cB, 4096, .inl whole)), (hf, .inr (1, [.ref hr, .int (nI sz), .int md])), (hr, .inl (cR, 4, .inr (.inr (.inr (.inr (rowOf M))))))] ++ mks cB cZ M) := hD
  have k14 : (t < now ∨ nI 2000000000 < t) → W p l e R s m args below meth c s.heap [] 0 0 Q (F0 m 14 ls []) := by
    intro hk
    refine lv_iconst (v := (-1)) hx hb dX0_pass_14 (by decide +kernel) ?_
    exact ret_i hx hb hrt rfl hlk hQ (Nat.le_refl _) (Nat.le_refl _) (now, 0, M) (Or.inl ⟨hk, rfl, rfl⟩) hK hP hD hS dX0_pass_15
  refine lv_iload_n hx hb dX0_pass_0 rfl (lv_at hl 1 rfl) ?_
  refine lv_aload_n hx hb dX0_pass_1 rfl (lv_at hl 0 rfl) ?_
  refine va_get (D := D) (ci := 0) (v := .int now) (C := RX0) (T := TX0) (N := 6) hx hb hts in_X0 hown hK hP 0 rfl rfl 3 (by decide) (hts _ q85) (fun _ h9 => h9) rfl dX0_pass_2 ?_
  refine lv_icmp_lt (tgt := 14) hx hb dX0_pass_5 (by decide) (fun c29 => ?_) (fun c29 => ?_)
  · skip
    exact k14 (Or.inl c29)
  · skip
    refine lv_iload_n hx hb dX0_pass_8 rfl (lv_at hl 1 rfl) ?_
    refine lv_ldc hx hb hown (hts _ q157) dX0_pass_9 ?_
    refine lv_as (y := nI 2000000000) (by decide +kernel) ?_
    refine lv_icmp_le (tgt := 16) hx hb dX0_pass_11 (by decide) (fun c30 => ?_) (fun c30 => ?_)
    · skip
      refine lv_aload_n hx hb dX0_pass_16 rfl (lv_at hl 0 rfl) ?_
      refine lv_iload_n hx hb dX0_pass_17 rfl (lv_at hl 1 rfl) ?_
      refine va_put (D := D) (ci := 0) (v := .int t) (ty := .int) (C := RX0) (T := TX0) (N := 6) hx hb hts in_X0 tyX0 tyX0_ok nmX0 hown hK hP hD hS 0 rfl rfl 3 (by decide) (hts _ q85) (fun _ h9 => h9) rfl (by decide +kernel) rfl rfl (Nat.le_of_ble_eq_true rfl) dX0_pass_18 (fun H locs hP hD hS => ?_)
      have hP : va_P D vwCl ([(h0, .inr (0, [.ref tr, .int (nI n), .ref hf, .int t, .ref wh, .int wl])), (tr, .inl (cB, 1480, .inl tray)), (wh, .inl (cB, 4096, .inl whole)), (hf, .inr (1, [.ref hr, .int (nI sz), .int md])), (hr, .inl (cR, 4, .inr (.inr (.inr (.inr (rowOf M))))))] ++ mks cB cZ M) H := hP
      have hD : va_D A ([(h0, .inr (0, [.ref tr, .int (nI n), .ref hf, .int t, .ref wh, .int wl])), (tr, .inl (cB, 1480, .inl tray)), (wh, .inl (cB, 4096, .inl whole)), (hf, .inr (1, [.ref hr, .int (nI sz), .int md])), (hr, .inl (cR, 4, .inr (.inr (.inr (.inr (rowOf M))))))] ++ mks cB cZ M) := hD
      refine lv_iconst (v := nI 0) hx hb dX0_pass_21 (by decide +kernel) ?_
      refine lv_istore_n (lv' := [(2, .int (nI 0)), (0, .ref h0), (1, .int t)]) hx hb dX0_pass_22 rfl hl (by decide) rfl (fun ls hl => ?_)
      have loop : ∀ (d c9 : Nat) (M9 : Nat → Mk) (H : Heap) (locs : List Loc) (ls : Array Slot), c9 ≤ sz → sz + 1 ≤ c9 + d → (∀ j, j + c9 < sz → M9 j = M (j + c9)) → (∀ j, j < c9 → kSi (M j) + nI 15000 ≤ t) → va_P D vwCl ([(h0, .inr (0, [.ref tr, .int (nI n), .ref hf, .int t, .ref wh, .int wl])), (tr, .inl (cB, 1480, .inl tray)), (wh, .inl (cB, 4096, .inl whole)), (hf, .inr (1, [.ref hr, .int (nI (sz - c9)), .int md])), (hr, .inl (cR, 4, .inr (.inr (.inr (.inr (rowOf M9))))))] ++ mks cB cZ M9) H → va_D A ([(h0, .inr (0, [.ref tr, .int (nI n), .ref hf, .int t, .ref wh, .int wl])), (tr, .inl (cB, 1480, .inl tray)), (wh, .inl (cB, 4096, .inl whole)), (hf, .inr (1, [.ref hr, .int (nI (sz - c9)), .int md])), (hr, .inl (cR, 4, .inr (.inr (.inr (.inr (rowOf M9))))))] ++ mks cB cZ M9) → va_S A s.heap H locs → lv_has ls 3 [(0, .ref h0), (1, .int t), (2, .int (nI c9))] → W p l e R s m args below meth c H locs 0 0 Q (F0 m 23 ls []) := by
        intro d
        induction d with
        | zero => intro c9 M9 H locs ls q1 q2; exact absurd q2 (by omega)
        | succ d ih =>
          intro c9 M9 H locs ls q1 q2 q3 q4 hP hD hS hl
          refine lv_aload_n hx hb dX0_pass_23 rfl (lv_at hl 0 rfl) ?_
          refine va_get (D := D) (ci := 0) (v := .ref hf) (C := RX0) (T := TX0) (N := 6) hx hb hts in_X0 hown hK hP 0 rfl rfl 2 (by decide) (hts _ q84) (fun _ h9 => h9) rfl dX0_pass_24 ?_
          have hP : va_P D vwCl ([(h0, .inr (0, [.ref tr, .int (nI n), .ref hf, .int t, .ref wh, .int wl])), (tr, .inl (cB, 1480, .inl tray)), (wh, .inl (cB, 4096, .inl whole))] ++ frw cB cZ cR hf hr (sz - c9) md M9) _ := hP
          have hD : va_D A ([(h0, .inr (0, [.ref tr, .int (nI n), .ref hf, .int t, .ref wh, .int wl])), (tr, .inl (cB, 1480, .inl tray)), (wh, .inl (cB, 4096, .inl whole))] ++ frw cB cZ cR hf hr (sz - c9) md M9) := hD
          refine call_V (nA := 0) (rest := []) (q := (RX1, TX1, 3)) (ci := 1) (q0 := 0) ([(h0, .inr (0, [.ref tr, .int (nI n), .ref hf, .int t, .ref wh, .int wl])), (tr, .inl (cB, 1480, .inl tray)), (wh, .inl (cB, 4096, .inl whole))]) [] ⟨hx, hb, hml, hown, hts⟩ (m_frDue l D cB cZ cR cI hf hr (sz - c9) md M9 (by omega)) (lw_V q158 q159 q160 q7 q161) (by decide +kernel) rfl (by subst hRm; exact ⟨by decide, by decide⟩) hK hE rfl rfl (wP_perm hP List.perm_append_comm) (wD_perm hD List.perm_append_comm) hS hA hl.1 rfl (Nat.le_of_ble_eq_true rfl) dX0_pass_27 (by subst hRm; exact ⟨by decide, by decide⟩) (fun v u H locs hv hKu hP hD hS => ?_)
          have hP : va_P D vwCl (frw cB cZ cR hf hr (sz - c9) md M9 ++ [(h0, .inr (0, [.ref tr, .int (nI n), .ref hf, .int t, .ref wh, .int wl])), (tr, .inl (cB, 1480, .inl tray)), (wh, .inl (cB, 4096, .inl whole))]) _ := hP
          have hD : va_D A (frw cB cZ cR hf hr (sz - c9) md M9 ++ [(h0, .inr (0, [.ref tr, .int (nI n), .ref hf, .int t, .ref wh, .int wl])), (tr, .inl (cB, 1480, .inl tray)), (wh, .inl (cB, 4096, .inl whole))]) := hD
          have hP := wP_perm hP List.perm_append_comm
          have hD := wD_perm hD List.perm_append_comm
          have hP : va_P D vwCl ([(h0, .inr (0, [.ref tr, .int (nI n), .ref hf, .int t, .ref wh, .int wl])), (tr, .inl (cB, 1480, .inl tray)), (wh, .inl (cB, 4096, .inl whole)), (hf, .inr (1, [.ref hr, .int (nI (sz - c9)), .int md])), (hr, .inl (cR, 4, .inr (.inr (.inr (.inr (rowOf M9))))))] ++ mks cB cZ M9) H := hP
          have hD : va_D A ([(h0, .inr (0, [.ref tr, .int (nI n), .ref hf, .int t, .ref wh, .int wl])), (tr, .inl (cB, 1480, .inl tray)), (wh, .inl (cB, 4096, .inl whole)), (hf, .inr (1, [.ref hr, .int (nI (sz - c9)), .int md])), (hr, .inl (cR, 4, .inr (.inr (.inr (.inr (rowOf M9))))))] ++ mks cB cZ M9) := hD
          rcases hv with ⟨hz, rfl⟩ | ⟨hz, rfl⟩
          · skip
            refine W.eq (g2 := F0 m 30 ls [.int (nI 2147483647)]) rfl ?_
            refine W.cs (cells' := 0) (slots' := 0) rfl rfl ?_
            refine lv_aload_n hx hb dX0_pass_30 rfl (lv_at hl 0 rfl) ?_
            refine va_get (D := D) (ci := 0) (v := .int t) (C := RX0) (T := TX0) (N := 6) hx hb hts in_X0 hown hK hP 0 rfl rfl 3 (by decide) (hts _ q85) (fun _ h9 => h9) rfl dX0_pass_31 ?_
            refine lv_icmp_gt (tgt := 50) hx hb dX0_pass_34 (by decide) (fun c31 => ?_) (fun c31 => ?_)
            · skip
              refine lv_iload_n hx hb dX0_pass_50 rfl (lv_at hl 2 rfl) ?_
              exact ret_i hx hb hrt rfl hlk hQ (Nat.le_refl _) (Nat.le_refl _) (t, c9, M9) (Or.inr ⟨c29, c30, rfl, q1, rfl, q3, q4, fun h => absurd h (by show ¬ c9 < sz; omega)⟩) hK hP hD hS dX0_pass_51
            · skip
              exact absurd (Int32.lt_of_le_of_lt c30 (show nI 2000000000 < nI 2147483647 by decide)) c31
          · skip
            refine W.eq (g2 := F0 m 30 ls [.int (kSi (M9 0) + nI 15000)]) rfl ?_
            refine W.cs (cells' := 0) (slots' := 0) rfl rfl ?_
            have h3 : M9 0 = M c9 := by have := q3 0 (by omega); rwa [Nat.zero_add] at this
            refine lv_aload_n hx hb dX0_pass_30 rfl (lv_at hl 0 rfl) ?_
            refine va_get (D := D) (ci := 0) (v := .int t) (C := RX0) (T := TX0) (N := 6) hx hb hts in_X0 hown hK hP 0 rfl rfl 3 (by decide) (hts _ q85) (fun _ h9 => h9) rfl dX0_pass_31 ?_
            refine lv_icmp_gt (tgt := 50) hx hb dX0_pass_34 (by decide) (fun c32 => ?_) (fun c32 => ?_)
            · skip
              refine lv_iload_n hx hb dX0_pass_50 rfl (lv_at hl 2 rfl) ?_
              exact ret_i hx hb hrt rfl hlk hQ (Nat.le_refl _) (Nat.le_refl _) (t, c9, M9) (Or.inr ⟨c29, c30, rfl, q1, rfl, q3, q4, fun _ h => by rw [← h3] at h; exact absurd h (Int32.not_le.mpr c32)⟩) hK hP hD hS dX0_pass_51
            · skip
              refine lv_aload_n hx hb dX0_pass_37 rfl (lv_at hl 0 rfl) ?_
              refine va_get (D := D) (ci := 0) (v := .ref hf) (C := RX0) (T := TX0) (N := 6) hx hb hts in_X0 hown hK hP 0 rfl rfl 2 (by decide) (hts _ q84) (fun _ h9 => h9) rfl dX0_pass_38 ?_
              have hP : va_P D vwCl ([(h0, .inr (0, [.ref tr, .int (nI n), .ref hf, .int t, .ref wh, .int wl])), (tr, .inl (cB, 1480, .inl tray)), (wh, .inl (cB, 4096, .inl whole))] ++ frw cB cZ cR hf hr (sz - c9) md M9) _ := hP
              have hD : va_D A ([(h0, .inr (0, [.ref tr, .int (nI n), .ref hf, .int t, .ref wh, .int wl])), (tr, .inl (cB, 1480, .inl tray)), (wh, .inl (cB, 4096, .inl whole))] ++ frw cB cZ cR hf hr (sz - c9) md M9) := hD
              refine call_V (nA := 0) (rest := []) (q := (RX1, TX1, 3)) (ci := 1) (q0 := 0) ([(h0, .inr (0, [.ref tr, .int (nI n), .ref hf, .int t, .ref wh, .int wl])), (tr, .inl (cB, 1480, .inl tray)), (wh, .inl (cB, 4096, .inl whole))]) [] ⟨hx, hb, hml, hown, hts⟩ (m_frAct l D cB cZ cR cI hf hr (sz - c9) md M9 hz (by omega)) (lw_V q163 q164 q165 q7 q166) (by decide +kernel) rfl (by subst hRm; exact ⟨by decide, by decide⟩) hK hE rfl rfl (wP_perm hP List.perm_append_comm) (wD_perm hD List.perm_append_comm) hS hA hl.1 rfl (Nat.le_of_ble_eq_true rfl) dX0_pass_41 (by subst hRm; exact ⟨by decide, by decide⟩) (fun v u H locs hv hKu hP hD hS => ?_)
              obtain rfl : v = none := hv
              refine W.eq (g2 := F0 m 44 ls []) rfl ?_
              refine W.cs (cells' := 0) (slots' := 0) rfl rfl ?_
              have hP : va_P D vwCl (frw cB cZ cR hf hr (sz - c9 - 1) md (rotM 0 (sz - c9) M9) ++ [(h0, .inr (0, [.ref tr, .int (nI n), .ref hf, .int t, .ref wh, .int wl])), (tr, .inl (cB, 1480, .inl tray)), (wh, .inl (cB, 4096, .inl whole))]) _ := hP
              have hD : va_D A (frw cB cZ cR hf hr (sz - c9 - 1) md (rotM 0 (sz - c9) M9) ++ [(h0, .inr (0, [.ref tr, .int (nI n), .ref hf, .int t, .ref wh, .int wl])), (tr, .inl (cB, 1480, .inl tray)), (wh, .inl (cB, 4096, .inl whole))]) := hD
              have hP := wP_perm hP List.perm_append_comm
              have hD := wD_perm hD List.perm_append_comm
              have hP : va_P D vwCl ([(h0, .inr (0, [.ref tr, .int (nI n), .ref hf, .int t, .ref wh, .int wl])), (tr, .inl (cB, 1480, .inl tray)), (wh, .inl (cB, 4096, .inl whole)), (hf, .inr (1, [.ref hr, .int (nI (sz - c9 - 1)), .int md])), (hr, .inl (cR, 4, .inr (.inr (.inr (.inr (rowOf (rotM 0 (sz - c9) M9)))))))] ++ mks cB cZ (rotM 0 (sz - c9) M9)) H := hP
              have hD : va_D A ([(h0, .inr (0, [.ref tr, .int (nI n), .ref hf, .int t, .ref wh, .int wl])), (tr, .inl (cB, 1480, .inl tray)), (wh, .inl (cB, 4096, .inl whole)), (hf, .inr (1, [.ref hr, .int (nI (sz - c9 - 1)), .int md])), (hr, .inl (cR, 4, .inr (.inr (.inr (.inr (rowOf (rotM 0 (sz - c9) M9)))))))] ++ mks cB cZ (rotM 0 (sz - c9) M9)) := hD
              rw [show sz - c9 - 1 = sz - (c9 + 1) by omega] at hP hD
              refine lv_iinc (v := nI (c9 + 1)) (lv' := [(2, .int (nI (c9 + 1))), (0, .ref h0), (1, .int t)]) hx hb dX0_pass_44 hl (k := 2) rfl (nI_inc1 _) (by decide) rfl (fun ls hl => ?_)
              refine lv_goto (tgt := 23) hx hb dX0_pass_47 (by decide) ?_
              exact ih (c9 + 1) _ H locs ls (by omega) (by omega) (fun j hj => by show M9 (rotI 0 (sz - c9) j) = _; unfold rotI; rw [if_pos (by omega), q3 (j + 1) (by omega)]; congr 1; omega) (lt_s q4 (by rw [← h3]; exact Int32.not_lt.mp c32)) hP hD hS (lv_sub hl [1, 2, 0] rfl)
      exact loop (sz + 1) 0 M _ _ ls (by omega) (by omega) (fun j _ => rfl) (fun j h => absurd h (by omega)) hP hD hS (lv_sub hl [1, 2, 0] rfl)
    · skip
      exact k14 (Or.inr (Int32.not_le.mp c30))
end
section
/-! FragmentHouseModel: its constructor, word, feed, end, made, length, at, making, pass -/
set_option maxHeartbeats 4000000 in
set_option maxRecDepth 100000 in
/-- FragmentHouseModel() -/
theorem m_mInit (l : Launch) (D : va_G) (a : Nat) : MM l yX3_init cX3_init 1 none { frames := 1, cells := 9, slots := 21984, locals := 12 } D [] [.ref a] [(a, .inr (3, [.null, .int 0, .null, .null, .null, .null, .null, .null, .null, .null, .int 0, .int 0, .int 0]))] (S := ((Nat → Nat) × ClassId × ClassId × ClassId)) (fun r u => r = none) (fun u => [(u.2.1, .byte), (u.2.2.2, .int), (u.2.2.1, .boolean)]) (fun u => mw u.2.1 u.2.2.1 u.2.2.2 a (u.1 1) (u.1 2) (u.1 3) (u.1 4) (u.1 5) (u.1 6) (u.1 7) (u.1 8) (u.1 9) 0 (fun _ => 0) (fun _ => 0) (fun _ => 0) (fun _ => 0) (fun _ => 0) (fun _ => 0) (fun _ => 0) (fun _ => 0) (fun _ => 0) (-1) 0 0) := by
  refine MM_of (by decide) (Nat.le_of_ble_eq_true rfl) ?_
  intro p e s m below meth c A ls R Q args hRm hQ hx hb hr hlk hml hown hts hin hK hE hA hP hD hS hl
  have hown : s.vm.findClass "FragmentHouseModel" = some m.cls := hown
  have hin : meth.name = "<init>" := hin
  replace hl : lv_has ls 1 [(0, .ref a)] := hl
  replace hP : va_P D vwCl [(a, .inr (3, [.null, .int 0, .null, .null, .null, .null, .null, .null, .null, .null, .int 0, .int 0, .int 0]))] s.heap := hP
  replace hD : va_D A [(a, .inr (3, [.null, .int 0, .null, .null, .null, .null, .null, .null, .null, .null, .int 0, .int 0, .int 0]))] := hD
  refine lv_aload_n hx hb dX3_init_0 rfl (lv_at hl 0 rfl) ?_
  refine W.objInit hx hb hown (hts _ q188) (hts _ q18) (hts _ q19) rfl (by rw [hml]; exact hl.1) rfl dX3_init_1 (by subst hRm; decide) (by subst hRm; exact Nat.le_of_ble_eq_true rfl) ?_
  refine W.eq (g2 := F0 m 4 ls []) rfl ?_
  refine lv_aload_n hx hb dX3_init_4 rfl (lv_at hl 0 rfl) ?_
  refine lv_sipush (v := nI 1480) hx hb dX3_init_5 (by decide +kernel) ?_
  refine va_newa (atype := .byte) (ty := .byte) (a0 := (1480, .inl (fun _ => 0))) (N' := 1480) hx hb (hts _ q64) rfl hK hP hD hS hA (fun _ => rfl) (nI_pos (by decide)) (nI_clamp (by decide)) (by decide) (by subst hRm; decide) (by subst hRm; decide) dX3_init_8 (fun m1 cB H hK hP hD hS => ?_)
  refine W.cs (cells' := 1) (slots' := 1480) rfl rfl ?_
  have hP : va_P D vwCl [(a, .inr (3, [.null, .int 0, .null, .null, .null, .null, .null, .null, .null, .null, .int 0, .int 0, .int 0])), (m1, .inl (cB, 1480, .inl (fun _ => 0)))] H := hP
  have hD : va_D A [(a, .inr (3, [.null, .int 0, .null, .null, .null, .null, .null, .null, .null, .null, .int 0, .int 0, .int 0])), (m1, .inl (cB, 1480, .inl (fun _ => 0)))] := hD
  have hK : va_K D vwCl [(cB, .byte)] s := hK.sub [0] rfl
  refine va_putF (D := D) (ci := 3) (v := .ref m1) (ty := .array .byte) (C := RX3) (T := TX3) (N := 13) hx hb hts in_X3 tyX3 tyX3_ok nmX3 hown hK hP hD hS 0 rfl rfl 0 (by decide) (hts _ q189) (fun _ h9 => h9) rfl hin rfl (by decide +kernel) rfl rfl (Nat.le_of_ble_eq_true rfl) dX3_init_10 (fun H locs hP hD hS => ?_)
  have hP : va_P D vwCl [(a, .inr (3, [.ref m1, .int 0, .null, .null, .null, .null, .null, .null, .null, .null, .int 0, .int 0, .int 0])), (m1, .inl (cB, 1480, .inl (fun _ => 0)))] H := hP
  have hD : va_D A [(a, .inr (3, [.ref m1, .int 0, .null, .null, .null, .null, .null, .null, .null, .null, .int 0, .int 0, .int 0])), (m1, .inl (cB, 1480, .inl (fun _ => 0)))] := hD
  refine lv_aload_n hx hb dX3_init_13 rfl (lv_at hl 0 rfl) ?_
  refine lv_iconst (v := nI 4) hx hb dX3_init_14 (by decide +kernel) ?_
  refine va_newa (atype := .int) (ty := .int) (a0 := (4, .inl (fun _ => 0))) (N' := 4) hx hb (hts _ q229) rfl hK hP hD hS hA (fun _ => rfl) (nI_pos (by decide)) (nI_clamp (by decide)) (by decide) (by subst hRm; decide) (by subst hRm; decide) dX3_init_15 (fun m2 cI H hK hP hD hS => ?_)
  refine W.cs (cells' := 2) (slots' := 1484) rfl rfl ?_
  have hP : va_P D vwCl [(a, .inr (3, [.ref m1, .int 0, .null, .null, .null, .null, .null, .null, .null, .null, .int 0, .int 0, .int 0])), (m1, .inl (cB, 1480, .inl (fun _ => 0))), (m2, .inl (cI, 4, .inl (fun _ => 0)))] H := hP
  have hD : va_D A [(a, .inr (3, [.ref m1, .int 0, .null, .null, .null, .null, .null, .null, .null, .null, .int 0, .int 0, .int 0])), (m1, .inl (cB, 1480, .inl (fun _ => 0))), (m2, .inl (cI, 4, .inl (fun _ => 0)))] := hD
  have hK : va_K D vwCl [(cB, .byte), (cI, .int)] s := hK.sub [0, 1] rfl
  refine va_putF (D := D) (ci := 3) (v := .ref m2) (ty := .array .int) (C := RX3) (T := TX3) (N := 13) hx hb hts in_X3 tyX3 tyX3_ok nmX3 hown hK hP hD hS 0 rfl rfl 2 (by decide) (hts _ q191) (fun _ h9 => h9) rfl hin rfl (by decide +kernel) rfl rfl (Nat.le_of_ble_eq_true rfl) dX3_init_17 (fun H locs hP hD hS => ?_)
  have hP : va_P D vwCl [(a, .inr (3, [.ref m1, .int 0, .ref m2, .null, .null, .null, .null, .null, .null, .null, .int 0, .int 0, .int 0])), (m1, .inl (cB, 1480, .inl (fun _ => 0))), (m2, .inl (cI, 4, .inl (fun _ => 0)))] H := hP
  have hD : va_D A [(a, .inr (3, [.ref m1, .int 0, .ref m2, .null, .null, .null, .null, .null, .null, .null, .int 0, .int 0, .int 0])), (m1, .inl (cB, 1480, .inl (fun _ => 0))), (m2, .inl (cI, 4, .inl (fun _ => 0)))] := hD
  refine lv_aload_n hx hb dX3_init_20 rfl (lv_at hl 0 rfl) ?_
  refine lv_iconst (v := nI 4) hx hb dX3_init_21 (by decide +kernel) ?_
  refine va_newa (atype := .int) (ty := .int) (a0 := (4, .inl (fun _ => 0))) (N' := 4) hx hb (hts _ q229) rfl hK hP hD hS hA (fun _ => rfl) (nI_pos (by decide)) (nI_clamp (by decide)) (by decide) (by subst hRm; decide) (by subst hRm; decide) dX3_init_22 (fun m3 cJ2 H hK hP hD hS => ?_)
  refine W.cs (cells' := 3) (slots' := 1488) rfl rfl ?_
  have hP : va_P D vwCl [(a, .inr (3, [.ref m1, .int 0, .ref m2, .null, .null, .null, .null, .null, .null, .null, .int 0, .int 0, .int 0])), (m1, .inl (cB, 1480, .inl (fun _ => 0))), (m2, .inl (cI, 4, .inl (fun _ => 0))), (m3, .inl (cJ2, 4, .inl (fun _ => 0)))] H := hP
  have hD : va_D A [(a, .inr (3, [.ref m1, .int 0, .ref m2, .null, .null, .null, .null, .null, .null, .null, .int 0, .int 0, .int 0])), (m1, .inl (cB, 1480, .inl (fun _ => 0))), (m2, .inl (cI, 4, .inl (fun _ => 0))), (m3, .inl (cJ2, 4, .inl (fun _ => 0)))] := hD
  obtain rfl : cJ2 = cI := K_u hK hK 1 2 rfl rfl
  have hK : va_K D vwCl [(cB, .byte), (cJ2, .int)] s := hK.sub [0, 1] rfl
  refine va_putF (D := D) (ci := 3) (v := .ref m3) (ty := .array .int) (C := RX3) (T := TX3) (N := 13) hx hb hts in_X3 tyX3 tyX3_ok nmX3 hown hK hP hD hS 0 rfl rfl 3 (by decide) (hts _ q192) (fun _ h9 => h9) rfl hin rfl (by decide +kernel) rfl rfl (Nat.le_of_ble_eq_true rfl) dX3_init_24 (fun H locs hP hD hS => ?_)
  have hP : va_P D vwCl [(a, .inr (3, [.ref m1, .int 0, .ref m2, .ref m3, .null, .null, .null, .null, .null, .null, .int 0, .int 0, .int 0])), (m1, .inl (cB, 1480, .inl (fun _ => 0))), (m2, .inl (cJ2, 4, .inl (fun _ => 0))), (m3, .inl (cJ2, 4, .inl (fun _ => 0)))] H := hP
  have hD : va_D A [(a, .inr (3, [.ref m1, .int 0, .ref m2, .ref m3, .null, .null, .null, .null, .null, .null, .int 0, .int 0, .int 0])), (m1, .inl (cB, 1480, .inl (fun _ => 0))), (m2, .inl (cJ2, 4, .inl (fun _ => 0))), (m3, .inl (cJ2, 4, .inl (fun _ => 0)))] := hD
  refine lv_aload_n hx hb dX3_init_27 rfl (lv_at hl 0 rfl) ?_
  refine lv_iconst (v := nI 4) hx hb dX3_init_28 (by decide +kernel) ?_
  refine va_newa (atype := .int) (ty := .int) (a0 := (4, .inl (fun _ => 0))) (N' := 4) hx hb (hts _ q229) rfl hK hP hD hS hA (fun _ => rfl) (nI_pos (by decide)) (nI_clamp (by decide)) (by decide) (by subst hRm; decide) (by subst hRm; decide) dX3_init_29 (fun m4 cJ3 H hK hP hD hS => ?_)
  refine W.cs (cells' := 4) (slots' := 1492) rfl rfl ?_
  have hP : va_P D vwCl [(a, .inr (3, [.ref m1, .int 0, .ref m2, .ref m3, .null, .null, .null, .null, .null, .null, .int 0, .int 0, .int 0])), (m1, .inl (cB, 1480, .inl (fun _ => 0))), (m2, .inl (cJ2, 4, .inl (fun _ => 0))), (m3, .inl (cJ2, 4, .inl (fun _ => 0))), (m4, .inl (cJ3, 4, .inl (fun _ => 0)))] H := hP
  have hD : va_D A [(a, .inr (3, [.ref m1, .int 0, .ref m2, .ref m3, .null, .null, .null, .null, .null, .null, .int 0, .int 0, .int 0])), (m1, .inl (cB, 1480, .inl (fun _ => 0))), (m2, .inl (cJ2, 4, .inl (fun _ => 0))), (m3, .inl (cJ2, 4, .inl (fun _ => 0))), (m4, .inl (cJ3, 4, .inl (fun _ => 0)))] := hD
  obtain rfl : cJ3 = cJ2 := K_u hK hK 1 2 rfl rfl
  have hK : va_K D vwCl [(cB, .byte), (cJ3, .int)] s := hK.sub [0, 1] rfl
  refine va_putF (D := D) (ci := 3) (v := .ref m4) (ty := .array .int) (C := RX3) (T := TX3) (N := 13) hx hb hts in_X3 tyX3 tyX3_ok nmX3 hown hK hP hD hS 0 rfl rfl 4 (by decide) (hts _ q193) (fun _ h9 => h9) rfl hin rfl (by decide +kernel) rfl rfl (Nat.le_of_ble_eq_true rfl) dX3_init_31 (fun H locs hP hD hS => ?_)
  have hP : va_P D vwCl [(a, .inr (3, [.ref m1, .int 0, .ref m2, .ref m3, .ref m4, .null, .null, .null, .null, .null, .int 0, .int 0, .int 0])), (m1, .inl (cB, 1480, .inl (fun _ => 0))), (m2, .inl (cJ3, 4, .inl (fun _ => 0))), (m3, .inl (cJ3, 4, .inl (fun _ => 0))), (m4, .inl (cJ3, 4, .inl (fun _ => 0)))] H := hP
  have hD : va_D A [(a, .inr (3, [.ref m1, .int 0, .ref m2, .ref m3, .ref m4, .null, .null, .null, .null, .null, .int 0, .int 0, .int 0])), (m1, .inl (cB, 1480, .inl (fun _ => 0))), (m2, .inl (cJ3, 4, .inl (fun _ => 0))), (m3, .inl (cJ3, 4, .inl (fun _ => 0))), (m4, .inl (cJ3, 4, .inl (fun _ => 0)))] := hD
  refine lv_aload_n hx hb dX3_init_34 rfl (lv_at hl 0 rfl) ?_
  refine lv_iconst (v := nI 4) hx hb dX3_init_35 (by decide +kernel) ?_
  refine va_newa (atype := .int) (ty := .int) (a0 := (4, .inl (fun _ => 0))) (N' := 4) hx hb (hts _ q229) rfl hK hP hD hS hA (fun _ => rfl) (nI_pos (by decide)) (nI_clamp (by decide)) (by decide) (by subst hRm; decide) (by subst hRm; decide) dX3_init_36 (fun m5 cJ4 H hK hP hD hS => ?_)
  refine W.cs (cells' := 5) (slots' := 1496) rfl rfl ?_
  have hP : va_P D vwCl [(a, .inr (3, [.ref m1, .int 0, .ref m2, .ref m3, .ref m4, .null, .null, .null, .null, .null, .int 0, .int 0, .int 0])), (m1, .inl (cB, 1480, .inl (fun _ => 0))), (m2, .inl (cJ3, 4, .inl (fun _ => 0))), (m3, .inl (cJ3, 4, .inl (fun _ => 0))), (m4, .inl (cJ3, 4, .inl (fun _ => 0))), (m5, .inl (cJ4, 4, .inl (fun _ => 0)))] H := hP
  have hD : va_D A [(a, .inr (3, [.ref m1, .int 0, .ref m2, .ref m3, .ref m4, .null, .null, .null, .null, .null, .int 0, .int 0, .int 0])), (m1, .inl (cB, 1480, .inl (fun _ => 0))), (m2, .inl (cJ3, 4, .inl (fun _ => 0))), (m3, .inl (cJ3, 4, .inl (fun _ => 0))), (m4, .inl (cJ3, 4, .inl (fun _ => 0))), (m5, .inl (cJ4, 4, .inl (fun _ => 0)))] := hD
  obtain rfl : cJ4 = cJ3 := K_u hK hK 1 2 rfl rfl
  have hK : va_K D vwCl [(cB, .byte), (cJ4, .int)] s := hK.sub [0, 1] rfl
  refine va_putF (D := D) (ci := 3) (v := .ref m5) (ty := .array .int) (C := RX3) (T := TX3) (N := 13) hx hb hts in_X3 tyX3 tyX3_ok nmX3 hown hK hP hD hS 0 rfl rfl 5 (by decide) (hts _ q194) (fun _ h9 => h9) rfl hin rfl (by decide +kernel) rfl rfl (Nat.le_of_ble_eq_true rfl) dX3_init_38 (fun H locs hP hD hS => ?_)
  have hP : va_P D vwCl [(a, .inr (3, [.ref m1, .int 0, .ref m2, .ref m3, .ref m4, .ref m5, .null, .null, .null, .null, .int 0, .int 0, .int 0])), (m1, .inl (cB, 1480, .inl (fun _ => 0))), (m2, .inl (cJ4, 4, .inl (fun _ => 0))), (m3, .inl (cJ4, 4, .inl (fun _ => 0))), (m4, .inl (cJ4, 4, .inl (fun _ => 0))), (m5, .inl (cJ4, 4, .inl (fun _ => 0)))] H := hP
  have hD : va_D A [(a, .inr (3, [.ref m1, .int 0, .ref m2, .ref m3, .ref m4, .ref m5, .null, .null, .null, .null, .int 0, .int 0, .int 0])), (m1, .inl (cB, 1480, .inl (fun _ => 0))), (m2, .inl (cJ4, 4, .inl (fun _ => 0))), (m3, .inl (cJ4, 4, .inl (fun _ => 0))), (m4, .inl (cJ4, 4, .inl (fun _ => 0))), (m5, .inl (cJ4, 4, .inl (fun _ => 0)))] := hD
  refine lv_aload_n hx hb dX3_init_41 rfl (lv_at hl 0 rfl) ?_
  refine lv_iconst (v := nI 4) hx hb dX3_init_42 (by decide +kernel) ?_
  refine va_newa (atype := .int) (ty := .int) (a0 := (4, .inl (fun _ => 0))) (N' := 4) hx hb (hts _ q229) rfl hK hP hD hS hA (fun _ => rfl) (nI_pos (by decide)) (nI_clamp (by decide)) (by decide) (by subst hRm; decide) (by subst hRm; decide) dX3_init_43 (fun m6 cJ5 H hK hP hD hS => ?_)
  refine W.cs (cells' := 6) (slots' := 1500) rfl rfl ?_
  have hP : va_P D vwCl [(a, .inr (3, [.ref m1, .int 0, .ref m2, .ref m3, .ref m4, .ref m5, .null, .null, .null, .null, .int 0, .int 0, .int 0])), (m1, .inl (cB, 1480, .inl (fun _ => 0))), (m2, .inl (cJ4, 4, .inl (fun _ => 0))), (m3, .inl (cJ4, 4, .inl (fun _ => 0))), (m4, .inl (cJ4, 4, .inl (fun _ => 0))), (m5, .inl (cJ4, 4, .inl (fun _ => 0))), (m6, .inl (cJ5, 4, .inl (fun _ => 0)))] H := hP
  have hD : va_D A [(a, .inr (3, [.ref m1, .int 0, .ref m2, .ref m3, .ref m4, .ref m5, .null, .null, .null, .null, .int 0, .int 0, .int 0])), (m1, .inl (cB, 1480, .inl (fun _ => 0))), (m2, .inl (cJ4, 4, .inl (fun _ => 0))), (m3, .inl (cJ4, 4, .inl (fun _ => 0))), (m4, .inl (cJ4, 4, .inl (fun _ => 0))), (m5, .inl (cJ4, 4, .inl (fun _ => 0))), (m6, .inl (cJ5, 4, .inl (fun _ => 0)))] := hD
  obtain rfl : cJ5 = cJ4 := K_u hK hK 1 2 rfl rfl
  have hK : va_K D vwCl [(cB, .byte), (cJ5, .int)] s := hK.sub [0, 1] rfl
  refine va_putF (D := D) (ci := 3) (v := .ref m6) (ty := .array .int) (C := RX3) (T := TX3) (N := 13) hx hb hts in_X3 tyX3 tyX3_ok nmX3 hown hK hP hD hS 0 rfl rfl 6 (by decide) (hts _ q195) (fun _ h9 => h9) rfl hin rfl (by decide +kernel) rfl rfl (Nat.le_of_ble_eq_true rfl) dX3_init_45 (fun H locs hP hD hS => ?_)
  have hP : va_P D vwCl [(a, .inr (3, [.ref m1, .int 0, .ref m2, .ref m3, .ref m4, .ref m5, .ref m6, .null, .null, .null, .int 0, .int 0, .int 0])), (m1, .inl (cB, 1480, .inl (fun _ => 0))), (m2, .inl (cJ5, 4, .inl (fun _ => 0))), (m3, .inl (cJ5, 4, .inl (fun _ => 0))), (m4, .inl (cJ5, 4, .inl (fun _ => 0))), (m5, .inl (cJ5, 4, .inl (fun _ => 0))), (m6, .inl (cJ5, 4, .inl (fun _ => 0)))] H := hP
  have hD : va_D A [(a, .inr (3, [.ref m1, .int 0, .ref m2, .ref m3, .ref m4, .ref m5, .ref m6, .null, .null, .null, .int 0, .int 0, .int 0])), (m1, .inl (cB, 1480, .inl (fun _ => 0))), (m2, .inl (cJ5, 4, .inl (fun _ => 0))), (m3, .inl (cJ5, 4, .inl (fun _ => 0))), (m4, .inl (cJ5, 4, .inl (fun _ => 0))), (m5, .inl (cJ5, 4, .inl (fun _ => 0))), (m6, .inl (cJ5, 4, .inl (fun _ => 0)))] := hD
  refine lv_aload_n hx hb dX3_init_48 rfl (lv_at hl 0 rfl) ?_
  refine lv_iconst (v := nI 4) hx hb dX3_init_49 (by decide +kernel) ?_
  refine va_newa (atype := .boolean) (ty := .boolean) (a0 := (4, .inl (fun _ => 0))) (N' := 4) hx hb (hts _ q65) rfl hK hP hD hS hA (fun _ => rfl) (nI_pos (by decide)) (nI_clamp (by decide)) (by decide) (by subst hRm; decide) (by subst hRm; decide) dX3_init_50 (fun m7 cZ H hK hP hD hS => ?_)
  refine W.cs (cells' := 7) (slots' := 1504) rfl rfl ?_
  have hP : va_P D vwCl [(a, .inr (3, [.ref m1, .int 0, .ref m2, .ref m3, .ref m4, .ref m5, .ref m6, .null, .null, .null, .int 0, .int 0, .int 0])), (m1, .inl (cB, 1480, .inl (fun _ => 0))), (m2, .inl (cJ5, 4, .inl (fun _ => 0))), (m3, .inl (cJ5, 4, .inl (fun _ => 0))), (m4, .inl (cJ5, 4, .inl (fun _ => 0))), (m5, .inl (cJ5, 4, .inl (fun _ => 0))), (m6, .inl (cJ5, 4, .inl (fun _ => 0))), (m7, .inl (cZ, 4, .inl (fun _ => 0)))] H := hP
  have hD : va_D A [(a, .inr (3, [.ref m1, .int 0, .ref m2, .ref m3, .ref m4, .ref m5, .ref m6, .null, .null, .null, .int 0, .int 0, .int 0])), (m1, .inl (cB, 1480, .inl (fun _ => 0))), (m2, .inl (cJ5, 4, .inl (fun _ => 0))), (m3, .inl (cJ5, 4, .inl (fun _ => 0))), (m4, .inl (cJ5, 4, .inl (fun _ => 0))), (m5, .inl (cJ5, 4, .inl (fun _ => 0))), (m6, .inl (cJ5, 4, .inl (fun _ => 0))), (m7, .inl (cZ, 4, .inl (fun _ => 0)))] := hD
  have hK : va_K D vwCl [(cB, .byte), (cJ5, .int), (cZ, .boolean)] s := hK.sub [0, 1, 2] rfl
  refine va_putF (D := D) (ci := 3) (v := .ref m7) (ty := .array .boolean) (C := RX3) (T := TX3) (N := 13) hx hb hts in_X3 tyX3 tyX3_ok nmX3 hown hK hP hD hS 0 rfl rfl 7 (by decide) (hts _ q196) (fun _ h9 => h9) rfl hin rfl (by decide +kernel) rfl rfl (Nat.le_of_ble_eq_true rfl) dX3_init_52 (fun H locs hP hD hS => ?_)
  have hP : va_P D vwCl [(a, .inr (3, [.ref m1, .int 0, .ref m2, .ref m3, .ref m4, .ref m5, .ref m6, .ref m7, .null, .null, .int 0, .int 0, .int 0])), (m1, .inl (cB, 1480, .inl (fun _ => 0))), (m2, .inl (cJ5, 4, .inl (fun _ => 0))), (m3, .inl (cJ5, 4, .inl (fun _ => 0))), (m4, .inl (cJ5, 4, .inl (fun _ => 0))), (m5, .inl (cJ5, 4, .inl (fun _ => 0))), (m6, .inl (cJ5, 4, .inl (fun _ => 0))), (m7, .inl (cZ, 4, .inl (fun _ => 0)))] H := hP
  have hD : va_D A [(a, .inr (3, [.ref m1, .int 0, .ref m2, .ref m3, .ref m4, .ref m5, .ref m6, .ref m7, .null, .null, .int 0, .int 0, .int 0])), (m1, .inl (cB, 1480, .inl (fun _ => 0))), (m2, .inl (cJ5, 4, .inl (fun _ => 0))), (m3, .inl (cJ5, 4, .inl (fun _ => 0))), (m4, .inl (cJ5, 4, .inl (fun _ => 0))), (m5, .inl (cJ5, 4, .inl (fun _ => 0))), (m6, .inl (cJ5, 4, .inl (fun _ => 0))), (m7, .inl (cZ, 4, .inl (fun _ => 0)))] := hD
  refine lv_aload_n hx hb dX3_init_55 rfl (lv_at hl 0 rfl) ?_
  refine lv_sipush (v := nI 16384) hx hb dX3_init_56 (by decide +kernel) ?_
  refine va_newa (atype := .int) (ty := .int) (a0 := (16384, .inl (fun _ => 0))) (N' := 16384) hx hb (hts _ q229) rfl hK hP hD hS hA (fun _ => rfl) (nI_pos (by decide)) (nI_clamp (by decide)) (by decide) (by subst hRm; decide) (by subst hRm; decide) dX3_init_59 (fun m8 cJ7 H hK hP hD hS => ?_)
  refine W.cs (cells' := 8) (slots' := 17888) rfl rfl ?_
  have hP : va_P D vwCl [(a, .inr (3, [.ref m1, .int 0, .ref m2, .ref m3, .ref m4, .ref m5, .ref m6, .ref m7, .null, .null, .int 0, .int 0, .int 0])), (m1, .inl (cB, 1480, .inl (fun _ => 0))), (m2, .inl (cJ5, 4, .inl (fun _ => 0))), (m3, .inl (cJ5, 4, .inl (fun _ => 0))), (m4, .inl (cJ5, 4, .inl (fun _ => 0))), (m5, .inl (cJ5, 4, .inl (fun _ => 0))), (m6, .inl (cJ5, 4, .inl (fun _ => 0))), (m7, .inl (cZ, 4, .inl (fun _ => 0))), (m8, .inl (cJ7, 16384, .inl (fun _ => 0)))] H := hP
  have hD : va_D A [(a, .inr (3, [.ref m1, .int 0, .ref m2, .ref m3, .ref m4, .ref m5, .ref m6, .ref m7, .null, .null, .int 0, .int 0, .int 0])), (m1, .inl (cB, 1480, .inl (fun _ => 0))), (m2, .inl (cJ5, 4, .inl (fun _ => 0))), (m3, .inl (cJ5, 4, .inl (fun _ => 0))), (m4, .inl (cJ5, 4, .inl (fun _ => 0))), (m5, .inl (cJ5, 4, .inl (fun _ => 0))), (m6, .inl (cJ5, 4, .inl (fun _ => 0))), (m7, .inl (cZ, 4, .inl (fun _ => 0))), (m8, .inl (cJ7, 16384, .inl (fun _ => 0)))] := hD
  obtain rfl : cJ7 = cJ5 := K_u hK hK 1 3 rfl rfl
  have hK : va_K D vwCl [(cB, .byte), (cJ7, .int), (cZ, .boolean)] s := hK.sub [0, 1, 2] rfl
  refine va_putF (D := D) (ci := 3) (v := .ref m8) (ty := .array .int) (C := RX3) (T := TX3) (N := 13) hx hb hts in_X3 tyX3 tyX3_ok nmX3 hown hK hP hD hS 0 rfl rfl 8 (by decide) (hts _ q197) (fun _ h9 => h9) rfl hin rfl (by decide +kernel) rfl rfl (Nat.le_of_ble_eq_true rfl) dX3_init_61 (fun H locs hP hD hS => ?_)
  have hP : va_P D vwCl [(a, .inr (3, [.ref m1, .int 0, .ref m2, .ref m3, .ref m4, .ref m5, .ref m6, .ref m7, .ref m8, .null, .int 0, .int 0, .int 0])), (m1, .inl (cB, 1480, .inl (fun _ => 0))), (m2, .inl (cJ7, 4, .inl (fun _ => 0))), (m3, .inl (cJ7, 4, .inl (fun _ => 0))), (m4, .inl (cJ7, 4, .inl (fun _ => 0))), (m5, .inl (cJ7, 4, .inl (fun _ => 0))), (m6, .inl (cJ7, 4, .inl (fun _ => 0))), (m7, .inl (cZ, 4, .inl (fun _ => 0))), (m8, .inl (cJ7, 16384, .inl (fun _ => 0)))] H := hP
  have hD : va_D A [(a, .inr (3, [.ref m1, .int 0, .ref m2, .ref m3, .ref m4, .ref m5, .ref m6, .ref m7, .ref m8, .null, .int 0, .int 0, .int 0])), (m1, .inl (cB, 1480, .inl (fun _ => 0))), (m2, .inl (cJ7, 4, .inl (fun _ => 0))), (m3, .inl (cJ7, 4, .inl (fun _ => 0))), (m4, .inl (cJ7, 4, .inl (fun _ => 0))), (m5, .inl (cJ7, 4, .inl (fun _ => 0))), (m6, .inl (cJ7, 4, .inl (fun _ => 0))), (m7, .inl (cZ, 4, .inl (fun _ => 0))), (m8, .inl (cJ7, 16384, .inl (fun _ => 0)))] := hD
  refine lv_aload_n hx hb dX3_init_64 rfl (lv_at hl 0 rfl) ?_
  refine lv_sipush (v := nI 4096) hx hb dX3_init_65 (by decide +kernel) ?_
  refine va_newa (atype := .int) (ty := .int) (a0 := (4096, .inl (fun _ => 0))) (N' := 4096) hx hb (hts _ q229) rfl hK hP hD hS hA (fun _ => rfl) (nI_pos (by decide)) (nI_clamp (by decide)) (by decide) (by subst hRm; decide) (by subst hRm; decide) dX3_init_68 (fun m9 cJ8 H hK hP hD hS => ?_)
  refine W.cs (cells' := 9) (slots' := 21984) rfl rfl ?_
  have hP : va_P D vwCl [(a, .inr (3, [.ref m1, .int 0, .ref m2, .ref m3, .ref m4, .ref m5, .ref m6, .ref m7, .ref m8, .null, .int 0, .int 0, .int 0])), (m1, .inl (cB, 1480, .inl (fun _ => 0))), (m2, .inl (cJ7, 4, .inl (fun _ => 0))), (m3, .inl (cJ7, 4, .inl (fun _ => 0))), (m4, .inl (cJ7, 4, .inl (fun _ => 0))), (m5, .inl (cJ7, 4, .inl (fun _ => 0))), (m6, .inl (cJ7, 4, .inl (fun _ => 0))), (m7, .inl (cZ, 4, .inl (fun _ => 0))), (m8, .inl (cJ7, 16384, .inl (fun _ => 0))), (m9, .inl (cJ8, 4096, .inl (fun _ => 0)))] H := hP
  have hD : va_D A [(a, .inr (3, [.ref m1, .int 0, .ref m2, .ref m3, .ref m4, .ref m5, .ref m6, .ref m7, .ref m8, .null, .int 0, .int 0, .int 0])), (m1, .inl (cB, 1480, .inl (fun _ => 0))), (m2, .inl (cJ7, 4, .inl (fun _ => 0))), (m3, .inl (cJ7, 4, .inl (fun _ => 0))), (m4, .inl (cJ7, 4, .inl (fun _ => 0))), (m5, .inl (cJ7, 4, .inl (fun _ => 0))), (m6, .inl (cJ7, 4, .inl (fun _ => 0))), (m7, .inl (cZ, 4, .inl (fun _ => 0))), (m8, .inl (cJ7, 16384, .inl (fun _ => 0))), (m9, .inl (cJ8, 4096, .inl (fun _ => 0)))] := hD
  obtain rfl : cJ8 = cJ7 := K_u hK hK 1 3 rfl rfl
  have hK : va_K D vwCl [(cB, .byte), (cJ8, .int), (cZ, .boolean)] s := hK.sub [0, 1, 2] rfl
  refine va_putF (D := D) (ci := 3) (v := .ref m9) (ty := .array .int) (C := RX3) (T := TX3) (N := 13) hx hb hts in_X3 tyX3 tyX3_ok nmX3 hown hK hP hD hS 0 rfl rfl 9 (by decide) (hts _ q198) (fun _ h9 => h9) rfl hin rfl (by decide +kernel) rfl rfl (Nat.le_of_ble_eq_true rfl) dX3_init_70 (fun H locs hP hD hS => ?_)
  have hP : va_P D vwCl [(a, .inr (3, [.ref m1, .int 0, .ref m2, .ref m3, .ref m4, .ref m5, .ref m6, .ref m7, .ref m8, .ref m9, .int 0, .int 0, .int 0])), (m1, .inl (cB, 1480, .inl (fun _ => 0))), (m2, .inl (cJ8, 4, .inl (fun _ => 0))), (m3, .inl (cJ8, 4, .inl (fun _ => 0))), (m4, .inl (cJ8, 4, .inl (fun _ => 0))), (m5, .inl (cJ8, 4, .inl (fun _ => 0))), (m6, .inl (cJ8, 4, .inl (fun _ => 0))), (m7, .inl (cZ, 4, .inl (fun _ => 0))), (m8, .inl (cJ8, 16384, .inl (fun _ => 0))), (m9, .inl (cJ8, 4096, .inl (fun _ => 0)))] H := hP
  have hD : va_D A [(a, .inr (3, [.ref m1, .int 0, .ref m2, .ref m3, .ref m4, .ref m5, .ref m6, .ref m7, .ref m8, .ref m9, .int 0, .int 0, .int 0])), (m1, .inl (cB, 1480, .inl (fun _ => 0))), (m2, .inl (cJ8, 4, .inl (fun _ => 0))), (m3, .inl (cJ8, 4, .inl (fun _ => 0))), (m4, .inl (cJ8, 4, .inl (fun _ => 0))), (m5, .inl (cJ8, 4, .inl (fun _ => 0))), (m6, .inl (cJ8, 4, .inl (fun _ => 0))), (m7, .inl (cZ, 4, .inl (fun _ => 0))), (m8, .inl (cJ8, 16384, .inl (fun _ => 0))), (m9, .inl (cJ8, 4096, .inl (fun _ => 0)))] := hD
  refine lv_aload_n hx hb dX3_init_73 rfl (lv_at hl 0 rfl) ?_
  refine lv_iconst (v := (-1)) hx hb dX3_init_74 (by decide +kernel) ?_
  refine va_put (D := D) (ci := 3) (v := .int (-1)) (ty := .int) (C := RX3) (T := TX3) (N := 13) hx hb hts in_X3 tyX3 tyX3_ok nmX3 hown hK hP hD hS 0 rfl rfl 10 (by decide) (hts _ q199) (fun _ h9 => h9) rfl (by decide +kernel) rfl rfl (Nat.le_of_ble_eq_true rfl) dX3_init_75 (fun H locs hP hD hS => ?_)
  have hP : va_P D vwCl [(a, .inr (3, [.ref m1, .int 0, .ref m2, .ref m3, .ref m4, .ref m5, .ref m6, .ref m7, .ref m8, .ref m9, .int (-1), .int 0, .int 0])), (m1, .inl (cB, 1480, .inl (fun _ => 0))), (m2, .inl (cJ8, 4, .inl (fun _ => 0))), (m3, .inl (cJ8, 4, .inl (fun _ => 0))), (m4, .inl (cJ8, 4, .inl (fun _ => 0))), (m5, .inl (cJ8, 4, .inl (fun _ => 0))), (m6, .inl (cJ8, 4, .inl (fun _ => 0))), (m7, .inl (cZ, 4, .inl (fun _ => 0))), (m8, .inl (cJ8, 16384, .inl (fun _ => 0))), (m9, .inl (cJ8, 4096, .inl (fun _ => 0)))] H := hP
  have hD : va_D A [(a, .inr (3, [.ref m1, .int 0, .ref m2, .ref m3, .ref m4, .ref m5, .ref m6, .ref m7, .ref m8, .ref m9, .int (-1), .int 0, .int 0])), (m1, .inl (cB, 1480, .inl (fun _ => 0))), (m2, .inl (cJ8, 4, .inl (fun _ => 0))), (m3, .inl (cJ8, 4, .inl (fun _ => 0))), (m4, .inl (cJ8, 4, .inl (fun _ => 0))), (m5, .inl (cJ8, 4, .inl (fun _ => 0))), (m6, .inl (cJ8, 4, .inl (fun _ => 0))), (m7, .inl (cZ, 4, .inl (fun _ => 0))), (m8, .inl (cJ8, 16384, .inl (fun _ => 0))), (m9, .inl (cJ8, 4096, .inl (fun _ => 0)))] := hD
  obtain ⟨g, hg⟩ : ∃ g : Nat → Nat, g = (fun k => match k with | 1 => m1 | 2 => m2 | 3 => m3 | 4 => m4 | 5 => m5 | 6 => m6 | 7 => m7 | 8 => m8 | _ => m9) := ⟨_, rfl⟩
  exact ret_v hx hb hr hlk hQ (Nat.le_refl _) (Nat.le_refl _) (g, cB, cZ, cJ8) rfl hK (by subst hg; exact hP) (by subst hg; exact hD) hS dX3_init_78
set_option maxHeartbeats 4000000 in
set_option maxRecDepth 100000 in
/-- FragmentHouseModel.word -/
theorem m_mWord (l : Launch) (D : va_G) (cB cZ cR cI : ClassId) (m0 m1 m2 m3 m4 m5 m6 m7 m8 m9 n : Nat) (tray sn ids ps es bs th by_ wh : Fn) (ln md nw : Int32) (v : Int32) (hn : n + 4 ≤ 1480) : MM l yX3_word cX3_word 3 none { frames := 0, cells := 0, slots := 0, locals := 0 } D (tyS cB cZ cR cI) [.ref m0, .int v] (mw cB cZ cI m0 m1 m2 m3 m4 m5 m6 m7 m8 m9 n tray sn ids ps es bs th by_ wh ln md nw) (S := Unit) (fun r u => r = none) (fun _ => tyS cB cZ cR cI) (fun u => mw cB cZ cI m0 m1 m2 m3 m4 m5 m6 m7 m8 m9 (n + 4) (wordT tray n v) sn ids ps es bs th by_ wh ln md nw) := by
  refine MM_of (by decide) (Nat.le_of_ble_eq_true rfl) ?_
  intro p e s m below meth c A ls R Q args hRm hQ hx hb hr hlk hml hown hts hin hK hE hA hP hD hS hl
  have hown : s.vm.findClass "FragmentHouseModel" = some m.cls := hown
  replace hl : lv_has ls 3 [(0, .ref m0), (1, .int v)] := hl
  replace hP : va_P D vwCl [(m0, .inr (3, [.ref m1, .int (nI n), .ref m2, .ref m3, .ref m4, .ref m5, .ref m6, .ref m7, .ref m8, .ref m9, .int ln, .int md, .int nw])), (m1, .inl (cB, 1480, .inl tray)), (m2, .inl (cI, 4, .inl sn)), (m3, .inl (cI, 4, .inl ids)), (m4, .inl (cI, 4, .inl ps)), (m5, .inl (cI, 4, .inl es)), (m6, .inl (cI, 4, .inl bs)), (m7, .inl (cZ, 4, .inl th)), (m8, .inl (cI, 16384, .inl by_)), (m9, .inl (cI, 4096, .inl wh))] s.heap := hP
  replace hD : va_D A [(m0, .inr (3, [.ref m1, .int (nI n), .ref m2, .ref m3, .ref m4, .ref m5, .ref m6, .ref m7, .ref m8, .ref m9, .int ln, .int md, .int nw])), (m1, .inl (cB, 1480, .inl tray)), (m2, .inl (cI, 4, .inl sn)), (m3, .inl (cI, 4, .inl ids)), (m4, .inl (cI, 4, .inl ps)), (m5, .inl (cI, 4, .inl es)), (m6, .inl (cI, 4, .inl bs)), (m7, .inl (cZ, 4, .inl th)), (m8, .inl (cI, 16384, .inl by_)), (m9, .inl (cI, 4096, .inl wh))] := hD
  refine lv_iconst (v := nI 0) hx hb dX3_word_0 (by decide +kernel) ?_
  refine lv_istore_n (lv' := [(2, .int (nI 0)), (0, .ref m0), (1, .int v)]) hx hb dX3_word_1 rfl hl (by decide) rfl (fun ls hl => ?_)
  have loop : ∀ (d i : Nat) (H : Heap) (locs : List Loc) (ls : Array Slot), i ≤ 4 → 4 + 1 ≤ i + d → va_P D vwCl [(m0, .inr (3, [.ref m1, .int (nI (n + i)), .ref m2, .ref m3, .ref m4, .ref m5, .ref m6, .ref m7, .ref m8, .ref m9, .int ln, .int md, .int nw])), (m1, .inl (cB, 1480, .inl (seg n i (wv v) tray))), (m2, .inl (cI, 4, .inl sn)), (m3, .inl (cI, 4, .inl ids)), (m4, .inl (cI, 4, .inl ps)), (m5, .inl (cI, 4, .inl es)), (m6, .inl (cI, 4, .inl bs)), (m7, .inl (cZ, 4, .inl th)), (m8, .inl (cI, 16384, .inl by_)), (m9, .inl (cI, 4096, .inl wh))] H → va_D A [(m0, .inr (3, [.ref m1, .int (nI (n + i)), .ref m2, .ref m3, .ref m4, .ref m5, .ref m6, .ref m7, .ref m8, .ref m9, .int ln, .int md, .int nw])), (m1, .inl (cB, 1480, .inl (seg n i (wv v) tray))), (m2, .inl (cI, 4, .inl sn)), (m3, .inl (cI, 4, .inl ids)), (m4, .inl (cI, 4, .inl ps)), (m5, .inl (cI, 4, .inl es)), (m6, .inl (cI, 4, .inl bs)), (m7, .inl (cZ, 4, .inl th)), (m8, .inl (cI, 16384, .inl by_)), (m9, .inl (cI, 4096, .inl wh))] → va_S A s.heap H locs → lv_has ls 3 [(0, .ref m0), (1, .int v), (2, .int (nI i))] → W p l e R s m args below meth c H locs 0 0 Q (F0 m 2 ls []) := by
    intro d
    induction d with
    | zero => intro i H locs ls q1 q2; exact absurd q2 (by omega)
    | succ d ih =>
      intro i H locs ls q1 q2 hP hD hS hl
      refine lv_iload_n hx hb dX3_word_2 rfl (lv_at hl 2 rfl) ?_
      refine lv_iconst (v := nI 4) hx hb dX3_word_3 (by decide +kernel) ?_
      refine lv_icmp_ge (tgt := 42) hx hb dX3_word_4 (by decide) (fun c1 => ?_) (fun c1 => ?_)
      · skip
        have c1 : 4 ≤ i := (nI_leI (by omega) (by omega)).mp c1
        obtain rfl : i = 4 := by omega
        exact ret_v hx hb hr hlk hQ (Nat.le_refl _) (Nat.le_refl _) () rfl hK hP hD hS dX3_word_42
      · skip
        have c1 : ¬ (4 ≤ i) := fun h => c1 ((nI_leI (by omega) (by omega)).mpr h)
        refine lv_aload_n hx hb dX3_word_7 rfl (lv_at hl 0 rfl) ?_
        refine va_get (D := D) (ci := 3) (v := .ref m1) (C := RX3) (T := TX3) (N := 13) hx hb hts in_X3 hown hK hP 0 rfl rfl 0 (by decide) (hts _ q189) (fun _ h9 => h9) rfl dX3_word_8 ?_
        refine lv_aload_n hx hb dX3_word_11 rfl (lv_at hl 0 rfl) ?_
        refine va_get (D := D) (ci := 3) (v := .int (nI (n + i))) (C := RX3) (T := TX3) (N := 13) hx hb hts in_X3 hown hK hP 0 rfl rfl 1 (by decide) (hts _ q190) (fun _ h9 => h9) rfl dX3_word_12 ?_
        refine lv_iload_n hx hb dX3_word_15 rfl (lv_at hl 1 rfl) ?_
        refine lv_bipush (v := nI 24) hx hb dX3_word_16 (by decide +kernel) ?_
        refine lv_bipush (v := nI 8) hx hb dX3_word_18 (by decide +kernel) ?_
        refine lv_iload_n hx hb dX3_word_20 rfl (lv_at hl 2 rfl) ?_
        refine lv_imul hx hb dX3_word_21 ?_
        refine lv_as (y := nI (8 * i)) (pk_mul _ _) ?_
        refine lv_isub hx hb dX3_word_22 ?_
        refine lv_ishr hx hb dX3_word_23 ?_
        refine lv_i2b (v := nb (v >>> (((nI 24) - (nI (8 * i))) &&& 31))) hx hb dX3_word_24 rfl ?_
        refine ab_bast (y := nb (v >>> (((nI 24) - (nI (8 * i))) &&& 31))) hx hb hK hP hD hS 1 0 rfl rfl (n + i) (rfl) (by omega) (by decide) (nb_nb _) dX3_word_25 (fun H locs hP hD hS => ?_)
        have hP : va_P D vwCl [(m0, .inr (3, [.ref m1, .int (nI (n + i)), .ref m2, .ref m3, .ref m4, .ref m5, .ref m6, .ref m7, .ref m8, .ref m9, .int ln, .int md, .int nw])), (m1, .inl (cB, 1480, .inl (upd (seg n i (wv v) tray) (n + i) (nb (v >>> (((nI 24) - (nI (8 * i))) &&& 31)))))), (m2, .inl (cI, 4, .inl sn)), (m3, .inl (cI, 4, .inl ids)), (m4, .inl (cI, 4, .inl ps)), (m5, .inl (cI, 4, .inl es)), (m6, .inl (cI, 4, .inl bs)), (m7, .inl (cZ, 4, .inl th)), (m8, .inl (cI, 16384, .inl by_)), (m9, .inl (cI, 4096, .inl wh))] H := hP
        have hD : va_D A [(m0, .inr (3, [.ref m1, .int (nI (n + i)), .ref m2, .ref m3, .ref m4, .ref m5, .ref m6, .ref m7, .ref m8, .ref m9, .int ln, .int md, .int nw])), (m1, .inl (cB, 1480, .inl (upd (seg n i (wv v) tray) (n + i) (nb (v >>> (((nI 24) - (nI (8 * i))) &&& 31)))))), (m2, .inl (cI, 4, .inl sn)), (m3, .inl (cI, 4, .inl ids)), (m4, .inl (cI, 4, .inl ps)), (m5, .inl (cI, 4, .inl es)), (m6, .inl (cI, 4, .inl bs)), (m7, .inl (cZ, 4, .inl th)), (m8, .inl (cI, 16384, .inl by_)), (m9, .inl (cI, 4096, .inl wh))] := hD
        rw [show nb (v >>> ((nI 24 - nI (8 * i)) &&& 31)) = wv v i from rfl, seg_s] at hP hD
        have hP : va_P D vwCl [(m0, .inr (3, [.ref m1, .int (nI (n + i)), .ref m2, .ref m3, .ref m4, .ref m5, .ref m6, .ref m7, .ref m8, .ref m9, .int ln, .int md, .int nw])), (m1, .inl (cB, 1480, .inl (seg n (i + 1) (wv v) tray))), (m2, .inl (cI, 4, .inl sn)), (m3, .inl (cI, 4, .inl ids)), (m4, .inl (cI, 4, .inl ps)), (m5, .inl (cI, 4, .inl es)), (m6, .inl (cI, 4, .inl bs)), (m7, .inl (cZ, 4, .inl th)), (m8, .inl (cI, 16384, .inl by_)), (m9, .inl (cI, 4096, .inl wh))] H := hP
        have hD : va_D A [(m0, .inr (3, [.ref m1, .int (nI (n + i)), .ref m2, .ref m3, .ref m4, .ref m5, .ref m6, .ref m7, .ref m8, .ref m9, .int ln, .int md, .int nw])), (m1, .inl (cB, 1480, .inl (seg n (i + 1) (wv v) tray))), (m2, .inl (cI, 4, .inl sn)), (m3, .inl (cI, 4, .inl ids)), (m4, .inl (cI, 4, .inl ps)), (m5, .inl (cI, 4, .inl es)), (m6, .inl (cI, 4, .inl bs)), (m7, .inl (cZ, 4, .inl th)), (m8, .inl (cI, 16384, .inl by_)), (m9, .inl (cI, 4096, .inl wh))] := hD
        refine lv_aload_n hx hb dX3_word_26 rfl (lv_at hl 0 rfl) ?_
        refine lv_dup hx hb dX3_word_27 rfl ?_
        refine va_get (D := D) (ci := 3) (v := .int (nI (n + i))) (C := RX3) (T := TX3) (N := 13) hx hb hts in_X3 hown hK hP 0 rfl rfl 1 (by decide) (hts _ q190) (fun _ h9 => h9) rfl dX3_word_28 ?_
        refine lv_iconst (v := nI 1) hx hb dX3_word_31 (by decide +kernel) ?_
        refine lv_iadd hx hb dX3_word_32 ?_
        refine lv_as (y := nI ((n + i) + 1)) (nI_add _ _) ?_
        refine va_put (D := D) (ci := 3) (v := .int (nI ((n + i) + 1))) (ty := .int) (C := RX3) (T := TX3) (N := 13) hx hb hts in_X3 tyX3 tyX3_ok nmX3 hown hK hP hD hS 0 rfl rfl 1 (by decide) (hts _ q190) (fun _ h9 => h9) rfl (by decide +kernel) rfl rfl (Nat.le_of_ble_eq_true rfl) dX3_word_33 (fun H locs hP hD hS => ?_)
        have hP : va_P D vwCl [(m0, .inr (3, [.ref m1, .int (nI ((n + i) + 1)), .ref m2, .ref m3, .ref m4, .ref m5, .ref m6, .ref m7, .ref m8, .ref m9, .int ln, .int md, .int nw])), (m1, .inl (cB, 1480, .inl (seg n (i + 1) (wv v) tray))), (m2, .inl (cI, 4, .inl sn)), (m3, .inl (cI, 4, .inl ids)), (m4, .inl (cI, 4, .inl ps)), (m5, .inl (cI, 4, .inl es)), (m6, .inl (cI, 4, .inl bs)), (m7, .inl (cZ, 4, .inl th)), (m8, .inl (cI, 16384, .inl by_)), (m9, .inl (cI, 4096, .inl wh))] H := hP
        have hD : va_D A [(m0, .inr (3, [.ref m1, .int (nI ((n + i) + 1)), .ref m2, .ref m3, .ref m4, .ref m5, .ref m6, .ref m7, .ref m8, .ref m9, .int ln, .int md, .int nw])), (m1, .inl (cB, 1480, .inl (seg n (i + 1) (wv v) tray))), (m2, .inl (cI, 4, .inl sn)), (m3, .inl (cI, 4, .inl ids)), (m4, .inl (cI, 4, .inl ps)), (m5, .inl (cI, 4, .inl es)), (m6, .inl (cI, 4, .inl bs)), (m7, .inl (cZ, 4, .inl th)), (m8, .inl (cI, 16384, .inl by_)), (m9, .inl (cI, 4096, .inl wh))] := hD
        refine lv_iinc (v := nI (i + 1)) (lv' := [(2, .int (nI (i + 1))), (0, .ref m0), (1, .int v)]) hx hb dX3_word_36 hl (k := 2) rfl (nI_inc1 _) (by decide) rfl (fun ls hl => ?_)
        refine lv_goto (tgt := 2) hx hb dX3_word_39 (by decide) ?_
        exact ih (i + 1) H locs ls (by omega) (by omega) hP hD hS (lv_sub hl [1, 2, 0] rfl)
  rw [← seg_0 n (wv v) tray] at hP hD
  exact loop 5 0 _ _ ls (by omega) (by omega) hP hD hS (lv_sub hl [1, 2, 0] rfl)
set_option maxHeartbeats 4000000 in
set_option maxRecDepth 100000 in
/-- FragmentHouseModel.feed -/
theorem m_mFeed (l : Launch) (D : va_G) (cB cZ cR cI : ClassId) (m0 m1 m2 m3 m4 m5 m6 m7 m8 m9 n : Nat) (tray sn ids ps es bs th by_ wh : Fn) (ln md nw : Int32) (a b c0 d e0 : Int32) (hn : n ≤ 1480) : MM l yX3_feed cX3_feed 6 (some .int) { frames := 1, cells := 0, slots := 0, locals := 22 } D (tyS cB cZ cR cI) [.ref m0, .int a, .int b, .int c0, .int d, .int e0] (mw cB cZ cI m0 m1 m2 m3 m4 m5 m6 m7 m8 m9 n tray sn ids ps es bs th by_ wh ln md nw) (S := (Nat × Fn)) (fun r u => (n + 20 ≤ 1480 ∧ r = some (.int (nI (n + 20))) ∧ u = (n + 20, feedM tray n a b c0 d e0)) ∨ (1480 < n + 20 ∧ r = some (.int (-1)) ∧ u = (n, tray))) (fun _ => tyS cB cZ cR cI) (fun u => mw cB cZ cI m0 m1 m2 m3 m4 m5 m6 m7 m8 m9 u.1 u.2 sn ids ps es bs th by_ wh ln md nw) := by
  refine MM_of (by decide) (Nat.le_of_ble_eq_true rfl) ?_
  intro p e s m below meth c A ls R Q args hRm hQ hx hb hr hlk hml hown hts hin hK hE hA hP hD hS hl
  have hown : s.vm.findClass "FragmentHouseModel" = some m.cls := hown
  replace hl : lv_has ls 6 [(0, .ref m0), (1, .int a), (2, .int b), (3, .int c0), (4, .int d), (5, .int e0)] := hl
  replace hP : va_P D vwCl [(m0, .inr (3, [.ref m1, .int (nI n), .ref m2, .ref m3, .ref m4, .ref m5, .ref m6, .ref m7, .ref m8, .ref m9, .int ln, .int md, .int nw])), (m1, .inl (cB, 1480, .inl tray)), (m2, .inl (cI, 4, .inl sn)), (m3, .inl (cI, 4, .inl ids)), (m4, .inl (cI, 4, .inl ps)), (m5, .inl (cI, 4, .inl es)), (m6, .inl (cI, 4, .inl bs)), (m7, .inl (cZ, 4, .inl th)), (m8, .inl (cI, 16384, .inl by_)), (m9, .inl (cI, 4096, .inl wh))] s.heap := hP
  replace hD : va_D A [(m0, .inr (3, [.ref m1, .int (nI n), .ref m2, .ref m3, .ref m4, .ref m5, .ref m6, .ref m7, .ref m8, .ref m9, .int ln, .int md, .int nw])), (m1, .inl (cB, 1480, .inl tray)), (m2, .inl (cI, 4, .inl sn)), (m3, .inl (cI, 4, .inl ids)), (m4, .inl (cI, 4, .inl ps)), (m5, .inl (cI, 4, .inl es)), (m6, .inl (cI, 4, .inl bs)), (m7, .inl (cZ, 4, .inl th)), (m8, .inl (cI, 16384, .inl by_)), (m9, .inl (cI, 4096, .inl wh))] := hD
  refine lv_aload_n hx hb dX3_feed_0 rfl (lv_at hl 0 rfl) ?_
  refine va_get (D := D) (ci := 3) (v := .int (nI n)) (C := RX3) (T := TX3) (N := 13) hx hb hts in_X3 hown hK hP 0 rfl rfl 1 (by decide) (hts _ q190) (fun _ h9 => h9) rfl dX3_feed_1 ?_
  refine lv_bipush (v := nI 20) hx hb dX3_feed_4 (by decide +kernel) ?_
  refine lv_iadd hx hb dX3_feed_6 ?_
  refine lv_as (y := nI (n + 20)) (nI_add _ _) ?_
  refine lv_sipush (v := nI 1480) hx hb dX3_feed_7 (by decide +kernel) ?_
  refine lv_icmp_le (tgt := 15) hx hb dX3_feed_10 (by decide) (fun c2 => ?_) (fun c2 => ?_)
  · skip
    have c2 : (n + 20) ≤ 1480 := (nI_leI (by omega) (by omega)).mp c2
    refine lv_aload_n hx hb dX3_feed_15 rfl (lv_at hl 0 rfl) ?_
    refine lv_iload_n hx hb dX3_feed_16 rfl (lv_at hl 1 rfl) ?_
    refine call_V (nA := 1) (rest := []) (q := (RX3, TX3, 13)) (ci := 3) (q0 := 0) ([]) [.int a] ⟨hx, hb, hml, hown, hts⟩ (m_mWord l D cB cZ cR cI m0 m1 m2 m3 m4 m5 m6 m7 m8 m9 n tray sn ids ps es bs th by_ wh ln md nw a (by omega)) (lw_V q234 q236 qs2 q9 q237) (by decide +kernel) rfl (by subst hRm; exact ⟨by decide, by decide⟩) hK hE rfl rfl hP hD hS hA hl.1 rfl (Nat.le_of_ble_eq_true rfl) dX3_feed_17 (by subst hRm; exact ⟨by decide, by decide⟩) (fun v u H locs hv hKu hP hD hS => ?_)
    obtain rfl : v = none := hv
    refine W.eq (g2 := F0 m 20 ls []) rfl ?_
    refine W.cs (cells' := 0) (slots' := 0) rfl rfl ?_
    have hP := wP_left hP
    have hD := wD_left hD
    have hP : va_P D vwCl [(m0, .inr (3, [.ref m1, .int (nI (n + 4)), .ref m2, .ref m3, .ref m4, .ref m5, .ref m6, .ref m7, .ref m8, .ref m9, .int ln, .int md, .int nw])), (m1, .inl (cB, 1480, .inl (wordT tray n a))), (m2, .inl (cI, 4, .inl sn)), (m3, .inl (cI, 4, .inl ids)), (m4, .inl (cI, 4, .inl ps)), (m5, .inl (cI, 4, .inl es)), (m6, .inl (cI, 4, .inl bs)), (m7, .inl (cZ, 4, .inl th)), (m8, .inl (cI, 16384, .inl by_)), (m9, .inl (cI, 4096, .inl wh))] H := hP
    have hD : va_D A [(m0, .inr (3, [.ref m1, .int (nI (n + 4)), .ref m2, .ref m3, .ref m4, .ref m5, .ref m6, .ref m7, .ref m8, .ref m9, .int ln, .int md, .int nw])), (m1, .inl (cB, 1480, .inl (wordT tray n a))), (m2, .inl (cI, 4, .inl sn)), (m3, .inl (cI, 4, .inl ids)), (m4, .inl (cI, 4, .inl ps)), (m5, .inl (cI, 4, .inl es)), (m6, .inl (cI, 4, .inl bs)), (m7, .inl (cZ, 4, .inl th)), (m8, .inl (cI, 16384, .inl by_)), (m9, .inl (cI, 4096, .inl wh))] := hD
    refine lv_aload_n hx hb dX3_feed_20 rfl (lv_at hl 0 rfl) ?_
    refine lv_iload_n hx hb dX3_feed_21 rfl (lv_at hl 2 rfl) ?_
    refine call_V (nA := 1) (rest := []) (q := (RX3, TX3, 13)) (ci := 3) (q0 := 0) ([]) [.int b] ⟨hx, hb, hml, hown, hts⟩ (m_mWord l D cB cZ cR cI m0 m1 m2 m3 m4 m5 m6 m7 m8 m9 (n + 4) (wordT tray n a) sn ids ps es bs th by_ wh ln md nw b (by omega)) (lw_V q234 q236 qs2 q9 q237) (by decide +kernel) rfl (by subst hRm; exact ⟨by decide, by decide⟩) hK hE rfl rfl hP hD hS hA hl.1 rfl (Nat.le_of_ble_eq_true rfl) dX3_feed_22 (by subst hRm; exact ⟨by decide, by decide⟩) (fun v u H locs hv hKu hP hD hS => ?_)
    obtain rfl : v = none := hv
    refine W.eq (g2 := F0 m 25 ls []) rfl ?_
    refine W.cs (cells' := 0) (slots' := 0) rfl rfl ?_
    have hP := wP_left hP
    have hD := wD_left hD
    have hP : va_P D vwCl [(m0, .inr (3, [.ref m1, .int (nI (n + 8)), .ref m2, .ref m3, .ref m4, .ref m5, .ref m6, .ref m7, .ref m8, .ref m9, .int ln, .int md, .int nw])), (m1, .inl (cB, 1480, .inl (wordT (wordT tray n a) (n + 4) b))), (m2, .inl (cI, 4, .inl sn)), (m3, .inl (cI, 4, .inl ids)), (m4, .inl (cI, 4, .inl ps)), (m5, .inl (cI, 4, .inl es)), (m6, .inl (cI, 4, .inl bs)), (m7, .inl (cZ, 4, .inl th)), (m8, .inl (cI, 16384, .inl by_)), (m9, .inl (cI, 4096, .inl wh))] H := hP
    have hD : va_D A [(m0, .inr (3, [.ref m1, .int (nI (n + 8)), .ref m2, .ref m3, .ref m4, .ref m5, .ref m6, .ref m7, .ref m8, .ref m9, .int ln, .int md, .int nw])), (m1, .inl (cB, 1480, .inl (wordT (wordT tray n a) (n + 4) b))), (m2, .inl (cI, 4, .inl sn)), (m3, .inl (cI, 4, .inl ids)), (m4, .inl (cI, 4, .inl ps)), (m5, .inl (cI, 4, .inl es)), (m6, .inl (cI, 4, .inl bs)), (m7, .inl (cZ, 4, .inl th)), (m8, .inl (cI, 16384, .inl by_)), (m9, .inl (cI, 4096, .inl wh))] := hD
    refine lv_aload_n hx hb dX3_feed_25 rfl (lv_at hl 0 rfl) ?_
    refine lv_iload_n hx hb dX3_feed_26 rfl (lv_at hl 3 rfl) ?_
    refine call_V (nA := 1) (rest := []) (q := (RX3, TX3, 13)) (ci := 3) (q0 := 0) ([]) [.int c0] ⟨hx, hb, hml, hown, hts⟩ (m_mWord l D cB cZ cR cI m0 m1 m2 m3 m4 m5 m6 m7 m8 m9 (n + 8) (wordT (wordT tray n a) (n + 4) b) sn ids ps es bs th by_ wh ln md nw c0 (by omega)) (lw_V q234 q236 qs2 q9 q237) (by decide +kernel) rfl (by subst hRm; exact ⟨by decide, by decide⟩) hK hE rfl rfl hP hD hS hA hl.1 rfl (Nat.le_of_ble_eq_true rfl) dX3_feed_27 (by subst hRm; exact ⟨by decide, by decide⟩) (fun v u H locs hv hKu hP hD hS => ?_)
    obtain rfl : v = none := hv
    refine W.eq (g2 := F0 m 30 ls []) rfl ?_
    refine W.cs (cells' := 0) (slots' := 0) rfl rfl ?_
    have hP := wP_left hP
    have hD := wD_left hD
    have hP : va_P D vwCl [(m0, .inr (3, [.ref m1, .int (nI (n + 12)), .ref m2, .ref m3, .ref m4, .ref m5, .ref m6, .ref m7, .ref m8, .ref m9, .int ln, .int md, .int nw])), (m1, .inl (cB, 1480, .inl (wordT (wordT (wordT tray n a) (n + 4) b) (n + 8) c0))), (m2, .inl (cI, 4, .inl sn)), (m3, .inl (cI, 4, .inl ids)), (m4, .inl (cI, 4, .inl ps)), (m5, .inl (cI, 4, .inl es)), (m6, .inl (cI, 4, .inl bs)), (m7, .inl (cZ, 4, .inl th)), (m8, .inl (cI, 16384, .inl by_)), (m9, .inl (cI, 4096, .inl wh))] H := hP
    have hD : va_D A [(m0, .inr (3, [.ref m1, .int (nI (n + 12)), .ref m2, .ref m3, .ref m4, .ref m5, .ref m6, .ref m7, .ref m8, .ref m9, .int ln, .int md, .int nw])), (m1, .inl (cB, 1480, .inl (wordT (wordT (wordT tray n a) (n + 4) b) (n + 8) c0))), (m2, .inl (cI, 4, .inl sn)), (m3, .inl (cI, 4, .inl ids)), (m4, .inl (cI, 4, .inl ps)), (m5, .inl (cI, 4, .inl es)), (m6, .inl (cI, 4, .inl bs)), (m7, .inl (cZ, 4, .inl th)), (m8, .inl (cI, 16384, .inl by_)), (m9, .inl (cI, 4096, .inl wh))] := hD
    refine lv_aload_n hx hb dX3_feed_30 rfl (lv_at hl 0 rfl) ?_
    refine lv_iload hx hb dX3_feed_31 (lv_at hl 4 rfl) ?_
    refine call_V (nA := 1) (rest := []) (q := (RX3, TX3, 13)) (ci := 3) (q0 := 0) ([]) [.int d] ⟨hx, hb, hml, hown, hts⟩ (m_mWord l D cB cZ cR cI m0 m1 m2 m3 m4 m5 m6 m7 m8 m9 (n + 12) (wordT (wordT (wordT tray n a) (n + 4) b) (n + 8) c0) sn ids ps es bs th by_ wh ln md nw d (by omega)) (lw_V q234 q236 qs2 q9 q237) (by decide +kernel) rfl (by subst hRm; exact ⟨by decide, by decide⟩) hK hE rfl rfl hP hD hS hA hl.1 rfl (Nat.le_of_ble_eq_true rfl) dX3_feed_33 (by subst hRm; exact ⟨by decide, by decide⟩) (fun v u H locs hv hKu hP hD hS => ?_)
    obtain rfl : v = none := hv
    refine W.eq (g2 := F0 m 36 ls []) rfl ?_
    refine W.cs (cells' := 0) (slots' := 0) rfl rfl ?_
    have hP := wP_left hP
    have hD := wD_left hD
    have hP : va_P D vwCl [(m0, .inr (3, [.ref m1, .int (nI (n + 16)), .ref m2, .ref m3, .ref m4, .ref m5, .ref m6, .ref m7, .ref m8, .ref m9, .int ln, .int md, .int nw])), (m1, .inl (cB, 1480, .inl (wordT (wordT (wordT (wordT tray n a) (n + 4) b) (n + 8) c0) (n + 12) d))), (m2, .inl (cI, 4, .inl sn)), (m3, .inl (cI, 4, .inl ids)), (m4, .inl (cI, 4, .inl ps)), (m5, .inl (cI, 4, .inl es)), (m6, .inl (cI, 4, .inl bs)), (m7, .inl (cZ, 4, .inl th)), (m8, .inl (cI, 16384, .inl by_)), (m9, .inl (cI, 4096, .inl wh))] H := hP
    have hD : va_D A [(m0, .inr (3, [.ref m1, .int (nI (n + 16)), .ref m2, .ref m3, .ref m4, .ref m5, .ref m6, .ref m7, .ref m8, .ref m9, .int ln, .int md, .int nw])), (m1, .inl (cB, 1480, .inl (wordT (wordT (wordT (wordT tray n a) (n + 4) b) (n + 8) c0) (n + 12) d))), (m2, .inl (cI, 4, .inl sn)), (m3, .inl (cI, 4, .inl ids)), (m4, .inl (cI, 4, .inl ps)), (m5, .inl (cI, 4, .inl es)), (m6, .inl (cI, 4, .inl bs)), (m7, .inl (cZ, 4, .inl th)), (m8, .inl (cI, 16384, .inl by_)), (m9, .inl (cI, 4096, .inl wh))] := hD
    refine lv_aload_n hx hb dX3_feed_36 rfl (lv_at hl 0 rfl) ?_
    refine lv_iload hx hb dX3_feed_37 (lv_at hl 5 rfl) ?_
    refine call_V (nA := 1) (rest := []) (q := (RX3, TX3, 13)) (ci := 3) (q0 := 0) ([]) [.int e0] ⟨hx, hb, hml, hown, hts⟩ (m_mWord l D cB cZ cR cI m0 m1 m2 m3 m4 m5 m6 m7 m8 m9 (n + 16) (wordT (wordT (wordT (wordT tray n a) (n + 4) b) (n + 8) c0) (n + 12) d) sn ids ps es bs th by_ wh ln md nw e0 (by omega)) (lw_V q234 q236 qs2 q9 q237) (by decide +kernel) rfl (by subst hRm; exact ⟨by decide, by decide⟩) hK hE rfl rfl hP hD hS hA hl.1 rfl (Nat.le_of_ble_eq_true rfl) dX3_feed_39 (by subst hRm; exact ⟨by decide, by decide⟩) (fun v u H locs hv hKu hP hD hS => ?_)
    obtain rfl : v = none := hv
    refine W.eq (g2 := F0 m 42 ls []) rfl ?_
    refine W.cs (cells' := 0) (slots' := 0) rfl rfl ?_
    have hP := wP_left hP
    have hD := wD_left hD
    have hP : va_P D vwCl [(m0, .inr (3, [.ref m1, .int (nI (n + 20)), .ref m2, .ref m3, .ref m4, .ref m5, .ref m6, .ref m7, .ref m8, .ref m9, .int ln, .int md, .int nw])), (m1, .inl (cB, 1480, .inl (wordT (wordT (wordT (wordT (wordT tray n a) (n + 4) b) (n + 8) c0) (n + 12) d) (n + 16) e0))), (m2, .inl (cI, 4, .inl sn)), (m3, .inl (cI, 4, .inl ids)), (m4, .inl (cI, 4, .inl ps)), (m5, .inl (cI, 4, .inl es)), (m6, .inl (cI, 4, .inl bs)), (m7, .inl (cZ, 4, .inl th)), (m8, .inl (cI, 16384, .inl by_)), (m9, .inl (cI, 4096, .inl wh))] H := hP
    have hD : va_D A [(m0, .inr (3, [.ref m1, .int (nI (n + 20)), .ref m2, .ref m3, .ref m4, .ref m5, .ref m6, .ref m7, .ref m8, .ref m9, .int ln, .int md, .int nw])), (m1, .inl (cB, 1480, .inl (wordT (wordT (wordT (wordT (wordT tray n a) (n + 4) b) (n + 8) c0) (n + 12) d) (n + 16) e0))), (m2, .inl (cI, 4, .inl sn)), (m3, .inl (cI, 4, .inl ids)), (m4, .inl (cI, 4, .inl ps)), (m5, .inl (cI, 4, .inl es)), (m6, .inl (cI, 4, .inl bs)), (m7, .inl (cZ, 4, .inl th)), (m8, .inl (cI, 16384, .inl by_)), (m9, .inl (cI, 4096, .inl wh))] := hD
    refine lv_aload_n hx hb dX3_feed_42 rfl (lv_at hl 0 rfl) ?_
    refine va_get (D := D) (ci := 3) (v := .int (nI (n + 20))) (C := RX3) (T := TX3) (N := 13) hx hb hts in_X3 hown hK hP 0 rfl rfl 1 (by decide) (hts _ q190) (fun _ h9 => h9) rfl dX3_feed_43 ?_
    exact ret_i hx hb hr rfl hlk hQ (Nat.le_refl _) (Nat.le_refl _) (n + 20, feedM tray n a b c0 d e0) (Or.inl ⟨c2, rfl, rfl⟩) hK hP hD hS dX3_feed_46
  · skip
    have c2 : ¬ ((n + 20) ≤ 1480) := fun h => c2 ((nI_leI (by omega) (by omega)).mpr h)
    refine lv_iconst (v := (-1)) hx hb dX3_feed_13 (by decide +kernel) ?_
    exact ret_i hx hb hr rfl hlk hQ (Nat.le_refl _) (Nat.le_refl _) (n, tray) (Or.inr ⟨by omega, rfl, rfl⟩) hK hP hD hS dX3_feed_14
set_option maxHeartbeats 4000000 in
set_option maxRecDepth 100000 in
/-- FragmentHouseModel.end -/
theorem m_mEnd (l : Launch) (D : va_G) (cB cZ cR cI : ClassId) (m0 m1 m2 m3 m4 m5 m6 m7 m8 m9 n : Nat) (tray sn ids ps es bs th by_ wh : Fn) (ln md nw : Int32) (k : Int32) (hn : n ≤ 1480) : MM l yX3_end cX3_end 2 (some .int) { frames := 0, cells := 0, slots := 0, locals := 0 } D (tyS cB cZ cR cI) [.ref m0, .int k] (mw cB cZ cI m0 m1 m2 m3 m4 m5 m6 m7 m8 m9 n tray sn ids ps es bs th by_ wh ln md nw) (S := Nat) (fun r u => (∃ j, j ≤ n ∧ k = nI j ∧ r = some (.int (nI j)) ∧ u = j) ∨ ((k < 0 ∨ nI n < k) ∧ r = some (.int (-1)) ∧ u = n)) (fun _ => tyS cB cZ cR cI) (fun u => mw cB cZ cI m0 m1 m2 m3 m4 m5 m6 m7 m8 m9 u tray sn ids ps es bs th by_ wh ln md nw) := by
  refine MM_of (by decide) (Nat.le_of_ble_eq_true rfl) ?_
  intro p e s m below meth c A ls R Q args hRm hQ hx hb hr hlk hml hown hts hin hK hE hA hP hD hS hl
  have hown : s.vm.findClass "FragmentHouseModel" = some m.cls := hown
  replace hl : lv_has ls 2 [(0, .ref m0), (1, .int k)] := hl
  replace hP : va_P D vwCl [(m0, .inr (3, [.ref m1, .int (nI n), .ref m2, .ref m3, .ref m4, .ref m5, .ref m6, .ref m7, .ref m8, .ref m9, .int ln, .int md, .int nw])), (m1, .inl (cB, 1480, .inl tray)), (m2, .inl (cI, 4, .inl sn)), (m3, .inl (cI, 4, .inl ids)), (m4, .inl (cI, 4, .inl ps)), (m5, .inl (cI, 4, .inl es)), (m6, .inl (cI, 4, .inl bs)), (m7, .inl (cZ, 4, .inl th)), (m8, .inl (cI, 16384, .inl by_)), (m9, .inl (cI, 4096, .inl wh))] s.heap := hP
  replace hD : va_D A [(m0, .inr (3, [.ref m1, .int (nI n), .ref m2, .ref m3, .ref m4, .ref m5, .ref m6, .ref m7, .ref m8, .ref m9, .int ln, .int md, .int nw])), (m1, .inl (cB, 1480, .inl tray)), (m2, .inl (cI, 4, .inl sn)), (m3, .inl (cI, 4, .inl ids)), (m4, .inl (cI, 4, .inl ps)), (m5, .inl (cI, 4, .inl es)), (m6, .inl (cI, 4, .inl bs)), (m7, .inl (cZ, 4, .inl th)), (m8, .inl (cI, 16384, .inl by_)), (m9, .inl (cI, 4096, .inl wh))] := hD
  have k12 : (k < 0 ∨ nI n < k) → W p l e R s m args below meth c s.heap [] 0 0 Q (F0 m 12 ls []) := by
    intro hk
    refine lv_iconst (v := (-1)) hx hb dX3_end_12 (by decide +kernel) ?_
    exact ret_i hx hb hr rfl hlk hQ (Nat.le_refl _) (Nat.le_refl _) n (Or.inr ⟨hk, rfl, rfl⟩) hK hP hD hS dX3_end_13
  refine lv_iload_n hx hb dX3_end_0 rfl (lv_at hl 1 rfl) ?_
  refine lv_if_lt (tgt := 12) hx hb dX3_end_1 (by decide) (fun c3 => ?_) (fun c3 => ?_)
  · skip
    exact k12 (Or.inl c3)
  · skip
    refine lv_iload_n hx hb dX3_end_4 rfl (lv_at hl 1 rfl) ?_
    refine lv_aload_n hx hb dX3_end_5 rfl (lv_at hl 0 rfl) ?_
    refine va_get (D := D) (ci := 3) (v := .int (nI n)) (C := RX3) (T := TX3) (N := 13) hx hb hts in_X3 hown hK hP 0 rfl rfl 1 (by decide) (hts _ q190) (fun _ h9 => h9) rfl dX3_end_6 ?_
    refine lv_icmp_le (tgt := 14) hx hb dX3_end_9 (by decide) (fun c4 => ?_) (fun c4 => ?_)
    · skip
      obtain ⟨j, hj, rfl⟩ := nI_of2 (n := n) (nI_toInt (by omega)) c3 c4
      refine lv_aload_n hx hb dX3_end_14 rfl (lv_at hl 0 rfl) ?_
      refine lv_iload_n hx hb dX3_end_15 rfl (lv_at hl 1 rfl) ?_
      refine va_put (D := D) (ci := 3) (v := .int (nI j)) (ty := .int) (C := RX3) (T := TX3) (N := 13) hx hb hts in_X3 tyX3 tyX3_ok nmX3 hown hK hP hD hS 0 rfl rfl 1 (by decide) (hts _ q190) (fun _ h9 => h9) rfl (by decide +kernel) rfl rfl (Nat.le_of_ble_eq_true rfl) dX3_end_16 (fun H locs hP hD hS => ?_)
      have hP : va_P D vwCl [(m0, .inr (3, [.ref m1, .int (nI j), .ref m2, .ref m3, .ref m4, .ref m5, .ref m6, .ref m7, .ref m8, .ref m9, .int ln, .int md, .int nw])), (m1, .inl (cB, 1480, .inl tray)), (m2, .inl (cI, 4, .inl sn)), (m3, .inl (cI, 4, .inl ids)), (m4, .inl (cI, 4, .inl ps)), (m5, .inl (cI, 4, .inl es)), (m6, .inl (cI, 4, .inl bs)), (m7, .inl (cZ, 4, .inl th)), (m8, .inl (cI, 16384, .inl by_)), (m9, .inl (cI, 4096, .inl wh))] H := hP
      have hD : va_D A [(m0, .inr (3, [.ref m1, .int (nI j), .ref m2, .ref m3, .ref m4, .ref m5, .ref m6, .ref m7, .ref m8, .ref m9, .int ln, .int md, .int nw])), (m1, .inl (cB, 1480, .inl tray)), (m2, .inl (cI, 4, .inl sn)), (m3, .inl (cI, 4, .inl ids)), (m4, .inl (cI, 4, .inl ps)), (m5, .inl (cI, 4, .inl es)), (m6, .inl (cI, 4, .inl bs)), (m7, .inl (cZ, 4, .inl th)), (m8, .inl (cI, 16384, .inl by_)), (m9, .inl (cI, 4096, .inl wh))] := hD
      refine lv_iload_n hx hb dX3_end_19 rfl (lv_at hl 1 rfl) ?_
      exact ret_i hx hb hr rfl hlk hQ (Nat.le_refl _) (Nat.le_refl _) j (Or.inl ⟨j, hj, rfl, rfl, rfl⟩) hK hP hD hS dX3_end_20
    · skip
      exact k12 (Or.inr (Int32.not_le.mp c4))
set_option maxHeartbeats 4000000 in
set_option maxRecDepth 100000 in
/-- FragmentHouseModel.made -/
theorem m_mMade (l : Launch) (D : va_G) (cB cZ cR cI : ClassId) (m0 m1 m2 m3 m4 m5 m6 m7 m8 m9 n : Nat) (tray sn ids ps es bs th by_ wh : Fn) (ln md nw : Int32) : MM l yX3_made cX3_made 1 (some .int) { frames := 0, cells := 0, slots := 0, locals := 0 } D (tyS cB cZ cR cI) [.ref m0] (mw cB cZ cI m0 m1 m2 m3 m4 m5 m6 m7 m8 m9 n tray sn ids ps es bs th by_ wh ln md nw) (S := Unit) (fun r u => r = some (.int md)) (fun _ => tyS cB cZ cR cI) (fun u => mw cB cZ cI m0 m1 m2 m3 m4 m5 m6 m7 m8 m9 n tray sn ids ps es bs th by_ wh ln md nw) := by
  refine MM_of (by decide) (Nat.le_of_ble_eq_true rfl) ?_
  intro p e s m below meth c A ls R Q args hRm hQ hx hb hr hlk hml hown hts hin hK hE hA hP hD hS hl
  have hown : s.vm.findClass "FragmentHouseModel" = some m.cls := hown
  replace hl : lv_has ls 1 [(0, .ref m0)] := hl
  replace hP : va_P D vwCl [(m0, .inr (3, [.ref m1, .int (nI n), .ref m2, .ref m3, .ref m4, .ref m5, .ref m6, .ref m7, .ref m8, .ref m9, .int ln, .int md, .int nw])), (m1, .inl (cB, 1480, .inl tray)), (m2, .inl (cI, 4, .inl sn)), (m3, .inl (cI, 4, .inl ids)), (m4, .inl (cI, 4, .inl ps)), (m5, .inl (cI, 4, .inl es)), (m6, .inl (cI, 4, .inl bs)), (m7, .inl (cZ, 4, .inl th)), (m8, .inl (cI, 16384, .inl by_)), (m9, .inl (cI, 4096, .inl wh))] s.heap := hP
  replace hD : va_D A [(m0, .inr (3, [.ref m1, .int (nI n), .ref m2, .ref m3, .ref m4, .ref m5, .ref m6, .ref m7, .ref m8, .ref m9, .int ln, .int md, .int nw])), (m1, .inl (cB, 1480, .inl tray)), (m2, .inl (cI, 4, .inl sn)), (m3, .inl (cI, 4, .inl ids)), (m4, .inl (cI, 4, .inl ps)), (m5, .inl (cI, 4, .inl es)), (m6, .inl (cI, 4, .inl bs)), (m7, .inl (cZ, 4, .inl th)), (m8, .inl (cI, 16384, .inl by_)), (m9, .inl (cI, 4096, .inl wh))] := hD
  refine lv_aload_n hx hb dX3_made_0 rfl (lv_at hl 0 rfl) ?_
  refine va_get (D := D) (ci := 3) (v := .int md) (C := RX3) (T := TX3) (N := 13) hx hb hts in_X3 hown hK hP 0 rfl rfl 11 (by decide) (hts _ q200) (fun _ h9 => h9) rfl dX3_made_1 ?_
  exact ret_i hx hb hr rfl hlk hQ (Nat.le_refl _) (Nat.le_refl _) () rfl hK hP hD hS dX3_made_4
set_option maxHeartbeats 4000000 in
set_option maxRecDepth 100000 in
/-- FragmentHouseModel.length -/
theorem m_mLength (l : Launch) (D : va_G) (cB cZ cR cI : ClassId) (m0 m1 m2 m3 m4 m5 m6 m7 m8 m9 n : Nat) (tray sn ids ps es bs th by_ wh : Fn) (ln md nw : Int32) : MM l yX3_length cX3_length 1 (some .int) { frames := 0, cells := 0, slots := 0, locals := 0 } D (tyS cB cZ cR cI) [.ref m0] (mw cB cZ cI m0 m1 m2 m3 m4 m5 m6 m7 m8 m9 n tray sn ids ps es bs th by_ wh ln md nw) (S := Unit) (fun r u => r = some (.int ln)) (fun _ => tyS cB cZ cR cI) (fun u => mw cB cZ cI m0 m1 m2 m3 m4 m5 m6 m7 m8 m9 n tray sn ids ps es bs th by_ wh ln md nw) := by
  refine MM_of (by decide) (Nat.le_of_ble_eq_true rfl) ?_
  intro p e s m below meth c A ls R Q args hRm hQ hx hb hr hlk hml hown hts hin hK hE hA hP hD hS hl
  have hown : s.vm.findClass "FragmentHouseModel" = some m.cls := hown
  replace hl : lv_has ls 1 [(0, .ref m0)] := hl
  replace hP : va_P D vwCl [(m0, .inr (3, [.ref m1, .int (nI n), .ref m2, .ref m3, .ref m4, .ref m5, .ref m6, .ref m7, .ref m8, .ref m9, .int ln, .int md, .int nw])), (m1, .inl (cB, 1480, .inl tray)), (m2, .inl (cI, 4, .inl sn)), (m3, .inl (cI, 4, .inl ids)), (m4, .inl (cI, 4, .inl ps)), (m5, .inl (cI, 4, .inl es)), (m6, .inl (cI, 4, .inl bs)), (m7, .inl (cZ, 4, .inl th)), (m8, .inl (cI, 16384, .inl by_)), (m9, .inl (cI, 4096, .inl wh))] s.heap := hP
  replace hD : va_D A [(m0, .inr (3, [.ref m1, .int (nI n), .ref m2, .ref m3, .ref m4, .ref m5, .ref m6, .ref m7, .ref m8, .ref m9, .int ln, .int md, .int nw])), (m1, .inl (cB, 1480, .inl tray)), (m2, .inl (cI, 4, .inl sn)), (m3, .inl (cI, 4, .inl ids)), (m4, .inl (cI, 4, .inl ps)), (m5, .inl (cI, 4, .inl es)), (m6, .inl (cI, 4, .inl bs)), (m7, .inl (cZ, 4, .inl th)), (m8, .inl (cI, 16384, .inl by_)), (m9, .inl (cI, 4096, .inl wh))] := hD
  refine lv_aload_n hx hb dX3_length_0 rfl (lv_at hl 0 rfl) ?_
  refine va_get (D := D) (ci := 3) (v := .int ln) (C := RX3) (T := TX3) (N := 13) hx hb hts in_X3 hown hK hP 0 rfl rfl 10 (by decide) (hts _ q199) (fun _ h9 => h9) rfl dX3_length_1 ?_
  exact ret_i hx hb hr rfl hlk hQ (Nat.le_refl _) (Nat.le_refl _) () rfl hK hP hD hS dX3_length_4
set_option maxHeartbeats 4000000 in
set_option maxRecDepth 100000 in
/-- FragmentHouseModel.at -/
theorem m_mAt (l : Launch) (D : va_G) (cB cZ cR cI : ClassId) (m0 m1 m2 m3 m4 m5 m6 m7 m8 m9 n : Nat) (tray sn ids ps es bs th by_ wh : Fn) (ln md nw : Int32) (i : Int32) (hw : okEn ln) : MM l yX3_at cX3_at 2 (some .int) { frames := 0, cells := 0, slots := 0, locals := 0 } D (tyS cB cZ cR cI) [.ref m0, .int i] (mw cB cZ cI m0 m1 m2 m3 m4 m5 m6 m7 m8 m9 n tray sn ids ps es bs th by_ wh ln md nw) (S := Unit) (fun r u => (∃ e0 j, e0 ≤ 4096 ∧ ln = nI e0 ∧ j < e0 ∧ i = nI j ∧ r = some (.int (wh j))) ∨ ((i < 0 ∨ ln ≤ i) ∧ r = some (.int (-1)))) (fun _ => tyS cB cZ cR cI) (fun u => mw cB cZ cI m0 m1 m2 m3 m4 m5 m6 m7 m8 m9 n tray sn ids ps es bs th by_ wh ln md nw) := by
  refine MM_of (by decide) (Nat.le_of_ble_eq_true rfl) ?_
  intro p e s m below meth c A ls R Q args hRm hQ hx hb hr hlk hml hown hts hin hK hE hA hP hD hS hl
  have hown : s.vm.findClass "FragmentHouseModel" = some m.cls := hown
  replace hl : lv_has ls 2 [(0, .ref m0), (1, .int i)] := hl
  replace hP : va_P D vwCl [(m0, .inr (3, [.ref m1, .int (nI n), .ref m2, .ref m3, .ref m4, .ref m5, .ref m6, .ref m7, .ref m8, .ref m9, .int ln, .int md, .int nw])), (m1, .inl (cB, 1480, .inl tray)), (m2, .inl (cI, 4, .inl sn)), (m3, .inl (cI, 4, .inl ids)), (m4, .inl (cI, 4, .inl ps)), (m5, .inl (cI, 4, .inl es)), (m6, .inl (cI, 4, .inl bs)), (m7, .inl (cZ, 4, .inl th)), (m8, .inl (cI, 16384, .inl by_)), (m9, .inl (cI, 4096, .inl wh))] s.heap := hP
  replace hD : va_D A [(m0, .inr (3, [.ref m1, .int (nI n), .ref m2, .ref m3, .ref m4, .ref m5, .ref m6, .ref m7, .ref m8, .ref m9, .int ln, .int md, .int nw])), (m1, .inl (cB, 1480, .inl tray)), (m2, .inl (cI, 4, .inl sn)), (m3, .inl (cI, 4, .inl ids)), (m4, .inl (cI, 4, .inl ps)), (m5, .inl (cI, 4, .inl es)), (m6, .inl (cI, 4, .inl bs)), (m7, .inl (cZ, 4, .inl th)), (m8, .inl (cI, 16384, .inl by_)), (m9, .inl (cI, 4096, .inl wh))] := hD
  have k21 : (i < 0 ∨ ln ≤ i) → W p l e R s m args below meth c s.heap [] 0 0 Q (F0 m 21 ls []) := by
    intro hk
    refine lv_iconst (v := (-1)) hx hb dX3_at_21 (by decide +kernel) ?_
    exact ret_i hx hb hr rfl hlk hQ (Nat.le_refl _) (Nat.le_refl _) () (Or.inr ⟨hk, rfl⟩) hK hP hD hS dX3_at_22
  refine lv_iload_n hx hb dX3_at_0 rfl (lv_at hl 1 rfl) ?_
  refine lv_if_lt (tgt := 21) hx hb dX3_at_1 (by decide) (fun c5 => ?_) (fun c5 => ?_)
  · skip
    exact k21 (Or.inl c5)
  · skip
    refine lv_iload_n hx hb dX3_at_4 rfl (lv_at hl 1 rfl) ?_
    refine lv_aload_n hx hb dX3_at_5 rfl (lv_at hl 0 rfl) ?_
    refine va_get (D := D) (ci := 3) (v := .int ln) (C := RX3) (T := TX3) (N := 13) hx hb hts in_X3 hown hK hP 0 rfl rfl 10 (by decide) (hts _ q199) (fun _ h9 => h9) rfl dX3_at_6 ?_
    refine lv_icmp_ge (tgt := 21) hx hb dX3_at_9 (by decide) (fun c6 => ?_) (fun c6 => ?_)
    · skip
      exact k21 (Or.inr c6)
    · skip
      obtain ⟨j, hj0, rfl⟩ := nI_of c5
      obtain ⟨e0, he0, rfl⟩ : ∃ e0, e0 ≤ 4096 ∧ ln = nI e0 := by
        rcases hw with rfl | h
        · exact absurd (Int32.le_trans (show (-1 : Int32) ≤ 0 by decide) (nI_pos' hj0)) c6
        · exact h
      have hj : j < e0 := by
        rcases Nat.lt_or_ge j e0 with h | h
        · exact h
        · exact absurd (nI_le h hj0) c6
      refine lv_aload_n hx hb dX3_at_12 rfl (lv_at hl 0 rfl) ?_
      refine va_get (D := D) (ci := 3) (v := .ref m9) (C := RX3) (T := TX3) (N := 13) hx hb hts in_X3 hown hK hP 0 rfl rfl 9 (by decide) (hts _ q198) (fun _ h9 => h9) rfl dX3_at_13 ?_
      refine lv_iload_n hx hb dX3_at_16 rfl (lv_at hl 1 rfl) ?_
      refine ab_iald hx hb hK hP 9 3 rfl rfl j (rfl) (by omega) (by decide) dX3_at_17 ?_
      refine lv_goto (tgt := 22) hx hb dX3_at_18 (by decide) ?_
      exact ret_i hx hb hr rfl hlk hQ (Nat.le_refl _) (Nat.le_refl _) () (Or.inl ⟨e0, j, he0, rfl, hj, rfl, rfl⟩) hK hP hD hS dX3_at_22
set_option maxHeartbeats 4000000 in
set_option maxRecDepth 100000 in
/-- FragmentHouseModel.making -/
theorem m_mMaking (l : Launch) (D : va_G) (cB cZ cR cI : ClassId) (m0 m1 m2 m3 m4 m5 m6 m7 m8 m9 n : Nat) (tray sn ids ps es bs th by_ wh : Fn) (ln md nw : Int32) : MM l yX3_making cX3_making 3 (some .int) { frames := 0, cells := 0, slots := 0, locals := 0 } D (tyS cB cZ cR cI) [.ref m0] (mw cB cZ cI m0 m1 m2 m3 m4 m5 m6 m7 m8 m9 n tray sn ids ps es bs th by_ wh ln md nw) (S := Unit) (fun r u => r = some (.int (nI (cnt (isT th) 4)))) (fun _ => tyS cB cZ cR cI) (fun u => mw cB cZ cI m0 m1 m2 m3 m4 m5 m6 m7 m8 m9 n tray sn ids ps es bs th by_ wh ln md nw) := by
  refine MM_of (by decide) (Nat.le_of_ble_eq_true rfl) ?_
  intro p e s m below meth c A ls R Q args hRm hQ hx hb hr hlk hml hown hts hin hK hE hA hP hD hS hl
  have hown : s.vm.findClass "FragmentHouseModel" = some m.cls := hown
  replace hl : lv_has ls 3 [(0, .ref m0)] := hl
  replace hP : va_P D vwCl [(m0, .inr (3, [.ref m1, .int (nI n), .ref m2, .ref m3, .ref m4, .ref m5, .ref m6, .ref m7, .ref m8, .ref m9, .int ln, .int md, .int nw])), (m1, .inl (cB, 1480, .inl tray)), (m2, .inl (cI, 4, .inl sn)), (m3, .inl (cI, 4, .inl ids)), (m4, .inl (cI, 4, .inl ps)), (m5, .inl (cI, 4, .inl es)), (m6, .inl (cI, 4, .inl bs)), (m7, .inl (cZ, 4, .inl th)), (m8, .inl (cI, 16384, .inl by_)), (m9, .inl (cI, 4096, .inl wh))] s.heap := hP
  replace hD : va_D A [(m0, .inr (3, [.ref m1, .int (nI n), .ref m2, .ref m3, .ref m4, .ref m5, .ref m6, .ref m7, .ref m8, .ref m9, .int ln, .int md, .int nw])), (m1, .inl (cB, 1480, .inl tray)), (m2, .inl (cI, 4, .inl sn)), (m3, .inl (cI, 4, .inl ids)), (m4, .inl (cI, 4, .inl ps)), (m5, .inl (cI, 4, .inl es)), (m6, .inl (cI, 4, .inl bs)), (m7, .inl (cZ, 4, .inl th)), (m8, .inl (cI, 16384, .inl by_)), (m9, .inl (cI, 4096, .inl wh))] := hD
  refine lv_iconst (v := nI 0) hx hb dX3_making_0 (by decide +kernel) ?_
  refine lv_istore_n (lv' := [(1, .int (nI 0)), (0, .ref m0)]) hx hb dX3_making_1 rfl hl (by decide) rfl (fun ls hl => ?_)
  refine lv_iconst (v := nI 0) hx hb dX3_making_2 (by decide +kernel) ?_
  refine lv_istore_n (lv' := [(2, .int (nI 0)), (1, .int (nI 0)), (0, .ref m0)]) hx hb dX3_making_3 rfl hl (by decide) rfl (fun ls hl => ?_)
  have loop : ∀ (d i : Nat) (ls : Array Slot), i ≤ 4 → 4 + 1 ≤ i + d → lv_has ls 3 [(0, .ref m0), (1, .int (nI (cnt (isT th) i))), (2, .int (nI i))] → W p l e R s m args below meth c s.heap [] 0 0 Q (F0 m 4 ls []) := by
    intro d
    induction d with
    | zero => intro i ls q1 q2; exact absurd q2 (by omega)
    | succ d ih =>
      intro i ls q1 q2 hl
      refine lv_iload_n hx hb dX3_making_4 rfl (lv_at hl 2 rfl) ?_
      refine lv_iconst (v := nI 4) hx hb dX3_making_5 (by decide +kernel) ?_
      refine lv_icmp_ge (tgt := 27) hx hb dX3_making_6 (by decide) (fun c7 => ?_) (fun c7 => ?_)
      · skip
        have c7 : 4 ≤ i := (nI_leI (by omega) (by omega)).mp c7
        obtain rfl : i = 4 := by omega
        refine lv_iload_n hx hb dX3_making_27 rfl (lv_at hl 1 rfl) ?_
        exact ret_i hx hb hr rfl hlk hQ (Nat.le_refl _) (Nat.le_refl _) () rfl hK hP hD hS dX3_making_28
      · skip
        have c7 : ¬ (4 ≤ i) := fun h => c7 ((nI_leI (by omega) (by omega)).mpr h)
        refine lv_aload_n hx hb dX3_making_9 rfl (lv_at hl 0 rfl) ?_
        refine va_get (D := D) (ci := 3) (v := .ref m7) (C := RX3) (T := TX3) (N := 13) hx hb hts in_X3 hown hK hP 0 rfl rfl 7 (by decide) (hts _ q196) (fun _ h9 => h9) rfl dX3_making_10 ?_
        refine lv_iload_n hx hb dX3_making_13 rfl (lv_at hl 2 rfl) ?_
        refine ab_zald hx hb hK hP 7 1 rfl rfl i (rfl) (by omega) (by decide) dX3_making_14 ?_
        refine lv_if_eq (tgt := 21) hx hb dX3_making_15 (by decide) (fun c8 => ?_) (fun c8 => ?_)
        · skip
          have hc : cnt (isT th) i = cnt (isT th) (i + 1) := by
            show _ = cnt (isT th) i + (if isT th i = true then 1 else 0)
            rw [if_neg (by unfold isT; rw [c8]; decide), Nat.add_zero]
          rw [hc] at hl
          refine lv_iinc (v := nI (i + 1)) (lv' := [(2, .int (nI (i + 1))), (0, .ref m0), (1, .int (nI (cnt (isT th) (i + 1))))]) hx hb dX3_making_21 hl (k := 2) rfl (nI_inc1 _) (by decide) rfl (fun ls hl => ?_)
          refine lv_goto (tgt := 4) hx hb dX3_making_24 (by decide) ?_
          exact ih (i + 1) ls (by omega) (by omega) (lv_sub hl [1, 2, 0] rfl)
        · skip
          have hc : cnt (isT th) i + 1 = cnt (isT th) (i + 1) := by
            show _ = cnt (isT th) i + (if isT th i = true then 1 else 0)
            rw [if_pos (by unfold isT; exact decide_eq_true c8)]
          refine lv_iinc (v := nI ((cnt (isT th) i) + 1)) (lv' := [(1, .int (nI ((cnt (isT th) i) + 1))), (0, .ref m0), (2, .int (nI i))]) hx hb dX3_making_18 hl (k := 1) rfl (nI_inc1 _) (by decide) rfl (fun ls hl => ?_)
          rw [hc] at hl
          refine lv_iinc (v := nI (i + 1)) (lv' := [(2, .int (nI (i + 1))), (1, .int (nI (cnt (isT th) (i + 1)))), (0, .ref m0)]) hx hb dX3_making_21 hl (k := 2) rfl (nI_inc1 _) (by decide) rfl (fun ls hl => ?_)
          refine lv_goto (tgt := 4) hx hb dX3_making_24 (by decide) ?_
          exact ih (i + 1) ls (by omega) (by omega) (lv_sub hl [2, 1, 0] rfl)
  exact loop 5 0 ls (by omega) (by omega) (lv_sub hl [2, 1, 0] rfl)
set_option maxHeartbeats 4000000 in
set_option maxRecDepth 100000 in
/-- FragmentHouseModel.pass -/
theorem m_mPass (l : Launch) (D : va_G) (cB cZ cR cI : ClassId) (m0 m1 m2 m3 m4 m5 m6 m7 m8 m9 n : Nat) (tray sn ids ps es bs th by_ wh : Fn) (ln md nw : Int32) (t : Int32) : MM l yX3_pass cX3_pass 4 (some .int) { frames := 0, cells := 0, slots := 0, locals := 0 } D (tyS cB cZ cR cI) [.ref m0, .int t] (mw cB cZ cI m0 m1 m2 m3 m4 m5 m6 m7 m8 m9 n tray sn ids ps es bs th by_ wh ln md nw) (S := (Int32 × Fn)) (fun r u => ((t < nw ∨ nI 2000000000 < t) ∧ r = some (.int (-1)) ∧ u = (nw, th)) ∨ (¬ t < nw ∧ t ≤ nI 2000000000 ∧ r = some (.int (nI (cnt (isX th bs t) 4))) ∧ u = (t, thP th bs t 4))) (fun _ => tyS cB cZ cR cI) (fun u => mw cB cZ cI m0 m1 m2 m3 m4 m5 m6 m7 m8 m9 n tray sn ids ps es bs u.2 by_ wh ln md u.1) := by
  refine MM_of (by decide) (Nat.le_of_ble_eq_true rfl) ?_
  intro p e s m below meth c A ls R Q args hRm hQ hx hb hr hlk hml hown hts hin hK hE hA hP hD hS hl
  have hown : s.vm.findClass "FragmentHouseModel" = some m.cls := hown
  replace hl : lv_has ls 4 [(0, .ref m0), (1, .int t)] := hl
  replace hP : va_P D vwCl [(m0, .inr (3, [.ref m1, .int (nI n), .ref m2, .ref m3, .ref m4, .ref m5, .ref m6, .ref m7, .ref m8, .ref m9, .int ln, .int md, .int nw])), (m1, .inl (cB, 1480, .inl tray)), (m2, .inl (cI, 4, .inl sn)), (m3, .inl (cI, 4, .inl ids)), (m4, .inl (cI, 4, .inl ps)), (m5, .inl (cI, 4, .inl es)), (m6, .inl (cI, 4, .inl bs)), (m7, .inl (cZ, 4, .inl th)), (m8, .inl (cI, 16384, .inl by_)), (m9, .inl (cI, 4096, .inl wh))] s.heap := hP
  replace hD : va_D A [(m0, .inr (3, [.ref m1, .int (nI n), .ref m2, .ref m3, .ref m4, .ref m5, .ref m6, .ref m7, .ref m8, .ref m9, .int ln, .int md, .int nw])), (m1, .inl (cB, 1480, .inl tray)), (m2, .inl (cI, 4, .inl sn)), (m3, .inl (cI, 4, .inl ids)), (m4, .inl (cI, 4, .inl ps)), (m5, .inl (cI, 4, .inl es)), (m6, .inl (cI, 4, .inl bs)), (m7, .inl (cZ, 4, .inl th)), (m8, .inl (cI, 16384, .inl by_)), (m9, .inl (cI, 4096, .inl wh))] := hD
  have k14 : (t < nw ∨ nI 2000000000 < t) → W p l e R s m args below meth c s.heap [] 0 0 Q (F0 m 14 ls []) := by
    intro hk
    refine lv_iconst (v := (-1)) hx hb dX3_pass_14 (by decide +kernel) ?_
    exact ret_i hx hb hr rfl hlk hQ (Nat.le_refl _) (Nat.le_refl _) (nw, th) (Or.inl ⟨hk, rfl, rfl⟩) hK hP hD hS dX3_pass_15
  refine lv_iload_n hx hb dX3_pass_0 rfl (lv_at hl 1 rfl) ?_
  refine lv_aload_n hx hb dX3_pass_1 rfl (lv_at hl 0 rfl) ?_
  refine va_get (D := D) (ci := 3) (v := .int nw) (C := RX3) (T := TX3) (N := 13) hx hb hts in_X3 hown hK hP 0 rfl rfl 12 (by decide) (hts _ q201) (fun _ h9 => h9) rfl dX3_pass_2 ?_
  refine lv_icmp_lt (tgt := 14) hx hb dX3_pass_5 (by decide) (fun c9 => ?_) (fun c9 => ?_)
  · skip
    exact k14 (Or.inl c9)
  · skip
    refine lv_iload_n hx hb dX3_pass_8 rfl (lv_at hl 1 rfl) ?_
    refine lv_ldc hx hb hown (hts _ q258) dX3_pass_9 ?_
    refine lv_as (y := nI 2000000000) (by decide +kernel) ?_
    refine lv_icmp_le (tgt := 16) hx hb dX3_pass_11 (by decide) (fun c10 => ?_) (fun c10 => ?_)
    · skip
      refine lv_aload_n hx hb dX3_pass_16 rfl (lv_at hl 0 rfl) ?_
      refine lv_iload_n hx hb dX3_pass_17 rfl (lv_at hl 1 rfl) ?_
      refine va_put (D := D) (ci := 3) (v := .int t) (ty := .int) (C := RX3) (T := TX3) (N := 13) hx hb hts in_X3 tyX3 tyX3_ok nmX3 hown hK hP hD hS 0 rfl rfl 12 (by decide) (hts _ q201) (fun _ h9 => h9) rfl (by decide +kernel) rfl rfl (Nat.le_of_ble_eq_true rfl) dX3_pass_18 (fun H locs hP hD hS => ?_)
      have hP : va_P D vwCl [(m0, .inr (3, [.ref m1, .int (nI n), .ref m2, .ref m3, .ref m4, .ref m5, .ref m6, .ref m7, .ref m8, .ref m9, .int ln, .int md, .int t])), (m1, .inl (cB, 1480, .inl tray)), (m2, .inl (cI, 4, .inl sn)), (m3, .inl (cI, 4, .inl ids)), (m4, .inl (cI, 4, .inl ps)), (m5, .inl (cI, 4, .inl es)), (m6, .inl (cI, 4, .inl bs)), (m7, .inl (cZ, 4, .inl th)), (m8, .inl (cI, 16384, .inl by_)), (m9, .inl (cI, 4096, .inl wh))] H := hP
      have hD : va_D A [(m0, .inr (3, [.ref m1, .int (nI n), .ref m2, .ref m3, .ref m4, .ref m5, .ref m6, .ref m7, .ref m8, .ref m9, .int ln, .int md, .int t])), (m1, .inl (cB, 1480, .inl tray)), (m2, .inl (cI, 4, .inl sn)), (m3, .inl (cI, 4, .inl ids)), (m4, .inl (cI, 4, .inl ps)), (m5, .inl (cI, 4, .inl es)), (m6, .inl (cI, 4, .inl bs)), (m7, .inl (cZ, 4, .inl th)), (m8, .inl (cI, 16384, .inl by_)), (m9, .inl (cI, 4096, .inl wh))] := hD
      refine lv_iconst (v := nI 0) hx hb dX3_pass_21 (by decide +kernel) ?_
      refine lv_istore_n (lv' := [(2, .int (nI 0)), (0, .ref m0), (1, .int t)]) hx hb dX3_pass_22 rfl hl (by decide) rfl (fun ls hl => ?_)
      refine lv_iconst (v := nI 0) hx hb dX3_pass_23 (by decide +kernel) ?_
      refine lv_istore_n (lv' := [(3, .int (nI 0)), (2, .int (nI 0)), (0, .ref m0), (1, .int t)]) hx hb dX3_pass_24 rfl hl (by decide) rfl (fun ls hl => ?_)
      have loop : ∀ (d i : Nat) (H : Heap) (locs : List Loc) (ls : Array Slot), i ≤ 4 → 4 + 1 ≤ i + d → va_P D vwCl [(m0, .inr (3, [.ref m1, .int (nI n), .ref m2, .ref m3, .ref m4, .ref m5, .ref m6, .ref m7, .ref m8, .ref m9, .int ln, .int md, .int t])), (m1, .inl (cB, 1480, .inl tray)), (m2, .inl (cI, 4, .inl sn)), (m3, .inl (cI, 4, .inl ids)), (m4, .inl (cI, 4, .inl ps)), (m5, .inl (cI, 4, .inl es)), (m6, .inl (cI, 4, .inl bs)), (m7, .inl (cZ, 4, .inl (thP th bs t i))), (m8, .inl (cI, 16384, .inl by_)), (m9, .inl (cI, 4096, .inl wh))] H → va_D A [(m0, .inr (3, [.ref m1, .int (nI n), .ref m2, .ref m3, .ref m4, .ref m5, .ref m6, .ref m7, .ref m8, .ref m9, .int ln, .int md, .int t])), (m1, .inl (cB, 1480, .inl tray)), (m2, .inl (cI, 4, .inl sn)), (m3, .inl (cI, 4, .inl ids)), (m4, .inl (cI, 4, .inl ps)), (m5, .inl (cI, 4, .inl es)), (m6, .inl (cI, 4, .inl bs)), (m7, .inl (cZ, 4, .inl (thP th bs t i))), (m8, .inl (cI, 16384, .inl by_)), (m9, .inl (cI, 4096, .inl wh))] → va_S A s.heap H locs → lv_has ls 4 [(0, .ref m0), (1, .int t), (2, .int (nI (cnt (isX th bs t) i))), (3, .int (nI i))] → W p l e R s m args below meth c H locs 0 0 Q (F0 m 25 ls []) := by
        intro d
        induction d with
        | zero => intro i H locs ls q1 q2; exact absurd q2 (by omega)
        | succ d ih =>
          intro i H locs ls q1 q2 hP hD hS hl
          refine lv_iload_n hx hb dX3_pass_25 rfl (lv_at hl 3 rfl) ?_
          refine lv_iconst (v := nI 4) hx hb dX3_pass_26 (by decide +kernel) ?_
          refine lv_icmp_ge (tgt := 69) hx hb dX3_pass_27 (by decide) (fun c11 => ?_) (fun c11 => ?_)
          · skip
            have c11 : 4 ≤ i := (nI_leI (by omega) (by omega)).mp c11
            obtain rfl : i = 4 := by omega
            refine lv_iload_n hx hb dX3_pass_69 rfl (lv_at hl 2 rfl) ?_
            exact ret_i hx hb hr rfl hlk hQ (Nat.le_refl _) (Nat.le_refl _) (t, thP th bs t 4) (Or.inr ⟨c9, c10, rfl, rfl⟩) hK hP hD hS dX3_pass_70
          · skip
            have c11 : ¬ (4 ≤ i) := fun h => c11 ((nI_leI (by omega) (by omega)).mpr h)
            have k63 : ¬ isX th bs t i = true → W p l e R s m args below meth c H locs 0 0 Q (F0 m 63 ls []) := by
              intro hno
              have hc : cnt (isX th bs t) i = cnt (isX th bs t) (i + 1) := by
                show _ = cnt (isX th bs t) i + (if isX th bs t i = true then 1 else 0)
                rw [if_neg hno, Nat.add_zero]
              rw [hc] at hl
              rw [thP_k th bs t i hno] at hP hD
              refine lv_iinc (v := nI (i + 1)) (lv' := [(3, .int (nI (i + 1))), (0, .ref m0), (1, .int t), (2, .int (nI (cnt (isX th bs t) (i + 1))))]) hx hb dX3_pass_63 hl (k := 3) rfl (nI_inc1 _) (by decide) rfl (fun ls hl => ?_)
              refine lv_goto (tgt := 25) hx hb dX3_pass_66 (by decide) ?_
              exact ih (i + 1) H locs ls (by omega) (by omega) hP hD hS (lv_sub hl [1, 2, 3, 0] rfl)
            refine lv_aload_n hx hb dX3_pass_30 rfl (lv_at hl 0 rfl) ?_
            refine va_get (D := D) (ci := 3) (v := .ref m7) (C := RX3) (T := TX3) (N := 13) hx hb hts in_X3 hown hK hP 0 rfl rfl 7 (by decide) (hts _ q196) (fun _ h9 => h9) rfl dX3_pass_31 ?_
            refine lv_iload_n hx hb dX3_pass_34 rfl (lv_at hl 3 rfl) ?_
            refine ab_zald hx hb hK hP 7 1 rfl rfl i (rfl) (by omega) (by decide) dX3_pass_35 ?_
            refine lv_as (y := th i) (thP_at th bs t i) ?_
            refine lv_if_eq (tgt := 63) hx hb dX3_pass_36 (by decide) (fun c12 => ?_) (fun c12 => ?_)
            · skip
              exact k63 (fun h => (of_decide_eq_true h).1 c12)
            · skip
              refine lv_iload_n hx hb dX3_pass_39 rfl (lv_at hl 1 rfl) ?_
              refine lv_aload_n hx hb dX3_pass_40 rfl (lv_at hl 0 rfl) ?_
              refine va_get (D := D) (ci := 3) (v := .ref m6) (C := RX3) (T := TX3) (N := 13) hx hb hts in_X3 hown hK hP 0 rfl rfl 6 (by decide) (hts _ q195) (fun _ h9 => h9) rfl dX3_pass_41 ?_
              refine lv_iload_n hx hb dX3_pass_44 rfl (lv_at hl 3 rfl) ?_
              refine ab_iald hx hb hK hP 6 3 rfl rfl i (rfl) (by omega) (by decide) dX3_pass_45 ?_
              refine lv_isub hx hb dX3_pass_46 ?_
              refine lv_sipush (v := nI 15000) hx hb dX3_pass_47 (by decide +kernel) ?_
              refine lv_icmp_lt (tgt := 63) hx hb dX3_pass_50 (by decide) (fun c13 => ?_) (fun c13 => ?_)
              · skip
                exact k63 (fun h => absurd (of_decide_eq_true h).2 (Int32.not_le.mpr c13))
              · skip
                have hyes : isX th bs t i = true := decide_eq_true ⟨c12, Int32.not_lt.mp c13⟩
                refine lv_aload_n hx hb dX3_pass_53 rfl (lv_at hl 0 rfl) ?_
                refine va_get (D := D) (ci := 3) (v := .ref m7) (C := RX3) (T := TX3) (N := 13) hx hb hts in_X3 hown hK hP 0 rfl rfl 7 (by decide) (hts _ q196) (fun _ h9 => h9) rfl dX3_pass_54 ?_
                refine lv_iload_n hx hb dX3_pass_57 rfl (lv_at hl 3 rfl) ?_
                refine lv_iconst (v := nI 0) hx hb dX3_pass_58 (by decide +kernel) ?_
                refine ab_zast (y := 0) hx hb hK hP hD hS 7 1 rfl rfl i (rfl) (by omega) (by decide) (by decide +kernel) dX3_pass_59 (fun H locs hP hD hS => ?_)
                have hP : va_P D vwCl [(m0, .inr (3, [.ref m1, .int (nI n), .ref m2, .ref m3, .ref m4, .ref m5, .ref m6, .ref m7, .ref m8, .ref m9, .int ln, .int md, .int t])), (m1, .inl (cB, 1480, .inl tray)), (m2, .inl (cI, 4, .inl sn)), (m3, .inl (cI, 4, .inl ids)), (m4, .inl (cI, 4, .inl ps)), (m5, .inl (cI, 4, .inl es)), (m6, .inl (cI, 4, .inl bs)), (m7, .inl (cZ, 4, .inl (upd (thP th bs t i) i 0))), (m8, .inl (cI, 16384, .inl by_)), (m9, .inl (cI, 4096, .inl wh))] H := hP
                have hD : va_D A [(m0, .inr (3, [.ref m1, .int (nI n), .ref m2, .ref m3, .ref m4, .ref m5, .ref m6, .ref m7, .ref m8, .ref m9, .int ln, .int md, .int t])), (m1, .inl (cB, 1480, .inl tray)), (m2, .inl (cI, 4, .inl sn)), (m3, .inl (cI, 4, .inl ids)), (m4, .inl (cI, 4, .inl ps)), (m5, .inl (cI, 4, .inl es)), (m6, .inl (cI, 4, .inl bs)), (m7, .inl (cZ, 4, .inl (upd (thP th bs t i) i 0))), (m8, .inl (cI, 16384, .inl by_)), (m9, .inl (cI, 4096, .inl wh))] := hD
                rw [thP_s th bs t i hyes] at hP hD
                have hP : va_P D vwCl [(m0, .inr (3, [.ref m1, .int (nI n), .ref m2, .ref m3, .ref m4, .ref m5, .ref m6, .ref m7, .ref m8, .ref m9, .int ln, .int md, .int t])), (m1, .inl (cB, 1480, .inl tray)), (m2, .inl (cI, 4, .inl sn)), (m3, .inl (cI, 4, .inl ids)), (m4, .inl (cI, 4, .inl ps)), (m5, .inl (cI, 4, .inl es)), (m6, .inl (cI, 4, .inl bs)), (m7, .inl (cZ, 4, .inl (thP th bs t (i + 1)))), (m8, .inl (cI, 16384, .inl by_)), (m9, .inl (cI, 4096, .inl wh))] H := hP
                have hD : va_D A [(m0, .inr (3, [.ref m1, .int (nI n), .ref m2, .ref m3, .ref m4, .ref m5, .ref m6, .ref m7, .ref m8, .ref m9, .int ln, .int md, .int t])), (m1, .inl (cB, 1480, .inl tray)), (m2, .inl (cI, 4, .inl sn)), (m3, .inl (cI, 4, .inl ids)), (m4, .inl (cI, 4, .inl ps)), (m5, .inl (cI, 4, .inl es)), (m6, .inl (cI, 4, .inl bs)), (m7, .inl (cZ, 4, .inl (thP th bs t (i + 1)))), (m8, .inl (cI, 16384, .inl by_)), (m9, .inl (cI, 4096, .inl wh))] := hD
                have hc : cnt (isX th bs t) i + 1 = cnt (isX th bs t) (i + 1) := by
                  show _ = cnt (isX th bs t) i + (if isX th bs t i = true then 1 else 0)
                  rw [if_pos hyes]
                refine lv_iinc (v := nI ((cnt (isX th bs t) i) + 1)) (lv' := [(2, .int (nI ((cnt (isX th bs t) i) + 1))), (0, .ref m0), (1, .int t), (3, .int (nI i))]) hx hb dX3_pass_60 hl (k := 2) rfl (nI_inc1 _) (by decide) rfl (fun ls hl => ?_)
                rw [hc] at hl
                refine lv_iinc (v := nI (i + 1)) (lv' := [(3, .int (nI (i + 1))), (2, .int (nI (cnt (isX th bs t) (i + 1)))), (0, .ref m0), (1, .int t)]) hx hb dX3_pass_63 hl (k := 3) rfl (nI_inc1 _) (by decide) rfl (fun ls hl => ?_)
                refine lv_goto (tgt := 25) hx hb dX3_pass_66 (by decide) ?_
                exact ih (i + 1) H locs ls (by omega) (by omega) hP hD hS (lv_sub hl [2, 3, 1, 0] rfl)
      have hP : va_P D vwCl [(m0, .inr (3, [.ref m1, .int (nI n), .ref m2, .ref m3, .ref m4, .ref m5, .ref m6, .ref m7, .ref m8, .ref m9, .int ln, .int md, .int t])), (m1, .inl (cB, 1480, .inl tray)), (m2, .inl (cI, 4, .inl sn)), (m3, .inl (cI, 4, .inl ids)), (m4, .inl (cI, 4, .inl ps)), (m5, .inl (cI, 4, .inl es)), (m6, .inl (cI, 4, .inl bs)), (m7, .inl (cZ, 4, .inl (thP th bs t 0))), (m8, .inl (cI, 16384, .inl by_)), (m9, .inl (cI, 4096, .inl wh))] H := by rw [thP_0]; exact hP
      have hD : va_D A [(m0, .inr (3, [.ref m1, .int (nI n), .ref m2, .ref m3, .ref m4, .ref m5, .ref m6, .ref m7, .ref m8, .ref m9, .int ln, .int md, .int t])), (m1, .inl (cB, 1480, .inl tray)), (m2, .inl (cI, 4, .inl sn)), (m3, .inl (cI, 4, .inl ids)), (m4, .inl (cI, 4, .inl ps)), (m5, .inl (cI, 4, .inl es)), (m6, .inl (cI, 4, .inl bs)), (m7, .inl (cZ, 4, .inl (thP th bs t 0))), (m8, .inl (cI, 16384, .inl by_)), (m9, .inl (cI, 4096, .inl wh))] := by rw [thP_0]; exact hD
      exact loop 5 0 _ _ ls (by omega) (by omega) hP hD hS (lv_sub hl [2, 3, 1, 0] rfl)
    · skip
      exact k14 (Or.inr (Int32.not_le.mp c10))
end
section
/-! FragmentHouseModel.find, begin -/
set_option maxHeartbeats 4000000 in
set_option maxRecDepth 100000 in
/-- FragmentHouseModel.find -/
theorem m_mFind (l : Launch) (D : va_G) (cB cZ cR cI : ClassId) (m0 m1 m2 m3 m4 m5 m6 m7 m8 m9 n : Nat) (tray sn ids ps es bs th by_ wh : Fn) (ln md nw : Int32) (fr id pr : Int32) : MM l yX3_find cX3_find 5 (some .int) { frames := 0, cells := 0, slots := 0, locals := 0 } D (tyS cB cZ cR cI) [.ref m0, .int fr, .int id, .int pr] (mw cB cZ cI m0 m1 m2 m3 m4 m5 m6 m7 m8 m9 n tray sn ids ps es bs th by_ wh ln md nw) (S := Unit) (fun r u => (∃ i, i < 4 ∧ mkey sn ids ps th fr id pr i ∧ r = some (.int (nI i))) ∨ ((∀ i, i < 4 → ¬ mkey sn ids ps th fr id pr i) ∧ r = some (.int (-1)))) (fun _ => tyS cB cZ cR cI) (fun u => mw cB cZ cI m0 m1 m2 m3 m4 m5 m6 m7 m8 m9 n tray sn ids ps es bs th by_ wh ln md nw) := by
  refine MM_of (by decide) (Nat.le_of_ble_eq_true rfl) ?_
  intro p e s m below meth c A ls R Q args hRm hQ hx hb hr hlk hml hown hts hin hK hE hA hP hD hS hl
  have hown : s.vm.findClass "FragmentHouseModel" = some m.cls := hown
  replace hl : lv_has ls 5 [(0, .ref m0), (1, .int fr), (2, .int id), (3, .int pr)] := hl
  replace hP : va_P D vwCl [(m0, .inr (3, [.ref m1, .int (nI n), .ref m2, .ref m3, .ref m4, .ref m5, .ref m6, .ref m7, .ref m8, .ref m9, .int ln, .int md, .int nw])), (m1, .inl (cB, 1480, .inl tray)), (m2, .inl (cI, 4, .inl sn)), (m3, .inl (cI, 4, .inl ids)), (m4, .inl (cI, 4, .inl ps)), (m5, .inl (cI, 4, .inl es)), (m6, .inl (cI, 4, .inl bs)), (m7, .inl (cZ, 4, .inl th)), (m8, .inl (cI, 16384, .inl by_)), (m9, .inl (cI, 4096, .inl wh))] s.heap := hP
  replace hD : va_D A [(m0, .inr (3, [.ref m1, .int (nI n), .ref m2, .ref m3, .ref m4, .ref m5, .ref m6, .ref m7, .ref m8, .ref m9, .int ln, .int md, .int nw])), (m1, .inl (cB, 1480, .inl tray)), (m2, .inl (cI, 4, .inl sn)), (m3, .inl (cI, 4, .inl ids)), (m4, .inl (cI, 4, .inl ps)), (m5, .inl (cI, 4, .inl es)), (m6, .inl (cI, 4, .inl bs)), (m7, .inl (cZ, 4, .inl th)), (m8, .inl (cI, 16384, .inl by_)), (m9, .inl (cI, 4096, .inl wh))] := hD
  refine lv_iconst (v := nI 0) hx hb dX3_find_0 (by decide +kernel) ?_
  refine lv_istore (lv' := [(4, .int (nI 0)), (0, .ref m0), (1, .int fr), (2, .int id), (3, .int pr)]) hx hb dX3_find_1 hl (by decide) rfl (fun ls hl => ?_)
  have loop : ∀ (d i : Nat) (ls : Array Slot), i ≤ 4 → 4 + 1 ≤ i + d → (∀ j, j < i → ¬ mkey sn ids ps th fr id pr j) → lv_has ls 5 [(0, .ref m0), (1, .int fr), (2, .int id), (3, .int pr), (4, .int (nI i))] → W p l e R s m args below meth c s.heap [] 0 0 Q (F0 m 3 ls []) := by
    intro d
    induction d with
    | zero => intro i ls q1 q2; exact absurd q2 (by omega)
    | succ d ih =>
      intro i ls q1 q2 q3 hl
      refine lv_iload hx hb dX3_find_3 (lv_at hl 4 rfl) ?_
      refine lv_iconst (v := nI 4) hx hb dX3_find_5 (by decide +kernel) ?_
      refine lv_icmp_ge (tgt := 61) hx hb dX3_find_6 (by decide) (fun c14 => ?_) (fun c14 => ?_)
      · skip
        have c14 : 4 ≤ i := (nI_leI (by omega) (by omega)).mp c14
        obtain rfl : i = 4 := by omega
        refine lv_iconst (v := (-1)) hx hb dX3_find_61 (by decide +kernel) ?_
        exact ret_i hx hb hr rfl hlk hQ (Nat.le_refl _) (Nat.le_refl _) () (Or.inr ⟨q3, rfl⟩) hK hP hD hS dX3_find_62
      · skip
        have c14 : ¬ (4 ≤ i) := fun h => c14 ((nI_leI (by omega) (by omega)).mpr h)
        have k55 : ¬ mkey sn ids ps th fr id pr i → W p l e R s m args below meth c s.heap [] 0 0 Q (F0 m 55 ls []) := by
          intro hno
          refine lv_iinc (v := nI (i + 1)) (lv' := [(4, .int (nI (i + 1))), (0, .ref m0), (1, .int fr), (2, .int id), (3, .int pr)]) hx hb dX3_find_55 hl (k := 4) rfl (nI_inc1 _) (by decide) rfl (fun ls hl => ?_)
          refine lv_goto (tgt := 3) hx hb dX3_find_58 (by decide) ?_
          exact ih (i + 1) ls (by omega) (by omega) (lt_s q3 hno) (lv_sub hl [1, 2, 3, 4, 0] rfl)
        refine lv_aload_n hx hb dX3_find_9 rfl (lv_at hl 0 rfl) ?_
        refine va_get (D := D) (ci := 3) (v := .ref m7) (C := RX3) (T := TX3) (N := 13) hx hb hts in_X3 hown hK hP 0 rfl rfl 7 (by decide) (hts _ q196) (fun _ h9 => h9) rfl dX3_find_10 ?_
        refine lv_iload hx hb dX3_find_13 (lv_at hl 4 rfl) ?_
        refine ab_zald hx hb hK hP 7 1 rfl rfl i (rfl) (by omega) (by decide) dX3_find_15 ?_
        refine lv_if_eq (tgt := 55) hx hb dX3_find_16 (by decide) (fun c15 => ?_) (fun c15 => ?_)
        · skip
          exact k55 (fun h => h.1 c15)
        · skip
          refine lv_aload_n hx hb dX3_find_19 rfl (lv_at hl 0 rfl) ?_
          refine va_get (D := D) (ci := 3) (v := .ref m2) (C := RX3) (T := TX3) (N := 13) hx hb hts in_X3 hown hK hP 0 rfl rfl 2 (by decide) (hts _ q191) (fun _ h9 => h9) rfl dX3_find_20 ?_
          refine lv_iload hx hb dX3_find_23 (lv_at hl 4 rfl) ?_
          refine ab_iald hx hb hK hP 2 3 rfl rfl i (rfl) (by omega) (by decide) dX3_find_25 ?_
          refine lv_iload_n hx hb dX3_find_26 rfl (lv_at hl 1 rfl) ?_
          refine lv_icmp_ne (tgt := 55) hx hb dX3_find_27 (by decide) (fun c16 => ?_) (fun c16 => ?_)
          · skip
            exact k55 (fun h => c16 h.2.1)
          · skip
            refine lv_aload_n hx hb dX3_find_30 rfl (lv_at hl 0 rfl) ?_
            refine va_get (D := D) (ci := 3) (v := .ref m3) (C := RX3) (T := TX3) (N := 13) hx hb hts in_X3 hown hK hP 0 rfl rfl 3 (by decide) (hts _ q192) (fun _ h9 => h9) rfl dX3_find_31 ?_
            refine lv_iload hx hb dX3_find_34 (lv_at hl 4 rfl) ?_
            refine ab_iald hx hb hK hP 3 3 rfl rfl i (rfl) (by omega) (by decide) dX3_find_36 ?_
            refine lv_iload_n hx hb dX3_find_37 rfl (lv_at hl 2 rfl) ?_
            refine lv_icmp_ne (tgt := 55) hx hb dX3_find_38 (by decide) (fun c17 => ?_) (fun c17 => ?_)
            · skip
              exact k55 (fun h => c17 h.2.2.1)
            · skip
              refine lv_aload_n hx hb dX3_find_41 rfl (lv_at hl 0 rfl) ?_
              refine va_get (D := D) (ci := 3) (v := .ref m4) (C := RX3) (T := TX3) (N := 13) hx hb hts in_X3 hown hK hP 0 rfl rfl 4 (by decide) (hts _ q193) (fun _ h9 => h9) rfl dX3_find_42 ?_
              refine lv_iload hx hb dX3_find_45 (lv_at hl 4 rfl) ?_
              refine ab_iald hx hb hK hP 4 3 rfl rfl i (rfl) (by omega) (by decide) dX3_find_47 ?_
              refine lv_iload_n hx hb dX3_find_48 rfl (lv_at hl 3 rfl) ?_
              refine lv_icmp_ne (tgt := 55) hx hb dX3_find_49 (by decide) (fun c18 => ?_) (fun c18 => ?_)
              · skip
                exact k55 (fun h => c18 h.2.2.2)
              · skip
                refine lv_iload hx hb dX3_find_52 (lv_at hl 4 rfl) ?_
                exact ret_i hx hb hr rfl hlk hQ (Nat.le_refl _) (Nat.le_refl _) () (Or.inl ⟨i, by omega, ⟨c15, c16, c17, c18⟩, rfl⟩) hK hP hD hS dX3_find_54
  exact loop 5 0 ls (by omega) (by omega) (fun j h => absurd h (by omega)) (lv_sub hl [1, 2, 3, 4, 0] rfl)
set_option maxHeartbeats 4000000 in
set_option maxRecDepth 100000 in
/-- FragmentHouseModel.begin -/
theorem m_mBegin (l : Launch) (D : va_G) (cB cZ cR cI : ClassId) (m0 m1 m2 m3 m4 m5 m6 m7 m8 m9 n : Nat) (tray sn ids ps es bs th by_ wh : Fn) (ln md nw : Int32) (fr id pr : Int32) : MM l yX3_begin cX3_begin 6 (some .int) { frames := 0, cells := 0, slots := 0, locals := 0 } D (tyS cB cZ cR cI) [.ref m0, .int fr, .int id, .int pr] (mw cB cZ cI m0 m1 m2 m3 m4 m5 m6 m7 m8 m9 n tray sn ids ps es bs th by_ wh ln md nw) (S := (Option Nat)) (fun r u => (∃ k, k < 4 ∧ th k = 0 ∧ u = some k ∧ r = some (.int (nI k))) ∨ ((∀ i, i < 4 → ¬ th i = 0) ∧ u = none ∧ r = some (.int (-1)))) (fun _ => tyS cB cZ cR cI) (fun u => mwB cB cZ cI m0 m1 m2 m3 m4 m5 m6 m7 m8 m9 n tray sn ids ps es bs th by_ wh ln md nw fr id pr u) := by
  refine MM_of (by decide) (Nat.le_of_ble_eq_true rfl) ?_
  intro p e s m below meth c A ls R Q args hRm hQ hx hb hr hlk hml hown hts hin hK hE hA hP hD hS hl
  have hown : s.vm.findClass "FragmentHouseModel" = some m.cls := hown
  replace hl : lv_has ls 6 [(0, .ref m0), (1, .int fr), (2, .int id), (3, .int pr)] := hl
  replace hP : va_P D vwCl [(m0, .inr (3, [.ref m1, .int (nI n), .ref m2, .ref m3, .ref m4, .ref m5, .ref m6, .ref m7, .ref m8, .ref m9, .int ln, .int md, .int nw])), (m1, .inl (cB, 1480, .inl tray)), (m2, .inl (cI, 4, .inl sn)), (m3, .inl (cI, 4, .inl ids)), (m4, .inl (cI, 4, .inl ps)), (m5, .inl (cI, 4, .inl es)), (m6, .inl (cI, 4, .inl bs)), (m7, .inl (cZ, 4, .inl th)), (m8, .inl (cI, 16384, .inl by_)), (m9, .inl (cI, 4096, .inl wh))] s.heap := hP
  replace hD : va_D A [(m0, .inr (3, [.ref m1, .int (nI n), .ref m2, .ref m3, .ref m4, .ref m5, .ref m6, .ref m7, .ref m8, .ref m9, .int ln, .int md, .int nw])), (m1, .inl (cB, 1480, .inl tray)), (m2, .inl (cI, 4, .inl sn)), (m3, .inl (cI, 4, .inl ids)), (m4, .inl (cI, 4, .inl ps)), (m5, .inl (cI, 4, .inl es)), (m6, .inl (cI, 4, .inl bs)), (m7, .inl (cZ, 4, .inl th)), (m8, .inl (cI, 16384, .inl by_)), (m9, .inl (cI, 4096, .inl wh))] := hD
  refine lv_iconst (v := nI 0) hx hb dX3_begin_0 (by decide +kernel) ?_
  refine lv_istore (lv' := [(4, .int (nI 0)), (0, .ref m0), (1, .int fr), (2, .int id), (3, .int pr)]) hx hb dX3_begin_1 hl (by decide) rfl (fun ls hl => ?_)
  have loop : ∀ (d i : Nat) (ls : Array Slot), i ≤ 4 → 4 + 1 ≤ i + d → (∀ j, j < i → ¬ th j = 0) → lv_has ls 6 [(0, .ref m0), (1, .int fr), (2, .int id), (3, .int pr), (4, .int (nI i))] → W p l e R s m args below meth c s.heap [] 0 0 Q (F0 m 3 ls []) := by
    intro d
    induction d with
    | zero => intro i ls q1 q2; exact absurd q2 (by omega)
    | succ d ih =>
      intro i ls q1 q2 q3 hl
      refine lv_iload hx hb dX3_begin_3 (lv_at hl 4 rfl) ?_
      refine lv_iconst (v := nI 4) hx hb dX3_begin_5 (by decide +kernel) ?_
      refine lv_icmp_ge (tgt := 111) hx hb dX3_begin_6 (by decide) (fun c19 => ?_) (fun c19 => ?_)
      · skip
        have c19 : 4 ≤ i := (nI_leI (by omega) (by omega)).mp c19
        obtain rfl : i = 4 := by omega
        refine lv_iconst (v := (-1)) hx hb dX3_begin_111 (by decide +kernel) ?_
        exact ret_i hx hb hr rfl hlk hQ (Nat.le_refl _) (Nat.le_refl _) none (Or.inr ⟨q3, rfl, rfl⟩) hK hP hD hS dX3_begin_112
      · skip
        have c19 : ¬ (4 ≤ i) := fun h => c19 ((nI_leI (by omega) (by omega)).mpr h)
        refine lv_aload_n hx hb dX3_begin_9 rfl (lv_at hl 0 rfl) ?_
        refine va_get (D := D) (ci := 3) (v := .ref m7) (C := RX3) (T := TX3) (N := 13) hx hb hts in_X3 hown hK hP 0 rfl rfl 7 (by decide) (hts _ q196) (fun _ h9 => h9) rfl dX3_begin_10 ?_
        refine lv_iload hx hb dX3_begin_13 (lv_at hl 4 rfl) ?_
        refine ab_zald hx hb hK hP 7 1 rfl rfl i (rfl) (by omega) (by decide) dX3_begin_15 ?_
        refine lv_if_ne (tgt := 105) hx hb dX3_begin_16 (by decide) (fun c20 => ?_) (fun c20 => ?_)
        · skip
          refine lv_iinc (v := nI (i + 1)) (lv' := [(4, .int (nI (i + 1))), (0, .ref m0), (1, .int fr), (2, .int id), (3, .int pr)]) hx hb dX3_begin_105 hl (k := 4) rfl (nI_inc1 _) (by decide) rfl (fun ls hl => ?_)
          refine lv_goto (tgt := 3) hx hb dX3_begin_108 (by decide) ?_
          exact ih (i + 1) ls (by omega) (by omega) (lt_s q3 c20) (lv_sub hl [1, 2, 3, 4, 0] rfl)
        · skip
          refine lv_aload_n hx hb dX3_begin_19 rfl (lv_at hl 0 rfl) ?_
          refine va_get (D := D) (ci := 3) (v := .ref m7) (C := RX3) (T := TX3) (N := 13) hx hb hts in_X3 hown hK hP 0 rfl rfl 7 (by decide) (hts _ q196) (fun _ h9 => h9) rfl dX3_begin_20 ?_
          refine lv_iload hx hb dX3_begin_23 (lv_at hl 4 rfl) ?_
          refine lv_iconst (v := nI 1) hx hb dX3_begin_25 (by decide +kernel) ?_
          refine ab_zast (y := 1) hx hb hK hP hD hS 7 1 rfl rfl i (rfl) (by omega) (by decide) (by decide +kernel) dX3_begin_26 (fun H locs hP hD hS => ?_)
          have hP : va_P D vwCl [(m0, .inr (3, [.ref m1, .int (nI n), .ref m2, .ref m3, .ref m4, .ref m5, .ref m6, .ref m7, .ref m8, .ref m9, .int ln, .int md, .int nw])), (m1, .inl (cB, 1480, .inl tray)), (m2, .inl (cI, 4, .inl sn)), (m3, .inl (cI, 4, .inl ids)), (m4, .inl (cI, 4, .inl ps)), (m5, .inl (cI, 4, .inl es)), (m6, .inl (cI, 4, .inl bs)), (m7, .inl (cZ, 4, .inl (upd th i 1))), (m8, .inl (cI, 16384, .inl by_)), (m9, .inl (cI, 4096, .inl wh))] H := hP
          have hD : va_D A [(m0, .inr (3, [.ref m1, .int (nI n), .ref m2, .ref m3, .ref m4, .ref m5, .ref m6, .ref m7, .ref m8, .ref m9, .int ln, .int md, .int nw])), (m1, .inl (cB, 1480, .inl tray)), (m2, .inl (cI, 4, .inl sn)), (m3, .inl (cI, 4, .inl ids)), (m4, .inl (cI, 4, .inl ps)), (m5, .inl (cI, 4, .inl es)), (m6, .inl (cI, 4, .inl bs)), (m7, .inl (cZ, 4, .inl (upd th i 1))), (m8, .inl (cI, 16384, .inl by_)), (m9, .inl (cI, 4096, .inl wh))] := hD
          refine lv_aload_n hx hb dX3_begin_27 rfl (lv_at hl 0 rfl) ?_
          refine va_get (D := D) (ci := 3) (v := .ref m2) (C := RX3) (T := TX3) (N := 13) hx hb hts in_X3 hown hK hP 0 rfl rfl 2 (by decide) (hts _ q191) (fun _ h9 => h9) rfl dX3_begin_28 ?_
          refine lv_iload hx hb dX3_begin_31 (lv_at hl 4 rfl) ?_
          refine lv_iload_n hx hb dX3_begin_33 rfl (lv_at hl 1 rfl) ?_
          refine ab_iast  hx hb hK hP hD hS 2 3 rfl rfl i (rfl) (by omega) (by decide) dX3_begin_34 (fun H locs hP hD hS => ?_)
          have hP : va_P D vwCl [(m0, .inr (3, [.ref m1, .int (nI n), .ref m2, .ref m3, .ref m4, .ref m5, .ref m6, .ref m7, .ref m8, .ref m9, .int ln, .int md, .int nw])), (m1, .inl (cB, 1480, .inl tray)), (m2, .inl (cI, 4, .inl (upd sn i fr))), (m3, .inl (cI, 4, .inl ids)), (m4, .inl (cI, 4, .inl ps)), (m5, .inl (cI, 4, .inl es)), (m6, .inl (cI, 4, .inl bs)), (m7, .inl (cZ, 4, .inl (upd th i 1))), (m8, .inl (cI, 16384, .inl by_)), (m9, .inl (cI, 4096, .inl wh))] H := hP
          have hD : va_D A [(m0, .inr (3, [.ref m1, .int (nI n), .ref m2, .ref m3, .ref m4, .ref m5, .ref m6, .ref m7, .ref m8, .ref m9, .int ln, .int md, .int nw])), (m1, .inl (cB, 1480, .inl tray)), (m2, .inl (cI, 4, .inl (upd sn i fr))), (m3, .inl (cI, 4, .inl ids)), (m4, .inl (cI, 4, .inl ps)), (m5, .inl (cI, 4, .inl es)), (m6, .inl (cI, 4, .inl bs)), (m7, .inl (cZ, 4, .inl (upd th i 1))), (m8, .inl (cI, 16384, .inl by_)), (m9, .inl (cI, 4096, .inl wh))] := hD
          refine lv_aload_n hx hb dX3_begin_35 rfl (lv_at hl 0 rfl) ?_
          refine va_get (D := D) (ci := 3) (v := .ref m3) (C := RX3) (T := TX3) (N := 13) hx hb hts in_X3 hown hK hP 0 rfl rfl 3 (by decide) (hts _ q192) (fun _ h9 => h9) rfl dX3_begin_36 ?_
          refine lv_iload hx hb dX3_begin_39 (lv_at hl 4 rfl) ?_
          refine lv_iload_n hx hb dX3_begin_41 rfl (lv_at hl 2 rfl) ?_
          refine ab_iast  hx hb hK hP hD hS 3 3 rfl rfl i (rfl) (by omega) (by decide) dX3_begin_42 (fun H locs hP hD hS => ?_)
          have hP : va_P D vwCl [(m0, .inr (3, [.ref m1, .int (nI n), .ref m2, .ref m3, .ref m4, .ref m5, .ref m6, .ref m7, .ref m8, .ref m9, .int ln, .int md, .int nw])), (m1, .inl (cB, 1480, .inl tray)), (m2, .inl (cI, 4, .inl (upd sn i fr))), (m3, .inl (cI, 4, .inl (upd ids i id))), (m4, .inl (cI, 4, .inl ps)), (m5, .inl (cI, 4, .inl es)), (m6, .inl (cI, 4, .inl bs)), (m7, .inl (cZ, 4, .inl (upd th i 1))), (m8, .inl (cI, 16384, .inl by_)), (m9, .inl (cI, 4096, .inl wh))] H := hP
          have hD : va_D A [(m0, .inr (3, [.ref m1, .int (nI n), .ref m2, .ref m3, .ref m4, .ref m5, .ref m6, .ref m7, .ref m8, .ref m9, .int ln, .int md, .int nw])), (m1, .inl (cB, 1480, .inl tray)), (m2, .inl (cI, 4, .inl (upd sn i fr))), (m3, .inl (cI, 4, .inl (upd ids i id))), (m4, .inl (cI, 4, .inl ps)), (m5, .inl (cI, 4, .inl es)), (m6, .inl (cI, 4, .inl bs)), (m7, .inl (cZ, 4, .inl (upd th i 1))), (m8, .inl (cI, 16384, .inl by_)), (m9, .inl (cI, 4096, .inl wh))] := hD
          refine lv_aload_n hx hb dX3_begin_43 rfl (lv_at hl 0 rfl) ?_
          refine va_get (D := D) (ci := 3) (v := .ref m4) (C := RX3) (T := TX3) (N := 13) hx hb hts in_X3 hown hK hP 0 rfl rfl 4 (by decide) (hts _ q193) (fun _ h9 => h9) rfl dX3_begin_44 ?_
          refine lv_iload hx hb dX3_begin_47 (lv_at hl 4 rfl) ?_
          refine lv_iload_n hx hb dX3_begin_49 rfl (lv_at hl 3 rfl) ?_
          refine ab_iast  hx hb hK hP hD hS 4 3 rfl rfl i (rfl) (by omega) (by decide) dX3_begin_50 (fun H locs hP hD hS => ?_)
          have hP : va_P D vwCl [(m0, .inr (3, [.ref m1, .int (nI n), .ref m2, .ref m3, .ref m4, .ref m5, .ref m6, .ref m7, .ref m8, .ref m9, .int ln, .int md, .int nw])), (m1, .inl (cB, 1480, .inl tray)), (m2, .inl (cI, 4, .inl (upd sn i fr))), (m3, .inl (cI, 4, .inl (upd ids i id))), (m4, .inl (cI, 4, .inl (upd ps i pr))), (m5, .inl (cI, 4, .inl es)), (m6, .inl (cI, 4, .inl bs)), (m7, .inl (cZ, 4, .inl (upd th i 1))), (m8, .inl (cI, 16384, .inl by_)), (m9, .inl (cI, 4096, .inl wh))] H := hP
          have hD : va_D A [(m0, .inr (3, [.ref m1, .int (nI n), .ref m2, .ref m3, .ref m4, .ref m5, .ref m6, .ref m7, .ref m8, .ref m9, .int ln, .int md, .int nw])), (m1, .inl (cB, 1480, .inl tray)), (m2, .inl (cI, 4, .inl (upd sn i fr))), (m3, .inl (cI, 4, .inl (upd ids i id))), (m4, .inl (cI, 4, .inl (upd ps i pr))), (m5, .inl (cI, 4, .inl es)), (m6, .inl (cI, 4, .inl bs)), (m7, .inl (cZ, 4, .inl (upd th i 1))), (m8, .inl (cI, 16384, .inl by_)), (m9, .inl (cI, 4096, .inl wh))] := hD
          refine lv_aload_n hx hb dX3_begin_51 rfl (lv_at hl 0 rfl) ?_
          refine va_get (D := D) (ci := 3) (v := .ref m5) (C := RX3) (T := TX3) (N := 13) hx hb hts in_X3 hown hK hP 0 rfl rfl 5 (by decide) (hts _ q194) (fun _ h9 => h9) rfl dX3_begin_52 ?_
          refine lv_iload hx hb dX3_begin_55 (lv_at hl 4 rfl) ?_
          refine lv_iconst (v := (-1)) hx hb dX3_begin_57 (by decide +kernel) ?_
          refine ab_iast  hx hb hK hP hD hS 5 3 rfl rfl i (rfl) (by omega) (by decide) dX3_begin_58 (fun H locs hP hD hS => ?_)
          have hP : va_P D vwCl [(m0, .inr (3, [.ref m1, .int (nI n), .ref m2, .ref m3, .ref m4, .ref m5, .ref m6, .ref m7, .ref m8, .ref m9, .int ln, .int md, .int nw])), (m1, .inl (cB, 1480, .inl tray)), (m2, .inl (cI, 4, .inl (upd sn i fr))), (m3, .inl (cI, 4, .inl (upd ids i id))), (m4, .inl (cI, 4, .inl (upd ps i pr))), (m5, .inl (cI, 4, .inl (upd es i (-1)))), (m6, .inl (cI, 4, .inl bs)), (m7, .inl (cZ, 4, .inl (upd th i 1))), (m8, .inl (cI, 16384, .inl by_)), (m9, .inl (cI, 4096, .inl wh))] H := hP
          have hD : va_D A [(m0, .inr (3, [.ref m1, .int (nI n), .ref m2, .ref m3, .ref m4, .ref m5, .ref m6, .ref m7, .ref m8, .ref m9, .int ln, .int md, .int nw])), (m1, .inl (cB, 1480, .inl tray)), (m2, .inl (cI, 4, .inl (upd sn i fr))), (m3, .inl (cI, 4, .inl (upd ids i id))), (m4, .inl (cI, 4, .inl (upd ps i pr))), (m5, .inl (cI, 4, .inl (upd es i (-1)))), (m6, .inl (cI, 4, .inl bs)), (m7, .inl (cZ, 4, .inl (upd th i 1))), (m8, .inl (cI, 16384, .inl by_)), (m9, .inl (cI, 4096, .inl wh))] := hD
          refine lv_aload_n hx hb dX3_begin_59 rfl (lv_at hl 0 rfl) ?_
          refine va_get (D := D) (ci := 3) (v := .ref m6) (C := RX3) (T := TX3) (N := 13) hx hb hts in_X3 hown hK hP 0 rfl rfl 6 (by decide) (hts _ q195) (fun _ h9 => h9) rfl dX3_begin_60 ?_
          refine lv_iload hx hb dX3_begin_63 (lv_at hl 4 rfl) ?_
          refine lv_aload_n hx hb dX3_begin_65 rfl (lv_at hl 0 rfl) ?_
          refine va_get (D := D) (ci := 3) (v := .int nw) (C := RX3) (T := TX3) (N := 13) hx hb hts in_X3 hown hK hP 0 rfl rfl 12 (by decide) (hts _ q201) (fun _ h9 => h9) rfl dX3_begin_66 ?_
          refine ab_iast  hx hb hK hP hD hS 6 3 rfl rfl i (rfl) (by omega) (by decide) dX3_begin_69 (fun H locs hP hD hS => ?_)
          have hP : va_P D vwCl [(m0, .inr (3, [.ref m1, .int (nI n), .ref m2, .ref m3, .ref m4, .ref m5, .ref m6, .ref m7, .ref m8, .ref m9, .int ln, .int md, .int nw])), (m1, .inl (cB, 1480, .inl tray)), (m2, .inl (cI, 4, .inl (upd sn i fr))), (m3, .inl (cI, 4, .inl (upd ids i id))), (m4, .inl (cI, 4, .inl (upd ps i pr))), (m5, .inl (cI, 4, .inl (upd es i (-1)))), (m6, .inl (cI, 4, .inl (upd bs i nw))), (m7, .inl (cZ, 4, .inl (upd th i 1))), (m8, .inl (cI, 16384, .inl by_)), (m9, .inl (cI, 4096, .inl wh))] H := hP
          have hD : va_D A [(m0, .inr (3, [.ref m1, .int (nI n), .ref m2, .ref m3, .ref m4, .ref m5, .ref m6, .ref m7, .ref m8, .ref m9, .int ln, .int md, .int nw])), (m1, .inl (cB, 1480, .inl tray)), (m2, .inl (cI, 4, .inl (upd sn i fr))), (m3, .inl (cI, 4, .inl (upd ids i id))), (m4, .inl (cI, 4, .inl (upd ps i pr))), (m5, .inl (cI, 4, .inl (upd es i (-1)))), (m6, .inl (cI, 4, .inl (upd bs i nw))), (m7, .inl (cZ, 4, .inl (upd th i 1))), (m8, .inl (cI, 16384, .inl by_)), (m9, .inl (cI, 4096, .inl wh))] := hD
          refine lv_iconst (v := nI 0) hx hb dX3_begin_70 (by decide +kernel) ?_
          refine lv_istore (lv' := [(5, .int (nI 0)), (0, .ref m0), (1, .int fr), (2, .int id), (3, .int pr), (4, .int (nI i))]) hx hb dX3_begin_71 hl (by decide) rfl (fun ls hl => ?_)
          have lp : ∀ (d j : Nat) (H : Heap) (locs : List Loc) (ls : Array Slot), j ≤ 4096 → 4096 + 1 ≤ j + d → va_P D vwCl [(m0, .inr (3, [.ref m1, .int (nI n), .ref m2, .ref m3, .ref m4, .ref m5, .ref m6, .ref m7, .ref m8, .ref m9, .int ln, .int md, .int nw])), (m1, .inl (cB, 1480, .inl tray)), (m2, .inl (cI, 4, .inl (upd sn i fr))), (m3, .inl (cI, 4, .inl (upd ids i id))), (m4, .inl (cI, 4, .inl (upd ps i pr))), (m5, .inl (cI, 4, .inl (upd es i (-1)))), (m6, .inl (cI, 4, .inl (upd bs i nw))), (m7, .inl (cZ, 4, .inl (upd th i 1))), (m8, .inl (cI, 16384, .inl (seg (i * 4096) j (fun _ => 0) by_))), (m9, .inl (cI, 4096, .inl wh))] H → va_D A [(m0, .inr (3, [.ref m1, .int (nI n), .ref m2, .ref m3, .ref m4, .ref m5, .ref m6, .ref m7, .ref m8, .ref m9, .int ln, .int md, .int nw])), (m1, .inl (cB, 1480, .inl tray)), (m2, .inl (cI, 4, .inl (upd sn i fr))), (m3, .inl (cI, 4, .inl (upd ids i id))), (m4, .inl (cI, 4, .inl (upd ps i pr))), (m5, .inl (cI, 4, .inl (upd es i (-1)))), (m6, .inl (cI, 4, .inl (upd bs i nw))), (m7, .inl (cZ, 4, .inl (upd th i 1))), (m8, .inl (cI, 16384, .inl (seg (i * 4096) j (fun _ => 0) by_))), (m9, .inl (cI, 4096, .inl wh))] → va_S A s.heap H locs → lv_has ls 6 [(0, .ref m0), (1, .int fr), (2, .int id), (3, .int pr), (4, .int (nI i)), (5, .int (nI j))] → W p l e R s m args below meth c H locs 0 0 Q (F0 m 73 ls []) := by
            intro d
            induction d with
            | zero => intro j H locs ls p1 p2; exact absurd p2 (by omega)
            | succ d ih2 =>
              intro j H locs ls p1 p2 hP hD hS hl
              refine lv_iload hx hb dX3_begin_73 (lv_at hl 5 rfl) ?_
              refine lv_sipush (v := nI 4096) hx hb dX3_begin_75 (by decide +kernel) ?_
              refine lv_icmp_ge (tgt := 102) hx hb dX3_begin_78 (by decide) (fun c21 => ?_) (fun c21 => ?_)
              · skip
                have c21 : 4096 ≤ j := (nI_leI (by omega) (by omega)).mp c21
                obtain rfl : j = 4096 := by omega
                refine lv_iload hx hb dX3_begin_102 (lv_at hl 4 rfl) ?_
                exact ret_i hx hb hr rfl hlk hQ (Nat.le_refl _) (Nat.le_refl _) (some i) (Or.inl ⟨i, by omega, c20, rfl, rfl⟩) hK hP hD hS dX3_begin_104
              · skip
                have c21 : ¬ (4096 ≤ j) := fun h => c21 ((nI_leI (by omega) (by omega)).mpr h)
                refine lv_aload_n hx hb dX3_begin_81 rfl (lv_at hl 0 rfl) ?_
                refine va_get (D := D) (ci := 3) (v := .ref m8) (C := RX3) (T := TX3) (N := 13) hx hb hts in_X3 hown hK hP 0 rfl rfl 8 (by decide) (hts _ q197) (fun _ h9 => h9) rfl dX3_begin_82 ?_
                refine lv_iload hx hb dX3_begin_85 (lv_at hl 4 rfl) ?_
                refine lv_sipush (v := nI 4096) hx hb dX3_begin_87 (by decide +kernel) ?_
                refine lv_imul hx hb dX3_begin_90 ?_
                refine lv_as (y := nI (i * 4096)) (pk_mul _ _) ?_
                refine lv_iload hx hb dX3_begin_91 (lv_at hl 5 rfl) ?_
                refine lv_iadd hx hb dX3_begin_93 ?_
                refine lv_as (y := nI ((i * 4096) + j)) (nI_add _ _) ?_
                refine lv_iconst (v := nI 0) hx hb dX3_begin_94 (by decide +kernel) ?_
                refine ab_iast  hx hb hK hP hD hS 8 3 rfl rfl ((i * 4096) + j) (rfl) (by omega) (by decide) dX3_begin_95 (fun H locs hP hD hS => ?_)
                have hP : va_P D vwCl [(m0, .inr (3, [.ref m1, .int (nI n), .ref m2, .ref m3, .ref m4, .ref m5, .ref m6, .ref m7, .ref m8, .ref m9, .int ln, .int md, .int nw])), (m1, .inl (cB, 1480, .inl tray)), (m2, .inl (cI, 4, .inl (upd sn i fr))), (m3, .inl (cI, 4, .inl (upd ids i id))), (m4, .inl (cI, 4, .inl (upd ps i pr))), (m5, .inl (cI, 4, .inl (upd es i (-1)))), (m6, .inl (cI, 4, .inl (upd bs i nw))), (m7, .inl (cZ, 4, .inl (upd th i 1))), (m8, .inl (cI, 16384, .inl (upd (seg (i * 4096) j (fun _ => 0) by_) ((i * 4096) + j) (nI 0)))), (m9, .inl (cI, 4096, .inl wh))] H := hP
                have hD : va_D A [(m0, .inr (3, [.ref m1, .int (nI n), .ref m2, .ref m3, .ref m4, .ref m5, .ref m6, .ref m7, .ref m8, .ref m9, .int ln, .int md, .int nw])), (m1, .inl (cB, 1480, .inl tray)), (m2, .inl (cI, 4, .inl (upd sn i fr))), (m3, .inl (cI, 4, .inl (upd ids i id))), (m4, .inl (cI, 4, .inl (upd ps i pr))), (m5, .inl (cI, 4, .inl (upd es i (-1)))), (m6, .inl (cI, 4, .inl (upd bs i nw))), (m7, .inl (cZ, 4, .inl (upd th i 1))), (m8, .inl (cI, 16384, .inl (upd (seg (i * 4096) j (fun _ => 0) by_) ((i * 4096) + j) (nI 0)))), (m9, .inl (cI, 4096, .inl wh))] := hD
                rw [show (nI 0 : Int32) = (fun _ => 0 : Fn) j from rfl, seg_s] at hP hD
                have hP : va_P D vwCl [(m0, .inr (3, [.ref m1, .int (nI n), .ref m2, .ref m3, .ref m4, .ref m5, .ref m6, .ref m7, .ref m8, .ref m9, .int ln, .int md, .int nw])), (m1, .inl (cB, 1480, .inl tray)), (m2, .inl (cI, 4, .inl (upd sn i fr))), (m3, .inl (cI, 4, .inl (upd ids i id))), (m4, .inl (cI, 4, .inl (upd ps i pr))), (m5, .inl (cI, 4, .inl (upd es i (-1)))), (m6, .inl (cI, 4, .inl (upd bs i nw))), (m7, .inl (cZ, 4, .inl (upd th i 1))), (m8, .inl (cI, 16384, .inl (seg (i * 4096) (j + 1) (fun _ => 0) by_))), (m9, .inl (cI, 4096, .inl wh))] H := hP
                have hD : va_D A [(m0, .inr (3, [.ref m1, .int (nI n), .ref m2, .ref m3, .ref m4, .ref m5, .ref m6, .ref m7, .ref m8, .ref m9, .int ln, .int md, .int nw])), (m1, .inl (cB, 1480, .inl tray)), (m2, .inl (cI, 4, .inl (upd sn i fr))), (m3, .inl (cI, 4, .inl (upd ids i id))), (m4, .inl (cI, 4, .inl (upd ps i pr))), (m5, .inl (cI, 4, .inl (upd es i (-1)))), (m6, .inl (cI, 4, .inl (upd bs i nw))), (m7, .inl (cZ, 4, .inl (upd th i 1))), (m8, .inl (cI, 16384, .inl (seg (i * 4096) (j + 1) (fun _ => 0) by_))), (m9, .inl (cI, 4096, .inl wh))] := hD
                refine lv_iinc (v := nI (j + 1)) (lv' := [(5, .int (nI (j + 1))), (0, .ref m0), (1, .int fr), (2, .int id), (3, .int pr), (4, .int (nI i))]) hx hb dX3_begin_96 hl (k := 5) rfl (nI_inc1 _) (by decide) rfl (fun ls hl => ?_)
                refine lv_goto (tgt := 73) hx hb dX3_begin_99 (by decide) ?_
                exact ih2 (j + 1) H locs ls (by omega) (by omega) hP hD hS (lv_sub hl [1, 2, 3, 4, 5, 0] rfl)
          have hP : va_P D vwCl [(m0, .inr (3, [.ref m1, .int (nI n), .ref m2, .ref m3, .ref m4, .ref m5, .ref m6, .ref m7, .ref m8, .ref m9, .int ln, .int md, .int nw])), (m1, .inl (cB, 1480, .inl tray)), (m2, .inl (cI, 4, .inl (upd sn i fr))), (m3, .inl (cI, 4, .inl (upd ids i id))), (m4, .inl (cI, 4, .inl (upd ps i pr))), (m5, .inl (cI, 4, .inl (upd es i (-1)))), (m6, .inl (cI, 4, .inl (upd bs i nw))), (m7, .inl (cZ, 4, .inl (upd th i 1))), (m8, .inl (cI, 16384, .inl (seg (i * 4096) 0 (fun _ => 0) by_))), (m9, .inl (cI, 4096, .inl wh))] H := by rw [seg_0]; exact hP
          have hD : va_D A [(m0, .inr (3, [.ref m1, .int (nI n), .ref m2, .ref m3, .ref m4, .ref m5, .ref m6, .ref m7, .ref m8, .ref m9, .int ln, .int md, .int nw])), (m1, .inl (cB, 1480, .inl tray)), (m2, .inl (cI, 4, .inl (upd sn i fr))), (m3, .inl (cI, 4, .inl (upd ids i id))), (m4, .inl (cI, 4, .inl (upd ps i pr))), (m5, .inl (cI, 4, .inl (upd es i (-1)))), (m6, .inl (cI, 4, .inl (upd bs i nw))), (m7, .inl (cZ, 4, .inl (upd th i 1))), (m8, .inl (cI, 16384, .inl (seg (i * 4096) 0 (fun _ => 0) by_))), (m9, .inl (cI, 4096, .inl wh))] := by rw [seg_0]; exact hD
          exact lp 4097 0 _ _ ls (by omega) (by omega) hP hD hS (lv_sub hl [1, 2, 3, 4, 5, 0] rfl)
  exact loop 5 0 ls (by omega) (by omega) (fun j h => absurd h (by omega)) (lv_sub hl [1, 2, 3, 4, 0] rfl)
end
section
/-! FragmentHouseModel.take -/
set_option maxHeartbeats 4000000 in
set_option maxRecDepth 100000 in
/-- FragmentHouseModel.take -/
theorem m_mTake (l : Launch) (D : va_G) (cB cZ cR cI : ClassId) (m0 m1 m2 m3 m4 m5 m6 m7 m8 m9 n : Nat) (tray sn ids ps es bs th by_ wh : Fn) (ln md nw : Int32) (fr id pr ofs last : Int32) (hn : n ≤ 1480) (hen : ∀ k, k < 4 → okEn (es k)) : MM l yX3_take cX3_take 12 (some .int) { frames := 1, cells := 0, slots := 0, locals := 25 } D (tyS cB cZ cR cI) [.ref m0, .int fr, .int id, .int pr, .int ofs, .int last] (mw cB cZ cI m0 m1 m2 m3 m4 m5 m6 m7 m8 m9 n tray sn ids ps es bs th by_ wh ln md nw) (S := MU) (fun r u => mTake n tray sn ids ps es bs th by_ wh ln md nw fr id pr ofs last r u) (fun _ => tyS cB cZ cR cI) (fun u => mw cB cZ cI m0 m1 m2 m3 m4 m5 m6 m7 m8 m9 u.1 tray u.2.1 u.2.2.1 u.2.2.2.1 u.2.2.2.2.1 u.2.2.2.2.2.1 u.2.2.2.2.2.2.1 u.2.2.2.2.2.2.2.1 u.2.2.2.2.2.2.2.2.1 u.2.2.2.2.2.2.2.2.2.1 u.2.2.2.2.2.2.2.2.2.2 nw) := by
  refine MM_of (by decide) (Nat.le_of_ble_eq_true rfl) ?_
  intro p e s m below meth c A ls R Q args hRm hQ hx hb hr hlk hml hown hts hin hK hE hA hP hD hS hl
  have hown : s.vm.findClass "FragmentHouseModel" = some m.cls := hown
  replace hl : lv_has ls 12 [(0, .ref m0), (1, .int fr), (2, .int id), (3, .int pr), (4, .int ofs), (5, .int last)] := hl
  replace hP : va_P D vwCl [(m0, .inr (3, [.ref m1, .int (nI n), .ref m2, .ref m3, .ref m4, .ref m5, .ref m6, .ref m7, .ref m8, .ref m9, .int ln, .int md, .int nw])), (m1, .inl (cB, 1480, .inl tray)), (m2, .inl (cI, 4, .inl sn)), (m3, .inl (cI, 4, .inl ids)), (m4, .inl (cI, 4, .inl ps)), (m5, .inl (cI, 4, .inl es)), (m6, .inl (cI, 4, .inl bs)), (m7, .inl (cZ, 4, .inl th)), (m8, .inl (cI, 16384, .inl by_)), (m9, .inl (cI, 4096, .inl wh))] s.heap := hP
  replace hD : va_D A [(m0, .inr (3, [.ref m1, .int (nI n), .ref m2, .ref m3, .ref m4, .ref m5, .ref m6, .ref m7, .ref m8, .ref m9, .int ln, .int md, .int nw])), (m1, .inl (cB, 1480, .inl tray)), (m2, .inl (cI, 4, .inl sn)), (m3, .inl (cI, 4, .inl ids)), (m4, .inl (cI, 4, .inl ps)), (m5, .inl (cI, 4, .inl es)), (m6, .inl (cI, 4, .inl bs)), (m7, .inl (cZ, 4, .inl th)), (m8, .inl (cI, 16384, .inl by_)), (m9, .inl (cI, 4096, .inl wh))] := hD
  have k13 : (ofs < 0 ∨ nI 8191 < ofs) → W p l e R s m args below meth c s.heap [] 0 0 Q (F0 m 13 ls []) := by
    intro hk
    refine lv_bipush (v := (-4)) hx hb dX3_take_13 (by decide +kernel) ?_
    exact ret_i hx hb hr rfl hlk hQ (Nat.le_refl _) (Nat.le_refl _) (n, sn, ids, ps, es, bs, th, by_, wh, ln, md) (Or.inl ⟨hk, rfl, rfl⟩) hK hP hD hS dX3_take_15
  refine lv_iload hx hb dX3_take_0 (lv_at hl 4 rfl) ?_
  refine lv_if_lt (tgt := 13) hx hb dX3_take_2 (by decide) (fun c22 => ?_) (fun c22 => ?_)
  · skip
    exact k13 (Or.inl c22)
  · skip
    refine lv_iload hx hb dX3_take_5 (lv_at hl 4 rfl) ?_
    refine lv_sipush (v := nI 8191) hx hb dX3_take_7 (by decide +kernel) ?_
    refine lv_icmp_le (tgt := 16) hx hb dX3_take_10 (by decide) (fun c23 => ?_) (fun c23 => ?_)
    · skip
      obtain ⟨o, ho, rfl⟩ := nI_of2 (n := 8191) (nI_toInt (by decide)) c22 c23
      refine lv_aload_n hx hb dX3_take_16 rfl (lv_at hl 0 rfl) ?_
      refine va_get (D := D) (ci := 3) (v := .int (nI n)) (C := RX3) (T := TX3) (N := 13) hx hb hts in_X3 hown hK hP 0 rfl rfl 1 (by decide) (hts _ q190) (fun _ h9 => h9) rfl dX3_take_17 ?_
      refine lv_istore (lv' := [(6, .int (nI n)), (0, .ref m0), (1, .int fr), (2, .int id), (3, .int pr), (4, .int (nI o)), (5, .int last)]) hx hb dX3_take_20 hl (by decide) rfl (fun ls hl => ?_)
      refine lv_aload_n hx hb dX3_take_22 rfl (lv_at hl 1 rfl) ?_
      refine lv_iconst (v := nI 0) hx hb dX3_take_23 (by decide +kernel) ?_
      refine va_put (D := D) (ci := 3) (v := .int (nI 0)) (ty := .int) (C := RX3) (T := TX3) (N := 13) hx hb hts in_X3 tyX3 tyX3_ok nmX3 hown hK hP hD hS 0 rfl rfl 1 (by decide) (hts _ q190) (fun _ h9 => h9) rfl (by decide +kernel) rfl rfl (Nat.le_of_ble_eq_true rfl) dX3_take_24 (fun H locs hP hD hS => ?_)
      have hP : va_P D vwCl [(m0, .inr (3, [.ref m1, .int (nI 0), .ref m2, .ref m3, .ref m4, .ref m5, .ref m6, .ref m7, .ref m8, .ref m9, .int ln, .int md, .int nw])), (m1, .inl (cB, 1480, .inl tray)), (m2, .inl (cI, 4, .inl sn)), (m3, .inl (cI, 4, .inl ids)), (m4, .inl (cI, 4, .inl ps)), (m5, .inl (cI, 4, .inl es)), (m6, .inl (cI, 4, .inl bs)), (m7, .inl (cZ, 4, .inl th)), (m8, .inl (cI, 16384, .inl by_)), (m9, .inl (cI, 4096, .inl wh))] H := hP
      have hD : va_D A [(m0, .inr (3, [.ref m1, .int (nI 0), .ref m2, .ref m3, .ref m4, .ref m5, .ref m6, .ref m7, .ref m8, .ref m9, .int ln, .int md, .int nw])), (m1, .inl (cB, 1480, .inl tray)), (m2, .inl (cI, 4, .inl sn)), (m3, .inl (cI, 4, .inl ids)), (m4, .inl (cI, 4, .inl ps)), (m5, .inl (cI, 4, .inl es)), (m6, .inl (cI, 4, .inl bs)), (m7, .inl (cZ, 4, .inl th)), (m8, .inl (cI, 16384, .inl by_)), (m9, .inl (cI, 4096, .inl wh))] := hD
      refine lv_bipush (v := nI 8) hx hb dX3_take_27 (by decide +kernel) ?_
      refine lv_iload hx hb dX3_take_29 (lv_at hl 5 rfl) ?_
      refine lv_imul hx hb dX3_take_31 ?_
      refine lv_as (y := nI (8 * o)) (pk_mul _ _) ?_
      refine lv_istore (lv' := [(7, .int (nI (8 * o))), (6, .int (nI n)), (0, .ref m0), (1, .int fr), (2, .int id), (3, .int pr), (4, .int (nI o)), (5, .int last)]) hx hb dX3_take_32 hl (by decide) rfl (fun ls hl => ?_)
      refine lv_iload hx hb dX3_take_34 (lv_at hl 0 rfl) ?_
      refine lv_iload hx hb dX3_take_36 (lv_at hl 1 rfl) ?_
      refine lv_iadd hx hb dX3_take_38 ?_
      refine lv_as (y := nI ((8 * o) + n)) (nI_add _ _) ?_
      refine lv_istore (lv' := [(8, .int (nI ((8 * o) + n))), (7, .int (nI (8 * o))), (6, .int (nI n)), (0, .ref m0), (1, .int fr), (2, .int id), (3, .int pr), (4, .int (nI o)), (5, .int last)]) hx hb dX3_take_39 hl (by decide) rfl (fun ls hl => ?_)
      have k67 : kBad n o last → W p l e R s m args below meth c H locs 0 0 Q (F0 m 67 ls []) := by
        intro hk
        refine lv_bipush (v := (-2)) hx hb dX3_take_67 (by decide +kernel) ?_
        exact ret_i hx hb hr rfl hlk hQ (Nat.le_refl _) (Nat.le_refl _) (0, sn, ids, ps, es, bs, th, by_, wh, ln, md) (Or.inr ⟨o, ho, rfl, Or.inl ⟨hk, rfl, rfl⟩⟩) hK hP hD hS dX3_take_69
      have k70 : ¬ kBad n o last → W p l e R s m args below meth c H locs 0 0 Q (F0 m 70 ls []) := by
        intro hgood
        have ho2 : 8 * o + n ≤ 4096 := Nat.not_lt.mp (fun h => hgood (Or.inr h))
        have k101 : ∀ (k : Nat) (sn1 ids1 ps1 es1 bs1 th1 by1 : Fn) (H : Heap) (locs : List Loc) (ls : Array Slot), k < 4 → okEn (es1 k) → (∀ r w, mTail k n o last tray es1 th1 by1 wh ln md r w → mTake n tray sn ids ps es bs th by_ wh ln md nw fr id pr (nI o) last r (0, sn1, ids1, ps1, w.1, bs1, w.2.1, w.2.2.1, w.2.2.2.1, w.2.2.2.2.1, w.2.2.2.2.2)) → va_P D vwCl [(m0, .inr (3, [.ref m1, .int (nI 0), .ref m2, .ref m3, .ref m4, .ref m5, .ref m6, .ref m7, .ref m8, .ref m9, .int ln, .int md, .int nw])), (m1, .inl (cB, 1480, .inl tray)), (m2, .inl (cI, 4, .inl sn1)), (m3, .inl (cI, 4, .inl ids1)), (m4, .inl (cI, 4, .inl ps1)), (m5, .inl (cI, 4, .inl es1)), (m6, .inl (cI, 4, .inl bs1)), (m7, .inl (cZ, 4, .inl th1)), (m8, .inl (cI, 16384, .inl by1)), (m9, .inl (cI, 4096, .inl wh))] H → va_D A [(m0, .inr (3, [.ref m1, .int (nI 0), .ref m2, .ref m3, .ref m4, .ref m5, .ref m6, .ref m7, .ref m8, .ref m9, .int ln, .int md, .int nw])), (m1, .inl (cB, 1480, .inl tray)), (m2, .inl (cI, 4, .inl sn1)), (m3, .inl (cI, 4, .inl ids1)), (m4, .inl (cI, 4, .inl ps1)), (m5, .inl (cI, 4, .inl es1)), (m6, .inl (cI, 4, .inl bs1)), (m7, .inl (cZ, 4, .inl th1)), (m8, .inl (cI, 16384, .inl by1)), (m9, .inl (cI, 4096, .inl wh))] → va_S A s.heap H locs → lv_has ls 12 [(9, .int (nI k)), (8, .int (nI ((8 * o) + n))), (7, .int (nI (8 * o))), (6, .int (nI n)), (0, .ref m0), (5, .int last)] → W p l e R s m args below meth c H locs 0 0 Q (F0 m 101 ls []) := by
          intro k sn1 ids1 ps1 es1 bs1 th1 by1 H locs ls hk hok hrel hP hD hS hl
          have k295 : ¬ mWrong es1 by1 k (8 * o + n) last → ∀ (H : Heap) (locs : List Loc) (ls : Array Slot), va_P D vwCl [(m0, .inr (3, [.ref m1, .int (nI 0), .ref m2, .ref m3, .ref m4, .ref m5, .ref m6, .ref m7, .ref m8, .ref m9, .int ln, .int md, .int nw])), (m1, .inl (cB, 1480, .inl tray)), (m2, .inl (cI, 4, .inl sn1)), (m3, .inl (cI, 4, .inl ids1)), (m4, .inl (cI, 4, .inl ps1)), (m5, .inl (cI, 4, .inl (mEs es1 k (8 * o + n) last))), (m6, .inl (cI, 4, .inl bs1)), (m7, .inl (cZ, 4, .inl th1)), (m8, .inl (cI, 16384, .inl (stM (k * 4096 + 8 * o) n tray by1))), (m9, .inl (cI, 4096, .inl wh))] H → va_D A [(m0, .inr (3, [.ref m1, .int (nI 0), .ref m2, .ref m3, .ref m4, .ref m5, .ref m6, .ref m7, .ref m8, .ref m9, .int ln, .int md, .int nw])), (m1, .inl (cB, 1480, .inl tray)), (m2, .inl (cI, 4, .inl sn1)), (m3, .inl (cI, 4, .inl ids1)), (m4, .inl (cI, 4, .inl ps1)), (m5, .inl (cI, 4, .inl (mEs es1 k (8 * o + n) last))), (m6, .inl (cI, 4, .inl bs1)), (m7, .inl (cZ, 4, .inl th1)), (m8, .inl (cI, 16384, .inl (stM (k * 4096 + 8 * o) n tray by1))), (m9, .inl (cI, 4096, .inl wh))] → va_S A s.heap H locs → lv_has ls 12 [(9, .int (nI k)), (8, .int (nI ((8 * o) + n))), (7, .int (nI (8 * o))), (6, .int (nI n)), (0, .ref m0), (5, .int last)] → W p l e R s m args below meth c H locs 0 0 Q (F0 m 295 ls []) := by
            intro hgw H locs ls hP hD hS hl
            have hok2 : okEn ((mEs es1 k (8 * o + n) last) k) := okEn_es hok ho2
            obtain ⟨es2, hes2⟩ : ∃ es2, es2 = (mEs es1 k (8 * o + n) last) := ⟨_, rfl⟩
            obtain ⟨by2, hby2⟩ : ∃ by2, by2 = (stM (k * 4096 + 8 * o) n tray by1) := ⟨_, rfl⟩
            rw [← hes2, ← hby2] at hP hD
            rw [← hes2] at hok2
            have hT : mTail k n o last tray es1 th1 by1 wh ln md = mTail k n o last tray es1 th1 by1 wh ln md := rfl
            have hP : va_P D vwCl [(m0, .inr (3, [.ref m1, .int (nI 0), .ref m2, .ref m3, .ref m4, .ref m5, .ref m6, .ref m7, .ref m8, .ref m9, .int ln, .int md, .int nw])), (m1, .inl (cB, 1480, .inl tray)), (m2, .inl (cI, 4, .inl sn1)), (m3, .inl (cI, 4, .inl ids1)), (m4, .inl (cI, 4, .inl ps1)), (m5, .inl (cI, 4, .inl es2)), (m6, .inl (cI, 4, .inl bs1)), (m7, .inl (cZ, 4, .inl th1)), (m8, .inl (cI, 16384, .inl by2)), (m9, .inl (cI, 4096, .inl wh))] H := hP
            have hD : va_D A [(m0, .inr (3, [.ref m1, .int (nI 0), .ref m2, .ref m3, .ref m4, .ref m5, .ref m6, .ref m7, .ref m8, .ref m9, .int ln, .int md, .int nw])), (m1, .inl (cB, 1480, .inl tray)), (m2, .inl (cI, 4, .inl sn1)), (m3, .inl (cI, 4, .inl ids1)), (m4, .inl (cI, 4, .inl ps1)), (m5, .inl (cI, 4, .inl es2)), (m6, .inl (cI, 4, .inl bs1)), (m7, .inl (cZ, 4, .inl th1)), (m8, .inl (cI, 16384, .inl by2)), (m9, .inl (cI, 4096, .inl wh))] := hD
            refine lv_aload_n hx hb dX3_take_295 rfl (lv_at hl 4 rfl) ?_
            refine va_get (D := D) (ci := 3) (v := .ref m5) (C := RX3) (T := TX3) (N := 13) hx hb hts in_X3 hown hK hP 0 rfl rfl 5 (by decide) (hts _ q194) (fun _ h9 => h9) rfl dX3_take_296 ?_
            refine lv_iload hx hb dX3_take_299 (lv_at hl 0 rfl) ?_
            refine ab_iald hx hb hK hP 5 3 rfl rfl k (rfl) (by omega) (by decide) dX3_take_301 ?_
            rcases hok2 with h9 | ⟨e9, he9, h9⟩
            · skip
              refine lv_as (y := (-1)) (h9) ?_
              refine lv_if_ge (tgt := 307) hx hb dX3_take_302 (by decide) (fun c24 => ?_) (fun c24 => ?_)
              · skip
                exact absurd c24 (by decide)
              · skip
                refine lv_iconst (v := (-1)) hx hb dX3_take_305 (by decide +kernel) ?_
                exact ret_i hx hb hr rfl hlk hQ (Nat.le_refl _) (Nat.le_refl _) (0, sn1, ids1, ps1, es2, bs1, th1, by2, wh, ln, md) (hrel _ (es2, th1, by2, wh, ln, md) (Or.inr ⟨hgw, Or.inl ⟨by rw [← hes2]; exact h9, rfl, by rw [← hes2, ← hby2]⟩⟩)) hK hP hD hS dX3_take_306
            · skip
              refine lv_as (y := nI e9) (h9) ?_
              refine lv_if_ge (tgt := 307) hx hb dX3_take_302 (by decide) (fun c25 => ?_) (fun c25 => ?_)
              · skip
                refine lv_iconst (v := nI 0) hx hb dX3_take_307 (by decide +kernel) ?_
                refine lv_istore (lv' := [(11, .int (nI 0)), (9, .int (nI k)), (8, .int (nI ((8 * o) + n))), (7, .int (nI (8 * o))), (6, .int (nI n)), (0, .ref m0), (5, .int last)]) hx hb dX3_take_308 hl (by decide) rfl (fun ls hl => ?_)
                have lp : ∀ (d i : Nat) (ls : Array Slot), i ≤ e9 → e9 + 1 ≤ i + d → (∀ j, j < i → ¬ by2 (k * 4096 + j) = 0) → lv_has ls 12 [(11, .int (nI i)), (9, .int (nI k)), (8, .int (nI ((8 * o) + n))), (7, .int (nI (8 * o))), (6, .int (nI n)), (0, .ref m0), (5, .int last)] → W p l e R s m args below meth c H locs 0 0 Q (F0 m 310 ls []) := by
                  intro d
                  induction d with
                  | zero => intro i ls q1 q2; exact absurd q2 (by omega)
                  | succ d ih =>
                    intro i ls q1 q2 q3 hl
                    refine lv_iload hx hb dX3_take_310 (lv_at hl 0 rfl) ?_
                    refine lv_aload_n hx hb dX3_take_312 rfl (lv_at hl 5 rfl) ?_
                    refine va_get (D := D) (ci := 3) (v := .ref m5) (C := RX3) (T := TX3) (N := 13) hx hb hts in_X3 hown hK hP 0 rfl rfl 5 (by decide) (hts _ q194) (fun _ h9 => h9) rfl dX3_take_313 ?_
                    refine lv_iload hx hb dX3_take_316 (lv_at hl 1 rfl) ?_
                    refine ab_iald hx hb hK hP 5 3 rfl rfl k (rfl) (by omega) (by decide) dX3_take_318 ?_
                    refine lv_as (y := nI e9) (h9) ?_
                    refine lv_icmp_ge (tgt := 347) hx hb dX3_take_319 (by decide) (fun c26 => ?_) (fun c26 => ?_)
                    · skip
                      have c26 : e9 ≤ i := (nI_leI (by omega) (by omega)).mp c26
                      obtain rfl : i = e9 := by omega
                      refine lv_aload_n hx hb dX3_take_347 rfl (lv_at hl 5 rfl) ?_
                      refine lv_aload_n hx hb dX3_take_348 rfl (lv_at hl 5 rfl) ?_
                      refine va_get (D := D) (ci := 3) (v := .ref m5) (C := RX3) (T := TX3) (N := 13) hx hb hts in_X3 hown hK hP 0 rfl rfl 5 (by decide) (hts _ q194) (fun _ h9 => h9) rfl dX3_take_349 ?_
                      refine lv_iload hx hb dX3_take_352 (lv_at hl 1 rfl) ?_
                      refine ab_iald hx hb hK hP 5 3 rfl rfl k (rfl) (by omega) (by decide) dX3_take_354 ?_
                      refine lv_as (y := nI i) (h9) ?_
                      refine va_put (D := D) (ci := 3) (v := .int (nI i)) (ty := .int) (C := RX3) (T := TX3) (N := 13) hx hb hts in_X3 tyX3 tyX3_ok nmX3 hown hK hP hD hS 0 rfl rfl 10 (by decide) (hts _ q199) (fun _ h9 => h9) rfl (by decide +kernel) rfl rfl (Nat.le_of_ble_eq_true rfl) dX3_take_355 (fun H locs hP hD hS => ?_)
                      have hP : va_P D vwCl [(m0, .inr (3, [.ref m1, .int (nI 0), .ref m2, .ref m3, .ref m4, .ref m5, .ref m6, .ref m7, .ref m8, .ref m9, .int (nI i), .int md, .int nw])), (m1, .inl (cB, 1480, .inl tray)), (m2, .inl (cI, 4, .inl sn1)), (m3, .inl (cI, 4, .inl ids1)), (m4, .inl (cI, 4, .inl ps1)), (m5, .inl (cI, 4, .inl es2)), (m6, .inl (cI, 4, .inl bs1)), (m7, .inl (cZ, 4, .inl th1)), (m8, .inl (cI, 16384, .inl by2)), (m9, .inl (cI, 4096, .inl wh))] H := hP
                      have hD : va_D A [(m0, .inr (3, [.ref m1, .int (nI 0), .ref m2, .ref m3, .ref m4, .ref m5, .ref m6, .ref m7, .ref m8, .ref m9, .int (nI i), .int md, .int nw])), (m1, .inl (cB, 1480, .inl tray)), (m2, .inl (cI, 4, .inl sn1)), (m3, .inl (cI, 4, .inl ids1)), (m4, .inl (cI, 4, .inl ps1)), (m5, .inl (cI, 4, .inl es2)), (m6, .inl (cI, 4, .inl bs1)), (m7, .inl (cZ, 4, .inl th1)), (m8, .inl (cI, 16384, .inl by2)), (m9, .inl (cI, 4096, .inl wh))] := hD
                      refine lv_iconst (v := nI 0) hx hb dX3_take_358 (by decide +kernel) ?_
                      refine lv_istore (lv' := [(11, .int (nI 0)), (9, .int (nI k)), (8, .int (nI ((8 * o) + n))), (7, .int (nI (8 * o))), (6, .int (nI n)), (0, .ref m0), (5, .int last)]) hx hb dX3_take_359 hl (by decide) rfl (fun ls hl => ?_)
                      have cp : ∀ (d j : Nat) (H : Heap) (locs : List Loc) (ls : Array Slot), j ≤ i → i + 1 ≤ j + d → va_P D vwCl [(m0, .inr (3, [.ref m1, .int (nI 0), .ref m2, .ref m3, .ref m4, .ref m5, .ref m6, .ref m7, .ref m8, .ref m9, .int (nI i), .int md, .int nw])), (m1, .inl (cB, 1480, .inl tray)), (m2, .inl (cI, 4, .inl sn1)), (m3, .inl (cI, 4, .inl ids1)), (m4, .inl (cI, 4, .inl ps1)), (m5, .inl (cI, 4, .inl es2)), (m6, .inl (cI, 4, .inl bs1)), (m7, .inl (cZ, 4, .inl th1)), (m8, .inl (cI, 16384, .inl by2)), (m9, .inl (cI, 4096, .inl (lo j (fun q => by2 (k * 4096 + q) - nI 1) wh)))] H → va_D A [(m0, .inr (3, [.ref m1, .int (nI 0), .ref m2, .ref m3, .ref m4, .ref m5, .ref m6, .ref m7, .ref m8, .ref m9, .int (nI i), .int md, .int nw])), (m1, .inl (cB, 1480, .inl tray)), (m2, .inl (cI, 4, .inl sn1)), (m3, .inl (cI, 4, .inl ids1)), (m4, .inl (cI, 4, .inl ps1)), (m5, .inl (cI, 4, .inl es2)), (m6, .inl (cI, 4, .inl bs1)), (m7, .inl (cZ, 4, .inl th1)), (m8, .inl (cI, 16384, .inl by2)), (m9, .inl (cI, 4096, .inl (lo j (fun q => by2 (k * 4096 + q) - nI 1) wh)))] → va_S A s.heap H locs → lv_has ls 12 [(11, .int (nI j)), (9, .int (nI k)), (8, .int (nI ((8 * o) + n))), (7, .int (nI (8 * o))), (6, .int (nI n)), (0, .ref m0), (5, .int last)] → W p l e R s m args below meth c H locs 0 0 Q (F0 m 361 ls []) := by
                        intro d
                        induction d with
                        | zero => intro j H locs ls p1 p2; exact absurd p2 (by omega)
                        | succ d ih2 =>
                          intro j H locs ls p1 p2 hP hD hS hl
                          refine lv_iload hx hb dX3_take_361 (lv_at hl 0 rfl) ?_
                          refine lv_aload_n hx hb dX3_take_363 rfl (lv_at hl 5 rfl) ?_
                          refine va_get (D := D) (ci := 3) (v := .int (nI i)) (C := RX3) (T := TX3) (N := 13) hx hb hts in_X3 hown hK hP 0 rfl rfl 10 (by decide) (hts _ q199) (fun _ h9 => h9) rfl dX3_take_364 ?_
                          refine lv_icmp_ge (tgt := 399) hx hb dX3_take_367 (by decide) (fun c27 => ?_) (fun c27 => ?_)
                          · skip
                            have c27 : i ≤ j := (nI_leI (by omega) (by omega)).mp c27
                            have hji : j = i := by omega
                            rw [hji] at hP hD hl
                            have hP : va_P D vwCl [(m0, .inr (3, [.ref m1, .int (nI 0), .ref m2, .ref m3, .ref m4, .ref m5, .ref m6, .ref m7, .ref m8, .ref m9, .int (nI i), .int md, .int nw])), (m1, .inl (cB, 1480, .inl tray)), (m2, .inl (cI, 4, .inl sn1)), (m3, .inl (cI, 4, .inl ids1)), (m4, .inl (cI, 4, .inl ps1)), (m5, .inl (cI, 4, .inl es2)), (m6, .inl (cI, 4, .inl bs1)), (m7, .inl (cZ, 4, .inl th1)), (m8, .inl (cI, 16384, .inl by2)), (m9, .inl (cI, 4096, .inl (lo i (fun q => by2 (k * 4096 + q) - nI 1) wh)))] H := hP
                            have hD : va_D A [(m0, .inr (3, [.ref m1, .int (nI 0), .ref m2, .ref m3, .ref m4, .ref m5, .ref m6, .ref m7, .ref m8, .ref m9, .int (nI i), .int md, .int nw])), (m1, .inl (cB, 1480, .inl tray)), (m2, .inl (cI, 4, .inl sn1)), (m3, .inl (cI, 4, .inl ids1)), (m4, .inl (cI, 4, .inl ps1)), (m5, .inl (cI, 4, .inl es2)), (m6, .inl (cI, 4, .inl bs1)), (m7, .inl (cZ, 4, .inl th1)), (m8, .inl (cI, 16384, .inl by2)), (m9, .inl (cI, 4096, .inl (lo i (fun q => by2 (k * 4096 + q) - nI 1) wh)))] := hD
                            refine lv_aload_n hx hb dX3_take_399 rfl (lv_at hl 5 rfl) ?_
                            refine va_get (D := D) (ci := 3) (v := .ref m7) (C := RX3) (T := TX3) (N := 13) hx hb hts in_X3 hown hK hP 0 rfl rfl 7 (by decide) (hts _ q196) (fun _ h9 => h9) rfl dX3_take_400 ?_
                            refine lv_iload hx hb dX3_take_403 (lv_at hl 1 rfl) ?_
                            refine lv_iconst (v := nI 0) hx hb dX3_take_405 (by decide +kernel) ?_
                            refine ab_zast (y := 0) hx hb hK hP hD hS 7 1 rfl rfl k (rfl) (by omega) (by decide) (by decide +kernel) dX3_take_406 (fun H locs hP hD hS => ?_)
                            have hP : va_P D vwCl [(m0, .inr (3, [.ref m1, .int (nI 0), .ref m2, .ref m3, .ref m4, .ref m5, .ref m6, .ref m7, .ref m8, .ref m9, .int (nI i), .int md, .int nw])), (m1, .inl (cB, 1480, .inl tray)), (m2, .inl (cI, 4, .inl sn1)), (m3, .inl (cI, 4, .inl ids1)), (m4, .inl (cI, 4, .inl ps1)), (m5, .inl (cI, 4, .inl es2)), (m6, .inl (cI, 4, .inl bs1)), (m7, .inl (cZ, 4, .inl (upd th1 k 0))), (m8, .inl (cI, 16384, .inl by2)), (m9, .inl (cI, 4096, .inl (lo i (fun q => by2 (k * 4096 + q) - nI 1) wh)))] H := hP
                            have hD : va_D A [(m0, .inr (3, [.ref m1, .int (nI 0), .ref m2, .ref m3, .ref m4, .ref m5, .ref m6, .ref m7, .ref m8, .ref m9, .int (nI i), .int md, .int nw])), (m1, .inl (cB, 1480, .inl tray)), (m2, .inl (cI, 4, .inl sn1)), (m3, .inl (cI, 4, .inl ids1)), (m4, .inl (cI, 4, .inl ps1)), (m5, .inl (cI, 4, .inl es2)), (m6, .inl (cI, 4, .inl bs1)), (m7, .inl (cZ, 4, .inl (upd th1 k 0))), (m8, .inl (cI, 16384, .inl by2)), (m9, .inl (cI, 4096, .inl (lo i (fun q => by2 (k * 4096 + q) - nI 1) wh)))] := hD
                            refine lv_aload_n hx hb dX3_take_407 rfl (lv_at hl 5 rfl) ?_
                            refine lv_dup hx hb dX3_take_408 rfl ?_
                            refine va_get (D := D) (ci := 3) (v := .int md) (C := RX3) (T := TX3) (N := 13) hx hb hts in_X3 hown hK hP 0 rfl rfl 11 (by decide) (hts _ q200) (fun _ h9 => h9) rfl dX3_take_409 ?_
                            refine lv_iconst (v := nI 1) hx hb dX3_take_412 (by decide +kernel) ?_
                            refine lv_iadd hx hb dX3_take_413 ?_
                            refine va_put (D := D) (ci := 3) (v := .int (md + (nI 1))) (ty := .int) (C := RX3) (T := TX3) (N := 13) hx hb hts in_X3 tyX3 tyX3_ok nmX3 hown hK hP hD hS 0 rfl rfl 11 (by decide) (hts _ q200) (fun _ h9 => h9) rfl (by decide +kernel) rfl rfl (Nat.le_of_ble_eq_true rfl) dX3_take_414 (fun H locs hP hD hS => ?_)
                            have hP : va_P D vwCl [(m0, .inr (3, [.ref m1, .int (nI 0), .ref m2, .ref m3, .ref m4, .ref m5, .ref m6, .ref m7, .ref m8, .ref m9, .int (nI i), .int (md + (nI 1)), .int nw])), (m1, .inl (cB, 1480, .inl tray)), (m2, .inl (cI, 4, .inl sn1)), (m3, .inl (cI, 4, .inl ids1)), (m4, .inl (cI, 4, .inl ps1)), (m5, .inl (cI, 4, .inl es2)), (m6, .inl (cI, 4, .inl bs1)), (m7, .inl (cZ, 4, .inl (upd th1 k 0))), (m8, .inl (cI, 16384, .inl by2)), (m9, .inl (cI, 4096, .inl (lo i (fun q => by2 (k * 4096 + q) - nI 1) wh)))] H := hP
                            have hD : va_D A [(m0, .inr (3, [.ref m1, .int (nI 0), .ref m2, .ref m3, .ref m4, .ref m5, .ref m6, .ref m7, .ref m8, .ref m9, .int (nI i), .int (md + (nI 1)), .int nw])), (m1, .inl (cB, 1480, .inl tray)), (m2, .inl (cI, 4, .inl sn1)), (m3, .inl (cI, 4, .inl ids1)), (m4, .inl (cI, 4, .inl ps1)), (m5, .inl (cI, 4, .inl es2)), (m6, .inl (cI, 4, .inl bs1)), (m7, .inl (cZ, 4, .inl (upd th1 k 0))), (m8, .inl (cI, 16384, .inl by2)), (m9, .inl (cI, 4096, .inl (lo i (fun q => by2 (k * 4096 + q) - nI 1) wh)))] := hD
                            refine lv_aload_n hx hb dX3_take_417 rfl (lv_at hl 5 rfl) ?_
                            refine va_get (D := D) (ci := 3) (v := .int (nI i)) (C := RX3) (T := TX3) (N := 13) hx hb hts in_X3 hown hK hP 0 rfl rfl 10 (by decide) (hts _ q199) (fun _ h9 => h9) rfl dX3_take_418 ?_
                            exact ret_i hx hb hr rfl hlk hQ (Nat.le_refl _) (Nat.le_refl _) (0, sn1, ids1, ps1, es2, bs1, upd th1 k 0, by2, lo i (fun q => by2 (k * 4096 + q) - nI 1) wh, nI i, md + nI 1) (hrel _ (es2, upd th1 k 0, by2, lo i (fun q => by2 (k * 4096 + q) - nI 1) wh, nI i, md + nI 1) (Or.inr ⟨hgw, Or.inr ⟨i, he9, by rw [← hes2]; exact h9, Or.inr ⟨by rw [← hby2]; exact q3, rfl, by rw [← hes2, ← hby2]⟩⟩⟩)) hK hP hD hS dX3_take_421
                          · skip
                            have c27 : ¬ (i ≤ j) := fun h => c27 ((nI_leI (by omega) (by omega)).mpr h)
                            refine lv_aload_n hx hb dX3_take_370 rfl (lv_at hl 5 rfl) ?_
                            refine va_get (D := D) (ci := 3) (v := .ref m9) (C := RX3) (T := TX3) (N := 13) hx hb hts in_X3 hown hK hP 0 rfl rfl 9 (by decide) (hts _ q198) (fun _ h9 => h9) rfl dX3_take_371 ?_
                            refine lv_iload hx hb dX3_take_374 (lv_at hl 0 rfl) ?_
                            refine lv_aload_n hx hb dX3_take_376 rfl (lv_at hl 5 rfl) ?_
                            refine va_get (D := D) (ci := 3) (v := .ref m8) (C := RX3) (T := TX3) (N := 13) hx hb hts in_X3 hown hK hP 0 rfl rfl 8 (by decide) (hts _ q197) (fun _ h9 => h9) rfl dX3_take_377 ?_
                            refine lv_iload hx hb dX3_take_380 (lv_at hl 1 rfl) ?_
                            refine lv_sipush (v := nI 4096) hx hb dX3_take_382 (by decide +kernel) ?_
                            refine lv_imul hx hb dX3_take_385 ?_
                            refine lv_as (y := nI (k * 4096)) (pk_mul _ _) ?_
                            refine lv_iload hx hb dX3_take_386 (lv_at hl 0 rfl) ?_
                            refine lv_iadd hx hb dX3_take_388 ?_
                            refine lv_as (y := nI ((k * 4096) + j)) (nI_add _ _) ?_
                            refine ab_iald hx hb hK hP 8 3 rfl rfl ((k * 4096) + j) (rfl) (by omega) (by decide) dX3_take_389 ?_
                            refine lv_iconst (v := nI 1) hx hb dX3_take_390 (by decide +kernel) ?_
                            refine lv_isub hx hb dX3_take_391 ?_
                            refine ab_iast  hx hb hK hP hD hS 9 3 rfl rfl j (rfl) (by omega) (by decide) dX3_take_392 (fun H locs hP hD hS => ?_)
                            have hP : va_P D vwCl [(m0, .inr (3, [.ref m1, .int (nI 0), .ref m2, .ref m3, .ref m4, .ref m5, .ref m6, .ref m7, .ref m8, .ref m9, .int (nI i), .int md, .int nw])), (m1, .inl (cB, 1480, .inl tray)), (m2, .inl (cI, 4, .inl sn1)), (m3, .inl (cI, 4, .inl ids1)), (m4, .inl (cI, 4, .inl ps1)), (m5, .inl (cI, 4, .inl es2)), (m6, .inl (cI, 4, .inl bs1)), (m7, .inl (cZ, 4, .inl th1)), (m8, .inl (cI, 16384, .inl by2)), (m9, .inl (cI, 4096, .inl (upd (lo j (fun q => by2 (k * 4096 + q) - nI 1) wh) j ((by2 ((k * 4096) + j)) - (nI 1)))))] H := hP
                            have hD : va_D A [(m0, .inr (3, [.ref m1, .int (nI 0), .ref m2, .ref m3, .ref m4, .ref m5, .ref m6, .ref m7, .ref m8, .ref m9, .int (nI i), .int md, .int nw])), (m1, .inl (cB, 1480, .inl tray)), (m2, .inl (cI, 4, .inl sn1)), (m3, .inl (cI, 4, .inl ids1)), (m4, .inl (cI, 4, .inl ps1)), (m5, .inl (cI, 4, .inl es2)), (m6, .inl (cI, 4, .inl bs1)), (m7, .inl (cZ, 4, .inl th1)), (m8, .inl (cI, 16384, .inl by2)), (m9, .inl (cI, 4096, .inl (upd (lo j (fun q => by2 (k * 4096 + q) - nI 1) wh) j ((by2 ((k * 4096) + j)) - (nI 1)))))] := hD
                            rw [lo_s j (fun q => by2 (k * 4096 + q) - nI 1) wh] at hP hD
                            have hP : va_P D vwCl [(m0, .inr (3, [.ref m1, .int (nI 0), .ref m2, .ref m3, .ref m4, .ref m5, .ref m6, .ref m7, .ref m8, .ref m9, .int (nI i), .int md, .int nw])), (m1, .inl (cB, 1480, .inl tray)), (m2, .inl (cI, 4, .inl sn1)), (m3, .inl (cI, 4, .inl ids1)), (m4, .inl (cI, 4, .inl ps1)), (m5, .inl (cI, 4, .inl es2)), (m6, .inl (cI, 4, .inl bs1)), (m7, .inl (cZ, 4, .inl th1)), (m8, .inl (cI, 16384, .inl by2)), (m9, .inl (cI, 4096, .inl (lo (j + 1) (fun q => by2 (k * 4096 + q) - nI 1) wh)))] H := hP
                            have hD : va_D A [(m0, .inr (3, [.ref m1, .int (nI 0), .ref m2, .ref m3, .ref m4, .ref m5, .ref m6, .ref m7, .ref m8, .ref m9, .int (nI i), .int md, .int nw])), (m1, .inl (cB, 1480, .inl tray)), (m2, .inl (cI, 4, .inl sn1)), (m3, .inl (cI, 4, .inl ids1)), (m4, .inl (cI, 4, .inl ps1)), (m5, .inl (cI, 4, .inl es2)), (m6, .inl (cI, 4, .inl bs1)), (m7, .inl (cZ, 4, .inl th1)), (m8, .inl (cI, 16384, .inl by2)), (m9, .inl (cI, 4096, .inl (lo (j + 1) (fun q => by2 (k * 4096 + q) - nI 1) wh)))] := hD
                            refine lv_iinc (v := nI (j + 1)) (lv' := [(11, .int (nI (j + 1))), (9, .int (nI k)), (8, .int (nI ((8 * o) + n))), (7, .int (nI (8 * o))), (6, .int (nI n)), (0, .ref m0), (5, .int last)]) hx hb dX3_take_393 hl (k := 0) rfl (nI_inc1 _) (by decide) rfl (fun ls hl => ?_)
                            refine lv_goto (tgt := 361) hx hb dX3_take_396 (by decide) ?_
                            exact ih2 (j + 1) H locs ls (by omega) (by omega) hP hD hS (lv_sub hl [0, 1, 2, 3, 4, 5, 6] rfl)
                      have hP : va_P D vwCl [(m0, .inr (3, [.ref m1, .int (nI 0), .ref m2, .ref m3, .ref m4, .ref m5, .ref m6, .ref m7, .ref m8, .ref m9, .int (nI i), .int md, .int nw])), (m1, .inl (cB, 1480, .inl tray)), (m2, .inl (cI, 4, .inl sn1)), (m3, .inl (cI, 4, .inl ids1)), (m4, .inl (cI, 4, .inl ps1)), (m5, .inl (cI, 4, .inl es2)), (m6, .inl (cI, 4, .inl bs1)), (m7, .inl (cZ, 4, .inl th1)), (m8, .inl (cI, 16384, .inl by2)), (m9, .inl (cI, 4096, .inl (lo 0 (fun q => by2 (k * 4096 + q) - nI 1) wh)))] H := by rw [lo_0]; exact hP
                      have hD : va_D A [(m0, .inr (3, [.ref m1, .int (nI 0), .ref m2, .ref m3, .ref m4, .ref m5, .ref m6, .ref m7, .ref m8, .ref m9, .int (nI i), .int md, .int nw])), (m1, .inl (cB, 1480, .inl tray)), (m2, .inl (cI, 4, .inl sn1)), (m3, .inl (cI, 4, .inl ids1)), (m4, .inl (cI, 4, .inl ps1)), (m5, .inl (cI, 4, .inl es2)), (m6, .inl (cI, 4, .inl bs1)), (m7, .inl (cZ, 4, .inl th1)), (m8, .inl (cI, 16384, .inl by2)), (m9, .inl (cI, 4096, .inl (lo 0 (fun q => by2 (k * 4096 + q) - nI 1) wh)))] := by rw [lo_0]; exact hD
                      exact cp (i + 1) 0 _ _ ls (by omega) (by omega) hP hD hS (lv_sub hl [0, 1, 2, 3, 4, 5, 6] rfl)
                    · skip
                      have c26 : ¬ (e9 ≤ i) := fun h => c26 ((nI_leI (by omega) (by omega)).mpr h)
                      refine lv_aload_n hx hb dX3_take_322 rfl (lv_at hl 5 rfl) ?_
                      refine va_get (D := D) (ci := 3) (v := .ref m8) (C := RX3) (T := TX3) (N := 13) hx hb hts in_X3 hown hK hP 0 rfl rfl 8 (by decide) (hts _ q197) (fun _ h9 => h9) rfl dX3_take_323 ?_
                      refine lv_iload hx hb dX3_take_326 (lv_at hl 1 rfl) ?_
                      refine lv_sipush (v := nI 4096) hx hb dX3_take_328 (by decide +kernel) ?_
                      refine lv_imul hx hb dX3_take_331 ?_
                      refine lv_as (y := nI (k * 4096)) (pk_mul _ _) ?_
                      refine lv_iload hx hb dX3_take_332 (lv_at hl 0 rfl) ?_
                      refine lv_iadd hx hb dX3_take_334 ?_
                      refine lv_as (y := nI ((k * 4096) + i)) (nI_add _ _) ?_
                      refine ab_iald hx hb hK hP 8 3 rfl rfl ((k * 4096) + i) (rfl) (by omega) (by decide) dX3_take_335 ?_
                      refine lv_if_ne (tgt := 341) hx hb dX3_take_336 (by decide) (fun c28 => ?_) (fun c28 => ?_)
                      · skip
                        refine lv_iinc (v := nI (i + 1)) (lv' := [(11, .int (nI (i + 1))), (9, .int (nI k)), (8, .int (nI ((8 * o) + n))), (7, .int (nI (8 * o))), (6, .int (nI n)), (0, .ref m0), (5, .int last)]) hx hb dX3_take_341 hl (k := 0) rfl (nI_inc1 _) (by decide) rfl (fun ls hl => ?_)
                        refine lv_goto (tgt := 310) hx hb dX3_take_344 (by decide) ?_
                        exact ih (i + 1) ls (by omega) (by omega) (lt_s q3 c28) (lv_sub hl [0, 1, 2, 3, 4, 5, 6] rfl)
                      · skip
                        refine lv_iconst (v := (-1)) hx hb dX3_take_339 (by decide +kernel) ?_
                        exact ret_i hx hb hr rfl hlk hQ (Nat.le_refl _) (Nat.le_refl _) (0, sn1, ids1, ps1, es2, bs1, th1, by2, wh, ln, md) (hrel _ (es2, th1, by2, wh, ln, md) (Or.inr ⟨hgw, Or.inr ⟨e9, he9, by rw [← hes2]; exact h9, Or.inl ⟨⟨i, by omega, by rw [← hby2]; exact c28⟩, rfl, by rw [← hes2, ← hby2]⟩⟩⟩)) hK hP hD hS dX3_take_340
                exact lp (e9 + 1) 0 ls (by omega) (by omega) (fun j h => absurd h (by omega)) (lv_sub hl [0, 1, 2, 3, 4, 5, 6] rfl)
              · skip
                exact absurd (nI_pos' (by omega)) c25
          have k229 : ¬ mWrong es1 by1 k (8 * o + n) last → ∀ (H : Heap) (locs : List Loc) (ls : Array Slot), va_P D vwCl [(m0, .inr (3, [.ref m1, .int (nI 0), .ref m2, .ref m3, .ref m4, .ref m5, .ref m6, .ref m7, .ref m8, .ref m9, .int ln, .int md, .int nw])), (m1, .inl (cB, 1480, .inl tray)), (m2, .inl (cI, 4, .inl sn1)), (m3, .inl (cI, 4, .inl ids1)), (m4, .inl (cI, 4, .inl ps1)), (m5, .inl (cI, 4, .inl (mEs es1 k (8 * o + n) last))), (m6, .inl (cI, 4, .inl bs1)), (m7, .inl (cZ, 4, .inl th1)), (m8, .inl (cI, 16384, .inl by1)), (m9, .inl (cI, 4096, .inl wh))] H → va_D A [(m0, .inr (3, [.ref m1, .int (nI 0), .ref m2, .ref m3, .ref m4, .ref m5, .ref m6, .ref m7, .ref m8, .ref m9, .int ln, .int md, .int nw])), (m1, .inl (cB, 1480, .inl tray)), (m2, .inl (cI, 4, .inl sn1)), (m3, .inl (cI, 4, .inl ids1)), (m4, .inl (cI, 4, .inl ps1)), (m5, .inl (cI, 4, .inl (mEs es1 k (8 * o + n) last))), (m6, .inl (cI, 4, .inl bs1)), (m7, .inl (cZ, 4, .inl th1)), (m8, .inl (cI, 16384, .inl by1)), (m9, .inl (cI, 4096, .inl wh))] → va_S A s.heap H locs → lv_has ls 12 [(9, .int (nI k)), (8, .int (nI ((8 * o) + n))), (7, .int (nI (8 * o))), (6, .int (nI n)), (0, .ref m0), (5, .int last)] → W p l e R s m args below meth c H locs 0 0 Q (F0 m 229 ls []) := by
            intro hgw H locs ls hP hD hS hl
            refine lv_iconst (v := nI 0) hx hb dX3_take_229 (by decide +kernel) ?_
            refine lv_istore (lv' := [(11, .int (nI 0)), (9, .int (nI k)), (8, .int (nI ((8 * o) + n))), (7, .int (nI (8 * o))), (6, .int (nI n)), (0, .ref m0), (5, .int last)]) hx hb dX3_take_230 hl (by decide) rfl (fun ls hl => ?_)
            have lp : ∀ (d i : Nat) (H : Heap) (locs : List Loc) (ls : Array Slot), i ≤ n → n + 1 ≤ i + d → va_P D vwCl [(m0, .inr (3, [.ref m1, .int (nI 0), .ref m2, .ref m3, .ref m4, .ref m5, .ref m6, .ref m7, .ref m8, .ref m9, .int ln, .int md, .int nw])), (m1, .inl (cB, 1480, .inl tray)), (m2, .inl (cI, 4, .inl sn1)), (m3, .inl (cI, 4, .inl ids1)), (m4, .inl (cI, 4, .inl ps1)), (m5, .inl (cI, 4, .inl (mEs es1 k (8 * o + n) last))), (m6, .inl (cI, 4, .inl bs1)), (m7, .inl (cZ, 4, .inl th1)), (m8, .inl (cI, 16384, .inl (stM (k * 4096 + 8 * o) i tray by1))), (m9, .inl (cI, 4096, .inl wh))] H → va_D A [(m0, .inr (3, [.ref m1, .int (nI 0), .ref m2, .ref m3, .ref m4, .ref m5, .ref m6, .ref m7, .ref m8, .ref m9, .int ln, .int md, .int nw])), (m1, .inl (cB, 1480, .inl tray)), (m2, .inl (cI, 4, .inl sn1)), (m3, .inl (cI, 4, .inl ids1)), (m4, .inl (cI, 4, .inl ps1)), (m5, .inl (cI, 4, .inl (mEs es1 k (8 * o + n) last))), (m6, .inl (cI, 4, .inl bs1)), (m7, .inl (cZ, 4, .inl th1)), (m8, .inl (cI, 16384, .inl (stM (k * 4096 + 8 * o) i tray by1))), (m9, .inl (cI, 4096, .inl wh))] → va_S A s.heap H locs → lv_has ls 12 [(11, .int (nI i)), (9, .int (nI k)), (8, .int (nI ((8 * o) + n))), (7, .int (nI (8 * o))), (6, .int (nI n)), (0, .ref m0), (5, .int last)] → W p l e R s m args below meth c H locs 0 0 Q (F0 m 232 ls []) := by
              intro d
              induction d with
              | zero => intro i H locs ls q1 q2; exact absurd q2 (by omega)
              | succ d ih =>
                intro i H locs ls q1 q2 hP hD hS hl
                refine lv_iload hx hb dX3_take_232 (lv_at hl 0 rfl) ?_
                refine lv_iload hx hb dX3_take_234 (lv_at hl 4 rfl) ?_
                refine lv_icmp_ge (tgt := 295) hx hb dX3_take_236 (by decide) (fun c29 => ?_) (fun c29 => ?_)
                · skip
                  have c29 : n ≤ i := (nI_leI (by omega) (by omega)).mp c29
                  obtain rfl : i = n := by omega
                  exact k295 hgw H locs ls hP hD hS (lv_sub hl [1, 2, 3, 4, 5, 6] rfl)
                · skip
                  have c29 : ¬ (n ≤ i) := fun h => c29 ((nI_leI (by omega) (by omega)).mpr h)
                  have k289 : ∀ (H : Heap) (locs : List Loc), va_P D vwCl [(m0, .inr (3, [.ref m1, .int (nI 0), .ref m2, .ref m3, .ref m4, .ref m5, .ref m6, .ref m7, .ref m8, .ref m9, .int ln, .int md, .int nw])), (m1, .inl (cB, 1480, .inl tray)), (m2, .inl (cI, 4, .inl sn1)), (m3, .inl (cI, 4, .inl ids1)), (m4, .inl (cI, 4, .inl ps1)), (m5, .inl (cI, 4, .inl (mEs es1 k (8 * o + n) last))), (m6, .inl (cI, 4, .inl bs1)), (m7, .inl (cZ, 4, .inl th1)), (m8, .inl (cI, 16384, .inl (stM (k * 4096 + 8 * o) (i + 1) tray by1))), (m9, .inl (cI, 4096, .inl wh))] H → va_D A [(m0, .inr (3, [.ref m1, .int (nI 0), .ref m2, .ref m3, .ref m4, .ref m5, .ref m6, .ref m7, .ref m8, .ref m9, .int ln, .int md, .int nw])), (m1, .inl (cB, 1480, .inl tray)), (m2, .inl (cI, 4, .inl sn1)), (m3, .inl (cI, 4, .inl ids1)), (m4, .inl (cI, 4, .inl ps1)), (m5, .inl (cI, 4, .inl (mEs es1 k (8 * o + n) last))), (m6, .inl (cI, 4, .inl bs1)), (m7, .inl (cZ, 4, .inl th1)), (m8, .inl (cI, 16384, .inl (stM (k * 4096 + 8 * o) (i + 1) tray by1))), (m9, .inl (cI, 4096, .inl wh))] → va_S A s.heap H locs → W p l e R s m args below meth c H locs 0 0 Q (F0 m 289 ls []) := by
                    intro H locs hP hD hS
                    refine lv_iinc (v := nI (i + 1)) (lv' := [(11, .int (nI (i + 1))), (9, .int (nI k)), (8, .int (nI ((8 * o) + n))), (7, .int (nI (8 * o))), (6, .int (nI n)), (0, .ref m0), (5, .int last)]) hx hb dX3_take_289 hl (k := 0) rfl (nI_inc1 _) (by decide) rfl (fun ls hl => ?_)
                    refine lv_goto (tgt := 232) hx hb dX3_take_292 (by decide) ?_
                    exact ih (i + 1) H locs ls (by omega) (by omega) hP hD hS (lv_sub hl [0, 1, 2, 3, 4, 5, 6] rfl)
                  refine lv_aload_n hx hb dX3_take_239 rfl (lv_at hl 5 rfl) ?_
                  refine va_get (D := D) (ci := 3) (v := .ref m8) (C := RX3) (T := TX3) (N := 13) hx hb hts in_X3 hown hK hP 0 rfl rfl 8 (by decide) (hts _ q197) (fun _ h9 => h9) rfl dX3_take_240 ?_
                  refine lv_iload hx hb dX3_take_243 (lv_at hl 1 rfl) ?_
                  refine lv_sipush (v := nI 4096) hx hb dX3_take_245 (by decide +kernel) ?_
                  refine lv_imul hx hb dX3_take_248 ?_
                  refine lv_as (y := nI (k * 4096)) (pk_mul _ _) ?_
                  refine lv_iload hx hb dX3_take_249 (lv_at hl 3 rfl) ?_
                  refine lv_iadd hx hb dX3_take_251 ?_
                  refine lv_as (y := nI ((k * 4096) + (8 * o))) (nI_add _ _) ?_
                  refine lv_iload hx hb dX3_take_252 (lv_at hl 0 rfl) ?_
                  refine lv_iadd hx hb dX3_take_254 ?_
                  refine lv_as (y := nI (((k * 4096) + (8 * o)) + i)) (nI_add _ _) ?_
                  refine ab_iald hx hb hK hP 8 3 rfl rfl (((k * 4096) + (8 * o)) + i) (rfl) (by omega) (by decide) dX3_take_255 ?_
                  refine lv_as (y := by1 (k * 4096 + 8 * o + i)) (stM_at (k * 4096 + 8 * o) i tray by1) ?_
                  refine lv_if_ne (tgt := 289) hx hb dX3_take_256 (by decide) (fun c30 => ?_) (fun c30 => ?_)
                  · skip
                    exact k289 H locs (by rw [← stM_k (k * 4096 + 8 * o) i tray by1 c30]; exact hP) (by rw [← stM_k (k * 4096 + 8 * o) i tray by1 c30]; exact hD) hS
                  · skip
                    refine lv_aload_n hx hb dX3_take_259 rfl (lv_at hl 5 rfl) ?_
                    refine va_get (D := D) (ci := 3) (v := .ref m8) (C := RX3) (T := TX3) (N := 13) hx hb hts in_X3 hown hK hP 0 rfl rfl 8 (by decide) (hts _ q197) (fun _ h9 => h9) rfl dX3_take_260 ?_
                    refine lv_iload hx hb dX3_take_263 (lv_at hl 1 rfl) ?_
                    refine lv_sipush (v := nI 4096) hx hb dX3_take_265 (by decide +kernel) ?_
                    refine lv_imul hx hb dX3_take_268 ?_
                    refine lv_as (y := nI (k * 4096)) (pk_mul _ _) ?_
                    refine lv_iload hx hb dX3_take_269 (lv_at hl 3 rfl) ?_
                    refine lv_iadd hx hb dX3_take_271 ?_
                    refine lv_as (y := nI ((k * 4096) + (8 * o))) (nI_add _ _) ?_
                    refine lv_iload hx hb dX3_take_272 (lv_at hl 0 rfl) ?_
                    refine lv_iadd hx hb dX3_take_274 ?_
                    refine lv_as (y := nI (((k * 4096) + (8 * o)) + i)) (nI_add _ _) ?_
                    refine lv_aload_n hx hb dX3_take_275 rfl (lv_at hl 5 rfl) ?_
                    refine va_get (D := D) (ci := 3) (v := .ref m1) (C := RX3) (T := TX3) (N := 13) hx hb hts in_X3 hown hK hP 0 rfl rfl 0 (by decide) (hts _ q189) (fun _ h9 => h9) rfl dX3_take_276 ?_
                    refine lv_iload hx hb dX3_take_279 (lv_at hl 0 rfl) ?_
                    refine ab_bald hx hb hK hP 1 0 rfl rfl i (rfl) (by omega) (by decide) dX3_take_281 ?_
                    refine lv_sipush (v := nI 255) hx hb dX3_take_282 (by decide +kernel) ?_
                    refine lv_iand hx hb dX3_take_285 ?_
                    refine lv_iconst (v := nI 1) hx hb dX3_take_286 (by decide +kernel) ?_
                    refine lv_iadd hx hb dX3_take_287 ?_
                    refine ab_iast  hx hb hK hP hD hS 8 3 rfl rfl (((k * 4096) + (8 * o)) + i) (rfl) (by omega) (by decide) dX3_take_288 (fun H locs hP hD hS => ?_)
                    have hP : va_P D vwCl [(m0, .inr (3, [.ref m1, .int (nI 0), .ref m2, .ref m3, .ref m4, .ref m5, .ref m6, .ref m7, .ref m8, .ref m9, .int ln, .int md, .int nw])), (m1, .inl (cB, 1480, .inl tray)), (m2, .inl (cI, 4, .inl sn1)), (m3, .inl (cI, 4, .inl ids1)), (m4, .inl (cI, 4, .inl ps1)), (m5, .inl (cI, 4, .inl (mEs es1 k (8 * o + n) last))), (m6, .inl (cI, 4, .inl bs1)), (m7, .inl (cZ, 4, .inl th1)), (m8, .inl (cI, 16384, .inl (upd (stM (k * 4096 + 8 * o) i tray by1) (((k * 4096) + (8 * o)) + i) (((tray i) &&& (nI 255)) + (nI 1))))), (m9, .inl (cI, 4096, .inl wh))] H := hP
                    have hD : va_D A [(m0, .inr (3, [.ref m1, .int (nI 0), .ref m2, .ref m3, .ref m4, .ref m5, .ref m6, .ref m7, .ref m8, .ref m9, .int ln, .int md, .int nw])), (m1, .inl (cB, 1480, .inl tray)), (m2, .inl (cI, 4, .inl sn1)), (m3, .inl (cI, 4, .inl ids1)), (m4, .inl (cI, 4, .inl ps1)), (m5, .inl (cI, 4, .inl (mEs es1 k (8 * o + n) last))), (m6, .inl (cI, 4, .inl bs1)), (m7, .inl (cZ, 4, .inl th1)), (m8, .inl (cI, 16384, .inl (upd (stM (k * 4096 + 8 * o) i tray by1) (((k * 4096) + (8 * o)) + i) (((tray i) &&& (nI 255)) + (nI 1))))), (m9, .inl (cI, 4096, .inl wh))] := hD
                    rw [stM_s (k * 4096 + 8 * o) i tray by1 c30] at hP hD
                    exact k289 H locs hP hD hS
            have hP : va_P D vwCl [(m0, .inr (3, [.ref m1, .int (nI 0), .ref m2, .ref m3, .ref m4, .ref m5, .ref m6, .ref m7, .ref m8, .ref m9, .int ln, .int md, .int nw])), (m1, .inl (cB, 1480, .inl tray)), (m2, .inl (cI, 4, .inl sn1)), (m3, .inl (cI, 4, .inl ids1)), (m4, .inl (cI, 4, .inl ps1)), (m5, .inl (cI, 4, .inl (mEs es1 k (8 * o + n) last))), (m6, .inl (cI, 4, .inl bs1)), (m7, .inl (cZ, 4, .inl th1)), (m8, .inl (cI, 16384, .inl (stM (k * 4096 + 8 * o) 0 tray by1))), (m9, .inl (cI, 4096, .inl wh))] H := by rw [stM_0]; exact hP
            have hD : va_D A [(m0, .inr (3, [.ref m1, .int (nI 0), .ref m2, .ref m3, .ref m4, .ref m5, .ref m6, .ref m7, .ref m8, .ref m9, .int ln, .int md, .int nw])), (m1, .inl (cB, 1480, .inl tray)), (m2, .inl (cI, 4, .inl sn1)), (m3, .inl (cI, 4, .inl ids1)), (m4, .inl (cI, 4, .inl ps1)), (m5, .inl (cI, 4, .inl (mEs es1 k (8 * o + n) last))), (m6, .inl (cI, 4, .inl bs1)), (m7, .inl (cZ, 4, .inl th1)), (m8, .inl (cI, 16384, .inl (stM (k * 4096 + 8 * o) 0 tray by1))), (m9, .inl (cI, 4096, .inl wh))] := by rw [stM_0]; exact hD
            exact lp (n + 1) 0 _ _ ls (by omega) (by omega) hP hD hS (lv_sub hl [0, 1, 2, 3, 4, 5, 6] rfl)
          have k199 : ∀ (wr : Int32) (ls : Array Slot), ((wr = 1 ∧ mWrong es1 by1 k (8 * o + n) last) ∨ (wr = 0 ∧ ¬ mWrong es1 by1 k (8 * o + n) last)) → lv_has ls 12 [(10, .int wr), (9, .int (nI k)), (8, .int (nI ((8 * o) + n))), (7, .int (nI (8 * o))), (6, .int (nI n)), (0, .ref m0), (5, .int last)] → W p l e R s m args below meth c H locs 0 0 Q (F0 m 199 ls []) := by
            intro wr ls hwr hl
            refine lv_iload hx hb dX3_take_199 (lv_at hl 0 rfl) ?_
            refine lv_if_eq (tgt := 215) hx hb dX3_take_201 (by decide) (fun c31 => ?_) (fun c31 => ?_)
            · skip
              have hgw : ¬ mWrong es1 by1 k (8 * o + n) last := by
                rcases hwr with h | h
                · exact absurd (h.1.symm.trans c31) (by decide)
                · exact h.2
              refine lv_iload hx hb dX3_take_215 (lv_at hl 6 rfl) ?_
              refine lv_if_eq (tgt := 229) hx hb dX3_take_217 (by decide) (fun c32 => ?_) (fun c32 => ?_)
              · skip
                exact k229 hgw H locs ls (by unfold mEs; rw [if_pos c32]; exact hP) (by unfold mEs; rw [if_pos c32]; exact hD) hS (lv_sub hl [1, 2, 3, 4, 5, 6] rfl)
              · skip
                refine lv_aload_n hx hb dX3_take_220 rfl (lv_at hl 5 rfl) ?_
                refine va_get (D := D) (ci := 3) (v := .ref m5) (C := RX3) (T := TX3) (N := 13) hx hb hts in_X3 hown hK hP 0 rfl rfl 5 (by decide) (hts _ q194) (fun _ h9 => h9) rfl dX3_take_221 ?_
                refine lv_iload hx hb dX3_take_224 (lv_at hl 1 rfl) ?_
                refine lv_iload hx hb dX3_take_226 (lv_at hl 2 rfl) ?_
                refine ab_iast  hx hb hK hP hD hS 5 3 rfl rfl k (rfl) (by omega) (by decide) dX3_take_228 (fun H locs hP hD hS => ?_)
                have hP : va_P D vwCl [(m0, .inr (3, [.ref m1, .int (nI 0), .ref m2, .ref m3, .ref m4, .ref m5, .ref m6, .ref m7, .ref m8, .ref m9, .int ln, .int md, .int nw])), (m1, .inl (cB, 1480, .inl tray)), (m2, .inl (cI, 4, .inl sn1)), (m3, .inl (cI, 4, .inl ids1)), (m4, .inl (cI, 4, .inl ps1)), (m5, .inl (cI, 4, .inl (upd es1 k (nI ((8 * o) + n))))), (m6, .inl (cI, 4, .inl bs1)), (m7, .inl (cZ, 4, .inl th1)), (m8, .inl (cI, 16384, .inl by1)), (m9, .inl (cI, 4096, .inl wh))] H := hP
                have hD : va_D A [(m0, .inr (3, [.ref m1, .int (nI 0), .ref m2, .ref m3, .ref m4, .ref m5, .ref m6, .ref m7, .ref m8, .ref m9, .int ln, .int md, .int nw])), (m1, .inl (cB, 1480, .inl tray)), (m2, .inl (cI, 4, .inl sn1)), (m3, .inl (cI, 4, .inl ids1)), (m4, .inl (cI, 4, .inl ps1)), (m5, .inl (cI, 4, .inl (upd es1 k (nI ((8 * o) + n))))), (m6, .inl (cI, 4, .inl bs1)), (m7, .inl (cZ, 4, .inl th1)), (m8, .inl (cI, 16384, .inl by1)), (m9, .inl (cI, 4096, .inl wh))] := hD
                exact k229 hgw H locs ls (by unfold mEs; rw [if_neg c32]; exact hP) (by unfold mEs; rw [if_neg c32]; exact hD) hS (lv_sub hl [1, 2, 3, 4, 5, 6] rfl)
            · skip
              have hw : mWrong es1 by1 k (8 * o + n) last := by
                rcases hwr with h | h
                · exact h.2
                · exact absurd h.1 c31
              refine lv_aload_n hx hb dX3_take_204 rfl (lv_at hl 5 rfl) ?_
              refine va_get (D := D) (ci := 3) (v := .ref m7) (C := RX3) (T := TX3) (N := 13) hx hb hts in_X3 hown hK hP 0 rfl rfl 7 (by decide) (hts _ q196) (fun _ h9 => h9) rfl dX3_take_205 ?_
              refine lv_iload hx hb dX3_take_208 (lv_at hl 1 rfl) ?_
              refine lv_iconst (v := nI 0) hx hb dX3_take_210 (by decide +kernel) ?_
              refine ab_zast (y := 0) hx hb hK hP hD hS 7 1 rfl rfl k (rfl) (by omega) (by decide) (by decide +kernel) dX3_take_211 (fun H locs hP hD hS => ?_)
              have hP : va_P D vwCl [(m0, .inr (3, [.ref m1, .int (nI 0), .ref m2, .ref m3, .ref m4, .ref m5, .ref m6, .ref m7, .ref m8, .ref m9, .int ln, .int md, .int nw])), (m1, .inl (cB, 1480, .inl tray)), (m2, .inl (cI, 4, .inl sn1)), (m3, .inl (cI, 4, .inl ids1)), (m4, .inl (cI, 4, .inl ps1)), (m5, .inl (cI, 4, .inl es1)), (m6, .inl (cI, 4, .inl bs1)), (m7, .inl (cZ, 4, .inl (upd th1 k 0))), (m8, .inl (cI, 16384, .inl by1)), (m9, .inl (cI, 4096, .inl wh))] H := hP
              have hD : va_D A [(m0, .inr (3, [.ref m1, .int (nI 0), .ref m2, .ref m3, .ref m4, .ref m5, .ref m6, .ref m7, .ref m8, .ref m9, .int ln, .int md, .int nw])), (m1, .inl (cB, 1480, .inl tray)), (m2, .inl (cI, 4, .inl sn1)), (m3, .inl (cI, 4, .inl ids1)), (m4, .inl (cI, 4, .inl ps1)), (m5, .inl (cI, 4, .inl es1)), (m6, .inl (cI, 4, .inl bs1)), (m7, .inl (cZ, 4, .inl (upd th1 k 0))), (m8, .inl (cI, 16384, .inl by1)), (m9, .inl (cI, 4096, .inl wh))] := hD
              refine lv_bipush (v := (-3)) hx hb dX3_take_212 (by decide +kernel) ?_
              exact ret_i hx hb hr rfl hlk hQ (Nat.le_refl _) (Nat.le_refl _) (0, sn1, ids1, ps1, es1, bs1, upd th1 k 0, by1, wh, ln, md) (hrel _ (es1, upd th1 k 0, by1, wh, ln, md) (Or.inl ⟨hw, rfl, rfl⟩)) hK hP hD hS dX3_take_214
          have k145 : ∀ (b0 : Int32), ((b0 = 1 ∧ mw0 es1 k (8 * o + n) last) ∨ (b0 = 0 ∧ ¬ mw0 es1 k (8 * o + n) last)) → W p l e R s m args below meth c H locs 0 0 Q (F0 m 145 ls [.int b0]) := by
            intro b0 hb0
            refine lv_istore (lv' := [(10, .int b0), (9, .int (nI k)), (8, .int (nI ((8 * o) + n))), (7, .int (nI (8 * o))), (6, .int (nI n)), (0, .ref m0), (5, .int last)]) hx hb dX3_take_145 hl (by decide) rfl (fun ls hl => ?_)
            refine lv_iload hx hb dX3_take_147 (lv_at hl 2 rfl) ?_
            refine lv_istore (lv' := [(11, .int (nI ((8 * o) + n))), (10, .int b0), (9, .int (nI k)), (8, .int (nI ((8 * o) + n))), (7, .int (nI (8 * o))), (6, .int (nI n)), (0, .ref m0), (5, .int last)]) hx hb dX3_take_149 hl (by decide) rfl (fun ls hl => ?_)
            have lp : ∀ (d i : Nat) (wr : Int32) (ls : Array Slot), 8 * o + n ≤ i → i ≤ 4096 → 4096 + 1 ≤ i + d → ((wr = 1 ∧ (mw0 es1 k (8 * o + n) last ∨ mwi by1 k (8 * o + n) i last)) ∨ (wr = 0 ∧ ¬ (mw0 es1 k (8 * o + n) last ∨ mwi by1 k (8 * o + n) i last))) → lv_has ls 12 [(11, .int (nI i)), (10, .int wr), (9, .int (nI k)), (8, .int (nI ((8 * o) + n))), (7, .int (nI (8 * o))), (6, .int (nI n)), (0, .ref m0), (5, .int last)] → W p l e R s m args below meth c H locs 0 0 Q (F0 m 151 ls []) := by
              intro d
              induction d with
              | zero => intro i wr ls q0 q1 q2; exact absurd q2 (by omega)
              | succ d ih =>
                intro i wr ls q0 q1 q2 hwr hl
                refine lv_iload hx hb dX3_take_151 (lv_at hl 0 rfl) ?_
                refine lv_sipush (v := nI 4096) hx hb dX3_take_153 (by decide +kernel) ?_
                refine lv_icmp_ge (tgt := 199) hx hb dX3_take_156 (by decide) (fun c33 => ?_) (fun c33 => ?_)
                · skip
                  have c33 : 4096 ≤ i := (nI_leI (by omega) (by omega)).mp c33
                  obtain rfl : i = 4096 := by omega
                  exact k199 wr ls hwr (lv_sub hl [1, 2, 3, 4, 5, 6, 7] rfl)
                · skip
                  have c33 : ¬ (4096 ≤ i) := fun h => c33 ((nI_leI (by omega) (by omega)).mpr h)
                  refine lv_iload hx hb dX3_take_159 (lv_at hl 7 rfl) ?_
                  refine lv_if_eq (tgt := 199) hx hb dX3_take_161 (by decide) (fun c34 => ?_) (fun c34 => ?_)
                  · skip
                    have hno : ∀ q, ¬ mwi by1 k (8 * o + n) q last := fun q h => h.1 c34
                    exact k199 wr ls (hwr.elim (fun ⟨h1, h2⟩ => Or.inl ⟨h1, Or.inl (h2.elim (fun z => z) (fun h => absurd h (hno _)))⟩) (fun ⟨h1, h2⟩ => Or.inr ⟨h1, fun h => h2 (Or.inl (h.elim (fun z => z) (fun h => absurd h (hno _))))⟩)) (lv_sub hl [1, 2, 3, 4, 5, 6, 7] rfl)
                  · skip
                    have k191 : ∀ (b1 : Int32), ((b1 = 1 ∧ (mw0 es1 k (8 * o + n) last ∨ mwi by1 k (8 * o + n) (i + 1) last)) ∨ (b1 = 0 ∧ ¬ (mw0 es1 k (8 * o + n) last ∨ mwi by1 k (8 * o + n) (i + 1) last))) → W p l e R s m args below meth c H locs 0 0 Q (F0 m 191 ls [.int b1]) := by
                      intro b1 hb1
                      refine lv_istore (lv' := [(10, .int b1), (11, .int (nI i)), (9, .int (nI k)), (8, .int (nI ((8 * o) + n))), (7, .int (nI (8 * o))), (6, .int (nI n)), (0, .ref m0), (5, .int last)]) hx hb dX3_take_191 hl (by decide) rfl (fun ls hl => ?_)
                      refine lv_iinc (v := nI (i + 1)) (lv' := [(11, .int (nI (i + 1))), (10, .int b1), (9, .int (nI k)), (8, .int (nI ((8 * o) + n))), (7, .int (nI (8 * o))), (6, .int (nI n)), (0, .ref m0), (5, .int last)]) hx hb dX3_take_193 hl (k := 1) rfl (nI_inc1 _) (by decide) rfl (fun ls hl => ?_)
                      refine lv_goto (tgt := 151) hx hb dX3_take_196 (by decide) ?_
                      exact ih (i + 1) b1 ls (by omega) (by omega) (by omega) hb1 (lv_sub hl [0, 1, 2, 3, 4, 5, 6, 7] rfl)
                    have k186 : (mw0 es1 k (8 * o + n) last ∨ mwi by1 k (8 * o + n) (i + 1) last) → W p l e R s m args below meth c H locs 0 0 Q (F0 m 186 ls []) := by
                      intro hy
                      refine lv_iconst (v := nI 1) hx hb dX3_take_186 (by decide +kernel) ?_
                      refine lv_goto (tgt := 191) hx hb dX3_take_187 (by decide) ?_
                      exact k191 1 (Or.inl ⟨rfl, hy⟩)
                    refine lv_iload hx hb dX3_take_164 (lv_at hl 1 rfl) ?_
                    refine lv_if_ne (tgt := 186) hx hb dX3_take_166 (by decide) (fun c35 => ?_) (fun c35 => ?_)
                    · skip
                      exact k186 (hwr.elim (fun h => h.2.elim Or.inl (fun h => Or.inr ⟨h.1, by obtain ⟨j, a1, a2, a3⟩ := h.2; exact ⟨j, a1, by omega, a3⟩⟩)) (fun h => absurd h.1 c35))
                    · skip
                      refine lv_aload_n hx hb dX3_take_169 rfl (lv_at hl 6 rfl) ?_
                      refine va_get (D := D) (ci := 3) (v := .ref m8) (C := RX3) (T := TX3) (N := 13) hx hb hts in_X3 hown hK hP 0 rfl rfl 8 (by decide) (hts _ q197) (fun _ h9 => h9) rfl dX3_take_170 ?_
                      refine lv_iload hx hb dX3_take_173 (lv_at hl 2 rfl) ?_
                      refine lv_sipush (v := nI 4096) hx hb dX3_take_175 (by decide +kernel) ?_
                      refine lv_imul hx hb dX3_take_178 ?_
                      refine lv_as (y := nI (k * 4096)) (pk_mul _ _) ?_
                      refine lv_iload hx hb dX3_take_179 (lv_at hl 0 rfl) ?_
                      refine lv_iadd hx hb dX3_take_181 ?_
                      refine lv_as (y := nI ((k * 4096) + i)) (nI_add _ _) ?_
                      refine ab_iald hx hb hK hP 8 3 rfl rfl ((k * 4096) + i) (rfl) (by omega) (by decide) dX3_take_182 ?_
                      refine lv_if_le (tgt := 190) hx hb dX3_take_183 (by decide) (fun c36 => ?_) (fun c36 => ?_)
                      · skip
                        refine lv_iconst (v := nI 0) hx hb dX3_take_190 (by decide +kernel) ?_
                        have hn9 : ¬ (mw0 es1 k (8 * o + n) last ∨ mwi by1 k (8 * o + n) (i + 1) last) := by
                          rcases hwr with h | h
                          · exact absurd (h.1.symm.trans c35) (by decide)
                          · intro h5
                            refine h.2 (h5.elim Or.inl (fun h6 => Or.inr ⟨h6.1, ?_⟩))
                            obtain ⟨j, a1, a2, a3⟩ := h6.2
                            refine ⟨j, a1, ?_, a3⟩
                            rcases Nat.lt_or_ge j i with g | g
                            · exact g
                            · have e9 : j = i := by omega
                              subst e9
                              exact absurd a3 (Int32.not_lt.mpr c36)
                        exact k191 0 (Or.inr ⟨rfl, hn9⟩)
                      · skip
                        exact k186 (Or.inr ⟨c34, i, q0, by omega, Int32.not_le.mp c36⟩)
            have hno : ¬ mwi by1 k (8 * o + n) (8 * o + n) last := fun h => by obtain ⟨j, a1, a2, a3⟩ := h.2; omega
            exact lp 4097 (8 * o + n) b0 ls (Nat.le_refl _) ho2 (by omega) (hb0.elim (fun ⟨h1, h2⟩ => Or.inl ⟨h1, Or.inl h2⟩) (fun ⟨h1, h2⟩ => Or.inr ⟨h1, fun h => h.elim h2 hno⟩)) (lv_sub hl [0, 1, 2, 3, 4, 5, 6, 7] rfl)
          have k140 : mw0 es1 k (8 * o + n) last → W p l e R s m args below meth c H locs 0 0 Q (F0 m 140 ls []) := by
            intro h0
            refine lv_iconst (v := nI 1) hx hb dX3_take_140 (by decide +kernel) ?_
            refine lv_goto (tgt := 145) hx hb dX3_take_141 (by decide) ?_
            exact k145 1 (Or.inl ⟨rfl, h0⟩)
          have k144 : ¬ mw0 es1 k (8 * o + n) last → W p l e R s m args below meth c H locs 0 0 Q (F0 m 144 ls []) := by
            intro h0
            refine lv_iconst (v := nI 0) hx hb dX3_take_144 (by decide +kernel) ?_
            exact k145 0 (Or.inr ⟨rfl, h0⟩)
          refine lv_aload_n hx hb dX3_take_101 rfl (lv_at hl 4 rfl) ?_
          refine va_get (D := D) (ci := 3) (v := .ref m5) (C := RX3) (T := TX3) (N := 13) hx hb hts in_X3 hown hK hP 0 rfl rfl 5 (by decide) (hts _ q194) (fun _ h9 => h9) rfl dX3_take_102 ?_
          refine lv_iload hx hb dX3_take_105 (lv_at hl 0 rfl) ?_
          refine ab_iald hx hb hK hP 5 3 rfl rfl k (rfl) (by omega) (by decide) dX3_take_107 ?_
          refine lv_if_lt (tgt := 144) hx hb dX3_take_108 (by decide) (fun c37 => ?_) (fun c37 => ?_)
          · skip
            exact k144 (fun h => h.1 c37)
          · skip
            refine lv_iload hx hb dX3_take_111 (lv_at hl 1 rfl) ?_
            refine lv_aload_n hx hb dX3_take_113 rfl (lv_at hl 4 rfl) ?_
            refine va_get (D := D) (ci := 3) (v := .ref m5) (C := RX3) (T := TX3) (N := 13) hx hb hts in_X3 hown hK hP 0 rfl rfl 5 (by decide) (hts _ q194) (fun _ h9 => h9) rfl dX3_take_114 ?_
            refine lv_iload hx hb dX3_take_117 (lv_at hl 0 rfl) ?_
            refine ab_iald hx hb hK hP 5 3 rfl rfl k (rfl) (by omega) (by decide) dX3_take_119 ?_
            refine lv_icmp_gt (tgt := 140) hx hb dX3_take_120 (by decide) (fun c38 => ?_) (fun c38 => ?_)
            · skip
              exact k140 ⟨c37, Or.inl c38⟩
            · skip
              refine lv_iload hx hb dX3_take_123 (lv_at hl 5 rfl) ?_
              refine lv_if_eq (tgt := 144) hx hb dX3_take_125 (by decide) (fun c39 => ?_) (fun c39 => ?_)
              · skip
                exact k144 (fun h => h.2.elim c38 (fun h => h.1 c39))
              · skip
                refine lv_iload hx hb dX3_take_128 (lv_at hl 1 rfl) ?_
                refine lv_aload_n hx hb dX3_take_130 rfl (lv_at hl 4 rfl) ?_
                refine va_get (D := D) (ci := 3) (v := .ref m5) (C := RX3) (T := TX3) (N := 13) hx hb hts in_X3 hown hK hP 0 rfl rfl 5 (by decide) (hts _ q194) (fun _ h9 => h9) rfl dX3_take_131 ?_
                refine lv_iload hx hb dX3_take_134 (lv_at hl 0 rfl) ?_
                refine ab_iald hx hb hK hP 5 3 rfl rfl k (rfl) (by omega) (by decide) dX3_take_136 ?_
                refine lv_icmp_eq (tgt := 144) hx hb dX3_take_137 (by decide) (fun c40 => ?_) (fun c40 => ?_)
                · skip
                  exact k144 (fun h => h.2.elim c38 (fun h => h.2 c40))
                · skip
                  exact k140 ⟨c37, Or.inr ⟨c39, c40⟩⟩
        refine lv_aload_n hx hb dX3_take_70 rfl (lv_at hl 3 rfl) ?_
        refine lv_iload_n hx hb dX3_take_71 rfl (lv_at hl 4 rfl) ?_
        refine lv_iload_n hx hb dX3_take_72 rfl (lv_at hl 5 rfl) ?_
        refine lv_iload_n hx hb dX3_take_73 rfl (lv_at hl 6 rfl) ?_
        refine call_V (nA := 3) (rest := []) (q := (RX3, TX3, 13)) (ci := 3) (q0 := 0) ([]) [.int fr, .int id, .int pr] ⟨hx, hb, hml, hown, hts⟩ (m_mFind l D cB cZ cR cI m0 m1 m2 m3 m4 m5 m6 m7 m8 m9 0 tray sn ids ps es bs th by_ wh ln md nw fr id pr) (lw_V q246 q248 qs3 q9 q249) (by decide +kernel) rfl (by subst hRm; exact ⟨by decide, by decide⟩) hK hE rfl rfl hP hD hS hA hl.1 rfl (Nat.le_of_ble_eq_true rfl) dX3_take_74 (by subst hRm; exact ⟨by decide, by decide⟩) (fun v u H locs hv hKu hP hD hS => ?_)
        have hP := wP_left hP
        have hD := wD_left hD
        have hP : va_P D vwCl [(m0, .inr (3, [.ref m1, .int (nI 0), .ref m2, .ref m3, .ref m4, .ref m5, .ref m6, .ref m7, .ref m8, .ref m9, .int ln, .int md, .int nw])), (m1, .inl (cB, 1480, .inl tray)), (m2, .inl (cI, 4, .inl sn)), (m3, .inl (cI, 4, .inl ids)), (m4, .inl (cI, 4, .inl ps)), (m5, .inl (cI, 4, .inl es)), (m6, .inl (cI, 4, .inl bs)), (m7, .inl (cZ, 4, .inl th)), (m8, .inl (cI, 16384, .inl by_)), (m9, .inl (cI, 4096, .inl wh))] H := hP
        have hD : va_D A [(m0, .inr (3, [.ref m1, .int (nI 0), .ref m2, .ref m3, .ref m4, .ref m5, .ref m6, .ref m7, .ref m8, .ref m9, .int ln, .int md, .int nw])), (m1, .inl (cB, 1480, .inl tray)), (m2, .inl (cI, 4, .inl sn)), (m3, .inl (cI, 4, .inl ids)), (m4, .inl (cI, 4, .inl ps)), (m5, .inl (cI, 4, .inl es)), (m6, .inl (cI, 4, .inl bs)), (m7, .inl (cZ, 4, .inl th)), (m8, .inl (cI, 16384, .inl by_)), (m9, .inl (cI, 4096, .inl wh))] := hD
        rcases hv with ⟨k, hk, hkey, rfl⟩ | ⟨hno, rfl⟩
        · skip
          refine W.eq (g2 := F0 m 77 ls [.int (nI k)]) rfl ?_
          refine W.cs (cells' := 0) (slots' := 0) rfl rfl ?_
          refine lv_istore (lv' := [(9, .int (nI k)), (8, .int (nI ((8 * o) + n))), (7, .int (nI (8 * o))), (6, .int (nI n)), (0, .ref m0), (1, .int fr), (2, .int id), (3, .int pr), (4, .int (nI o)), (5, .int last)]) hx hb dX3_take_77 hl (by decide) rfl (fun ls hl => ?_)
          refine lv_iload hx hb dX3_take_79 (lv_at hl 0 rfl) ?_
          refine lv_if_ge (tgt := 93) hx hb dX3_take_81 (by decide) (fun c41 => ?_) (fun c41 => ?_)
          · skip
            refine lv_iload hx hb dX3_take_93 (lv_at hl 0 rfl) ?_
            refine lv_if_ge (tgt := 101) hx hb dX3_take_95 (by decide) (fun c42 => ?_) (fun c42 => ?_)
            · skip
              exact k101 k sn ids ps es bs th by_ H locs ls hk (hen k hk) (fun r w h => Or.inr ⟨o, ho, rfl, Or.inr ⟨hgood, Or.inr (Or.inl ⟨k, w, hk, hkey, h, rfl⟩)⟩⟩) hP hD hS (lv_sub hl [0, 1, 2, 3, 4, 9] rfl)
            · skip
              exact absurd (nI_pos' (by omega)) c42
          · skip
            exact absurd (nI_pos' (by omega)) c41
        · skip
          refine W.eq (g2 := F0 m 77 ls [.int (-1)]) rfl ?_
          refine W.cs (cells' := 0) (slots' := 0) rfl rfl ?_
          refine lv_istore (lv' := [(9, .int (-1)), (8, .int (nI ((8 * o) + n))), (7, .int (nI (8 * o))), (6, .int (nI n)), (0, .ref m0), (1, .int fr), (2, .int id), (3, .int pr), (4, .int (nI o)), (5, .int last)]) hx hb dX3_take_77 hl (by decide) rfl (fun ls hl => ?_)
          refine lv_iload hx hb dX3_take_79 (lv_at hl 0 rfl) ?_
          refine lv_if_ge (tgt := 93) hx hb dX3_take_81 (by decide) (fun c43 => ?_) (fun c43 => ?_)
          · skip
            exact absurd c43 (by decide)
          · skip
            refine lv_aload_n hx hb dX3_take_84 rfl (lv_at hl 4 rfl) ?_
            refine lv_iload_n hx hb dX3_take_85 rfl (lv_at hl 5 rfl) ?_
            refine lv_iload_n hx hb dX3_take_86 rfl (lv_at hl 6 rfl) ?_
            refine lv_iload_n hx hb dX3_take_87 rfl (lv_at hl 7 rfl) ?_
            refine call_V (nA := 3) (rest := []) (q := (RX3, TX3, 13)) (ci := 3) (q0 := 0) ([]) [.int fr, .int id, .int pr] ⟨hx, hb, hml, hown, hts⟩ (m_mBegin l D cB cZ cR cI m0 m1 m2 m3 m4 m5 m6 m7 m8 m9 0 tray sn ids ps es bs th by_ wh ln md nw fr id pr) (lw_V q250 q252 qs4 q9 q253) (by decide +kernel) rfl (by subst hRm; exact ⟨by decide, by decide⟩) hK hE rfl rfl hP hD hS hA hl.1 rfl (Nat.le_of_ble_eq_true rfl) dX3_take_88 (by subst hRm; exact ⟨by decide, by decide⟩) (fun v u H locs hv hKu hP hD hS => ?_)
            have hP := wP_left hP
            have hD := wD_left hD
            rcases hv with ⟨k, hk, hk0, rfl, rfl⟩ | ⟨hall, rfl, rfl⟩
            · skip
              refine W.eq (g2 := F0 m 91 ls [.int (nI k)]) rfl ?_
              refine W.cs (cells' := 0) (slots' := 0) rfl rfl ?_
              have hP : va_P D vwCl [(m0, .inr (3, [.ref m1, .int (nI 0), .ref m2, .ref m3, .ref m4, .ref m5, .ref m6, .ref m7, .ref m8, .ref m9, .int ln, .int md, .int nw])), (m1, .inl (cB, 1480, .inl tray)), (m2, .inl (cI, 4, .inl (upd sn k fr))), (m3, .inl (cI, 4, .inl (upd ids k id))), (m4, .inl (cI, 4, .inl (upd ps k pr))), (m5, .inl (cI, 4, .inl (upd es k (-1)))), (m6, .inl (cI, 4, .inl (upd bs k nw))), (m7, .inl (cZ, 4, .inl (upd th k 1))), (m8, .inl (cI, 16384, .inl (seg (k * 4096) 4096 (fun _ => 0) by_))), (m9, .inl (cI, 4096, .inl wh))] H := hP
              have hD : va_D A [(m0, .inr (3, [.ref m1, .int (nI 0), .ref m2, .ref m3, .ref m4, .ref m5, .ref m6, .ref m7, .ref m8, .ref m9, .int ln, .int md, .int nw])), (m1, .inl (cB, 1480, .inl tray)), (m2, .inl (cI, 4, .inl (upd sn k fr))), (m3, .inl (cI, 4, .inl (upd ids k id))), (m4, .inl (cI, 4, .inl (upd ps k pr))), (m5, .inl (cI, 4, .inl (upd es k (-1)))), (m6, .inl (cI, 4, .inl (upd bs k nw))), (m7, .inl (cZ, 4, .inl (upd th k 1))), (m8, .inl (cI, 16384, .inl (seg (k * 4096) 4096 (fun _ => 0) by_))), (m9, .inl (cI, 4096, .inl wh))] := hD
              refine lv_istore (lv' := [(9, .int (nI k)), (8, .int (nI ((8 * o) + n))), (7, .int (nI (8 * o))), (6, .int (nI n)), (0, .ref m0), (1, .int fr), (2, .int id), (3, .int pr), (4, .int (nI o)), (5, .int last)]) hx hb dX3_take_91 hl (by decide) rfl (fun ls hl => ?_)
              refine lv_iload hx hb dX3_take_93 (lv_at hl 0 rfl) ?_
              refine lv_if_ge (tgt := 101) hx hb dX3_take_95 (by decide) (fun c44 => ?_) (fun c44 => ?_)
              · skip
                exact k101 k _ _ _ _ _ _ _ H locs ls hk (by rw [pk_us]; exact Or.inl rfl) (fun r w h => Or.inr ⟨o, ho, rfl, Or.inr ⟨hgood, Or.inr (Or.inr ⟨k, w, hk, hk0, hno, h, rfl⟩)⟩⟩) hP hD hS (lv_sub hl [0, 1, 2, 3, 4, 9] rfl)
              · skip
                exact absurd (nI_pos' (by omega)) c44
            · skip
              refine W.eq (g2 := F0 m 91 ls [.int (-1)]) rfl ?_
              refine W.cs (cells' := 0) (slots' := 0) rfl rfl ?_
              have hP : va_P D vwCl [(m0, .inr (3, [.ref m1, .int (nI 0), .ref m2, .ref m3, .ref m4, .ref m5, .ref m6, .ref m7, .ref m8, .ref m9, .int ln, .int md, .int nw])), (m1, .inl (cB, 1480, .inl tray)), (m2, .inl (cI, 4, .inl sn)), (m3, .inl (cI, 4, .inl ids)), (m4, .inl (cI, 4, .inl ps)), (m5, .inl (cI, 4, .inl es)), (m6, .inl (cI, 4, .inl bs)), (m7, .inl (cZ, 4, .inl th)), (m8, .inl (cI, 16384, .inl by_)), (m9, .inl (cI, 4096, .inl wh))] H := hP
              have hD : va_D A [(m0, .inr (3, [.ref m1, .int (nI 0), .ref m2, .ref m3, .ref m4, .ref m5, .ref m6, .ref m7, .ref m8, .ref m9, .int ln, .int md, .int nw])), (m1, .inl (cB, 1480, .inl tray)), (m2, .inl (cI, 4, .inl sn)), (m3, .inl (cI, 4, .inl ids)), (m4, .inl (cI, 4, .inl ps)), (m5, .inl (cI, 4, .inl es)), (m6, .inl (cI, 4, .inl bs)), (m7, .inl (cZ, 4, .inl th)), (m8, .inl (cI, 16384, .inl by_)), (m9, .inl (cI, 4096, .inl wh))] := hD
              refine lv_istore (lv' := [(9, .int (-1)), (8, .int (nI ((8 * o) + n))), (7, .int (nI (8 * o))), (6, .int (nI n)), (0, .ref m0), (1, .int fr), (2, .int id), (3, .int pr), (4, .int (nI o)), (5, .int last)]) hx hb dX3_take_91 hl (by decide) rfl (fun ls hl => ?_)
              refine lv_iload hx hb dX3_take_93 (lv_at hl 0 rfl) ?_
              refine lv_if_ge (tgt := 101) hx hb dX3_take_95 (by decide) (fun c45 => ?_) (fun c45 => ?_)
              · skip
                exact absurd c45 (by decide)
              · skip
                refine lv_bipush (v := (-2)) hx hb dX3_take_98 (by decide +kernel) ?_
                exact ret_i hx hb hr rfl hlk hQ (Nat.le_refl _) (Nat.le_refl _) (0, sn, ids, ps, es, bs, th, by_, wh, ln, md) (Or.inr ⟨o, ho, rfl, Or.inr ⟨hgood, Or.inl ⟨hno, hall, rfl, rfl⟩⟩⟩) hK hP hD hS dX3_take_100
      refine lv_iload hx hb dX3_take_41 (lv_at hl 0 rfl) ?_
      refine lv_sipush (v := nI 4096) hx hb dX3_take_43 (by decide +kernel) ?_
      refine lv_icmp_gt (tgt := 67) hx hb dX3_take_46 (by decide) (fun c46 => ?_) (fun c46 => ?_)
      · skip
        have c46 : 4096 < ((8 * o) + n) := (nI_ltI (by omega) (by omega)).mp c46
        exact k67 (Or.inr c46)
      · skip
        have c46 : ¬ (4096 < ((8 * o) + n)) := fun h => c46 ((nI_ltI (by omega) (by omega)).mpr h)
        refine lv_iload hx hb dX3_take_49 (lv_at hl 8 rfl) ?_
        refine lv_if_ne (tgt := 70) hx hb dX3_take_51 (by decide) (fun c47 => ?_) (fun c47 => ?_)
        · skip
          exact k70 (fun h => h.elim (fun h => c47 h.1) (fun h => c46 h))
        · skip
          refine lv_iload hx hb dX3_take_54 (lv_at hl 2 rfl) ?_
          refine lv_if_eq (tgt := 67) hx hb dX3_take_56 (by decide) (fun c48 => ?_) (fun c48 => ?_)
          · skip
            exact k67 (Or.inl ⟨c47, fun h => by have h5 : n = 0 := (nI_eq (by omega) (by omega)).mp (show nI n = nI 0 from c48); omega⟩)
          · skip
            refine lv_iload hx hb dX3_take_59 (lv_at hl 2 rfl) ?_
            refine lv_bipush (v := nI 8) hx hb dX3_take_61 (by decide +kernel) ?_
            refine lv_irem hx hb dX3_take_63 (by decide +kernel) ?_
            refine lv_as (y := nI (n % 8)) (pk_rem (by omega) (by omega) (by omega)) ?_
            refine lv_if_eq (tgt := 70) hx hb dX3_take_64 (by decide) (fun c49 => ?_) (fun c49 => ?_)
            · skip
              exact k70 (fun h => h.elim (fun h => h.2 (by have h5 : n % 8 = 0 := (nI_eq (by omega) (by omega)).mp (show nI (n % 8) = nI 0 from c49); have h6 : ¬ n = 0 := fun h7 => c48 (by rw [h7]; rfl); omega)) (fun h => c46 h))
            · skip
              exact k67 (Or.inl ⟨c47, fun h => c49 (by rw [h.2]; rfl)⟩)
    · skip
      exact k13 (Or.inr (Int32.not_le.mp c23))
end
section
/-! the law's cases: what the two sides answer is the same, and they hold together behind it -/
theorem some_int {a b : Int32} (h : some (Value.int a) = some (Value.int b)) : a = b := by
  cases h
  rfl
theorem feed_eq {n : Nat} {tray : Fn} {a b c d e : Int32} {r1 r2 : Option Value} {u1 u2 : Nat × Fn} (hn : n ≤ 1480)
    (h1 : (n + 20 ≤ 1480 ∧ r1 = some (.int (nI (n + 20))) ∧ u1 = (n + 20, feedT tray n a b c d e)) ∨ (1480 < n + 20 ∧ r1 = some (.int (-1)) ∧ u1 = (n, tray)))
    (h2 : (n + 20 ≤ 1480 ∧ r2 = some (.int (nI (n + 20))) ∧ u2 = (n + 20, feedM tray n a b c d e)) ∨ (1480 < n + 20 ∧ r2 = some (.int (-1)) ∧ u2 = (n, tray))) : r1 = r2 ∧ u1 = u2 ∧ u2.1 ≤ 1480 := by
  rcases h1 with ⟨a1, a2, a3⟩ | ⟨a1, a2, a3⟩
  · rcases h2 with ⟨b1, b2, b3⟩ | ⟨b1, b2, b3⟩
    · exact ⟨a2.trans b2.symm, by rw [a3, b3, feed_same], by rw [b3]; exact b1⟩
    · omega
  · rcases h2 with ⟨b1, b2, b3⟩ | ⟨b1, b2, b3⟩
    · omega
    · exact ⟨a2.trans b2.symm, a3.trans b3.symm, by rw [b3]; exact hn⟩
theorem end_eq {n : Nat} {k : Int32} {r1 r2 : Option Value} {u1 u2 : Nat} (hn : n ≤ 1480)
    (h1 : (∃ j, j ≤ n ∧ k = nI j ∧ r1 = some (.int (nI j)) ∧ u1 = j) ∨ ((k < 0 ∨ nI n < k) ∧ r1 = some (.int (-1)) ∧ u1 = n))
    (h2 : (∃ j, j ≤ n ∧ k = nI j ∧ r2 = some (.int (nI j)) ∧ u2 = j) ∨ ((k < 0 ∨ nI n < k) ∧ r2 = some (.int (-1)) ∧ u2 = n)) : r1 = r2 ∧ u1 = u2 ∧ u2 ≤ 1480 := by
  have key : ∀ j, j ≤ n → k = nI j → ¬ (k < 0 ∨ nI n < k) := by
    intro j q1 q2 q3
    rw [q2] at q3
    rcases q3 with q3 | q3
    · exact nI_pos (by omega) q3
    · exact nI_nlt q1 (by omega) q3
  rcases h1 with ⟨j, a1, a3, a2, a4⟩ | ⟨a1, a2, a4⟩
  · rcases h2 with ⟨j2, b1, b3, b2, b4⟩ | ⟨b1, b2, b4⟩
    · have e : j = j2 := (nI_eq (by omega) (by omega)).mp (a3.symm.trans b3)
      exact ⟨by rw [a2, b2, e], by omega, by omega⟩
    · exact absurd b1 (key j a1 a3)
  · rcases h2 with ⟨j2, b1, b3, b2, b4⟩ | ⟨b1, b2, b4⟩
    · exact absurd a1 (key j2 b1 b3)
    · exact ⟨a2.trans b2.symm, by omega, by omega⟩
theorem pass_eq {t : Nat} {whole : Fn} {wl : Int32} {sz : Nat} {M : Nat → Mk} {sn ids ps es bs th by_ wh : Fn} {tt : Int32} {r1 r2 : Option Value} {u1 : Int32 × Nat × (Nat → Mk)} {u2 : Int32 × Fn} (h : Rel t whole wl sz M sn ids ps es bs th by_ wh)
    (h1 : ((tt < nI t ∨ nI 2000000000 < tt) ∧ r1 = some (.int (-1)) ∧ u1 = (nI t, 0, M)) ∨ (¬ tt < nI t ∧ tt ≤ nI 2000000000 ∧ u1.1 = tt ∧ u1.2.1 ≤ sz ∧ r1 = some (.int (nI u1.2.1)) ∧ (∀ j, j + u1.2.1 < sz → u1.2.2 j = M (j + u1.2.1)) ∧ (∀ j, j < u1.2.1 → kSi (M j) + nI 15000 ≤ tt) ∧ (u1.2.1 < sz → ¬ (kSi (M u1.2.1) + nI 15000 ≤ tt))))
    (h2 : ((tt < nI t ∨ nI 2000000000 < tt) ∧ r2 = some (.int (-1)) ∧ u2 = (nI t, th)) ∨ (¬ tt < nI t ∧ tt ≤ nI 2000000000 ∧ r2 = some (.int (nI (cnt (isX th bs tt) 4))) ∧ u2 = (tt, thP th bs tt 4))) :
    r1 = r2 ∧ ∃ t', u1.1 = nI t' ∧ u2.1 = nI t' ∧ Rel t' whole wl (sz - u1.2.1) u1.2.2 sn ids ps es bs u2.2 by_ wh := by
  rcases h1 with ⟨a1, a2, rfl⟩ | ⟨a1, a2, a3, a4, a5, a6, a7, a8⟩
  · rcases h2 with ⟨b1, b2, rfl⟩ | ⟨b1, b2, -⟩
    · exact ⟨a2.trans b2.symm, t, rfl, rfl, h⟩
    · rcases a1 with a1 | a1
      · exact absurd a1 b1
      · exact absurd b2 (Int32.not_le.mpr a1)
  · rcases h2 with ⟨b1, -⟩ | ⟨b1, b2, b3, rfl⟩
    · rcases b1 with b1 | b1
      · exact absurd b1 a1
      · exact absurd a2 (Int32.not_le.mpr b1)
    · obtain ⟨c1, t', c2, -, c3⟩ := pass_sim h a1 a2 a4 a6 a7 a8
      exact ⟨by rw [a5, b3, c1], t', a3.trans c2, c2, c3⟩
theorem at_eq {t : Nat} {whole : Fn} {wl : Int32} {sz : Nat} {M : Nat → Mk} {sn ids ps es bs th by_ wh : Fn} {i : Int32} {r1 r2 : Option Value} (h : Rel t whole wl sz M sn ids ps es bs th by_ wh)
    (h1 : (∃ e0 j, e0 ≤ 4096 ∧ wl = nI e0 ∧ j < e0 ∧ i = nI j ∧ r1 = some (.int (whole j &&& nI 255))) ∨ ((i < 0 ∨ wl ≤ i) ∧ r1 = some (.int (-1))))
    (h2 : (∃ e0 j, e0 ≤ 4096 ∧ wl = nI e0 ∧ j < e0 ∧ i = nI j ∧ r2 = some (.int (wh j))) ∨ ((i < 0 ∨ wl ≤ i) ∧ r2 = some (.int (-1)))) : r1 = r2 := by
  have key : ∀ e0 j, e0 ≤ 4096 → wl = nI e0 → j < e0 → i = nI j → ¬ (i < 0 ∨ wl ≤ i) := by
    intro e0 j q1 q2 q3 q4 q5
    rw [q2, q4] at q5
    rcases q5 with q5 | q5
    · exact nI_pos (by omega) q5
    · exact nI_ge q3 (by omega) q5
  rcases h1 with ⟨e0, j, a1, a2, a3, a4, a5⟩ | ⟨a1, a2⟩
  · rcases h2 with ⟨e1, j1, b1, b2, b3, b4, b5⟩ | ⟨b1, b2⟩
    · have e : j = j1 := (nI_eq (by omega) (by omega)).mp (a4.symm.trans b4)
      rw [a5, b5, ← e, h.2.2.2 e0 j a1 a2 a3]
    · exact absurd b1 (key e0 j a1 a2 a3 a4)
  · rcases h2 with ⟨e1, j1, b1, b2, b3, b4, b5⟩ | ⟨b1, b2⟩
    · exact absurd a1 (key e1 j1 b1 b2 b3 b4)
    · exact a2.trans b2.symm
theorem hTake_int {n : Nat} {tray : Nat → Int32} {now : Int32} {whole : Nat → Int32} {wl : Int32} {sz : Nat} {md : Int32} {M : Nat → Mk} {fr id pr ofs last : Int32} {r : Option Value} {u : Nat × (Nat → Int32) × Int32 × Nat × Int32 × (Nat → Mk)} (h : hTake n tray now whole wl sz md M fr id pr ofs last r u) : ∃ z, r = some (.int z) := by
  rcases h with ⟨-, h, -⟩ | ⟨o, -, -, ⟨-, h, -⟩ | ⟨-, ⟨-, -, h, -⟩ | ⟨v, w, -, -, ⟨-, -, -, h, -⟩ | ⟨-, -, h, -⟩ | ⟨e, -, -, -, h, -⟩⟩⟩⟩ <;> exact ⟨_, h⟩
theorem mTail_int {k n o : Nat} {last : Int32} {tr es th by_ wh : Fn} {ln md : Int32} {r : Option Value} {u : Fn × Fn × Fn × Fn × Int32 × Int32} (h : mTail k n o last tr es th by_ wh ln md r u) : ∃ z, r = some (.int z) := by
  rcases h with ⟨-, h, -⟩ | ⟨-, ⟨-, h, -⟩ | ⟨e, -, -, ⟨-, h, -⟩ | ⟨-, h, -⟩⟩⟩ <;> exact ⟨_, h⟩
theorem mTake_int {n : Nat} {tray sn ids ps es bs th by_ wh : Fn} {ln md nw fr id pr ofs last : Int32} {r : Option Value} {u : MU} (h : mTake n tray sn ids ps es bs th by_ wh ln md nw fr id pr ofs last r u) : ∃ z, r = some (.int z) := by
  rcases h with ⟨-, h, -⟩ | ⟨o, -, -, ⟨-, h, -⟩ | ⟨-, ⟨-, -, h, -⟩ | ⟨k, w, -, -, h, -⟩ | ⟨k, w, -, -, -, h, -⟩⟩⟩
  · exact ⟨_, h⟩
  · exact ⟨_, h⟩
  · exact ⟨_, h⟩
  · exact mTail_int h
  · exact mTail_int h
theorem rel_hen {t : Nat} {whole : Fn} {wl : Int32} {sz : Nat} {M : Nat → Mk} {sn ids ps es bs th by_ wh : Fn} (h : Rel t whole wl sz M sn ids ps es bs th by_ wh) : ∀ j, j < sz → okEn (kEn (M j)) := by
  obtain ⟨-, ⟨idx, hrc⟩, -⟩ := h
  intro j hj
  obtain ⟨i, hi, -⟩ := rc_at hrc hj
  exact mkOk_en (hrc.2.2.2.1 j i hi).2
theorem rel_es {t : Nat} {whole : Fn} {wl : Int32} {sz : Nat} {M : Nat → Mk} {sn ids ps es bs th by_ wh : Fn} (h : Rel t whole wl sz M sn ids ps es bs th by_ wh) : ∀ k, k < 4 → okEn (es k) := by
  obtain ⟨-, ⟨idx, hrc⟩, -⟩ := h
  exact hrc.2.2.2.2.2.2.2
theorem rel_sz {t : Nat} {whole : Fn} {wl : Int32} {sz : Nat} {M : Nat → Mk} {sn ids ps es bs th by_ wh : Fn} (h : Rel t whole wl sz M sn ids ps es bs th by_ wh) : sz ≤ 4 := by
  obtain ⟨-, ⟨idx, hrc⟩, -⟩ := h
  exact rc_sz hrc
theorem rel_cnt {t : Nat} {whole : Fn} {wl : Int32} {sz : Nat} {M : Nat → Mk} {sn ids ps es bs th by_ wh : Fn} (h : Rel t whole wl sz M sn ids ps es bs th by_ wh) : cnt (isT th) 4 = sz := by
  obtain ⟨-, ⟨idx, hrc⟩, -⟩ := h
  exact rc_cnt hrc
theorem and7 (x : Int32) : x &&& nI 7 = nI 0 ∨ x &&& nI 7 = nI 1 ∨ x &&& nI 7 = nI 2 ∨ x &&& nI 7 = nI 3 ∨ x &&& nI 7 = nI 4 ∨ x &&& nI 7 = nI 5 ∨ x &&& nI 7 = nI 6 ∨ x &&& nI 7 = nI 7 := by
  obtain ⟨j, hj, e⟩ := pk_andE x (m := nI 7) 3 (by decide +kernel)
  rw [e]
  have h : j = 0 ∨ j = 1 ∨ j = 2 ∨ j = 3 ∨ j = 4 ∨ j = 5 ∨ j = 6 ∨ j = 7 := by omega
  rcases h with rfl | rfl | rfl | rfl | rfl | rfl | rfl | rfl <;> simp
end
section
/-! the law: its cases, its loop -/
/-- what the law's cells hold between two calls -/
def lawI (D : va_G) (A : Nat → Prop) (cB cZ cR cI : ClassId) (h0 tr wh hf hr m0 m1 m2 m3 m4 m5 m6 m7 m8 m9 : Nat) (H : Heap) : Prop :=
  ∃ (n t : Nat) (tray whole : Fn) (wl md : Int32) (sz : Nat) (M : Nat → Mk) (sn ids ps es bs th by_ w2 : Fn), n ≤ 1480 ∧ Rel t whole wl sz M sn ids ps es bs th by_ w2 ∧ va_P D vwCl (hsw cB cZ cR h0 tr wh hf hr n tray (nI t) whole wl sz md M ++ mw cB cZ cI m0 m1 m2 m3 m4 m5 m6 m7 m8 m9 n tray sn ids ps es bs th by_ w2 wl md (nI t)) H ∧ va_D A (hsw cB cZ cR h0 tr wh hf hr n tray (nI t) whole wl sz md M ++ mw cB cZ cI m0 m1 m2 m3 m4 m5 m6 m7 m8 m9 n tray sn ids ps es bs th by_ w2 wl md (nI t))
/-- what holds all through the law -/
def LC (p : Program) (s : State) (m : MethodId) (c : Code) (b L : Nat) (xs : Nat → Int32) (D : va_G) (A : Nat → Prop) (cB cZ cR cI : ClassId) : Prop :=
  p.tables.exec = Jvm.exec ∧ c.code = cL_law ∧ c.maxLocals = 4 ∧ s.vm.findClass "FragmentHouseLaw" = some m.cls ∧ (∀ w ∈ lw_all, w.before #[Value.ref b] s = true) ∧ va_X b L xs s s.heap ∧ b < s.heap.size ∧ (∀ q : Nat, s.heap.size ≤ q → A q) ∧ ¬ A b ∧ va_K D vwCl (tyS cB cZ cR cI) s ∧ EX s ∧ L ≤ 384
section LAW
variable {p : Program} {l : Launch} {e : Env} {s : State} {m : MethodId} {below : List Frame} {meth : Method} {c : Code} {b L i : Nat} {xs : Nat → Int32} {Q : State → Prop} {D : va_G} {A : Nat → Prop} {cB cZ cR cI : ClassId} {h0 tr wh hf hr m0 m1 m2 m3 m4 m5 m6 m7 m8 m9 : Nat} {ls : Array Slot} {H H0 : Heap} {locs : List Loc} {args : Array Value} {R : Room} {cells slots pc : Nat} {rest : List Value} {cc : ByteArray}
theorem ab_sld (hx : p.tables.exec = Jvm.exec) (hb : c.code = cc) (hX : va_X b L xs s H0) (hbl : b < H0.size) (hbA : ¬ A b) (hS : va_S A H0 H locs) {x : Int32} (j : Nat) (hi : x = nI j) (hj : j < L) (hn : L < 2 ^ 31) (hdg : decode cc pc = .ok (.iaload, 1))
    (kk : W p l e R s m args below meth c H locs cells slots Q (F0 m (pc + 1) ls (.int (xs j) :: rest))) : W p l e R s m args below meth c H locs cells slots Q (F0 m pc ls (.int x :: .ref b :: rest)) := by
  subst hi
  refine va_sld hx hb hX hbl hbA hS (vp_in_nI hj hn) hdg ?_
  rw [nI_clamp (Nat.lt_trans hj hn)]
  exact kk
set_option maxHeartbeats 4000000 in
set_option maxRecDepth 100000 in
/-- the law: feed -/
theorem law_c0 (C : LC p s m c b L xs D A cB cZ cR cI) (hi : i + 6 ≤ L) (hI : lawI D A cB cZ cR cI h0 tr wh hf hr m0 m1 m2 m3 m4 m5 m6 m7 m8 m9 H) (hS : va_S A s.heap H locs) (hl : lv_has ls 4 [(0, .ref b), (1, .ref h0), (2, .ref m0), (3, .int (nI i))]) (kk : ∀ (H : Heap) (locs : List Loc), lawI D A cB cZ cR cI h0 tr wh hf hr m0 m1 m2 m3 m4 m5 m6 m7 m8 m9 H → va_S A s.heap H locs → W p l e room_1 s m #[Value.ref b] below meth c H locs 27 60386 Q (F0 m 330 ls [])) : W p l e room_1 s m #[Value.ref b] below meth c H locs 27 60386 Q (F0 m 80 ls []) := by
  obtain ⟨hx, hb, hml, hown, hts, hX, hbl, hA, hbA, hK, hE, hL⟩ := C
  obtain ⟨n, t, tray, whole, wl, md, sz, M, sn, ids, ps, es, bs, th, by_, w2, hn, hrel, hP, hD⟩ := hI
  refine lv_aload_n hx hb dL_law_80 rfl (lv_at hl 1 rfl) ?_
  refine lv_aload_n hx hb dL_law_81 rfl (lv_at hl 0 rfl) ?_
  refine lv_iload_n hx hb dL_law_82 rfl (lv_at hl 3 rfl) ?_
  refine lv_iconst (v := nI 1) hx hb dL_law_83 (by decide +kernel) ?_
  refine lv_iadd hx hb dL_law_84 ?_
  refine lv_as (y := nI (i + 1)) (nI_add _ _) ?_
  refine ab_sld hx hb hX hbl hbA hS (i + 1) rfl (by omega) (by omega) dL_law_85 ?_
  refine lv_aload_n hx hb dL_law_86 rfl (lv_at hl 0 rfl) ?_
  refine lv_iload_n hx hb dL_law_87 rfl (lv_at hl 3 rfl) ?_
  refine lv_iconst (v := nI 2) hx hb dL_law_88 (by decide +kernel) ?_
  refine lv_iadd hx hb dL_law_89 ?_
  refine lv_as (y := nI (i + 2)) (nI_add _ _) ?_
  refine ab_sld hx hb hX hbl hbA hS (i + 2) rfl (by omega) (by omega) dL_law_90 ?_
  refine lv_aload_n hx hb dL_law_91 rfl (lv_at hl 0 rfl) ?_
  refine lv_iload_n hx hb dL_law_92 rfl (lv_at hl 3 rfl) ?_
  refine lv_iconst (v := nI 3) hx hb dL_law_93 (by decide +kernel) ?_
  refine lv_iadd hx hb dL_law_94 ?_
  refine lv_as (y := nI (i + 3)) (nI_add _ _) ?_
  refine ab_sld hx hb hX hbl hbA hS (i + 3) rfl (by omega) (by omega) dL_law_95 ?_
  refine lv_aload_n hx hb dL_law_96 rfl (lv_at hl 0 rfl) ?_
  refine lv_iload_n hx hb dL_law_97 rfl (lv_at hl 3 rfl) ?_
  refine lv_iconst (v := nI 4) hx hb dL_law_98 (by decide +kernel) ?_
  refine lv_iadd hx hb dL_law_99 ?_
  refine lv_as (y := nI (i + 4)) (nI_add _ _) ?_
  refine ab_sld hx hb hX hbl hbA hS (i + 4) rfl (by omega) (by omega) dL_law_100 ?_
  refine lv_aload_n hx hb dL_law_101 rfl (lv_at hl 0 rfl) ?_
  refine lv_iload_n hx hb dL_law_102 rfl (lv_at hl 3 rfl) ?_
  refine lv_iconst (v := nI 5) hx hb dL_law_103 (by decide +kernel) ?_
  refine lv_iadd hx hb dL_law_104 ?_
  refine lv_as (y := nI (i + 5)) (nI_add _ _) ?_
  refine ab_sld hx hb hX hbl hbA hS (i + 5) rfl (by omega) (by omega) dL_law_105 ?_
  refine call_V (nA := 5) (rest := []) (q := (RX0, TX0, 6)) (ci := 0) (q0 := 0) (mw cB cZ cI m0 m1 m2 m3 m4 m5 m6 m7 m8 m9 n tray sn ids ps es bs th by_ w2 wl md (nI t)) [.int (xs (i + 1)), .int (xs (i + 2)), .int (xs (i + 3)), .int (xs (i + 4)), .int (xs (i + 5))] ⟨hx, hb, hml, hown, hts⟩ (m_hFeed l D cB cZ cR cI h0 tr wh hf hr n tray (nI t) whole wl sz md M (xs (i + 1)) (xs (i + 2)) (xs (i + 3)) (xs (i + 4)) (xs (i + 5)) hn) (lw_V q101 q102 q103 q6 q104) (by decide +kernel) rfl ⟨Nat.le_of_ble_eq_true rfl, Nat.le_of_ble_eq_true rfl⟩ hK hE rfl rfl hP hD hS hA hl.1 rfl (Nat.le_of_ble_eq_true rfl) dL_law_106 ⟨Nat.le_of_ble_eq_true rfl, Nat.le_of_ble_eq_true rfl⟩ (fun v1 u1 H locs hv1 hKu hP hD hS => ?_)
  obtain ⟨z1, rfl⟩ : ∃ (z : Int32), v1 = some (.int z) := by rcases hv1 with ⟨-, h, -⟩ | ⟨-, h, -⟩ <;> exact ⟨_, h⟩
  refine W.eq (g2 := F0 m 109 ls [.int z1]) rfl ?_
  refine W.cs (cells' := 27) (slots' := 60386) rfl rfl ?_
  have hP : va_P D vwCl (hsw cB cZ cR h0 tr wh hf hr u1.1 u1.2 (nI t) whole wl sz md M ++ mw cB cZ cI m0 m1 m2 m3 m4 m5 m6 m7 m8 m9 n tray sn ids ps es bs th by_ w2 wl md (nI t)) _ := hP
  have hD : va_D A (hsw cB cZ cR h0 tr wh hf hr u1.1 u1.2 (nI t) whole wl sz md M ++ mw cB cZ cI m0 m1 m2 m3 m4 m5 m6 m7 m8 m9 n tray sn ids ps es bs th by_ w2 wl md (nI t)) := hD
  have hP := wP_perm hP List.perm_append_comm
  have hD := wD_perm hD List.perm_append_comm
  refine lv_aload_n hx hb dL_law_109 rfl (lv_at hl 2 rfl) ?_
  refine lv_aload_n hx hb dL_law_110 rfl (lv_at hl 0 rfl) ?_
  refine lv_iload_n hx hb dL_law_111 rfl (lv_at hl 3 rfl) ?_
  refine lv_iconst (v := nI 1) hx hb dL_law_112 (by decide +kernel) ?_
  refine lv_iadd hx hb dL_law_113 ?_
  refine lv_as (y := nI (i + 1)) (nI_add _ _) ?_
  refine ab_sld hx hb hX hbl hbA hS (i + 1) rfl (by omega) (by omega) dL_law_114 ?_
  refine lv_aload_n hx hb dL_law_115 rfl (lv_at hl 0 rfl) ?_
  refine lv_iload_n hx hb dL_law_116 rfl (lv_at hl 3 rfl) ?_
  refine lv_iconst (v := nI 2) hx hb dL_law_117 (by decide +kernel) ?_
  refine lv_iadd hx hb dL_law_118 ?_
  refine lv_as (y := nI (i + 2)) (nI_add _ _) ?_
  refine ab_sld hx hb hX hbl hbA hS (i + 2) rfl (by omega) (by omega) dL_law_119 ?_
  refine lv_aload_n hx hb dL_law_120 rfl (lv_at hl 0 rfl) ?_
  refine lv_iload_n hx hb dL_law_121 rfl (lv_at hl 3 rfl) ?_
  refine lv_iconst (v := nI 3) hx hb dL_law_122 (by decide +kernel) ?_
  refine lv_iadd hx hb dL_law_123 ?_
  refine lv_as (y := nI (i + 3)) (nI_add _ _) ?_
  refine ab_sld hx hb hX hbl hbA hS (i + 3) rfl (by omega) (by omega) dL_law_124 ?_
  refine lv_aload_n hx hb dL_law_125 rfl (lv_at hl 0 rfl) ?_
  refine lv_iload_n hx hb dL_law_126 rfl (lv_at hl 3 rfl) ?_
  refine lv_iconst (v := nI 4) hx hb dL_law_127 (by decide +kernel) ?_
  refine lv_iadd hx hb dL_law_128 ?_
  refine lv_as (y := nI (i + 4)) (nI_add _ _) ?_
  refine ab_sld hx hb hX hbl hbA hS (i + 4) rfl (by omega) (by omega) dL_law_129 ?_
  refine lv_aload_n hx hb dL_law_130 rfl (lv_at hl 0 rfl) ?_
  refine lv_iload_n hx hb dL_law_131 rfl (lv_at hl 3 rfl) ?_
  refine lv_iconst (v := nI 5) hx hb dL_law_132 (by decide +kernel) ?_
  refine lv_iadd hx hb dL_law_133 ?_
  refine lv_as (y := nI (i + 5)) (nI_add _ _) ?_
  refine ab_sld hx hb hX hbl hbA hS (i + 5) rfl (by omega) (by omega) dL_law_134 ?_
  refine call_V (nA := 5) (rest := [.int z1]) (q := (RX3, TX3, 13)) (ci := 3) (q0 := 0) (hsw cB cZ cR h0 tr wh hf hr u1.1 u1.2 (nI t) whole wl sz md M) [.int (xs (i + 1)), .int (xs (i + 2)), .int (xs (i + 3)), .int (xs (i + 4)), .int (xs (i + 5))] ⟨hx, hb, hml, hown, hts⟩ (m_mFeed l D cB cZ cR cI m0 m1 m2 m3 m4 m5 m6 m7 m8 m9 n tray sn ids ps es bs th by_ w2 wl md (nI t) (xs (i + 1)) (xs (i + 2)) (xs (i + 3)) (xs (i + 4)) (xs (i + 5)) hn) (lw_V q230 q231 q232 q9 q233) (by decide +kernel) rfl ⟨Nat.le_of_ble_eq_true rfl, Nat.le_of_ble_eq_true rfl⟩ hK hE rfl rfl hP hD hS hA hl.1 rfl (Nat.le_of_ble_eq_true rfl) dL_law_135 ⟨Nat.le_of_ble_eq_true rfl, Nat.le_of_ble_eq_true rfl⟩ (fun v2 u2 H locs hv2 hKu hP hD hS => ?_)
  obtain ⟨z2, rfl⟩ : ∃ (z : Int32), v2 = some (.int z) := by rcases hv2 with ⟨-, h, -⟩ | ⟨-, h, -⟩ <;> exact ⟨_, h⟩
  refine W.eq (g2 := F0 m 138 ls [.int z2, .int z1]) rfl ?_
  refine W.cs (cells' := 27) (slots' := 60386) rfl rfl ?_
  have hP : va_P D vwCl (mw cB cZ cI m0 m1 m2 m3 m4 m5 m6 m7 m8 m9 u2.1 u2.2 sn ids ps es bs th by_ w2 wl md (nI t) ++ hsw cB cZ cR h0 tr wh hf hr u1.1 u1.2 (nI t) whole wl sz md M) _ := hP
  have hD : va_D A (mw cB cZ cI m0 m1 m2 m3 m4 m5 m6 m7 m8 m9 u2.1 u2.2 sn ids ps es bs th by_ w2 wl md (nI t) ++ hsw cB cZ cR h0 tr wh hf hr u1.1 u1.2 (nI t) whole wl sz md M) := hD
  have hP := wP_perm hP List.perm_append_comm
  have hD := wD_perm hD List.perm_append_comm
  obtain ⟨heq, hu, hn2⟩ := feed_eq hn hv1 hv2
  subst hu
  refine lv_icmp_eq (tgt := 330) hx hb dL_law_138 (by decide) (fun c1 => ?_) (fun c1 => ?_)
  · skip
    exact kk H locs ⟨u1.1, t, u1.2, whole, wl, md, sz, M, sn, ids, ps, es, bs, th, by_, w2, hn2, hrel, hP, hD⟩ hS
  · skip
    exact absurd (some_int heq) c1
set_option maxHeartbeats 4000000 in
set_option maxRecDepth 100000 in
/-- the law: end -/
theorem law_c1 (C : LC p s m c b L xs D A cB cZ cR cI) (hi : i + 6 ≤ L) (hI : lawI D A cB cZ cR cI h0 tr wh hf hr m0 m1 m2 m3 m4 m5 m6 m7 m8 m9 H) (hS : va_S A s.heap H locs) (hl : lv_has ls 4 [(0, .ref b), (1, .ref h0), (2, .ref m0), (3, .int (nI i))]) (kk : ∀ (H : Heap) (locs : List Loc), lawI D A cB cZ cR cI h0 tr wh hf hr m0 m1 m2 m3 m4 m5 m6 m7 m8 m9 H → va_S A s.heap H locs → W p l e room_1 s m #[Value.ref b] below meth c H locs 27 60386 Q (F0 m 330 ls [])) : W p l e room_1 s m #[Value.ref b] below meth c H locs 27 60386 Q (F0 m 143 ls []) := by
  obtain ⟨hx, hb, hml, hown, hts, hX, hbl, hA, hbA, hK, hE, hL⟩ := C
  obtain ⟨n, t, tray, whole, wl, md, sz, M, sn, ids, ps, es, bs, th, by_, w2, hn, hrel, hP, hD⟩ := hI
  refine lv_aload_n hx hb dL_law_143 rfl (lv_at hl 1 rfl) ?_
  refine lv_aload_n hx hb dL_law_144 rfl (lv_at hl 0 rfl) ?_
  refine lv_iload_n hx hb dL_law_145 rfl (lv_at hl 3 rfl) ?_
  refine lv_iconst (v := nI 1) hx hb dL_law_146 (by decide +kernel) ?_
  refine lv_iadd hx hb dL_law_147 ?_
  refine lv_as (y := nI (i + 1)) (nI_add _ _) ?_
  refine ab_sld hx hb hX hbl hbA hS (i + 1) rfl (by omega) (by omega) dL_law_148 ?_
  refine call_V (nA := 1) (rest := []) (q := (RX0, TX0, 6)) (ci := 0) (q0 := 0) (mw cB cZ cI m0 m1 m2 m3 m4 m5 m6 m7 m8 m9 n tray sn ids ps es bs th by_ w2 wl md (nI t)) [.int (xs (i + 1))] ⟨hx, hb, hml, hown, hts⟩ (m_hEnd l D cB cZ cR cI h0 tr wh hf hr n tray (nI t) whole wl sz md M (xs (i + 1)) hn) (lw_V q111 q112 q113 q6 q114) (by decide +kernel) rfl ⟨Nat.le_of_ble_eq_true rfl, Nat.le_of_ble_eq_true rfl⟩ hK hE rfl rfl hP hD hS hA hl.1 rfl (Nat.le_of_ble_eq_true rfl) dL_law_149 ⟨Nat.le_of_ble_eq_true rfl, Nat.le_of_ble_eq_true rfl⟩ (fun v1 u1 H locs hv1 hKu hP hD hS => ?_)
  obtain ⟨z1, rfl⟩ : ∃ (z : Int32), v1 = some (.int z) := by rcases hv1 with ⟨_, -, -, h, -⟩ | ⟨-, h, -⟩ <;> exact ⟨_, h⟩
  refine W.eq (g2 := F0 m 152 ls [.int z1]) rfl ?_
  refine W.cs (cells' := 27) (slots' := 60386) rfl rfl ?_
  have hP : va_P D vwCl (hsw cB cZ cR h0 tr wh hf hr u1 tray (nI t) whole wl sz md M ++ mw cB cZ cI m0 m1 m2 m3 m4 m5 m6 m7 m8 m9 n tray sn ids ps es bs th by_ w2 wl md (nI t)) _ := hP
  have hD : va_D A (hsw cB cZ cR h0 tr wh hf hr u1 tray (nI t) whole wl sz md M ++ mw cB cZ cI m0 m1 m2 m3 m4 m5 m6 m7 m8 m9 n tray sn ids ps es bs th by_ w2 wl md (nI t)) := hD
  have hP := wP_perm hP List.perm_append_comm
  have hD := wD_perm hD List.perm_append_comm
  refine lv_aload_n hx hb dL_law_152 rfl (lv_at hl 2 rfl) ?_
  refine lv_aload_n hx hb dL_law_153 rfl (lv_at hl 0 rfl) ?_
  refine lv_iload_n hx hb dL_law_154 rfl (lv_at hl 3 rfl) ?_
  refine lv_iconst (v := nI 1) hx hb dL_law_155 (by decide +kernel) ?_
  refine lv_iadd hx hb dL_law_156 ?_
  refine lv_as (y := nI (i + 1)) (nI_add _ _) ?_
  refine ab_sld hx hb hX hbl hbA hS (i + 1) rfl (by omega) (by omega) dL_law_157 ?_
  refine call_V (nA := 1) (rest := [.int z1]) (q := (RX3, TX3, 13)) (ci := 3) (q0 := 0) (hsw cB cZ cR h0 tr wh hf hr u1 tray (nI t) whole wl sz md M) [.int (xs (i + 1))] ⟨hx, hb, hml, hown, hts⟩ (m_mEnd l D cB cZ cR cI m0 m1 m2 m3 m4 m5 m6 m7 m8 m9 n tray sn ids ps es bs th by_ w2 wl md (nI t) (xs (i + 1)) hn) (lw_V q238 q239 q240 q9 q241) (by decide +kernel) rfl ⟨Nat.le_of_ble_eq_true rfl, Nat.le_of_ble_eq_true rfl⟩ hK hE rfl rfl hP hD hS hA hl.1 rfl (Nat.le_of_ble_eq_true rfl) dL_law_158 ⟨Nat.le_of_ble_eq_true rfl, Nat.le_of_ble_eq_true rfl⟩ (fun v2 u2 H locs hv2 hKu hP hD hS => ?_)
  obtain ⟨z2, rfl⟩ : ∃ (z : Int32), v2 = some (.int z) := by rcases hv2 with ⟨_, -, -, h, -⟩ | ⟨-, h, -⟩ <;> exact ⟨_, h⟩
  refine W.eq (g2 := F0 m 161 ls [.int z2, .int z1]) rfl ?_
  refine W.cs (cells' := 27) (slots' := 60386) rfl rfl ?_
  have hP : va_P D vwCl (mw cB cZ cI m0 m1 m2 m3 m4 m5 m6 m7 m8 m9 u2 tray sn ids ps es bs th by_ w2 wl md (nI t) ++ hsw cB cZ cR h0 tr wh hf hr u1 tray (nI t) whole wl sz md M) _ := hP
  have hD : va_D A (mw cB cZ cI m0 m1 m2 m3 m4 m5 m6 m7 m8 m9 u2 tray sn ids ps es bs th by_ w2 wl md (nI t) ++ hsw cB cZ cR h0 tr wh hf hr u1 tray (nI t) whole wl sz md M) := hD
  have hP := wP_perm hP List.perm_append_comm
  have hD := wD_perm hD List.perm_append_comm
  obtain ⟨heq, hu, hn2⟩ := end_eq hn hv1 hv2
  subst hu
  refine lv_icmp_eq (tgt := 330) hx hb dL_law_161 (by decide) (fun c2 => ?_) (fun c2 => ?_)
  · skip
    exact kk H locs ⟨u1, t, tray, whole, wl, md, sz, M, sn, ids, ps, es, bs, th, by_, w2, hn2, hrel, hP, hD⟩ hS
  · skip
    exact absurd (some_int heq) c2
set_option maxHeartbeats 4000000 in
set_option maxRecDepth 100000 in
/-- the law: take -/
theorem law_c2 (C : LC p s m c b L xs D A cB cZ cR cI) (hi : i + 6 ≤ L) (hI : lawI D A cB cZ cR cI h0 tr wh hf hr m0 m1 m2 m3 m4 m5 m6 m7 m8 m9 H) (hS : va_S A s.heap H locs) (hl : lv_has ls 4 [(0, .ref b), (1, .ref h0), (2, .ref m0), (3, .int (nI i))]) (kk : ∀ (H : Heap) (locs : List Loc), lawI D A cB cZ cR cI h0 tr wh hf hr m0 m1 m2 m3 m4 m5 m6 m7 m8 m9 H → va_S A s.heap H locs → W p l e room_1 s m #[Value.ref b] below meth c H locs 27 60386 Q (F0 m 330 ls [])) : W p l e room_1 s m #[Value.ref b] below meth c H locs 27 60386 Q (F0 m 166 ls []) := by
  obtain ⟨hx, hb, hml, hown, hts, hX, hbl, hA, hbA, hK, hE, hL⟩ := C
  obtain ⟨n, t, tray, whole, wl, md, sz, M, sn, ids, ps, es, bs, th, by_, w2, hn, hrel, hP, hD⟩ := hI
  refine lv_aload_n hx hb dL_law_166 rfl (lv_at hl 1 rfl) ?_
  refine lv_aload_n hx hb dL_law_167 rfl (lv_at hl 0 rfl) ?_
  refine lv_iload_n hx hb dL_law_168 rfl (lv_at hl 3 rfl) ?_
  refine lv_iconst (v := nI 1) hx hb dL_law_169 (by decide +kernel) ?_
  refine lv_iadd hx hb dL_law_170 ?_
  refine lv_as (y := nI (i + 1)) (nI_add _ _) ?_
  refine ab_sld hx hb hX hbl hbA hS (i + 1) rfl (by omega) (by omega) dL_law_171 ?_
  refine lv_aload_n hx hb dL_law_172 rfl (lv_at hl 0 rfl) ?_
  refine lv_iload_n hx hb dL_law_173 rfl (lv_at hl 3 rfl) ?_
  refine lv_iconst (v := nI 2) hx hb dL_law_174 (by decide +kernel) ?_
  refine lv_iadd hx hb dL_law_175 ?_
  refine lv_as (y := nI (i + 2)) (nI_add _ _) ?_
  refine ab_sld hx hb hX hbl hbA hS (i + 2) rfl (by omega) (by omega) dL_law_176 ?_
  refine lv_aload_n hx hb dL_law_177 rfl (lv_at hl 0 rfl) ?_
  refine lv_iload_n hx hb dL_law_178 rfl (lv_at hl 3 rfl) ?_
  refine lv_iconst (v := nI 3) hx hb dL_law_179 (by decide +kernel) ?_
  refine lv_iadd hx hb dL_law_180 ?_
  refine lv_as (y := nI (i + 3)) (nI_add _ _) ?_
  refine ab_sld hx hb hX hbl hbA hS (i + 3) rfl (by omega) (by omega) dL_law_181 ?_
  refine lv_aload_n hx hb dL_law_182 rfl (lv_at hl 0 rfl) ?_
  refine lv_iload_n hx hb dL_law_183 rfl (lv_at hl 3 rfl) ?_
  refine lv_iconst (v := nI 4) hx hb dL_law_184 (by decide +kernel) ?_
  refine lv_iadd hx hb dL_law_185 ?_
  refine lv_as (y := nI (i + 4)) (nI_add _ _) ?_
  refine ab_sld hx hb hX hbl hbA hS (i + 4) rfl (by omega) (by omega) dL_law_186 ?_
  refine lv_aload_n hx hb dL_law_187 rfl (lv_at hl 0 rfl) ?_
  refine lv_iload_n hx hb dL_law_188 rfl (lv_at hl 3 rfl) ?_
  refine lv_iconst (v := nI 5) hx hb dL_law_189 (by decide +kernel) ?_
  refine lv_iadd hx hb dL_law_190 ?_
  refine lv_as (y := nI (i + 5)) (nI_add _ _) ?_
  refine ab_sld hx hb hX hbl hbA hS (i + 5) rfl (by omega) (by omega) dL_law_191 ?_
  obtain ⟨lst, hlst⟩ : ∃ y : Int32, y = if xs (i + 5) = 0 then nI 0 else nI 1 := ⟨_, rfl⟩
  have k200 : W p l e room_1 s m #[Value.ref b] below meth c H locs 27 60386 Q (F0 m 200 ls [.int lst, .int (xs (i + 4)), .int (xs (i + 3)), .int (xs (i + 2)), .int (xs (i + 1)), .ref h0]) := by
    refine call_V (nA := 5) (rest := []) (q := (RX0, TX0, 6)) (ci := 0) (q0 := 0) (mw cB cZ cI m0 m1 m2 m3 m4 m5 m6 m7 m8 m9 n tray sn ids ps es bs th by_ w2 wl md (nI t)) [.int (xs (i + 1)), .int (xs (i + 2)), .int (xs (i + 3)), .int (xs (i + 4)), .int lst] ⟨hx, hb, hml, hown, hts⟩ (m_hTake l D cB cZ cR cI h0 tr wh hf hr n tray (nI t) whole wl sz md M (xs (i + 1)) (xs (i + 2)) (xs (i + 3)) (xs (i + 4)) lst hn (rel_sz hrel) (rel_hen hrel)) (lw_V q115 q116 q117 q6 q118) (by decide +kernel) rfl ⟨Nat.le_of_ble_eq_true rfl, Nat.le_of_ble_eq_true rfl⟩ hK hE rfl rfl hP hD hS hA hl.1 rfl (Nat.le_of_ble_eq_true rfl) dL_law_200 ⟨Nat.le_of_ble_eq_true rfl, Nat.le_of_ble_eq_true rfl⟩ (fun v1 u1 H locs hv1 hKu hP hD hS => ?_)
    obtain ⟨z1, rfl⟩ : ∃ (z : Int32), v1 = some (.int z) := hTake_int hv1
    refine W.eq (g2 := F0 m 203 ls [.int z1]) rfl ?_
    refine W.cs (cells' := 27) (slots' := 60386) rfl rfl ?_
    have hP : va_P D vwCl (hsw cB cZ cR h0 tr wh hf hr u1.1 tray (nI t) u1.2.1 u1.2.2.1 u1.2.2.2.1 u1.2.2.2.2.1 u1.2.2.2.2.2 ++ mw cB cZ cI m0 m1 m2 m3 m4 m5 m6 m7 m8 m9 n tray sn ids ps es bs th by_ w2 wl md (nI t)) _ := hP
    have hD : va_D A (hsw cB cZ cR h0 tr wh hf hr u1.1 tray (nI t) u1.2.1 u1.2.2.1 u1.2.2.2.1 u1.2.2.2.2.1 u1.2.2.2.2.2 ++ mw cB cZ cI m0 m1 m2 m3 m4 m5 m6 m7 m8 m9 n tray sn ids ps es bs th by_ w2 wl md (nI t)) := hD
    have hP := wP_perm hP List.perm_append_comm
    have hD := wD_perm hD List.perm_append_comm
    refine lv_aload_n hx hb dL_law_203 rfl (lv_at hl 2 rfl) ?_
    refine lv_aload_n hx hb dL_law_204 rfl (lv_at hl 0 rfl) ?_
    refine lv_iload_n hx hb dL_law_205 rfl (lv_at hl 3 rfl) ?_
    refine lv_iconst (v := nI 1) hx hb dL_law_206 (by decide +kernel) ?_
    refine lv_iadd hx hb dL_law_207 ?_
    refine lv_as (y := nI (i + 1)) (nI_add _ _) ?_
    refine ab_sld hx hb hX hbl hbA hS (i + 1) rfl (by omega) (by omega) dL_law_208 ?_
    refine lv_aload_n hx hb dL_law_209 rfl (lv_at hl 0 rfl) ?_
    refine lv_iload_n hx hb dL_law_210 rfl (lv_at hl 3 rfl) ?_
    refine lv_iconst (v := nI 2) hx hb dL_law_211 (by decide +kernel) ?_
    refine lv_iadd hx hb dL_law_212 ?_
    refine lv_as (y := nI (i + 2)) (nI_add _ _) ?_
    refine ab_sld hx hb hX hbl hbA hS (i + 2) rfl (by omega) (by omega) dL_law_213 ?_
    refine lv_aload_n hx hb dL_law_214 rfl (lv_at hl 0 rfl) ?_
    refine lv_iload_n hx hb dL_law_215 rfl (lv_at hl 3 rfl) ?_
    refine lv_iconst (v := nI 3) hx hb dL_law_216 (by decide +kernel) ?_
    refine lv_iadd hx hb dL_law_217 ?_
    refine lv_as (y := nI (i + 3)) (nI_add _ _) ?_
    refine ab_sld hx hb hX hbl hbA hS (i + 3) rfl (by omega) (by omega) dL_law_218 ?_
    refine lv_aload_n hx hb dL_law_219 rfl (lv_at hl 0 rfl) ?_
    refine lv_iload_n hx hb dL_law_220 rfl (lv_at hl 3 rfl) ?_
    refine lv_iconst (v := nI 4) hx hb dL_law_221 (by decide +kernel) ?_
    refine lv_iadd hx hb dL_law_222 ?_
    refine lv_as (y := nI (i + 4)) (nI_add _ _) ?_
    refine ab_sld hx hb hX hbl hbA hS (i + 4) rfl (by omega) (by omega) dL_law_223 ?_
    refine lv_aload_n hx hb dL_law_224 rfl (lv_at hl 0 rfl) ?_
    refine lv_iload_n hx hb dL_law_225 rfl (lv_at hl 3 rfl) ?_
    refine lv_iconst (v := nI 5) hx hb dL_law_226 (by decide +kernel) ?_
    refine lv_iadd hx hb dL_law_227 ?_
    refine lv_as (y := nI (i + 5)) (nI_add _ _) ?_
    refine ab_sld hx hb hX hbl hbA hS (i + 5) rfl (by omega) (by omega) dL_law_228 ?_
    have k237 : W p l e room_1 s m #[Value.ref b] below meth c H locs 27 60386 Q (F0 m 237 ls [.int lst, .int (xs (i + 4)), .int (xs (i + 3)), .int (xs (i + 2)), .int (xs (i + 1)), .ref m0, .int z1]) := by
      refine call_V (nA := 5) (rest := [.int z1]) (q := (RX3, TX3, 13)) (ci := 3) (q0 := 0) (hsw cB cZ cR h0 tr wh hf hr u1.1 tray (nI t) u1.2.1 u1.2.2.1 u1.2.2.2.1 u1.2.2.2.2.1 u1.2.2.2.2.2) [.int (xs (i + 1)), .int (xs (i + 2)), .int (xs (i + 3)), .int (xs (i + 4)), .int lst] ⟨hx, hb, hml, hown, hts⟩ (m_mTake l D cB cZ cR cI m0 m1 m2 m3 m4 m5 m6 m7 m8 m9 n tray sn ids ps es bs th by_ w2 wl md (nI t) (xs (i + 1)) (xs (i + 2)) (xs (i + 3)) (xs (i + 4)) lst hn (rel_es hrel)) (lw_V q242 q243 q244 q9 q245) (by decide +kernel) rfl ⟨Nat.le_of_ble_eq_true rfl, Nat.le_of_ble_eq_true rfl⟩ hK hE rfl rfl hP hD hS hA hl.1 rfl (Nat.le_of_ble_eq_true rfl) dL_law_237 ⟨Nat.le_of_ble_eq_true rfl, Nat.le_of_ble_eq_true rfl⟩ (fun v2 u2 H locs hv2 hKu hP hD hS => ?_)
      obtain ⟨z2, rfl⟩ : ∃ (z : Int32), v2 = some (.int z) := mTake_int hv2
      refine W.eq (g2 := F0 m 240 ls [.int z2, .int z1]) rfl ?_
      refine W.cs (cells' := 27) (slots' := 60386) rfl rfl ?_
      have hP : va_P D vwCl (mw cB cZ cI m0 m1 m2 m3 m4 m5 m6 m7 m8 m9 u2.1 tray u2.2.1 u2.2.2.1 u2.2.2.2.1 u2.2.2.2.2.1 u2.2.2.2.2.2.1 u2.2.2.2.2.2.2.1 u2.2.2.2.2.2.2.2.1 u2.2.2.2.2.2.2.2.2.1 u2.2.2.2.2.2.2.2.2.2.1 u2.2.2.2.2.2.2.2.2.2.2 (nI t) ++ hsw cB cZ cR h0 tr wh hf hr u1.1 tray (nI t) u1.2.1 u1.2.2.1 u1.2.2.2.1 u1.2.2.2.2.1 u1.2.2.2.2.2) _ := hP
      have hD : va_D A (mw cB cZ cI m0 m1 m2 m3 m4 m5 m6 m7 m8 m9 u2.1 tray u2.2.1 u2.2.2.1 u2.2.2.2.1 u2.2.2.2.2.1 u2.2.2.2.2.2.1 u2.2.2.2.2.2.2.1 u2.2.2.2.2.2.2.2.1 u2.2.2.2.2.2.2.2.2.1 u2.2.2.2.2.2.2.2.2.2.1 u2.2.2.2.2.2.2.2.2.2.2 (nI t) ++ hsw cB cZ cR h0 tr wh hf hr u1.1 tray (nI t) u1.2.1 u1.2.2.1 u1.2.2.2.1 u1.2.2.2.2.1 u1.2.2.2.2.2) := hD
      have hP := wP_perm hP List.perm_append_comm
      have hD := wD_perm hD List.perm_append_comm
      obtain ⟨heq, -, n', whole', wl', sz', md', M', sn', ids', ps', es', bs', th', by', w2', hn2, rfl, rfl, hrel2⟩ := take_sim hrel hv1 hv2 hn
      refine lv_icmp_eq (tgt := 330) hx hb dL_law_240 (by decide) (fun c3 => ?_) (fun c3 => ?_)
      · skip
        exact kk H locs ⟨n', t, tray, whole', wl', md', sz', M', sn', ids', ps', es', bs', th', by', w2', hn2, hrel2, hP, hD⟩ hS
      · skip
        exact absurd (some_int heq) c3
    refine lv_if_eq (tgt := 236) hx hb dL_law_229 (by decide) (fun c4 => ?_) (fun c4 => ?_)
    · skip
      refine lv_iconst (v := nI 0) hx hb dL_law_236 (by decide +kernel) ?_
      refine lv_as (y := lst) (by rw [hlst, if_pos c4]) ?_
      exact k237
    · skip
      refine lv_iconst (v := nI 1) hx hb dL_law_232 (by decide +kernel) ?_
      refine lv_goto (tgt := 237) hx hb dL_law_233 (by decide) ?_
      refine lv_as (y := lst) (by rw [hlst, if_neg c4]) ?_
      exact k237
  refine lv_if_eq (tgt := 199) hx hb dL_law_192 (by decide) (fun c5 => ?_) (fun c5 => ?_)
  · skip
    refine lv_iconst (v := nI 0) hx hb dL_law_199 (by decide +kernel) ?_
    refine lv_as (y := lst) (by rw [hlst, if_pos c5]) ?_
    exact k200
  · skip
    refine lv_iconst (v := nI 1) hx hb dL_law_195 (by decide +kernel) ?_
    refine lv_goto (tgt := 200) hx hb dL_law_196 (by decide) ?_
    refine lv_as (y := lst) (by rw [hlst, if_neg c5]) ?_
    exact k200
set_option maxHeartbeats 4000000 in
set_option maxRecDepth 100000 in
/-- the law: pass -/
theorem law_c3 (C : LC p s m c b L xs D A cB cZ cR cI) (hi : i + 6 ≤ L) (hI : lawI D A cB cZ cR cI h0 tr wh hf hr m0 m1 m2 m3 m4 m5 m6 m7 m8 m9 H) (hS : va_S A s.heap H locs) (hl : lv_has ls 4 [(0, .ref b), (1, .ref h0), (2, .ref m0), (3, .int (nI i))]) (kk : ∀ (H : Heap) (locs : List Loc), lawI D A cB cZ cR cI h0 tr wh hf hr m0 m1 m2 m3 m4 m5 m6 m7 m8 m9 H → va_S A s.heap H locs → W p l e room_1 s m #[Value.ref b] below meth c H locs 27 60386 Q (F0 m 330 ls [])) : W p l e room_1 s m #[Value.ref b] below meth c H locs 27 60386 Q (F0 m 245 ls []) := by
  obtain ⟨hx, hb, hml, hown, hts, hX, hbl, hA, hbA, hK, hE, hL⟩ := C
  obtain ⟨n, t, tray, whole, wl, md, sz, M, sn, ids, ps, es, bs, th, by_, w2, hn, hrel, hP, hD⟩ := hI
  refine lv_aload_n hx hb dL_law_245 rfl (lv_at hl 1 rfl) ?_
  refine lv_aload_n hx hb dL_law_246 rfl (lv_at hl 0 rfl) ?_
  refine lv_iload_n hx hb dL_law_247 rfl (lv_at hl 3 rfl) ?_
  refine lv_iconst (v := nI 1) hx hb dL_law_248 (by decide +kernel) ?_
  refine lv_iadd hx hb dL_law_249 ?_
  refine lv_as (y := nI (i + 1)) (nI_add _ _) ?_
  refine ab_sld hx hb hX hbl hbA hS (i + 1) rfl (by omega) (by omega) dL_law_250 ?_
  refine call_V (nA := 1) (rest := []) (q := (RX0, TX0, 6)) (ci := 0) (q0 := 0) (mw cB cZ cI m0 m1 m2 m3 m4 m5 m6 m7 m8 m9 n tray sn ids ps es bs th by_ w2 wl md (nI t)) [.int (xs (i + 1))] ⟨hx, hb, hml, hown, hts⟩ (m_hPass l D cB cZ cR cI h0 tr wh hf hr n tray (nI t) whole wl sz md M (xs (i + 1)) (rel_sz hrel)) (lw_V q153 q154 q155 q6 q156) (by decide +kernel) rfl ⟨Nat.le_of_ble_eq_true rfl, Nat.le_of_ble_eq_true rfl⟩ hK hE rfl rfl hP hD hS hA hl.1 rfl (Nat.le_of_ble_eq_true rfl) dL_law_251 ⟨Nat.le_of_ble_eq_true rfl, Nat.le_of_ble_eq_true rfl⟩ (fun v1 u1 H locs hv1 hKu hP hD hS => ?_)
  obtain ⟨z1, rfl⟩ : ∃ (z : Int32), v1 = some (.int z) := by rcases hv1 with ⟨-, h, -⟩ | ⟨-, -, -, -, h, -⟩ <;> exact ⟨_, h⟩
  refine W.eq (g2 := F0 m 254 ls [.int z1]) rfl ?_
  refine W.cs (cells' := 27) (slots' := 60386) rfl rfl ?_
  have hP : va_P D vwCl (hsw cB cZ cR h0 tr wh hf hr n tray u1.1 whole wl (sz - u1.2.1) md u1.2.2 ++ mw cB cZ cI m0 m1 m2 m3 m4 m5 m6 m7 m8 m9 n tray sn ids ps es bs th by_ w2 wl md (nI t)) _ := hP
  have hD : va_D A (hsw cB cZ cR h0 tr wh hf hr n tray u1.1 whole wl (sz - u1.2.1) md u1.2.2 ++ mw cB cZ cI m0 m1 m2 m3 m4 m5 m6 m7 m8 m9 n tray sn ids ps es bs th by_ w2 wl md (nI t)) := hD
  have hP := wP_perm hP List.perm_append_comm
  have hD := wD_perm hD List.perm_append_comm
  refine lv_aload_n hx hb dL_law_254 rfl (lv_at hl 2 rfl) ?_
  refine lv_aload_n hx hb dL_law_255 rfl (lv_at hl 0 rfl) ?_
  refine lv_iload_n hx hb dL_law_256 rfl (lv_at hl 3 rfl) ?_
  refine lv_iconst (v := nI 1) hx hb dL_law_257 (by decide +kernel) ?_
  refine lv_iadd hx hb dL_law_258 ?_
  refine lv_as (y := nI (i + 1)) (nI_add _ _) ?_
  refine ab_sld hx hb hX hbl hbA hS (i + 1) rfl (by omega) (by omega) dL_law_259 ?_
  refine call_V (nA := 1) (rest := [.int z1]) (q := (RX3, TX3, 13)) (ci := 3) (q0 := 0) (hsw cB cZ cR h0 tr wh hf hr n tray u1.1 whole wl (sz - u1.2.1) md u1.2.2) [.int (xs (i + 1))] ⟨hx, hb, hml, hown, hts⟩ (m_mPass l D cB cZ cR cI m0 m1 m2 m3 m4 m5 m6 m7 m8 m9 n tray sn ids ps es bs th by_ w2 wl md (nI t) (xs (i + 1))) (lw_V q254 q255 q256 q9 q257) (by decide +kernel) rfl ⟨Nat.le_of_ble_eq_true rfl, Nat.le_of_ble_eq_true rfl⟩ hK hE rfl rfl hP hD hS hA hl.1 rfl (Nat.le_of_ble_eq_true rfl) dL_law_260 ⟨Nat.le_of_ble_eq_true rfl, Nat.le_of_ble_eq_true rfl⟩ (fun v2 u2 H locs hv2 hKu hP hD hS => ?_)
  obtain ⟨z2, rfl⟩ : ∃ (z : Int32), v2 = some (.int z) := by rcases hv2 with ⟨-, h, -⟩ | ⟨-, -, h, -⟩ <;> exact ⟨_, h⟩
  refine W.eq (g2 := F0 m 263 ls [.int z2, .int z1]) rfl ?_
  refine W.cs (cells' := 27) (slots' := 60386) rfl rfl ?_
  have hP : va_P D vwCl (mw cB cZ cI m0 m1 m2 m3 m4 m5 m6 m7 m8 m9 n tray sn ids ps es bs u2.2 by_ w2 wl md u2.1 ++ hsw cB cZ cR h0 tr wh hf hr n tray u1.1 whole wl (sz - u1.2.1) md u1.2.2) _ := hP
  have hD : va_D A (mw cB cZ cI m0 m1 m2 m3 m4 m5 m6 m7 m8 m9 n tray sn ids ps es bs u2.2 by_ w2 wl md u2.1 ++ hsw cB cZ cR h0 tr wh hf hr n tray u1.1 whole wl (sz - u1.2.1) md u1.2.2) := hD
  have hP := wP_perm hP List.perm_append_comm
  have hD := wD_perm hD List.perm_append_comm
  obtain ⟨heq, t2, e1, e2, hrel2⟩ := pass_eq hrel hv1 hv2
  rw [e1, e2] at hP hD
  refine lv_icmp_eq (tgt := 330) hx hb dL_law_263 (by decide) (fun c6 => ?_) (fun c6 => ?_)
  · skip
    exact kk H locs ⟨n, t2, tray, whole, wl, md, sz - u1.2.1, u1.2.2, sn, ids, ps, es, bs, u2.2, by_, w2, hn, hrel2, hP, hD⟩ hS
  · skip
    exact absurd (some_int heq) c6
set_option maxHeartbeats 4000000 in
set_option maxRecDepth 100000 in
/-- the law: making -/
theorem law_c4 (C : LC p s m c b L xs D A cB cZ cR cI) (hi : i + 6 ≤ L) (hI : lawI D A cB cZ cR cI h0 tr wh hf hr m0 m1 m2 m3 m4 m5 m6 m7 m8 m9 H) (hS : va_S A s.heap H locs) (hl : lv_has ls 4 [(0, .ref b), (1, .ref h0), (2, .ref m0), (3, .int (nI i))]) (kk : ∀ (H : Heap) (locs : List Loc), lawI D A cB cZ cR cI h0 tr wh hf hr m0 m1 m2 m3 m4 m5 m6 m7 m8 m9 H → va_S A s.heap H locs → W p l e room_1 s m #[Value.ref b] below meth c H locs 27 60386 Q (F0 m 330 ls [])) : W p l e room_1 s m #[Value.ref b] below meth c H locs 27 60386 Q (F0 m 268 ls []) := by
  obtain ⟨hx, hb, hml, hown, hts, hX, hbl, hA, hbA, hK, hE, hL⟩ := C
  obtain ⟨n, t, tray, whole, wl, md, sz, M, sn, ids, ps, es, bs, th, by_, w2, hn, hrel, hP, hD⟩ := hI
  refine lv_aload_n hx hb dL_law_268 rfl (lv_at hl 1 rfl) ?_
  refine call_V (nA := 0) (rest := []) (q := (RX0, TX0, 6)) (ci := 0) (q0 := 0) (mw cB cZ cI m0 m1 m2 m3 m4 m5 m6 m7 m8 m9 n tray sn ids ps es bs th by_ w2 wl md (nI t)) [] ⟨hx, hb, hml, hown, hts⟩ (m_hMaking l D cB cZ cR cI h0 tr wh hf hr n tray (nI t) whole wl sz md M) (lw_V q167 q168 q169 q6 q170) (by decide +kernel) rfl ⟨Nat.le_of_ble_eq_true rfl, Nat.le_of_ble_eq_true rfl⟩ hK hE rfl rfl hP hD hS hA hl.1 rfl (Nat.le_of_ble_eq_true rfl) dL_law_269 ⟨Nat.le_of_ble_eq_true rfl, Nat.le_of_ble_eq_true rfl⟩ (fun v1 u1 H locs hv1 hKu hP hD hS => ?_)
  obtain ⟨z1, rfl⟩ : ∃ (z : Int32), v1 = some (.int z) := ⟨_, hv1⟩
  refine W.eq (g2 := F0 m 272 ls [.int z1]) rfl ?_
  refine W.cs (cells' := 27) (slots' := 60386) rfl rfl ?_
  have hP : va_P D vwCl (hsw cB cZ cR h0 tr wh hf hr n tray (nI t) whole wl sz md M ++ mw cB cZ cI m0 m1 m2 m3 m4 m5 m6 m7 m8 m9 n tray sn ids ps es bs th by_ w2 wl md (nI t)) _ := hP
  have hD : va_D A (hsw cB cZ cR h0 tr wh hf hr n tray (nI t) whole wl sz md M ++ mw cB cZ cI m0 m1 m2 m3 m4 m5 m6 m7 m8 m9 n tray sn ids ps es bs th by_ w2 wl md (nI t)) := hD
  have hP := wP_perm hP List.perm_append_comm
  have hD := wD_perm hD List.perm_append_comm
  refine lv_aload_n hx hb dL_law_272 rfl (lv_at hl 2 rfl) ?_
  refine call_V (nA := 0) (rest := [.int z1]) (q := (RX3, TX3, 13)) (ci := 3) (q0 := 0) (hsw cB cZ cR h0 tr wh hf hr n tray (nI t) whole wl sz md M) [] ⟨hx, hb, hml, hown, hts⟩ (m_mMaking l D cB cZ cR cI m0 m1 m2 m3 m4 m5 m6 m7 m8 m9 n tray sn ids ps es bs th by_ w2 wl md (nI t)) (lw_V q259 q260 q261 q9 q262) (by decide +kernel) rfl ⟨Nat.le_of_ble_eq_true rfl, Nat.le_of_ble_eq_true rfl⟩ hK hE rfl rfl hP hD hS hA hl.1 rfl (Nat.le_of_ble_eq_true rfl) dL_law_273 ⟨Nat.le_of_ble_eq_true rfl, Nat.le_of_ble_eq_true rfl⟩ (fun v2 u2 H locs hv2 hKu hP hD hS => ?_)
  obtain ⟨z2, rfl⟩ : ∃ (z : Int32), v2 = some (.int z) := ⟨_, hv2⟩
  refine W.eq (g2 := F0 m 276 ls [.int z2, .int z1]) rfl ?_
  refine W.cs (cells' := 27) (slots' := 60386) rfl rfl ?_
  have hP : va_P D vwCl (mw cB cZ cI m0 m1 m2 m3 m4 m5 m6 m7 m8 m9 n tray sn ids ps es bs th by_ w2 wl md (nI t) ++ hsw cB cZ cR h0 tr wh hf hr n tray (nI t) whole wl sz md M) _ := hP
  have hD : va_D A (mw cB cZ cI m0 m1 m2 m3 m4 m5 m6 m7 m8 m9 n tray sn ids ps es bs th by_ w2 wl md (nI t) ++ hsw cB cZ cR h0 tr wh hf hr n tray (nI t) whole wl sz md M) := hD
  have hP := wP_perm hP List.perm_append_comm
  have hD := wD_perm hD List.perm_append_comm
  have hv1 : some (Value.int z1) = some (.int (nI sz)) := hv1
  have hv2 : some (Value.int z2) = some (.int (nI (cnt (isT th) 4))) := hv2
  have heq : some (Value.int z1) = some (Value.int z2) := by rw [hv1, hv2, rel_cnt hrel]
  refine lv_icmp_eq (tgt := 330) hx hb dL_law_276 (by decide) (fun c7 => ?_) (fun c7 => ?_)
  · skip
    exact kk H locs ⟨n, t, tray, whole, wl, md, sz, M, sn, ids, ps, es, bs, th, by_, w2, hn, hrel, hP, hD⟩ hS
  · skip
    exact absurd (some_int heq) c7
set_option maxHeartbeats 4000000 in
set_option maxRecDepth 100000 in
/-- the law: made -/
theorem law_c5 (C : LC p s m c b L xs D A cB cZ cR cI) (hi : i + 6 ≤ L) (hI : lawI D A cB cZ cR cI h0 tr wh hf hr m0 m1 m2 m3 m4 m5 m6 m7 m8 m9 H) (hS : va_S A s.heap H locs) (hl : lv_has ls 4 [(0, .ref b), (1, .ref h0), (2, .ref m0), (3, .int (nI i))]) (kk : ∀ (H : Heap) (locs : List Loc), lawI D A cB cZ cR cI h0 tr wh hf hr m0 m1 m2 m3 m4 m5 m6 m7 m8 m9 H → va_S A s.heap H locs → W p l e room_1 s m #[Value.ref b] below meth c H locs 27 60386 Q (F0 m 330 ls [])) : W p l e room_1 s m #[Value.ref b] below meth c H locs 27 60386 Q (F0 m 281 ls []) := by
  obtain ⟨hx, hb, hml, hown, hts, hX, hbl, hA, hbA, hK, hE, hL⟩ := C
  obtain ⟨n, t, tray, whole, wl, md, sz, M, sn, ids, ps, es, bs, th, by_, w2, hn, hrel, hP, hD⟩ := hI
  refine lv_aload_n hx hb dL_law_281 rfl (lv_at hl 1 rfl) ?_
  refine call_V (nA := 0) (rest := []) (q := (RX0, TX0, 6)) (ci := 0) (q0 := 0) (mw cB cZ cI m0 m1 m2 m3 m4 m5 m6 m7 m8 m9 n tray sn ids ps es bs th by_ w2 wl md (nI t)) [] ⟨hx, hb, hml, hown, hts⟩ (m_hMade l D cB cZ cR cI h0 tr wh hf hr n tray (nI t) whole wl sz md M) (lw_V q171 q172 q173 q6 q174) (by decide +kernel) rfl ⟨Nat.le_of_ble_eq_true rfl, Nat.le_of_ble_eq_true rfl⟩ hK hE rfl rfl hP hD hS hA hl.1 rfl (Nat.le_of_ble_eq_true rfl) dL_law_282 ⟨Nat.le_of_ble_eq_true rfl, Nat.le_of_ble_eq_true rfl⟩ (fun v1 u1 H locs hv1 hKu hP hD hS => ?_)
  obtain ⟨z1, rfl⟩ : ∃ (z : Int32), v1 = some (.int z) := ⟨_, hv1⟩
  refine W.eq (g2 := F0 m 285 ls [.int z1]) rfl ?_
  refine W.cs (cells' := 27) (slots' := 60386) rfl rfl ?_
  have hP : va_P D vwCl (hsw cB cZ cR h0 tr wh hf hr n tray (nI t) whole wl sz md M ++ mw cB cZ cI m0 m1 m2 m3 m4 m5 m6 m7 m8 m9 n tray sn ids ps es bs th by_ w2 wl md (nI t)) _ := hP
  have hD : va_D A (hsw cB cZ cR h0 tr wh hf hr n tray (nI t) whole wl sz md M ++ mw cB cZ cI m0 m1 m2 m3 m4 m5 m6 m7 m8 m9 n tray sn ids ps es bs th by_ w2 wl md (nI t)) := hD
  have hP := wP_perm hP List.perm_append_comm
  have hD := wD_perm hD List.perm_append_comm
  refine lv_aload_n hx hb dL_law_285 rfl (lv_at hl 2 rfl) ?_
  refine call_V (nA := 0) (rest := [.int z1]) (q := (RX3, TX3, 13)) (ci := 3) (q0 := 0) (hsw cB cZ cR h0 tr wh hf hr n tray (nI t) whole wl sz md M) [] ⟨hx, hb, hml, hown, hts⟩ (m_mMade l D cB cZ cR cI m0 m1 m2 m3 m4 m5 m6 m7 m8 m9 n tray sn ids ps es bs th by_ w2 wl md (nI t)) (lw_V q263 q264 q265 q9 q266) (by decide +kernel) rfl ⟨Nat.le_of_ble_eq_true rfl, Nat.le_of_ble_eq_true rfl⟩ hK hE rfl rfl hP hD hS hA hl.1 rfl (Nat.le_of_ble_eq_true rfl) dL_law_286 ⟨Nat.le_of_ble_eq_true rfl, Nat.le_of_ble_eq_true rfl⟩ (fun v2 u2 H locs hv2 hKu hP hD hS => ?_)
  obtain ⟨z2, rfl⟩ : ∃ (z : Int32), v2 = some (.int z) := ⟨_, hv2⟩
  refine W.eq (g2 := F0 m 289 ls [.int z2, .int z1]) rfl ?_
  refine W.cs (cells' := 27) (slots' := 60386) rfl rfl ?_
  have hP : va_P D vwCl (mw cB cZ cI m0 m1 m2 m3 m4 m5 m6 m7 m8 m9 n tray sn ids ps es bs th by_ w2 wl md (nI t) ++ hsw cB cZ cR h0 tr wh hf hr n tray (nI t) whole wl sz md M) _ := hP
  have hD : va_D A (mw cB cZ cI m0 m1 m2 m3 m4 m5 m6 m7 m8 m9 n tray sn ids ps es bs th by_ w2 wl md (nI t) ++ hsw cB cZ cR h0 tr wh hf hr n tray (nI t) whole wl sz md M) := hD
  have hP := wP_perm hP List.perm_append_comm
  have hD := wD_perm hD List.perm_append_comm
  have heq : some (Value.int z1) = some (Value.int z2) := Eq.trans (b := some (Value.int md)) hv1 (Eq.symm hv2)
  refine lv_icmp_eq (tgt := 330) hx hb dL_law_289 (by decide) (fun c8 => ?_) (fun c8 => ?_)
  · skip
    exact kk H locs ⟨n, t, tray, whole, wl, md, sz, M, sn, ids, ps, es, bs, th, by_, w2, hn, hrel, hP, hD⟩ hS
  · skip
    exact absurd (some_int heq) c8
set_option maxHeartbeats 4000000 in
set_option maxRecDepth 100000 in
/-- the law: length -/
theorem law_c6 (C : LC p s m c b L xs D A cB cZ cR cI) (hi : i + 6 ≤ L) (hI : lawI D A cB cZ cR cI h0 tr wh hf hr m0 m1 m2 m3 m4 m5 m6 m7 m8 m9 H) (hS : va_S A s.heap H locs) (hl : lv_has ls 4 [(0, .ref b), (1, .ref h0), (2, .ref m0), (3, .int (nI i))]) (kk : ∀ (H : Heap) (locs : List Loc), lawI D A cB cZ cR cI h0 tr wh hf hr m0 m1 m2 m3 m4 m5 m6 m7 m8 m9 H → va_S A s.heap H locs → W p l e room_1 s m #[Value.ref b] below meth c H locs 27 60386 Q (F0 m 330 ls [])) : W p l e room_1 s m #[Value.ref b] below meth c H locs 27 60386 Q (F0 m 294 ls []) := by
  obtain ⟨hx, hb, hml, hown, hts, hX, hbl, hA, hbA, hK, hE, hL⟩ := C
  obtain ⟨n, t, tray, whole, wl, md, sz, M, sn, ids, ps, es, bs, th, by_, w2, hn, hrel, hP, hD⟩ := hI
  refine lv_aload_n hx hb dL_law_294 rfl (lv_at hl 1 rfl) ?_
  refine call_V (nA := 0) (rest := []) (q := (RX0, TX0, 6)) (ci := 0) (q0 := 0) (mw cB cZ cI m0 m1 m2 m3 m4 m5 m6 m7 m8 m9 n tray sn ids ps es bs th by_ w2 wl md (nI t)) [] ⟨hx, hb, hml, hown, hts⟩ (m_hLength l D cB cZ cR cI h0 tr wh hf hr n tray (nI t) whole wl sz md M) (lw_V q175 q176 q177 q6 q178) (by decide +kernel) rfl ⟨Nat.le_of_ble_eq_true rfl, Nat.le_of_ble_eq_true rfl⟩ hK hE rfl rfl hP hD hS hA hl.1 rfl (Nat.le_of_ble_eq_true rfl) dL_law_295 ⟨Nat.le_of_ble_eq_true rfl, Nat.le_of_ble_eq_true rfl⟩ (fun v1 u1 H locs hv1 hKu hP hD hS => ?_)
  obtain ⟨z1, rfl⟩ : ∃ (z : Int32), v1 = some (.int z) := ⟨_, hv1⟩
  refine W.eq (g2 := F0 m 298 ls [.int z1]) rfl ?_
  refine W.cs (cells' := 27) (slots' := 60386) rfl rfl ?_
  have hP : va_P D vwCl (hsw cB cZ cR h0 tr wh hf hr n tray (nI t) whole wl sz md M ++ mw cB cZ cI m0 m1 m2 m3 m4 m5 m6 m7 m8 m9 n tray sn ids ps es bs th by_ w2 wl md (nI t)) _ := hP
  have hD : va_D A (hsw cB cZ cR h0 tr wh hf hr n tray (nI t) whole wl sz md M ++ mw cB cZ cI m0 m1 m2 m3 m4 m5 m6 m7 m8 m9 n tray sn ids ps es bs th by_ w2 wl md (nI t)) := hD
  have hP := wP_perm hP List.perm_append_comm
  have hD := wD_perm hD List.perm_append_comm
  refine lv_aload_n hx hb dL_law_298 rfl (lv_at hl 2 rfl) ?_
  refine call_V (nA := 0) (rest := [.int z1]) (q := (RX3, TX3, 13)) (ci := 3) (q0 := 0) (hsw cB cZ cR h0 tr wh hf hr n tray (nI t) whole wl sz md M) [] ⟨hx, hb, hml, hown, hts⟩ (m_mLength l D cB cZ cR cI m0 m1 m2 m3 m4 m5 m6 m7 m8 m9 n tray sn ids ps es bs th by_ w2 wl md (nI t)) (lw_V q267 q268 q269 q9 q270) (by decide +kernel) rfl ⟨Nat.le_of_ble_eq_true rfl, Nat.le_of_ble_eq_true rfl⟩ hK hE rfl rfl hP hD hS hA hl.1 rfl (Nat.le_of_ble_eq_true rfl) dL_law_299 ⟨Nat.le_of_ble_eq_true rfl, Nat.le_of_ble_eq_true rfl⟩ (fun v2 u2 H locs hv2 hKu hP hD hS => ?_)
  obtain ⟨z2, rfl⟩ : ∃ (z : Int32), v2 = some (.int z) := ⟨_, hv2⟩
  refine W.eq (g2 := F0 m 302 ls [.int z2, .int z1]) rfl ?_
  refine W.cs (cells' := 27) (slots' := 60386) rfl rfl ?_
  have hP : va_P D vwCl (mw cB cZ cI m0 m1 m2 m3 m4 m5 m6 m7 m8 m9 n tray sn ids ps es bs th by_ w2 wl md (nI t) ++ hsw cB cZ cR h0 tr wh hf hr n tray (nI t) whole wl sz md M) _ := hP
  have hD : va_D A (mw cB cZ cI m0 m1 m2 m3 m4 m5 m6 m7 m8 m9 n tray sn ids ps es bs th by_ w2 wl md (nI t) ++ hsw cB cZ cR h0 tr wh hf hr n tray (nI t) whole wl sz md M) := hD
  have hP := wP_perm hP List.perm_append_comm
  have hD := wD_perm hD List.perm_append_comm
  have heq : some (Value.int z1) = some (Value.int z2) := Eq.trans (b := some (Value.int wl)) hv1 (Eq.symm hv2)
  refine lv_icmp_eq (tgt := 330) hx hb dL_law_302 (by decide) (fun c9 => ?_) (fun c9 => ?_)
  · skip
    exact kk H locs ⟨n, t, tray, whole, wl, md, sz, M, sn, ids, ps, es, bs, th, by_, w2, hn, hrel, hP, hD⟩ hS
  · skip
    exact absurd (some_int heq) c9
set_option maxHeartbeats 4000000 in
set_option maxRecDepth 100000 in
/-- the law: at -/
theorem law_c7 (C : LC p s m c b L xs D A cB cZ cR cI) (hi : i + 6 ≤ L) (hI : lawI D A cB cZ cR cI h0 tr wh hf hr m0 m1 m2 m3 m4 m5 m6 m7 m8 m9 H) (hS : va_S A s.heap H locs) (hl : lv_has ls 4 [(0, .ref b), (1, .ref h0), (2, .ref m0), (3, .int (nI i))]) (kk : ∀ (H : Heap) (locs : List Loc), lawI D A cB cZ cR cI h0 tr wh hf hr m0 m1 m2 m3 m4 m5 m6 m7 m8 m9 H → va_S A s.heap H locs → W p l e room_1 s m #[Value.ref b] below meth c H locs 27 60386 Q (F0 m 330 ls [])) : W p l e room_1 s m #[Value.ref b] below meth c H locs 27 60386 Q (F0 m 307 ls []) := by
  obtain ⟨hx, hb, hml, hown, hts, hX, hbl, hA, hbA, hK, hE, hL⟩ := C
  obtain ⟨n, t, tray, whole, wl, md, sz, M, sn, ids, ps, es, bs, th, by_, w2, hn, hrel, hP, hD⟩ := hI
  refine lv_aload_n hx hb dL_law_307 rfl (lv_at hl 1 rfl) ?_
  refine lv_aload_n hx hb dL_law_308 rfl (lv_at hl 0 rfl) ?_
  refine lv_iload_n hx hb dL_law_309 rfl (lv_at hl 3 rfl) ?_
  refine lv_iconst (v := nI 1) hx hb dL_law_310 (by decide +kernel) ?_
  refine lv_iadd hx hb dL_law_311 ?_
  refine lv_as (y := nI (i + 1)) (nI_add _ _) ?_
  refine ab_sld hx hb hX hbl hbA hS (i + 1) rfl (by omega) (by omega) dL_law_312 ?_
  refine call_V (nA := 1) (rest := []) (q := (RX0, TX0, 6)) (ci := 0) (q0 := 0) (mw cB cZ cI m0 m1 m2 m3 m4 m5 m6 m7 m8 m9 n tray sn ids ps es bs th by_ w2 wl md (nI t)) [.int (xs (i + 1))] ⟨hx, hb, hml, hown, hts⟩ (m_hAt l D cB cZ cR cI h0 tr wh hf hr n tray (nI t) whole wl sz md M (xs (i + 1)) hrel.2.2.1) (lw_V q179 q180 q181 q6 q182) (by decide +kernel) rfl ⟨Nat.le_of_ble_eq_true rfl, Nat.le_of_ble_eq_true rfl⟩ hK hE rfl rfl hP hD hS hA hl.1 rfl (Nat.le_of_ble_eq_true rfl) dL_law_313 ⟨Nat.le_of_ble_eq_true rfl, Nat.le_of_ble_eq_true rfl⟩ (fun v1 u1 H locs hv1 hKu hP hD hS => ?_)
  obtain ⟨z1, rfl⟩ : ∃ (z : Int32), v1 = some (.int z) := by rcases hv1 with ⟨_, _, -, -, -, -, h⟩ | ⟨-, h⟩ <;> exact ⟨_, h⟩
  refine W.eq (g2 := F0 m 316 ls [.int z1]) rfl ?_
  refine W.cs (cells' := 27) (slots' := 60386) rfl rfl ?_
  have hP : va_P D vwCl (hsw cB cZ cR h0 tr wh hf hr n tray (nI t) whole wl sz md M ++ mw cB cZ cI m0 m1 m2 m3 m4 m5 m6 m7 m8 m9 n tray sn ids ps es bs th by_ w2 wl md (nI t)) _ := hP
  have hD : va_D A (hsw cB cZ cR h0 tr wh hf hr n tray (nI t) whole wl sz md M ++ mw cB cZ cI m0 m1 m2 m3 m4 m5 m6 m7 m8 m9 n tray sn ids ps es bs th by_ w2 wl md (nI t)) := hD
  have hP := wP_perm hP List.perm_append_comm
  have hD := wD_perm hD List.perm_append_comm
  refine lv_aload_n hx hb dL_law_316 rfl (lv_at hl 2 rfl) ?_
  refine lv_aload_n hx hb dL_law_317 rfl (lv_at hl 0 rfl) ?_
  refine lv_iload_n hx hb dL_law_318 rfl (lv_at hl 3 rfl) ?_
  refine lv_iconst (v := nI 1) hx hb dL_law_319 (by decide +kernel) ?_
  refine lv_iadd hx hb dL_law_320 ?_
  refine lv_as (y := nI (i + 1)) (nI_add _ _) ?_
  refine ab_sld hx hb hX hbl hbA hS (i + 1) rfl (by omega) (by omega) dL_law_321 ?_
  refine call_V (nA := 1) (rest := [.int z1]) (q := (RX3, TX3, 13)) (ci := 3) (q0 := 0) (hsw cB cZ cR h0 tr wh hf hr n tray (nI t) whole wl sz md M) [.int (xs (i + 1))] ⟨hx, hb, hml, hown, hts⟩ (m_mAt l D cB cZ cR cI m0 m1 m2 m3 m4 m5 m6 m7 m8 m9 n tray sn ids ps es bs th by_ w2 wl md (nI t) (xs (i + 1)) hrel.2.2.1) (lw_V q271 q272 q273 q9 q274) (by decide +kernel) rfl ⟨Nat.le_of_ble_eq_true rfl, Nat.le_of_ble_eq_true rfl⟩ hK hE rfl rfl hP hD hS hA hl.1 rfl (Nat.le_of_ble_eq_true rfl) dL_law_322 ⟨Nat.le_of_ble_eq_true rfl, Nat.le_of_ble_eq_true rfl⟩ (fun v2 u2 H locs hv2 hKu hP hD hS => ?_)
  obtain ⟨z2, rfl⟩ : ∃ (z : Int32), v2 = some (.int z) := by rcases hv2 with ⟨_, _, -, -, -, -, h⟩ | ⟨-, h⟩ <;> exact ⟨_, h⟩
  refine W.eq (g2 := F0 m 325 ls [.int z2, .int z1]) rfl ?_
  refine W.cs (cells' := 27) (slots' := 60386) rfl rfl ?_
  have hP : va_P D vwCl (mw cB cZ cI m0 m1 m2 m3 m4 m5 m6 m7 m8 m9 n tray sn ids ps es bs th by_ w2 wl md (nI t) ++ hsw cB cZ cR h0 tr wh hf hr n tray (nI t) whole wl sz md M) _ := hP
  have hD : va_D A (mw cB cZ cI m0 m1 m2 m3 m4 m5 m6 m7 m8 m9 n tray sn ids ps es bs th by_ w2 wl md (nI t) ++ hsw cB cZ cR h0 tr wh hf hr n tray (nI t) whole wl sz md M) := hD
  have hP := wP_perm hP List.perm_append_comm
  have hD := wD_perm hD List.perm_append_comm
  have heq := at_eq hrel hv1 hv2
  refine lv_icmp_eq (tgt := 330) hx hb dL_law_325 (by decide) (fun c10 => ?_) (fun c10 => ?_)
  · skip
    exact kk H locs ⟨n, t, tray, whole, wl, md, sz, M, sn, ids, ps, es, bs, th, by_, w2, hn, hrel, hP, hD⟩ hS
  · skip
    exact absurd (some_int heq) c10
set_option maxHeartbeats 4000000 in
set_option maxRecDepth 100000 in
/-- the law's loop -/
theorem law_loop (C : LC p s m c b L xs D A cB cZ cR cI) (kend : ∀ (H : Heap) (locs : List Loc) (ls : Array Slot), va_S A s.heap H locs → W p l e room_1 s m #[Value.ref b] below meth c H locs 27 60386 Q (F0 m 337 ls [.int 1])) : ∀ (d i : Nat) (H : Heap) (locs : List Loc) (ls : Array Slot), i ≤ L → L + 1 ≤ i + d → lawI D A cB cZ cR cI h0 tr wh hf hr m0 m1 m2 m3 m4 m5 m6 m7 m8 m9 H → va_S A s.heap H locs → lv_has ls 4 [(0, .ref b), (1, .ref h0), (2, .ref m0), (3, .int (nI i))] → W p l e room_1 s m #[Value.ref b] below meth c H locs 27 60386 Q (F0 m 18 ls []) := by
  have ⟨hx, hb, hml, hown, hts, hX, hbl, hA, hbA, hK, hE, hL⟩ := C
  intro d
  induction d with
  | zero => intro i H locs ls q1 q2; exact absurd q2 (by omega)
  | succ d ih =>
    intro i H locs ls q1 q2 hI hS hl
    refine lv_iload_n hx hb dL_law_18 rfl (lv_at hl 3 rfl) ?_
    refine lv_aload_n hx hb dL_law_19 rfl (lv_at hl 0 rfl) ?_
    refine va_slen hx hb hX hbl hbA hS dL_law_20 ?_
    refine lv_as (y := nI L) (rfl) ?_
    refine lv_bipush (v := nI 6) hx hb dL_law_21 (by decide +kernel) ?_
    refine lv_isub hx hb dL_law_23 ?_
    refine lv_icmp_gt (tgt := 336) hx hb dL_law_24 (by decide) (fun c11 => ?_) (fun c11 => ?_)
    · skip
      refine lv_iconst (v := nI 1) hx hb dL_law_336 (by decide +kernel) ?_
      refine lv_as (y := 1) (by decide +kernel) ?_
      exact kend H locs ls hS
    · skip
      have hi : i + 6 ≤ L := by
        rcases Nat.lt_or_ge L (i + 6) with h | h
        · refine absurd ?_ c11
          rw [Int32.lt_iff_toInt_lt, pk_sub_toInt (by omega) (by omega), nI_toInt (by omega)]
          omega
        · exact h
      have k330 : ∀ (H : Heap) (locs : List Loc), lawI D A cB cZ cR cI h0 tr wh hf hr m0 m1 m2 m3 m4 m5 m6 m7 m8 m9 H → va_S A s.heap H locs → W p l e room_1 s m #[Value.ref b] below meth c H locs 27 60386 Q (F0 m 330 ls []) := by
        intro H locs hI hS
        refine lv_iinc (v := nI (i + 6)) (lv' := [(3, .int (nI (i + 6))), (0, .ref b), (1, .ref h0), (2, .ref m0)]) hx hb dL_law_330 hl (k := 3) rfl (nI_add i 6) (by decide) rfl (fun ls hl => ?_)
        refine lv_goto (tgt := 18) hx hb dL_law_333 (by decide) ?_
        exact ih (i + 6) H locs ls (by omega) (by omega) hI hS (lv_sub hl [1, 2, 3, 0] rfl)
      refine lv_aload_n hx hb dL_law_27 rfl (lv_at hl 0 rfl) ?_
      refine lv_iload_n hx hb dL_law_28 rfl (lv_at hl 3 rfl) ?_
      refine ab_sld hx hb hX hbl hbA hS i rfl (by omega) (by omega) dL_law_29 ?_
      refine lv_bipush (v := nI 7) hx hb dL_law_30 (by decide +kernel) ?_
      refine lv_iand hx hb dL_law_32 ?_
      rcases and7 (xs i) with h7 | h7 | h7 | h7 | h7 | h7 | h7 | h7
      · skip
        rw [h7]
        refine lv_tableIn (off := 47) (tgt := 80) hx hb dL_law_33 (by decide +kernel) (by decide +kernel) (by decide +kernel) (by decide +kernel) ?_
        exact law_c0 C hi hI hS hl k330
      · skip
        rw [h7]
        refine lv_tableIn (off := 110) (tgt := 143) hx hb dL_law_33 (by decide +kernel) (by decide +kernel) (by decide +kernel) (by decide +kernel) ?_
        exact law_c1 C hi hI hS hl k330
      · skip
        rw [h7]
        refine lv_tableIn (off := 133) (tgt := 166) hx hb dL_law_33 (by decide +kernel) (by decide +kernel) (by decide +kernel) (by decide +kernel) ?_
        exact law_c2 C hi hI hS hl k330
      · skip
        rw [h7]
        refine lv_tableIn (off := 212) (tgt := 245) hx hb dL_law_33 (by decide +kernel) (by decide +kernel) (by decide +kernel) (by decide +kernel) ?_
        exact law_c3 C hi hI hS hl k330
      · skip
        rw [h7]
        refine lv_tableIn (off := 235) (tgt := 268) hx hb dL_law_33 (by decide +kernel) (by decide +kernel) (by decide +kernel) (by decide +kernel) ?_
        exact law_c4 C hi hI hS hl k330
      · skip
        rw [h7]
        refine lv_tableIn (off := 248) (tgt := 281) hx hb dL_law_33 (by decide +kernel) (by decide +kernel) (by decide +kernel) (by decide +kernel) ?_
        exact law_c5 C hi hI hS hl k330
      · skip
        rw [h7]
        refine lv_tableIn (off := 261) (tgt := 294) hx hb dL_law_33 (by decide +kernel) (by decide +kernel) (by decide +kernel) (by decide +kernel) ?_
        exact law_c6 C hi hI hS hl k330
      · skip
        rw [h7]
        refine lv_tableIn (off := 274) (tgt := 307) hx hb dL_law_33 (by decide +kernel) (by decide +kernel) (by decide +kernel) (by decide +kernel) ?_
        exact law_c7 C hi hI hS hl k330
end LAW
end
section
/-! the claim out of one walk: the words of it (starting text) -/
def R_law : String := "FragmentHouseLaw"
def lw_P (b : Addr) (xs : List Int32) (args : Array Value) (s : State) : Prop := args = #[.ref b] ∧ s.IntsAt b xs ∧ xs.length ≤ 384 ∧ (Jvm.Cond.and given_1 narrow_1).before args s = true
def lw_Q (_ : Array Value) (s : State) (o : Outcome) (t : State) : Prop := o = .returned (some (.int 1)) ∧ Framed s o t [] 600000 7302250
def lw_Z (below : List Frame) (a : Array Value) (s : State) : State → Prop := fun t => ∃ o, t.status = .running ∧ Ended t below o ∧ lw_Q a s o t
/-- the law's own end, with 1 on the stack, nothing written that was there before, its room as the claim has it -/
theorem lw_ret {p : Program} {l : Launch} {e : Env} {s : State} {m : MethodId} {below : List Frame} {meth : Method} {c : Code} {b : Nat} (hx : p.tables.exec = Jvm.exec) (hb : c.code = code) (hr : meth.sig.returnType = ret) (hlocks : meth.locks = false) {pc : Nat} {H : Heap} {ls : Array Slot} (hdg : decode code pc = .ok (.ireturn, 1)) : W p l e room_1 s m #[Value.ref b] below meth c H [] 600000 7302250 (lw_Z below #[Value.ref b] s) (F0 m pc ls [.int 1]) := by
  intro T hT X
  obtain ⟨fs, hret, hrun, hended, hW, hframe⟩ := X.leave (v := some (.int 1)) (hlocks := hlocks) (fun h => by rw [hr] at h; cases h)
  have hmeth' : T.vm.method? m = some meth := X.method'
  refine ⟨T.setFrames fs, ?_, .returned (some (.int 1)), hrun, hended, rfl, ⟨_, rfl⟩, hW, hframe⟩
  jvm_step X.here [X.here.top, hx, hb, hdg, hmeth', hr, ret, narrow_b1]
  (try refine ⟨rfl, ?_⟩); (try refine ⟨rfl, ?_⟩)
  first | (intro acts; rw [hret _ acts rfl rfl rfl]) | rw [hret _ _ rfl rfl rfl]
  exact Steps.refl _
/-- what holds at the law's entry: the machine, the code, the tables' words (any of lw_tbl by 'hts w (by decide +kernel)'), the script of L ints xs at the cell b, what the Statement gives of the start (any of its parts by flat_of_before) -/
def lw_At (p : Program) (s : State) (m : MethodId) (meth : Method) (c : Code) (b L : Nat) (xs : Nat → Int32) : Prop :=
  p.tables.exec = Jvm.exec ∧ c.code = code ∧ meth.sig.returnType = ret ∧ c.maxLocals = 4 ∧ s.vm.findClass R_law = some m.cls ∧ (∀ w ∈ lw_tbl, w.before #[Value.ref b] s = true) ∧ va_X b L xs s s.heap ∧ b < s.heap.size ∧ meth.locks = false ∧ (Jvm.Cond.and given_1 narrow_1).before #[Value.ref b] s = true
end
section
/-! the law from its entry -/
set_option maxHeartbeats 4000000 in
set_option maxRecDepth 100000 in
/-- THE LAW, from its entry -/
theorem whole_start {p : Program} {e : Env} {s : State} {m : MethodId} {below : List Frame} {meth : Method} {c : Code} (l : Launch) {b L : Nat} {xs : Nat → Int32} (hL : L ≤ 384) (C0 : lw_At p s m meth c b L xs) : W p l e room_1 s m #[Value.ref b] below meth c s.heap [] 0 0 (lw_Z below #[Value.ref b] s) (entryFrame m ([Value.ref b] : List Value).toArray 4) := by
  obtain ⟨hx, hb, hr, hml, hown, hts0, hX, hbl, hlocks, hgv⟩ := C0
  have hts : ∀ w ∈ lw_all, w.before #[Value.ref b] s = true := fun w h => hts0 w (lw_all_tbl h)
  have hown : s.vm.findClass "FragmentHouseLaw" = some m.cls := hown
  have hb : c.code = cL_law := hb
  obtain ⟨A, hAe⟩ : ∃ A : Nat → Prop, A = fun q : Nat => s.heap.size ≤ q := ⟨_, rfl⟩
  have hA : ∀ q : Nat, s.heap.size ≤ q → A q := by rw [hAe]; exact fun _ h => h
  have hA2 : ∀ q : Nat, A q → s.heap.size ≤ q := by rw [hAe]; exact fun _ h => h
  have hbA : ¬ A b := fun h => absurd (hA2 b h) (Nat.not_le.mpr hbl)
  obtain ⟨c0, iS0, hKn0⟩ := u_known (C := RX0) (T := TX0) (N := 6) (n := 6) hts in_X0 (hts _ q13)
  obtain ⟨c1, iS1, hKn1⟩ := u_known (C := RX1) (T := TX1) (N := 3) (n := 3) hts in_X1 (hts _ q21)
  obtain ⟨c2, iS2, hKn2⟩ := u_known (C := RX2) (T := TX2) (N := 8) (n := 8) hts in_X2 (hts _ q28)
  obtain ⟨c3, iS3, hKn3⟩ := u_known (C := RX3) (T := TX3) (N := 13) (n := 13) hts in_X3 (hts _ q184)
  obtain ⟨D, hKc⟩ : ∃ D : va_G, ∀ (k : Nat) (q : vw_C), vwCl[k]? = some q → u_Kn s q.1 q.2.1 q.2.2 (D.1 k) (D.2 k) := by
    refine ⟨(fun k => if k = 0 then c0 else if k = 1 then c1 else if k = 2 then c2 else c3, fun k => if k = 0 then iS0 else if k = 1 then iS1 else if k = 2 then iS2 else iS3), ?_⟩
    intro k q hq
    match k, hq with
    | 0, hq => cases hq; exact hKn0
    | 1, hq => cases hq; exact hKn1
    | 2, hq => cases hq; exact hKn2
    | 3, hq => cases hq; exact hKn3
    | k + 4, hq => simp [vwCl] at hq
  have hE : EX s := ⟨va_Nw.of rfl (hts0 _ q29), va_AO.of (hts0 _ q27)⟩
  have hS : va_S A s.heap s.heap [] := va_S.rf
  have hK : va_K D vwCl [] s := ⟨hKc, fun k q h => by simp at h⟩
  have hP : va_P D vwCl [] s.heap := fun k q h => by simp at h
  have hD : va_D A [] := ⟨fun i j p q h => by simp at h, fun k q h => by simp at h⟩
  have hl := lv_entry ([.ref b]) (n := 4) (Nat.le_of_ble_eq_true rfl)
  rw [lg_entry_eq]
  generalize (lg_sl ([.ref b]) ++ List.replicate (4 - (lg_sl ([.ref b])).length) Slot.unset).toArray = ls at hl ⊢
  have hl : lv_has ls 4 [(0, .ref b)] := hl
  refine va_new (ci := 0) (fs := [.null, .int 0, .null, .int 0, .null, .int 0]) (C := RX0) (T := TX0) (N := 6) hx hb hts in_X0 tyX0 tyX0_ok hown (hts _ q12) (hts _ q13) (hts _ q6) hK hP hD hS hA rfl (fun j hj => by rcases (show j = 0 ∨ j = 1 ∨ j = 2 ∨ j = 3 ∨ j = 4 ∨ j = 5 by omega) with rfl | rfl | rfl | rfl | rfl | rfl <;> rfl) (Nat.le_of_ble_eq_true rfl) (Nat.le_of_ble_eq_true rfl) dL_law_0 (fun h0 H hP hD hS => ?_)
  refine W.cs (cells' := 1) (slots' := 6) rfl rfl ?_
  have hP : va_P D vwCl ([(h0, .inr (0, [.null, .int 0, .null, .int 0, .null, .int 0]))]) H := hP
  have hD : va_D A ([(h0, .inr (0, [.null, .int 0, .null, .int 0, .null, .int 0]))]) := hD
  refine lv_dup hx hb dL_law_3 rfl ?_
  refine call_I (wc := [(h0, .inr (0, [.null, .int 0, .null, .int 0, .null, .int 0]))]) (nA := 0) (rest := [.ref h0]) ([]) [] ⟨hx, hb, hml, hown, hts⟩ (m_hInit l D h0) q16 q6 q14 q15 rfl (by decide +kernel) rfl ⟨Nat.le_of_ble_eq_true rfl, Nat.le_of_ble_eq_true rfl⟩ hK hE hP hD hS hA hl.1 rfl (Nat.le_of_ble_eq_true rfl) dL_law_4 ⟨Nat.le_of_ble_eq_true rfl, Nat.le_of_ble_eq_true rfl⟩ (fun v1 u1 H locs hv1 hKu hP hD hS => ?_)
  obtain rfl : v1 = none := hv1
  obtain ⟨tr, wh, hf, hr1, cB, cZ, cR, M⟩ := u1
  refine W.eq (g2 := F0 m 7 ls [.ref h0]) rfl ?_
  refine W.cs (cells' := 17) (slots' := 38389) rfl rfl ?_
  have hP : va_P D vwCl (hsw cB cZ cR h0 tr wh hf hr1 0 (fun _ => 0) 0 (fun _ => 0) (-1) 0 (nI 0) M) _ := wP_left hP
  have hD : va_D A (hsw cB cZ cR h0 tr wh hf hr1 0 (fun _ => 0) 0 (fun _ => 0) (-1) 0 (nI 0) M) := wD_left hD
  have hK : va_K D vwCl [(cB, .byte), (cR, .object "FragmentHouse$Making"), (cZ, .boolean)] s := hKu
  refine lv_astore_n (lv' := [(1, .ref h0), (0, .ref b)]) hx hb dL_law_7 rfl hl (by decide) rfl (fun ls hl => ?_)
  refine va_new (ci := 3) (fs := [.null, .int 0, .null, .null, .null, .null, .null, .null, .null, .null, .int 0, .int 0, .int 0]) (C := RX3) (T := TX3) (N := 13) hx hb hts in_X3 tyX3 tyX3_ok hown (hts _ q183) (hts _ q184) (hts _ q9) hK hP hD hS hA rfl (fun j hj => by rcases (show j = 0 ∨ j = 1 ∨ j = 2 ∨ j = 3 ∨ j = 4 ∨ j = 5 ∨ j = 6 ∨ j = 7 ∨ j = 8 ∨ j = 9 ∨ j = 10 ∨ j = 11 ∨ j = 12 by omega) with rfl | rfl | rfl | rfl | rfl | rfl | rfl | rfl | rfl | rfl | rfl | rfl | rfl <;> rfl) (Nat.le_of_ble_eq_true rfl) (Nat.le_of_ble_eq_true rfl) dL_law_8 (fun m0 H hP hD hS => ?_)
  refine W.cs (cells' := 18) (slots' := 38402) rfl rfl ?_
  have hP : va_P D vwCl (hsw cB cZ cR h0 tr wh hf hr1 0 (fun _ => 0) 0 (fun _ => 0) (-1) 0 (nI 0) M ++ [(m0, .inr (3, [.null, .int 0, .null, .null, .null, .null, .null, .null, .null, .null, .int 0, .int 0, .int 0]))]) H := hP
  have hD : va_D A (hsw cB cZ cR h0 tr wh hf hr1 0 (fun _ => 0) 0 (fun _ => 0) (-1) 0 (nI 0) M ++ [(m0, .inr (3, [.null, .int 0, .null, .null, .null, .null, .null, .null, .null, .null, .int 0, .int 0, .int 0]))]) := hD
  refine lv_dup hx hb dL_law_11 rfl ?_
  refine call_I (wc := [(m0, .inr (3, [.null, .int 0, .null, .null, .null, .null, .null, .null, .null, .null, .int 0, .int 0, .int 0]))]) (nA := 0) (rest := [.ref m0]) (hsw cB cZ cR h0 tr wh hf hr1 0 (fun _ => 0) 0 (fun _ => 0) (-1) 0 (nI 0) M) [] ⟨hx, hb, hml, hown, hts⟩ (m_mInit l D m0) q187 q9 q185 q186 rfl (by decide +kernel) rfl ⟨Nat.le_of_ble_eq_true rfl, Nat.le_of_ble_eq_true rfl⟩ (hK.sub [] rfl) hE (wP_perm hP List.perm_append_comm) (wD_perm hD List.perm_append_comm) hS hA hl.1 rfl (Nat.le_of_ble_eq_true rfl) dL_law_12 ⟨Nat.le_of_ble_eq_true rfl, Nat.le_of_ble_eq_true rfl⟩ (fun v2 u2 H locs hv2 hKm hP hD hS => ?_)
  obtain rfl : v2 = none := hv2
  obtain ⟨ma, cB1, cZ1, cI⟩ := u2
  refine W.eq (g2 := F0 m 15 ls [.ref m0]) rfl ?_
  refine W.cs (cells' := 27) (slots' := 60386) rfl rfl ?_
  obtain rfl : cB1 = cB := K_u hK hKm 0 0 rfl rfl
  obtain rfl : cZ1 = cZ := K_u hK hKm 2 2 rfl rfl
  have hK : va_K D vwCl (tyS cB1 cZ1 cR cI) s := (hK.app hKm).sub [0, 2, 1, 4] rfl
  have hP : va_P D vwCl (mw cB1 cZ1 cI m0 (ma 1) (ma 2) (ma 3) (ma 4) (ma 5) (ma 6) (ma 7) (ma 8) (ma 9) 0 (fun _ => 0) (fun _ => 0) (fun _ => 0) (fun _ => 0) (fun _ => 0) (fun _ => 0) (fun _ => 0) (fun _ => 0) (fun _ => 0) (-1) 0 0 ++ hsw cB1 cZ1 cR h0 tr wh hf hr1 0 (fun _ => 0) 0 (fun _ => 0) (-1) 0 (nI 0) M) _ := hP
  have hD : va_D A (mw cB1 cZ1 cI m0 (ma 1) (ma 2) (ma 3) (ma 4) (ma 5) (ma 6) (ma 7) (ma 8) (ma 9) 0 (fun _ => 0) (fun _ => 0) (fun _ => 0) (fun _ => 0) (fun _ => 0) (fun _ => 0) (fun _ => 0) (fun _ => 0) (fun _ => 0) (-1) 0 0 ++ hsw cB1 cZ1 cR h0 tr wh hf hr1 0 (fun _ => 0) 0 (fun _ => 0) (-1) 0 (nI 0) M) := hD
  have hP := wP_perm hP List.perm_append_comm
  have hD := wD_perm hD List.perm_append_comm
  refine lv_astore_n (lv' := [(2, .ref m0), (1, .ref h0), (0, .ref b)]) hx hb dL_law_15 rfl hl (by decide) rfl (fun ls hl => ?_)
  refine lv_iconst (v := nI 0) hx hb dL_law_16 (by decide +kernel) ?_
  refine lv_istore_n (lv' := [(3, .int (nI 0)), (2, .ref m0), (1, .ref h0), (0, .ref b)]) hx hb dL_law_17 rfl hl (by decide) rfl (fun ls hl => ?_)
  have hI : lawI D A cB1 cZ1 cR cI h0 tr wh hf hr1 m0 (ma 1) (ma 2) (ma 3) (ma 4) (ma 5) (ma 6) (ma 7) (ma 8) (ma 9) _ := ⟨0, 0, fun _ => 0, fun _ => 0, (-1), nI 0, 0, M, fun _ => 0, fun _ => 0, fun _ => 0, fun _ => 0, fun _ => 0, fun _ => 0, fun _ => 0, fun _ => 0, by omega, rel_start M _ _ _ _ _ _ _, hP, hD⟩
  refine law_loop ⟨hx, hb, hml, hown, hts, hX, hbl, hA, hbA, hK, hE, hL⟩ ?_ (L + 1) 0 _ _ ls (Nat.zero_le L) (by omega) hI hS (lv_sub hl [3, 2, 1, 0] rfl)
  intro H locs ls hS
  refine va_forget (fun q hq => hA2 _ (hS.2.2 q hq)) ?_
  refine W.widen (k := 600000) (n := 7302250) (Nat.le_of_ble_eq_true rfl) (Nat.le_of_ble_eq_true rfl) ?_
  exact lw_ret hx hb hr hlocks dL_law_337
end
section
/-! the claim (starting text) -/
set_option maxHeartbeats 4000000 in
theorem lw_walk (l : Launch) (b : Addr) (xs : List Int32) : MetFree l x (headSpec (Jvm.Cond.code x code maxLocals ret :: tables_1) room_1) (lw_P b xs) (fun _ _ _ _ _ => True) lw_Q := by
  refine MetFree.of_bodyS (code := code) (maxLocals := maxLocals) (ret := ret) (by decide) ?_ ?_
  · intro args s m h hn
    obtain ⟨meth, c, h1, h2, h3, h4, h5, h6, -, -⟩ := Cond.code_spec hn (atoms_spec (ws := Jvm.Cond.code x code maxLocals ret :: tables_1) h _ List.mem_cons_self)
    exact ⟨meth, c, h1, h2, h3, h4, h5, h6⟩
  · intro p e s m args below meth c s₁ B hml0 hP _
    obtain ⟨rfl, hx, hbd, hgv⟩ := hP
    obtain ⟨scr, harrAt, hlist, hof, hsmall⟩ := hx
    obtain ⟨hcb, hkn, -, -⟩ := State.arrayAt?_spec harrAt
    have hown : s.vm.findClass R_law = some m.cls := findClass_of_methodNamed B.named
    have hts0 : ∀ c ∈ (Jvm.Cond.code x code maxLocals ret :: tables_1), c.before #[Value.ref b] s = true := atoms_spec (ws := Jvm.Cond.code x code maxLocals ret :: tables_1) B.pre
    have hts : ∀ w ∈ lw_tbl, w.before #[Value.ref b] s = true := k2_hts_sels lw_privs (fun w hw => hts0 w (List.mem_cons_of_mem _ hw)) lw_privs_ok
    have hml : c.maxLocals = 4 := B.maxLocals_eq (hts0 _ List.mem_cons_self)
    have X₀ : Stand p l e room_1 s m #[Value.ref b] below meth c s₁ [] 0 0 := Stand.of_body B
    have hh0 : s₁.heap = s.heap := by rw [B.state]; rfl
    have hsz : scr.slots.size = xs.length := by rw [← Array.length_toList, hlist, List.length_map]
    have hval : ∀ j : Nat, j < xs.length → scr.slots[j]? = some (.int (xs.getD j 0)) := fun j hj => by
      rw [← Array.getElem?_toList, hlist]
      simp [hj]
    have hbl : b < s.heap.size := (Array.getElem?_eq_some_iff.mp hcb).1
    have hX : va_X b xs.length (fun j => xs.getD j 0) s s.heap := ⟨scr, hcb, hof, hkn, hsz, hval⟩
    have K : W p l e room_1 s m #[Value.ref b] below meth c s₁.heap [] 0 0 (lw_Z below #[Value.ref b] s) (entryFrame m ([Value.ref b] : List Value).toArray 4) := by
      rw [hh0]
      exact whole_start l hbd ⟨B.exec, B.bytes, B.returns, hml, hown, hts, hX, hbl, B.notSynchronized, hgv⟩
    obtain ⟨t, a1, o, b1, b2, b3⟩ := K s₁ rfl X₀
    exact ⟨t, o, a1, b1, b2, b3⟩
theorem lw_pre_spec {args : Array Value} {s : State} (h : (Jvm.Cond.and given_1 narrow_1).before args s = true) (hr : rest_1_c.before args s = true) : ∃ (b : Addr) (xs : List Int32), lw_P b xs args s := by
  have hs := flat_of_before _ h
  have hq := flat_of_before _ hr
  have hc : (Cond.count 1).before args s = true := hs _ (by decide +kernel)
  have harr : (Cond.arrayOf (.arg 0) .int).before args s = true := hs _ (by decide +kernel)
  have hle : (Cond.le (.length (.arg 0)) (.int 384)).before args s = true := hs _ (by decide +kernel)
  have hlen : (Cond.isInt (.length (.arg 0))).before args s = true := hq _ (by decide +kernel)
  have hall : (Cond.all (.arg 0) (.isInt (.elem (.arg 0) (.index 0)))).before args s = true := hq _ (by decide +kernel)
  obtain ⟨b, xs, hb, hx⟩ := State.ints_of_pre rfl harr hlen hall
  have hsm : xs.length < 2 ^ 31 := hx.choose_spec.2.2.2
  have hev : (Term.length (.arg 0)).eval args s none [] s = some (.int xs.length.toInt32) := hx.length_eval hb
  have hv := Cond.le_ints hev (show (Term.int 384).eval args s none [] s = some (.int 384) from rfl)
  have hd : xs.length.toInt32 ≤ 384 := by
    simpa [Cond.before, Cond.holds, hv] using hle
  have hN : xs.length ≤ 384 := (Int32.ofNat_le_ofNat hsm (by decide)).mp (show Int32.ofNat xs.length ≤ Int32.ofNat 384 from hd)
  exact ⟨b, xs, Cond.one_arg hc (show args[0]? = some (.ref b) from hb), hx, hN, h⟩
theorem lw_comes (l : Launch) : Comes l x (Jvm.Cond.code x code maxLocals ret :: tables_1) room_1 (fun tb e args s => Calls_1 tb e args s ∧ rest_1 tb e args s ∧ Pre_1 tb e args s)
    (fun _ _ args s o t => lw_Q args s o t) := by
  intro p e ha hc hk s m args below hf hfit hheap happ hpre
  obtain ⟨b, xs, hP⟩ := lw_pre_spec hpre.2.2 hpre.2.1
  obtain ⟨k, o, h1, h2, h3, hQ⟩ := lw_walk l b xs p e ha hc hk s m args below hf ((Spec.applies_iff_loose hf).mp happ).1 hP trivial
  exact ⟨k, o, h1, h2, h3, hQ⟩
theorem lw_frame {s t : State} {o : Outcome} {args : Array Value} (h : Framed s o t [] 600000 7302250) :
    Framed s o t (fieldLocs frame_1_writes args s ++ arrayLocs frame_1_arrays args s ++ staticLocs frame_1_statics s) 600000 7302250 := h
theorem lw_limb (L : Cond) (hL : ∀ (args : Array Value) (s t : State), L.after args s (.returned (some (.int 1))) t = true) :
    ArmFor flags0 classFile x code maxLocals ret World_1 tables_1 room_1 Calls_1 rest_1 Pre_1
      (fun tb e a s o t => postC L tb e a s o t ∧ Framed s o t (fieldLocs frame_1_writes a s ++ arrayLocs frame_1_arrays a s ++ staticLocs frame_1_statics s) 600000 7302250) := by
  intro l _ _ _ p e ha hc hk s m args below hf hfit hheap happ hpre
  obtain ⟨k, o, h1, h2, h3, rfl, hF⟩ := lw_comes l p e ha hc hk s m args below hf hfit hheap happ hpre
  exact ⟨k, _, h1, h2, h3, hL args s _, lw_frame hF⟩
theorem i_vc : Claimed_1_1 ∧ Claimed_1_2 := ⟨lw_limb limb_1_1 (fun args s t => by simp [limb_1_1, Cond.after, Cond.holds, Cond.value]), lw_limb limb_1_2 (fun args s t => Cond.after_iff.mpr (by
  first | (rw [show limb_1_2 = Cond.eq .result (.int 1) from rfl, Cond.eq_ints (x := 1) (y := 1) rfl rfl]; simp; done) | (simp [limb_1_2, Cond.value, Term.eval]; done)))⟩
end
