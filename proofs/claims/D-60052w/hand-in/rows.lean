section
-- ===== PART A: goes FIRST, ahead of the names: the tables' words, and 'selects' of the private methods out of them =====
/-- a private method of a class that the tables say can be made, by its rows of tables_1 -/
def lw_okq (q : MethodName × Nat) : Prop := (q.1.cls ≠ "java/lang/invoke/MethodHandle" ∧ q.1.cls ≠ "java/lang/invoke/VarHandle") ∧ Cond.instantiable q.1.cls q.2 ∈ tables_1 ∧ Cond.privateMethod q.1 ∈ tables_1 ∧ Cond.instanceMethod q.1 ∈ tables_1
set_option maxRecDepth 100000
theorem lw_p0 : lw_okq (⟨"RouteDesk", "clear", "()V"⟩, 4) := ⟨⟨by decide +kernel, by decide +kernel⟩, List.mem_of_getElem? (i := 5) rfl, List.mem_of_getElem? (i := 13) rfl, List.mem_of_getElem? (i := 14) rfl⟩
theorem lw_p1 : lw_okq (⟨"RouteDesk", "place", "(I)I"⟩, 4) := ⟨⟨by decide +kernel, by decide +kernel⟩, List.mem_of_getElem? (i := 5) rfl, List.mem_of_getElem? (i := 40) rfl, List.mem_of_getElem? (i := 41) rfl⟩
theorem lw_p2 : lw_okq (⟨"RouteDesk", "at", "(II)I"⟩, 4) := ⟨⟨by decide +kernel, by decide +kernel⟩, List.mem_of_getElem? (i := 5) rfl, List.mem_of_getElem? (i := 45) rfl, List.mem_of_getElem? (i := 46) rfl⟩
theorem lw_p3 : lw_okq (⟨"RouteDesk", "sweep", "()V"⟩, 4) := ⟨⟨by decide +kernel, by decide +kernel⟩, List.mem_of_getElem? (i := 5) rfl, List.mem_of_getElem? (i := 58) rfl, List.mem_of_getElem? (i := 59) rfl⟩
theorem lw_p4 : lw_okq (⟨"RouteDesk", "onCircle", "(I)Z"⟩, 4) := ⟨⟨by decide +kernel, by decide +kernel⟩, List.mem_of_getElem? (i := 5) rfl, List.mem_of_getElem? (i := 66) rfl, List.mem_of_getElem? (i := 67) rfl⟩
theorem lw_p5 : lw_okq (⟨"RouteDeskModel", "at", "(I)I"⟩, 12) := ⟨⟨by decide +kernel, by decide +kernel⟩, List.mem_of_getElem? (i := 89) rfl, List.mem_of_getElem? (i := 142) rfl, List.mem_of_getElem? (i := 143) rfl⟩
theorem lw_p6 : lw_okq (⟨"RouteDeskModel", "reckon", "()V"⟩, 12) := ⟨⟨by decide +kernel, by decide +kernel⟩, List.mem_of_getElem? (i := 89) rfl, List.mem_of_getElem? (i := 155) rfl, List.mem_of_getElem? (i := 156) rfl⟩
theorem lw_p7 : lw_okq (⟨"RouteDeskModel", "longer", "()V"⟩, 12) := ⟨⟨by decide +kernel, by decide +kernel⟩, List.mem_of_getElem? (i := 89) rfl, List.mem_of_getElem? (i := 159) rfl, List.mem_of_getElem? (i := 160) rfl⟩
def lw_privs_1 : List (MethodName × Nat) := [(⟨"RouteDesk", "clear", "()V"⟩, 4), (⟨"RouteDesk", "place", "(I)I"⟩, 4), (⟨"RouteDesk", "at", "(II)I"⟩, 4), (⟨"RouteDesk", "sweep", "()V"⟩, 4), (⟨"RouteDesk", "onCircle", "(I)Z"⟩, 4), (⟨"RouteDeskModel", "at", "(I)I"⟩, 12), (⟨"RouteDeskModel", "reckon", "()V"⟩, 12), (⟨"RouteDeskModel", "longer", "()V"⟩, 12)]
theorem lw_r1 : ∀ q ∈ lw_privs_1, lw_okq q := List.forall_mem_cons.mpr ⟨lw_p0, List.forall_mem_cons.mpr ⟨lw_p1, List.forall_mem_cons.mpr ⟨lw_p2, List.forall_mem_cons.mpr ⟨lw_p3, List.forall_mem_cons.mpr ⟨lw_p4, List.forall_mem_cons.mpr ⟨lw_p5, List.forall_mem_cons.mpr ⟨lw_p6, List.forall_mem_cons.mpr ⟨lw_p7, fun _ h => absurd h List.not_mem_nil⟩⟩⟩⟩⟩⟩⟩⟩
def lw_privs : List (MethodName × Nat) := lw_privs_1
def lw_tbl : List Cond := k2_sels lw_privs ++ tables_1
theorem lw_privs_ok : ∀ q ∈ lw_privs, lw_okq q := lw_r1
-- ===== ONE list of words for every method: the tables' words that hold all through a run =====
def lw_all : List Cond := lw_tbl.filter goodWord
/-- a word of the tables by its place: claim/WORDS.tsv -/
theorem lw_w {w : Cond} (i : Nat) (h : lw_tbl[i]? = some w) (g : goodWord w = true) : w ∈ lw_all := List.mem_filter.mpr ⟨List.mem_of_getElem? h, g⟩
theorem lw_all_tbl {w : Cond} (h : w ∈ lw_all) : w ∈ lw_tbl := (List.mem_filter.mp h).1
theorem lw_self : GoodIn lw_all lw_all := fun w h => ⟨h, good_of_word (List.mem_filter.mp h).2⟩
/-- a class's field words, by their places -/
theorem lw_in (ws : List Cond) (ps : List Nat) (hp : ws = ps.filterMap (fun i => lw_tbl[i]?)) (hg : ws.all goodWord = true) : ∀ w ∈ ws, w ∈ lw_all := by
  intro w h
  have h1 := List.all_eq_true.mp hg w h
  rw [hp] at h
  obtain ⟨i, -, hi⟩ := List.mem_filterMap.mp h
  exact lw_w i hi h1
/-- the words of a contract for the method y with code b, L locals, answer r -/
abbrev ws_ (y : MethodName) (b : ByteArray) (L : Nat) (r : Option FieldType) : List Cond := Cond.code y b L r :: lw_all
theorem lw_meth {y : MethodName} {b : ByteArray} {L : Nat} {r : Option FieldType} (h : Cond.code y b L r ∈ lw_all) : GoodIn lw_all (ws_ y b L r) := by
  intro w hw
  rcases List.mem_cons.mp hw with e | e
  · rw [e]
    exact lw_self _ h
  · exact lw_self _ e
theorem lw_app {a c : List Cond} (ha : ∀ w ∈ a, w ∈ lw_all) (hc : GoodIn lw_all c) : GoodIn lw_all (a ++ c) := by
  intro w hw
  rcases List.mem_append.mp hw with e | e
  · exact lw_self w (ha w e)
  · exact hc w e
/-- what a call through an object asks: cwV n hts (lw_V ..) -/
theorem lw_V {own : String} {idx : Nat} {C : String} {y : MethodName} {b : ByteArray} {L : Nat} {r : Option FieldType} (h1 : Cond.methodLink own idx y ∈ lw_all) (h2 : Cond.instanceMethod y ∈ lw_all) (h3 : Cond.selects C y y ∈ lw_all) (h4 : Cond.initialized C ∈ lw_all) (h5 : Cond.code y b L r ∈ lw_all) : GoodIn lw_all (wsV own idx C y (ws_ y b L r)) := by
  refine lw_app ?_ (lw_meth h5)
  intro w hw
  simp only [List.mem_cons, List.not_mem_nil, or_false] at hw
  rcases hw with e | e | e | e
  · rw [e]; exact h1
  · rw [e]; exact h2
  · rw [e]; exact h3
  · rw [e]; exact h4
/-- what a static call asks: va_cwS n hts (lw_S ..) -/
theorem lw_S {own : String} {idx : Nat} {y : MethodName} {b : ByteArray} {L : Nat} {r : Option FieldType} (h1 : Cond.methodLink own idx y ∈ lw_all) (h2 : Cond.static y ∈ lw_all) (h3 : Cond.initialized y.cls ∈ lw_all) (h4 : Cond.code y b L r ∈ lw_all) : GoodIn lw_all (va_wsS own idx y (ws_ y b L r)) := by
  refine lw_app ?_ (lw_meth h4)
  intro w hw
  simp only [List.mem_cons, List.not_mem_nil, or_false] at hw
  rcases hw with e | e | e
  · rw [e]; exact h1
  · rw [e]; exact h2
  · rw [e]; exact h3
/-- the words of a contract for a method WITH HANDLERS (hh: its table) -/
abbrev wsW_ (y : MethodName) (b : ByteArray) (L : Nat) (r : Option FieldType) (hh : List (Nat × Nat × Nat × Nat)) : List Cond := Cond.codeWith y b L r hh :: lw_all
theorem lw_methW {y : MethodName} {b : ByteArray} {L : Nat} {r : Option FieldType} {hh : List (Nat × Nat × Nat × Nat)} (h : Cond.codeWith y b L r hh ∈ lw_all) : GoodIn lw_all (wsW_ y b L r hh) := by
  intro w hw
  rcases List.mem_cons.mp hw with e | e
  · rw [e]
    exact lw_self _ h
  · exact lw_self _ e
/-- any list of words by their places (lw_in), good -/
theorem lw_good {ws : List Cond} (h : ∀ w ∈ ws, w ∈ lw_all) : GoodIn lw_all ws := fun w hw => lw_self w (h w hw)
/-- what a call of a method with handlers asks: vx_cwVW n hts (lw_VW ..), vx_cwSW n hts (lw_SW ..) -/
theorem lw_VW {own : String} {idx : Nat} {C : String} {y : MethodName} {b : ByteArray} {L : Nat} {r : Option FieldType} {hh : List (Nat × Nat × Nat × Nat)} (h1 : Cond.methodLink own idx y ∈ lw_all) (h2 : Cond.instanceMethod y ∈ lw_all) (h3 : Cond.selects C y y ∈ lw_all) (h4 : Cond.initialized C ∈ lw_all) (h5 : Cond.codeWith y b L r hh ∈ lw_all) : GoodIn lw_all (wsV own idx C y (wsW_ y b L r hh)) := by
  refine lw_app ?_ (lw_methW h5)
  intro w hw
  simp only [List.mem_cons, List.not_mem_nil, or_false] at hw
  rcases hw with e | e | e | e
  · rw [e]; exact h1
  · rw [e]; exact h2
  · rw [e]; exact h3
  · rw [e]; exact h4
theorem lw_SW {own : String} {idx : Nat} {y : MethodName} {b : ByteArray} {L : Nat} {r : Option FieldType} {hh : List (Nat × Nat × Nat × Nat)} (h1 : Cond.methodLink own idx y ∈ lw_all) (h2 : Cond.static y ∈ lw_all) (h3 : Cond.initialized y.cls ∈ lw_all) (h4 : Cond.codeWith y b L r hh ∈ lw_all) : GoodIn lw_all (va_wsS own idx y (wsW_ y b L r hh)) := by
  refine lw_app ?_ (lw_methW h4)
  intro w hw
  simp only [List.mem_cons, List.not_mem_nil, or_false] at hw
  rcases hw with e | e | e
  · rw [e]; exact h1
  · rw [e]; exact h2
  · rw [e]; exact h3
/-- a word by its place in its run of the tables -/
theorem lw_at {r : List Cond} (hr : ∀ w ∈ r, w ∈ lw_tbl) {w : Cond} (i : Nat) (h : r[i]? = some w) : w ∈ lw_tbl := hr w (List.mem_of_getElem? h)
theorem lw_g {w : Cond} (h : w ∈ lw_tbl) (g : goodWord w = true) : w ∈ lw_all := List.mem_filter.mpr ⟨h, g⟩
theorem lw_ms : ∀ w ∈ k2_sels lw_privs, w ∈ lw_tbl := fun w h => show w ∈ k2_sels lw_privs ++ tables_1 from List.mem_append_left _ h
theorem lw_m0 : ∀ w ∈ tables_1, w ∈ lw_tbl := fun w h => show w ∈ k2_sels lw_privs ++ tables_1 from List.mem_append_right (k2_sels lw_privs) h
theorem qs0 : (Cond.selects "RouteDesk" ⟨"RouteDesk", "clear", "()V"⟩ ⟨"RouteDesk", "clear", "()V"⟩) ∈ lw_all := lw_g (lw_at lw_ms 0 rfl) rfl
theorem qs1 : (Cond.selects "RouteDesk" ⟨"RouteDesk", "place", "(I)I"⟩ ⟨"RouteDesk", "place", "(I)I"⟩) ∈ lw_all := lw_g (lw_at lw_ms 1 rfl) rfl
theorem qs2 : (Cond.selects "RouteDesk" ⟨"RouteDesk", "at", "(II)I"⟩ ⟨"RouteDesk", "at", "(II)I"⟩) ∈ lw_all := lw_g (lw_at lw_ms 2 rfl) rfl
theorem qs3 : (Cond.selects "RouteDesk" ⟨"RouteDesk", "sweep", "()V"⟩ ⟨"RouteDesk", "sweep", "()V"⟩) ∈ lw_all := lw_g (lw_at lw_ms 3 rfl) rfl
theorem qs4 : (Cond.selects "RouteDesk" ⟨"RouteDesk", "onCircle", "(I)Z"⟩ ⟨"RouteDesk", "onCircle", "(I)Z"⟩) ∈ lw_all := lw_g (lw_at lw_ms 4 rfl) rfl
theorem qs5 : (Cond.selects "RouteDeskModel" ⟨"RouteDeskModel", "at", "(I)I"⟩ ⟨"RouteDeskModel", "at", "(I)I"⟩) ∈ lw_all := lw_g (lw_at lw_ms 5 rfl) rfl
theorem qs6 : (Cond.selects "RouteDeskModel" ⟨"RouteDeskModel", "reckon", "()V"⟩ ⟨"RouteDeskModel", "reckon", "()V"⟩) ∈ lw_all := lw_g (lw_at lw_ms 6 rfl) rfl
theorem qs7 : (Cond.selects "RouteDeskModel" ⟨"RouteDeskModel", "longer", "()V"⟩ ⟨"RouteDeskModel", "longer", "()V"⟩) ∈ lw_all := lw_g (lw_at lw_ms 7 rfl) rfl
end
section
/-! RouteDesk -/
set_option maxRecDepth 100000
def RX0 : String := "RouteDesk"
def TX0 : u_T := fun k => match k with
  | 0 => ("RouteDesk", "places", "I", false)
  | 1 => ("RouteDesk", "road", "[J", true)
  | 2 => ("RouteDesk", "best", "[J", true)
  | _ => ("RouteDesk", "changed", "Z", false)
def tyX0 : Nat → FieldType := fun k => match k with
  | 0 => .int
  | 1 => .array .long
  | 2 => .array .long
  | _ => .boolean
abbrev wsX00 : List Cond := u_ws RX0 TX0 4
theorem nmX0 : ∀ a, a < 4 → ∀ b, b < 4 → a ≠ b → (TX0 a).2.1 ≠ (TX0 b).2.1 := by decide +kernel
theorem tyX0_ok : ∀ k, k < 4 → parseFieldDescriptor (TX0 k).2.2.1 = some (tyX0 k) := by decide +kernel
abbrev cX0_init : ByteArray := prog_1_method_1_code
def yX0_init : MethodName := ⟨RX0, "<init>", "()V"⟩
theorem dX0_init_0 : decode cX0_init 0 = .ok (.aload_n 0, 1) := by decide +kernel
theorem dX0_init_1 : decode cX0_init 1 = .ok (.invokespecial 1, 3) := by decide +kernel
theorem dX0_init_4 : decode cX0_init 4 = .ok (.aload_n 0, 1) := by decide +kernel
theorem dX0_init_5 : decode cX0_init 5 = .ok (.iconst 2, 1) := by decide +kernel
theorem dX0_init_6 : decode cX0_init 6 = .ok (.putfield 7, 3) := by decide +kernel
theorem dX0_init_9 : decode cX0_init 9 = .ok (.aload_n 0, 1) := by decide +kernel
theorem dX0_init_10 : decode cX0_init 10 = .ok (.bipush 64, 2) := by decide +kernel
theorem dX0_init_12 : decode cX0_init 12 = .ok (.newarray .long, 2) := by decide +kernel
theorem dX0_init_14 : decode cX0_init 14 = .ok (.putfield 13, 3) := by decide +kernel
theorem dX0_init_17 : decode cX0_init 17 = .ok (.aload_n 0, 1) := by decide +kernel
theorem dX0_init_18 : decode cX0_init 18 = .ok (.bipush 64, 2) := by decide +kernel
theorem dX0_init_20 : decode cX0_init 20 = .ok (.newarray .long, 2) := by decide +kernel
theorem dX0_init_22 : decode cX0_init 22 = .ok (.putfield 17, 3) := by decide +kernel
theorem dX0_init_25 : decode cX0_init 25 = .ok (.aload_n 0, 1) := by decide +kernel
theorem dX0_init_26 : decode cX0_init 26 = .ok (.iconst 1, 1) := by decide +kernel
theorem dX0_init_27 : decode cX0_init 27 = .ok (.putfield 20, 3) := by decide +kernel
theorem dX0_init_30 : decode cX0_init 30 = .ok (.aload_n 0, 1) := by decide +kernel
theorem dX0_init_31 : decode cX0_init 31 = .ok (.invokevirtual 24, 3) := by decide +kernel
theorem dX0_init_34 : decode cX0_init 34 = .ok (.return_, 1) := by decide +kernel
abbrev cX0_clear : ByteArray := prog_1_method_2_code
def yX0_clear : MethodName := ⟨RX0, "clear", "()V"⟩
theorem dX0_clear_0 : decode cX0_clear 0 = .ok (.iconst 0, 1) := by decide +kernel
theorem dX0_clear_1 : decode cX0_clear 1 = .ok (.istore_n 1, 1) := by decide +kernel
theorem dX0_clear_2 : decode cX0_clear 2 = .ok (.iload_n 1, 1) := by decide +kernel
theorem dX0_clear_3 : decode cX0_clear 3 = .ok (.aload_n 0, 1) := by decide +kernel
theorem dX0_clear_4 : decode cX0_clear 4 = .ok (.getfield 13, 3) := by decide +kernel
theorem dX0_clear_7 : decode cX0_clear 7 = .ok (.arraylength, 1) := by decide +kernel
theorem dX0_clear_8 : decode cX0_clear 8 = .ok (.if_icmp .ge 18, 3) := by decide +kernel
theorem dX0_clear_11 : decode cX0_clear 11 = .ok (.aload_n 0, 1) := by decide +kernel
theorem dX0_clear_12 : decode cX0_clear 12 = .ok (.getfield 13, 3) := by decide +kernel
theorem dX0_clear_15 : decode cX0_clear 15 = .ok (.iload_n 1, 1) := by decide +kernel
theorem dX0_clear_16 : decode cX0_clear 16 = .ok (.ldc2_w 27, 3) := by decide +kernel
theorem dX0_clear_19 : decode cX0_clear 19 = .ok (.lastore, 1) := by decide +kernel
theorem dX0_clear_20 : decode cX0_clear 20 = .ok (.iinc 1 1, 3) := by decide +kernel
theorem dX0_clear_23 : decode cX0_clear 23 = .ok (.goto (-21), 3) := by decide +kernel
theorem dX0_clear_26 : decode cX0_clear 26 = .ok (.aload_n 0, 1) := by decide +kernel
theorem dX0_clear_27 : decode cX0_clear 27 = .ok (.iconst 1, 1) := by decide +kernel
theorem dX0_clear_28 : decode cX0_clear 28 = .ok (.putfield 20, 3) := by decide +kernel
theorem dX0_clear_31 : decode cX0_clear 31 = .ok (.return_, 1) := by decide +kernel
abbrev cX0_places : ByteArray := prog_1_method_3_code
def yX0_places : MethodName := ⟨RX0, "places", "(I)V"⟩
theorem dX0_places_0 : decode cX0_places 0 = .ok (.aload_n 0, 1) := by decide +kernel
theorem dX0_places_1 : decode cX0_places 1 = .ok (.iconst 1, 1) := by decide +kernel
theorem dX0_places_2 : decode cX0_places 2 = .ok (.iload_n 1, 1) := by decide +kernel
theorem dX0_places_3 : decode cX0_places 3 = .ok (.bipush 7, 2) := by decide +kernel
theorem dX0_places_5 : decode cX0_places 5 = .ok (.iand, 1) := by decide +kernel
theorem dX0_places_6 : decode cX0_places 6 = .ok (.iadd, 1) := by decide +kernel
theorem dX0_places_7 : decode cX0_places 7 = .ok (.putfield 7, 3) := by decide +kernel
theorem dX0_places_10 : decode cX0_places 10 = .ok (.aload_n 0, 1) := by decide +kernel
theorem dX0_places_11 : decode cX0_places 11 = .ok (.invokevirtual 24, 3) := by decide +kernel
theorem dX0_places_14 : decode cX0_places 14 = .ok (.return_, 1) := by decide +kernel
abbrev cX0_road : ByteArray := prog_1_method_6_code
def yX0_road : MethodName := ⟨RX0, "road", "(III)V"⟩
theorem dX0_road_0 : decode cX0_road 0 = .ok (.aload_n 0, 1) := by decide +kernel
theorem dX0_road_1 : decode cX0_road 1 = .ok (.getfield 13, 3) := by decide +kernel
theorem dX0_road_4 : decode cX0_road 4 = .ok (.aload_n 0, 1) := by decide +kernel
theorem dX0_road_5 : decode cX0_road 5 = .ok (.aload_n 0, 1) := by decide +kernel
theorem dX0_road_6 : decode cX0_road 6 = .ok (.iload_n 1, 1) := by decide +kernel
theorem dX0_road_7 : decode cX0_road 7 = .ok (.invokevirtual 30, 3) := by decide +kernel
theorem dX0_road_10 : decode cX0_road 10 = .ok (.aload_n 0, 1) := by decide +kernel
theorem dX0_road_11 : decode cX0_road 11 = .ok (.iload_n 2, 1) := by decide +kernel
theorem dX0_road_12 : decode cX0_road 12 = .ok (.invokevirtual 30, 3) := by decide +kernel
theorem dX0_road_15 : decode cX0_road 15 = .ok (.invokevirtual 34, 3) := by decide +kernel
theorem dX0_road_18 : decode cX0_road 18 = .ok (.iload_n 3, 1) := by decide +kernel
theorem dX0_road_19 : decode cX0_road 19 = .ok (.sipush 1000, 3) := by decide +kernel
theorem dX0_road_22 : decode cX0_road 22 = .ok (.irem, 1) := by decide +kernel
theorem dX0_road_23 : decode cX0_road 23 = .ok (.i2l, 1) := by decide +kernel
theorem dX0_road_24 : decode cX0_road 24 = .ok (.ldc2_w 38, 3) := by decide +kernel
theorem dX0_road_27 : decode cX0_road 27 = .ok (.lmul, 1) := by decide +kernel
theorem dX0_road_28 : decode cX0_road 28 = .ok (.lconst 1, 1) := by decide +kernel
theorem dX0_road_29 : decode cX0_road 29 = .ok (.ladd, 1) := by decide +kernel
theorem dX0_road_30 : decode cX0_road 30 = .ok (.lastore, 1) := by decide +kernel
theorem dX0_road_31 : decode cX0_road 31 = .ok (.aload_n 0, 1) := by decide +kernel
theorem dX0_road_32 : decode cX0_road 32 = .ok (.iconst 1, 1) := by decide +kernel
theorem dX0_road_33 : decode cX0_road 33 = .ok (.putfield 20, 3) := by decide +kernel
theorem dX0_road_36 : decode cX0_road 36 = .ok (.return_, 1) := by decide +kernel
abbrev cX0_place : ByteArray := prog_1_method_4_code
def yX0_place : MethodName := ⟨RX0, "place", "(I)I"⟩
theorem dX0_place_0 : decode cX0_place 0 = .ok (.iload_n 1, 1) := by decide +kernel
theorem dX0_place_1 : decode cX0_place 1 = .ok (.ldc 29, 2) := by decide +kernel
theorem dX0_place_3 : decode cX0_place 3 = .ok (.iand, 1) := by decide +kernel
theorem dX0_place_4 : decode cX0_place 4 = .ok (.aload_n 0, 1) := by decide +kernel
theorem dX0_place_5 : decode cX0_place 5 = .ok (.getfield 7, 3) := by decide +kernel
theorem dX0_place_8 : decode cX0_place 8 = .ok (.irem, 1) := by decide +kernel
theorem dX0_place_9 : decode cX0_place 9 = .ok (.ireturn, 1) := by decide +kernel
abbrev cX0_at : ByteArray := prog_1_method_5_code
def yX0_at : MethodName := ⟨RX0, "at", "(II)I"⟩
theorem dX0_at_0 : decode cX0_at 0 = .ok (.iload_n 1, 1) := by decide +kernel
theorem dX0_at_1 : decode cX0_at 1 = .ok (.bipush 8, 2) := by decide +kernel
theorem dX0_at_3 : decode cX0_at 3 = .ok (.imul, 1) := by decide +kernel
theorem dX0_at_4 : decode cX0_at 4 = .ok (.iload_n 2, 1) := by decide +kernel
theorem dX0_at_5 : decode cX0_at 5 = .ok (.iadd, 1) := by decide +kernel
theorem dX0_at_6 : decode cX0_at 6 = .ok (.ireturn, 1) := by decide +kernel
abbrev cX0_close : ByteArray := prog_1_method_7_code
def yX0_close : MethodName := ⟨RX0, "close", "(II)V"⟩
theorem dX0_close_0 : decode cX0_close 0 = .ok (.aload_n 0, 1) := by decide +kernel
theorem dX0_close_1 : decode cX0_close 1 = .ok (.getfield 13, 3) := by decide +kernel
theorem dX0_close_4 : decode cX0_close 4 = .ok (.aload_n 0, 1) := by decide +kernel
theorem dX0_close_5 : decode cX0_close 5 = .ok (.aload_n 0, 1) := by decide +kernel
theorem dX0_close_6 : decode cX0_close 6 = .ok (.iload_n 1, 1) := by decide +kernel
theorem dX0_close_7 : decode cX0_close 7 = .ok (.invokevirtual 30, 3) := by decide +kernel
theorem dX0_close_10 : decode cX0_close 10 = .ok (.aload_n 0, 1) := by decide +kernel
theorem dX0_close_11 : decode cX0_close 11 = .ok (.iload_n 2, 1) := by decide +kernel
theorem dX0_close_12 : decode cX0_close 12 = .ok (.invokevirtual 30, 3) := by decide +kernel
theorem dX0_close_15 : decode cX0_close 15 = .ok (.invokevirtual 34, 3) := by decide +kernel
theorem dX0_close_18 : decode cX0_close 18 = .ok (.ldc2_w 27, 3) := by decide +kernel
theorem dX0_close_21 : decode cX0_close 21 = .ok (.lastore, 1) := by decide +kernel
theorem dX0_close_22 : decode cX0_close 22 = .ok (.aload_n 0, 1) := by decide +kernel
theorem dX0_close_23 : decode cX0_close 23 = .ok (.iconst 1, 1) := by decide +kernel
theorem dX0_close_24 : decode cX0_close 24 = .ok (.putfield 20, 3) := by decide +kernel
theorem dX0_close_27 : decode cX0_close 27 = .ok (.return_, 1) := by decide +kernel
abbrev cX0_reach : ByteArray := prog_1_method_9_code
def yX0_reach : MethodName := ⟨RX0, "reach", "(II)Z"⟩
theorem dX0_reach_0 : decode cX0_reach 0 = .ok (.aload_n 0, 1) := by decide +kernel
theorem dX0_reach_1 : decode cX0_reach 1 = .ok (.invokevirtual 40, 3) := by decide +kernel
theorem dX0_reach_4 : decode cX0_reach 4 = .ok (.aload_n 0, 1) := by decide +kernel
theorem dX0_reach_5 : decode cX0_reach 5 = .ok (.getfield 17, 3) := by decide +kernel
theorem dX0_reach_8 : decode cX0_reach 8 = .ok (.aload_n 0, 1) := by decide +kernel
theorem dX0_reach_9 : decode cX0_reach 9 = .ok (.aload_n 0, 1) := by decide +kernel
theorem dX0_reach_10 : decode cX0_reach 10 = .ok (.iload_n 1, 1) := by decide +kernel
theorem dX0_reach_11 : decode cX0_reach 11 = .ok (.invokevirtual 30, 3) := by decide +kernel
theorem dX0_reach_14 : decode cX0_reach 14 = .ok (.aload_n 0, 1) := by decide +kernel
theorem dX0_reach_15 : decode cX0_reach 15 = .ok (.iload_n 2, 1) := by decide +kernel
theorem dX0_reach_16 : decode cX0_reach 16 = .ok (.invokevirtual 30, 3) := by decide +kernel
theorem dX0_reach_19 : decode cX0_reach 19 = .ok (.invokevirtual 34, 3) := by decide +kernel
theorem dX0_reach_22 : decode cX0_reach 22 = .ok (.laload, 1) := by decide +kernel
theorem dX0_reach_23 : decode cX0_reach 23 = .ok (.ldc2_w 27, 3) := by decide +kernel
theorem dX0_reach_26 : decode cX0_reach 26 = .ok (.lcmp, 1) := by decide +kernel
theorem dX0_reach_27 : decode cX0_reach 27 = .ok (.ifCond .eq 7, 3) := by decide +kernel
theorem dX0_reach_30 : decode cX0_reach 30 = .ok (.iconst 1, 1) := by decide +kernel
theorem dX0_reach_31 : decode cX0_reach 31 = .ok (.goto 4, 3) := by decide +kernel
theorem dX0_reach_34 : decode cX0_reach 34 = .ok (.iconst 0, 1) := by decide +kernel
theorem dX0_reach_35 : decode cX0_reach 35 = .ok (.ireturn, 1) := by decide +kernel
abbrev cX0_sweep : ByteArray := prog_1_method_8_code
def yX0_sweep : MethodName := ⟨RX0, "sweep", "()V"⟩
theorem dX0_sweep_0 : decode cX0_sweep 0 = .ok (.aload_n 0, 1) := by decide +kernel
theorem dX0_sweep_1 : decode cX0_sweep 1 = .ok (.getfield 20, 3) := by decide +kernel
theorem dX0_sweep_4 : decode cX0_sweep 4 = .ok (.ifCond .ne 4, 3) := by decide +kernel
theorem dX0_sweep_7 : decode cX0_sweep 7 = .ok (.return_, 1) := by decide +kernel
theorem dX0_sweep_8 : decode cX0_sweep 8 = .ok (.aload_n 0, 1) := by decide +kernel
theorem dX0_sweep_9 : decode cX0_sweep 9 = .ok (.iconst 0, 1) := by decide +kernel
theorem dX0_sweep_10 : decode cX0_sweep 10 = .ok (.putfield 20, 3) := by decide +kernel
theorem dX0_sweep_13 : decode cX0_sweep 13 = .ok (.iconst 0, 1) := by decide +kernel
theorem dX0_sweep_14 : decode cX0_sweep 14 = .ok (.istore_n 1, 1) := by decide +kernel
theorem dX0_sweep_15 : decode cX0_sweep 15 = .ok (.iload_n 1, 1) := by decide +kernel
theorem dX0_sweep_16 : decode cX0_sweep 16 = .ok (.aload_n 0, 1) := by decide +kernel
theorem dX0_sweep_17 : decode cX0_sweep 17 = .ok (.getfield 13, 3) := by decide +kernel
theorem dX0_sweep_20 : decode cX0_sweep 20 = .ok (.arraylength, 1) := by decide +kernel
theorem dX0_sweep_21 : decode cX0_sweep 21 = .ok (.if_icmp .ge 21, 3) := by decide +kernel
theorem dX0_sweep_24 : decode cX0_sweep 24 = .ok (.aload_n 0, 1) := by decide +kernel
theorem dX0_sweep_25 : decode cX0_sweep 25 = .ok (.getfield 17, 3) := by decide +kernel
theorem dX0_sweep_28 : decode cX0_sweep 28 = .ok (.iload_n 1, 1) := by decide +kernel
theorem dX0_sweep_29 : decode cX0_sweep 29 = .ok (.aload_n 0, 1) := by decide +kernel
theorem dX0_sweep_30 : decode cX0_sweep 30 = .ok (.getfield 13, 3) := by decide +kernel
theorem dX0_sweep_33 : decode cX0_sweep 33 = .ok (.iload_n 1, 1) := by decide +kernel
theorem dX0_sweep_34 : decode cX0_sweep 34 = .ok (.laload, 1) := by decide +kernel
theorem dX0_sweep_35 : decode cX0_sweep 35 = .ok (.lastore, 1) := by decide +kernel
theorem dX0_sweep_36 : decode cX0_sweep 36 = .ok (.iinc 1 1, 3) := by decide +kernel
theorem dX0_sweep_39 : decode cX0_sweep 39 = .ok (.goto (-24), 3) := by decide +kernel
theorem dX0_sweep_42 : decode cX0_sweep 42 = .ok (.iconst 0, 1) := by decide +kernel
theorem dX0_sweep_43 : decode cX0_sweep 43 = .ok (.istore_n 1, 1) := by decide +kernel
theorem dX0_sweep_44 : decode cX0_sweep 44 = .ok (.iload_n 1, 1) := by decide +kernel
theorem dX0_sweep_45 : decode cX0_sweep 45 = .ok (.aload_n 0, 1) := by decide +kernel
theorem dX0_sweep_46 : decode cX0_sweep 46 = .ok (.getfield 7, 3) := by decide +kernel
theorem dX0_sweep_49 : decode cX0_sweep 49 = .ok (.if_icmp .ge 37, 3) := by decide +kernel
theorem dX0_sweep_52 : decode cX0_sweep 52 = .ok (.aload_n 0, 1) := by decide +kernel
theorem dX0_sweep_53 : decode cX0_sweep 53 = .ok (.getfield 17, 3) := by decide +kernel
theorem dX0_sweep_56 : decode cX0_sweep 56 = .ok (.aload_n 0, 1) := by decide +kernel
theorem dX0_sweep_57 : decode cX0_sweep 57 = .ok (.iload_n 1, 1) := by decide +kernel
theorem dX0_sweep_58 : decode cX0_sweep 58 = .ok (.iload_n 1, 1) := by decide +kernel
theorem dX0_sweep_59 : decode cX0_sweep 59 = .ok (.invokevirtual 34, 3) := by decide +kernel
theorem dX0_sweep_62 : decode cX0_sweep 62 = .ok (.laload, 1) := by decide +kernel
theorem dX0_sweep_63 : decode cX0_sweep 63 = .ok (.lconst 0, 1) := by decide +kernel
theorem dX0_sweep_64 : decode cX0_sweep 64 = .ok (.lcmp, 1) := by decide +kernel
theorem dX0_sweep_65 : decode cX0_sweep 65 = .ok (.ifCond .le 15, 3) := by decide +kernel
theorem dX0_sweep_68 : decode cX0_sweep 68 = .ok (.aload_n 0, 1) := by decide +kernel
theorem dX0_sweep_69 : decode cX0_sweep 69 = .ok (.getfield 17, 3) := by decide +kernel
theorem dX0_sweep_72 : decode cX0_sweep 72 = .ok (.aload_n 0, 1) := by decide +kernel
theorem dX0_sweep_73 : decode cX0_sweep 73 = .ok (.iload_n 1, 1) := by decide +kernel
theorem dX0_sweep_74 : decode cX0_sweep 74 = .ok (.iload_n 1, 1) := by decide +kernel
theorem dX0_sweep_75 : decode cX0_sweep 75 = .ok (.invokevirtual 34, 3) := by decide +kernel
theorem dX0_sweep_78 : decode cX0_sweep 78 = .ok (.lconst 0, 1) := by decide +kernel
theorem dX0_sweep_79 : decode cX0_sweep 79 = .ok (.lastore, 1) := by decide +kernel
theorem dX0_sweep_80 : decode cX0_sweep 80 = .ok (.iinc 1 1, 3) := by decide +kernel
theorem dX0_sweep_83 : decode cX0_sweep 83 = .ok (.goto (-39), 3) := by decide +kernel
theorem dX0_sweep_86 : decode cX0_sweep 86 = .ok (.iconst 0, 1) := by decide +kernel
theorem dX0_sweep_87 : decode cX0_sweep 87 = .ok (.istore_n 1, 1) := by decide +kernel
theorem dX0_sweep_88 : decode cX0_sweep 88 = .ok (.iload_n 1, 1) := by decide +kernel
theorem dX0_sweep_89 : decode cX0_sweep 89 = .ok (.aload_n 0, 1) := by decide +kernel
theorem dX0_sweep_90 : decode cX0_sweep 90 = .ok (.getfield 7, 3) := by decide +kernel
theorem dX0_sweep_93 : decode cX0_sweep 93 = .ok (.if_icmp .ge 125, 3) := by decide +kernel
theorem dX0_sweep_96 : decode cX0_sweep 96 = .ok (.iconst 0, 1) := by decide +kernel
theorem dX0_sweep_97 : decode cX0_sweep 97 = .ok (.istore_n 2, 1) := by decide +kernel
theorem dX0_sweep_98 : decode cX0_sweep 98 = .ok (.iload_n 2, 1) := by decide +kernel
theorem dX0_sweep_99 : decode cX0_sweep 99 = .ok (.aload_n 0, 1) := by decide +kernel
theorem dX0_sweep_100 : decode cX0_sweep 100 = .ok (.getfield 7, 3) := by decide +kernel
theorem dX0_sweep_103 : decode cX0_sweep 103 = .ok (.if_icmp .ge 109, 3) := by decide +kernel
theorem dX0_sweep_106 : decode cX0_sweep 106 = .ok (.aload_n 0, 1) := by decide +kernel
theorem dX0_sweep_107 : decode cX0_sweep 107 = .ok (.getfield 17, 3) := by decide +kernel
theorem dX0_sweep_110 : decode cX0_sweep 110 = .ok (.aload_n 0, 1) := by decide +kernel
theorem dX0_sweep_111 : decode cX0_sweep 111 = .ok (.iload_n 2, 1) := by decide +kernel
theorem dX0_sweep_112 : decode cX0_sweep 112 = .ok (.iload_n 1, 1) := by decide +kernel
theorem dX0_sweep_113 : decode cX0_sweep 113 = .ok (.invokevirtual 34, 3) := by decide +kernel
theorem dX0_sweep_116 : decode cX0_sweep 116 = .ok (.laload, 1) := by decide +kernel
theorem dX0_sweep_117 : decode cX0_sweep 117 = .ok (.lstore_n 3, 1) := by decide +kernel
theorem dX0_sweep_118 : decode cX0_sweep 118 = .ok (.lload_n 3, 1) := by decide +kernel
theorem dX0_sweep_119 : decode cX0_sweep 119 = .ok (.ldc2_w 27, 3) := by decide +kernel
theorem dX0_sweep_122 : decode cX0_sweep 122 = .ok (.lcmp, 1) := by decide +kernel
theorem dX0_sweep_123 : decode cX0_sweep 123 = .ok (.ifCond .ne 6, 3) := by decide +kernel
theorem dX0_sweep_126 : decode cX0_sweep 126 = .ok (.goto 80, 3) := by decide +kernel
theorem dX0_sweep_129 : decode cX0_sweep 129 = .ok (.iconst 0, 1) := by decide +kernel
theorem dX0_sweep_130 : decode cX0_sweep 130 = .ok (.istore 5, 2) := by decide +kernel
theorem dX0_sweep_132 : decode cX0_sweep 132 = .ok (.iload 5, 2) := by decide +kernel
theorem dX0_sweep_134 : decode cX0_sweep 134 = .ok (.aload_n 0, 1) := by decide +kernel
theorem dX0_sweep_135 : decode cX0_sweep 135 = .ok (.getfield 7, 3) := by decide +kernel
theorem dX0_sweep_138 : decode cX0_sweep 138 = .ok (.if_icmp .ge 68, 3) := by decide +kernel
theorem dX0_sweep_141 : decode cX0_sweep 141 = .ok (.aload_n 0, 1) := by decide +kernel
theorem dX0_sweep_142 : decode cX0_sweep 142 = .ok (.getfield 17, 3) := by decide +kernel
theorem dX0_sweep_145 : decode cX0_sweep 145 = .ok (.aload_n 0, 1) := by decide +kernel
theorem dX0_sweep_146 : decode cX0_sweep 146 = .ok (.iload_n 1, 1) := by decide +kernel
theorem dX0_sweep_147 : decode cX0_sweep 147 = .ok (.iload 5, 2) := by decide +kernel
theorem dX0_sweep_149 : decode cX0_sweep 149 = .ok (.invokevirtual 34, 3) := by decide +kernel
theorem dX0_sweep_152 : decode cX0_sweep 152 = .ok (.laload, 1) := by decide +kernel
theorem dX0_sweep_153 : decode cX0_sweep 153 = .ok (.lstore 6, 2) := by decide +kernel
theorem dX0_sweep_155 : decode cX0_sweep 155 = .ok (.lload 6, 2) := by decide +kernel
theorem dX0_sweep_157 : decode cX0_sweep 157 = .ok (.ldc2_w 27, 3) := by decide +kernel
theorem dX0_sweep_160 : decode cX0_sweep 160 = .ok (.lcmp, 1) := by decide +kernel
theorem dX0_sweep_161 : decode cX0_sweep 161 = .ok (.ifCond .eq 39, 3) := by decide +kernel
theorem dX0_sweep_164 : decode cX0_sweep 164 = .ok (.lload_n 3, 1) := by decide +kernel
theorem dX0_sweep_165 : decode cX0_sweep 165 = .ok (.lload 6, 2) := by decide +kernel
theorem dX0_sweep_167 : decode cX0_sweep 167 = .ok (.ladd, 1) := by decide +kernel
theorem dX0_sweep_168 : decode cX0_sweep 168 = .ok (.aload_n 0, 1) := by decide +kernel
theorem dX0_sweep_169 : decode cX0_sweep 169 = .ok (.getfield 17, 3) := by decide +kernel
theorem dX0_sweep_172 : decode cX0_sweep 172 = .ok (.aload_n 0, 1) := by decide +kernel
theorem dX0_sweep_173 : decode cX0_sweep 173 = .ok (.iload_n 2, 1) := by decide +kernel
theorem dX0_sweep_174 : decode cX0_sweep 174 = .ok (.iload 5, 2) := by decide +kernel
theorem dX0_sweep_176 : decode cX0_sweep 176 = .ok (.invokevirtual 34, 3) := by decide +kernel
theorem dX0_sweep_179 : decode cX0_sweep 179 = .ok (.laload, 1) := by decide +kernel
theorem dX0_sweep_180 : decode cX0_sweep 180 = .ok (.lcmp, 1) := by decide +kernel
theorem dX0_sweep_181 : decode cX0_sweep 181 = .ok (.ifCond .ge 19, 3) := by decide +kernel
theorem dX0_sweep_184 : decode cX0_sweep 184 = .ok (.aload_n 0, 1) := by decide +kernel
theorem dX0_sweep_185 : decode cX0_sweep 185 = .ok (.getfield 17, 3) := by decide +kernel
theorem dX0_sweep_188 : decode cX0_sweep 188 = .ok (.aload_n 0, 1) := by decide +kernel
theorem dX0_sweep_189 : decode cX0_sweep 189 = .ok (.iload_n 2, 1) := by decide +kernel
theorem dX0_sweep_190 : decode cX0_sweep 190 = .ok (.iload 5, 2) := by decide +kernel
theorem dX0_sweep_192 : decode cX0_sweep 192 = .ok (.invokevirtual 34, 3) := by decide +kernel
theorem dX0_sweep_195 : decode cX0_sweep 195 = .ok (.lload_n 3, 1) := by decide +kernel
theorem dX0_sweep_196 : decode cX0_sweep 196 = .ok (.lload 6, 2) := by decide +kernel
theorem dX0_sweep_198 : decode cX0_sweep 198 = .ok (.ladd, 1) := by decide +kernel
theorem dX0_sweep_199 : decode cX0_sweep 199 = .ok (.lastore, 1) := by decide +kernel
theorem dX0_sweep_200 : decode cX0_sweep 200 = .ok (.iinc 5 1, 3) := by decide +kernel
theorem dX0_sweep_203 : decode cX0_sweep 203 = .ok (.goto (-71), 3) := by decide +kernel
theorem dX0_sweep_206 : decode cX0_sweep 206 = .ok (.iinc 2 1, 3) := by decide +kernel
theorem dX0_sweep_209 : decode cX0_sweep 209 = .ok (.goto (-111), 3) := by decide +kernel
theorem dX0_sweep_212 : decode cX0_sweep 212 = .ok (.iinc 1 1, 3) := by decide +kernel
theorem dX0_sweep_215 : decode cX0_sweep 215 = .ok (.goto (-127), 3) := by decide +kernel
theorem dX0_sweep_218 : decode cX0_sweep 218 = .ok (.return_, 1) := by decide +kernel
abbrev cX0_circle : ByteArray := prog_1_method_11_code
def yX0_circle : MethodName := ⟨RX0, "circle", "()Z"⟩
theorem dX0_circle_0 : decode cX0_circle 0 = .ok (.aload_n 0, 1) := by decide +kernel
theorem dX0_circle_1 : decode cX0_circle 1 = .ok (.invokevirtual 40, 3) := by decide +kernel
theorem dX0_circle_4 : decode cX0_circle 4 = .ok (.iconst 0, 1) := by decide +kernel
theorem dX0_circle_5 : decode cX0_circle 5 = .ok (.istore_n 1, 1) := by decide +kernel
theorem dX0_circle_6 : decode cX0_circle 6 = .ok (.iload_n 1, 1) := by decide +kernel
theorem dX0_circle_7 : decode cX0_circle 7 = .ok (.aload_n 0, 1) := by decide +kernel
theorem dX0_circle_8 : decode cX0_circle 8 = .ok (.getfield 7, 3) := by decide +kernel
theorem dX0_circle_11 : decode cX0_circle 11 = .ok (.if_icmp .ge 19, 3) := by decide +kernel
theorem dX0_circle_14 : decode cX0_circle 14 = .ok (.aload_n 0, 1) := by decide +kernel
theorem dX0_circle_15 : decode cX0_circle 15 = .ok (.iload_n 1, 1) := by decide +kernel
theorem dX0_circle_16 : decode cX0_circle 16 = .ok (.invokevirtual 43, 3) := by decide +kernel
theorem dX0_circle_19 : decode cX0_circle 19 = .ok (.ifCond .eq 5, 3) := by decide +kernel
theorem dX0_circle_22 : decode cX0_circle 22 = .ok (.iconst 1, 1) := by decide +kernel
theorem dX0_circle_23 : decode cX0_circle 23 = .ok (.ireturn, 1) := by decide +kernel
theorem dX0_circle_24 : decode cX0_circle 24 = .ok (.iinc 1 1, 3) := by decide +kernel
theorem dX0_circle_27 : decode cX0_circle 27 = .ok (.goto (-21), 3) := by decide +kernel
theorem dX0_circle_30 : decode cX0_circle 30 = .ok (.iconst 0, 1) := by decide +kernel
theorem dX0_circle_31 : decode cX0_circle 31 = .ok (.ireturn, 1) := by decide +kernel
abbrev cX0_onCircle : ByteArray := prog_1_method_10_code
def yX0_onCircle : MethodName := ⟨RX0, "onCircle", "(I)Z"⟩
theorem dX0_onCircle_0 : decode cX0_onCircle 0 = .ok (.aload_n 0, 1) := by decide +kernel
theorem dX0_onCircle_1 : decode cX0_onCircle 1 = .ok (.getfield 17, 3) := by decide +kernel
theorem dX0_onCircle_4 : decode cX0_onCircle 4 = .ok (.aload_n 0, 1) := by decide +kernel
theorem dX0_onCircle_5 : decode cX0_onCircle 5 = .ok (.iload_n 1, 1) := by decide +kernel
theorem dX0_onCircle_6 : decode cX0_onCircle 6 = .ok (.iload_n 1, 1) := by decide +kernel
theorem dX0_onCircle_7 : decode cX0_onCircle 7 = .ok (.invokevirtual 34, 3) := by decide +kernel
theorem dX0_onCircle_10 : decode cX0_onCircle 10 = .ok (.laload, 1) := by decide +kernel
theorem dX0_onCircle_11 : decode cX0_onCircle 11 = .ok (.lconst 0, 1) := by decide +kernel
theorem dX0_onCircle_12 : decode cX0_onCircle 12 = .ok (.lcmp, 1) := by decide +kernel
theorem dX0_onCircle_13 : decode cX0_onCircle 13 = .ok (.ifCond .ge 7, 3) := by decide +kernel
theorem dX0_onCircle_16 : decode cX0_onCircle 16 = .ok (.iconst 1, 1) := by decide +kernel
theorem dX0_onCircle_17 : decode cX0_onCircle 17 = .ok (.goto 4, 3) := by decide +kernel
theorem dX0_onCircle_20 : decode cX0_onCircle 20 = .ok (.iconst 0, 1) := by decide +kernel
theorem dX0_onCircle_21 : decode cX0_onCircle 21 = .ok (.ireturn, 1) := by decide +kernel
abbrev cX0_kind : ByteArray := prog_1_method_12_code
def yX0_kind : MethodName := ⟨RX0, "kind", "(II)I"⟩
theorem dX0_kind_0 : decode cX0_kind 0 = .ok (.aload_n 0, 1) := by decide +kernel
theorem dX0_kind_1 : decode cX0_kind 1 = .ok (.invokevirtual 40, 3) := by decide +kernel
theorem dX0_kind_4 : decode cX0_kind 4 = .ok (.aload_n 0, 1) := by decide +kernel
theorem dX0_kind_5 : decode cX0_kind 5 = .ok (.iload_n 1, 1) := by decide +kernel
theorem dX0_kind_6 : decode cX0_kind 6 = .ok (.invokevirtual 30, 3) := by decide +kernel
theorem dX0_kind_9 : decode cX0_kind 9 = .ok (.istore_n 3, 1) := by decide +kernel
theorem dX0_kind_10 : decode cX0_kind 10 = .ok (.aload_n 0, 1) := by decide +kernel
theorem dX0_kind_11 : decode cX0_kind 11 = .ok (.iload_n 2, 1) := by decide +kernel
theorem dX0_kind_12 : decode cX0_kind 12 = .ok (.invokevirtual 30, 3) := by decide +kernel
theorem dX0_kind_15 : decode cX0_kind 15 = .ok (.istore 4, 2) := by decide +kernel
theorem dX0_kind_17 : decode cX0_kind 17 = .ok (.aload_n 0, 1) := by decide +kernel
theorem dX0_kind_18 : decode cX0_kind 18 = .ok (.getfield 17, 3) := by decide +kernel
theorem dX0_kind_21 : decode cX0_kind 21 = .ok (.aload_n 0, 1) := by decide +kernel
theorem dX0_kind_22 : decode cX0_kind 22 = .ok (.iload_n 3, 1) := by decide +kernel
theorem dX0_kind_23 : decode cX0_kind 23 = .ok (.iload 4, 2) := by decide +kernel
theorem dX0_kind_25 : decode cX0_kind 25 = .ok (.invokevirtual 34, 3) := by decide +kernel
theorem dX0_kind_28 : decode cX0_kind 28 = .ok (.laload, 1) := by decide +kernel
theorem dX0_kind_29 : decode cX0_kind 29 = .ok (.ldc2_w 27, 3) := by decide +kernel
theorem dX0_kind_32 : decode cX0_kind 32 = .ok (.lcmp, 1) := by decide +kernel
theorem dX0_kind_33 : decode cX0_kind 33 = .ok (.ifCond .ne 5, 3) := by decide +kernel
theorem dX0_kind_36 : decode cX0_kind 36 = .ok (.iconst (-1), 1) := by decide +kernel
theorem dX0_kind_37 : decode cX0_kind 37 = .ok (.ireturn, 1) := by decide +kernel
theorem dX0_kind_38 : decode cX0_kind 38 = .ok (.iconst 0, 1) := by decide +kernel
theorem dX0_kind_39 : decode cX0_kind 39 = .ok (.istore 5, 2) := by decide +kernel
theorem dX0_kind_41 : decode cX0_kind 41 = .ok (.iload 5, 2) := by decide +kernel
theorem dX0_kind_43 : decode cX0_kind 43 = .ok (.aload_n 0, 1) := by decide +kernel
theorem dX0_kind_44 : decode cX0_kind 44 = .ok (.getfield 7, 3) := by decide +kernel
theorem dX0_kind_47 : decode cX0_kind 47 = .ok (.if_icmp .ge 59, 3) := by decide +kernel
theorem dX0_kind_50 : decode cX0_kind 50 = .ok (.aload_n 0, 1) := by decide +kernel
theorem dX0_kind_51 : decode cX0_kind 51 = .ok (.iload 5, 2) := by decide +kernel
theorem dX0_kind_53 : decode cX0_kind 53 = .ok (.invokevirtual 43, 3) := by decide +kernel
theorem dX0_kind_56 : decode cX0_kind 56 = .ok (.ifCond .eq 44, 3) := by decide +kernel
theorem dX0_kind_59 : decode cX0_kind 59 = .ok (.aload_n 0, 1) := by decide +kernel
theorem dX0_kind_60 : decode cX0_kind 60 = .ok (.getfield 17, 3) := by decide +kernel
theorem dX0_kind_63 : decode cX0_kind 63 = .ok (.aload_n 0, 1) := by decide +kernel
theorem dX0_kind_64 : decode cX0_kind 64 = .ok (.iload_n 3, 1) := by decide +kernel
theorem dX0_kind_65 : decode cX0_kind 65 = .ok (.iload 5, 2) := by decide +kernel
theorem dX0_kind_67 : decode cX0_kind 67 = .ok (.invokevirtual 34, 3) := by decide +kernel
theorem dX0_kind_70 : decode cX0_kind 70 = .ok (.laload, 1) := by decide +kernel
theorem dX0_kind_71 : decode cX0_kind 71 = .ok (.ldc2_w 27, 3) := by decide +kernel
theorem dX0_kind_74 : decode cX0_kind 74 = .ok (.lcmp, 1) := by decide +kernel
theorem dX0_kind_75 : decode cX0_kind 75 = .ok (.ifCond .eq 25, 3) := by decide +kernel
theorem dX0_kind_78 : decode cX0_kind 78 = .ok (.aload_n 0, 1) := by decide +kernel
theorem dX0_kind_79 : decode cX0_kind 79 = .ok (.getfield 17, 3) := by decide +kernel
theorem dX0_kind_82 : decode cX0_kind 82 = .ok (.aload_n 0, 1) := by decide +kernel
theorem dX0_kind_83 : decode cX0_kind 83 = .ok (.iload 5, 2) := by decide +kernel
theorem dX0_kind_85 : decode cX0_kind 85 = .ok (.iload 4, 2) := by decide +kernel
theorem dX0_kind_87 : decode cX0_kind 87 = .ok (.invokevirtual 34, 3) := by decide +kernel
theorem dX0_kind_90 : decode cX0_kind 90 = .ok (.laload, 1) := by decide +kernel
theorem dX0_kind_91 : decode cX0_kind 91 = .ok (.ldc2_w 27, 3) := by decide +kernel
theorem dX0_kind_94 : decode cX0_kind 94 = .ok (.lcmp, 1) := by decide +kernel
theorem dX0_kind_95 : decode cX0_kind 95 = .ok (.ifCond .eq 5, 3) := by decide +kernel
theorem dX0_kind_98 : decode cX0_kind 98 = .ok (.iconst 1, 1) := by decide +kernel
theorem dX0_kind_99 : decode cX0_kind 99 = .ok (.ireturn, 1) := by decide +kernel
theorem dX0_kind_100 : decode cX0_kind 100 = .ok (.iinc 5 1, 3) := by decide +kernel
theorem dX0_kind_103 : decode cX0_kind 103 = .ok (.goto (-62), 3) := by decide +kernel
theorem dX0_kind_106 : decode cX0_kind 106 = .ok (.iconst 0, 1) := by decide +kernel
theorem dX0_kind_107 : decode cX0_kind 107 = .ok (.ireturn, 1) := by decide +kernel
abbrev cX0_least : ByteArray := prog_1_method_13_code
def yX0_least : MethodName := ⟨RX0, "least", "(II)J"⟩
theorem dX0_least_0 : decode cX0_least 0 = .ok (.aload_n 0, 1) := by decide +kernel
theorem dX0_least_1 : decode cX0_least 1 = .ok (.iload_n 1, 1) := by decide +kernel
theorem dX0_least_2 : decode cX0_least 2 = .ok (.iload_n 2, 1) := by decide +kernel
theorem dX0_least_3 : decode cX0_least 3 = .ok (.invokevirtual 47, 3) := by decide +kernel
theorem dX0_least_6 : decode cX0_least 6 = .ok (.ifCond .ne 31, 3) := by decide +kernel
theorem dX0_least_9 : decode cX0_least 9 = .ok (.aload_n 0, 1) := by decide +kernel
theorem dX0_least_10 : decode cX0_least 10 = .ok (.getfield 17, 3) := by decide +kernel
theorem dX0_least_13 : decode cX0_least 13 = .ok (.aload_n 0, 1) := by decide +kernel
theorem dX0_least_14 : decode cX0_least 14 = .ok (.aload_n 0, 1) := by decide +kernel
theorem dX0_least_15 : decode cX0_least 15 = .ok (.iload_n 1, 1) := by decide +kernel
theorem dX0_least_16 : decode cX0_least 16 = .ok (.invokevirtual 30, 3) := by decide +kernel
theorem dX0_least_19 : decode cX0_least 19 = .ok (.aload_n 0, 1) := by decide +kernel
theorem dX0_least_20 : decode cX0_least 20 = .ok (.iload_n 2, 1) := by decide +kernel
theorem dX0_least_21 : decode cX0_least 21 = .ok (.invokevirtual 30, 3) := by decide +kernel
theorem dX0_least_24 : decode cX0_least 24 = .ok (.invokevirtual 34, 3) := by decide +kernel
theorem dX0_least_27 : decode cX0_least 27 = .ok (.laload, 1) := by decide +kernel
theorem dX0_least_28 : decode cX0_least 28 = .ok (.ldc2_w 38, 3) := by decide +kernel
theorem dX0_least_31 : decode cX0_least 31 = .ok (.invokestatic 50, 3) := by decide +kernel
theorem dX0_least_34 : decode cX0_least 34 = .ok (.goto 4, 3) := by decide +kernel
theorem dX0_least_37 : decode cX0_least 37 = .ok (.lconst 0, 1) := by decide +kernel
theorem dX0_least_38 : decode cX0_least 38 = .ok (.lreturn, 1) := by decide +kernel
abbrev cX0_roads : ByteArray := prog_1_method_14_code
def yX0_roads : MethodName := ⟨RX0, "roads", "(II)I"⟩
theorem dX0_roads_0 : decode cX0_roads 0 = .ok (.aload_n 0, 1) := by decide +kernel
theorem dX0_roads_1 : decode cX0_roads 1 = .ok (.iload_n 1, 1) := by decide +kernel
theorem dX0_roads_2 : decode cX0_roads 2 = .ok (.iload_n 2, 1) := by decide +kernel
theorem dX0_roads_3 : decode cX0_roads 3 = .ok (.invokevirtual 47, 3) := by decide +kernel
theorem dX0_roads_6 : decode cX0_roads 6 = .ok (.ifCond .ne 32, 3) := by decide +kernel
theorem dX0_roads_9 : decode cX0_roads 9 = .ok (.aload_n 0, 1) := by decide +kernel
theorem dX0_roads_10 : decode cX0_roads 10 = .ok (.getfield 17, 3) := by decide +kernel
theorem dX0_roads_13 : decode cX0_roads 13 = .ok (.aload_n 0, 1) := by decide +kernel
theorem dX0_roads_14 : decode cX0_roads 14 = .ok (.aload_n 0, 1) := by decide +kernel
theorem dX0_roads_15 : decode cX0_roads 15 = .ok (.iload_n 1, 1) := by decide +kernel
theorem dX0_roads_16 : decode cX0_roads 16 = .ok (.invokevirtual 30, 3) := by decide +kernel
theorem dX0_roads_19 : decode cX0_roads 19 = .ok (.aload_n 0, 1) := by decide +kernel
theorem dX0_roads_20 : decode cX0_roads 20 = .ok (.iload_n 2, 1) := by decide +kernel
theorem dX0_roads_21 : decode cX0_roads 21 = .ok (.invokevirtual 30, 3) := by decide +kernel
theorem dX0_roads_24 : decode cX0_roads 24 = .ok (.invokevirtual 34, 3) := by decide +kernel
theorem dX0_roads_27 : decode cX0_roads 27 = .ok (.laload, 1) := by decide +kernel
theorem dX0_roads_28 : decode cX0_roads 28 = .ok (.ldc2_w 38, 3) := by decide +kernel
theorem dX0_roads_31 : decode cX0_roads 31 = .ok (.invokestatic 56, 3) := by decide +kernel
theorem dX0_roads_34 : decode cX0_roads 34 = .ok (.l2i, 1) := by decide +kernel
theorem dX0_roads_35 : decode cX0_roads 35 = .ok (.goto 4, 3) := by decide +kernel
theorem dX0_roads_38 : decode cX0_roads 38 = .ok (.iconst (-1), 1) := by decide +kernel
theorem dX0_roads_39 : decode cX0_roads 39 = .ok (.ireturn, 1) := by decide +kernel
theorem q9 : (Jvm.Cond.initialized "RouteDesk") ∈ lw_all := lw_g (lw_at lw_m0 1 rfl) rfl
theorem q13 : (Jvm.Cond.instantiable "RouteDesk" (4 : Nat)) ∈ lw_all := lw_g (lw_at lw_m0 5 rfl) rfl
theorem q15 : (Jvm.Cond.instanceMethod ({ cls := "RouteDesk", name := "<init>", desc := "()V" } : Jvm.MethodName)) ∈ lw_all := lw_g (lw_at lw_m0 7 rfl) rfl
theorem q16 : (Jvm.Cond.code ({ cls := "RouteDesk", name := "<init>", desc := "()V" } : Jvm.MethodName) prog_1_method_1_code (1 : Nat) (Option.none : Option Jvm.ClassFile.FieldType)) ∈ lw_all := lw_g (lw_at lw_m0 8 rfl) rfl
theorem q17 : (Jvm.Cond.methodLink "RouteDesk" (1 : Nat) ({ cls := "java/lang/Object", name := "<init>", desc := "()V" } : Jvm.MethodName)) ∈ lw_all := lw_g (lw_at lw_m0 9 rfl) rfl
theorem q20 : (Jvm.Cond.methodLink "RouteDesk" (24 : Nat) ({ cls := "RouteDesk", name := "clear", desc := "()V" } : Jvm.MethodName)) ∈ lw_all := lw_g (lw_at lw_m0 12 rfl) rfl
theorem q21 : (Jvm.Cond.privateMethod ({ cls := "RouteDesk", name := "clear", desc := "()V" } : Jvm.MethodName)) ∈ lw_tbl := lw_at lw_m0 13 rfl
theorem q22 : (Jvm.Cond.instanceMethod ({ cls := "RouteDesk", name := "clear", desc := "()V" } : Jvm.MethodName)) ∈ lw_all := lw_g (lw_at lw_m0 14 rfl) rfl
theorem q23 : (Jvm.Cond.code ({ cls := "RouteDesk", name := "clear", desc := "()V" } : Jvm.MethodName) prog_1_method_2_code (2 : Nat) (Option.none : Option Jvm.ClassFile.FieldType)) ∈ lw_all := lw_g (lw_at lw_m0 15 rfl) rfl
theorem q24 : (Jvm.Cond.constantLong "RouteDesk" (27 : Nat) (1152921504606846976 : Int64)) ∈ lw_all := lw_g (lw_at lw_m0 16 rfl) rfl
theorem q25 : (Jvm.Cond.fieldLink "RouteDesk" (7 : Nat) "RouteDesk" "places" "I") ∈ lw_all := lw_g (lw_at lw_m0 17 rfl) rfl
theorem q26 : (Jvm.Cond.fieldLink "RouteDesk" (13 : Nat) "RouteDesk" "road" "[J") ∈ lw_all := lw_g (lw_at lw_m0 18 rfl) rfl
theorem q27 : (Jvm.Cond.fieldLink "RouteDesk" (17 : Nat) "RouteDesk" "best" "[J") ∈ lw_all := lw_g (lw_at lw_m0 19 rfl) rfl
theorem q28 : (Jvm.Cond.fieldLink "RouteDesk" (20 : Nat) "RouteDesk" "changed" "Z") ∈ lw_all := lw_g (lw_at lw_m0 20 rfl) rfl
theorem q29 : (Jvm.Cond.lays "RouteDesk" "RouteDesk" "places" "I") ∈ lw_all := lw_g (lw_at lw_m0 21 rfl) rfl
theorem q30 : (Jvm.Cond.soleField "RouteDesk" "places") ∈ lw_all := lw_g (lw_at lw_m0 22 rfl) rfl
theorem q31 : (Jvm.Cond.laysFinal "RouteDesk" "RouteDesk" "road" "[J") ∈ lw_all := lw_g (lw_at lw_m0 23 rfl) rfl
theorem q32 : (Jvm.Cond.soleField "RouteDesk" "road") ∈ lw_all := lw_g (lw_at lw_m0 24 rfl) rfl
theorem q33 : (Jvm.Cond.laysFinal "RouteDesk" "RouteDesk" "best" "[J") ∈ lw_all := lw_g (lw_at lw_m0 25 rfl) rfl
theorem q34 : (Jvm.Cond.soleField "RouteDesk" "best") ∈ lw_all := lw_g (lw_at lw_m0 26 rfl) rfl
theorem q35 : (Jvm.Cond.lays "RouteDesk" "RouteDesk" "changed" "Z") ∈ lw_all := lw_g (lw_at lw_m0 27 rfl) rfl
theorem q36 : (Jvm.Cond.soleField "RouteDesk" "changed") ∈ lw_all := lw_g (lw_at lw_m0 28 rfl) rfl
theorem q37 : (Jvm.Cond.superclass "RouteDesk" "java/lang/Object") ∈ lw_all := lw_g (lw_at lw_m0 29 rfl) rfl
theorem q40 : (Jvm.Cond.instanceMethod ({ cls := "RouteDesk", name := "places", desc := "(I)V" } : Jvm.MethodName)) ∈ lw_all := lw_g (lw_at lw_m0 32 rfl) rfl
theorem q41 : (Jvm.Cond.selects "RouteDesk" ({ cls := "RouteDesk", name := "places", desc := "(I)V" } : Jvm.MethodName) ({ cls := "RouteDesk", name := "places", desc := "(I)V" } : Jvm.MethodName)) ∈ lw_all := lw_g (lw_at lw_m0 33 rfl) rfl
theorem q42 : (Jvm.Cond.code ({ cls := "RouteDesk", name := "places", desc := "(I)V" } : Jvm.MethodName) prog_1_method_3_code (2 : Nat) (Option.none : Option Jvm.ClassFile.FieldType)) ∈ lw_all := lw_g (lw_at lw_m0 34 rfl) rfl
theorem q44 : (Jvm.Cond.instanceMethod ({ cls := "RouteDesk", name := "road", desc := "(III)V" } : Jvm.MethodName)) ∈ lw_all := lw_g (lw_at lw_m0 36 rfl) rfl
theorem q45 : (Jvm.Cond.selects "RouteDesk" ({ cls := "RouteDesk", name := "road", desc := "(III)V" } : Jvm.MethodName) ({ cls := "RouteDesk", name := "road", desc := "(III)V" } : Jvm.MethodName)) ∈ lw_all := lw_g (lw_at lw_m0 37 rfl) rfl
theorem q46 : (Jvm.Cond.code ({ cls := "RouteDesk", name := "road", desc := "(III)V" } : Jvm.MethodName) prog_1_method_6_code (4 : Nat) (Option.none : Option Jvm.ClassFile.FieldType)) ∈ lw_all := lw_g (lw_at lw_m0 38 rfl) rfl
theorem q47 : (Jvm.Cond.methodLink "RouteDesk" (30 : Nat) ({ cls := "RouteDesk", name := "place", desc := "(I)I" } : Jvm.MethodName)) ∈ lw_all := lw_g (lw_at lw_m0 39 rfl) rfl
theorem q48 : (Jvm.Cond.privateMethod ({ cls := "RouteDesk", name := "place", desc := "(I)I" } : Jvm.MethodName)) ∈ lw_tbl := lw_at lw_m0 40 rfl
theorem q49 : (Jvm.Cond.instanceMethod ({ cls := "RouteDesk", name := "place", desc := "(I)I" } : Jvm.MethodName)) ∈ lw_all := lw_g (lw_at lw_m0 41 rfl) rfl
theorem q50 : (Jvm.Cond.code ({ cls := "RouteDesk", name := "place", desc := "(I)I" } : Jvm.MethodName) prog_1_method_4_code (2 : Nat) (Option.some Jvm.ClassFile.FieldType.int)) ∈ lw_all := lw_g (lw_at lw_m0 42 rfl) rfl
theorem q51 : (Jvm.Cond.constant "RouteDesk" (29 : Nat) (2147483647 : Int32)) ∈ lw_all := lw_g (lw_at lw_m0 43 rfl) rfl
theorem q52 : (Jvm.Cond.methodLink "RouteDesk" (34 : Nat) ({ cls := "RouteDesk", name := "at", desc := "(II)I" } : Jvm.MethodName)) ∈ lw_all := lw_g (lw_at lw_m0 44 rfl) rfl
theorem q53 : (Jvm.Cond.privateMethod ({ cls := "RouteDesk", name := "at", desc := "(II)I" } : Jvm.MethodName)) ∈ lw_tbl := lw_at lw_m0 45 rfl
theorem q54 : (Jvm.Cond.instanceMethod ({ cls := "RouteDesk", name := "at", desc := "(II)I" } : Jvm.MethodName)) ∈ lw_all := lw_g (lw_at lw_m0 46 rfl) rfl
theorem q55 : (Jvm.Cond.code ({ cls := "RouteDesk", name := "at", desc := "(II)I" } : Jvm.MethodName) prog_1_method_5_code (3 : Nat) (Option.some Jvm.ClassFile.FieldType.int)) ∈ lw_all := lw_g (lw_at lw_m0 47 rfl) rfl
theorem q56 : (Jvm.Cond.constantLong "RouteDesk" (38 : Nat) (1024 : Int64)) ∈ lw_all := lw_g (lw_at lw_m0 48 rfl) rfl
theorem q58 : (Jvm.Cond.instanceMethod ({ cls := "RouteDesk", name := "close", desc := "(II)V" } : Jvm.MethodName)) ∈ lw_all := lw_g (lw_at lw_m0 50 rfl) rfl
theorem q59 : (Jvm.Cond.selects "RouteDesk" ({ cls := "RouteDesk", name := "close", desc := "(II)V" } : Jvm.MethodName) ({ cls := "RouteDesk", name := "close", desc := "(II)V" } : Jvm.MethodName)) ∈ lw_all := lw_g (lw_at lw_m0 51 rfl) rfl
theorem q60 : (Jvm.Cond.code ({ cls := "RouteDesk", name := "close", desc := "(II)V" } : Jvm.MethodName) prog_1_method_7_code (3 : Nat) (Option.none : Option Jvm.ClassFile.FieldType)) ∈ lw_all := lw_g (lw_at lw_m0 52 rfl) rfl
theorem q62 : (Jvm.Cond.instanceMethod ({ cls := "RouteDesk", name := "reach", desc := "(II)Z" } : Jvm.MethodName)) ∈ lw_all := lw_g (lw_at lw_m0 54 rfl) rfl
theorem q63 : (Jvm.Cond.selects "RouteDesk" ({ cls := "RouteDesk", name := "reach", desc := "(II)Z" } : Jvm.MethodName) ({ cls := "RouteDesk", name := "reach", desc := "(II)Z" } : Jvm.MethodName)) ∈ lw_all := lw_g (lw_at lw_m0 55 rfl) rfl
theorem q64 : (Jvm.Cond.code ({ cls := "RouteDesk", name := "reach", desc := "(II)Z" } : Jvm.MethodName) prog_1_method_9_code (3 : Nat) (Option.some Jvm.ClassFile.FieldType.boolean)) ∈ lw_all := lw_g (lw_at lw_m0 56 rfl) rfl
theorem q65 : (Jvm.Cond.methodLink "RouteDesk" (40 : Nat) ({ cls := "RouteDesk", name := "sweep", desc := "()V" } : Jvm.MethodName)) ∈ lw_all := lw_g (lw_at lw_m0 57 rfl) rfl
theorem q66 : (Jvm.Cond.privateMethod ({ cls := "RouteDesk", name := "sweep", desc := "()V" } : Jvm.MethodName)) ∈ lw_tbl := lw_at lw_m0 58 rfl
theorem q67 : (Jvm.Cond.instanceMethod ({ cls := "RouteDesk", name := "sweep", desc := "()V" } : Jvm.MethodName)) ∈ lw_all := lw_g (lw_at lw_m0 59 rfl) rfl
theorem q68 : (Jvm.Cond.code ({ cls := "RouteDesk", name := "sweep", desc := "()V" } : Jvm.MethodName) prog_1_method_8_code (8 : Nat) (Option.none : Option Jvm.ClassFile.FieldType)) ∈ lw_all := lw_g (lw_at lw_m0 60 rfl) rfl
theorem q70 : (Jvm.Cond.instanceMethod ({ cls := "RouteDesk", name := "circle", desc := "()Z" } : Jvm.MethodName)) ∈ lw_all := lw_g (lw_at lw_m0 62 rfl) rfl
theorem q71 : (Jvm.Cond.selects "RouteDesk" ({ cls := "RouteDesk", name := "circle", desc := "()Z" } : Jvm.MethodName) ({ cls := "RouteDesk", name := "circle", desc := "()Z" } : Jvm.MethodName)) ∈ lw_all := lw_g (lw_at lw_m0 63 rfl) rfl
theorem q72 : (Jvm.Cond.code ({ cls := "RouteDesk", name := "circle", desc := "()Z" } : Jvm.MethodName) prog_1_method_11_code (2 : Nat) (Option.some Jvm.ClassFile.FieldType.boolean)) ∈ lw_all := lw_g (lw_at lw_m0 64 rfl) rfl
theorem q73 : (Jvm.Cond.methodLink "RouteDesk" (43 : Nat) ({ cls := "RouteDesk", name := "onCircle", desc := "(I)Z" } : Jvm.MethodName)) ∈ lw_all := lw_g (lw_at lw_m0 65 rfl) rfl
theorem q74 : (Jvm.Cond.privateMethod ({ cls := "RouteDesk", name := "onCircle", desc := "(I)Z" } : Jvm.MethodName)) ∈ lw_tbl := lw_at lw_m0 66 rfl
theorem q75 : (Jvm.Cond.instanceMethod ({ cls := "RouteDesk", name := "onCircle", desc := "(I)Z" } : Jvm.MethodName)) ∈ lw_all := lw_g (lw_at lw_m0 67 rfl) rfl
theorem q76 : (Jvm.Cond.code ({ cls := "RouteDesk", name := "onCircle", desc := "(I)Z" } : Jvm.MethodName) prog_1_method_10_code (2 : Nat) (Option.some Jvm.ClassFile.FieldType.boolean)) ∈ lw_all := lw_g (lw_at lw_m0 68 rfl) rfl
theorem q78 : (Jvm.Cond.instanceMethod ({ cls := "RouteDesk", name := "kind", desc := "(II)I" } : Jvm.MethodName)) ∈ lw_all := lw_g (lw_at lw_m0 70 rfl) rfl
theorem q79 : (Jvm.Cond.selects "RouteDesk" ({ cls := "RouteDesk", name := "kind", desc := "(II)I" } : Jvm.MethodName) ({ cls := "RouteDesk", name := "kind", desc := "(II)I" } : Jvm.MethodName)) ∈ lw_all := lw_g (lw_at lw_m0 71 rfl) rfl
theorem q80 : (Jvm.Cond.code ({ cls := "RouteDesk", name := "kind", desc := "(II)I" } : Jvm.MethodName) prog_1_method_12_code (6 : Nat) (Option.some Jvm.ClassFile.FieldType.int)) ∈ lw_all := lw_g (lw_at lw_m0 72 rfl) rfl
theorem q82 : (Jvm.Cond.instanceMethod ({ cls := "RouteDesk", name := "least", desc := "(II)J" } : Jvm.MethodName)) ∈ lw_all := lw_g (lw_at lw_m0 74 rfl) rfl
theorem q83 : (Jvm.Cond.selects "RouteDesk" ({ cls := "RouteDesk", name := "least", desc := "(II)J" } : Jvm.MethodName) ({ cls := "RouteDesk", name := "least", desc := "(II)J" } : Jvm.MethodName)) ∈ lw_all := lw_g (lw_at lw_m0 75 rfl) rfl
theorem q84 : (Jvm.Cond.code ({ cls := "RouteDesk", name := "least", desc := "(II)J" } : Jvm.MethodName) prog_1_method_13_code (3 : Nat) (Option.some Jvm.ClassFile.FieldType.long)) ∈ lw_all := lw_g (lw_at lw_m0 76 rfl) rfl
theorem q85 : (Jvm.Cond.methodLink "RouteDesk" (47 : Nat) ({ cls := "RouteDesk", name := "kind", desc := "(II)I" } : Jvm.MethodName)) ∈ lw_all := lw_g (lw_at lw_m0 77 rfl) rfl
theorem q86 : (Jvm.Cond.methodLink "RouteDesk" (50 : Nat) ({ cls := "java/lang/Math", name := "floorDiv", desc := "(JJ)J" } : Jvm.MethodName)) ∈ lw_all := lw_g (lw_at lw_m0 78 rfl) rfl
theorem q90 : (Jvm.Cond.instanceMethod ({ cls := "RouteDesk", name := "roads", desc := "(II)I" } : Jvm.MethodName)) ∈ lw_all := lw_g (lw_at lw_m0 82 rfl) rfl
theorem q91 : (Jvm.Cond.selects "RouteDesk" ({ cls := "RouteDesk", name := "roads", desc := "(II)I" } : Jvm.MethodName) ({ cls := "RouteDesk", name := "roads", desc := "(II)I" } : Jvm.MethodName)) ∈ lw_all := lw_g (lw_at lw_m0 83 rfl) rfl
theorem q92 : (Jvm.Cond.code ({ cls := "RouteDesk", name := "roads", desc := "(II)I" } : Jvm.MethodName) prog_1_method_14_code (3 : Nat) (Option.some Jvm.ClassFile.FieldType.int)) ∈ lw_all := lw_g (lw_at lw_m0 84 rfl) rfl
theorem q93 : (Jvm.Cond.methodLink "RouteDesk" (56 : Nat) ({ cls := "java/lang/Math", name := "floorMod", desc := "(JJ)J" } : Jvm.MethodName)) ∈ lw_all := lw_g (lw_at lw_m0 85 rfl) rfl
theorem in_X0 : ∀ w ∈ wsX00, w ∈ lw_all := lw_in wsX00 [29, 31, 33, 35] (by decide +kernel) (by decide +kernel)
/-! java/lang/Math -/
set_option maxRecDepth 100000
def RJ0 : String := "java/lang/Math"
abbrev cJ0_floorDiv : ByteArray := prog_4_method_49_code
def yJ0_floorDiv : MethodName := ⟨RJ0, "floorDiv", "(JJ)J"⟩
theorem dJ0_floorDiv_0 : decode cJ0_floorDiv 0 = .ok (.lload_n 0, 1) := by decide +kernel
theorem dJ0_floorDiv_1 : decode cJ0_floorDiv 1 = .ok (.lload_n 2, 1) := by decide +kernel
theorem dJ0_floorDiv_2 : decode cJ0_floorDiv 2 = .ok (.ldiv, 1) := by decide +kernel
theorem dJ0_floorDiv_3 : decode cJ0_floorDiv 3 = .ok (.lstore 4, 2) := by decide +kernel
theorem dJ0_floorDiv_5 : decode cJ0_floorDiv 5 = .ok (.lload_n 0, 1) := by decide +kernel
theorem dJ0_floorDiv_6 : decode cJ0_floorDiv 6 = .ok (.lload_n 2, 1) := by decide +kernel
theorem dJ0_floorDiv_7 : decode cJ0_floorDiv 7 = .ok (.lxor, 1) := by decide +kernel
theorem dJ0_floorDiv_8 : decode cJ0_floorDiv 8 = .ok (.lconst 0, 1) := by decide +kernel
theorem dJ0_floorDiv_9 : decode cJ0_floorDiv 9 = .ok (.lcmp, 1) := by decide +kernel
theorem dJ0_floorDiv_10 : decode cJ0_floorDiv 10 = .ok (.ifCond .ge 17, 3) := by decide +kernel
theorem dJ0_floorDiv_13 : decode cJ0_floorDiv 13 = .ok (.lload 4, 2) := by decide +kernel
theorem dJ0_floorDiv_15 : decode cJ0_floorDiv 15 = .ok (.lload_n 2, 1) := by decide +kernel
theorem dJ0_floorDiv_16 : decode cJ0_floorDiv 16 = .ok (.lmul, 1) := by decide +kernel
theorem dJ0_floorDiv_17 : decode cJ0_floorDiv 17 = .ok (.lload_n 0, 1) := by decide +kernel
theorem dJ0_floorDiv_18 : decode cJ0_floorDiv 18 = .ok (.lcmp, 1) := by decide +kernel
theorem dJ0_floorDiv_19 : decode cJ0_floorDiv 19 = .ok (.ifCond .eq 8, 3) := by decide +kernel
theorem dJ0_floorDiv_22 : decode cJ0_floorDiv 22 = .ok (.lload 4, 2) := by decide +kernel
theorem dJ0_floorDiv_24 : decode cJ0_floorDiv 24 = .ok (.lconst 1, 1) := by decide +kernel
theorem dJ0_floorDiv_25 : decode cJ0_floorDiv 25 = .ok (.lsub, 1) := by decide +kernel
theorem dJ0_floorDiv_26 : decode cJ0_floorDiv 26 = .ok (.lreturn, 1) := by decide +kernel
theorem dJ0_floorDiv_27 : decode cJ0_floorDiv 27 = .ok (.lload 4, 2) := by decide +kernel
theorem dJ0_floorDiv_29 : decode cJ0_floorDiv 29 = .ok (.lreturn, 1) := by decide +kernel
abbrev cJ0_floorMod : ByteArray := prog_4_method_52_code
def yJ0_floorMod : MethodName := ⟨RJ0, "floorMod", "(JJ)J"⟩
theorem dJ0_floorMod_0 : decode cJ0_floorMod 0 = .ok (.lload_n 0, 1) := by decide +kernel
theorem dJ0_floorMod_1 : decode cJ0_floorMod 1 = .ok (.lload_n 2, 1) := by decide +kernel
theorem dJ0_floorMod_2 : decode cJ0_floorMod 2 = .ok (.lrem, 1) := by decide +kernel
theorem dJ0_floorMod_3 : decode cJ0_floorMod 3 = .ok (.lstore 4, 2) := by decide +kernel
theorem dJ0_floorMod_5 : decode cJ0_floorMod 5 = .ok (.lload_n 0, 1) := by decide +kernel
theorem dJ0_floorMod_6 : decode cJ0_floorMod 6 = .ok (.lload_n 2, 1) := by decide +kernel
theorem dJ0_floorMod_7 : decode cJ0_floorMod 7 = .ok (.lxor, 1) := by decide +kernel
theorem dJ0_floorMod_8 : decode cJ0_floorMod 8 = .ok (.lconst 0, 1) := by decide +kernel
theorem dJ0_floorMod_9 : decode cJ0_floorMod 9 = .ok (.lcmp, 1) := by decide +kernel
theorem dJ0_floorMod_10 : decode cJ0_floorMod 10 = .ok (.ifCond .ge 15, 3) := by decide +kernel
theorem dJ0_floorMod_13 : decode cJ0_floorMod 13 = .ok (.lload 4, 2) := by decide +kernel
theorem dJ0_floorMod_15 : decode cJ0_floorMod 15 = .ok (.lconst 0, 1) := by decide +kernel
theorem dJ0_floorMod_16 : decode cJ0_floorMod 16 = .ok (.lcmp, 1) := by decide +kernel
theorem dJ0_floorMod_17 : decode cJ0_floorMod 17 = .ok (.ifCond .eq 8, 3) := by decide +kernel
theorem dJ0_floorMod_20 : decode cJ0_floorMod 20 = .ok (.lload 4, 2) := by decide +kernel
theorem dJ0_floorMod_22 : decode cJ0_floorMod 22 = .ok (.lload_n 2, 1) := by decide +kernel
theorem dJ0_floorMod_23 : decode cJ0_floorMod 23 = .ok (.ladd, 1) := by decide +kernel
theorem dJ0_floorMod_24 : decode cJ0_floorMod 24 = .ok (.lreturn, 1) := by decide +kernel
theorem dJ0_floorMod_25 : decode cJ0_floorMod 25 = .ok (.lload 4, 2) := by decide +kernel
theorem dJ0_floorMod_27 : decode cJ0_floorMod 27 = .ok (.lreturn, 1) := by decide +kernel
theorem q11 : (Jvm.Cond.initialized "java/lang/Math") ∈ lw_all := lw_g (lw_at lw_m0 3 rfl) rfl
theorem q87 : (Jvm.Cond.static ({ cls := "java/lang/Math", name := "floorDiv", desc := "(JJ)J" } : Jvm.MethodName)) ∈ lw_all := lw_g (lw_at lw_m0 79 rfl) rfl
theorem q88 : (Jvm.Cond.code ({ cls := "java/lang/Math", name := "floorDiv", desc := "(JJ)J" } : Jvm.MethodName) prog_4_method_49_code (6 : Nat) (Option.some Jvm.ClassFile.FieldType.long)) ∈ lw_all := lw_g (lw_at lw_m0 80 rfl) rfl
theorem q94 : (Jvm.Cond.static ({ cls := "java/lang/Math", name := "floorMod", desc := "(JJ)J" } : Jvm.MethodName)) ∈ lw_all := lw_g (lw_at lw_m0 86 rfl) rfl
theorem q95 : (Jvm.Cond.code ({ cls := "java/lang/Math", name := "floorMod", desc := "(JJ)J" } : Jvm.MethodName) prog_4_method_52_code (6 : Nat) (Option.some Jvm.ClassFile.FieldType.long)) ∈ lw_all := lw_g (lw_at lw_m0 87 rfl) rfl
/-! java/lang/Object -/
set_option maxRecDepth 100000
def RJ1 : String := "java/lang/Object"
abbrev cJ1_init : ByteArray := object_method_1_code
def yJ1_init : MethodName := ⟨RJ1, "<init>", "()V"⟩
theorem dJ1_init_0 : decode cJ1_init 0 = .ok (.return_, 1) := by decide +kernel
theorem q18 : (Jvm.Cond.instanceMethod ({ cls := "java/lang/Object", name := "<init>", desc := "()V" } : Jvm.MethodName)) ∈ lw_all := lw_g (lw_at lw_m0 10 rfl) rfl
theorem q19 : (Jvm.Cond.code ({ cls := "java/lang/Object", name := "<init>", desc := "()V" } : Jvm.MethodName) object_method_1_code (1 : Nat) (Option.none : Option Jvm.ClassFile.FieldType)) ∈ lw_all := lw_g (lw_at lw_m0 11 rfl) rfl
theorem q8 : (Jvm.Cond.initialized "RouteDeskLaw") ∈ lw_all := lw_g (lw_at lw_m0 0 rfl) rfl
set_option maxRecDepth 100000
theorem q12 : (Jvm.Cond.classLink "RouteDeskLaw" (7 : Nat) "RouteDesk") ∈ lw_all := lw_g (lw_at lw_m0 4 rfl) rfl
theorem q14 : (Jvm.Cond.methodLink "RouteDeskLaw" (9 : Nat) ({ cls := "RouteDesk", name := "<init>", desc := "()V" } : Jvm.MethodName)) ∈ lw_all := lw_g (lw_at lw_m0 6 rfl) rfl
theorem q39 : (Jvm.Cond.methodLink "RouteDeskLaw" (13 : Nat) ({ cls := "RouteDesk", name := "places", desc := "(I)V" } : Jvm.MethodName)) ∈ lw_all := lw_g (lw_at lw_m0 31 rfl) rfl
theorem q43 : (Jvm.Cond.methodLink "RouteDeskLaw" (18 : Nat) ({ cls := "RouteDesk", name := "road", desc := "(III)V" } : Jvm.MethodName)) ∈ lw_all := lw_g (lw_at lw_m0 35 rfl) rfl
theorem q57 : (Jvm.Cond.methodLink "RouteDeskLaw" (23 : Nat) ({ cls := "RouteDesk", name := "close", desc := "(II)V" } : Jvm.MethodName)) ∈ lw_all := lw_g (lw_at lw_m0 49 rfl) rfl
theorem q61 : (Jvm.Cond.methodLink "RouteDeskLaw" (28 : Nat) ({ cls := "RouteDesk", name := "reach", desc := "(II)Z" } : Jvm.MethodName)) ∈ lw_all := lw_g (lw_at lw_m0 53 rfl) rfl
theorem q69 : (Jvm.Cond.methodLink "RouteDeskLaw" (33 : Nat) ({ cls := "RouteDesk", name := "circle", desc := "()Z" } : Jvm.MethodName)) ∈ lw_all := lw_g (lw_at lw_m0 61 rfl) rfl
theorem q77 : (Jvm.Cond.methodLink "RouteDeskLaw" (38 : Nat) ({ cls := "RouteDesk", name := "kind", desc := "(II)I" } : Jvm.MethodName)) ∈ lw_all := lw_g (lw_at lw_m0 69 rfl) rfl
theorem q81 : (Jvm.Cond.methodLink "RouteDeskLaw" (43 : Nat) ({ cls := "RouteDesk", name := "least", desc := "(II)J" } : Jvm.MethodName)) ∈ lw_all := lw_g (lw_at lw_m0 73 rfl) rfl
theorem q89 : (Jvm.Cond.methodLink "RouteDeskLaw" (48 : Nat) ({ cls := "RouteDesk", name := "roads", desc := "(II)I" } : Jvm.MethodName)) ∈ lw_all := lw_g (lw_at lw_m0 81 rfl) rfl
theorem q96 : (Jvm.Cond.classLink "RouteDeskLaw" (10 : Nat) "RouteDeskModel") ∈ lw_all := lw_g (lw_at lw_m0 88 rfl) rfl
theorem q98 : (Jvm.Cond.methodLink "RouteDeskLaw" (12 : Nat) ({ cls := "RouteDeskModel", name := "<init>", desc := "()V" } : Jvm.MethodName)) ∈ lw_all := lw_g (lw_at lw_m0 90 rfl) rfl
theorem q141 : (Jvm.Cond.methodLink "RouteDeskLaw" (17 : Nat) ({ cls := "RouteDeskModel", name := "places", desc := "(I)V" } : Jvm.MethodName)) ∈ lw_all := lw_g (lw_at lw_m0 133 rfl) rfl
theorem q145 : (Jvm.Cond.methodLink "RouteDeskLaw" (22 : Nat) ({ cls := "RouteDeskModel", name := "road", desc := "(III)V" } : Jvm.MethodName)) ∈ lw_all := lw_g (lw_at lw_m0 137 rfl) rfl
theorem q154 : (Jvm.Cond.methodLink "RouteDeskLaw" (27 : Nat) ({ cls := "RouteDeskModel", name := "close", desc := "(II)V" } : Jvm.MethodName)) ∈ lw_all := lw_g (lw_at lw_m0 146 rfl) rfl
theorem q158 : (Jvm.Cond.methodLink "RouteDeskLaw" (32 : Nat) ({ cls := "RouteDeskModel", name := "reach", desc := "(II)Z" } : Jvm.MethodName)) ∈ lw_all := lw_g (lw_at lw_m0 150 rfl) rfl
theorem q170 : (Jvm.Cond.methodLink "RouteDeskLaw" (37 : Nat) ({ cls := "RouteDeskModel", name := "circle", desc := "()Z" } : Jvm.MethodName)) ∈ lw_all := lw_g (lw_at lw_m0 162 rfl) rfl
theorem q174 : (Jvm.Cond.methodLink "RouteDeskLaw" (42 : Nat) ({ cls := "RouteDeskModel", name := "kind", desc := "(II)I" } : Jvm.MethodName)) ∈ lw_all := lw_g (lw_at lw_m0 166 rfl) rfl
theorem q178 : (Jvm.Cond.methodLink "RouteDeskLaw" (47 : Nat) ({ cls := "RouteDeskModel", name := "least", desc := "(II)J" } : Jvm.MethodName)) ∈ lw_all := lw_g (lw_at lw_m0 170 rfl) rfl
theorem q183 : (Jvm.Cond.methodLink "RouteDeskLaw" (51 : Nat) ({ cls := "RouteDeskModel", name := "roads", desc := "(II)I" } : Jvm.MethodName)) ∈ lw_all := lw_g (lw_at lw_m0 175 rfl) rfl
theorem q38 : (Jvm.Cond.arrayClass Jvm.ClassFile.FieldType.long) ∈ lw_all := lw_g (lw_at lw_m0 30 rfl) rfl
set_option maxRecDepth 100000
theorem q139 : (Jvm.Cond.arrayClass Jvm.ClassFile.FieldType.int) ∈ lw_all := lw_g (lw_at lw_m0 131 rfl) rfl
theorem q140 : (Jvm.Cond.arrayClass Jvm.ClassFile.FieldType.boolean) ∈ lw_all := lw_g (lw_at lw_m0 132 rfl) rfl
end
section
/-! RouteDeskModel -/
set_option maxRecDepth 100000
def RX1 : String := "RouteDeskModel"
def TX1 : u_T := fun k => match k with
  | 0 => ("RouteDeskModel", "cost", "[I", true)
  | 1 => ("RouteDeskModel", "road", "[Z", true)
  | 2 => ("RouteDeskModel", "n", "I", false)
  | 3 => ("RouteDeskModel", "known", "Z", false)
  | 4 => ("RouteDeskModel", "d", "[J", true)
  | 5 => ("RouteDeskModel", "is", "[Z", true)
  | 6 => ("RouteDeskModel", "e", "[J", true)
  | 7 => ("RouteDeskModel", "ie", "[Z", true)
  | 8 => ("RouteDeskModel", "reach", "[Z", true)
  | 9 => ("RouteDeskModel", "bad", "[Z", true)
  | 10 => ("RouteDeskModel", "best", "[J", true)
  | _ => ("RouteDeskModel", "few", "[I", true)
def tyX1 : Nat → FieldType := fun k => match k with
  | 0 => .array .int
  | 1 => .array .boolean
  | 2 => .int
  | 3 => .boolean
  | 4 => .array .long
  | 5 => .array .boolean
  | 6 => .array .long
  | 7 => .array .boolean
  | 8 => .array .boolean
  | 9 => .array .boolean
  | 10 => .array .long
  | _ => .array .int
abbrev wsX10 : List Cond := u_ws RX1 TX1 12
theorem nmX1 : ∀ a, a < 12 → ∀ b, b < 12 → a ≠ b → (TX1 a).2.1 ≠ (TX1 b).2.1 := by decide +kernel
theorem tyX1_ok : ∀ k, k < 12 → parseFieldDescriptor (TX1 k).2.2.1 = some (tyX1 k) := by decide +kernel
abbrev cX1_init : ByteArray := prog_3_method_1_code
def yX1_init : MethodName := ⟨RX1, "<init>", "()V"⟩
theorem dX1_init_0 : decode cX1_init 0 = .ok (.aload_n 0, 1) := by decide +kernel
theorem dX1_init_1 : decode cX1_init 1 = .ok (.invokespecial 1, 3) := by decide +kernel
theorem dX1_init_4 : decode cX1_init 4 = .ok (.aload_n 0, 1) := by decide +kernel
theorem dX1_init_5 : decode cX1_init 5 = .ok (.bipush 64, 2) := by decide +kernel
theorem dX1_init_7 : decode cX1_init 7 = .ok (.newarray .int, 2) := by decide +kernel
theorem dX1_init_9 : decode cX1_init 9 = .ok (.putfield 7, 3) := by decide +kernel
theorem dX1_init_12 : decode cX1_init 12 = .ok (.aload_n 0, 1) := by decide +kernel
theorem dX1_init_13 : decode cX1_init 13 = .ok (.bipush 64, 2) := by decide +kernel
theorem dX1_init_15 : decode cX1_init 15 = .ok (.newarray .boolean, 2) := by decide +kernel
theorem dX1_init_17 : decode cX1_init 17 = .ok (.putfield 13, 3) := by decide +kernel
theorem dX1_init_20 : decode cX1_init 20 = .ok (.aload_n 0, 1) := by decide +kernel
theorem dX1_init_21 : decode cX1_init 21 = .ok (.iconst 2, 1) := by decide +kernel
theorem dX1_init_22 : decode cX1_init 22 = .ok (.putfield 17, 3) := by decide +kernel
theorem dX1_init_25 : decode cX1_init 25 = .ok (.aload_n 0, 1) := by decide +kernel
theorem dX1_init_26 : decode cX1_init 26 = .ok (.bipush 64, 2) := by decide +kernel
theorem dX1_init_28 : decode cX1_init 28 = .ok (.newarray .long, 2) := by decide +kernel
theorem dX1_init_30 : decode cX1_init 30 = .ok (.putfield 21, 3) := by decide +kernel
theorem dX1_init_33 : decode cX1_init 33 = .ok (.aload_n 0, 1) := by decide +kernel
theorem dX1_init_34 : decode cX1_init 34 = .ok (.bipush 64, 2) := by decide +kernel
theorem dX1_init_36 : decode cX1_init 36 = .ok (.newarray .boolean, 2) := by decide +kernel
theorem dX1_init_38 : decode cX1_init 38 = .ok (.putfield 25, 3) := by decide +kernel
theorem dX1_init_41 : decode cX1_init 41 = .ok (.aload_n 0, 1) := by decide +kernel
theorem dX1_init_42 : decode cX1_init 42 = .ok (.bipush 64, 2) := by decide +kernel
theorem dX1_init_44 : decode cX1_init 44 = .ok (.newarray .long, 2) := by decide +kernel
theorem dX1_init_46 : decode cX1_init 46 = .ok (.putfield 28, 3) := by decide +kernel
theorem dX1_init_49 : decode cX1_init 49 = .ok (.aload_n 0, 1) := by decide +kernel
theorem dX1_init_50 : decode cX1_init 50 = .ok (.bipush 64, 2) := by decide +kernel
theorem dX1_init_52 : decode cX1_init 52 = .ok (.newarray .boolean, 2) := by decide +kernel
theorem dX1_init_54 : decode cX1_init 54 = .ok (.putfield 31, 3) := by decide +kernel
theorem dX1_init_57 : decode cX1_init 57 = .ok (.aload_n 0, 1) := by decide +kernel
theorem dX1_init_58 : decode cX1_init 58 = .ok (.bipush 64, 2) := by decide +kernel
theorem dX1_init_60 : decode cX1_init 60 = .ok (.newarray .boolean, 2) := by decide +kernel
theorem dX1_init_62 : decode cX1_init 62 = .ok (.putfield 34, 3) := by decide +kernel
theorem dX1_init_65 : decode cX1_init 65 = .ok (.aload_n 0, 1) := by decide +kernel
theorem dX1_init_66 : decode cX1_init 66 = .ok (.bipush 8, 2) := by decide +kernel
theorem dX1_init_68 : decode cX1_init 68 = .ok (.newarray .boolean, 2) := by decide +kernel
theorem dX1_init_70 : decode cX1_init 70 = .ok (.putfield 37, 3) := by decide +kernel
theorem dX1_init_73 : decode cX1_init 73 = .ok (.aload_n 0, 1) := by decide +kernel
theorem dX1_init_74 : decode cX1_init 74 = .ok (.bipush 64, 2) := by decide +kernel
theorem dX1_init_76 : decode cX1_init 76 = .ok (.newarray .long, 2) := by decide +kernel
theorem dX1_init_78 : decode cX1_init 78 = .ok (.putfield 40, 3) := by decide +kernel
theorem dX1_init_81 : decode cX1_init 81 = .ok (.aload_n 0, 1) := by decide +kernel
theorem dX1_init_82 : decode cX1_init 82 = .ok (.bipush 64, 2) := by decide +kernel
theorem dX1_init_84 : decode cX1_init 84 = .ok (.newarray .int, 2) := by decide +kernel
theorem dX1_init_86 : decode cX1_init 86 = .ok (.putfield 43, 3) := by decide +kernel
theorem dX1_init_89 : decode cX1_init 89 = .ok (.return_, 1) := by decide +kernel
abbrev cX1_places : ByteArray := prog_3_method_2_code
def yX1_places : MethodName := ⟨RX1, "places", "(I)V"⟩
theorem dX1_places_0 : decode cX1_places 0 = .ok (.aload_n 0, 1) := by decide +kernel
theorem dX1_places_1 : decode cX1_places 1 = .ok (.iconst 1, 1) := by decide +kernel
theorem dX1_places_2 : decode cX1_places 2 = .ok (.iload_n 1, 1) := by decide +kernel
theorem dX1_places_3 : decode cX1_places 3 = .ok (.bipush 7, 2) := by decide +kernel
theorem dX1_places_5 : decode cX1_places 5 = .ok (.iand, 1) := by decide +kernel
theorem dX1_places_6 : decode cX1_places 6 = .ok (.iadd, 1) := by decide +kernel
theorem dX1_places_7 : decode cX1_places 7 = .ok (.putfield 17, 3) := by decide +kernel
theorem dX1_places_10 : decode cX1_places 10 = .ok (.iconst 0, 1) := by decide +kernel
theorem dX1_places_11 : decode cX1_places 11 = .ok (.istore_n 2, 1) := by decide +kernel
theorem dX1_places_12 : decode cX1_places 12 = .ok (.iload_n 2, 1) := by decide +kernel
theorem dX1_places_13 : decode cX1_places 13 = .ok (.bipush 64, 2) := by decide +kernel
theorem dX1_places_15 : decode cX1_places 15 = .ok (.if_icmp .ge 16, 3) := by decide +kernel
theorem dX1_places_18 : decode cX1_places 18 = .ok (.aload_n 0, 1) := by decide +kernel
theorem dX1_places_19 : decode cX1_places 19 = .ok (.getfield 13, 3) := by decide +kernel
theorem dX1_places_22 : decode cX1_places 22 = .ok (.iload_n 2, 1) := by decide +kernel
theorem dX1_places_23 : decode cX1_places 23 = .ok (.iconst 0, 1) := by decide +kernel
theorem dX1_places_24 : decode cX1_places 24 = .ok (.bastore, 1) := by decide +kernel
theorem dX1_places_25 : decode cX1_places 25 = .ok (.iinc 2 1, 3) := by decide +kernel
theorem dX1_places_28 : decode cX1_places 28 = .ok (.goto (-16), 3) := by decide +kernel
theorem dX1_places_31 : decode cX1_places 31 = .ok (.aload_n 0, 1) := by decide +kernel
theorem dX1_places_32 : decode cX1_places 32 = .ok (.iconst 0, 1) := by decide +kernel
theorem dX1_places_33 : decode cX1_places 33 = .ok (.putfield 46, 3) := by decide +kernel
theorem dX1_places_36 : decode cX1_places 36 = .ok (.return_, 1) := by decide +kernel
abbrev cX1_road : ByteArray := prog_3_method_4_code
def yX1_road : MethodName := ⟨RX1, "road", "(III)V"⟩
theorem dX1_road_0 : decode cX1_road 0 = .ok (.bipush 8, 2) := by decide +kernel
theorem dX1_road_2 : decode cX1_road 2 = .ok (.aload_n 0, 1) := by decide +kernel
theorem dX1_road_3 : decode cX1_road 3 = .ok (.iload_n 1, 1) := by decide +kernel
theorem dX1_road_4 : decode cX1_road 4 = .ok (.invokevirtual 51, 3) := by decide +kernel
theorem dX1_road_7 : decode cX1_road 7 = .ok (.imul, 1) := by decide +kernel
theorem dX1_road_8 : decode cX1_road 8 = .ok (.aload_n 0, 1) := by decide +kernel
theorem dX1_road_9 : decode cX1_road 9 = .ok (.iload_n 2, 1) := by decide +kernel
theorem dX1_road_10 : decode cX1_road 10 = .ok (.invokevirtual 51, 3) := by decide +kernel
theorem dX1_road_13 : decode cX1_road 13 = .ok (.iadd, 1) := by decide +kernel
theorem dX1_road_14 : decode cX1_road 14 = .ok (.istore 4, 2) := by decide +kernel
theorem dX1_road_16 : decode cX1_road 16 = .ok (.aload_n 0, 1) := by decide +kernel
theorem dX1_road_17 : decode cX1_road 17 = .ok (.getfield 13, 3) := by decide +kernel
theorem dX1_road_20 : decode cX1_road 20 = .ok (.iload 4, 2) := by decide +kernel
theorem dX1_road_22 : decode cX1_road 22 = .ok (.iconst 1, 1) := by decide +kernel
theorem dX1_road_23 : decode cX1_road 23 = .ok (.bastore, 1) := by decide +kernel
theorem dX1_road_24 : decode cX1_road 24 = .ok (.aload_n 0, 1) := by decide +kernel
theorem dX1_road_25 : decode cX1_road 25 = .ok (.getfield 7, 3) := by decide +kernel
theorem dX1_road_28 : decode cX1_road 28 = .ok (.iload 4, 2) := by decide +kernel
theorem dX1_road_30 : decode cX1_road 30 = .ok (.iload_n 3, 1) := by decide +kernel
theorem dX1_road_31 : decode cX1_road 31 = .ok (.sipush 1000, 3) := by decide +kernel
theorem dX1_road_34 : decode cX1_road 34 = .ok (.irem, 1) := by decide +kernel
theorem dX1_road_35 : decode cX1_road 35 = .ok (.iastore, 1) := by decide +kernel
theorem dX1_road_36 : decode cX1_road 36 = .ok (.aload_n 0, 1) := by decide +kernel
theorem dX1_road_37 : decode cX1_road 37 = .ok (.iconst 0, 1) := by decide +kernel
theorem dX1_road_38 : decode cX1_road 38 = .ok (.putfield 46, 3) := by decide +kernel
theorem dX1_road_41 : decode cX1_road 41 = .ok (.return_, 1) := by decide +kernel
abbrev cX1_at : ByteArray := prog_3_method_3_code
def yX1_at : MethodName := ⟨RX1, "at", "(I)I"⟩
theorem dX1_at_0 : decode cX1_at 0 = .ok (.iload_n 1, 1) := by decide +kernel
theorem dX1_at_1 : decode cX1_at 1 = .ok (.ldc 50, 2) := by decide +kernel
theorem dX1_at_3 : decode cX1_at 3 = .ok (.iand, 1) := by decide +kernel
theorem dX1_at_4 : decode cX1_at 4 = .ok (.aload_n 0, 1) := by decide +kernel
theorem dX1_at_5 : decode cX1_at 5 = .ok (.getfield 17, 3) := by decide +kernel
theorem dX1_at_8 : decode cX1_at 8 = .ok (.irem, 1) := by decide +kernel
theorem dX1_at_9 : decode cX1_at 9 = .ok (.ireturn, 1) := by decide +kernel
abbrev cX1_close : ByteArray := prog_3_method_5_code
def yX1_close : MethodName := ⟨RX1, "close", "(II)V"⟩
theorem dX1_close_0 : decode cX1_close 0 = .ok (.aload_n 0, 1) := by decide +kernel
theorem dX1_close_1 : decode cX1_close 1 = .ok (.getfield 13, 3) := by decide +kernel
theorem dX1_close_4 : decode cX1_close 4 = .ok (.bipush 8, 2) := by decide +kernel
theorem dX1_close_6 : decode cX1_close 6 = .ok (.aload_n 0, 1) := by decide +kernel
theorem dX1_close_7 : decode cX1_close 7 = .ok (.iload_n 1, 1) := by decide +kernel
theorem dX1_close_8 : decode cX1_close 8 = .ok (.invokevirtual 51, 3) := by decide +kernel
theorem dX1_close_11 : decode cX1_close 11 = .ok (.imul, 1) := by decide +kernel
theorem dX1_close_12 : decode cX1_close 12 = .ok (.aload_n 0, 1) := by decide +kernel
theorem dX1_close_13 : decode cX1_close 13 = .ok (.iload_n 2, 1) := by decide +kernel
theorem dX1_close_14 : decode cX1_close 14 = .ok (.invokevirtual 51, 3) := by decide +kernel
theorem dX1_close_17 : decode cX1_close 17 = .ok (.iadd, 1) := by decide +kernel
theorem dX1_close_18 : decode cX1_close 18 = .ok (.iconst 0, 1) := by decide +kernel
theorem dX1_close_19 : decode cX1_close 19 = .ok (.bastore, 1) := by decide +kernel
theorem dX1_close_20 : decode cX1_close 20 = .ok (.aload_n 0, 1) := by decide +kernel
theorem dX1_close_21 : decode cX1_close 21 = .ok (.iconst 0, 1) := by decide +kernel
theorem dX1_close_22 : decode cX1_close 22 = .ok (.putfield 46, 3) := by decide +kernel
theorem dX1_close_25 : decode cX1_close 25 = .ok (.return_, 1) := by decide +kernel
abbrev cX1_reach : ByteArray := prog_3_method_8_code
def yX1_reach : MethodName := ⟨RX1, "reach", "(II)Z"⟩
theorem dX1_reach_0 : decode cX1_reach 0 = .ok (.aload_n 0, 1) := by decide +kernel
theorem dX1_reach_1 : decode cX1_reach 1 = .ok (.invokevirtual 58, 3) := by decide +kernel
theorem dX1_reach_4 : decode cX1_reach 4 = .ok (.aload_n 0, 1) := by decide +kernel
theorem dX1_reach_5 : decode cX1_reach 5 = .ok (.getfield 34, 3) := by decide +kernel
theorem dX1_reach_8 : decode cX1_reach 8 = .ok (.bipush 8, 2) := by decide +kernel
theorem dX1_reach_10 : decode cX1_reach 10 = .ok (.aload_n 0, 1) := by decide +kernel
theorem dX1_reach_11 : decode cX1_reach 11 = .ok (.iload_n 1, 1) := by decide +kernel
theorem dX1_reach_12 : decode cX1_reach 12 = .ok (.invokevirtual 51, 3) := by decide +kernel
theorem dX1_reach_15 : decode cX1_reach 15 = .ok (.imul, 1) := by decide +kernel
theorem dX1_reach_16 : decode cX1_reach 16 = .ok (.aload_n 0, 1) := by decide +kernel
theorem dX1_reach_17 : decode cX1_reach 17 = .ok (.iload_n 2, 1) := by decide +kernel
theorem dX1_reach_18 : decode cX1_reach 18 = .ok (.invokevirtual 51, 3) := by decide +kernel
theorem dX1_reach_21 : decode cX1_reach 21 = .ok (.iadd, 1) := by decide +kernel
theorem dX1_reach_22 : decode cX1_reach 22 = .ok (.baload, 1) := by decide +kernel
theorem dX1_reach_23 : decode cX1_reach 23 = .ok (.ireturn, 1) := by decide +kernel
abbrev cX1_reckon : ByteArray := prog_3_method_7_code
def yX1_reckon : MethodName := ⟨RX1, "reckon", "()V"⟩
theorem dX1_reckon_0 : decode cX1_reckon 0 = .ok (.aload_n 0, 1) := by decide +kernel
theorem dX1_reckon_1 : decode cX1_reckon 1 = .ok (.getfield 46, 3) := by decide +kernel
theorem dX1_reckon_4 : decode cX1_reckon 4 = .ok (.ifCond .eq 4, 3) := by decide +kernel
theorem dX1_reckon_7 : decode cX1_reckon 7 = .ok (.return_, 1) := by decide +kernel
theorem dX1_reckon_8 : decode cX1_reckon 8 = .ok (.aload_n 0, 1) := by decide +kernel
theorem dX1_reckon_9 : decode cX1_reckon 9 = .ok (.iconst 1, 1) := by decide +kernel
theorem dX1_reckon_10 : decode cX1_reckon 10 = .ok (.putfield 46, 3) := by decide +kernel
theorem dX1_reckon_13 : decode cX1_reckon 13 = .ok (.iconst 0, 1) := by decide +kernel
theorem dX1_reckon_14 : decode cX1_reckon 14 = .ok (.istore_n 1, 1) := by decide +kernel
theorem dX1_reckon_15 : decode cX1_reckon 15 = .ok (.iload_n 1, 1) := by decide +kernel
theorem dX1_reckon_16 : decode cX1_reckon 16 = .ok (.bipush 64, 2) := by decide +kernel
theorem dX1_reckon_18 : decode cX1_reckon 18 = .ok (.if_icmp .ge 63, 3) := by decide +kernel
theorem dX1_reckon_21 : decode cX1_reckon 21 = .ok (.aload_n 0, 1) := by decide +kernel
theorem dX1_reckon_22 : decode cX1_reckon 22 = .ok (.getfield 25, 3) := by decide +kernel
theorem dX1_reckon_25 : decode cX1_reckon 25 = .ok (.iload_n 1, 1) := by decide +kernel
theorem dX1_reckon_26 : decode cX1_reckon 26 = .ok (.iload_n 1, 1) := by decide +kernel
theorem dX1_reckon_27 : decode cX1_reckon 27 = .ok (.bipush 8, 2) := by decide +kernel
theorem dX1_reckon_29 : decode cX1_reckon 29 = .ok (.idiv, 1) := by decide +kernel
theorem dX1_reckon_30 : decode cX1_reckon 30 = .ok (.iload_n 1, 1) := by decide +kernel
theorem dX1_reckon_31 : decode cX1_reckon 31 = .ok (.bipush 8, 2) := by decide +kernel
theorem dX1_reckon_33 : decode cX1_reckon 33 = .ok (.irem, 1) := by decide +kernel
theorem dX1_reckon_34 : decode cX1_reckon 34 = .ok (.if_icmp .ne 18, 3) := by decide +kernel
theorem dX1_reckon_37 : decode cX1_reckon 37 = .ok (.iload_n 1, 1) := by decide +kernel
theorem dX1_reckon_38 : decode cX1_reckon 38 = .ok (.bipush 8, 2) := by decide +kernel
theorem dX1_reckon_40 : decode cX1_reckon 40 = .ok (.idiv, 1) := by decide +kernel
theorem dX1_reckon_41 : decode cX1_reckon 41 = .ok (.aload_n 0, 1) := by decide +kernel
theorem dX1_reckon_42 : decode cX1_reckon 42 = .ok (.getfield 17, 3) := by decide +kernel
theorem dX1_reckon_45 : decode cX1_reckon 45 = .ok (.if_icmp .ge 7, 3) := by decide +kernel
theorem dX1_reckon_48 : decode cX1_reckon 48 = .ok (.iconst 1, 1) := by decide +kernel
theorem dX1_reckon_49 : decode cX1_reckon 49 = .ok (.goto 4, 3) := by decide +kernel
theorem dX1_reckon_52 : decode cX1_reckon 52 = .ok (.iconst 0, 1) := by decide +kernel
theorem dX1_reckon_53 : decode cX1_reckon 53 = .ok (.bastore, 1) := by decide +kernel
theorem dX1_reckon_54 : decode cX1_reckon 54 = .ok (.aload_n 0, 1) := by decide +kernel
theorem dX1_reckon_55 : decode cX1_reckon 55 = .ok (.getfield 21, 3) := by decide +kernel
theorem dX1_reckon_58 : decode cX1_reckon 58 = .ok (.iload_n 1, 1) := by decide +kernel
theorem dX1_reckon_59 : decode cX1_reckon 59 = .ok (.lconst 0, 1) := by decide +kernel
theorem dX1_reckon_60 : decode cX1_reckon 60 = .ok (.lastore, 1) := by decide +kernel
theorem dX1_reckon_61 : decode cX1_reckon 61 = .ok (.aload_n 0, 1) := by decide +kernel
theorem dX1_reckon_62 : decode cX1_reckon 62 = .ok (.getfield 34, 3) := by decide +kernel
theorem dX1_reckon_65 : decode cX1_reckon 65 = .ok (.iload_n 1, 1) := by decide +kernel
theorem dX1_reckon_66 : decode cX1_reckon 66 = .ok (.iconst 0, 1) := by decide +kernel
theorem dX1_reckon_67 : decode cX1_reckon 67 = .ok (.bastore, 1) := by decide +kernel
theorem dX1_reckon_68 : decode cX1_reckon 68 = .ok (.aload_n 0, 1) := by decide +kernel
theorem dX1_reckon_69 : decode cX1_reckon 69 = .ok (.getfield 43, 3) := by decide +kernel
theorem dX1_reckon_72 : decode cX1_reckon 72 = .ok (.iload_n 1, 1) := by decide +kernel
theorem dX1_reckon_73 : decode cX1_reckon 73 = .ok (.iconst (-1), 1) := by decide +kernel
theorem dX1_reckon_74 : decode cX1_reckon 74 = .ok (.iastore, 1) := by decide +kernel
theorem dX1_reckon_75 : decode cX1_reckon 75 = .ok (.iinc 1 1, 3) := by decide +kernel
theorem dX1_reckon_78 : decode cX1_reckon 78 = .ok (.goto (-63), 3) := by decide +kernel
theorem dX1_reckon_81 : decode cX1_reckon 81 = .ok (.iconst 0, 1) := by decide +kernel
theorem dX1_reckon_82 : decode cX1_reckon 82 = .ok (.istore_n 1, 1) := by decide +kernel
theorem dX1_reckon_83 : decode cX1_reckon 83 = .ok (.iload_n 1, 1) := by decide +kernel
theorem dX1_reckon_84 : decode cX1_reckon 84 = .ok (.bipush 8, 2) := by decide +kernel
theorem dX1_reckon_86 : decode cX1_reckon 86 = .ok (.if_icmp .ge 16, 3) := by decide +kernel
theorem dX1_reckon_89 : decode cX1_reckon 89 = .ok (.aload_n 0, 1) := by decide +kernel
theorem dX1_reckon_90 : decode cX1_reckon 90 = .ok (.getfield 37, 3) := by decide +kernel
theorem dX1_reckon_93 : decode cX1_reckon 93 = .ok (.iload_n 1, 1) := by decide +kernel
theorem dX1_reckon_94 : decode cX1_reckon 94 = .ok (.iconst 0, 1) := by decide +kernel
theorem dX1_reckon_95 : decode cX1_reckon 95 = .ok (.bastore, 1) := by decide +kernel
theorem dX1_reckon_96 : decode cX1_reckon 96 = .ok (.iinc 1 1, 3) := by decide +kernel
theorem dX1_reckon_99 : decode cX1_reckon 99 = .ok (.goto (-16), 3) := by decide +kernel
theorem dX1_reckon_102 : decode cX1_reckon 102 = .ok (.iconst 0, 1) := by decide +kernel
theorem dX1_reckon_103 : decode cX1_reckon 103 = .ok (.istore_n 1, 1) := by decide +kernel
theorem dX1_reckon_104 : decode cX1_reckon 104 = .ok (.iload_n 1, 1) := by decide +kernel
theorem dX1_reckon_105 : decode cX1_reckon 105 = .ok (.aload_n 0, 1) := by decide +kernel
theorem dX1_reckon_106 : decode cX1_reckon 106 = .ok (.getfield 17, 3) := by decide +kernel
theorem dX1_reckon_109 : decode cX1_reckon 109 = .ok (.if_icmp .gt 183, 3) := by decide +kernel
theorem dX1_reckon_112 : decode cX1_reckon 112 = .ok (.iconst 0, 1) := by decide +kernel
theorem dX1_reckon_113 : decode cX1_reckon 113 = .ok (.istore_n 2, 1) := by decide +kernel
theorem dX1_reckon_114 : decode cX1_reckon 114 = .ok (.iload_n 2, 1) := by decide +kernel
theorem dX1_reckon_115 : decode cX1_reckon 115 = .ok (.bipush 64, 2) := by decide +kernel
theorem dX1_reckon_117 : decode cX1_reckon 117 = .ok (.if_icmp .ge 99, 3) := by decide +kernel
theorem dX1_reckon_120 : decode cX1_reckon 120 = .ok (.aload_n 0, 1) := by decide +kernel
theorem dX1_reckon_121 : decode cX1_reckon 121 = .ok (.getfield 34, 3) := by decide +kernel
theorem dX1_reckon_124 : decode cX1_reckon 124 = .ok (.iload_n 2, 1) := by decide +kernel
theorem dX1_reckon_125 : decode cX1_reckon 125 = .ok (.aload_n 0, 1) := by decide +kernel
theorem dX1_reckon_126 : decode cX1_reckon 126 = .ok (.getfield 34, 3) := by decide +kernel
theorem dX1_reckon_129 : decode cX1_reckon 129 = .ok (.iload_n 2, 1) := by decide +kernel
theorem dX1_reckon_130 : decode cX1_reckon 130 = .ok (.baload, 1) := by decide +kernel
theorem dX1_reckon_131 : decode cX1_reckon 131 = .ok (.ifCond .ne 12, 3) := by decide +kernel
theorem dX1_reckon_134 : decode cX1_reckon 134 = .ok (.aload_n 0, 1) := by decide +kernel
theorem dX1_reckon_135 : decode cX1_reckon 135 = .ok (.getfield 25, 3) := by decide +kernel
theorem dX1_reckon_138 : decode cX1_reckon 138 = .ok (.iload_n 2, 1) := by decide +kernel
theorem dX1_reckon_139 : decode cX1_reckon 139 = .ok (.baload, 1) := by decide +kernel
theorem dX1_reckon_140 : decode cX1_reckon 140 = .ok (.ifCond .eq 7, 3) := by decide +kernel
theorem dX1_reckon_143 : decode cX1_reckon 143 = .ok (.iconst 1, 1) := by decide +kernel
theorem dX1_reckon_144 : decode cX1_reckon 144 = .ok (.goto 4, 3) := by decide +kernel
theorem dX1_reckon_147 : decode cX1_reckon 147 = .ok (.iconst 0, 1) := by decide +kernel
theorem dX1_reckon_148 : decode cX1_reckon 148 = .ok (.bastore, 1) := by decide +kernel
theorem dX1_reckon_149 : decode cX1_reckon 149 = .ok (.iload_n 1, 1) := by decide +kernel
theorem dX1_reckon_150 : decode cX1_reckon 150 = .ok (.aload_n 0, 1) := by decide +kernel
theorem dX1_reckon_151 : decode cX1_reckon 151 = .ok (.getfield 17, 3) := by decide +kernel
theorem dX1_reckon_154 : decode cX1_reckon 154 = .ok (.if_icmp .ge 56, 3) := by decide +kernel
theorem dX1_reckon_157 : decode cX1_reckon 157 = .ok (.aload_n 0, 1) := by decide +kernel
theorem dX1_reckon_158 : decode cX1_reckon 158 = .ok (.getfield 25, 3) := by decide +kernel
theorem dX1_reckon_161 : decode cX1_reckon 161 = .ok (.iload_n 2, 1) := by decide +kernel
theorem dX1_reckon_162 : decode cX1_reckon 162 = .ok (.baload, 1) := by decide +kernel
theorem dX1_reckon_163 : decode cX1_reckon 163 = .ok (.ifCond .eq 47, 3) := by decide +kernel
theorem dX1_reckon_166 : decode cX1_reckon 166 = .ok (.aload_n 0, 1) := by decide +kernel
theorem dX1_reckon_167 : decode cX1_reckon 167 = .ok (.getfield 43, 3) := by decide +kernel
theorem dX1_reckon_170 : decode cX1_reckon 170 = .ok (.iload_n 2, 1) := by decide +kernel
theorem dX1_reckon_171 : decode cX1_reckon 171 = .ok (.iaload, 1) := by decide +kernel
theorem dX1_reckon_172 : decode cX1_reckon 172 = .ok (.ifCond .lt 19, 3) := by decide +kernel
theorem dX1_reckon_175 : decode cX1_reckon 175 = .ok (.aload_n 0, 1) := by decide +kernel
theorem dX1_reckon_176 : decode cX1_reckon 176 = .ok (.getfield 21, 3) := by decide +kernel
theorem dX1_reckon_179 : decode cX1_reckon 179 = .ok (.iload_n 2, 1) := by decide +kernel
theorem dX1_reckon_180 : decode cX1_reckon 180 = .ok (.laload, 1) := by decide +kernel
theorem dX1_reckon_181 : decode cX1_reckon 181 = .ok (.aload_n 0, 1) := by decide +kernel
theorem dX1_reckon_182 : decode cX1_reckon 182 = .ok (.getfield 40, 3) := by decide +kernel
theorem dX1_reckon_185 : decode cX1_reckon 185 = .ok (.iload_n 2, 1) := by decide +kernel
theorem dX1_reckon_186 : decode cX1_reckon 186 = .ok (.laload, 1) := by decide +kernel
theorem dX1_reckon_187 : decode cX1_reckon 187 = .ok (.lcmp, 1) := by decide +kernel
theorem dX1_reckon_188 : decode cX1_reckon 188 = .ok (.ifCond .ge 22, 3) := by decide +kernel
theorem dX1_reckon_191 : decode cX1_reckon 191 = .ok (.aload_n 0, 1) := by decide +kernel
theorem dX1_reckon_192 : decode cX1_reckon 192 = .ok (.getfield 40, 3) := by decide +kernel
theorem dX1_reckon_195 : decode cX1_reckon 195 = .ok (.iload_n 2, 1) := by decide +kernel
theorem dX1_reckon_196 : decode cX1_reckon 196 = .ok (.aload_n 0, 1) := by decide +kernel
theorem dX1_reckon_197 : decode cX1_reckon 197 = .ok (.getfield 21, 3) := by decide +kernel
theorem dX1_reckon_200 : decode cX1_reckon 200 = .ok (.iload_n 2, 1) := by decide +kernel
theorem dX1_reckon_201 : decode cX1_reckon 201 = .ok (.laload, 1) := by decide +kernel
theorem dX1_reckon_202 : decode cX1_reckon 202 = .ok (.lastore, 1) := by decide +kernel
theorem dX1_reckon_203 : decode cX1_reckon 203 = .ok (.aload_n 0, 1) := by decide +kernel
theorem dX1_reckon_204 : decode cX1_reckon 204 = .ok (.getfield 43, 3) := by decide +kernel
theorem dX1_reckon_207 : decode cX1_reckon 207 = .ok (.iload_n 2, 1) := by decide +kernel
theorem dX1_reckon_208 : decode cX1_reckon 208 = .ok (.iload_n 1, 1) := by decide +kernel
theorem dX1_reckon_209 : decode cX1_reckon 209 = .ok (.iastore, 1) := by decide +kernel
theorem dX1_reckon_210 : decode cX1_reckon 210 = .ok (.iinc 2 1, 3) := by decide +kernel
theorem dX1_reckon_213 : decode cX1_reckon 213 = .ok (.goto (-99), 3) := by decide +kernel
theorem dX1_reckon_216 : decode cX1_reckon 216 = .ok (.iconst 0, 1) := by decide +kernel
theorem dX1_reckon_217 : decode cX1_reckon 217 = .ok (.istore_n 2, 1) := by decide +kernel
theorem dX1_reckon_218 : decode cX1_reckon 218 = .ok (.iload_n 2, 1) := by decide +kernel
theorem dX1_reckon_219 : decode cX1_reckon 219 = .ok (.aload_n 0, 1) := by decide +kernel
theorem dX1_reckon_220 : decode cX1_reckon 220 = .ok (.getfield 17, 3) := by decide +kernel
theorem dX1_reckon_223 : decode cX1_reckon 223 = .ok (.if_icmp .ge 59, 3) := by decide +kernel
theorem dX1_reckon_226 : decode cX1_reckon 226 = .ok (.aload_n 0, 1) := by decide +kernel
theorem dX1_reckon_227 : decode cX1_reckon 227 = .ok (.getfield 37, 3) := by decide +kernel
theorem dX1_reckon_230 : decode cX1_reckon 230 = .ok (.iload_n 2, 1) := by decide +kernel
theorem dX1_reckon_231 : decode cX1_reckon 231 = .ok (.aload_n 0, 1) := by decide +kernel
theorem dX1_reckon_232 : decode cX1_reckon 232 = .ok (.getfield 37, 3) := by decide +kernel
theorem dX1_reckon_235 : decode cX1_reckon 235 = .ok (.iload_n 2, 1) := by decide +kernel
theorem dX1_reckon_236 : decode cX1_reckon 236 = .ok (.baload, 1) := by decide +kernel
theorem dX1_reckon_237 : decode cX1_reckon 237 = .ok (.ifCond .ne 33, 3) := by decide +kernel
theorem dX1_reckon_240 : decode cX1_reckon 240 = .ok (.aload_n 0, 1) := by decide +kernel
theorem dX1_reckon_241 : decode cX1_reckon 241 = .ok (.getfield 25, 3) := by decide +kernel
theorem dX1_reckon_244 : decode cX1_reckon 244 = .ok (.bipush 8, 2) := by decide +kernel
theorem dX1_reckon_246 : decode cX1_reckon 246 = .ok (.iload_n 2, 1) := by decide +kernel
theorem dX1_reckon_247 : decode cX1_reckon 247 = .ok (.imul, 1) := by decide +kernel
theorem dX1_reckon_248 : decode cX1_reckon 248 = .ok (.iload_n 2, 1) := by decide +kernel
theorem dX1_reckon_249 : decode cX1_reckon 249 = .ok (.iadd, 1) := by decide +kernel
theorem dX1_reckon_250 : decode cX1_reckon 250 = .ok (.baload, 1) := by decide +kernel
theorem dX1_reckon_251 : decode cX1_reckon 251 = .ok (.ifCond .eq 23, 3) := by decide +kernel
theorem dX1_reckon_254 : decode cX1_reckon 254 = .ok (.aload_n 0, 1) := by decide +kernel
theorem dX1_reckon_255 : decode cX1_reckon 255 = .ok (.getfield 21, 3) := by decide +kernel
theorem dX1_reckon_258 : decode cX1_reckon 258 = .ok (.bipush 8, 2) := by decide +kernel
theorem dX1_reckon_260 : decode cX1_reckon 260 = .ok (.iload_n 2, 1) := by decide +kernel
theorem dX1_reckon_261 : decode cX1_reckon 261 = .ok (.imul, 1) := by decide +kernel
theorem dX1_reckon_262 : decode cX1_reckon 262 = .ok (.iload_n 2, 1) := by decide +kernel
theorem dX1_reckon_263 : decode cX1_reckon 263 = .ok (.iadd, 1) := by decide +kernel
theorem dX1_reckon_264 : decode cX1_reckon 264 = .ok (.laload, 1) := by decide +kernel
theorem dX1_reckon_265 : decode cX1_reckon 265 = .ok (.lconst 0, 1) := by decide +kernel
theorem dX1_reckon_266 : decode cX1_reckon 266 = .ok (.lcmp, 1) := by decide +kernel
theorem dX1_reckon_267 : decode cX1_reckon 267 = .ok (.ifCond .ge 7, 3) := by decide +kernel
theorem dX1_reckon_270 : decode cX1_reckon 270 = .ok (.iconst 1, 1) := by decide +kernel
theorem dX1_reckon_271 : decode cX1_reckon 271 = .ok (.goto 4, 3) := by decide +kernel
theorem dX1_reckon_274 : decode cX1_reckon 274 = .ok (.iconst 0, 1) := by decide +kernel
theorem dX1_reckon_275 : decode cX1_reckon 275 = .ok (.bastore, 1) := by decide +kernel
theorem dX1_reckon_276 : decode cX1_reckon 276 = .ok (.iinc 2 1, 3) := by decide +kernel
theorem dX1_reckon_279 : decode cX1_reckon 279 = .ok (.goto (-61), 3) := by decide +kernel
theorem dX1_reckon_282 : decode cX1_reckon 282 = .ok (.aload_n 0, 1) := by decide +kernel
theorem dX1_reckon_283 : decode cX1_reckon 283 = .ok (.invokevirtual 55, 3) := by decide +kernel
theorem dX1_reckon_286 : decode cX1_reckon 286 = .ok (.iinc 1 1, 3) := by decide +kernel
theorem dX1_reckon_289 : decode cX1_reckon 289 = .ok (.goto (-185), 3) := by decide +kernel
theorem dX1_reckon_292 : decode cX1_reckon 292 = .ok (.return_, 1) := by decide +kernel
abbrev cX1_longer : ByteArray := prog_3_method_6_code
def yX1_longer : MethodName := ⟨RX1, "longer", "()V"⟩
theorem dX1_longer_0 : decode cX1_longer 0 = .ok (.iconst 0, 1) := by decide +kernel
theorem dX1_longer_1 : decode cX1_longer 1 = .ok (.istore_n 1, 1) := by decide +kernel
theorem dX1_longer_2 : decode cX1_longer 2 = .ok (.iload_n 1, 1) := by decide +kernel
theorem dX1_longer_3 : decode cX1_longer 3 = .ok (.aload_n 0, 1) := by decide +kernel
theorem dX1_longer_4 : decode cX1_longer 4 = .ok (.getfield 17, 3) := by decide +kernel
theorem dX1_longer_7 : decode cX1_longer 7 = .ok (.if_icmp .ge 163, 3) := by decide +kernel
theorem dX1_longer_10 : decode cX1_longer 10 = .ok (.iconst 0, 1) := by decide +kernel
theorem dX1_longer_11 : decode cX1_longer 11 = .ok (.istore_n 2, 1) := by decide +kernel
theorem dX1_longer_12 : decode cX1_longer 12 = .ok (.iload_n 2, 1) := by decide +kernel
theorem dX1_longer_13 : decode cX1_longer 13 = .ok (.aload_n 0, 1) := by decide +kernel
theorem dX1_longer_14 : decode cX1_longer 14 = .ok (.getfield 17, 3) := by decide +kernel
theorem dX1_longer_17 : decode cX1_longer 17 = .ok (.if_icmp .ge 147, 3) := by decide +kernel
theorem dX1_longer_20 : decode cX1_longer 20 = .ok (.aload_n 0, 1) := by decide +kernel
theorem dX1_longer_21 : decode cX1_longer 21 = .ok (.getfield 31, 3) := by decide +kernel
theorem dX1_longer_24 : decode cX1_longer 24 = .ok (.bipush 8, 2) := by decide +kernel
theorem dX1_longer_26 : decode cX1_longer 26 = .ok (.iload_n 1, 1) := by decide +kernel
theorem dX1_longer_27 : decode cX1_longer 27 = .ok (.imul, 1) := by decide +kernel
theorem dX1_longer_28 : decode cX1_longer 28 = .ok (.iload_n 2, 1) := by decide +kernel
theorem dX1_longer_29 : decode cX1_longer 29 = .ok (.iadd, 1) := by decide +kernel
theorem dX1_longer_30 : decode cX1_longer 30 = .ok (.iconst 0, 1) := by decide +kernel
theorem dX1_longer_31 : decode cX1_longer 31 = .ok (.bastore, 1) := by decide +kernel
theorem dX1_longer_32 : decode cX1_longer 32 = .ok (.iconst 0, 1) := by decide +kernel
theorem dX1_longer_33 : decode cX1_longer 33 = .ok (.istore_n 3, 1) := by decide +kernel
theorem dX1_longer_34 : decode cX1_longer 34 = .ok (.iload_n 3, 1) := by decide +kernel
theorem dX1_longer_35 : decode cX1_longer 35 = .ok (.aload_n 0, 1) := by decide +kernel
theorem dX1_longer_36 : decode cX1_longer 36 = .ok (.getfield 17, 3) := by decide +kernel
theorem dX1_longer_39 : decode cX1_longer 39 = .ok (.if_icmp .ge 119, 3) := by decide +kernel
theorem dX1_longer_42 : decode cX1_longer 42 = .ok (.aload_n 0, 1) := by decide +kernel
theorem dX1_longer_43 : decode cX1_longer 43 = .ok (.getfield 25, 3) := by decide +kernel
theorem dX1_longer_46 : decode cX1_longer 46 = .ok (.bipush 8, 2) := by decide +kernel
theorem dX1_longer_48 : decode cX1_longer 48 = .ok (.iload_n 1, 1) := by decide +kernel
theorem dX1_longer_49 : decode cX1_longer 49 = .ok (.imul, 1) := by decide +kernel
theorem dX1_longer_50 : decode cX1_longer 50 = .ok (.iload_n 3, 1) := by decide +kernel
theorem dX1_longer_51 : decode cX1_longer 51 = .ok (.iadd, 1) := by decide +kernel
theorem dX1_longer_52 : decode cX1_longer 52 = .ok (.baload, 1) := by decide +kernel
theorem dX1_longer_53 : decode cX1_longer 53 = .ok (.ifCond .eq 99, 3) := by decide +kernel
theorem dX1_longer_56 : decode cX1_longer 56 = .ok (.aload_n 0, 1) := by decide +kernel
theorem dX1_longer_57 : decode cX1_longer 57 = .ok (.getfield 13, 3) := by decide +kernel
theorem dX1_longer_60 : decode cX1_longer 60 = .ok (.bipush 8, 2) := by decide +kernel
theorem dX1_longer_62 : decode cX1_longer 62 = .ok (.iload_n 3, 1) := by decide +kernel
theorem dX1_longer_63 : decode cX1_longer 63 = .ok (.imul, 1) := by decide +kernel
theorem dX1_longer_64 : decode cX1_longer 64 = .ok (.iload_n 2, 1) := by decide +kernel
theorem dX1_longer_65 : decode cX1_longer 65 = .ok (.iadd, 1) := by decide +kernel
theorem dX1_longer_66 : decode cX1_longer 66 = .ok (.baload, 1) := by decide +kernel
theorem dX1_longer_67 : decode cX1_longer 67 = .ok (.ifCond .eq 85, 3) := by decide +kernel
theorem dX1_longer_70 : decode cX1_longer 70 = .ok (.aload_n 0, 1) := by decide +kernel
theorem dX1_longer_71 : decode cX1_longer 71 = .ok (.getfield 21, 3) := by decide +kernel
theorem dX1_longer_74 : decode cX1_longer 74 = .ok (.bipush 8, 2) := by decide +kernel
theorem dX1_longer_76 : decode cX1_longer 76 = .ok (.iload_n 1, 1) := by decide +kernel
theorem dX1_longer_77 : decode cX1_longer 77 = .ok (.imul, 1) := by decide +kernel
theorem dX1_longer_78 : decode cX1_longer 78 = .ok (.iload_n 3, 1) := by decide +kernel
theorem dX1_longer_79 : decode cX1_longer 79 = .ok (.iadd, 1) := by decide +kernel
theorem dX1_longer_80 : decode cX1_longer 80 = .ok (.laload, 1) := by decide +kernel
theorem dX1_longer_81 : decode cX1_longer 81 = .ok (.aload_n 0, 1) := by decide +kernel
theorem dX1_longer_82 : decode cX1_longer 82 = .ok (.getfield 7, 3) := by decide +kernel
theorem dX1_longer_85 : decode cX1_longer 85 = .ok (.bipush 8, 2) := by decide +kernel
theorem dX1_longer_87 : decode cX1_longer 87 = .ok (.iload_n 3, 1) := by decide +kernel
theorem dX1_longer_88 : decode cX1_longer 88 = .ok (.imul, 1) := by decide +kernel
theorem dX1_longer_89 : decode cX1_longer 89 = .ok (.iload_n 2, 1) := by decide +kernel
theorem dX1_longer_90 : decode cX1_longer 90 = .ok (.iadd, 1) := by decide +kernel
theorem dX1_longer_91 : decode cX1_longer 91 = .ok (.iaload, 1) := by decide +kernel
theorem dX1_longer_92 : decode cX1_longer 92 = .ok (.i2l, 1) := by decide +kernel
theorem dX1_longer_93 : decode cX1_longer 93 = .ok (.ladd, 1) := by decide +kernel
theorem dX1_longer_94 : decode cX1_longer 94 = .ok (.lstore 4, 2) := by decide +kernel
theorem dX1_longer_96 : decode cX1_longer 96 = .ok (.aload_n 0, 1) := by decide +kernel
theorem dX1_longer_97 : decode cX1_longer 97 = .ok (.getfield 31, 3) := by decide +kernel
theorem dX1_longer_100 : decode cX1_longer 100 = .ok (.bipush 8, 2) := by decide +kernel
theorem dX1_longer_102 : decode cX1_longer 102 = .ok (.iload_n 1, 1) := by decide +kernel
theorem dX1_longer_103 : decode cX1_longer 103 = .ok (.imul, 1) := by decide +kernel
theorem dX1_longer_104 : decode cX1_longer 104 = .ok (.iload_n 2, 1) := by decide +kernel
theorem dX1_longer_105 : decode cX1_longer 105 = .ok (.iadd, 1) := by decide +kernel
theorem dX1_longer_106 : decode cX1_longer 106 = .ok (.baload, 1) := by decide +kernel
theorem dX1_longer_107 : decode cX1_longer 107 = .ok (.ifCond .eq 20, 3) := by decide +kernel
theorem dX1_longer_110 : decode cX1_longer 110 = .ok (.lload 4, 2) := by decide +kernel
theorem dX1_longer_112 : decode cX1_longer 112 = .ok (.aload_n 0, 1) := by decide +kernel
theorem dX1_longer_113 : decode cX1_longer 113 = .ok (.getfield 28, 3) := by decide +kernel
theorem dX1_longer_116 : decode cX1_longer 116 = .ok (.bipush 8, 2) := by decide +kernel
theorem dX1_longer_118 : decode cX1_longer 118 = .ok (.iload_n 1, 1) := by decide +kernel
theorem dX1_longer_119 : decode cX1_longer 119 = .ok (.imul, 1) := by decide +kernel
theorem dX1_longer_120 : decode cX1_longer 120 = .ok (.iload_n 2, 1) := by decide +kernel
theorem dX1_longer_121 : decode cX1_longer 121 = .ok (.iadd, 1) := by decide +kernel
theorem dX1_longer_122 : decode cX1_longer 122 = .ok (.laload, 1) := by decide +kernel
theorem dX1_longer_123 : decode cX1_longer 123 = .ok (.lcmp, 1) := by decide +kernel
theorem dX1_longer_124 : decode cX1_longer 124 = .ok (.ifCond .ge 28, 3) := by decide +kernel
theorem dX1_longer_127 : decode cX1_longer 127 = .ok (.aload_n 0, 1) := by decide +kernel
theorem dX1_longer_128 : decode cX1_longer 128 = .ok (.getfield 28, 3) := by decide +kernel
theorem dX1_longer_131 : decode cX1_longer 131 = .ok (.bipush 8, 2) := by decide +kernel
theorem dX1_longer_133 : decode cX1_longer 133 = .ok (.iload_n 1, 1) := by decide +kernel
theorem dX1_longer_134 : decode cX1_longer 134 = .ok (.imul, 1) := by decide +kernel
theorem dX1_longer_135 : decode cX1_longer 135 = .ok (.iload_n 2, 1) := by decide +kernel
theorem dX1_longer_136 : decode cX1_longer 136 = .ok (.iadd, 1) := by decide +kernel
theorem dX1_longer_137 : decode cX1_longer 137 = .ok (.lload 4, 2) := by decide +kernel
theorem dX1_longer_139 : decode cX1_longer 139 = .ok (.lastore, 1) := by decide +kernel
theorem dX1_longer_140 : decode cX1_longer 140 = .ok (.aload_n 0, 1) := by decide +kernel
theorem dX1_longer_141 : decode cX1_longer 141 = .ok (.getfield 31, 3) := by decide +kernel
theorem dX1_longer_144 : decode cX1_longer 144 = .ok (.bipush 8, 2) := by decide +kernel
theorem dX1_longer_146 : decode cX1_longer 146 = .ok (.iload_n 1, 1) := by decide +kernel
theorem dX1_longer_147 : decode cX1_longer 147 = .ok (.imul, 1) := by decide +kernel
theorem dX1_longer_148 : decode cX1_longer 148 = .ok (.iload_n 2, 1) := by decide +kernel
theorem dX1_longer_149 : decode cX1_longer 149 = .ok (.iadd, 1) := by decide +kernel
theorem dX1_longer_150 : decode cX1_longer 150 = .ok (.iconst 1, 1) := by decide +kernel
theorem dX1_longer_151 : decode cX1_longer 151 = .ok (.bastore, 1) := by decide +kernel
theorem dX1_longer_152 : decode cX1_longer 152 = .ok (.iinc 3 1, 3) := by decide +kernel
theorem dX1_longer_155 : decode cX1_longer 155 = .ok (.goto (-121), 3) := by decide +kernel
theorem dX1_longer_158 : decode cX1_longer 158 = .ok (.iinc 2 1, 3) := by decide +kernel
theorem dX1_longer_161 : decode cX1_longer 161 = .ok (.goto (-149), 3) := by decide +kernel
theorem dX1_longer_164 : decode cX1_longer 164 = .ok (.iinc 1 1, 3) := by decide +kernel
theorem dX1_longer_167 : decode cX1_longer 167 = .ok (.goto (-165), 3) := by decide +kernel
theorem dX1_longer_170 : decode cX1_longer 170 = .ok (.iconst 0, 1) := by decide +kernel
theorem dX1_longer_171 : decode cX1_longer 171 = .ok (.istore_n 1, 1) := by decide +kernel
theorem dX1_longer_172 : decode cX1_longer 172 = .ok (.iload_n 1, 1) := by decide +kernel
theorem dX1_longer_173 : decode cX1_longer 173 = .ok (.bipush 64, 2) := by decide +kernel
theorem dX1_longer_175 : decode cX1_longer 175 = .ok (.if_icmp .ge 33, 3) := by decide +kernel
theorem dX1_longer_178 : decode cX1_longer 178 = .ok (.aload_n 0, 1) := by decide +kernel
theorem dX1_longer_179 : decode cX1_longer 179 = .ok (.getfield 21, 3) := by decide +kernel
theorem dX1_longer_182 : decode cX1_longer 182 = .ok (.iload_n 1, 1) := by decide +kernel
theorem dX1_longer_183 : decode cX1_longer 183 = .ok (.aload_n 0, 1) := by decide +kernel
theorem dX1_longer_184 : decode cX1_longer 184 = .ok (.getfield 28, 3) := by decide +kernel
theorem dX1_longer_187 : decode cX1_longer 187 = .ok (.iload_n 1, 1) := by decide +kernel
theorem dX1_longer_188 : decode cX1_longer 188 = .ok (.laload, 1) := by decide +kernel
theorem dX1_longer_189 : decode cX1_longer 189 = .ok (.lastore, 1) := by decide +kernel
theorem dX1_longer_190 : decode cX1_longer 190 = .ok (.aload_n 0, 1) := by decide +kernel
theorem dX1_longer_191 : decode cX1_longer 191 = .ok (.getfield 25, 3) := by decide +kernel
theorem dX1_longer_194 : decode cX1_longer 194 = .ok (.iload_n 1, 1) := by decide +kernel
theorem dX1_longer_195 : decode cX1_longer 195 = .ok (.aload_n 0, 1) := by decide +kernel
theorem dX1_longer_196 : decode cX1_longer 196 = .ok (.getfield 31, 3) := by decide +kernel
theorem dX1_longer_199 : decode cX1_longer 199 = .ok (.iload_n 1, 1) := by decide +kernel
theorem dX1_longer_200 : decode cX1_longer 200 = .ok (.baload, 1) := by decide +kernel
theorem dX1_longer_201 : decode cX1_longer 201 = .ok (.bastore, 1) := by decide +kernel
theorem dX1_longer_202 : decode cX1_longer 202 = .ok (.iinc 1 1, 3) := by decide +kernel
theorem dX1_longer_205 : decode cX1_longer 205 = .ok (.goto (-33), 3) := by decide +kernel
theorem dX1_longer_208 : decode cX1_longer 208 = .ok (.return_, 1) := by decide +kernel
abbrev cX1_circle : ByteArray := prog_3_method_9_code
def yX1_circle : MethodName := ⟨RX1, "circle", "()Z"⟩
theorem dX1_circle_0 : decode cX1_circle 0 = .ok (.aload_n 0, 1) := by decide +kernel
theorem dX1_circle_1 : decode cX1_circle 1 = .ok (.invokevirtual 58, 3) := by decide +kernel
theorem dX1_circle_4 : decode cX1_circle 4 = .ok (.iconst 0, 1) := by decide +kernel
theorem dX1_circle_5 : decode cX1_circle 5 = .ok (.istore_n 1, 1) := by decide +kernel
theorem dX1_circle_6 : decode cX1_circle 6 = .ok (.iconst 0, 1) := by decide +kernel
theorem dX1_circle_7 : decode cX1_circle 7 = .ok (.istore_n 2, 1) := by decide +kernel
theorem dX1_circle_8 : decode cX1_circle 8 = .ok (.iload_n 2, 1) := by decide +kernel
theorem dX1_circle_9 : decode cX1_circle 9 = .ok (.aload_n 0, 1) := by decide +kernel
theorem dX1_circle_10 : decode cX1_circle 10 = .ok (.getfield 17, 3) := by decide +kernel
theorem dX1_circle_13 : decode cX1_circle 13 = .ok (.if_icmp .ge 28, 3) := by decide +kernel
theorem dX1_circle_16 : decode cX1_circle 16 = .ok (.iload_n 1, 1) := by decide +kernel
theorem dX1_circle_17 : decode cX1_circle 17 = .ok (.ifCond .ne 12, 3) := by decide +kernel
theorem dX1_circle_20 : decode cX1_circle 20 = .ok (.aload_n 0, 1) := by decide +kernel
theorem dX1_circle_21 : decode cX1_circle 21 = .ok (.getfield 37, 3) := by decide +kernel
theorem dX1_circle_24 : decode cX1_circle 24 = .ok (.iload_n 2, 1) := by decide +kernel
theorem dX1_circle_25 : decode cX1_circle 25 = .ok (.baload, 1) := by decide +kernel
theorem dX1_circle_26 : decode cX1_circle 26 = .ok (.ifCond .eq 7, 3) := by decide +kernel
theorem dX1_circle_29 : decode cX1_circle 29 = .ok (.iconst 1, 1) := by decide +kernel
theorem dX1_circle_30 : decode cX1_circle 30 = .ok (.goto 4, 3) := by decide +kernel
theorem dX1_circle_33 : decode cX1_circle 33 = .ok (.iconst 0, 1) := by decide +kernel
theorem dX1_circle_34 : decode cX1_circle 34 = .ok (.istore_n 1, 1) := by decide +kernel
theorem dX1_circle_35 : decode cX1_circle 35 = .ok (.iinc 2 1, 3) := by decide +kernel
theorem dX1_circle_38 : decode cX1_circle 38 = .ok (.goto (-30), 3) := by decide +kernel
theorem dX1_circle_41 : decode cX1_circle 41 = .ok (.iload_n 1, 1) := by decide +kernel
theorem dX1_circle_42 : decode cX1_circle 42 = .ok (.ireturn, 1) := by decide +kernel
abbrev cX1_kind : ByteArray := prog_3_method_10_code
def yX1_kind : MethodName := ⟨RX1, "kind", "(II)I"⟩
theorem dX1_kind_0 : decode cX1_kind 0 = .ok (.aload_n 0, 1) := by decide +kernel
theorem dX1_kind_1 : decode cX1_kind 1 = .ok (.invokevirtual 58, 3) := by decide +kernel
theorem dX1_kind_4 : decode cX1_kind 4 = .ok (.aload_n 0, 1) := by decide +kernel
theorem dX1_kind_5 : decode cX1_kind 5 = .ok (.iload_n 1, 1) := by decide +kernel
theorem dX1_kind_6 : decode cX1_kind 6 = .ok (.invokevirtual 51, 3) := by decide +kernel
theorem dX1_kind_9 : decode cX1_kind 9 = .ok (.istore_n 3, 1) := by decide +kernel
theorem dX1_kind_10 : decode cX1_kind 10 = .ok (.aload_n 0, 1) := by decide +kernel
theorem dX1_kind_11 : decode cX1_kind 11 = .ok (.iload_n 2, 1) := by decide +kernel
theorem dX1_kind_12 : decode cX1_kind 12 = .ok (.invokevirtual 51, 3) := by decide +kernel
theorem dX1_kind_15 : decode cX1_kind 15 = .ok (.istore 4, 2) := by decide +kernel
theorem dX1_kind_17 : decode cX1_kind 17 = .ok (.aload_n 0, 1) := by decide +kernel
theorem dX1_kind_18 : decode cX1_kind 18 = .ok (.getfield 34, 3) := by decide +kernel
theorem dX1_kind_21 : decode cX1_kind 21 = .ok (.bipush 8, 2) := by decide +kernel
theorem dX1_kind_23 : decode cX1_kind 23 = .ok (.iload_n 3, 1) := by decide +kernel
theorem dX1_kind_24 : decode cX1_kind 24 = .ok (.imul, 1) := by decide +kernel
theorem dX1_kind_25 : decode cX1_kind 25 = .ok (.iload 4, 2) := by decide +kernel
theorem dX1_kind_27 : decode cX1_kind 27 = .ok (.iadd, 1) := by decide +kernel
theorem dX1_kind_28 : decode cX1_kind 28 = .ok (.baload, 1) := by decide +kernel
theorem dX1_kind_29 : decode cX1_kind 29 = .ok (.ifCond .ne 5, 3) := by decide +kernel
theorem dX1_kind_32 : decode cX1_kind 32 = .ok (.iconst (-1), 1) := by decide +kernel
theorem dX1_kind_33 : decode cX1_kind 33 = .ok (.ireturn, 1) := by decide +kernel
theorem dX1_kind_34 : decode cX1_kind 34 = .ok (.iconst 0, 1) := by decide +kernel
theorem dX1_kind_35 : decode cX1_kind 35 = .ok (.istore 5, 2) := by decide +kernel
theorem dX1_kind_37 : decode cX1_kind 37 = .ok (.iload 5, 2) := by decide +kernel
theorem dX1_kind_39 : decode cX1_kind 39 = .ok (.aload_n 0, 1) := by decide +kernel
theorem dX1_kind_40 : decode cX1_kind 40 = .ok (.getfield 17, 3) := by decide +kernel
theorem dX1_kind_43 : decode cX1_kind 43 = .ok (.if_icmp .ge 52, 3) := by decide +kernel
theorem dX1_kind_46 : decode cX1_kind 46 = .ok (.aload_n 0, 1) := by decide +kernel
theorem dX1_kind_47 : decode cX1_kind 47 = .ok (.getfield 37, 3) := by decide +kernel
theorem dX1_kind_50 : decode cX1_kind 50 = .ok (.iload 5, 2) := by decide +kernel
theorem dX1_kind_52 : decode cX1_kind 52 = .ok (.baload, 1) := by decide +kernel
theorem dX1_kind_53 : decode cX1_kind 53 = .ok (.ifCond .eq 36, 3) := by decide +kernel
theorem dX1_kind_56 : decode cX1_kind 56 = .ok (.aload_n 0, 1) := by decide +kernel
theorem dX1_kind_57 : decode cX1_kind 57 = .ok (.getfield 34, 3) := by decide +kernel
theorem dX1_kind_60 : decode cX1_kind 60 = .ok (.bipush 8, 2) := by decide +kernel
theorem dX1_kind_62 : decode cX1_kind 62 = .ok (.iload_n 3, 1) := by decide +kernel
theorem dX1_kind_63 : decode cX1_kind 63 = .ok (.imul, 1) := by decide +kernel
theorem dX1_kind_64 : decode cX1_kind 64 = .ok (.iload 5, 2) := by decide +kernel
theorem dX1_kind_66 : decode cX1_kind 66 = .ok (.iadd, 1) := by decide +kernel
theorem dX1_kind_67 : decode cX1_kind 67 = .ok (.baload, 1) := by decide +kernel
theorem dX1_kind_68 : decode cX1_kind 68 = .ok (.ifCond .eq 21, 3) := by decide +kernel
theorem dX1_kind_71 : decode cX1_kind 71 = .ok (.aload_n 0, 1) := by decide +kernel
theorem dX1_kind_72 : decode cX1_kind 72 = .ok (.getfield 34, 3) := by decide +kernel
theorem dX1_kind_75 : decode cX1_kind 75 = .ok (.bipush 8, 2) := by decide +kernel
theorem dX1_kind_77 : decode cX1_kind 77 = .ok (.iload 5, 2) := by decide +kernel
theorem dX1_kind_79 : decode cX1_kind 79 = .ok (.imul, 1) := by decide +kernel
theorem dX1_kind_80 : decode cX1_kind 80 = .ok (.iload 4, 2) := by decide +kernel
theorem dX1_kind_82 : decode cX1_kind 82 = .ok (.iadd, 1) := by decide +kernel
theorem dX1_kind_83 : decode cX1_kind 83 = .ok (.baload, 1) := by decide +kernel
theorem dX1_kind_84 : decode cX1_kind 84 = .ok (.ifCond .eq 5, 3) := by decide +kernel
theorem dX1_kind_87 : decode cX1_kind 87 = .ok (.iconst 1, 1) := by decide +kernel
theorem dX1_kind_88 : decode cX1_kind 88 = .ok (.ireturn, 1) := by decide +kernel
theorem dX1_kind_89 : decode cX1_kind 89 = .ok (.iinc 5 1, 3) := by decide +kernel
theorem dX1_kind_92 : decode cX1_kind 92 = .ok (.goto (-55), 3) := by decide +kernel
theorem dX1_kind_95 : decode cX1_kind 95 = .ok (.iconst 0, 1) := by decide +kernel
theorem dX1_kind_96 : decode cX1_kind 96 = .ok (.ireturn, 1) := by decide +kernel
abbrev cX1_least : ByteArray := prog_3_method_11_code
def yX1_least : MethodName := ⟨RX1, "least", "(II)J"⟩
theorem dX1_least_0 : decode cX1_least 0 = .ok (.aload_n 0, 1) := by decide +kernel
theorem dX1_least_1 : decode cX1_least 1 = .ok (.iload_n 1, 1) := by decide +kernel
theorem dX1_least_2 : decode cX1_least 2 = .ok (.iload_n 2, 1) := by decide +kernel
theorem dX1_least_3 : decode cX1_least 3 = .ok (.invokevirtual 61, 3) := by decide +kernel
theorem dX1_least_6 : decode cX1_least 6 = .ok (.ifCond .eq 7, 3) := by decide +kernel
theorem dX1_least_9 : decode cX1_least 9 = .ok (.lconst 0, 1) := by decide +kernel
theorem dX1_least_10 : decode cX1_least 10 = .ok (.goto 22, 3) := by decide +kernel
theorem dX1_least_13 : decode cX1_least 13 = .ok (.aload_n 0, 1) := by decide +kernel
theorem dX1_least_14 : decode cX1_least 14 = .ok (.getfield 40, 3) := by decide +kernel
theorem dX1_least_17 : decode cX1_least 17 = .ok (.bipush 8, 2) := by decide +kernel
theorem dX1_least_19 : decode cX1_least 19 = .ok (.aload_n 0, 1) := by decide +kernel
theorem dX1_least_20 : decode cX1_least 20 = .ok (.iload_n 1, 1) := by decide +kernel
theorem dX1_least_21 : decode cX1_least 21 = .ok (.invokevirtual 51, 3) := by decide +kernel
theorem dX1_least_24 : decode cX1_least 24 = .ok (.imul, 1) := by decide +kernel
theorem dX1_least_25 : decode cX1_least 25 = .ok (.aload_n 0, 1) := by decide +kernel
theorem dX1_least_26 : decode cX1_least 26 = .ok (.iload_n 2, 1) := by decide +kernel
theorem dX1_least_27 : decode cX1_least 27 = .ok (.invokevirtual 51, 3) := by decide +kernel
theorem dX1_least_30 : decode cX1_least 30 = .ok (.iadd, 1) := by decide +kernel
theorem dX1_least_31 : decode cX1_least 31 = .ok (.laload, 1) := by decide +kernel
theorem dX1_least_32 : decode cX1_least 32 = .ok (.lreturn, 1) := by decide +kernel
abbrev cX1_roads : ByteArray := prog_3_method_12_code
def yX1_roads : MethodName := ⟨RX1, "roads", "(II)I"⟩
theorem dX1_roads_0 : decode cX1_roads 0 = .ok (.aload_n 0, 1) := by decide +kernel
theorem dX1_roads_1 : decode cX1_roads 1 = .ok (.iload_n 1, 1) := by decide +kernel
theorem dX1_roads_2 : decode cX1_roads 2 = .ok (.iload_n 2, 1) := by decide +kernel
theorem dX1_roads_3 : decode cX1_roads 3 = .ok (.invokevirtual 61, 3) := by decide +kernel
theorem dX1_roads_6 : decode cX1_roads 6 = .ok (.ifCond .eq 7, 3) := by decide +kernel
theorem dX1_roads_9 : decode cX1_roads 9 = .ok (.iconst (-1), 1) := by decide +kernel
theorem dX1_roads_10 : decode cX1_roads 10 = .ok (.goto 22, 3) := by decide +kernel
theorem dX1_roads_13 : decode cX1_roads 13 = .ok (.aload_n 0, 1) := by decide +kernel
theorem dX1_roads_14 : decode cX1_roads 14 = .ok (.getfield 43, 3) := by decide +kernel
theorem dX1_roads_17 : decode cX1_roads 17 = .ok (.bipush 8, 2) := by decide +kernel
theorem dX1_roads_19 : decode cX1_roads 19 = .ok (.aload_n 0, 1) := by decide +kernel
theorem dX1_roads_20 : decode cX1_roads 20 = .ok (.iload_n 1, 1) := by decide +kernel
theorem dX1_roads_21 : decode cX1_roads 21 = .ok (.invokevirtual 51, 3) := by decide +kernel
theorem dX1_roads_24 : decode cX1_roads 24 = .ok (.imul, 1) := by decide +kernel
theorem dX1_roads_25 : decode cX1_roads 25 = .ok (.aload_n 0, 1) := by decide +kernel
theorem dX1_roads_26 : decode cX1_roads 26 = .ok (.iload_n 2, 1) := by decide +kernel
theorem dX1_roads_27 : decode cX1_roads 27 = .ok (.invokevirtual 51, 3) := by decide +kernel
theorem dX1_roads_30 : decode cX1_roads 30 = .ok (.iadd, 1) := by decide +kernel
theorem dX1_roads_31 : decode cX1_roads 31 = .ok (.iaload, 1) := by decide +kernel
theorem dX1_roads_32 : decode cX1_roads 32 = .ok (.ireturn, 1) := by decide +kernel
theorem q10 : (Jvm.Cond.initialized "RouteDeskModel") ∈ lw_all := lw_g (lw_at lw_m0 2 rfl) rfl
theorem q97 : (Jvm.Cond.instantiable "RouteDeskModel" (12 : Nat)) ∈ lw_all := lw_g (lw_at lw_m0 89 rfl) rfl
theorem q99 : (Jvm.Cond.instanceMethod ({ cls := "RouteDeskModel", name := "<init>", desc := "()V" } : Jvm.MethodName)) ∈ lw_all := lw_g (lw_at lw_m0 91 rfl) rfl
theorem q100 : (Jvm.Cond.code ({ cls := "RouteDeskModel", name := "<init>", desc := "()V" } : Jvm.MethodName) prog_3_method_1_code (1 : Nat) (Option.none : Option Jvm.ClassFile.FieldType)) ∈ lw_all := lw_g (lw_at lw_m0 92 rfl) rfl
theorem q101 : (Jvm.Cond.methodLink "RouteDeskModel" (1 : Nat) ({ cls := "java/lang/Object", name := "<init>", desc := "()V" } : Jvm.MethodName)) ∈ lw_all := lw_g (lw_at lw_m0 93 rfl) rfl
theorem q102 : (Jvm.Cond.fieldLink "RouteDeskModel" (7 : Nat) "RouteDeskModel" "cost" "[I") ∈ lw_all := lw_g (lw_at lw_m0 94 rfl) rfl
theorem q103 : (Jvm.Cond.fieldLink "RouteDeskModel" (13 : Nat) "RouteDeskModel" "road" "[Z") ∈ lw_all := lw_g (lw_at lw_m0 95 rfl) rfl
theorem q104 : (Jvm.Cond.fieldLink "RouteDeskModel" (17 : Nat) "RouteDeskModel" "n" "I") ∈ lw_all := lw_g (lw_at lw_m0 96 rfl) rfl
theorem q105 : (Jvm.Cond.fieldLink "RouteDeskModel" (46 : Nat) "RouteDeskModel" "known" "Z") ∈ lw_all := lw_g (lw_at lw_m0 97 rfl) rfl
theorem q106 : (Jvm.Cond.fieldLink "RouteDeskModel" (21 : Nat) "RouteDeskModel" "d" "[J") ∈ lw_all := lw_g (lw_at lw_m0 98 rfl) rfl
theorem q107 : (Jvm.Cond.fieldLink "RouteDeskModel" (25 : Nat) "RouteDeskModel" "is" "[Z") ∈ lw_all := lw_g (lw_at lw_m0 99 rfl) rfl
theorem q108 : (Jvm.Cond.fieldLink "RouteDeskModel" (28 : Nat) "RouteDeskModel" "e" "[J") ∈ lw_all := lw_g (lw_at lw_m0 100 rfl) rfl
theorem q109 : (Jvm.Cond.fieldLink "RouteDeskModel" (31 : Nat) "RouteDeskModel" "ie" "[Z") ∈ lw_all := lw_g (lw_at lw_m0 101 rfl) rfl
theorem q110 : (Jvm.Cond.fieldLink "RouteDeskModel" (34 : Nat) "RouteDeskModel" "reach" "[Z") ∈ lw_all := lw_g (lw_at lw_m0 102 rfl) rfl
theorem q111 : (Jvm.Cond.fieldLink "RouteDeskModel" (37 : Nat) "RouteDeskModel" "bad" "[Z") ∈ lw_all := lw_g (lw_at lw_m0 103 rfl) rfl
theorem q112 : (Jvm.Cond.fieldLink "RouteDeskModel" (40 : Nat) "RouteDeskModel" "best" "[J") ∈ lw_all := lw_g (lw_at lw_m0 104 rfl) rfl
theorem q113 : (Jvm.Cond.fieldLink "RouteDeskModel" (43 : Nat) "RouteDeskModel" "few" "[I") ∈ lw_all := lw_g (lw_at lw_m0 105 rfl) rfl
theorem q114 : (Jvm.Cond.laysFinal "RouteDeskModel" "RouteDeskModel" "cost" "[I") ∈ lw_all := lw_g (lw_at lw_m0 106 rfl) rfl
theorem q115 : (Jvm.Cond.soleField "RouteDeskModel" "cost") ∈ lw_all := lw_g (lw_at lw_m0 107 rfl) rfl
theorem q116 : (Jvm.Cond.laysFinal "RouteDeskModel" "RouteDeskModel" "road" "[Z") ∈ lw_all := lw_g (lw_at lw_m0 108 rfl) rfl
theorem q117 : (Jvm.Cond.soleField "RouteDeskModel" "road") ∈ lw_all := lw_g (lw_at lw_m0 109 rfl) rfl
theorem q118 : (Jvm.Cond.lays "RouteDeskModel" "RouteDeskModel" "n" "I") ∈ lw_all := lw_g (lw_at lw_m0 110 rfl) rfl
theorem q119 : (Jvm.Cond.soleField "RouteDeskModel" "n") ∈ lw_all := lw_g (lw_at lw_m0 111 rfl) rfl
theorem q120 : (Jvm.Cond.lays "RouteDeskModel" "RouteDeskModel" "known" "Z") ∈ lw_all := lw_g (lw_at lw_m0 112 rfl) rfl
theorem q121 : (Jvm.Cond.soleField "RouteDeskModel" "known") ∈ lw_all := lw_g (lw_at lw_m0 113 rfl) rfl
theorem q122 : (Jvm.Cond.laysFinal "RouteDeskModel" "RouteDeskModel" "d" "[J") ∈ lw_all := lw_g (lw_at lw_m0 114 rfl) rfl
theorem q123 : (Jvm.Cond.soleField "RouteDeskModel" "d") ∈ lw_all := lw_g (lw_at lw_m0 115 rfl) rfl
theorem q124 : (Jvm.Cond.laysFinal "RouteDeskModel" "RouteDeskModel" "is" "[Z") ∈ lw_all := lw_g (lw_at lw_m0 116 rfl) rfl
theorem q125 : (Jvm.Cond.soleField "RouteDeskModel" "is") ∈ lw_all := lw_g (lw_at lw_m0 117 rfl) rfl
theorem q126 : (Jvm.Cond.laysFinal "RouteDeskModel" "RouteDeskModel" "e" "[J") ∈ lw_all := lw_g (lw_at lw_m0 118 rfl) rfl
theorem q127 : (Jvm.Cond.soleField "RouteDeskModel" "e") ∈ lw_all := lw_g (lw_at lw_m0 119 rfl) rfl
theorem q128 : (Jvm.Cond.laysFinal "RouteDeskModel" "RouteDeskModel" "ie" "[Z") ∈ lw_all := lw_g (lw_at lw_m0 120 rfl) rfl
theorem q129 : (Jvm.Cond.soleField "RouteDeskModel" "ie") ∈ lw_all := lw_g (lw_at lw_m0 121 rfl) rfl
theorem q130 : (Jvm.Cond.laysFinal "RouteDeskModel" "RouteDeskModel" "reach" "[Z") ∈ lw_all := lw_g (lw_at lw_m0 122 rfl) rfl
theorem q131 : (Jvm.Cond.soleField "RouteDeskModel" "reach") ∈ lw_all := lw_g (lw_at lw_m0 123 rfl) rfl
theorem q132 : (Jvm.Cond.laysFinal "RouteDeskModel" "RouteDeskModel" "bad" "[Z") ∈ lw_all := lw_g (lw_at lw_m0 124 rfl) rfl
theorem q133 : (Jvm.Cond.soleField "RouteDeskModel" "bad") ∈ lw_all := lw_g (lw_at lw_m0 125 rfl) rfl
theorem q134 : (Jvm.Cond.laysFinal "RouteDeskModel" "RouteDeskModel" "best" "[J") ∈ lw_all := lw_g (lw_at lw_m0 126 rfl) rfl
theorem q135 : (Jvm.Cond.soleField "RouteDeskModel" "best") ∈ lw_all := lw_g (lw_at lw_m0 127 rfl) rfl
theorem q136 : (Jvm.Cond.laysFinal "RouteDeskModel" "RouteDeskModel" "few" "[I") ∈ lw_all := lw_g (lw_at lw_m0 128 rfl) rfl
theorem q137 : (Jvm.Cond.soleField "RouteDeskModel" "few") ∈ lw_all := lw_g (lw_at lw_m0 129 rfl) rfl
theorem q138 : (Jvm.Cond.superclass "RouteDeskModel" "java/lang/Object") ∈ lw_all := lw_g (lw_at lw_m0 130 rfl) rfl
theorem q142 : (Jvm.Cond.instanceMethod ({ cls := "RouteDeskModel", name := "places", desc := "(I)V" } : Jvm.MethodName)) ∈ lw_all := lw_g (lw_at lw_m0 134 rfl) rfl
theorem q143 : (Jvm.Cond.selects "RouteDeskModel" ({ cls := "RouteDeskModel", name := "places", desc := "(I)V" } : Jvm.MethodName) ({ cls := "RouteDeskModel", name := "places", desc := "(I)V" } : Jvm.MethodName)) ∈ lw_all := lw_g (lw_at lw_m0 135 rfl) rfl
theorem q144 : (Jvm.Cond.code ({ cls := "RouteDeskModel", name := "places", desc := "(I)V" } : Jvm.MethodName) prog_3_method_2_code (3 : Nat) (Option.none : Option Jvm.ClassFile.FieldType)) ∈ lw_all := lw_g (lw_at lw_m0 136 rfl) rfl
theorem q146 : (Jvm.Cond.instanceMethod ({ cls := "RouteDeskModel", name := "road", desc := "(III)V" } : Jvm.MethodName)) ∈ lw_all := lw_g (lw_at lw_m0 138 rfl) rfl
theorem q147 : (Jvm.Cond.selects "RouteDeskModel" ({ cls := "RouteDeskModel", name := "road", desc := "(III)V" } : Jvm.MethodName) ({ cls := "RouteDeskModel", name := "road", desc := "(III)V" } : Jvm.MethodName)) ∈ lw_all := lw_g (lw_at lw_m0 139 rfl) rfl
theorem q148 : (Jvm.Cond.code ({ cls := "RouteDeskModel", name := "road", desc := "(III)V" } : Jvm.MethodName) prog_3_method_4_code (5 : Nat) (Option.none : Option Jvm.ClassFile.FieldType)) ∈ lw_all := lw_g (lw_at lw_m0 140 rfl) rfl
theorem q149 : (Jvm.Cond.methodLink "RouteDeskModel" (51 : Nat) ({ cls := "RouteDeskModel", name := "at", desc := "(I)I" } : Jvm.MethodName)) ∈ lw_all := lw_g (lw_at lw_m0 141 rfl) rfl
theorem q150 : (Jvm.Cond.privateMethod ({ cls := "RouteDeskModel", name := "at", desc := "(I)I" } : Jvm.MethodName)) ∈ lw_tbl := lw_at lw_m0 142 rfl
theorem q151 : (Jvm.Cond.instanceMethod ({ cls := "RouteDeskModel", name := "at", desc := "(I)I" } : Jvm.MethodName)) ∈ lw_all := lw_g (lw_at lw_m0 143 rfl) rfl
theorem q152 : (Jvm.Cond.code ({ cls := "RouteDeskModel", name := "at", desc := "(I)I" } : Jvm.MethodName) prog_3_method_3_code (2 : Nat) (Option.some Jvm.ClassFile.FieldType.int)) ∈ lw_all := lw_g (lw_at lw_m0 144 rfl) rfl
theorem q153 : (Jvm.Cond.constant "RouteDeskModel" (50 : Nat) (2147483647 : Int32)) ∈ lw_all := lw_g (lw_at lw_m0 145 rfl) rfl
theorem q155 : (Jvm.Cond.instanceMethod ({ cls := "RouteDeskModel", name := "close", desc := "(II)V" } : Jvm.MethodName)) ∈ lw_all := lw_g (lw_at lw_m0 147 rfl) rfl
theorem q156 : (Jvm.Cond.selects "RouteDeskModel" ({ cls := "RouteDeskModel", name := "close", desc := "(II)V" } : Jvm.MethodName) ({ cls := "RouteDeskModel", name := "close", desc := "(II)V" } : Jvm.MethodName)) ∈ lw_all := lw_g (lw_at lw_m0 148 rfl) rfl
theorem q157 : (Jvm.Cond.code ({ cls := "RouteDeskModel", name := "close", desc := "(II)V" } : Jvm.MethodName) prog_3_method_5_code (3 : Nat) (Option.none : Option Jvm.ClassFile.FieldType)) ∈ lw_all := lw_g (lw_at lw_m0 149 rfl) rfl
theorem q159 : (Jvm.Cond.instanceMethod ({ cls := "RouteDeskModel", name := "reach", desc := "(II)Z" } : Jvm.MethodName)) ∈ lw_all := lw_g (lw_at lw_m0 151 rfl) rfl
theorem q160 : (Jvm.Cond.selects "RouteDeskModel" ({ cls := "RouteDeskModel", name := "reach", desc := "(II)Z" } : Jvm.MethodName) ({ cls := "RouteDeskModel", name := "reach", desc := "(II)Z" } : Jvm.MethodName)) ∈ lw_all := lw_g (lw_at lw_m0 152 rfl) rfl
theorem q161 : (Jvm.Cond.code ({ cls := "RouteDeskModel", name := "reach", desc := "(II)Z" } : Jvm.MethodName) prog_3_method_8_code (3 : Nat) (Option.some Jvm.ClassFile.FieldType.boolean)) ∈ lw_all := lw_g (lw_at lw_m0 153 rfl) rfl
theorem q162 : (Jvm.Cond.methodLink "RouteDeskModel" (58 : Nat) ({ cls := "RouteDeskModel", name := "reckon", desc := "()V" } : Jvm.MethodName)) ∈ lw_all := lw_g (lw_at lw_m0 154 rfl) rfl
theorem q163 : (Jvm.Cond.privateMethod ({ cls := "RouteDeskModel", name := "reckon", desc := "()V" } : Jvm.MethodName)) ∈ lw_tbl := lw_at lw_m0 155 rfl
theorem q164 : (Jvm.Cond.instanceMethod ({ cls := "RouteDeskModel", name := "reckon", desc := "()V" } : Jvm.MethodName)) ∈ lw_all := lw_g (lw_at lw_m0 156 rfl) rfl
theorem q165 : (Jvm.Cond.code ({ cls := "RouteDeskModel", name := "reckon", desc := "()V" } : Jvm.MethodName) prog_3_method_7_code (3 : Nat) (Option.none : Option Jvm.ClassFile.FieldType)) ∈ lw_all := lw_g (lw_at lw_m0 157 rfl) rfl
theorem q166 : (Jvm.Cond.methodLink "RouteDeskModel" (55 : Nat) ({ cls := "RouteDeskModel", name := "longer", desc := "()V" } : Jvm.MethodName)) ∈ lw_all := lw_g (lw_at lw_m0 158 rfl) rfl
theorem q167 : (Jvm.Cond.privateMethod ({ cls := "RouteDeskModel", name := "longer", desc := "()V" } : Jvm.MethodName)) ∈ lw_tbl := lw_at lw_m0 159 rfl
theorem q168 : (Jvm.Cond.instanceMethod ({ cls := "RouteDeskModel", name := "longer", desc := "()V" } : Jvm.MethodName)) ∈ lw_all := lw_g (lw_at lw_m0 160 rfl) rfl
theorem q169 : (Jvm.Cond.code ({ cls := "RouteDeskModel", name := "longer", desc := "()V" } : Jvm.MethodName) prog_3_method_6_code (6 : Nat) (Option.none : Option Jvm.ClassFile.FieldType)) ∈ lw_all := lw_g (lw_at lw_m0 161 rfl) rfl
theorem q171 : (Jvm.Cond.instanceMethod ({ cls := "RouteDeskModel", name := "circle", desc := "()Z" } : Jvm.MethodName)) ∈ lw_all := lw_g (lw_at lw_m0 163 rfl) rfl
theorem q172 : (Jvm.Cond.selects "RouteDeskModel" ({ cls := "RouteDeskModel", name := "circle", desc := "()Z" } : Jvm.MethodName) ({ cls := "RouteDeskModel", name := "circle", desc := "()Z" } : Jvm.MethodName)) ∈ lw_all := lw_g (lw_at lw_m0 164 rfl) rfl
theorem q173 : (Jvm.Cond.code ({ cls := "RouteDeskModel", name := "circle", desc := "()Z" } : Jvm.MethodName) prog_3_method_9_code (3 : Nat) (Option.some Jvm.ClassFile.FieldType.boolean)) ∈ lw_all := lw_g (lw_at lw_m0 165 rfl) rfl
theorem q175 : (Jvm.Cond.instanceMethod ({ cls := "RouteDeskModel", name := "kind", desc := "(II)I" } : Jvm.MethodName)) ∈ lw_all := lw_g (lw_at lw_m0 167 rfl) rfl
theorem q176 : (Jvm.Cond.selects "RouteDeskModel" ({ cls := "RouteDeskModel", name := "kind", desc := "(II)I" } : Jvm.MethodName) ({ cls := "RouteDeskModel", name := "kind", desc := "(II)I" } : Jvm.MethodName)) ∈ lw_all := lw_g (lw_at lw_m0 168 rfl) rfl
theorem q177 : (Jvm.Cond.code ({ cls := "RouteDeskModel", name := "kind", desc := "(II)I" } : Jvm.MethodName) prog_3_method_10_code (6 : Nat) (Option.some Jvm.ClassFile.FieldType.int)) ∈ lw_all := lw_g (lw_at lw_m0 169 rfl) rfl
theorem q179 : (Jvm.Cond.instanceMethod ({ cls := "RouteDeskModel", name := "least", desc := "(II)J" } : Jvm.MethodName)) ∈ lw_all := lw_g (lw_at lw_m0 171 rfl) rfl
theorem q180 : (Jvm.Cond.selects "RouteDeskModel" ({ cls := "RouteDeskModel", name := "least", desc := "(II)J" } : Jvm.MethodName) ({ cls := "RouteDeskModel", name := "least", desc := "(II)J" } : Jvm.MethodName)) ∈ lw_all := lw_g (lw_at lw_m0 172 rfl) rfl
theorem q181 : (Jvm.Cond.code ({ cls := "RouteDeskModel", name := "least", desc := "(II)J" } : Jvm.MethodName) prog_3_method_11_code (3 : Nat) (Option.some Jvm.ClassFile.FieldType.long)) ∈ lw_all := lw_g (lw_at lw_m0 173 rfl) rfl
theorem q182 : (Jvm.Cond.methodLink "RouteDeskModel" (61 : Nat) ({ cls := "RouteDeskModel", name := "kind", desc := "(II)I" } : Jvm.MethodName)) ∈ lw_all := lw_g (lw_at lw_m0 174 rfl) rfl
theorem q184 : (Jvm.Cond.instanceMethod ({ cls := "RouteDeskModel", name := "roads", desc := "(II)I" } : Jvm.MethodName)) ∈ lw_all := lw_g (lw_at lw_m0 176 rfl) rfl
theorem q185 : (Jvm.Cond.selects "RouteDeskModel" ({ cls := "RouteDeskModel", name := "roads", desc := "(II)I" } : Jvm.MethodName) ({ cls := "RouteDeskModel", name := "roads", desc := "(II)I" } : Jvm.MethodName)) ∈ lw_all := lw_g (lw_at lw_m0 177 rfl) rfl
theorem q186 : (Jvm.Cond.code ({ cls := "RouteDeskModel", name := "roads", desc := "(II)I" } : Jvm.MethodName) prog_3_method_12_code (3 : Nat) (Option.some Jvm.ClassFile.FieldType.int)) ∈ lw_all := lw_g (lw_at lw_m0 178 rfl) rfl
theorem in_X1 : ∀ w ∈ wsX10, w ∈ lw_all := lw_in wsX10 [114, 116, 118, 120, 122, 124, 126, 128, 130, 132, 134, 136] (by decide +kernel) (by decide +kernel)
abbrev vwCl : List vw_C := [(RX0, TX0, 4), (RX1, TX1, 12)]
end
section
/-! the law's own entry -/
set_option maxRecDepth 100000
abbrev cL_law : ByteArray := code
theorem dL_law_0 : decode cL_law 0 = .ok (.new 7, 3) := by decide +kernel
theorem dL_law_3 : decode cL_law 3 = .ok (.dup, 1) := by decide +kernel
theorem dL_law_4 : decode cL_law 4 = .ok (.invokespecial 9, 3) := by decide +kernel
theorem dL_law_7 : decode cL_law 7 = .ok (.astore_n 1, 1) := by decide +kernel
theorem dL_law_8 : decode cL_law 8 = .ok (.new 10, 3) := by decide +kernel
theorem dL_law_11 : decode cL_law 11 = .ok (.dup, 1) := by decide +kernel
theorem dL_law_12 : decode cL_law 12 = .ok (.invokespecial 12, 3) := by decide +kernel
theorem dL_law_15 : decode cL_law 15 = .ok (.astore_n 2, 1) := by decide +kernel
theorem dL_law_16 : decode cL_law 16 = .ok (.iconst 0, 1) := by decide +kernel
theorem dL_law_17 : decode cL_law 17 = .ok (.istore_n 3, 1) := by decide +kernel
theorem dL_law_18 : decode cL_law 18 = .ok (.iload_n 3, 1) := by decide +kernel
theorem dL_law_19 : decode cL_law 19 = .ok (.aload_n 0, 1) := by decide +kernel
theorem dL_law_20 : decode cL_law 20 = .ok (.arraylength, 1) := by decide +kernel
theorem dL_law_21 : decode cL_law 21 = .ok (.iconst 4, 1) := by decide +kernel
theorem dL_law_22 : decode cL_law 22 = .ok (.isub, 1) := by decide +kernel
theorem dL_law_23 : decode cL_law 23 = .ok (.if_icmp .gt 302, 3) := by decide +kernel
theorem dL_law_26 : decode cL_law 26 = .ok (.aload_n 0, 1) := by decide +kernel
theorem dL_law_27 : decode cL_law 27 = .ok (.iload_n 3, 1) := by decide +kernel
theorem dL_law_28 : decode cL_law 28 = .ok (.iaload, 1) := by decide +kernel
theorem dL_law_29 : decode cL_law 29 = .ok (.bipush 7, 2) := by decide +kernel
theorem dL_law_31 : decode cL_law 31 = .ok (.iand, 1) := by decide +kernel
theorem dL_law_32 : decode cL_law 32 = .ok (.tableswitch 287 0 7 #[48, 69, 110, 141, 174, 187, 220, 254], 48) := by decide +kernel
theorem dL_law_80 : decode cL_law 80 = .ok (.aload_n 1, 1) := by decide +kernel
theorem dL_law_81 : decode cL_law 81 = .ok (.aload_n 0, 1) := by decide +kernel
theorem dL_law_82 : decode cL_law 82 = .ok (.iload_n 3, 1) := by decide +kernel
theorem dL_law_83 : decode cL_law 83 = .ok (.iconst 1, 1) := by decide +kernel
theorem dL_law_84 : decode cL_law 84 = .ok (.iadd, 1) := by decide +kernel
theorem dL_law_85 : decode cL_law 85 = .ok (.iaload, 1) := by decide +kernel
theorem dL_law_86 : decode cL_law 86 = .ok (.invokevirtual 13, 3) := by decide +kernel
theorem dL_law_89 : decode cL_law 89 = .ok (.aload_n 2, 1) := by decide +kernel
theorem dL_law_90 : decode cL_law 90 = .ok (.aload_n 0, 1) := by decide +kernel
theorem dL_law_91 : decode cL_law 91 = .ok (.iload_n 3, 1) := by decide +kernel
theorem dL_law_92 : decode cL_law 92 = .ok (.iconst 1, 1) := by decide +kernel
theorem dL_law_93 : decode cL_law 93 = .ok (.iadd, 1) := by decide +kernel
theorem dL_law_94 : decode cL_law 94 = .ok (.iaload, 1) := by decide +kernel
theorem dL_law_95 : decode cL_law 95 = .ok (.invokevirtual 17, 3) := by decide +kernel
theorem dL_law_98 : decode cL_law 98 = .ok (.goto 221, 3) := by decide +kernel
theorem dL_law_101 : decode cL_law 101 = .ok (.aload_n 1, 1) := by decide +kernel
theorem dL_law_102 : decode cL_law 102 = .ok (.aload_n 0, 1) := by decide +kernel
theorem dL_law_103 : decode cL_law 103 = .ok (.iload_n 3, 1) := by decide +kernel
theorem dL_law_104 : decode cL_law 104 = .ok (.iconst 1, 1) := by decide +kernel
theorem dL_law_105 : decode cL_law 105 = .ok (.iadd, 1) := by decide +kernel
theorem dL_law_106 : decode cL_law 106 = .ok (.iaload, 1) := by decide +kernel
theorem dL_law_107 : decode cL_law 107 = .ok (.aload_n 0, 1) := by decide +kernel
theorem dL_law_108 : decode cL_law 108 = .ok (.iload_n 3, 1) := by decide +kernel
theorem dL_law_109 : decode cL_law 109 = .ok (.iconst 2, 1) := by decide +kernel
theorem dL_law_110 : decode cL_law 110 = .ok (.iadd, 1) := by decide +kernel
theorem dL_law_111 : decode cL_law 111 = .ok (.iaload, 1) := by decide +kernel
theorem dL_law_112 : decode cL_law 112 = .ok (.aload_n 0, 1) := by decide +kernel
theorem dL_law_113 : decode cL_law 113 = .ok (.iload_n 3, 1) := by decide +kernel
theorem dL_law_114 : decode cL_law 114 = .ok (.iconst 3, 1) := by decide +kernel
theorem dL_law_115 : decode cL_law 115 = .ok (.iadd, 1) := by decide +kernel
theorem dL_law_116 : decode cL_law 116 = .ok (.iaload, 1) := by decide +kernel
theorem dL_law_117 : decode cL_law 117 = .ok (.invokevirtual 18, 3) := by decide +kernel
theorem dL_law_120 : decode cL_law 120 = .ok (.aload_n 2, 1) := by decide +kernel
theorem dL_law_121 : decode cL_law 121 = .ok (.aload_n 0, 1) := by decide +kernel
theorem dL_law_122 : decode cL_law 122 = .ok (.iload_n 3, 1) := by decide +kernel
theorem dL_law_123 : decode cL_law 123 = .ok (.iconst 1, 1) := by decide +kernel
theorem dL_law_124 : decode cL_law 124 = .ok (.iadd, 1) := by decide +kernel
theorem dL_law_125 : decode cL_law 125 = .ok (.iaload, 1) := by decide +kernel
theorem dL_law_126 : decode cL_law 126 = .ok (.aload_n 0, 1) := by decide +kernel
theorem dL_law_127 : decode cL_law 127 = .ok (.iload_n 3, 1) := by decide +kernel
theorem dL_law_128 : decode cL_law 128 = .ok (.iconst 2, 1) := by decide +kernel
theorem dL_law_129 : decode cL_law 129 = .ok (.iadd, 1) := by decide +kernel
theorem dL_law_130 : decode cL_law 130 = .ok (.iaload, 1) := by decide +kernel
theorem dL_law_131 : decode cL_law 131 = .ok (.aload_n 0, 1) := by decide +kernel
theorem dL_law_132 : decode cL_law 132 = .ok (.iload_n 3, 1) := by decide +kernel
theorem dL_law_133 : decode cL_law 133 = .ok (.iconst 3, 1) := by decide +kernel
theorem dL_law_134 : decode cL_law 134 = .ok (.iadd, 1) := by decide +kernel
theorem dL_law_135 : decode cL_law 135 = .ok (.iaload, 1) := by decide +kernel
theorem dL_law_136 : decode cL_law 136 = .ok (.invokevirtual 22, 3) := by decide +kernel
theorem dL_law_139 : decode cL_law 139 = .ok (.goto 180, 3) := by decide +kernel
theorem dL_law_142 : decode cL_law 142 = .ok (.aload_n 1, 1) := by decide +kernel
theorem dL_law_143 : decode cL_law 143 = .ok (.aload_n 0, 1) := by decide +kernel
theorem dL_law_144 : decode cL_law 144 = .ok (.iload_n 3, 1) := by decide +kernel
theorem dL_law_145 : decode cL_law 145 = .ok (.iconst 1, 1) := by decide +kernel
theorem dL_law_146 : decode cL_law 146 = .ok (.iadd, 1) := by decide +kernel
theorem dL_law_147 : decode cL_law 147 = .ok (.iaload, 1) := by decide +kernel
theorem dL_law_148 : decode cL_law 148 = .ok (.aload_n 0, 1) := by decide +kernel
theorem dL_law_149 : decode cL_law 149 = .ok (.iload_n 3, 1) := by decide +kernel
theorem dL_law_150 : decode cL_law 150 = .ok (.iconst 2, 1) := by decide +kernel
theorem dL_law_151 : decode cL_law 151 = .ok (.iadd, 1) := by decide +kernel
theorem dL_law_152 : decode cL_law 152 = .ok (.iaload, 1) := by decide +kernel
theorem dL_law_153 : decode cL_law 153 = .ok (.invokevirtual 23, 3) := by decide +kernel
theorem dL_law_156 : decode cL_law 156 = .ok (.aload_n 2, 1) := by decide +kernel
theorem dL_law_157 : decode cL_law 157 = .ok (.aload_n 0, 1) := by decide +kernel
theorem dL_law_158 : decode cL_law 158 = .ok (.iload_n 3, 1) := by decide +kernel
theorem dL_law_159 : decode cL_law 159 = .ok (.iconst 1, 1) := by decide +kernel
theorem dL_law_160 : decode cL_law 160 = .ok (.iadd, 1) := by decide +kernel
theorem dL_law_161 : decode cL_law 161 = .ok (.iaload, 1) := by decide +kernel
theorem dL_law_162 : decode cL_law 162 = .ok (.aload_n 0, 1) := by decide +kernel
theorem dL_law_163 : decode cL_law 163 = .ok (.iload_n 3, 1) := by decide +kernel
theorem dL_law_164 : decode cL_law 164 = .ok (.iconst 2, 1) := by decide +kernel
theorem dL_law_165 : decode cL_law 165 = .ok (.iadd, 1) := by decide +kernel
theorem dL_law_166 : decode cL_law 166 = .ok (.iaload, 1) := by decide +kernel
theorem dL_law_167 : decode cL_law 167 = .ok (.invokevirtual 27, 3) := by decide +kernel
theorem dL_law_170 : decode cL_law 170 = .ok (.goto 149, 3) := by decide +kernel
theorem dL_law_173 : decode cL_law 173 = .ok (.aload_n 1, 1) := by decide +kernel
theorem dL_law_174 : decode cL_law 174 = .ok (.aload_n 0, 1) := by decide +kernel
theorem dL_law_175 : decode cL_law 175 = .ok (.iload_n 3, 1) := by decide +kernel
theorem dL_law_176 : decode cL_law 176 = .ok (.iconst 1, 1) := by decide +kernel
theorem dL_law_177 : decode cL_law 177 = .ok (.iadd, 1) := by decide +kernel
theorem dL_law_178 : decode cL_law 178 = .ok (.iaload, 1) := by decide +kernel
theorem dL_law_179 : decode cL_law 179 = .ok (.aload_n 0, 1) := by decide +kernel
theorem dL_law_180 : decode cL_law 180 = .ok (.iload_n 3, 1) := by decide +kernel
theorem dL_law_181 : decode cL_law 181 = .ok (.iconst 2, 1) := by decide +kernel
theorem dL_law_182 : decode cL_law 182 = .ok (.iadd, 1) := by decide +kernel
theorem dL_law_183 : decode cL_law 183 = .ok (.iaload, 1) := by decide +kernel
theorem dL_law_184 : decode cL_law 184 = .ok (.invokevirtual 28, 3) := by decide +kernel
theorem dL_law_187 : decode cL_law 187 = .ok (.aload_n 2, 1) := by decide +kernel
theorem dL_law_188 : decode cL_law 188 = .ok (.aload_n 0, 1) := by decide +kernel
theorem dL_law_189 : decode cL_law 189 = .ok (.iload_n 3, 1) := by decide +kernel
theorem dL_law_190 : decode cL_law 190 = .ok (.iconst 1, 1) := by decide +kernel
theorem dL_law_191 : decode cL_law 191 = .ok (.iadd, 1) := by decide +kernel
theorem dL_law_192 : decode cL_law 192 = .ok (.iaload, 1) := by decide +kernel
theorem dL_law_193 : decode cL_law 193 = .ok (.aload_n 0, 1) := by decide +kernel
theorem dL_law_194 : decode cL_law 194 = .ok (.iload_n 3, 1) := by decide +kernel
theorem dL_law_195 : decode cL_law 195 = .ok (.iconst 2, 1) := by decide +kernel
theorem dL_law_196 : decode cL_law 196 = .ok (.iadd, 1) := by decide +kernel
theorem dL_law_197 : decode cL_law 197 = .ok (.iaload, 1) := by decide +kernel
theorem dL_law_198 : decode cL_law 198 = .ok (.invokevirtual 32, 3) := by decide +kernel
theorem dL_law_201 : decode cL_law 201 = .ok (.if_icmp .eq 118, 3) := by decide +kernel
theorem dL_law_204 : decode cL_law 204 = .ok (.iconst 0, 1) := by decide +kernel
theorem dL_law_205 : decode cL_law 205 = .ok (.ireturn, 1) := by decide +kernel
theorem dL_law_206 : decode cL_law 206 = .ok (.aload_n 1, 1) := by decide +kernel
theorem dL_law_207 : decode cL_law 207 = .ok (.invokevirtual 33, 3) := by decide +kernel
theorem dL_law_210 : decode cL_law 210 = .ok (.aload_n 2, 1) := by decide +kernel
theorem dL_law_211 : decode cL_law 211 = .ok (.invokevirtual 37, 3) := by decide +kernel
theorem dL_law_214 : decode cL_law 214 = .ok (.if_icmp .eq 105, 3) := by decide +kernel
theorem dL_law_217 : decode cL_law 217 = .ok (.iconst 0, 1) := by decide +kernel
theorem dL_law_218 : decode cL_law 218 = .ok (.ireturn, 1) := by decide +kernel
theorem dL_law_219 : decode cL_law 219 = .ok (.aload_n 1, 1) := by decide +kernel
theorem dL_law_220 : decode cL_law 220 = .ok (.aload_n 0, 1) := by decide +kernel
theorem dL_law_221 : decode cL_law 221 = .ok (.iload_n 3, 1) := by decide +kernel
theorem dL_law_222 : decode cL_law 222 = .ok (.iconst 1, 1) := by decide +kernel
theorem dL_law_223 : decode cL_law 223 = .ok (.iadd, 1) := by decide +kernel
theorem dL_law_224 : decode cL_law 224 = .ok (.iaload, 1) := by decide +kernel
theorem dL_law_225 : decode cL_law 225 = .ok (.aload_n 0, 1) := by decide +kernel
theorem dL_law_226 : decode cL_law 226 = .ok (.iload_n 3, 1) := by decide +kernel
theorem dL_law_227 : decode cL_law 227 = .ok (.iconst 2, 1) := by decide +kernel
theorem dL_law_228 : decode cL_law 228 = .ok (.iadd, 1) := by decide +kernel
theorem dL_law_229 : decode cL_law 229 = .ok (.iaload, 1) := by decide +kernel
theorem dL_law_230 : decode cL_law 230 = .ok (.invokevirtual 38, 3) := by decide +kernel
theorem dL_law_233 : decode cL_law 233 = .ok (.aload_n 2, 1) := by decide +kernel
theorem dL_law_234 : decode cL_law 234 = .ok (.aload_n 0, 1) := by decide +kernel
theorem dL_law_235 : decode cL_law 235 = .ok (.iload_n 3, 1) := by decide +kernel
theorem dL_law_236 : decode cL_law 236 = .ok (.iconst 1, 1) := by decide +kernel
theorem dL_law_237 : decode cL_law 237 = .ok (.iadd, 1) := by decide +kernel
theorem dL_law_238 : decode cL_law 238 = .ok (.iaload, 1) := by decide +kernel
theorem dL_law_239 : decode cL_law 239 = .ok (.aload_n 0, 1) := by decide +kernel
theorem dL_law_240 : decode cL_law 240 = .ok (.iload_n 3, 1) := by decide +kernel
theorem dL_law_241 : decode cL_law 241 = .ok (.iconst 2, 1) := by decide +kernel
theorem dL_law_242 : decode cL_law 242 = .ok (.iadd, 1) := by decide +kernel
theorem dL_law_243 : decode cL_law 243 = .ok (.iaload, 1) := by decide +kernel
theorem dL_law_244 : decode cL_law 244 = .ok (.invokevirtual 42, 3) := by decide +kernel
theorem dL_law_247 : decode cL_law 247 = .ok (.if_icmp .eq 72, 3) := by decide +kernel
theorem dL_law_250 : decode cL_law 250 = .ok (.iconst 0, 1) := by decide +kernel
theorem dL_law_251 : decode cL_law 251 = .ok (.ireturn, 1) := by decide +kernel
theorem dL_law_252 : decode cL_law 252 = .ok (.aload_n 1, 1) := by decide +kernel
theorem dL_law_253 : decode cL_law 253 = .ok (.aload_n 0, 1) := by decide +kernel
theorem dL_law_254 : decode cL_law 254 = .ok (.iload_n 3, 1) := by decide +kernel
theorem dL_law_255 : decode cL_law 255 = .ok (.iconst 1, 1) := by decide +kernel
theorem dL_law_256 : decode cL_law 256 = .ok (.iadd, 1) := by decide +kernel
theorem dL_law_257 : decode cL_law 257 = .ok (.iaload, 1) := by decide +kernel
theorem dL_law_258 : decode cL_law 258 = .ok (.aload_n 0, 1) := by decide +kernel
theorem dL_law_259 : decode cL_law 259 = .ok (.iload_n 3, 1) := by decide +kernel
theorem dL_law_260 : decode cL_law 260 = .ok (.iconst 2, 1) := by decide +kernel
theorem dL_law_261 : decode cL_law 261 = .ok (.iadd, 1) := by decide +kernel
theorem dL_law_262 : decode cL_law 262 = .ok (.iaload, 1) := by decide +kernel
theorem dL_law_263 : decode cL_law 263 = .ok (.invokevirtual 43, 3) := by decide +kernel
theorem dL_law_266 : decode cL_law 266 = .ok (.aload_n 2, 1) := by decide +kernel
theorem dL_law_267 : decode cL_law 267 = .ok (.aload_n 0, 1) := by decide +kernel
theorem dL_law_268 : decode cL_law 268 = .ok (.iload_n 3, 1) := by decide +kernel
theorem dL_law_269 : decode cL_law 269 = .ok (.iconst 1, 1) := by decide +kernel
theorem dL_law_270 : decode cL_law 270 = .ok (.iadd, 1) := by decide +kernel
theorem dL_law_271 : decode cL_law 271 = .ok (.iaload, 1) := by decide +kernel
theorem dL_law_272 : decode cL_law 272 = .ok (.aload_n 0, 1) := by decide +kernel
theorem dL_law_273 : decode cL_law 273 = .ok (.iload_n 3, 1) := by decide +kernel
theorem dL_law_274 : decode cL_law 274 = .ok (.iconst 2, 1) := by decide +kernel
theorem dL_law_275 : decode cL_law 275 = .ok (.iadd, 1) := by decide +kernel
theorem dL_law_276 : decode cL_law 276 = .ok (.iaload, 1) := by decide +kernel
theorem dL_law_277 : decode cL_law 277 = .ok (.invokevirtual 47, 3) := by decide +kernel
theorem dL_law_280 : decode cL_law 280 = .ok (.lcmp, 1) := by decide +kernel
theorem dL_law_281 : decode cL_law 281 = .ok (.ifCond .eq 38, 3) := by decide +kernel
theorem dL_law_284 : decode cL_law 284 = .ok (.iconst 0, 1) := by decide +kernel
theorem dL_law_285 : decode cL_law 285 = .ok (.ireturn, 1) := by decide +kernel
theorem dL_law_286 : decode cL_law 286 = .ok (.aload_n 1, 1) := by decide +kernel
theorem dL_law_287 : decode cL_law 287 = .ok (.aload_n 0, 1) := by decide +kernel
theorem dL_law_288 : decode cL_law 288 = .ok (.iload_n 3, 1) := by decide +kernel
theorem dL_law_289 : decode cL_law 289 = .ok (.iconst 1, 1) := by decide +kernel
theorem dL_law_290 : decode cL_law 290 = .ok (.iadd, 1) := by decide +kernel
theorem dL_law_291 : decode cL_law 291 = .ok (.iaload, 1) := by decide +kernel
theorem dL_law_292 : decode cL_law 292 = .ok (.aload_n 0, 1) := by decide +kernel
theorem dL_law_293 : decode cL_law 293 = .ok (.iload_n 3, 1) := by decide +kernel
theorem dL_law_294 : decode cL_law 294 = .ok (.iconst 2, 1) := by decide +kernel
theorem dL_law_295 : decode cL_law 295 = .ok (.iadd, 1) := by decide +kernel
theorem dL_law_296 : decode cL_law 296 = .ok (.iaload, 1) := by decide +kernel
theorem dL_law_297 : decode cL_law 297 = .ok (.invokevirtual 48, 3) := by decide +kernel
theorem dL_law_300 : decode cL_law 300 = .ok (.aload_n 2, 1) := by decide +kernel
theorem dL_law_301 : decode cL_law 301 = .ok (.aload_n 0, 1) := by decide +kernel
theorem dL_law_302 : decode cL_law 302 = .ok (.iload_n 3, 1) := by decide +kernel
theorem dL_law_303 : decode cL_law 303 = .ok (.iconst 1, 1) := by decide +kernel
theorem dL_law_304 : decode cL_law 304 = .ok (.iadd, 1) := by decide +kernel
theorem dL_law_305 : decode cL_law 305 = .ok (.iaload, 1) := by decide +kernel
theorem dL_law_306 : decode cL_law 306 = .ok (.aload_n 0, 1) := by decide +kernel
theorem dL_law_307 : decode cL_law 307 = .ok (.iload_n 3, 1) := by decide +kernel
theorem dL_law_308 : decode cL_law 308 = .ok (.iconst 2, 1) := by decide +kernel
theorem dL_law_309 : decode cL_law 309 = .ok (.iadd, 1) := by decide +kernel
theorem dL_law_310 : decode cL_law 310 = .ok (.iaload, 1) := by decide +kernel
theorem dL_law_311 : decode cL_law 311 = .ok (.invokevirtual 51, 3) := by decide +kernel
theorem dL_law_314 : decode cL_law 314 = .ok (.if_icmp .eq 5, 3) := by decide +kernel
theorem dL_law_317 : decode cL_law 317 = .ok (.iconst 0, 1) := by decide +kernel
theorem dL_law_318 : decode cL_law 318 = .ok (.ireturn, 1) := by decide +kernel
theorem dL_law_319 : decode cL_law 319 = .ok (.iinc 3 4, 3) := by decide +kernel
theorem dL_law_322 : decode cL_law 322 = .ok (.goto (-304), 3) := by decide +kernel
theorem dL_law_325 : decode cL_law 325 = .ok (.iconst 1, 1) := by decide +kernel
theorem dL_law_326 : decode cL_law 326 = .ok (.ireturn, 1) := by decide +kernel
end
section
/-! pure for-loops and the functional pictures of the methods -/
/-- a for-loop: k turns from i on -/
def lp {σ : Type} (f : Nat → σ → σ) : Nat → Nat → σ → σ
  | _, 0, x => x
  | i, k + 1, x => lp f (i + 1) k (f i x)
theorem lp_back {σ : Type} (f : Nat → σ → σ) (Wd : Nat → σ → Prop) (n : Nat) (hs : ∀ i x, i < n → (∀ x', x' = f i x → Wd (i + 1) x') → Wd i x) : ∀ k i x, i + k = n → Wd n (lp f i k x) → Wd i x := by
  intro k
  induction k with
  | zero =>
    intro i x h hw
    have e : i = n := by omega
    subst e
    exact hw
  | succ k ih =>
    intro i x h hw
    exact hs i x (by omega) (fun x' e => by subst e; exact ih (i + 1) _ (by omega) hw)
theorem lp_inv {σ : Type} (f : Nat → σ → σ) (I : Nat → σ → Prop) : ∀ k i x, I i x → (∀ j y, i ≤ j → j < i + k → I j y → I (j + 1) (f j y)) → I (i + k) (lp f i k x) := by
  intro k
  induction k with
  | zero => intro i x h _; exact h
  | succ k ih =>
    intro i x h hs
    have h1 := ih (i + 1) (f i x) (hs i x (Nat.le_refl i) (by omega) h) (fun j y h1 h2 h3 => hs j y (by omega) (by omega) h3)
    rw [show i + (k + 1) = i + 1 + k by omega]
    exact h1
theorem lp_inv0 {σ : Type} (f : Nat → σ → σ) (I : Nat → σ → Prop) (n : Nat) (x : σ) (h : I 0 x) (hs : ∀ j y, j < n → I j y → I (j + 1) (f j y)) : I n (lp f 0 n x) := by
  have h1 := lp_inv f I n 0 x h (fun j y _ h2 h3 => hs j y (by omega) h3)
  rw [Nat.zero_add] at h1
  exact h1
/-- no road -/
abbrev NO : Int64 := 1152921504606846976
-- the class: sweep
def x_copy (rd : Nat → Int64) (j : Nat) (f : Nat → Int64) : Nat → Int64 := vp_updL f j (rd j)
def x_fill (j : Nat) (f : Nat → Int64) : Nat → Int64 := vp_updL f j NO
def x_dia (a : Nat) (f : Nat → Int64) : Nat → Int64 := if 0 < f (8 * a + a) then vp_updL f (8 * a + a) 0 else f
def x_b (mm a : Nat) (first : Int64) (b : Nat) (f : Nat → Int64) : Nat → Int64 := if f (8 * mm + b) ≠ NO ∧ first + f (8 * mm + b) < f (8 * a + b) then vp_updL f (8 * a + b) (first + f (8 * mm + b)) else f
def x_a (n mm a : Nat) (f : Nat → Int64) : Nat → Int64 := if f (8 * a + mm) = NO then f else lp (x_b mm a (f (8 * a + mm))) 0 n f
def x_m (n mm : Nat) (f : Nat → Int64) : Nat → Int64 := lp (x_a n mm) 0 n f
def x_fw (n : Nat) (rd bs : Nat → Int64) : Nat → Int64 := lp (x_m n) 0 n (lp x_dia 0 n (lp (x_copy rd) 0 64 bs))
/-- what best is behind sweep -/
def x_sw (n : Nat) (rd bs : Nat → Int64) (ch : Int32) : Nat → Int64 := if ch = 0 then bs else x_fw n rd bs
/-- a place out of an int -/
def pl_ (n : Nat) (k : Int32) : Nat := k.toBitVec.toNat % 2147483648 % n
def x_hit (bs : Nat → Int64) (i j v : Nat) : Prop := bs (8 * v + v) < 0 ∧ bs (8 * i + v) ≠ NO ∧ bs (8 * v + j) ≠ NO
/-- what kind answers -/
def x_kd (n : Nat) (bs : Nat → Int64) (i j : Nat) (r : Int32) : Prop := (r = -1 ∧ bs (8 * i + j) = NO) ∨ (r = 1 ∧ bs (8 * i + j) ≠ NO ∧ ∃ v, v < n ∧ x_hit bs i j v) ∨ (r = 0 ∧ bs (8 * i + j) ≠ NO ∧ ∀ v, v < n → ¬ x_hit bs i j v)
-- the reference: longer and reckon
def m_m (is rd co : Nat → Int32) (d : Nat → Int64) (a b mm : Nat) (x : (Nat → Int64) × (Nat → Int32)) : (Nat → Int64) × (Nat → Int32) := if is (8 * a + mm) ≠ 0 ∧ rd (8 * mm + b) ≠ 0 ∧ (x.2 (8 * a + b) = 0 ∨ d (8 * a + mm) + (co (8 * mm + b)).toInt64 < x.1 (8 * a + b)) then (vp_updL x.1 (8 * a + b) (d (8 * a + mm) + (co (8 * mm + b)).toInt64), upd x.2 (8 * a + b) 1) else x
def m_b (n : Nat) (is rd co : Nat → Int32) (d : Nat → Int64) (a b : Nat) (x : (Nat → Int64) × (Nat → Int32)) : (Nat → Int64) × (Nat → Int32) := lp (m_m is rd co d a b) 0 n (x.1, upd x.2 (8 * a + b) 0)
def m_a (n : Nat) (is rd co : Nat → Int32) (d : Nat → Int64) (a : Nat) (x : (Nat → Int64) × (Nat → Int32)) : (Nat → Int64) × (Nat → Int32) := lp (m_b n is rd co d a) 0 n x
def m_ex (n : Nat) (is rd co : Nat → Int32) (d : Nat → Int64) (x : (Nat → Int64) × (Nat → Int32)) : (Nat → Int64) × (Nat → Int32) := lp (m_a n is rd co d) 0 n x
def m_cp (y : (Nat → Int64) × (Nat → Int32)) (i : Nat) (x : (Nat → Int64) × (Nat → Int32)) : (Nat → Int64) × (Nat → Int32) := (vp_updL x.1 i (y.1 i), upd x.2 i (vp_nar .boolean (y.2 i)))
def m_st (i n : Nat) : Int32 := if i / 8 = i % 8 ∧ i / 8 < n then 1 else 0
/-- the first loop of reckon: is, d, reach, few -/
def m_i0 (n i : Nat) (x : (Nat → Int32) × (Nat → Int64) × (Nat → Int32) × (Nat → Int32)) : (Nat → Int32) × (Nat → Int64) × (Nat → Int32) × (Nat → Int32) := (upd x.1 i (m_st i n), vp_updL x.2.1 i 0, upd x.2.2.1 i 0, upd x.2.2.2 i (-1))
def m_v0 (v : Nat) (f : Nat → Int32) : Nat → Int32 := upd f v 0
/-- a cell of reach, best, few at round k -/
def m_i1 (n k : Nat) (is : Nat → Int32) (d : Nat → Int64) (i : Nat) (x : (Nat → Int32) × (Nat → Int64) × (Nat → Int32)) : (Nat → Int32) × (Nat → Int64) × (Nat → Int32) := if k < n ∧ is i ≠ 0 ∧ (x.2.2 i < 0 ∨ d i < x.2.1 i) then (upd x.1 i (if x.1 i ≠ 0 ∨ is i ≠ 0 then 1 else 0), vp_updL x.2.1 i (d i), upd x.2.2 i (nI k)) else (upd x.1 i (if x.1 i ≠ 0 ∨ is i ≠ 0 then 1 else 0), x.2.1, x.2.2)
def m_v1 (is : Nat → Int32) (d : Nat → Int64) (v : Nat) (f : Nat → Int32) : Nat → Int32 := upd f v (if f v ≠ 0 ∨ (is (8 * v + v) ≠ 0 ∧ d (8 * v + v) < 0) then 1 else 0)
/-- d, is, e, ie, reach, bad, best, few -/
abbrev MT : Type := (Nat → Int64) × (Nat → Int32) × (Nat → Int64) × (Nat → Int32) × (Nat → Int32) × (Nat → Int32) × (Nat → Int64) × (Nat → Int32)
def m_lg (n : Nat) (rd co : Nat → Int32) (x : MT) : MT :=
  let y := m_ex n x.2.1 rd co x.1 (x.2.2.1, x.2.2.2.1)
  let z := lp (m_cp y) 0 64 (x.1, x.2.1)
  (z.1, z.2, y.1, y.2, x.2.2.2.2)
def m_k (n : Nat) (rd co : Nat → Int32) (k : Nat) (x : MT) : MT :=
  let y := lp (m_i1 n k x.2.1 x.1) 0 64 (x.2.2.2.2.1, x.2.2.2.2.2.2.1, x.2.2.2.2.2.2.2)
  let z := lp (m_v1 x.2.1 x.1) 0 n x.2.2.2.2.2.1
  m_lg n rd co (x.1, x.2.1, x.2.2.1, x.2.2.2.1, y.1, z, y.2.1, y.2.2)
def m_rk (n : Nat) (rd co : Nat → Int32) (x : MT) : MT :=
  let y := lp (m_i0 n) 0 64 (x.2.1, x.1, x.2.2.2.2.1, x.2.2.2.2.2.2.2)
  let z := lp m_v0 0 8 x.2.2.2.2.2.1
  lp (m_k n rd co) 0 (n + 1) (y.2.1, y.1, x.2.2.1, x.2.2.2.1, y.2.2.1, z, x.2.2.2.2.2.2.1, y.2.2.2)
/-- behind reckon -/
def m_rkn (n : Nat) (rd co : Nat → Int32) (kn : Int32) (x : MT) : MT := if kn = 0 then m_rk n rd co x else x
def m_hit (rc bad : Nat → Int32) (i j v : Nat) : Prop := bad v ≠ 0 ∧ rc (8 * i + v) ≠ 0 ∧ rc (8 * v + j) ≠ 0
def m_kd (n : Nat) (rc bad : Nat → Int32) (i j : Nat) (r : Int32) : Prop := (r = -1 ∧ rc (8 * i + j) = 0) ∨ (r = 1 ∧ rc (8 * i + j) ≠ 0 ∧ ∃ v, v < n ∧ m_hit rc bad i j v) ∨ (r = 0 ∧ rc (8 * i + j) ≠ 0 ∧ ∀ v, v < n → ¬ m_hit rc bad i j v)
-- small numbers
theorem nI_inc (i : Nat) : nI i + Int32.ofInt 1 = nI (i + 1) := nI_1 i
theorem nI_inc4 (i : Nat) : nI i + Int32.ofInt 4 = nI (i + 4) := by
  rw [show Int32.ofInt 4 = nI 4 by decide +kernel]; exact nI_add i 4
theorem nI_ix (a b : Nat) : nI a * nI 8 + nI b = nI (8 * a + b) := by
  rw [pk_mul, nI_add, Nat.mul_comm]
theorem nI_ix2 (a b : Nat) : nI 8 * nI a + nI b = nI (8 * a + b) := by
  rw [pk_mul, nI_add]
theorem pl_eq {n : Nat} (k : Int32) (h1 : 1 ≤ n) (h8 : n ≤ 8) : (k &&& 2147483647) - (k &&& 2147483647) / nI n * nI n = nI (pl_ n k) := by
  rw [pk_and k 31 (by decide +kernel)]
  exact pk_rem (by omega) (by omega) (by omega)
theorem pl_lt {n : Nat} (k : Int32) (h1 : 1 ≤ n) : pl_ n k < n := Nat.mod_lt _ h1
theorem nz1 : vp_nar .boolean 1 = 1 := by decide +kernel
theorem nz0 : vp_nar .boolean 0 = 0 := by decide +kernel
end
section
/-! rows for the walks: branches with known numbers; the class's world XW and its rows -/
section WG
variable {p : Program} {l : Launch} {e : Env} {R : Room} {s : State} {m : MethodId} {args : Array Value} {below : List Frame} {meth : Method} {c : Code} {H : Heap} {locs : List Loc} {cells slots : Nat} {Q : State → Prop}
variable {cc : ByteArray} {pc : Nat} {ls : Array Slot} {rest : List Value}
theorem w_top {x y : Int32} (h : x = y) (k : W p l e R s m args below meth c H locs cells slots Q (F0 m pc ls (.int y :: rest))) : W p l e R s m args below meth c H locs cells slots Q (F0 m pc ls (.int x :: rest)) := by
  rw [h]; exact k
theorem w_ge_t (hx : p.tables.exec = Jvm.exec) (hb : c.code = cc) {a b : Nat} {off : Int} {tgt : Nat} (hdg : decode cc pc = .ok (.if_icmp .ge off, 3)) (ht : (pc : Int) + off = (tgt : Int)) (h : b ≤ a) (ha : a < 2 ^ 31) (k : W p l e R s m args below meth c H locs cells slots Q (F0 m tgt ls rest)) : W p l e R s m args below meth c H locs cells slots Q (F0 m pc ls (.int (nI b) :: .int (nI a) :: rest)) :=
  lv_icmp_ge hx hb hdg ht (fun _ => k) (fun q => absurd (nI_le h ha) q)
theorem w_ge_f (hx : p.tables.exec = Jvm.exec) (hb : c.code = cc) {a b : Nat} {off : Int} {tgt : Nat} (hdg : decode cc pc = .ok (.if_icmp .ge off, 3)) (ht : (pc : Int) + off = (tgt : Int)) (h : a < b) (hbb : b < 2 ^ 31) (k : W p l e R s m args below meth c H locs cells slots Q (F0 m (pc + 3) ls rest)) : W p l e R s m args below meth c H locs cells slots Q (F0 m pc ls (.int (nI b) :: .int (nI a) :: rest)) :=
  lv_icmp_ge hx hb hdg ht (fun q => absurd q (nI_ge h hbb)) (fun _ => k)
theorem w_gt_t (hx : p.tables.exec = Jvm.exec) (hb : c.code = cc) {a b : Nat} {off : Int} {tgt : Nat} (hdg : decode cc pc = .ok (.if_icmp .gt off, 3)) (ht : (pc : Int) + off = (tgt : Int)) (h : b < a) (ha : a < 2 ^ 31) (k : W p l e R s m args below meth c H locs cells slots Q (F0 m tgt ls rest)) : W p l e R s m args below meth c H locs cells slots Q (F0 m pc ls (.int (nI b) :: .int (nI a) :: rest)) :=
  lv_icmp_gt hx hb hdg ht (fun _ => k) (fun q => absurd (nI_lt h ha) q)
theorem w_gt_f (hx : p.tables.exec = Jvm.exec) (hb : c.code = cc) {a b : Nat} {off : Int} {tgt : Nat} (hdg : decode cc pc = .ok (.if_icmp .gt off, 3)) (ht : (pc : Int) + off = (tgt : Int)) (h : a ≤ b) (hbb : b < 2 ^ 31) (k : W p l e R s m args below meth c H locs cells slots Q (F0 m (pc + 3) ls rest)) : W p l e R s m args below meth c H locs cells slots Q (F0 m pc ls (.int (nI b) :: .int (nI a) :: rest)) :=
  lv_icmp_gt hx hb hdg ht (fun q => absurd q (nI_nlt h hbb)) (fun _ => k)
theorem w_lc_eq (hx : p.tables.exec = Jvm.exec) (hb : c.code = cc) {x y : Int64} {off : Int} {tgt : Nat} (hd1 : decode cc pc = .ok (.lcmp, 1)) (hd2 : decode cc (pc + 1) = .ok (.ifCond .eq off, 3)) (ht : ((pc + 1 : Nat) : Int) + off = (tgt : Int)) (kt : x = y → W p l e R s m args below meth c H locs cells slots Q (F0 m tgt ls rest)) (kf : ¬ x = y → W p l e R s m args below meth c H locs cells slots Q (F0 m (pc + 1 + 3) ls rest)) : W p l e R s m args below meth c H locs cells slots Q (F0 m pc ls (.long y :: .long x :: rest)) :=
  W.lcmp hx hb hd1 (lv_if_eq hx hb hd2 ht (fun h => kt ((lg_cmp_eq _ _).mp h)) (fun h => kf (fun q => h ((lg_cmp_eq _ _).mpr q))))
theorem w_lc_ne (hx : p.tables.exec = Jvm.exec) (hb : c.code = cc) {x y : Int64} {off : Int} {tgt : Nat} (hd1 : decode cc pc = .ok (.lcmp, 1)) (hd2 : decode cc (pc + 1) = .ok (.ifCond .ne off, 3)) (ht : ((pc + 1 : Nat) : Int) + off = (tgt : Int)) (kt : ¬ x = y → W p l e R s m args below meth c H locs cells slots Q (F0 m tgt ls rest)) (kf : x = y → W p l e R s m args below meth c H locs cells slots Q (F0 m (pc + 1 + 3) ls rest)) : W p l e R s m args below meth c H locs cells slots Q (F0 m pc ls (.long y :: .long x :: rest)) :=
  W.lcmp hx hb hd1 (lv_if_ne hx hb hd2 ht (fun h => kt (fun q => h ((lg_cmp_eq _ _).mpr q))) (fun h => kf ((lg_cmp_eq _ _).mp h)))
theorem w_lc_ge (hx : p.tables.exec = Jvm.exec) (hb : c.code = cc) {x y : Int64} {off : Int} {tgt : Nat} (hd1 : decode cc pc = .ok (.lcmp, 1)) (hd2 : decode cc (pc + 1) = .ok (.ifCond .ge off, 3)) (ht : ((pc + 1 : Nat) : Int) + off = (tgt : Int)) (kt : ¬ x < y → W p l e R s m args below meth c H locs cells slots Q (F0 m tgt ls rest)) (kf : x < y → W p l e R s m args below meth c H locs cells slots Q (F0 m (pc + 1 + 3) ls rest)) : W p l e R s m args below meth c H locs cells slots Q (F0 m pc ls (.long y :: .long x :: rest)) :=
  W.lcmp hx hb hd1 (lv_if_ge hx hb hd2 ht (fun h => kt (Int64.not_lt.mpr ((lg_cmp_ge _ _).mp h))) (fun h => kf (Int64.not_le.mp fun z => h ((lg_cmp_ge _ _).mpr z))))
theorem w_lc_le (hx : p.tables.exec = Jvm.exec) (hb : c.code = cc) {x y : Int64} {off : Int} {tgt : Nat} (hd1 : decode cc pc = .ok (.lcmp, 1)) (hd2 : decode cc (pc + 1) = .ok (.ifCond .le off, 3)) (ht : ((pc + 1 : Nat) : Int) + off = (tgt : Int)) (kt : ¬ y < x → W p l e R s m args below meth c H locs cells slots Q (F0 m tgt ls rest)) (kf : y < x → W p l e R s m args below meth c H locs cells slots Q (F0 m (pc + 1 + 3) ls rest)) : W p l e R s m args below meth c H locs cells slots Q (F0 m pc ls (.long y :: .long x :: rest)) :=
  W.lcmp hx hb hd1 (lv_if_le hx hb hd2 ht (fun h => kt (Int64.not_lt.mpr ((lg_cmp_le _ _).mp h))) (fun h => kf (Int64.not_le.mp fun z => h ((lg_cmp_le _ _).mpr z))))
end WG
/-- the cells of a RouteDesk -/
abbrev xw (h0 hr hbs : Nat) (dr db : ClassId) (pl : Int32) (rd bs : Nat → Int64) (ch : Int32) : va_W := [(h0, .inr (0, [.int pl, .ref hr, .ref hbs, .int ch])), (hr, .inl (dr, 64, .inr (.inl rd))), (hbs, .inl (db, 64, .inr (.inl bs)))]
abbrev xt (dr db : ClassId) : List (ClassId × FieldType) := [(dr, .long), (db, .long)]
def XW (D : va_G) (A : Nat → Prop) (s : State) (h0 hr hbs : Nat) (dr db : ClassId) (H : Heap) (locs : List Loc) (pl : Int32) (rd bs : Nat → Int64) (ch : Int32) : Prop :=
  va_K D vwCl (xt dr db) s ∧ va_P D vwCl (xw h0 hr hbs dr db pl rd bs ch) H ∧ va_D A (xw h0 hr hbs dr db pl rd bs ch) ∧ va_S A s.heap H locs ∧ ∀ q : Nat, s.heap.size ≤ q → A q
abbrev XT : Type := Int32 × (Nat → Int64) × (Nat → Int64) × Int32
def XPre (D : va_G) (h0 hr hbs : Nat) (dr db : ClassId) (sz : Nat) (pl : Int32) (rd bs : Nat → Int64) (ch : Int32) (U : State) : Prop :=
  U.heap.size = sz ∧ va_P D vwCl (xw h0 hr hbs dr db pl rd bs ch) U.heap ∧ va_K D vwCl (xt dr db) U ∧ va_D (fun _ => True) (xw h0 hr hbs dr db pl rd bs ch)
def XB (D : va_G) (A : Nat → Prop) (h0 hr hbs : Nat) (dr db : ClassId) (u : XT) (t : State) : Prop :=
  va_P D vwCl (xw h0 hr hbs dr db u.1 u.2.1 u.2.2.1 u.2.2.2) t.heap ∧ va_K D vwCl (xt dr db) t ∧ va_D A (xw h0 hr hbs dr db u.1 u.2.1 u.2.2.1 u.2.2.2)
section XH
variable {p : Program} {l : Launch} {e : Env} {R : Room} {s : State} {m : MethodId} {args : Array Value} {below : List Frame} {meth : Method} {c : Code} {H : Heap} {locs : List Loc} {cells slots : Nat} {Q : State → Prop}
variable {cc : ByteArray} {pc nL : Nat} {ls : Array Slot} {rest : List Value} {D : va_G} {A : Nat → Prop} {h0 hr hbs : Nat} {dr db : ClassId} {pl ch : Int32} {rd bs : Nat → Int64}
theorem x_gpl (F : CallFix p m c cc nL s args lw_all RX0) (w : XW D A s h0 hr hbs dr db H locs pl rd bs ch) (hdg : decode cc pc = .ok (.getfield 7, 3)) (k : W p l e R s m args below meth c H locs cells slots Q (F0 m (pc + 3) ls (.int pl :: rest))) : W p l e R s m args below meth c H locs cells slots Q (F0 m pc ls (.ref h0 :: rest)) := by
  obtain ⟨hx, hb, hml, hown, hts⟩ := F
  obtain ⟨hK, hP, hD, hS, hA⟩ := w
  exact va_get (D := D) (ci := 0) (v := .int pl) (C := RX0) (T := TX0) (N := 4) hx hb hts in_X0 hown hK hP 0 rfl rfl 0 (by decide) (hts _ q25) (fun _ h9 => h9) rfl hdg k
theorem x_grd (F : CallFix p m c cc nL s args lw_all RX0) (w : XW D A s h0 hr hbs dr db H locs pl rd bs ch) (hdg : decode cc pc = .ok (.getfield 13, 3)) (k : W p l e R s m args below meth c H locs cells slots Q (F0 m (pc + 3) ls (.ref hr :: rest))) : W p l e R s m args below meth c H locs cells slots Q (F0 m pc ls (.ref h0 :: rest)) := by
  obtain ⟨hx, hb, hml, hown, hts⟩ := F
  obtain ⟨hK, hP, hD, hS, hA⟩ := w
  exact va_get (D := D) (ci := 0) (v := .ref hr) (C := RX0) (T := TX0) (N := 4) hx hb hts in_X0 hown hK hP 0 rfl rfl 1 (by decide) (hts _ q26) (fun _ h9 => h9) rfl hdg k
theorem x_gbs (F : CallFix p m c cc nL s args lw_all RX0) (w : XW D A s h0 hr hbs dr db H locs pl rd bs ch) (hdg : decode cc pc = .ok (.getfield 17, 3)) (k : W p l e R s m args below meth c H locs cells slots Q (F0 m (pc + 3) ls (.ref hbs :: rest))) : W p l e R s m args below meth c H locs cells slots Q (F0 m pc ls (.ref h0 :: rest)) := by
  obtain ⟨hx, hb, hml, hown, hts⟩ := F
  obtain ⟨hK, hP, hD, hS, hA⟩ := w
  exact va_get (D := D) (ci := 0) (v := .ref hbs) (C := RX0) (T := TX0) (N := 4) hx hb hts in_X0 hown hK hP 0 rfl rfl 2 (by decide) (hts _ q27) (fun _ h9 => h9) rfl hdg k
theorem x_gch (F : CallFix p m c cc nL s args lw_all RX0) (w : XW D A s h0 hr hbs dr db H locs pl rd bs ch) (hdg : decode cc pc = .ok (.getfield 20, 3)) (k : W p l e R s m args below meth c H locs cells slots Q (F0 m (pc + 3) ls (.int ch :: rest))) : W p l e R s m args below meth c H locs cells slots Q (F0 m pc ls (.ref h0 :: rest)) := by
  obtain ⟨hx, hb, hml, hown, hts⟩ := F
  obtain ⟨hK, hP, hD, hS, hA⟩ := w
  exact va_get (D := D) (ci := 0) (v := .int ch) (C := RX0) (T := TX0) (N := 4) hx hb hts in_X0 hown hK hP 0 rfl rfl 3 (by decide) (hts _ q28) (fun _ h9 => h9) rfl hdg k
theorem x_ppl (F : CallFix p m c cc nL s args lw_all RX0) (w : XW D A s h0 hr hbs dr db H locs pl rd bs ch) {x : Int32} (hdg : decode cc pc = .ok (.putfield 7, 3)) (kk : ∀ (H : Heap) (locs : List Loc), XW D A s h0 hr hbs dr db H locs x rd bs ch → W p l e R s m args below meth c H locs cells slots Q (F0 m (pc + 3) ls rest)) : W p l e R s m args below meth c H locs cells slots Q (F0 m pc ls (.int x :: .ref h0 :: rest)) := by
  obtain ⟨hx, hb, hml, hown, hts⟩ := F
  obtain ⟨hK, hP, hD, hS, hA⟩ := w
  exact va_put (D := D) (ci := 0) (v := .int x) (ty := .int) (C := RX0) (T := TX0) (N := 4) hx hb hts in_X0 tyX0 tyX0_ok nmX0 hown hK hP hD hS 0 rfl rfl 0 (by decide) (hts _ q25) (fun _ h9 => h9) rfl (by decide +kernel) rfl rfl (Nat.le_of_ble_eq_true rfl) hdg (fun H locs hP hD hS => kk H locs ⟨hK, hP, hD, hS, hA⟩)
theorem x_pch (F : CallFix p m c cc nL s args lw_all RX0) (w : XW D A s h0 hr hbs dr db H locs pl rd bs ch) {x : Int32} (hn : narrow .boolean (.int x) = .int x) (hfit : fits .boolean (.int x) = true) (hdg : decode cc pc = .ok (.putfield 20, 3)) (kk : ∀ (H : Heap) (locs : List Loc), XW D A s h0 hr hbs dr db H locs pl rd bs x → W p l e R s m args below meth c H locs cells slots Q (F0 m (pc + 3) ls rest)) : W p l e R s m args below meth c H locs cells slots Q (F0 m pc ls (.int x :: .ref h0 :: rest)) := by
  obtain ⟨hx, hb, hml, hown, hts⟩ := F
  obtain ⟨hK, hP, hD, hS, hA⟩ := w
  exact va_put (D := D) (ci := 0) (v := .int x) (ty := .boolean) (C := RX0) (T := TX0) (N := 4) hx hb hts in_X0 tyX0 tyX0_ok nmX0 hown hK hP hD hS 0 rfl rfl 3 (by decide) (hts _ q28) (fun _ h9 => h9) rfl (by decide +kernel) hn hfit (Nat.le_of_ble_eq_true rfl) hdg (fun H locs hP hD hS => kk H locs ⟨hK, hP, hD, hS, hA⟩)
theorem x_ldrd (F : CallFix p m c cc nL s args lw_all RX0) (w : XW D A s h0 hr hbs dr db H locs pl rd bs ch) {j : Nat} (hj : j < 64) (hdg : decode cc pc = .ok (.laload, 1)) (k : W p l e R s m args below meth c H locs cells slots Q (F0 m (pc + 1) ls (.long (rd j) :: rest))) : W p l e R s m args below meth c H locs cells slots Q (F0 m pc ls (.int (nI j) :: .ref hr :: rest)) := by
  obtain ⟨hx, hb, hml, hown, hts⟩ := F
  obtain ⟨hK, hP, hD, hS, hA⟩ := w
  refine va_lald (f := rd) hx hb hK hP 1 0 rfl rfl (vp_in_nI hj (by decide)) hdg ?_
  rw [nI_clamp (by omega)]
  exact k
theorem x_ldbs (F : CallFix p m c cc nL s args lw_all RX0) (w : XW D A s h0 hr hbs dr db H locs pl rd bs ch) {j : Nat} (hj : j < 64) (hdg : decode cc pc = .ok (.laload, 1)) (k : W p l e R s m args below meth c H locs cells slots Q (F0 m (pc + 1) ls (.long (bs j) :: rest))) : W p l e R s m args below meth c H locs cells slots Q (F0 m pc ls (.int (nI j) :: .ref hbs :: rest)) := by
  obtain ⟨hx, hb, hml, hown, hts⟩ := F
  obtain ⟨hK, hP, hD, hS, hA⟩ := w
  refine va_lald (f := bs) hx hb hK hP 2 1 rfl rfl (vp_in_nI hj (by decide)) hdg ?_
  rw [nI_clamp (by omega)]
  exact k
theorem x_strd (F : CallFix p m c cc nL s args lw_all RX0) (w : XW D A s h0 hr hbs dr db H locs pl rd bs ch) {j : Nat} {x : Int64} (hj : j < 64) (hdg : decode cc pc = .ok (.lastore, 1)) (kk : ∀ (H : Heap) (locs : List Loc), XW D A s h0 hr hbs dr db H locs pl (vp_updL rd j x) bs ch → W p l e R s m args below meth c H locs cells slots Q (F0 m (pc + 1) ls rest)) : W p l e R s m args below meth c H locs cells slots Q (F0 m pc ls (.long x :: .int (nI j) :: .ref hr :: rest)) := by
  obtain ⟨hx, hb, hml, hown, hts⟩ := F
  obtain ⟨hK, hP, hD, hS, hA⟩ := w
  refine va_last (f := rd) hx hb hK hP hD hS 1 0 rfl rfl (vp_in_nI hj (by decide)) hdg (fun H1 l1 hP hD hS => ?_)
  rw [nI_clamp (by omega)] at hP hD
  exact kk H1 l1 ⟨hK, hP, hD, hS, hA⟩
theorem x_stbs (F : CallFix p m c cc nL s args lw_all RX0) (w : XW D A s h0 hr hbs dr db H locs pl rd bs ch) {j : Nat} {x : Int64} (hj : j < 64) (hdg : decode cc pc = .ok (.lastore, 1)) (kk : ∀ (H : Heap) (locs : List Loc), XW D A s h0 hr hbs dr db H locs pl rd (vp_updL bs j x) ch → W p l e R s m args below meth c H locs cells slots Q (F0 m (pc + 1) ls rest)) : W p l e R s m args below meth c H locs cells slots Q (F0 m pc ls (.long x :: .int (nI j) :: .ref hbs :: rest)) := by
  obtain ⟨hx, hb, hml, hown, hts⟩ := F
  obtain ⟨hK, hP, hD, hS, hA⟩ := w
  refine va_last (f := bs) hx hb hK hP hD hS 2 1 rfl rfl (vp_in_nI hj (by decide)) hdg (fun H1 l1 hP hD hS => ?_)
  rw [nI_clamp (by omega)] at hP hD
  exact kk H1 l1 ⟨hK, hP, hD, hS, hA⟩
theorem x_alen (F : CallFix p m c cc nL s args lw_all RX0) (w : XW D A s h0 hr hbs dr db H locs pl rd bs ch) (hdg : decode cc pc = .ok (.arraylength, 1)) (k : W p l e R s m args below meth c H locs cells slots Q (F0 m (pc + 1) ls (.int (nI 64) :: rest))) : W p l e R s m args below meth c H locs cells slots Q (F0 m pc ls (.ref hr :: rest)) := by
  obtain ⟨hx, hb, hml, hown, hts⟩ := F
  obtain ⟨hK, hP, hD, hS, hA⟩ := w
  exact va_alen (v := nI 64) hx hb hK hP 1 0 rfl rfl rfl hdg k
/-- a contract of the class out of a walk -/
theorem x_met {l : Launch} {y : MethodName} {cc : ByteArray} {maxL : Nat} {ret : Option FieldType} {rm : Room} {As : List Value} {Qc : (Nat → Prop) → Array Value → State → Outcome → State → Prop} {D : va_G} {h0 hr hbs : Nat} {dr db : ClassId} {sz : Nat} {pl : Int32} {rd bs : Nat → Int64} {ch : Int32} (hy : plainName y.cls = true) (hyc : y.cls = RX0) (hla : (lg_sl (.ref h0 :: As)).length ≤ maxL)
    (body : ∀ (p : Program) (e : Env) (s : State) (m : MethodId) (below : List Frame) (meth : Method) (c : Code) (A : Nat → Prop) (ls : Array Slot), CallFix p m c cc maxL s (.ref h0 :: As).toArray lw_all RX0 → meth.sig.returnType = ret → meth.locks = false → XW D A s h0 hr hbs dr db s.heap [] pl rd bs ch → lv_has ls maxL (lv_args 0 (.ref h0 :: As)) → W p l e rm s m (.ref h0 :: As).toArray below meth c s.heap [] 0 0 (MQ below (Qc A) (.ref h0 :: As).toArray s 0 0 A) (F0 m 0 ls [])) :
    Met l y (ws_ y cc maxL ret) rm (va_Pc (.ref h0 :: As) (XPre D h0 hr hbs dr db sz pl rd bs ch)) (Qc (va_A (xw h0 hr hbs dr db pl rd bs ch) sz)) 0 0 (va_A (xw h0 hr hbs dr db pl rd bs ch) sz) := by
  refine Met.ofW (cc := cc) (maxL := maxL) (ret := ret) hy rfl ?_
  intro p e s m args below meth c s₁ B hml hv
  obtain ⟨rfl, hsz, hP, hK, hD0⟩ := hv
  have hts := atoms_spec (ws := ws_ y cc maxL ret) B.pre
  have hts : ∀ w ∈ lw_all, w.before _ s = true := fun w h => hts w (List.mem_cons_of_mem _ h)
  have hown : s.vm.findClass RX0 = some m.cls := by rw [← hyc]; exact findClass_of_methodNamed B.named
  subst hsz
  have hD := hD0.self (sz := s.heap.size)
  have hl := lv_entry (.ref h0 :: As) (n := maxL) hla
  rw [lg_entry_eq]
  generalize (lg_sl (.ref h0 :: As) ++ List.replicate (maxL - (lg_sl (.ref h0 :: As)).length) Slot.unset).toArray = ls at hl ⊢
  exact body p e s m below meth c _ ls ⟨B.exec, B.bytes, hml, hown, hts⟩ B.returns B.notSynchronized ⟨hK, hP, hD, va_S.rf, fun q h => Or.inr h⟩ hl
theorem x_vret (hx : p.tables.exec = Jvm.exec) (hb : c.code = cc) (hr' : meth.sig.returnType = none) (hlk : meth.locks = false) (w : XW D A s h0 hr hbs dr db H locs pl rd bs ch) {post : XT → Prop} (hp : post (pl, rd, bs, ch)) (hdg : decode cc pc = .ok (.return_, 1)) : W p l e R s m args below meth c H locs 0 0 (MQ below (va_Qv post (XB D A h0 hr hbs dr db) A) args s 0 0 A) (F0 m pc ls []) :=
  W.vret hx hb hr' (fun t ht hW => ⟨⟨(pl, rd, bs, ch), rfl, hp, by rw [ht]; exact w.2.1, va_K.moved hW.alike w.1, w.2.2.1⟩, w.2.2.2.1.F ht⟩) w.2.2.2.1.2.2 hdg hlk
theorem x_iret (hx : p.tables.exec = Jvm.exec) (hb : c.code = cc) (hr' : meth.sig.returnType = some .int) (hlk : meth.locks = false) (w : XW D A s h0 hr hbs dr db H locs pl rd bs ch) {post : Int32 → XT → Prop} {r : Int32} (hp : post r (pl, rd, bs, ch)) (hdg : decode cc pc = .ok (.ireturn, 1)) : W p l e R s m args below meth c H locs 0 0 (MQ below (va_Qi post (XB D A h0 hr hbs dr db) A) args s 0 0 A) (F0 m pc ls [.int r]) :=
  W.iret hx hb hr' (fun t ht hW => ⟨⟨r, (pl, rd, bs, ch), rfl, hp, by rw [ht]; exact w.2.1, va_K.moved hW.alike w.1, w.2.2.1⟩, w.2.2.2.1.F ht⟩) w.2.2.2.1.2.2 hdg hlk
theorem x_zret (hx : p.tables.exec = Jvm.exec) (hb : c.code = cc) (hr' : meth.sig.returnType = some .boolean) (hlk : meth.locks = false) (w : XW D A s h0 hr hbs dr db H locs pl rd bs ch) {post : Int32 → XT → Prop} {r : Int32} (hn : narrow .boolean (.int r) = .int r) (hp : post r (pl, rd, bs, ch)) (hdg : decode cc pc = .ok (.ireturn, 1)) : W p l e R s m args below meth c H locs 0 0 (MQ below (va_Qi post (XB D A h0 hr hbs dr db) A) args s 0 0 A) (F0 m pc ls [.int r]) :=
  W.zret hx hb hr' hn (fun t ht hW => ⟨⟨r, (pl, rd, bs, ch), rfl, hp, by rw [ht]; exact w.2.1, va_K.moved hW.alike w.1, w.2.2.1⟩, w.2.2.2.1.F ht⟩) w.2.2.2.1.2.2 hdg hlk
theorem x_lret (hx : p.tables.exec = Jvm.exec) (hb : c.code = cc) (hr' : meth.sig.returnType = some .long) (hlk : meth.locks = false) (w : XW D A s h0 hr hbs dr db H locs pl rd bs ch) {post : Int64 → XT → Prop} {r : Int64} (hp : post r (pl, rd, bs, ch)) (hdg : decode cc pc = .ok (.lreturn, 1)) : W p l e R s m args below meth c H locs 0 0 (MQ below (va_Ql post (XB D A h0 hr hbs dr db) A) args s 0 0 A) (F0 m pc ls [.long r]) :=
  W.lret hx hb hr' (fun t ht hW => ⟨⟨r, (pl, rd, bs, ch), rfl, hp, by rw [ht]; exact w.2.1, va_K.moved hW.alike w.1, w.2.2.1⟩, w.2.2.2.1.F ht⟩) w.2.2.2.1.2.2 hdg hlk
variable {y : MethodName} {bytes : ByteArray} {maxL index n : Nat} {ret : Option FieldType} {rm : Room} {As st0 : List Value}
theorem x_callv (F : CallFix p m c cc nL s args lw_all RX0) (w : XW D A s h0 hr hbs dr db H locs pl rd bs ch) {post : XT → Prop} (hM : Met l y (ws_ y bytes maxL ret) rm (va_Pc (.ref h0 :: As) (XPre D h0 hr hbs dr db H.size pl rd bs ch)) (va_Qv post (XB D (va_A (xw h0 hr hbs dr db pl rd bs ch) H.size) h0 hr hbs dr db) (va_A (xw h0 hr hbs dr db pl rd bs ch) H.size)) 0 0 (va_A (xw h0 hr hbs dr db pl rd bs ch) H.size)) (cw : CallW R s args RX0 RX0 index y bytes maxL ret (ws_ y bytes maxL ret) rm 0 0 n) (hn : As.length = n) (hsz : ls.size = nL) (hst : st0 = As.reverse ++ .ref h0 :: rest) (hro : (rest.map fun v => v.category).sum ≤ 8) (hdg : decode cc pc = .ok (.invokevirtual index, 3)) (hf : cells + 0 ≤ R.cells ∧ slots + 0 ≤ R.slots)
    (kk : ∀ (u : XT) (H : Heap) (locs : List Loc), post u → XW D A s h0 hr hbs dr db H locs u.1 u.2.1 u.2.2.1 u.2.2.2 → W p l e R s m args below meth c H locs cells slots Q (F0 m (pc + 3) ls rest)) : W p l e R s m args below meth c H locs cells slots Q (F0 m pc ls st0) := by
  obtain ⟨hK, hP, hD, hS, hA⟩ := w
  have hFc := va_free (wc := xw h0 hr hbs dr db pl rd bs ch) hD hS hA [0, 1, 2] rfl
  refine va_callv (va_runV (As := As) (rest := rest) F hM cw ⟨fun a U g mk q => by obtain ⟨q0, q1, qP, qK, qD⟩ := q; exact ⟨q0, q1, qP, va_K.moved (u := U) (U := U.calling g mk a) (Vm.Alike.refl U.vm) qK, qD⟩, va_recv hK hP (ci := 0) (q0 := 0) rfl rfl, fun U hU hW => ⟨rfl, by rw [hU], by rw [hU]; exact hP, va_K.moved hW.alike hK, hD.weaken (fun _ _ _ _ => trivial)⟩⟩ rfl hn hsz hst (lv_room hro) hdg hf) hS (fun q _ h => hFc q h) hFc (fun u t H1 locs1 ht hvm hpost hB hz1 hk1 hS1 => ?_)
  obtain ⟨hP1, hK1, hD1⟩ := hB
  rw [ht] at hP1
  exact kk u H1 locs1 hpost ⟨va_K.moved hvm.symm hK1, hP1, hD1.weaken (fun _ _ _ h => hFc _ h), hS1, hA⟩
theorem x_calli (F : CallFix p m c cc nL s args lw_all RX0) (w : XW D A s h0 hr hbs dr db H locs pl rd bs ch) {post : Int32 → XT → Prop} (hM : Met l y (ws_ y bytes maxL ret) rm (va_Pc (.ref h0 :: As) (XPre D h0 hr hbs dr db H.size pl rd bs ch)) (va_Qi post (XB D (va_A (xw h0 hr hbs dr db pl rd bs ch) H.size) h0 hr hbs dr db) (va_A (xw h0 hr hbs dr db pl rd bs ch) H.size)) 0 0 (va_A (xw h0 hr hbs dr db pl rd bs ch) H.size)) (cw : CallW R s args RX0 RX0 index y bytes maxL ret (ws_ y bytes maxL ret) rm 0 0 n) (hn : As.length = n) (hsz : ls.size = nL) (hst : st0 = As.reverse ++ .ref h0 :: rest) (hro : (rest.map fun v => v.category).sum ≤ 8) (hdg : decode cc pc = .ok (.invokevirtual index, 3)) (hf : cells + 0 ≤ R.cells ∧ slots + 0 ≤ R.slots)
    (kk : ∀ (r : Int32) (u : XT) (H : Heap) (locs : List Loc), post r u → XW D A s h0 hr hbs dr db H locs u.1 u.2.1 u.2.2.1 u.2.2.2 → W p l e R s m args below meth c H locs cells slots Q (F0 m (pc + 3) ls (.int r :: rest))) : W p l e R s m args below meth c H locs cells slots Q (F0 m pc ls st0) := by
  obtain ⟨hK, hP, hD, hS, hA⟩ := w
  have hFc := va_free (wc := xw h0 hr hbs dr db pl rd bs ch) hD hS hA [0, 1, 2] rfl
  refine va_calli (va_runV (As := As) (rest := rest) F hM cw ⟨fun a U g mk q => by obtain ⟨q0, q1, qP, qK, qD⟩ := q; exact ⟨q0, q1, qP, va_K.moved (u := U) (U := U.calling g mk a) (Vm.Alike.refl U.vm) qK, qD⟩, va_recv hK hP (ci := 0) (q0 := 0) rfl rfl, fun U hU hW => ⟨rfl, by rw [hU], by rw [hU]; exact hP, va_K.moved hW.alike hK, hD.weaken (fun _ _ _ _ => trivial)⟩⟩ rfl hn hsz hst (lv_room hro) hdg hf) hS (fun q _ h => hFc q h) hFc (fun r u t H1 locs1 ht hvm hpost hB hz1 hk1 hS1 => ?_)
  obtain ⟨hP1, hK1, hD1⟩ := hB
  rw [ht] at hP1
  exact kk r u H1 locs1 hpost ⟨va_K.moved hvm.symm hK1, hP1, hD1.weaken (fun _ _ _ h => hFc _ h), hS1, hA⟩
end XH
end
section
/-! the contracts of RouteDesk -/
abbrev XMv (l : Launch) (y : MethodName) (cc : ByteArray) (maxL : Nat) (ret : Option FieldType) (rm : Room) (As : List Value) (D : va_G) (h0 hr hbs : Nat) (dr db : ClassId) (sz : Nat) (pl : Int32) (rd bs : Nat → Int64) (ch : Int32) (post : XT → Prop) : Prop := Met l y (ws_ y cc maxL ret) rm (va_Pc (.ref h0 :: As) (XPre D h0 hr hbs dr db sz pl rd bs ch)) (va_Qv post (XB D (va_A (xw h0 hr hbs dr db pl rd bs ch) sz) h0 hr hbs dr db) (va_A (xw h0 hr hbs dr db pl rd bs ch) sz)) 0 0 (va_A (xw h0 hr hbs dr db pl rd bs ch) sz)
abbrev XMi (l : Launch) (y : MethodName) (cc : ByteArray) (maxL : Nat) (ret : Option FieldType) (rm : Room) (As : List Value) (D : va_G) (h0 hr hbs : Nat) (dr db : ClassId) (sz : Nat) (pl : Int32) (rd bs : Nat → Int64) (ch : Int32) (post : Int32 → XT → Prop) : Prop := Met l y (ws_ y cc maxL ret) rm (va_Pc (.ref h0 :: As) (XPre D h0 hr hbs dr db sz pl rd bs ch)) (va_Qi post (XB D (va_A (xw h0 hr hbs dr db pl rd bs ch) sz) h0 hr hbs dr db) (va_A (xw h0 hr hbs dr db pl rd bs ch) sz)) 0 0 (va_A (xw h0 hr hbs dr db pl rd bs ch) sz)
abbrev XMl (l : Launch) (y : MethodName) (cc : ByteArray) (maxL : Nat) (ret : Option FieldType) (rm : Room) (As : List Value) (D : va_G) (h0 hr hbs : Nat) (dr db : ClassId) (sz : Nat) (pl : Int32) (rd bs : Nat → Int64) (ch : Int32) (post : Int64 → XT → Prop) : Prop := Met l y (ws_ y cc maxL ret) rm (va_Pc (.ref h0 :: As) (XPre D h0 hr hbs dr db sz pl rd bs ch)) (va_Ql post (XB D (va_A (xw h0 hr hbs dr db pl rd bs ch) sz) h0 hr hbs dr db) (va_A (xw h0 hr hbs dr db pl rd bs ch) sz)) 0 0 (va_A (xw h0 hr hbs dr db pl rd bs ch) sz)
set_option maxHeartbeats 4000000 in
set_option maxRecDepth 100000 in
theorem metX0_at (l : Launch) (D : va_G) (h0 hr hbs : Nat) (dr db : ClassId) (sz : Nat) (pl : Int32) (rd bs : Nat → Int64) (ch : Int32) (a b : Nat)  : XMi l yX0_at cX0_at 3 (some .int) ({ frames := 0, cells := 0, slots := 0, locals := 0 }) [.int (nI a), .int (nI b)] D h0 hr hbs dr db sz pl rd bs ch (fun r u => r = nI (8 * a + b) ∧ u = (pl, rd, bs, ch)) := by
  refine x_met (Qc := fun A => va_Qi (fun r u => r = nI (8 * a + b) ∧ u = (pl, rd, bs, ch)) (XB D A h0 hr hbs dr db) A) (by decide) rfl (Nat.le_of_ble_eq_true rfl) ?_
  intro p e s m below meth c A ls F hr' hlk w hl
  obtain ⟨hx, hb, hml, hown, hts⟩ := id F
  have hl : lv_has ls 3 [(0, .ref h0), (1, .int (nI a)), (2, .int (nI b))] := hl
  refine lv_iload_n hx hb dX0_at_0 rfl (lv_at hl 1 rfl) ?_
  refine lv_bipush (v := (nI 8)) hx hb dX0_at_1 (by decide +kernel) ?_
  refine lv_imul hx hb dX0_at_3 ?_
  refine lv_iload_n hx hb dX0_at_4 rfl (lv_at hl 2 rfl) ?_
  refine lv_iadd hx hb dX0_at_5 ?_
  refine w_top (nI_ix a b) ?_
  exact x_iret hx hb hr' hlk w ⟨rfl, rfl⟩ dX0_at_6
section
variable {p : Program} {l : Launch} {e : Env} {R : Room} {s : State} {m : MethodId} {args : Array Value} {below : List Frame} {meth : Method} {c : Code} {H : Heap} {locs : List Loc} {cells slots : Nat} {Q : State → Prop}
variable {cc : ByteArray} {pc nL : Nat} {ls : Array Slot} {rest : List Value} {D : va_G} {A : Nat → Prop} {h0 hr hbs : Nat} {dr db : ClassId} {pl ch : Int32} {rd bs : Nat → Int64}
theorem x_at  (F : CallFix p m c cc nL s args lw_all RX0) (w : XW D A s h0 hr hbs dr db H locs pl rd bs ch) {a b : Nat}  (hsz : ls.size = nL) (hro : (rest.map fun v => v.category).sum ≤ 8) (hR : 1 ≤ R.frames ∧ 22 ≤ R.locals) (hf : cells + 0 ≤ R.cells ∧ slots + 0 ≤ R.slots) (hdg : decode cc pc = .ok (.invokevirtual 34, 3))
    (kk : ∀ (H : Heap) (locs : List Loc), XW D A s h0 hr hbs dr db H locs pl rd bs ch → W p l e R s m args below meth c H locs cells slots Q (F0 m (pc + 3) ls (.int (nI (8 * a + b)) :: rest))) : W p l e R s m args below meth c H locs cells slots Q (F0 m pc ls (.int (nI b) :: .int (nI a) :: .ref h0 :: rest)) := by
  have hts := F.2.2.2.2
  refine x_calli F w (metX0_at l D h0 hr hbs dr db H.size pl rd bs ch a b) (cwV 2 hts (lw_V q52 q54 qs2 q9 q55) rfl rfl rfl (by decide +kernel) ⟨hR.1, hR.2⟩) rfl hsz rfl hro hdg hf (fun r u H1 l1 hp w1 => ?_)
  obtain ⟨rfl, rfl⟩ := hp
  exact kk H1 l1 w1
end
set_option maxHeartbeats 4000000 in
set_option maxRecDepth 100000 in
theorem metX0_place (l : Launch) (D : va_G) (h0 hr hbs : Nat) (dr db : ClassId) (sz : Nat) (n : Nat) (rd bs : Nat → Int64) (ch : Int32) (k : Int32) (h1 : 1 ≤ n) (h8 : n ≤ 8) : XMi l yX0_place cX0_place 2 (some .int) ({ frames := 0, cells := 0, slots := 0, locals := 0 }) [.int k] D h0 hr hbs dr db sz (nI n) rd bs ch (fun r u => r = nI (pl_ n k) ∧ u = (nI n, rd, bs, ch)) := by
  refine x_met (Qc := fun A => va_Qi (fun r u => r = nI (pl_ n k) ∧ u = (nI n, rd, bs, ch)) (XB D A h0 hr hbs dr db) A) (by decide) rfl (Nat.le_of_ble_eq_true rfl) ?_
  intro p e s m below meth c A ls F hr' hlk w hl
  obtain ⟨hx, hb, hml, hown, hts⟩ := id F
  have hl : lv_has ls 2 [(0, .ref h0), (1, .int k)] := hl
  refine lv_iload_n hx hb dX0_place_0 rfl (lv_at hl 1 rfl) ?_
  refine lv_ldc hx hb hown (hts _ q51) dX0_place_1 ?_
  refine lv_iand hx hb dX0_place_3 ?_
  refine lv_aload_n hx hb dX0_place_4 rfl (lv_at hl 0 rfl) ?_
  refine x_gpl F w dX0_place_5 ?_
  refine lv_irem hx hb dX0_place_8 (nI_ne0 (by omega) (by omega)) ?_
  refine w_top (pl_eq k h1 h8) ?_
  exact x_iret hx hb hr' hlk w ⟨rfl, rfl⟩ dX0_place_9
section
variable {p : Program} {l : Launch} {e : Env} {R : Room} {s : State} {m : MethodId} {args : Array Value} {below : List Frame} {meth : Method} {c : Code} {H : Heap} {locs : List Loc} {cells slots : Nat} {Q : State → Prop}
variable {cc : ByteArray} {pc nL : Nat} {ls : Array Slot} {rest : List Value} {D : va_G} {A : Nat → Prop} {h0 hr hbs : Nat} {dr db : ClassId} {pl ch : Int32} {rd bs : Nat → Int64}
theorem x_place {n : Nat} (F : CallFix p m c cc nL s args lw_all RX0) (w : XW D A s h0 hr hbs dr db H locs (nI n) rd bs ch) (h1 : 1 ≤ n) (h8 : n ≤ 8) {k : Int32}  (hsz : ls.size = nL) (hro : (rest.map fun v => v.category).sum ≤ 8) (hR : 1 ≤ R.frames ∧ 21 ≤ R.locals) (hf : cells + 0 ≤ R.cells ∧ slots + 0 ≤ R.slots) (hdg : decode cc pc = .ok (.invokevirtual 30, 3))
    (kk : ∀ (H : Heap) (locs : List Loc), XW D A s h0 hr hbs dr db H locs (nI n) rd bs ch → W p l e R s m args below meth c H locs cells slots Q (F0 m (pc + 3) ls (.int (nI (pl_ n k)) :: rest))) : W p l e R s m args below meth c H locs cells slots Q (F0 m pc ls (.int k :: .ref h0 :: rest)) := by
  have hts := F.2.2.2.2
  refine x_calli F w (metX0_place l D h0 hr hbs dr db H.size n rd bs ch k h1 h8) (cwV 1 hts (lw_V q47 q49 qs1 q9 q50) rfl rfl rfl (by decide +kernel) ⟨hR.1, hR.2⟩) rfl hsz rfl hro hdg hf (fun r u H1 l1 hp w1 => ?_)
  obtain ⟨rfl, rfl⟩ := hp
  exact kk H1 l1 w1
end
set_option maxHeartbeats 4000000 in
set_option maxRecDepth 100000 in
theorem metX0_clear (l : Launch) (D : va_G) (h0 hr hbs : Nat) (dr db : ClassId) (sz : Nat) (pl : Int32) (rd bs : Nat → Int64) (ch : Int32)  : XMv l yX0_clear cX0_clear 2 none ({ frames := 0, cells := 0, slots := 0, locals := 0 }) [] D h0 hr hbs dr db sz pl rd bs ch (fun u => u = (pl, lp x_fill 0 64 rd, bs, 1)) := by
  refine x_met (Qc := fun A => va_Qv (fun u => u = (pl, lp x_fill 0 64 rd, bs, 1)) (XB D A h0 hr hbs dr db) A) (by decide) rfl (Nat.le_of_ble_eq_true rfl) ?_
  intro p e s m below meth c A ls F hr' hlk w hl
  obtain ⟨hx, hb, hml, hown, hts⟩ := id F
  have hl : lv_has ls 2 [(0, .ref h0)] := hl
  refine lv_iconst (v := (nI 0)) hx hb dX0_clear_0 (by decide +kernel) ?_
  refine lv_istore_n (lv' := [(1, .int (nI 0)), (0, .ref h0)]) hx hb dX0_clear_1 rfl hl (by decide) rfl (fun ls hl => ?_)
  refine lp_back x_fill (fun i f => ∀ (H : Heap) (locs : List Loc) (ls : Array Slot), XW D A s h0 hr hbs dr db H locs pl f bs ch → lv_has ls 2 [(0, .ref h0), (1, .int (nI i))] → W p l e _ s m _ below meth c H locs 0 0 _ (F0 m 2 ls [])) 64 ?_ 64 0 rd rfl ?_ _ _ ls w (lv_sub hl [1, 0] rfl)
  · intro i f hi hk H locs ls w hl
    refine lv_iload_n hx hb dX0_clear_2 rfl (lv_at hl 1 rfl) ?_
    refine lv_aload_n hx hb dX0_clear_3 rfl (lv_at hl 0 rfl) ?_
    refine x_grd F w dX0_clear_4 ?_
    refine x_alen F w dX0_clear_7 ?_
    refine w_ge_f (tgt := 26) hx hb dX0_clear_8 (by decide) hi (by omega) ?_
    refine lv_aload_n hx hb dX0_clear_11 rfl (lv_at hl 0 rfl) ?_
    refine x_grd F w dX0_clear_12 ?_
    refine lv_iload_n hx hb dX0_clear_15 rfl (lv_at hl 1 rfl) ?_
    refine lv_ldc2 hx hb hown (hts _ q24) dX0_clear_16 ?_
    refine x_strd F w (by omega) dX0_clear_19 (fun H locs w => ?_)
    refine lv_iinc (v := nI (i + 1)) (lv' := [(1, .int (nI (i + 1))), (0, .ref h0)]) hx hb dX0_clear_20 hl (k := 1) rfl (nI_inc i) (by decide) rfl (fun ls hl => ?_)
    refine lv_goto (tgt := 2) hx hb dX0_clear_23 (by decide) ?_
    exact hk _ rfl _ _ _ w (lv_sub hl [1, 0] rfl)
  · intro H locs ls w hl
    refine lv_iload_n hx hb dX0_clear_2 rfl (lv_at hl 1 rfl) ?_
    refine lv_aload_n hx hb dX0_clear_3 rfl (lv_at hl 0 rfl) ?_
    refine x_grd F w dX0_clear_4 ?_
    refine x_alen F w dX0_clear_7 ?_
    refine w_ge_t (tgt := 26) hx hb dX0_clear_8 (by decide) (Nat.le_refl 64) (by omega) ?_
    refine lv_aload_n hx hb dX0_clear_26 rfl (lv_at hl 0 rfl) ?_
    refine lv_iconst (v := 1) hx hb dX0_clear_27 (by decide +kernel) ?_
    refine x_pch F w rfl rfl dX0_clear_28 (fun H locs w => ?_)
    exact x_vret hx hb hr' hlk w rfl dX0_clear_31
section
variable {p : Program} {l : Launch} {e : Env} {R : Room} {s : State} {m : MethodId} {args : Array Value} {below : List Frame} {meth : Method} {c : Code} {H : Heap} {locs : List Loc} {cells slots : Nat} {Q : State → Prop}
variable {cc : ByteArray} {pc nL : Nat} {ls : Array Slot} {rest : List Value} {D : va_G} {A : Nat → Prop} {h0 hr hbs : Nat} {dr db : ClassId} {pl ch : Int32} {rd bs : Nat → Int64}
theorem x_clr  (F : CallFix p m c cc nL s args lw_all RX0) (w : XW D A s h0 hr hbs dr db H locs pl rd bs ch)   (hsz : ls.size = nL) (hro : (rest.map fun v => v.category).sum ≤ 8) (hR : 1 ≤ R.frames ∧ 21 ≤ R.locals) (hf : cells + 0 ≤ R.cells ∧ slots + 0 ≤ R.slots) (hdg : decode cc pc = .ok (.invokevirtual 24, 3))
    (kk : ∀ (H : Heap) (locs : List Loc), XW D A s h0 hr hbs dr db H locs pl (lp x_fill 0 64 rd) bs 1 → W p l e R s m args below meth c H locs cells slots Q (F0 m (pc + 3) ls (rest))) : W p l e R s m args below meth c H locs cells slots Q (F0 m pc ls (.ref h0 :: rest)) := by
  have hts := F.2.2.2.2
  refine x_callv F w (metX0_clear l D h0 hr hbs dr db H.size pl rd bs ch) (cwV 0 hts (lw_V q20 q22 qs0 q9 q23) rfl rfl rfl (by decide +kernel) ⟨hR.1, hR.2⟩) rfl hsz rfl hro hdg hf (fun u H1 l1 hp w1 => ?_)
  obtain rfl := hp
  exact kk H1 l1 w1
end
/-- how many places -/
def pn_ (k : Int32) : Nat := 1 + k.toBitVec.toNat % 8
theorem pn_eq (k : Int32) : 1 + (k &&& 7) = nI (pn_ k) := by
  rw [pk_and k 3 (by decide +kernel)]
  rw [show (1 : Int32) = nI 1 by decide +kernel]
  exact nI_add 1 _
set_option maxHeartbeats 4000000 in
set_option maxRecDepth 100000 in
theorem metX0_places (l : Launch) (D : va_G) (h0 hr hbs : Nat) (dr db : ClassId) (sz : Nat) (pl : Int32) (rd bs : Nat → Int64) (ch : Int32) (k : Int32)  : XMv l yX0_places cX0_places 2 none ({ frames := 1, cells := 0, slots := 0, locals := 21 }) [.int k] D h0 hr hbs dr db sz pl rd bs ch (fun u => u = (nI (pn_ k), lp x_fill 0 64 rd, bs, 1)) := by
  refine x_met (Qc := fun A => va_Qv (fun u => u = (nI (pn_ k), lp x_fill 0 64 rd, bs, 1)) (XB D A h0 hr hbs dr db) A) (by decide) rfl (Nat.le_of_ble_eq_true rfl) ?_
  intro p e s m below meth c A ls F hr' hlk w hl
  obtain ⟨hx, hb, hml, hown, hts⟩ := id F
  have hl : lv_has ls 2 [(0, .ref h0), (1, .int k)] := hl
  refine lv_aload_n hx hb dX0_places_0 rfl (lv_at hl 0 rfl) ?_
  refine lv_iconst (v := 1) hx hb dX0_places_1 (by decide +kernel) ?_
  refine lv_iload_n hx hb dX0_places_2 rfl (lv_at hl 1 rfl) ?_
  refine lv_bipush (v := 7) hx hb dX0_places_3 (by decide +kernel) ?_
  refine lv_iand hx hb dX0_places_5 ?_
  refine lv_iadd hx hb dX0_places_6 ?_
  refine w_top (pn_eq k) ?_
  refine x_ppl F w dX0_places_7 (fun H locs w => ?_)
  refine lv_aload_n hx hb dX0_places_10 rfl (lv_at hl 0 rfl) ?_
  refine x_clr F w hl.1 (Nat.le_of_ble_eq_true rfl) ⟨Nat.le_of_ble_eq_true rfl, Nat.le_of_ble_eq_true rfl⟩ ⟨Nat.le_of_ble_eq_true rfl, Nat.le_of_ble_eq_true rfl⟩ dX0_places_11 (fun H locs w => ?_)
  exact x_vret hx hb hr' hlk w rfl dX0_places_14
/-- what road writes -/
def x_cost (k : Int32) : Int64 := (k - k / 1000 * 1000).toInt64 * 1024 + 1
set_option maxHeartbeats 4000000 in
set_option maxRecDepth 100000 in
theorem metX0_road (l : Launch) (D : va_G) (h0 hr hbs : Nat) (dr db : ClassId) (sz : Nat) (n : Nat) (rd bs : Nat → Int64) (ch : Int32) (a b k : Int32) (h1 : 1 ≤ n) (h8 : n ≤ 8) : XMv l yX0_road cX0_road 4 none ({ frames := 1, cells := 0, slots := 0, locals := 22 }) [.int a, .int b, .int k] D h0 hr hbs dr db sz (nI n) rd bs ch (fun u => u = (nI n, vp_updL rd (8 * pl_ n a + pl_ n b) (x_cost k), bs, 1)) := by
  refine x_met (Qc := fun A => va_Qv (fun u => u = (nI n, vp_updL rd (8 * pl_ n a + pl_ n b) (x_cost k), bs, 1)) (XB D A h0 hr hbs dr db) A) (by decide) rfl (Nat.le_of_ble_eq_true rfl) ?_
  intro p e s m below meth c A ls F hr' hlk w hl
  obtain ⟨hx, hb, hml, hown, hts⟩ := id F
  have hl : lv_has ls 4 [(0, .ref h0), (1, .int a), (2, .int b), (3, .int k)] := hl
  have ha := pl_lt a h1
  have hbb := pl_lt b h1
  refine lv_aload_n hx hb dX0_road_0 rfl (lv_at hl 0 rfl) ?_
  refine x_grd F w dX0_road_1 ?_
  refine lv_aload_n hx hb dX0_road_4 rfl (lv_at hl 0 rfl) ?_
  refine lv_aload_n hx hb dX0_road_5 rfl (lv_at hl 0 rfl) ?_
  refine lv_iload_n hx hb dX0_road_6 rfl (lv_at hl 1 rfl) ?_
  refine x_place F w h1 h8 hl.1 (Nat.le_of_ble_eq_true rfl) ⟨Nat.le_of_ble_eq_true rfl, Nat.le_of_ble_eq_true rfl⟩ ⟨Nat.le_of_ble_eq_true rfl, Nat.le_of_ble_eq_true rfl⟩ dX0_road_7 (fun H locs w => ?_)
  refine lv_aload_n hx hb dX0_road_10 rfl (lv_at hl 0 rfl) ?_
  refine lv_iload_n hx hb dX0_road_11 rfl (lv_at hl 2 rfl) ?_
  refine x_place F w h1 h8 hl.1 (Nat.le_of_ble_eq_true rfl) ⟨Nat.le_of_ble_eq_true rfl, Nat.le_of_ble_eq_true rfl⟩ ⟨Nat.le_of_ble_eq_true rfl, Nat.le_of_ble_eq_true rfl⟩ dX0_road_12 (fun H locs w => ?_)
  refine x_at F w hl.1 (Nat.le_of_ble_eq_true rfl) ⟨Nat.le_of_ble_eq_true rfl, Nat.le_of_ble_eq_true rfl⟩ ⟨Nat.le_of_ble_eq_true rfl, Nat.le_of_ble_eq_true rfl⟩ dX0_road_15 (fun H locs w => ?_)
  refine lv_iload_n hx hb dX0_road_18 rfl (lv_at hl 3 rfl) ?_
  refine lv_sipush (v := 1000) hx hb dX0_road_19 (by decide +kernel) ?_
  refine lv_irem hx hb dX0_road_22 (by decide +kernel) ?_
  refine lv_i2l hx hb dX0_road_23 rfl ?_
  refine lv_ldc2 hx hb hown (hts _ q56) dX0_road_24 ?_
  refine lv_lmul hx hb dX0_road_27 ?_
  refine lv_lconst (v := 1) hx hb dX0_road_28 (by decide +kernel) ?_
  refine lv_ladd hx hb dX0_road_29 ?_
  refine x_strd F w (by omega) dX0_road_30 (fun H locs w => ?_)
  refine lv_aload_n hx hb dX0_road_31 rfl (lv_at hl 0 rfl) ?_
  refine lv_iconst (v := 1) hx hb dX0_road_32 (by decide +kernel) ?_
  refine x_pch F w rfl rfl dX0_road_33 (fun H locs w => ?_)
  exact x_vret hx hb hr' hlk w rfl dX0_road_36
set_option maxHeartbeats 4000000 in
set_option maxRecDepth 100000 in
theorem metX0_close (l : Launch) (D : va_G) (h0 hr hbs : Nat) (dr db : ClassId) (sz : Nat) (n : Nat) (rd bs : Nat → Int64) (ch : Int32) (a b : Int32) (h1 : 1 ≤ n) (h8 : n ≤ 8) : XMv l yX0_close cX0_close 3 none ({ frames := 1, cells := 0, slots := 0, locals := 22 }) [.int a, .int b] D h0 hr hbs dr db sz (nI n) rd bs ch (fun u => u = (nI n, vp_updL rd (8 * pl_ n a + pl_ n b) NO, bs, 1)) := by
  refine x_met (Qc := fun A => va_Qv (fun u => u = (nI n, vp_updL rd (8 * pl_ n a + pl_ n b) NO, bs, 1)) (XB D A h0 hr hbs dr db) A) (by decide) rfl (Nat.le_of_ble_eq_true rfl) ?_
  intro p e s m below meth c A ls F hr' hlk w hl
  obtain ⟨hx, hb, hml, hown, hts⟩ := id F
  have hl : lv_has ls 3 [(0, .ref h0), (1, .int a), (2, .int b)] := hl
  have ha := pl_lt a h1
  have hbb := pl_lt b h1
  refine lv_aload_n hx hb dX0_close_0 rfl (lv_at hl 0 rfl) ?_
  refine x_grd F w dX0_close_1 ?_
  refine lv_aload_n hx hb dX0_close_4 rfl (lv_at hl 0 rfl) ?_
  refine lv_aload_n hx hb dX0_close_5 rfl (lv_at hl 0 rfl) ?_
  refine lv_iload_n hx hb dX0_close_6 rfl (lv_at hl 1 rfl) ?_
  refine x_place F w h1 h8 hl.1 (Nat.le_of_ble_eq_true rfl) ⟨Nat.le_of_ble_eq_true rfl, Nat.le_of_ble_eq_true rfl⟩ ⟨Nat.le_of_ble_eq_true rfl, Nat.le_of_ble_eq_true rfl⟩ dX0_close_7 (fun H locs w => ?_)
  refine lv_aload_n hx hb dX0_close_10 rfl (lv_at hl 0 rfl) ?_
  refine lv_iload_n hx hb dX0_close_11 rfl (lv_at hl 2 rfl) ?_
  refine x_place F w h1 h8 hl.1 (Nat.le_of_ble_eq_true rfl) ⟨Nat.le_of_ble_eq_true rfl, Nat.le_of_ble_eq_true rfl⟩ ⟨Nat.le_of_ble_eq_true rfl, Nat.le_of_ble_eq_true rfl⟩ dX0_close_12 (fun H locs w => ?_)
  refine x_at F w hl.1 (Nat.le_of_ble_eq_true rfl) ⟨Nat.le_of_ble_eq_true rfl, Nat.le_of_ble_eq_true rfl⟩ ⟨Nat.le_of_ble_eq_true rfl, Nat.le_of_ble_eq_true rfl⟩ dX0_close_15 (fun H locs w => ?_)
  refine lv_ldc2 hx hb hown (hts _ q24) dX0_close_18 ?_
  refine x_strd F w (by omega) dX0_close_21 (fun H locs w => ?_)
  refine lv_aload_n hx hb dX0_close_22 rfl (lv_at hl 0 rfl) ?_
  refine lv_iconst (v := 1) hx hb dX0_close_23 (by decide +kernel) ?_
  refine x_pch F w rfl rfl dX0_close_24 (fun H locs w => ?_)
  exact x_vret hx hb hr' hlk w rfl dX0_close_27
set_option maxHeartbeats 4000000 in
set_option maxRecDepth 100000 in
theorem metX0_sweep (l : Launch) (D : va_G) (h0 hr hbs : Nat) (dr db : ClassId) (sz : Nat) (n : Nat) (rd bs : Nat → Int64) (ch : Int32) (h1 : 1 ≤ n) (h8 : n ≤ 8) : XMv l yX0_sweep cX0_sweep 8 none ({ frames := 1, cells := 0, slots := 0, locals := 22 }) [] D h0 hr hbs dr db sz (nI n) rd bs ch (fun u => u = (nI n, rd, x_sw n rd bs ch, 0)) := by
  refine x_met (Qc := fun A => va_Qv (fun u => u = (nI n, rd, x_sw n rd bs ch, 0)) (XB D A h0 hr hbs dr db) A) (by decide) rfl (Nat.le_of_ble_eq_true rfl) ?_
  intro p e s m below meth c A ls F hr' hlk w hl
  obtain ⟨hx, hb, hml, hown, hts⟩ := id F
  have hl : lv_has ls 8 [(0, .ref h0)] := hl
  refine lv_aload_n hx hb dX0_sweep_0 rfl (lv_at hl 0 rfl) ?_
  refine x_gch F w dX0_sweep_1 ?_
  refine lv_if_ne (tgt := 8) hx hb dX0_sweep_4 (by decide) (fun hc => ?_) (fun hc => ?_)
  · refine lv_aload_n hx hb dX0_sweep_8 rfl (lv_at hl 0 rfl) ?_
    refine lv_iconst (v := 0) hx hb dX0_sweep_9 (by decide +kernel) ?_
    refine x_pch F w rfl rfl dX0_sweep_10 (fun H locs w => ?_)
    refine lv_iconst (v := (nI 0)) hx hb dX0_sweep_13 (by decide +kernel) ?_
    refine lv_istore_n (lv' := [(1, .int (nI 0)), (0, .ref h0)]) hx hb dX0_sweep_14 rfl hl (by decide) rfl (fun ls hl => ?_)
    refine lp_back (x_copy rd) (fun i f => ∀ (H : Heap) (locs : List Loc) (ls : Array Slot), XW D A s h0 hr hbs dr db H locs (nI n) rd f 0 → lv_has ls 8 [(0, .ref h0), (1, .int (nI i))] → W p l e _ s m _ below meth c H locs 0 0 _ (F0 m 15 ls [])) 64 ?_ 64 0 bs rfl ?_ _ _ ls w (lv_sub hl [1, 0] rfl)
    · intro i f hi hk H locs ls w hl
      refine lv_iload_n hx hb dX0_sweep_15 rfl (lv_at hl 1 rfl) ?_
      refine lv_aload_n hx hb dX0_sweep_16 rfl (lv_at hl 0 rfl) ?_
      refine x_grd F w dX0_sweep_17 ?_
      refine x_alen F w dX0_sweep_20 ?_
      refine w_ge_f (tgt := 42) hx hb dX0_sweep_21 (by decide) hi (by omega) ?_
      refine lv_aload_n hx hb dX0_sweep_24 rfl (lv_at hl 0 rfl) ?_
      refine x_gbs F w dX0_sweep_25 ?_
      refine lv_iload_n hx hb dX0_sweep_28 rfl (lv_at hl 1 rfl) ?_
      refine lv_aload_n hx hb dX0_sweep_29 rfl (lv_at hl 0 rfl) ?_
      refine x_grd F w dX0_sweep_30 ?_
      refine lv_iload_n hx hb dX0_sweep_33 rfl (lv_at hl 1 rfl) ?_
      refine x_ldrd F w (by omega) dX0_sweep_34 ?_
      refine x_stbs F w (by omega) dX0_sweep_35 (fun H locs w => ?_)
      refine lv_iinc (v := nI (i + 1)) (lv' := [(1, .int (nI (i + 1))), (0, .ref h0)]) hx hb dX0_sweep_36 hl (k := 1) rfl (nI_inc i) (by decide) rfl (fun ls hl => ?_)
      refine lv_goto (tgt := 15) hx hb dX0_sweep_39 (by decide) ?_
      exact hk _ rfl _ _ _ w (lv_sub hl [1, 0] rfl)
    · intro H locs ls w hl
      generalize hf1 : lp (x_copy rd) 0 64 bs = f1 at w ⊢
      refine lv_iload_n hx hb dX0_sweep_15 rfl (lv_at hl 1 rfl) ?_
      refine lv_aload_n hx hb dX0_sweep_16 rfl (lv_at hl 0 rfl) ?_
      refine x_grd F w dX0_sweep_17 ?_
      refine x_alen F w dX0_sweep_20 ?_
      refine w_ge_t (tgt := 42) hx hb dX0_sweep_21 (by decide) (Nat.le_refl 64) (by omega) ?_
      refine lv_iconst (v := (nI 0)) hx hb dX0_sweep_42 (by decide +kernel) ?_
      refine lv_istore_n (lv' := [(1, .int (nI 0)), (0, .ref h0)]) hx hb dX0_sweep_43 rfl hl (by decide) rfl (fun ls hl => ?_)
      refine lp_back x_dia (fun i f => ∀ (H : Heap) (locs : List Loc) (ls : Array Slot), XW D A s h0 hr hbs dr db H locs (nI n) rd f 0 → lv_has ls 8 [(0, .ref h0), (1, .int (nI i))] → W p l e _ s m _ below meth c H locs 0 0 _ (F0 m 44 ls [])) n ?_ n 0 f1 (Nat.zero_add n) ?_ _ _ ls w (lv_sub hl [1, 0] rfl)
      · intro i f hi hk H locs ls w hl
        refine lv_iload_n hx hb dX0_sweep_44 rfl (lv_at hl 1 rfl) ?_
        refine lv_aload_n hx hb dX0_sweep_45 rfl (lv_at hl 0 rfl) ?_
        refine x_gpl F w dX0_sweep_46 ?_
        refine w_ge_f (tgt := 86) hx hb dX0_sweep_49 (by decide) hi (by omega) ?_
        refine lv_aload_n hx hb dX0_sweep_52 rfl (lv_at hl 0 rfl) ?_
        refine x_gbs F w dX0_sweep_53 ?_
        refine lv_aload_n hx hb dX0_sweep_56 rfl (lv_at hl 0 rfl) ?_
        refine lv_iload_n hx hb dX0_sweep_57 rfl (lv_at hl 1 rfl) ?_
        refine lv_iload_n hx hb dX0_sweep_58 rfl (lv_at hl 1 rfl) ?_
        refine x_at F w hl.1 (Nat.le_of_ble_eq_true rfl) ⟨Nat.le_of_ble_eq_true rfl, Nat.le_of_ble_eq_true rfl⟩ ⟨Nat.le_of_ble_eq_true rfl, Nat.le_of_ble_eq_true rfl⟩ dX0_sweep_59 (fun H locs w => ?_)
        refine x_ldbs F w (by omega) dX0_sweep_62 ?_
        refine lv_lconst (v := 0) hx hb dX0_sweep_63 (by decide +kernel) ?_
        refine w_lc_le (tgt := 80) hx hb dX0_sweep_64 dX0_sweep_65 (by decide) (fun hd => ?_) (fun hd => ?_)
        · refine lv_iinc (v := nI (i + 1)) (lv' := [(1, .int (nI (i + 1))), (0, .ref h0)]) hx hb dX0_sweep_80 hl (k := 1) rfl (nI_inc i) (by decide) rfl (fun ls hl => ?_)
          refine lv_goto (tgt := 44) hx hb dX0_sweep_83 (by decide) ?_
          exact hk _ (by rw [x_dia, if_neg hd]) _ _ _ w (lv_sub hl [1, 0] rfl)
        · refine lv_aload_n hx hb dX0_sweep_68 rfl (lv_at hl 0 rfl) ?_
          refine x_gbs F w dX0_sweep_69 ?_
          refine lv_aload_n hx hb dX0_sweep_72 rfl (lv_at hl 0 rfl) ?_
          refine lv_iload_n hx hb dX0_sweep_73 rfl (lv_at hl 1 rfl) ?_
          refine lv_iload_n hx hb dX0_sweep_74 rfl (lv_at hl 1 rfl) ?_
          refine x_at F w hl.1 (Nat.le_of_ble_eq_true rfl) ⟨Nat.le_of_ble_eq_true rfl, Nat.le_of_ble_eq_true rfl⟩ ⟨Nat.le_of_ble_eq_true rfl, Nat.le_of_ble_eq_true rfl⟩ dX0_sweep_75 (fun H locs w => ?_)
          refine lv_lconst (v := 0) hx hb dX0_sweep_78 (by decide +kernel) ?_
          refine x_stbs F w (by omega) dX0_sweep_79 (fun H locs w => ?_)
          refine lv_iinc (v := nI (i + 1)) (lv' := [(1, .int (nI (i + 1))), (0, .ref h0)]) hx hb dX0_sweep_80 hl (k := 1) rfl (nI_inc i) (by decide) rfl (fun ls hl => ?_)
          refine lv_goto (tgt := 44) hx hb dX0_sweep_83 (by decide) ?_
          exact hk _ (by rw [x_dia, if_pos hd]) _ _ _ w (lv_sub hl [1, 0] rfl)
      · intro H locs ls w hl
        generalize hf2 : lp x_dia 0 n f1 = f2 at w ⊢
        refine lv_iload_n hx hb dX0_sweep_44 rfl (lv_at hl 1 rfl) ?_
        refine lv_aload_n hx hb dX0_sweep_45 rfl (lv_at hl 0 rfl) ?_
        refine x_gpl F w dX0_sweep_46 ?_
        refine w_ge_t (tgt := 86) hx hb dX0_sweep_49 (by decide) (Nat.le_refl n) (by omega) ?_
        refine lv_iconst (v := (nI 0)) hx hb dX0_sweep_86 (by decide +kernel) ?_
        refine lv_istore_n (lv' := [(1, .int (nI 0)), (0, .ref h0)]) hx hb dX0_sweep_87 rfl hl (by decide) rfl (fun ls hl => ?_)
        refine lp_back (x_m n) (fun mm f => ∀ (H : Heap) (locs : List Loc) (ls : Array Slot), XW D A s h0 hr hbs dr db H locs (nI n) rd f 0 → lv_has ls 8 [(0, .ref h0), (1, .int (nI mm))] → W p l e _ s m _ below meth c H locs 0 0 _ (F0 m 88 ls [])) n ?_ n 0 f2 (Nat.zero_add n) ?_ _ _ ls w (lv_sub hl [1, 0] rfl)
        · intro mm f hmm hkm H locs ls w hl
          refine lv_iload_n hx hb dX0_sweep_88 rfl (lv_at hl 1 rfl) ?_
          refine lv_aload_n hx hb dX0_sweep_89 rfl (lv_at hl 0 rfl) ?_
          refine x_gpl F w dX0_sweep_90 ?_
          refine w_ge_f (tgt := 218) hx hb dX0_sweep_93 (by decide) hmm (by omega) ?_
          refine lv_iconst (v := (nI 0)) hx hb dX0_sweep_96 (by decide +kernel) ?_
          refine lv_istore_n (lv' := [(2, .int (nI 0)), (0, .ref h0), (1, .int (nI mm))]) hx hb dX0_sweep_97 rfl hl (by decide) rfl (fun ls hl => ?_)
          refine lp_back (x_a n mm) (fun a f => ∀ (H : Heap) (locs : List Loc) (ls : Array Slot), XW D A s h0 hr hbs dr db H locs (nI n) rd f 0 → lv_has ls 8 [(0, .ref h0), (1, .int (nI mm)), (2, .int (nI a))] → W p l e _ s m _ below meth c H locs 0 0 _ (F0 m 98 ls [])) n ?_ n 0 f (Nat.zero_add n) ?_ _ _ ls w (lv_sub hl [1, 2, 0] rfl)
          · intro a f ha hka H locs ls w hl
            refine lv_iload_n hx hb dX0_sweep_98 rfl (lv_at hl 2 rfl) ?_
            refine lv_aload_n hx hb dX0_sweep_99 rfl (lv_at hl 0 rfl) ?_
            refine x_gpl F w dX0_sweep_100 ?_
            refine w_ge_f (tgt := 212) hx hb dX0_sweep_103 (by decide) ha (by omega) ?_
            refine lv_aload_n hx hb dX0_sweep_106 rfl (lv_at hl 0 rfl) ?_
            refine x_gbs F w dX0_sweep_107 ?_
            refine lv_aload_n hx hb dX0_sweep_110 rfl (lv_at hl 0 rfl) ?_
            refine lv_iload_n hx hb dX0_sweep_111 rfl (lv_at hl 2 rfl) ?_
            refine lv_iload_n hx hb dX0_sweep_112 rfl (lv_at hl 1 rfl) ?_
            refine x_at F w hl.1 (Nat.le_of_ble_eq_true rfl) ⟨Nat.le_of_ble_eq_true rfl, Nat.le_of_ble_eq_true rfl⟩ ⟨Nat.le_of_ble_eq_true rfl, Nat.le_of_ble_eq_true rfl⟩ dX0_sweep_113 (fun H locs w => ?_)
            refine x_ldbs F w (by omega) dX0_sweep_116 ?_
            refine lv_lstore_n (lv' := [(3, .long (f (8 * a + mm))), (0, .ref h0), (1, .int (nI mm)), (2, .int (nI a))]) hx hb dX0_sweep_117 rfl hl (by decide) rfl (fun ls hl => ?_)
            refine lv_lload_n hx hb dX0_sweep_118 rfl (lv_at hl 0 rfl) ?_
            refine lv_ldc2 hx hb hown (hts _ q24) dX0_sweep_119 ?_
            refine w_lc_ne (tgt := 129) hx hb dX0_sweep_122 dX0_sweep_123 (by decide) (fun hn => ?_) (fun hn => ?_)
            · refine lv_iconst (v := (nI 0)) hx hb dX0_sweep_129 (by decide +kernel) ?_
              refine lv_istore (lv' := [(5, .int (nI 0)), (3, .long (f (8 * a + mm))), (0, .ref h0), (1, .int (nI mm)), (2, .int (nI a))]) hx hb dX0_sweep_130 hl (by decide) rfl (fun ls hl => ?_)
              generalize hfi : f (8 * a + mm) = first at hl hn
              refine lp_back (x_b mm a first) (fun b f => ∀ (H : Heap) (locs : List Loc) (ls : Array Slot), XW D A s h0 hr hbs dr db H locs (nI n) rd f 0 → lv_has ls 8 [(0, .ref h0), (1, .int (nI mm)), (2, .int (nI a)), (3, .long first), (5, .int (nI b))] → W p l e _ s m _ below meth c H locs 0 0 _ (F0 m 132 ls [])) n ?_ n 0 f (Nat.zero_add n) ?_ _ _ ls w (lv_sub hl [2, 3, 4, 1, 0] rfl)
              · intro b f hbn hkb H locs ls w hl
                refine lv_iload hx hb dX0_sweep_132 (lv_at hl 4 rfl) ?_
                refine lv_aload_n hx hb dX0_sweep_134 rfl (lv_at hl 0 rfl) ?_
                refine x_gpl F w dX0_sweep_135 ?_
                refine w_ge_f (tgt := 206) hx hb dX0_sweep_138 (by decide) hbn (by omega) ?_
                refine lv_aload_n hx hb dX0_sweep_141 rfl (lv_at hl 0 rfl) ?_
                refine x_gbs F w dX0_sweep_142 ?_
                refine lv_aload_n hx hb dX0_sweep_145 rfl (lv_at hl 0 rfl) ?_
                refine lv_iload_n hx hb dX0_sweep_146 rfl (lv_at hl 1 rfl) ?_
                refine lv_iload hx hb dX0_sweep_147 (lv_at hl 4 rfl) ?_
                refine x_at F w hl.1 (Nat.le_of_ble_eq_true rfl) ⟨Nat.le_of_ble_eq_true rfl, Nat.le_of_ble_eq_true rfl⟩ ⟨Nat.le_of_ble_eq_true rfl, Nat.le_of_ble_eq_true rfl⟩ dX0_sweep_149 (fun H locs w => ?_)
                refine x_ldbs F w (by omega) dX0_sweep_152 ?_
                refine lv_lstore (lv' := [(6, .long (f (8 * mm + b))), (0, .ref h0), (1, .int (nI mm)), (2, .int (nI a)), (3, .long first), (5, .int (nI b))]) hx hb dX0_sweep_153 hl (by decide) rfl (fun ls hl => ?_)
                refine lv_lload hx hb dX0_sweep_155 (lv_at hl 0 rfl) ?_
                refine lv_ldc2 hx hb hown (hts _ q24) dX0_sweep_157 ?_
                refine w_lc_eq (tgt := 200) hx hb dX0_sweep_160 dX0_sweep_161 (by decide) (fun hs => ?_) (fun hs => ?_)
                · refine lv_iinc (v := nI (b + 1)) (lv' := [(5, .int (nI (b + 1))), (6, .long (f (8 * mm + b))), (0, .ref h0), (1, .int (nI mm)), (2, .int (nI a)), (3, .long first)]) hx hb dX0_sweep_200 hl (k := 5) rfl (nI_inc b) (by decide) rfl (fun ls hl => ?_)
                  refine lv_goto (tgt := 132) hx hb dX0_sweep_203 (by decide) ?_
                  exact hkb _ (by rw [x_b, if_neg (fun z => z.1 hs)]) _ _ _ w (lv_sub hl [2, 3, 4, 5, 0] rfl)
                · refine lv_lload_n hx hb dX0_sweep_164 rfl (lv_at hl 4 rfl) ?_
                  refine lv_lload hx hb dX0_sweep_165 (lv_at hl 0 rfl) ?_
                  refine lv_ladd hx hb dX0_sweep_167 ?_
                  refine lv_aload_n hx hb dX0_sweep_168 rfl (lv_at hl 1 rfl) ?_
                  refine x_gbs F w dX0_sweep_169 ?_
                  refine lv_aload_n hx hb dX0_sweep_172 rfl (lv_at hl 1 rfl) ?_
                  refine lv_iload_n hx hb dX0_sweep_173 rfl (lv_at hl 3 rfl) ?_
                  refine lv_iload hx hb dX0_sweep_174 (lv_at hl 5 rfl) ?_
                  refine x_at F w hl.1 (Nat.le_of_ble_eq_true rfl) ⟨Nat.le_of_ble_eq_true rfl, Nat.le_of_ble_eq_true rfl⟩ ⟨Nat.le_of_ble_eq_true rfl, Nat.le_of_ble_eq_true rfl⟩ dX0_sweep_176 (fun H locs w => ?_)
                  refine x_ldbs F w (by omega) dX0_sweep_179 ?_
                  refine w_lc_ge (tgt := 200) hx hb dX0_sweep_180 dX0_sweep_181 (by decide) (fun ht => ?_) (fun ht => ?_)
                  · refine lv_iinc (v := nI (b + 1)) (lv' := [(5, .int (nI (b + 1))), (6, .long (f (8 * mm + b))), (0, .ref h0), (1, .int (nI mm)), (2, .int (nI a)), (3, .long first)]) hx hb dX0_sweep_200 hl (k := 5) rfl (nI_inc b) (by decide) rfl (fun ls hl => ?_)
                    refine lv_goto (tgt := 132) hx hb dX0_sweep_203 (by decide) ?_
                    exact hkb _ (by rw [x_b, if_neg (fun z => ht z.2)]) _ _ _ w (lv_sub hl [2, 3, 4, 5, 0] rfl)
                  · refine lv_aload_n hx hb dX0_sweep_184 rfl (lv_at hl 1 rfl) ?_
                    refine x_gbs F w dX0_sweep_185 ?_
                    refine lv_aload_n hx hb dX0_sweep_188 rfl (lv_at hl 1 rfl) ?_
                    refine lv_iload_n hx hb dX0_sweep_189 rfl (lv_at hl 3 rfl) ?_
                    refine lv_iload hx hb dX0_sweep_190 (lv_at hl 5 rfl) ?_
                    refine x_at F w hl.1 (Nat.le_of_ble_eq_true rfl) ⟨Nat.le_of_ble_eq_true rfl, Nat.le_of_ble_eq_true rfl⟩ ⟨Nat.le_of_ble_eq_true rfl, Nat.le_of_ble_eq_true rfl⟩ dX0_sweep_192 (fun H locs w => ?_)
                    refine lv_lload_n hx hb dX0_sweep_195 rfl (lv_at hl 4 rfl) ?_
                    refine lv_lload hx hb dX0_sweep_196 (lv_at hl 0 rfl) ?_
                    refine lv_ladd hx hb dX0_sweep_198 ?_
                    refine x_stbs F w (by omega) dX0_sweep_199 (fun H locs w => ?_)
                    refine lv_iinc (v := nI (b + 1)) (lv' := [(5, .int (nI (b + 1))), (6, .long (f (8 * mm + b))), (0, .ref h0), (1, .int (nI mm)), (2, .int (nI a)), (3, .long first)]) hx hb dX0_sweep_200 hl (k := 5) rfl (nI_inc b) (by decide) rfl (fun ls hl => ?_)
                    refine lv_goto (tgt := 132) hx hb dX0_sweep_203 (by decide) ?_
                    exact hkb _ (by rw [x_b, if_pos ⟨hs, ht⟩]) _ _ _ w (lv_sub hl [2, 3, 4, 5, 0] rfl)
              · intro H locs ls w hl
                refine lv_iload hx hb dX0_sweep_132 (lv_at hl 4 rfl) ?_
                refine lv_aload_n hx hb dX0_sweep_134 rfl (lv_at hl 0 rfl) ?_
                refine x_gpl F w dX0_sweep_135 ?_
                refine w_ge_t (tgt := 206) hx hb dX0_sweep_138 (by decide) (Nat.le_refl n) (by omega) ?_
                refine lv_iinc (v := nI (a + 1)) (lv' := [(2, .int (nI (a + 1))), (0, .ref h0), (1, .int (nI mm)), (3, .long first), (5, .int (nI n))]) hx hb dX0_sweep_206 hl (k := 2) rfl (nI_inc a) (by decide) rfl (fun ls hl => ?_)
                refine lv_goto (tgt := 98) hx hb dX0_sweep_209 (by decide) ?_
                exact hka _ (by rw [x_a, hfi, if_neg hn]) _ _ _ w (lv_sub hl [1, 2, 0] rfl)
            · refine lv_goto (tgt := 206) hx hb dX0_sweep_126 (by decide) ?_
              refine lv_iinc (v := nI (a + 1)) (lv' := [(2, .int (nI (a + 1))), (3, .long (f (8 * a + mm))), (0, .ref h0), (1, .int (nI mm))]) hx hb dX0_sweep_206 hl (k := 3) rfl (nI_inc a) (by decide) rfl (fun ls hl => ?_)
              refine lv_goto (tgt := 98) hx hb dX0_sweep_209 (by decide) ?_
              exact hka _ (by rw [x_a, if_pos hn]) _ _ _ w (lv_sub hl [2, 3, 0] rfl)
          · intro H locs ls w hl
            refine lv_iload_n hx hb dX0_sweep_98 rfl (lv_at hl 2 rfl) ?_
            refine lv_aload_n hx hb dX0_sweep_99 rfl (lv_at hl 0 rfl) ?_
            refine x_gpl F w dX0_sweep_100 ?_
            refine w_ge_t (tgt := 212) hx hb dX0_sweep_103 (by decide) (Nat.le_refl n) (by omega) ?_
            refine lv_iinc (v := nI (mm + 1)) (lv' := [(1, .int (nI (mm + 1))), (0, .ref h0), (2, .int (nI n))]) hx hb dX0_sweep_212 hl (k := 1) rfl (nI_inc mm) (by decide) rfl (fun ls hl => ?_)
            refine lv_goto (tgt := 88) hx hb dX0_sweep_215 (by decide) ?_
            exact hkm _ rfl _ _ _ w (lv_sub hl [1, 0] rfl)
        · intro H locs ls w hl
          refine lv_iload_n hx hb dX0_sweep_88 rfl (lv_at hl 1 rfl) ?_
          refine lv_aload_n hx hb dX0_sweep_89 rfl (lv_at hl 0 rfl) ?_
          refine x_gpl F w dX0_sweep_90 ?_
          refine w_ge_t (tgt := 218) hx hb dX0_sweep_93 (by decide) (Nat.le_refl n) (by omega) ?_
          exact x_vret hx hb hr' hlk w (by show (_ : XT) = (_ : XT); rw [x_sw, if_neg hc, x_fw, hf1, hf2]) dX0_sweep_218
  · exact x_vret hx hb hr' hlk w (by show (_ : XT) = (_ : XT); rw [x_sw, if_pos hc, hc]) dX0_sweep_7
section
variable {p : Program} {l : Launch} {e : Env} {R : Room} {s : State} {m : MethodId} {args : Array Value} {below : List Frame} {meth : Method} {c : Code} {H : Heap} {locs : List Loc} {cells slots : Nat} {Q : State → Prop}
variable {cc : ByteArray} {pc nL : Nat} {ls : Array Slot} {rest : List Value} {D : va_G} {A : Nat → Prop} {h0 hr hbs : Nat} {dr db : ClassId} {pl ch : Int32} {rd bs : Nat → Int64}
theorem x_swp {n : Nat} (F : CallFix p m c cc nL s args lw_all RX0) (w : XW D A s h0 hr hbs dr db H locs (nI n) rd bs ch) (h1 : 1 ≤ n) (h8 : n ≤ 8)  (hsz : ls.size = nL) (hro : (rest.map fun v => v.category).sum ≤ 8) (hR : 2 ≤ R.frames ∧ 49 ≤ R.locals) (hf : cells + 0 ≤ R.cells ∧ slots + 0 ≤ R.slots) (hdg : decode cc pc = .ok (.invokevirtual 40, 3))
    (kk : ∀ (H : Heap) (locs : List Loc), XW D A s h0 hr hbs dr db H locs (nI n) rd (x_sw n rd bs ch) 0 → W p l e R s m args below meth c H locs cells slots Q (F0 m (pc + 3) ls (rest))) : W p l e R s m args below meth c H locs cells slots Q (F0 m pc ls (.ref h0 :: rest)) := by
  have hts := F.2.2.2.2
  refine x_callv F w (metX0_sweep l D h0 hr hbs dr db H.size n rd bs ch h1 h8) (cwV 0 hts (lw_V q65 q67 qs3 q9 q68) rfl rfl rfl (by decide +kernel) ⟨hR.1, hR.2⟩) rfl hsz rfl hro hdg hf (fun u H1 l1 hp w1 => ?_)
  obtain rfl := hp
  exact kk H1 l1 w1
end
end
section
set_option maxHeartbeats 4000000 in
set_option maxRecDepth 100000 in
theorem metX0_reach (l : Launch) (D : va_G) (h0 hr hbs : Nat) (dr db : ClassId) (sz : Nat) (n : Nat) (rd bs : Nat → Int64) (ch : Int32) (a b : Int32) (h1 : 1 ≤ n) (h8 : n ≤ 8) : XMi l yX0_reach cX0_reach 3 (some .boolean) ({ frames := 2, cells := 0, slots := 0, locals := 49 }) [.int a, .int b] D h0 hr hbs dr db sz (nI n) rd bs ch (fun r u => r = (if x_sw n rd bs ch (8 * pl_ n a + pl_ n b) = NO then 0 else 1) ∧ u = (nI n, rd, x_sw n rd bs ch, 0)) := by
  refine x_met (Qc := fun A => va_Qi (fun r u => r = (if x_sw n rd bs ch (8 * pl_ n a + pl_ n b) = NO then 0 else 1) ∧ u = (nI n, rd, x_sw n rd bs ch, 0)) (XB D A h0 hr hbs dr db) A) (by decide) rfl (Nat.le_of_ble_eq_true rfl) ?_
  intro p e s m below meth c A ls F hr' hlk w hl
  obtain ⟨hx, hb, hml, hown, hts⟩ := id F
  have hl : lv_has ls 3 [(0, .ref h0), (1, .int a), (2, .int b)] := hl
  have ha := pl_lt a h1
  have hbb := pl_lt b h1
  refine lv_aload_n hx hb dX0_reach_0 rfl (lv_at hl 0 rfl) ?_
  refine x_swp F w h1 h8 hl.1 (Nat.le_of_ble_eq_true rfl) ⟨Nat.le_of_ble_eq_true rfl, Nat.le_of_ble_eq_true rfl⟩ ⟨Nat.le_of_ble_eq_true rfl, Nat.le_of_ble_eq_true rfl⟩ dX0_reach_1 (fun H locs w => ?_)
  refine lv_aload_n hx hb dX0_reach_4 rfl (lv_at hl 0 rfl) ?_
  refine x_gbs F w dX0_reach_5 ?_
  refine lv_aload_n hx hb dX0_reach_8 rfl (lv_at hl 0 rfl) ?_
  refine lv_aload_n hx hb dX0_reach_9 rfl (lv_at hl 0 rfl) ?_
  refine lv_iload_n hx hb dX0_reach_10 rfl (lv_at hl 1 rfl) ?_
  refine x_place F w h1 h8 hl.1 (Nat.le_of_ble_eq_true rfl) ⟨Nat.le_of_ble_eq_true rfl, Nat.le_of_ble_eq_true rfl⟩ ⟨Nat.le_of_ble_eq_true rfl, Nat.le_of_ble_eq_true rfl⟩ dX0_reach_11 (fun H locs w => ?_)
  refine lv_aload_n hx hb dX0_reach_14 rfl (lv_at hl 0 rfl) ?_
  refine lv_iload_n hx hb dX0_reach_15 rfl (lv_at hl 2 rfl) ?_
  refine x_place F w h1 h8 hl.1 (Nat.le_of_ble_eq_true rfl) ⟨Nat.le_of_ble_eq_true rfl, Nat.le_of_ble_eq_true rfl⟩ ⟨Nat.le_of_ble_eq_true rfl, Nat.le_of_ble_eq_true rfl⟩ dX0_reach_16 (fun H locs w => ?_)
  refine x_at F w hl.1 (Nat.le_of_ble_eq_true rfl) ⟨Nat.le_of_ble_eq_true rfl, Nat.le_of_ble_eq_true rfl⟩ ⟨Nat.le_of_ble_eq_true rfl, Nat.le_of_ble_eq_true rfl⟩ dX0_reach_19 (fun H locs w => ?_)
  refine x_ldbs F w (by omega) dX0_reach_22 ?_
  refine lv_ldc2 hx hb hown (hts _ q24) dX0_reach_23 ?_
  refine w_lc_eq (tgt := 34) hx hb dX0_reach_26 dX0_reach_27 (by decide) (fun hc => ?_) (fun hc => ?_)
  · refine lv_iconst (v := 0) hx hb dX0_reach_34 (by decide +kernel) ?_
    exact x_zret hx hb hr' hlk w rfl ⟨by rw [if_pos hc], rfl⟩ dX0_reach_35
  · refine lv_iconst (v := 1) hx hb dX0_reach_30 (by decide +kernel) ?_
    refine lv_goto (tgt := 35) hx hb dX0_reach_31 (by decide) ?_
    exact x_zret hx hb hr' hlk w rfl ⟨by rw [if_neg hc], rfl⟩ dX0_reach_35
set_option maxHeartbeats 4000000 in
set_option maxRecDepth 100000 in
theorem metX0_onCircle (l : Launch) (D : va_G) (h0 hr hbs : Nat) (dr db : ClassId) (sz : Nat) (pl : Int32) (rd bs : Nat → Int64) (ch : Int32) (a : Nat) (ha : a < 7 + 1) : XMi l yX0_onCircle cX0_onCircle 2 (some .boolean) ({ frames := 1, cells := 0, slots := 0, locals := 22 }) [.int (nI a)] D h0 hr hbs dr db sz pl rd bs ch (fun r u => r = (if bs (8 * a + a) < 0 then 1 else 0) ∧ u = (pl, rd, bs, ch)) := by
  refine x_met (Qc := fun A => va_Qi (fun r u => r = (if bs (8 * a + a) < 0 then 1 else 0) ∧ u = (pl, rd, bs, ch)) (XB D A h0 hr hbs dr db) A) (by decide) rfl (Nat.le_of_ble_eq_true rfl) ?_
  intro p e s m below meth c A ls F hr' hlk w hl
  obtain ⟨hx, hb, hml, hown, hts⟩ := id F
  have hl : lv_has ls 2 [(0, .ref h0), (1, .int (nI a))] := hl
  refine lv_aload_n hx hb dX0_onCircle_0 rfl (lv_at hl 0 rfl) ?_
  refine x_gbs F w dX0_onCircle_1 ?_
  refine lv_aload_n hx hb dX0_onCircle_4 rfl (lv_at hl 0 rfl) ?_
  refine lv_iload_n hx hb dX0_onCircle_5 rfl (lv_at hl 1 rfl) ?_
  refine lv_iload_n hx hb dX0_onCircle_6 rfl (lv_at hl 1 rfl) ?_
  refine x_at F w hl.1 (Nat.le_of_ble_eq_true rfl) ⟨Nat.le_of_ble_eq_true rfl, Nat.le_of_ble_eq_true rfl⟩ ⟨Nat.le_of_ble_eq_true rfl, Nat.le_of_ble_eq_true rfl⟩ dX0_onCircle_7 (fun H locs w => ?_)
  refine x_ldbs F w (by omega) dX0_onCircle_10 ?_
  refine lv_lconst (v := 0) hx hb dX0_onCircle_11 (by decide +kernel) ?_
  refine w_lc_ge (tgt := 20) hx hb dX0_onCircle_12 dX0_onCircle_13 (by decide) (fun hc => ?_) (fun hc => ?_)
  · refine lv_iconst (v := 0) hx hb dX0_onCircle_20 (by decide +kernel) ?_
    exact x_zret hx hb hr' hlk w rfl ⟨by rw [if_neg hc], rfl⟩ dX0_onCircle_21
  · refine lv_iconst (v := 1) hx hb dX0_onCircle_16 (by decide +kernel) ?_
    refine lv_goto (tgt := 21) hx hb dX0_onCircle_17 (by decide) ?_
    exact x_zret hx hb hr' hlk w rfl ⟨by rw [if_pos hc], rfl⟩ dX0_onCircle_21
section
variable {p : Program} {l : Launch} {e : Env} {R : Room} {s : State} {m : MethodId} {args : Array Value} {below : List Frame} {meth : Method} {c : Code} {H : Heap} {locs : List Loc} {cells slots : Nat} {Q : State → Prop}
variable {cc : ByteArray} {pc nL : Nat} {ls : Array Slot} {rest : List Value} {D : va_G} {A : Nat → Prop} {h0 hr hbs : Nat} {dr db : ClassId} {pl ch : Int32} {rd bs : Nat → Int64}
theorem x_onc  (F : CallFix p m c cc nL s args lw_all RX0) (w : XW D A s h0 hr hbs dr db H locs pl rd bs ch) {a : Nat} (ha : a < 7 + 1)  (hsz : ls.size = nL) (hro : (rest.map fun v => v.category).sum ≤ 8) (hR : 2 ≤ R.frames ∧ 43 ≤ R.locals) (hf : cells + 0 ≤ R.cells ∧ slots + 0 ≤ R.slots) (hdg : decode cc pc = .ok (.invokevirtual 43, 3))
    (kk : ∀ (H : Heap) (locs : List Loc), XW D A s h0 hr hbs dr db H locs pl rd bs ch → W p l e R s m args below meth c H locs cells slots Q (F0 m (pc + 3) ls (.int (if bs (8 * a + a) < 0 then 1 else 0) :: rest))) : W p l e R s m args below meth c H locs cells slots Q (F0 m pc ls (.int (nI a) :: .ref h0 :: rest)) := by
  have hts := F.2.2.2.2
  refine x_calli F w (metX0_onCircle l D h0 hr hbs dr db H.size pl rd bs ch a ha) (cwV 1 hts (lw_V q73 q75 qs4 q9 q76) rfl rfl rfl (by decide +kernel) ⟨hR.1, hR.2⟩) rfl hsz rfl hro hdg hf (fun r u H1 l1 hp w1 => ?_)
  obtain ⟨rfl, rfl⟩ := hp
  exact kk H1 l1 w1
end
set_option maxHeartbeats 4000000 in
set_option maxRecDepth 100000 in
theorem metX0_circle (l : Launch) (D : va_G) (h0 hr hbs : Nat) (dr db : ClassId) (sz : Nat) (n : Nat) (rd bs : Nat → Int64) (ch : Int32) (h1 : 1 ≤ n) (h8 : n ≤ 8) : XMi l yX0_circle cX0_circle 2 (some .boolean) ({ frames := 2, cells := 0, slots := 0, locals := 49 }) [] D h0 hr hbs dr db sz (nI n) rd bs ch (fun r u => ((r = 1 ∧ ∃ v, v < n ∧ x_sw n rd bs ch (8 * v + v) < 0) ∨ (r = 0 ∧ ∀ v, v < n → ¬ x_sw n rd bs ch (8 * v + v) < 0)) ∧ u = (nI n, rd, x_sw n rd bs ch, 0)) := by
  refine x_met (Qc := fun A => va_Qi (fun r u => ((r = 1 ∧ ∃ v, v < n ∧ x_sw n rd bs ch (8 * v + v) < 0) ∨ (r = 0 ∧ ∀ v, v < n → ¬ x_sw n rd bs ch (8 * v + v) < 0)) ∧ u = (nI n, rd, x_sw n rd bs ch, 0)) (XB D A h0 hr hbs dr db) A) (by decide) rfl (Nat.le_of_ble_eq_true rfl) ?_
  intro p e s m below meth c A ls F hr' hlk w hl
  obtain ⟨hx, hb, hml, hown, hts⟩ := id F
  have hl : lv_has ls 2 [(0, .ref h0)] := hl
  refine lv_aload_n hx hb dX0_circle_0 rfl (lv_at hl 0 rfl) ?_
  refine x_swp F w h1 h8 hl.1 (Nat.le_of_ble_eq_true rfl) ⟨Nat.le_of_ble_eq_true rfl, Nat.le_of_ble_eq_true rfl⟩ ⟨Nat.le_of_ble_eq_true rfl, Nat.le_of_ble_eq_true rfl⟩ dX0_circle_1 (fun H locs w => ?_)
  refine lv_iconst (v := (nI 0)) hx hb dX0_circle_4 (by decide +kernel) ?_
  refine lv_istore_n (lv' := [(1, .int (nI 0)), (0, .ref h0)]) hx hb dX0_circle_5 rfl hl (by decide) rfl (fun ls hl => ?_)
  generalize x_sw n rd bs ch = f at w ⊢
  refine lp_back (fun _ x => x) (fun i (_ : Unit) => (∀ v, v < i → ¬ f (8 * v + v) < 0) → ∀ (H : Heap) (locs : List Loc) (ls : Array Slot), XW D A s h0 hr hbs dr db H locs (nI n) rd f 0 → lv_has ls 2 [(0, .ref h0), (1, .int (nI i))] → W p l e _ s m _ below meth c H locs 0 0 _ (F0 m 6 ls [])) n ?_ n 0 () (Nat.zero_add n) ?_ (fun v hv => absurd hv (Nat.not_lt_zero v)) _ _ ls w (lv_sub hl [1, 0] rfl)
  · intro i _ hi hk hno H locs ls w hl
    refine lv_iload_n hx hb dX0_circle_6 rfl (lv_at hl 1 rfl) ?_
    refine lv_aload_n hx hb dX0_circle_7 rfl (lv_at hl 0 rfl) ?_
    refine x_gpl F w dX0_circle_8 ?_
    refine w_ge_f (tgt := 30) hx hb dX0_circle_11 (by decide) hi (by omega) ?_
    refine lv_aload_n hx hb dX0_circle_14 rfl (lv_at hl 0 rfl) ?_
    refine lv_iload_n hx hb dX0_circle_15 rfl (lv_at hl 1 rfl) ?_
    refine x_onc F w (by omega) hl.1 (Nat.le_of_ble_eq_true rfl) ⟨Nat.le_of_ble_eq_true rfl, Nat.le_of_ble_eq_true rfl⟩ ⟨Nat.le_of_ble_eq_true rfl, Nat.le_of_ble_eq_true rfl⟩ dX0_circle_16 (fun H locs w => ?_)
    refine lv_if_eq (tgt := 24) hx hb dX0_circle_19 (by decide) (fun hc => ?_) (fun hc => ?_)
    · have hc : ¬ f (8 * i + i) < 0 := fun z => absurd hc (by rw [if_pos z]; decide)
      refine lv_iinc (v := nI (i + 1)) (lv' := [(1, .int (nI (i + 1))), (0, .ref h0)]) hx hb dX0_circle_24 hl (k := 1) rfl (nI_inc i) (by decide) rfl (fun ls hl => ?_)
      refine lv_goto (tgt := 6) hx hb dX0_circle_27 (by decide) ?_
      refine hk _ rfl (fun v hv => ?_) _ _ _ w (lv_sub hl [1, 0] rfl)
      rcases Nat.lt_or_ge v i with q | q
      · exact hno v q
      · rw [show v = i by omega]; exact hc
    · have hc : f (8 * i + i) < 0 := Decidable.byContradiction fun z => hc (by rw [if_neg z])
      refine lv_iconst (v := 1) hx hb dX0_circle_22 (by decide +kernel) ?_
      exact x_zret hx hb hr' hlk w rfl ⟨Or.inl ⟨rfl, i, hi, hc⟩, rfl⟩ dX0_circle_23
  · intro hno H locs ls w hl
    refine lv_iload_n hx hb dX0_circle_6 rfl (lv_at hl 1 rfl) ?_
    refine lv_aload_n hx hb dX0_circle_7 rfl (lv_at hl 0 rfl) ?_
    refine x_gpl F w dX0_circle_8 ?_
    refine w_ge_t (tgt := 30) hx hb dX0_circle_11 (by decide) (Nat.le_refl n) (by omega) ?_
    refine lv_iconst (v := 0) hx hb dX0_circle_30 (by decide +kernel) ?_
    exact x_zret hx hb hr' hlk w rfl ⟨Or.inr ⟨rfl, hno⟩, rfl⟩ dX0_circle_31
set_option maxHeartbeats 4000000 in
set_option maxRecDepth 100000 in
theorem metX0_kind (l : Launch) (D : va_G) (h0 hr hbs : Nat) (dr db : ClassId) (sz : Nat) (n : Nat) (rd bs : Nat → Int64) (ch : Int32) (a b : Int32) (h1 : 1 ≤ n) (h8 : n ≤ 8) : XMi l yX0_kind cX0_kind 6 (some .int) ({ frames := 2, cells := 0, slots := 0, locals := 49 }) [.int a, .int b] D h0 hr hbs dr db sz (nI n) rd bs ch (fun r u => x_kd n (x_sw n rd bs ch) (pl_ n a) (pl_ n b) r ∧ u = (nI n, rd, x_sw n rd bs ch, 0)) := by
  refine x_met (Qc := fun A => va_Qi (fun r u => x_kd n (x_sw n rd bs ch) (pl_ n a) (pl_ n b) r ∧ u = (nI n, rd, x_sw n rd bs ch, 0)) (XB D A h0 hr hbs dr db) A) (by decide) rfl (Nat.le_of_ble_eq_true rfl) ?_
  intro p e s m below meth c A ls F hr' hlk w hl
  obtain ⟨hx, hb, hml, hown, hts⟩ := id F
  have hl : lv_has ls 6 [(0, .ref h0), (1, .int a), (2, .int b)] := hl
  have ha := pl_lt a h1
  have hbb := pl_lt b h1
  refine lv_aload_n hx hb dX0_kind_0 rfl (lv_at hl 0 rfl) ?_
  refine x_swp F w h1 h8 hl.1 (Nat.le_of_ble_eq_true rfl) ⟨Nat.le_of_ble_eq_true rfl, Nat.le_of_ble_eq_true rfl⟩ ⟨Nat.le_of_ble_eq_true rfl, Nat.le_of_ble_eq_true rfl⟩ dX0_kind_1 (fun H locs w => ?_)
  refine lv_aload_n hx hb dX0_kind_4 rfl (lv_at hl 0 rfl) ?_
  refine lv_iload_n hx hb dX0_kind_5 rfl (lv_at hl 1 rfl) ?_
  refine x_place F w h1 h8 hl.1 (Nat.le_of_ble_eq_true rfl) ⟨Nat.le_of_ble_eq_true rfl, Nat.le_of_ble_eq_true rfl⟩ ⟨Nat.le_of_ble_eq_true rfl, Nat.le_of_ble_eq_true rfl⟩ dX0_kind_6 (fun H locs w => ?_)
  refine lv_istore_n (lv' := [(3, .int (nI (pl_ n a))), (0, .ref h0), (1, .int a), (2, .int b)]) hx hb dX0_kind_9 rfl hl (by decide) rfl (fun ls hl => ?_)
  refine lv_aload_n hx hb dX0_kind_10 rfl (lv_at hl 1 rfl) ?_
  refine lv_iload_n hx hb dX0_kind_11 rfl (lv_at hl 3 rfl) ?_
  refine x_place F w h1 h8 hl.1 (Nat.le_of_ble_eq_true rfl) ⟨Nat.le_of_ble_eq_true rfl, Nat.le_of_ble_eq_true rfl⟩ ⟨Nat.le_of_ble_eq_true rfl, Nat.le_of_ble_eq_true rfl⟩ dX0_kind_12 (fun H locs w => ?_)
  refine lv_istore (lv' := [(4, .int (nI (pl_ n b))), (3, .int (nI (pl_ n a))), (0, .ref h0), (1, .int a), (2, .int b)]) hx hb dX0_kind_15 hl (by decide) rfl (fun ls hl => ?_)
  generalize x_sw n rd bs ch = f at w ⊢
  generalize pl_ n a = i at ha hl ⊢
  generalize pl_ n b = j at hbb hl ⊢
  refine lv_aload_n hx hb dX0_kind_17 rfl (lv_at hl 2 rfl) ?_
  refine x_gbs F w dX0_kind_18 ?_
  refine lv_aload_n hx hb dX0_kind_21 rfl (lv_at hl 2 rfl) ?_
  refine lv_iload_n hx hb dX0_kind_22 rfl (lv_at hl 1 rfl) ?_
  refine lv_iload hx hb dX0_kind_23 (lv_at hl 0 rfl) ?_
  refine x_at F w hl.1 (Nat.le_of_ble_eq_true rfl) ⟨Nat.le_of_ble_eq_true rfl, Nat.le_of_ble_eq_true rfl⟩ ⟨Nat.le_of_ble_eq_true rfl, Nat.le_of_ble_eq_true rfl⟩ dX0_kind_25 (fun H locs w => ?_)
  refine x_ldbs F w (by omega) dX0_kind_28 ?_
  refine lv_ldc2 hx hb hown (hts _ q24) dX0_kind_29 ?_
  refine w_lc_ne (tgt := 38) hx hb dX0_kind_32 dX0_kind_33 (by decide) (fun hn => ?_) (fun hn => ?_)
  · refine lv_iconst (v := (nI 0)) hx hb dX0_kind_38 (by decide +kernel) ?_
    refine lv_istore (lv' := [(5, .int (nI 0)), (4, .int (nI j)), (3, .int (nI i)), (0, .ref h0), (1, .int a), (2, .int b)]) hx hb dX0_kind_39 hl (by decide) rfl (fun ls hl => ?_)
    refine lp_back (fun _ x => x) (fun v (_ : Unit) => (∀ x, x < v → ¬ x_hit f i j x) → ∀ (H : Heap) (locs : List Loc) (ls : Array Slot), XW D A s h0 hr hbs dr db H locs (nI n) rd f 0 → lv_has ls 6 [(0, .ref h0), (3, .int (nI i)), (4, .int (nI j)), (5, .int (nI v))] → W p l e _ s m _ below meth c H locs 0 0 _ (F0 m 41 ls [])) n ?_ n 0 () (Nat.zero_add n) ?_ (fun v hv => absurd hv (Nat.not_lt_zero v)) _ _ ls w (lv_sub hl [3, 2, 1, 0] rfl)
    · intro v _ hv hk hno H locs ls w hl
      have hgo : ¬ x_hit f i j v → ∀ x, x < v + 1 → ¬ x_hit f i j x := fun q x hx9 => by
        rcases Nat.lt_or_ge x v with z | z
        · exact hno x z
        · rw [show x = v by omega]; exact q
      refine lv_iload hx hb dX0_kind_41 (lv_at hl 3 rfl) ?_
      refine lv_aload_n hx hb dX0_kind_43 rfl (lv_at hl 0 rfl) ?_
      refine x_gpl F w dX0_kind_44 ?_
      refine w_ge_f (tgt := 106) hx hb dX0_kind_47 (by decide) hv (by omega) ?_
      refine lv_aload_n hx hb dX0_kind_50 rfl (lv_at hl 0 rfl) ?_
      refine lv_iload hx hb dX0_kind_51 (lv_at hl 3 rfl) ?_
      refine x_onc F w (by omega) hl.1 (Nat.le_of_ble_eq_true rfl) ⟨Nat.le_of_ble_eq_true rfl, Nat.le_of_ble_eq_true rfl⟩ ⟨Nat.le_of_ble_eq_true rfl, Nat.le_of_ble_eq_true rfl⟩ dX0_kind_53 (fun H locs w => ?_)
      refine lv_if_eq (tgt := 100) hx hb dX0_kind_56 (by decide) (fun hc => ?_) (fun hc => ?_)
      · have hc : ¬ f (8 * v + v) < 0 := fun z => absurd hc (by rw [if_pos z]; decide)
        refine lv_iinc (v := nI (v + 1)) (lv' := [(5, .int (nI (v + 1))), (0, .ref h0), (3, .int (nI i)), (4, .int (nI j))]) hx hb dX0_kind_100 hl (k := 3) rfl (nI_inc v) (by decide) rfl (fun ls hl => ?_)
        refine lv_goto (tgt := 41) hx hb dX0_kind_103 (by decide) ?_
        exact hk _ rfl (hgo (fun z => hc z.1)) _ _ _ w (lv_sub hl [1, 2, 3, 0] rfl)
      · have hc : f (8 * v + v) < 0 := Decidable.byContradiction fun z => hc (by rw [if_neg z])
        refine lv_aload_n hx hb dX0_kind_59 rfl (lv_at hl 0 rfl) ?_
        refine x_gbs F w dX0_kind_60 ?_
        refine lv_aload_n hx hb dX0_kind_63 rfl (lv_at hl 0 rfl) ?_
        refine lv_iload_n hx hb dX0_kind_64 rfl (lv_at hl 1 rfl) ?_
        refine lv_iload hx hb dX0_kind_65 (lv_at hl 3 rfl) ?_
        refine x_at F w hl.1 (Nat.le_of_ble_eq_true rfl) ⟨Nat.le_of_ble_eq_true rfl, Nat.le_of_ble_eq_true rfl⟩ ⟨Nat.le_of_ble_eq_true rfl, Nat.le_of_ble_eq_true rfl⟩ dX0_kind_67 (fun H locs w => ?_)
        refine x_ldbs F w (by omega) dX0_kind_70 ?_
        refine lv_ldc2 hx hb hown (hts _ q24) dX0_kind_71 ?_
        refine w_lc_eq (tgt := 100) hx hb dX0_kind_74 dX0_kind_75 (by decide) (fun hd => ?_) (fun hd => ?_)
        · refine lv_iinc (v := nI (v + 1)) (lv' := [(5, .int (nI (v + 1))), (0, .ref h0), (3, .int (nI i)), (4, .int (nI j))]) hx hb dX0_kind_100 hl (k := 3) rfl (nI_inc v) (by decide) rfl (fun ls hl => ?_)
          refine lv_goto (tgt := 41) hx hb dX0_kind_103 (by decide) ?_
          exact hk _ rfl (hgo (fun z => z.2.1 hd)) _ _ _ w (lv_sub hl [1, 2, 3, 0] rfl)
        · refine lv_aload_n hx hb dX0_kind_78 rfl (lv_at hl 0 rfl) ?_
          refine x_gbs F w dX0_kind_79 ?_
          refine lv_aload_n hx hb dX0_kind_82 rfl (lv_at hl 0 rfl) ?_
          refine lv_iload hx hb dX0_kind_83 (lv_at hl 3 rfl) ?_
          refine lv_iload hx hb dX0_kind_85 (lv_at hl 2 rfl) ?_
          refine x_at F w hl.1 (Nat.le_of_ble_eq_true rfl) ⟨Nat.le_of_ble_eq_true rfl, Nat.le_of_ble_eq_true rfl⟩ ⟨Nat.le_of_ble_eq_true rfl, Nat.le_of_ble_eq_true rfl⟩ dX0_kind_87 (fun H locs w => ?_)
          refine x_ldbs F w (by omega) dX0_kind_90 ?_
          refine lv_ldc2 hx hb hown (hts _ q24) dX0_kind_91 ?_
          refine w_lc_eq (tgt := 100) hx hb dX0_kind_94 dX0_kind_95 (by decide) (fun he => ?_) (fun he => ?_)
          · refine lv_iinc (v := nI (v + 1)) (lv' := [(5, .int (nI (v + 1))), (0, .ref h0), (3, .int (nI i)), (4, .int (nI j))]) hx hb dX0_kind_100 hl (k := 3) rfl (nI_inc v) (by decide) rfl (fun ls hl => ?_)
            refine lv_goto (tgt := 41) hx hb dX0_kind_103 (by decide) ?_
            exact hk _ rfl (hgo (fun z => z.2.2 he)) _ _ _ w (lv_sub hl [1, 2, 3, 0] rfl)
          · refine lv_iconst (v := 1) hx hb dX0_kind_98 (by decide +kernel) ?_
            exact x_iret hx hb hr' hlk w ⟨Or.inr (Or.inl ⟨rfl, hn, v, hv, hc, hd, he⟩), rfl⟩ dX0_kind_99
    · intro hno H locs ls w hl
      refine lv_iload hx hb dX0_kind_41 (lv_at hl 3 rfl) ?_
      refine lv_aload_n hx hb dX0_kind_43 rfl (lv_at hl 0 rfl) ?_
      refine x_gpl F w dX0_kind_44 ?_
      refine w_ge_t (tgt := 106) hx hb dX0_kind_47 (by decide) (Nat.le_refl n) (by omega) ?_
      refine lv_iconst (v := 0) hx hb dX0_kind_106 (by decide +kernel) ?_
      exact x_iret hx hb hr' hlk w ⟨Or.inr (Or.inr ⟨rfl, hn, hno⟩), rfl⟩ dX0_kind_107
  · refine lv_iconst (v := (-1)) hx hb dX0_kind_36 (by decide +kernel) ?_
    exact x_iret hx hb hr' hlk w ⟨Or.inl ⟨rfl, hn⟩, rfl⟩ dX0_kind_37
end
section
/-! Math.floorDiv, Math.floorMod by 1024; least, roads; the constructor -/
/-- Met.ofW for a method of a class some of whose methods the machine runs by entries of its own: this one isn't among them -/
theorem met_ofWF {l : Launch} {y : MethodName} {ws ws' : List Cond} {rm : Room} {Pc : Array Value → State → Prop} {Qc : Array Value → State → Outcome → State → Prop} {mc ms : Nat} {free : Addr → Prop} {cc : ByteArray} {maxL : Nat} {ret : Option FieldType}
    (hy : plainFor y = true) (hw : ws = Cond.code y cc maxL ret :: ws')
    (body : ∀ p e s m args below meth c s₁, BodyLoose p l y (headSpec ws rm) cc maxL ret e s m args below meth c s₁ → c.maxLocals = maxL → Pc args s →
      W p l e (headSpec ws rm).room s m args below meth c s.heap [] 0 0 (MQ below Qc args s mc ms free) (entryFrame m args maxL)) : Met l y ws rm Pc Qc mc ms free := by
  refine MetFree.of_bodySF (code := cc) (maxLocals := maxL) (ret := ret) hy ?_ ?_
  · intro args s m h hn
    obtain ⟨meth, c, h1, h2, h3, h4, h5, h6, -, -⟩ := Cond.code_spec hn (atoms_spec (ws := ws) h _ (by rw [hw]; exact List.mem_cons_self))
    exact ⟨meth, c, h1, h2, h3, h4, h5, h6⟩
  · intro p e s m args below meth c s₁ B hml hP _
    have hh0 : s₁.heap = s.heap := by rw [B.state]; rfl
    obtain ⟨t, a1, o, b1, b2, b3⟩ := body p e s m args below meth c s₁ B hml hP s₁ hh0 (Stand.of_body B)
    exact ⟨t, o, a1, b1, b2, ⟨b3.1, b3.2⟩⟩
theorem i64_1024 : (1024 : Int64).toInt = 1024 := by decide +kernel
theorem i64_lo (x : Int64) : -9223372036854775808 ≤ x.toInt := by have h := Int64.le_toInt x; omega
theorem i64_hi (x : Int64) : x.toInt < 9223372036854775808 := by have h := Int64.toInt_lt x; omega
theorem i64_bm {z : Int} (h1 : -9223372036854775808 ≤ z) (h2 : z < 9223372036854775808) : z.bmod (2 ^ 64) = z := by
  rw [Int.bmod_eq_of_le] <;> omega
theorem xor_neg (x : Int64) : (x ^^^ 1024) < 0 ↔ x < 0 := by
  rw [Int64.lt_iff_toInt_lt, Int64.lt_iff_toInt_lt]
  have h0 : (0 : Int64).toInt = 0 := by decide +kernel
  rw [h0, ← Int64.toInt_toBitVec (x ^^^ 1024), ← Int64.toInt_toBitVec x]
  have e : (x ^^^ 1024).toBitVec = x.toBitVec ^^^ (1024 : Int64).toBitVec := Int64.toBitVec_xor _ _
  rw [e]
  have hm : ((1024 : Int64).toBitVec).msb = false := by decide +kernel
  have hx : (x.toBitVec ^^^ (1024 : Int64).toBitVec).msb = x.toBitVec.msb := by
    rw [BitVec.msb_xor, hm, Bool.xor_false]
  have hs : ∀ b : BitVec 64, b.toInt < 0 ↔ b.msb = true := by
    intro b
    cases hb : b.msb with
    | true => exact ⟨fun _ => rfl, fun _ => BitVec.toInt_neg_of_msb_true hb⟩
    | false => exact ⟨fun h => absurd h (by have := BitVec.toInt_nonneg_of_msb_false hb; omega), fun h => by cases h⟩
  rw [hs, hs, hx]
theorem fd_t (x : Int) : x.tdiv 1024 = if 0 ≤ x ∨ 1024 ∣ x then x / 1024 else x / 1024 + 1 := by
  rw [Int.tdiv_eq_ediv]
  split <;> simp
theorem fd_q (x : Int64) : (x / 1024).toInt = x.toInt.tdiv 1024 := by
  rw [Int64.toInt_div, i64_1024]
  have h1 := i64_lo x
  have h2 := i64_hi x
  rw [fd_t]
  apply i64_bm
  · split <;> omega
  · split <;> omega
theorem fd_m (x : Int64) : (x / 1024 * 1024).toInt = x.toInt.tdiv 1024 * 1024 := by
  rw [Int64.toInt_mul, fd_q, i64_1024]
  have h1 := i64_lo x
  have h2 := i64_hi x
  rw [fd_t]
  apply i64_bm
  · split <;> omega
  · split <;> omega
theorem fd_1 (x : Int64) (h : ¬ (x ^^^ 1024) < 0) : (x / 1024).toInt = x.toInt / 1024 := by
  rw [xor_neg, Int64.lt_iff_toInt_lt] at h
  have h0 : (0 : Int64).toInt = 0 := by decide +kernel
  rw [fd_q, fd_t, if_pos (Or.inl (by omega))]
theorem fd_2 (x : Int64) (h : x / 1024 * 1024 = x) : (x / 1024).toInt = x.toInt / 1024 := by
  have h2 := fd_m x
  rw [h] at h2
  rw [fd_q]
  omega
theorem fd_3 (x : Int64) (h : (x ^^^ 1024) < 0) (hn : ¬ x / 1024 * 1024 = x) : (x / 1024 - 1).toInt = x.toInt / 1024 := by
  rw [xor_neg, Int64.lt_iff_toInt_lt] at h
  have h0 : (0 : Int64).toInt = 0 := by decide +kernel
  rw [h0] at h
  have hd : ¬ 1024 ∣ x.toInt := by
    intro q
    apply hn
    apply Int64.toInt_inj.mp
    rw [fd_m, fd_t, if_pos (Or.inr q)]
    omega
  have h1 := i64_lo x
  have hq := fd_q x
  rw [fd_t, if_neg (by omega)] at hq
  have e1 : (1 : Int64).toInt = 1 := by decide +kernel
  rw [Int64.toInt_sub, hq, e1, i64_bm (by omega) (by omega)]
  omega
theorem fm_r (x : Int64) : (x - x / 1024 * 1024).toInt = x.toInt - x.toInt.tdiv 1024 * 1024 := by
  rw [Int64.toInt_sub, fd_m]
  have h1 := i64_lo x
  have h2 := i64_hi x
  rw [fd_t]
  apply i64_bm
  · split <;> omega
  · split <;> omega
theorem fm_1 (x : Int64) (h : ¬ (x ^^^ 1024) < 0) : (x - x / 1024 * 1024).toInt = x.toInt % 1024 := by
  rw [xor_neg, Int64.lt_iff_toInt_lt] at h
  have h0 : (0 : Int64).toInt = 0 := by decide +kernel
  rw [fm_r, fd_t, if_pos (Or.inl (by omega))]
  omega
theorem fm_2 (x : Int64) (h : x - x / 1024 * 1024 = 0) : (x - x / 1024 * 1024).toInt = x.toInt % 1024 := by
  have h2 := fm_r x
  rw [h] at h2 ⊢
  have h0 : (0 : Int64).toInt = 0 := by decide +kernel
  rw [h0] at h2 ⊢
  omega
theorem fm_3 (x : Int64) (h : (x ^^^ 1024) < 0) (hn : ¬ x - x / 1024 * 1024 = 0) : (x - x / 1024 * 1024 + 1024).toInt = x.toInt % 1024 := by
  rw [xor_neg, Int64.lt_iff_toInt_lt] at h
  have h0 : (0 : Int64).toInt = 0 := by decide +kernel
  rw [h0] at h
  have hd : ¬ 1024 ∣ x.toInt := by
    intro q
    apply hn
    apply Int64.toInt_inj.mp
    rw [fm_r, fd_t, if_pos (Or.inr q), h0]
    omega
  have h1 := i64_lo x
  have hq := fm_r x
  rw [fd_t, if_neg (by omega)] at hq
  rw [Int64.toInt_add, hq, i64_1024, i64_bm (by omega) (by omega)]
  omega
set_option maxHeartbeats 4000000 in
set_option maxRecDepth 100000 in
theorem metJ0_floorDiv (l : Launch) (sz : Nat) (x : Int64) : Met l yJ0_floorDiv (ws_ yJ0_floorDiv cJ0_floorDiv 6 (some .long)) ({ frames := 0, cells := 0, slots := 0, locals := 0 }) (va_Pc [.long x, .long 1024] (fun U => U.heap.size = sz)) (va_Ql (fun (r : Int64) (_ : Unit) => r.toInt = x.toInt / 1024) (fun _ _ => True) (fun q => sz ≤ q)) 0 0 (fun q => sz ≤ q) := by
  refine met_ofWF (cc := cJ0_floorDiv) (maxL := 6) (ret := (some .long)) (by decide +kernel) rfl ?_
  intro p e s m args below meth c s₁ B hml hv
  obtain ⟨rfl, hsz⟩ := hv
  have hx := B.exec
  have hb := B.bytes
  have hr := B.returns
  have hlk := B.notSynchronized
  subst hsz
  have hS : va_S (fun q : Nat => s.heap.size ≤ q) s.heap s.heap [] := va_S.rf
  have hl := lv_entry ([.long x, .long 1024]) (n := 6) (Nat.le_of_ble_eq_true rfl)
  rw [lg_entry_eq]
  generalize (lg_sl ([.long x, .long 1024]) ++ List.replicate (6 - (lg_sl ([.long x, .long 1024])).length) Slot.unset).toArray = ls at hl ⊢
  have hl : lv_has ls 6 [(0, .long x), (2, .long 1024)] := hl
  refine lv_lload_n hx hb dJ0_floorDiv_0 rfl (lv_at hl 0 rfl) ?_
  refine lv_lload_n hx hb dJ0_floorDiv_1 rfl (lv_at hl 1 rfl) ?_
  refine lv_ldiv hx hb dJ0_floorDiv_2 (by decide +kernel) ?_
  refine lv_lstore (lv' := [(4, .long (x / 1024)), (0, .long x), (2, .long 1024)]) hx hb dJ0_floorDiv_3 hl (by decide) rfl (fun ls hl => ?_)
  refine lv_lload_n hx hb dJ0_floorDiv_5 rfl (lv_at hl 1 rfl) ?_
  refine lv_lload_n hx hb dJ0_floorDiv_6 rfl (lv_at hl 2 rfl) ?_
  refine lv_lxor hx hb dJ0_floorDiv_7 ?_
  refine lv_lconst (v := 0) hx hb dJ0_floorDiv_8 (by decide +kernel) ?_
  refine w_lc_ge (tgt := 27) hx hb dJ0_floorDiv_9 dJ0_floorDiv_10 (by decide) (fun h1 => ?_) (fun h1 => ?_)
  · refine lv_lload hx hb dJ0_floorDiv_27 (lv_at hl 0 rfl) ?_
    exact W.lret hx hb hr (fun t ht hW => ⟨⟨_, (), rfl, fd_1 x h1, trivial⟩, hS.F ht⟩) hS.2.2 dJ0_floorDiv_29 hlk
  · refine lv_lload hx hb dJ0_floorDiv_13 (lv_at hl 0 rfl) ?_
    refine lv_lload_n hx hb dJ0_floorDiv_15 rfl (lv_at hl 2 rfl) ?_
    refine lv_lmul hx hb dJ0_floorDiv_16 ?_
    refine lv_lload_n hx hb dJ0_floorDiv_17 rfl (lv_at hl 1 rfl) ?_
    refine w_lc_eq (tgt := 27) hx hb dJ0_floorDiv_18 dJ0_floorDiv_19 (by decide) (fun h2 => ?_) (fun h2 => ?_)
    · refine lv_lload hx hb dJ0_floorDiv_27 (lv_at hl 0 rfl) ?_
      exact W.lret hx hb hr (fun t ht hW => ⟨⟨_, (), rfl, fd_2 x h2, trivial⟩, hS.F ht⟩) hS.2.2 dJ0_floorDiv_29 hlk
    · refine lv_lload hx hb dJ0_floorDiv_22 (lv_at hl 0 rfl) ?_
      refine lv_lconst (v := 1) hx hb dJ0_floorDiv_24 (by decide +kernel) ?_
      refine lv_lsub hx hb dJ0_floorDiv_25 ?_
      exact W.lret hx hb hr (fun t ht hW => ⟨⟨_, (), rfl, fd_3 x h1 h2, trivial⟩, hS.F ht⟩) hS.2.2 dJ0_floorDiv_26 hlk
set_option maxHeartbeats 4000000 in
set_option maxRecDepth 100000 in
theorem metJ0_floorMod (l : Launch) (sz : Nat) (x : Int64) : Met l yJ0_floorMod (ws_ yJ0_floorMod cJ0_floorMod 6 (some .long)) ({ frames := 0, cells := 0, slots := 0, locals := 0 }) (va_Pc [.long x, .long 1024] (fun U => U.heap.size = sz)) (va_Ql (fun (r : Int64) (_ : Unit) => r.toInt = x.toInt % 1024) (fun _ _ => True) (fun q => sz ≤ q)) 0 0 (fun q => sz ≤ q) := by
  refine met_ofWF (cc := cJ0_floorMod) (maxL := 6) (ret := (some .long)) (by decide +kernel) rfl ?_
  intro p e s m args below meth c s₁ B hml hv
  obtain ⟨rfl, hsz⟩ := hv
  have hx := B.exec
  have hb := B.bytes
  have hr := B.returns
  have hlk := B.notSynchronized
  subst hsz
  have hS : va_S (fun q : Nat => s.heap.size ≤ q) s.heap s.heap [] := va_S.rf
  have hl := lv_entry ([.long x, .long 1024]) (n := 6) (Nat.le_of_ble_eq_true rfl)
  rw [lg_entry_eq]
  generalize (lg_sl ([.long x, .long 1024]) ++ List.replicate (6 - (lg_sl ([.long x, .long 1024])).length) Slot.unset).toArray = ls at hl ⊢
  have hl : lv_has ls 6 [(0, .long x), (2, .long 1024)] := hl
  refine lv_lload_n hx hb dJ0_floorMod_0 rfl (lv_at hl 0 rfl) ?_
  refine lv_lload_n hx hb dJ0_floorMod_1 rfl (lv_at hl 1 rfl) ?_
  refine lv_lrem hx hb dJ0_floorMod_2 (by decide +kernel) ?_
  refine lv_lstore (lv' := [(4, .long (x - x / 1024 * 1024)), (0, .long x), (2, .long 1024)]) hx hb dJ0_floorMod_3 hl (by decide) rfl (fun ls hl => ?_)
  refine lv_lload_n hx hb dJ0_floorMod_5 rfl (lv_at hl 1 rfl) ?_
  refine lv_lload_n hx hb dJ0_floorMod_6 rfl (lv_at hl 2 rfl) ?_
  refine lv_lxor hx hb dJ0_floorMod_7 ?_
  refine lv_lconst (v := 0) hx hb dJ0_floorMod_8 (by decide +kernel) ?_
  refine w_lc_ge (tgt := 25) hx hb dJ0_floorMod_9 dJ0_floorMod_10 (by decide) (fun h1 => ?_) (fun h1 => ?_)
  · refine lv_lload hx hb dJ0_floorMod_25 (lv_at hl 0 rfl) ?_
    exact W.lret hx hb hr (fun t ht hW => ⟨⟨_, (), rfl, fm_1 x h1, trivial⟩, hS.F ht⟩) hS.2.2 dJ0_floorMod_27 hlk
  · refine lv_lload hx hb dJ0_floorMod_13 (lv_at hl 0 rfl) ?_
    refine lv_lconst (v := 0) hx hb dJ0_floorMod_15 (by decide +kernel) ?_
    refine w_lc_eq (tgt := 25) hx hb dJ0_floorMod_16 dJ0_floorMod_17 (by decide) (fun h2 => ?_) (fun h2 => ?_)
    · refine lv_lload hx hb dJ0_floorMod_25 (lv_at hl 0 rfl) ?_
      exact W.lret hx hb hr (fun t ht hW => ⟨⟨_, (), rfl, fm_2 x h2, trivial⟩, hS.F ht⟩) hS.2.2 dJ0_floorMod_27 hlk
    · refine lv_lload hx hb dJ0_floorMod_20 (lv_at hl 0 rfl) ?_
      refine lv_lload_n hx hb dJ0_floorMod_22 rfl (lv_at hl 2 rfl) ?_
      refine lv_ladd hx hb dJ0_floorMod_23 ?_
      exact W.lret hx hb hr (fun t ht hW => ⟨⟨_, (), rfl, fm_3 x h1 h2, trivial⟩, hS.F ht⟩) hS.2.2 dJ0_floorMod_24 hlk
section
variable {p : Program} {l : Launch} {e : Env} {R : Room} {s : State} {m : MethodId} {args : Array Value} {below : List Frame} {meth : Method} {c : Code} {H : Heap} {locs : List Loc} {cells slots : Nat} {Q : State → Prop}
variable {cc : ByteArray} {pc nL : Nat} {ls : Array Slot} {rest : List Value} {D : va_G} {A : Nat → Prop} {h0 hr hbs : Nat} {dr db : ClassId} {pl ch : Int32} {rd bs : Nat → Int64}
theorem x_fdv (F : CallFix p m c cc nL s args lw_all RX0) (w : XW D A s h0 hr hbs dr db H locs pl rd bs ch) {x : Int64} (hsz : ls.size = nL) (hro : (rest.map fun v => v.category).sum ≤ 8) (hR : 1 ≤ R.frames ∧ 25 ≤ R.locals) (hf : cells + 0 ≤ R.cells ∧ slots + 0 ≤ R.slots) (hdg : decode cc pc = .ok (.invokestatic 50, 3))
    (kk : ∀ (r : Int64) (H : Heap) (locs : List Loc), r.toInt = x.toInt / 1024 → XW D A s h0 hr hbs dr db H locs pl rd bs ch → W p l e R s m args below meth c H locs cells slots Q (F0 m (pc + 3) ls (.long r :: rest))) : W p l e R s m args below meth c H locs cells slots Q (F0 m pc ls (.long 1024 :: .long x :: rest)) := by
  have hts := F.2.2.2.2
  obtain ⟨hK, hP, hD, hS, hA⟩ := w
  refine va_calll (va_runS (As := [.long x, .long 1024]) (rest := rest) F (metJ0_floorDiv l H.size x) (va_cwS 2 hts (lw_S q86 q87 q11 q88) rfl rfl rfl (by decide +kernel) ⟨hR.1, hR.2⟩) ⟨fun a U g mk q => ⟨q.1, q.2⟩, fun U hU hW => ⟨rfl, by show U.heap.size = H.size; rw [hU]⟩⟩ rfl rfl hsz rfl (lv_room hro) hdg hf) hS (fun q hq h => absurd h (Nat.not_le.mpr hq)) (fun q h => hA q (Nat.le_trans hS.1 h)) (fun r u t H1 locs1 ht hvm hpost hB hz1 hk1 hS1 => ?_)
  exact kk r H1 locs1 hpost ⟨hK, hP.kept (fun k q hq => hk1 q.1 (hP k q hq).lt (Nat.not_le.mpr (hP k q hq).lt)), hD, hS1, hA⟩
theorem x_fmd (F : CallFix p m c cc nL s args lw_all RX0) (w : XW D A s h0 hr hbs dr db H locs pl rd bs ch) {x : Int64} (hsz : ls.size = nL) (hro : (rest.map fun v => v.category).sum ≤ 8) (hR : 1 ≤ R.frames ∧ 25 ≤ R.locals) (hf : cells + 0 ≤ R.cells ∧ slots + 0 ≤ R.slots) (hdg : decode cc pc = .ok (.invokestatic 56, 3))
    (kk : ∀ (r : Int64) (H : Heap) (locs : List Loc), r.toInt = x.toInt % 1024 → XW D A s h0 hr hbs dr db H locs pl rd bs ch → W p l e R s m args below meth c H locs cells slots Q (F0 m (pc + 3) ls (.long r :: rest))) : W p l e R s m args below meth c H locs cells slots Q (F0 m pc ls (.long 1024 :: .long x :: rest)) := by
  have hts := F.2.2.2.2
  obtain ⟨hK, hP, hD, hS, hA⟩ := w
  refine va_calll (va_runS (As := [.long x, .long 1024]) (rest := rest) F (metJ0_floorMod l H.size x) (va_cwS 2 hts (lw_S q93 q94 q11 q95) rfl rfl rfl (by decide +kernel) ⟨hR.1, hR.2⟩) ⟨fun a U g mk q => ⟨q.1, q.2⟩, fun U hU hW => ⟨rfl, by show U.heap.size = H.size; rw [hU]⟩⟩ rfl rfl hsz rfl (lv_room hro) hdg hf) hS (fun q hq h => absurd h (Nat.not_le.mpr hq)) (fun q h => hA q (Nat.le_trans hS.1 h)) (fun r u t H1 locs1 ht hvm hpost hB hz1 hk1 hS1 => ?_)
  exact kk r H1 locs1 hpost ⟨hK, hP.kept (fun k q hq => hk1 q.1 (hP k q hq).lt (Nat.not_le.mpr (hP k q hq).lt)), hD, hS1, hA⟩
end
section
variable {p : Program} {l : Launch} {e : Env} {R : Room} {s : State} {m : MethodId} {args : Array Value} {below : List Frame} {meth : Method} {c : Code} {H : Heap} {locs : List Loc} {cells slots : Nat} {Q : State → Prop}
variable {cc : ByteArray} {pc nL : Nat} {ls : Array Slot} {rest : List Value} {D : va_G} {A : Nat → Prop} {h0 hr hbs : Nat} {dr db : ClassId} {pl ch : Int32} {rd bs : Nat → Int64}
theorem x_knd {n : Nat} (F : CallFix p m c cc nL s args lw_all RX0) (w : XW D A s h0 hr hbs dr db H locs (nI n) rd bs ch) (h1 : 1 ≤ n) (h8 : n ≤ 8) {a b : Int32} (hsz : ls.size = nL) (hro : (rest.map fun v => v.category).sum ≤ 8) (hR : 3 ≤ R.frames ∧ 74 ≤ R.locals) (hf : cells + 0 ≤ R.cells ∧ slots + 0 ≤ R.slots) (hdg : decode cc pc = .ok (.invokevirtual 47, 3))
    (kk : ∀ (r : Int32) (H : Heap) (locs : List Loc), x_kd n (x_sw n rd bs ch) (pl_ n a) (pl_ n b) r → XW D A s h0 hr hbs dr db H locs (nI n) rd (x_sw n rd bs ch) 0 → W p l e R s m args below meth c H locs cells slots Q (F0 m (pc + 3) ls (.int r :: rest))) : W p l e R s m args below meth c H locs cells slots Q (F0 m pc ls (.int b :: .int a :: .ref h0 :: rest)) := by
  have hts := F.2.2.2.2
  refine x_calli F w (metX0_kind l D h0 hr hbs dr db H.size n rd bs ch a b h1 h8) (cwV 2 hts (lw_V q85 q78 q79 q9 q80) rfl rfl rfl (by decide +kernel) ⟨hR.1, hR.2⟩) rfl hsz rfl hro hdg hf (fun r u H1 l1 hp w1 => ?_)
  obtain ⟨hp, rfl⟩ := hp
  exact kk r H1 l1 hp w1
end
set_option maxHeartbeats 4000000 in
set_option maxRecDepth 100000 in
theorem metX0_least (l : Launch) (D : va_G) (h0 hr hbs : Nat) (dr db : ClassId) (sz : Nat) (n : Nat) (rd bs : Nat → Int64) (ch : Int32) (a b : Int32) (h1 : 1 ≤ n) (h8 : n ≤ 8) : XMl l yX0_least cX0_least 3 (some .long) ({ frames := 3, cells := 0, slots := 0, locals := 74 }) [.int a, .int b] D h0 hr hbs dr db sz (nI n) rd bs ch (fun r u => (∃ kd, x_kd n (x_sw n rd bs ch) (pl_ n a) (pl_ n b) kd ∧ ((kd = 0 ∧ r.toInt = (x_sw n rd bs ch (8 * pl_ n a + pl_ n b)).toInt / 1024) ∨ (¬ kd = 0 ∧ r = 0))) ∧ u = (nI n, rd, x_sw n rd bs ch, 0)) := by
  refine x_met (Qc := fun A => va_Ql (fun r u => (∃ kd, x_kd n (x_sw n rd bs ch) (pl_ n a) (pl_ n b) kd ∧ ((kd = 0 ∧ r.toInt = (x_sw n rd bs ch (8 * pl_ n a + pl_ n b)).toInt / 1024) ∨ (¬ kd = 0 ∧ r = 0))) ∧ u = (nI n, rd, x_sw n rd bs ch, 0)) (XB D A h0 hr hbs dr db) A) (by decide) rfl (Nat.le_of_ble_eq_true rfl) ?_
  intro p e s m below meth c A ls F hr' hlk w hl
  obtain ⟨hx, hb, hml, hown, hts⟩ := id F
  have hl : lv_has ls 3 [(0, .ref h0), (1, .int a), (2, .int b)] := hl
  have ha := pl_lt a h1
  have hbb := pl_lt b h1
  refine lv_aload_n hx hb dX0_least_0 rfl (lv_at hl 0 rfl) ?_
  refine lv_iload_n hx hb dX0_least_1 rfl (lv_at hl 1 rfl) ?_
  refine lv_iload_n hx hb dX0_least_2 rfl (lv_at hl 2 rfl) ?_
  refine x_knd F w h1 h8 hl.1 (Nat.le_of_ble_eq_true rfl) ⟨Nat.le_of_ble_eq_true rfl, Nat.le_of_ble_eq_true rfl⟩ ⟨Nat.le_of_ble_eq_true rfl, Nat.le_of_ble_eq_true rfl⟩ dX0_least_3 (fun kd H locs hkd w => ?_)
  generalize x_sw n rd bs ch = f at w hkd ⊢
  refine lv_if_ne (tgt := 37) hx hb dX0_least_6 (by decide) (fun hc => ?_) (fun hc => ?_)
  · refine lv_lconst (v := 0) hx hb dX0_least_37 (by decide +kernel) ?_
    exact x_lret hx hb hr' hlk w ⟨⟨kd, hkd, Or.inr ⟨hc, rfl⟩⟩, rfl⟩ dX0_least_38
  · refine lv_aload_n hx hb dX0_least_9 rfl (lv_at hl 0 rfl) ?_
    refine x_gbs F w dX0_least_10 ?_
    refine lv_aload_n hx hb dX0_least_13 rfl (lv_at hl 0 rfl) ?_
    refine lv_aload_n hx hb dX0_least_14 rfl (lv_at hl 0 rfl) ?_
    refine lv_iload_n hx hb dX0_least_15 rfl (lv_at hl 1 rfl) ?_
    refine x_place F w h1 h8 hl.1 (Nat.le_of_ble_eq_true rfl) ⟨Nat.le_of_ble_eq_true rfl, Nat.le_of_ble_eq_true rfl⟩ ⟨Nat.le_of_ble_eq_true rfl, Nat.le_of_ble_eq_true rfl⟩ dX0_least_16 (fun H locs w => ?_)
    refine lv_aload_n hx hb dX0_least_19 rfl (lv_at hl 0 rfl) ?_
    refine lv_iload_n hx hb dX0_least_20 rfl (lv_at hl 2 rfl) ?_
    refine x_place F w h1 h8 hl.1 (Nat.le_of_ble_eq_true rfl) ⟨Nat.le_of_ble_eq_true rfl, Nat.le_of_ble_eq_true rfl⟩ ⟨Nat.le_of_ble_eq_true rfl, Nat.le_of_ble_eq_true rfl⟩ dX0_least_21 (fun H locs w => ?_)
    refine x_at F w hl.1 (Nat.le_of_ble_eq_true rfl) ⟨Nat.le_of_ble_eq_true rfl, Nat.le_of_ble_eq_true rfl⟩ ⟨Nat.le_of_ble_eq_true rfl, Nat.le_of_ble_eq_true rfl⟩ dX0_least_24 (fun H locs w => ?_)
    refine x_ldbs F w (by omega) dX0_least_27 ?_
    refine lv_ldc2 hx hb hown (hts _ q56) dX0_least_28 ?_
    refine x_fdv F w hl.1 (Nat.le_of_ble_eq_true rfl) ⟨Nat.le_of_ble_eq_true rfl, Nat.le_of_ble_eq_true rfl⟩ ⟨Nat.le_of_ble_eq_true rfl, Nat.le_of_ble_eq_true rfl⟩ dX0_least_31 (fun r H locs hr9 w => ?_)
    refine lv_goto (tgt := 38) hx hb dX0_least_34 (by decide) ?_
    exact x_lret hx hb hr' hlk w ⟨⟨kd, hkd, Or.inl ⟨hc, hr9⟩⟩, rfl⟩ dX0_least_38
set_option maxHeartbeats 4000000 in
set_option maxRecDepth 100000 in
theorem metX0_roads (l : Launch) (D : va_G) (h0 hr hbs : Nat) (dr db : ClassId) (sz : Nat) (n : Nat) (rd bs : Nat → Int64) (ch : Int32) (a b : Int32) (h1 : 1 ≤ n) (h8 : n ≤ 8) : XMi l yX0_roads cX0_roads 3 (some .int) ({ frames := 3, cells := 0, slots := 0, locals := 74 }) [.int a, .int b] D h0 hr hbs dr db sz (nI n) rd bs ch (fun r u => (∃ kd, x_kd n (x_sw n rd bs ch) (pl_ n a) (pl_ n b) kd ∧ ((kd = 0 ∧ ∃ z : Int64, z.toInt = (x_sw n rd bs ch (8 * pl_ n a + pl_ n b)).toInt % 1024 ∧ r = z.toInt32) ∨ (¬ kd = 0 ∧ r = -1))) ∧ u = (nI n, rd, x_sw n rd bs ch, 0)) := by
  refine x_met (Qc := fun A => va_Qi (fun r u => (∃ kd, x_kd n (x_sw n rd bs ch) (pl_ n a) (pl_ n b) kd ∧ ((kd = 0 ∧ ∃ z : Int64, z.toInt = (x_sw n rd bs ch (8 * pl_ n a + pl_ n b)).toInt % 1024 ∧ r = z.toInt32) ∨ (¬ kd = 0 ∧ r = -1))) ∧ u = (nI n, rd, x_sw n rd bs ch, 0)) (XB D A h0 hr hbs dr db) A) (by decide) rfl (Nat.le_of_ble_eq_true rfl) ?_
  intro p e s m below meth c A ls F hr' hlk w hl
  obtain ⟨hx, hb, hml, hown, hts⟩ := id F
  have hl : lv_has ls 3 [(0, .ref h0), (1, .int a), (2, .int b)] := hl
  have ha := pl_lt a h1
  have hbb := pl_lt b h1
  refine lv_aload_n hx hb dX0_roads_0 rfl (lv_at hl 0 rfl) ?_
  refine lv_iload_n hx hb dX0_roads_1 rfl (lv_at hl 1 rfl) ?_
  refine lv_iload_n hx hb dX0_roads_2 rfl (lv_at hl 2 rfl) ?_
  refine x_knd F w h1 h8 hl.1 (Nat.le_of_ble_eq_true rfl) ⟨Nat.le_of_ble_eq_true rfl, Nat.le_of_ble_eq_true rfl⟩ ⟨Nat.le_of_ble_eq_true rfl, Nat.le_of_ble_eq_true rfl⟩ dX0_roads_3 (fun kd H locs hkd w => ?_)
  generalize x_sw n rd bs ch = f at w hkd ⊢
  refine lv_if_ne (tgt := 38) hx hb dX0_roads_6 (by decide) (fun hc => ?_) (fun hc => ?_)
  · refine lv_iconst (v := (-1)) hx hb dX0_roads_38 (by decide +kernel) ?_
    exact x_iret hx hb hr' hlk w ⟨⟨kd, hkd, Or.inr ⟨hc, rfl⟩⟩, rfl⟩ dX0_roads_39
  · refine lv_aload_n hx hb dX0_roads_9 rfl (lv_at hl 0 rfl) ?_
    refine x_gbs F w dX0_roads_10 ?_
    refine lv_aload_n hx hb dX0_roads_13 rfl (lv_at hl 0 rfl) ?_
    refine lv_aload_n hx hb dX0_roads_14 rfl (lv_at hl 0 rfl) ?_
    refine lv_iload_n hx hb dX0_roads_15 rfl (lv_at hl 1 rfl) ?_
    refine x_place F w h1 h8 hl.1 (Nat.le_of_ble_eq_true rfl) ⟨Nat.le_of_ble_eq_true rfl, Nat.le_of_ble_eq_true rfl⟩ ⟨Nat.le_of_ble_eq_true rfl, Nat.le_of_ble_eq_true rfl⟩ dX0_roads_16 (fun H locs w => ?_)
    refine lv_aload_n hx hb dX0_roads_19 rfl (lv_at hl 0 rfl) ?_
    refine lv_iload_n hx hb dX0_roads_20 rfl (lv_at hl 2 rfl) ?_
    refine x_place F w h1 h8 hl.1 (Nat.le_of_ble_eq_true rfl) ⟨Nat.le_of_ble_eq_true rfl, Nat.le_of_ble_eq_true rfl⟩ ⟨Nat.le_of_ble_eq_true rfl, Nat.le_of_ble_eq_true rfl⟩ dX0_roads_21 (fun H locs w => ?_)
    refine x_at F w hl.1 (Nat.le_of_ble_eq_true rfl) ⟨Nat.le_of_ble_eq_true rfl, Nat.le_of_ble_eq_true rfl⟩ ⟨Nat.le_of_ble_eq_true rfl, Nat.le_of_ble_eq_true rfl⟩ dX0_roads_24 (fun H locs w => ?_)
    refine x_ldbs F w (by omega) dX0_roads_27 ?_
    refine lv_ldc2 hx hb hown (hts _ q56) dX0_roads_28 ?_
    refine x_fmd F w hl.1 (Nat.le_of_ble_eq_true rfl) ⟨Nat.le_of_ble_eq_true rfl, Nat.le_of_ble_eq_true rfl⟩ ⟨Nat.le_of_ble_eq_true rfl, Nat.le_of_ble_eq_true rfl⟩ dX0_roads_31 (fun r H locs hr9 w => ?_)
    refine lv_l2i hx hb dX0_roads_34 rfl ?_
    refine lv_goto (tgt := 39) hx hb dX0_roads_35 (by decide) ?_
    exact x_iret hx hb hr' hlk w ⟨⟨kd, hkd, Or.inl ⟨hc, r, hr9, rfl⟩⟩, rfl⟩ dX0_roads_39
/-- the world behind the constructor -/
def XN (D : va_G) (A : Nat → Prop) (h0 : Nat) (u : XT) (t : State) : Prop := ∃ (hr hbs : Nat) (dr db : ClassId), va_P D vwCl (xw h0 hr hbs dr db u.1 u.2.1 u.2.2.1 u.2.2.2) t.heap ∧ va_K D vwCl (xt dr db) t ∧ va_D A (xw h0 hr hbs dr db u.1 u.2.1 u.2.2.1 u.2.2.2)
def x_z : Nat → Int64 := fun _ => 0
def x_new : XT := (nI 2, lp x_fill 0 64 x_z, x_z, 1)
abbrev x00 (h0 : Nat) : va_W := [(h0, .inr (0, [.int 0, .null, .null, .int 0]))]
set_option maxHeartbeats 4000000 in
set_option maxRecDepth 100000 in
theorem metX0_init (l : Launch) (D : va_G) (h0 : Nat) (sz : Nat) : Met l yX0_init (ws_ yX0_init cX0_init 1 none) ({ frames := 1, cells := 2, slots := 128, locals := 21 }) (va_Pc [.ref h0] (fun U => U.heap.size = sz ∧ va_P D vwCl (x00 h0) U.heap ∧ va_K D vwCl [] U ∧ va_D (fun _ => True) (x00 h0))) (va_Qv (fun u : XT => u = x_new) (XN D (va_A (x00 h0) sz) h0) (va_A (x00 h0) sz)) 2 128 (va_A (x00 h0) sz) := by
  refine Met.ofW (cc := cX0_init) (maxL := 1) (ret := none) (by decide) rfl ?_
  intro p e s m args below meth c s₁ B hml hv
  obtain ⟨rfl, hsz, hP, hK, hD0⟩ := hv
  have hx := B.exec
  have hb := B.bytes
  have hr := B.returns
  have hlk := B.notSynchronized
  have hts := atoms_spec (ws := ws_ yX0_init cX0_init 1 none) B.pre
  have hts : ∀ w ∈ lw_all, w.before _ s = true := fun w h => hts w (List.mem_cons_of_mem _ h)
  have hown : s.vm.findClass RX0 = some m.cls := findClass_of_methodNamed B.named
  have hin : meth.name = "<init>" := (name_of_methodNamed B.named B.method).1
  subst hsz
  have hD := hD0.self (sz := s.heap.size)
  generalize hAe : va_A (x00 h0) s.heap.size = A at hD ⊢
  have hA : ∀ q : Nat, s.heap.size ≤ q → A q := fun q h => by rw [← hAe]; exact Or.inr h
  have hS : va_S A s.heap s.heap [] := va_S.rf
  have hl := lv_entry ([.ref h0]) (n := 1) (Nat.le_of_ble_eq_true rfl)
  rw [lg_entry_eq]
  generalize (lg_sl ([.ref h0]) ++ List.replicate (1 - (lg_sl ([.ref h0])).length) Slot.unset).toArray = ls at hl ⊢
  have hl : lv_has ls 1 [(0, .ref h0)] := hl
  refine lv_aload_n hx hb dX0_init_0 rfl (lv_at hl 0 rfl) ?_
  refine W.objInit hx hb hown (hts _ q17) (hts _ q18) (hts _ q19) rfl (by rw [hml]; exact hl.1) rfl dX0_init_1 (Nat.le_of_ble_eq_true rfl) (Nat.le_of_ble_eq_true rfl) ?_
  refine W.eq (g2 := F0 m 4 ls []) rfl ?_
  refine lv_aload_n hx hb dX0_init_4 rfl (lv_at hl 0 rfl) ?_
  refine lv_iconst (v := (nI 2)) hx hb dX0_init_5 (by decide +kernel) ?_
  refine va_put (D := D) (ci := 0) (v := .int (nI 2)) (ty := .int) (C := RX0) (T := TX0) (N := 4) hx hb hts in_X0 tyX0 tyX0_ok nmX0 hown hK hP hD hS 0 rfl rfl 0 (by decide) (hts _ q25) (fun _ h9 => h9) rfl (by decide +kernel) rfl rfl (Nat.le_of_ble_eq_true rfl) dX0_init_6 (fun H locs hP hD hS => ?_)
  have hP : va_P D vwCl [(h0, .inr (0, [.int (nI 2), .null, .null, .int 0]))] H := hP
  have hD : va_D A [(h0, .inr (0, [.int (nI 2), .null, .null, .int 0]))] := hD
  refine lv_aload_n hx hb dX0_init_9 rfl (lv_at hl 0 rfl) ?_
  refine lv_bipush (v := 64) hx hb dX0_init_10 (by decide +kernel) ?_
  refine va_newa (atype := .long) (ty := .long) (N' := 64) (a0 := (64, .inr (.inl x_z))) hx hb (hts _ q38) rfl hK hP hD hS hA (fun _ => rfl) (by decide +kernel) (by decide +kernel) (by decide) (Nat.le_of_ble_eq_true rfl) (Nat.le_of_ble_eq_true rfl) dX0_init_12 (fun q1 c1 H hK hP hD hS => ?_)
  have hP : va_P D vwCl [(h0, .inr (0, [.int (nI 2), .null, .null, .int 0])), (q1, .inl (c1, 64, .inr (.inl x_z)))] H := hP
  have hD : va_D A [(h0, .inr (0, [.int (nI 2), .null, .null, .int 0])), (q1, .inl (c1, 64, .inr (.inl x_z)))] := hD
  refine W.widen (k := 1) (n := 64) (by omega) (by omega) ?_
  refine va_putF (D := D) (ci := 0) (v := .ref q1) (ty := .array .long) (C := RX0) (T := TX0) (N := 4) hx hb hts in_X0 tyX0 tyX0_ok nmX0 hown hK hP hD hS 0 rfl rfl 1 (by decide) (hts _ q26) (fun _ h9 => h9) rfl hin rfl (by decide +kernel) rfl rfl (Nat.le_of_ble_eq_true rfl) dX0_init_14 (fun H locs hP hD hS => ?_)
  have hP : va_P D vwCl [(h0, .inr (0, [.int (nI 2), .ref q1, .null, .int 0])), (q1, .inl (c1, 64, .inr (.inl x_z)))] H := hP
  have hD : va_D A [(h0, .inr (0, [.int (nI 2), .ref q1, .null, .int 0])), (q1, .inl (c1, 64, .inr (.inl x_z)))] := hD
  refine lv_aload_n hx hb dX0_init_17 rfl (lv_at hl 0 rfl) ?_
  refine lv_bipush (v := 64) hx hb dX0_init_18 (by decide +kernel) ?_
  refine va_newa (atype := .long) (ty := .long) (N' := 64) (a0 := (64, .inr (.inl x_z))) hx hb (hts _ q38) rfl hK hP hD hS hA (fun _ => rfl) (by decide +kernel) (by decide +kernel) (by decide) (Nat.le_of_ble_eq_true rfl) (Nat.le_of_ble_eq_true rfl) dX0_init_20 (fun q2 c2 H hK hP hD hS => ?_)
  have hP : va_P D vwCl [(h0, .inr (0, [.int (nI 2), .ref q1, .null, .int 0])), (q1, .inl (c1, 64, .inr (.inl x_z))), (q2, .inl (c2, 64, .inr (.inl x_z)))] H := hP
  have hD : va_D A [(h0, .inr (0, [.int (nI 2), .ref q1, .null, .int 0])), (q1, .inl (c1, 64, .inr (.inl x_z))), (q2, .inl (c2, 64, .inr (.inl x_z)))] := hD
  refine W.widen (k := 2) (n := 128) (by omega) (by omega) ?_
  refine va_putF (D := D) (ci := 0) (v := .ref q2) (ty := .array .long) (C := RX0) (T := TX0) (N := 4) hx hb hts in_X0 tyX0 tyX0_ok nmX0 hown hK hP hD hS 0 rfl rfl 2 (by decide) (hts _ q27) (fun _ h9 => h9) rfl hin rfl (by decide +kernel) rfl rfl (Nat.le_of_ble_eq_true rfl) dX0_init_22 (fun H locs hP hD hS => ?_)
  have w : XW D A s h0 q1 q2 c1 c2 H locs (nI 2) x_z x_z 0 := ⟨hK, hP, hD, hS, hA⟩
  have F : CallFix p m c cX0_init 1 s ([.ref h0] : List Value).toArray lw_all RX0 := ⟨hx, hb, hml, hown, hts⟩
  refine lv_aload_n hx hb dX0_init_25 rfl (lv_at hl 0 rfl) ?_
  refine lv_iconst (v := 1) hx hb dX0_init_26 (by decide +kernel) ?_
  refine x_pch F w rfl rfl dX0_init_27 (fun H locs w => ?_)
  refine lv_aload_n hx hb dX0_init_30 rfl (lv_at hl 0 rfl) ?_
  refine x_clr F w hl.1 (Nat.le_of_ble_eq_true rfl) ⟨Nat.le_of_ble_eq_true rfl, Nat.le_of_ble_eq_true rfl⟩ ⟨Nat.le_of_ble_eq_true rfl, Nat.le_of_ble_eq_true rfl⟩ dX0_init_31 (fun H locs w => ?_)
  obtain ⟨hK, hP, hD, hS, -⟩ := w
  exact W.vret hx hb hr (fun t ht hW => ⟨⟨x_new, rfl, rfl, q1, q2, c1, c2, by rw [ht]; exact hP, va_K.moved hW.alike hK, hD⟩, hS.F ht⟩) hS.2.2 dX0_init_34 hlk
end
section
/-! the world of a RouteDeskModel and its rows (printed by genM.py) -/
/-- the cells of a RouteDeskModel -/
abbrev mw (h0 : Nat) (ad : Nat → Nat) (cd : Nat → ClassId) (pn kn : Int32) (co rd : Nat → Int32) (vd : Nat → Int64) (is : Nat → Int32) (ve : Nat → Int64) (ie rc bad : Nat → Int32) (bst : Nat → Int64) (few : Nat → Int32) : va_W := [(h0, .inr (1, [.ref (ad 0), .ref (ad 1), .int pn, .int kn, .ref (ad 2), .ref (ad 3), .ref (ad 4), .ref (ad 5), .ref (ad 6), .ref (ad 7), .ref (ad 8), .ref (ad 9)])), (ad 0, .inl (cd 0, 64, .inl co)), (ad 1, .inl (cd 1, 64, .inl rd)), (ad 2, .inl (cd 2, 64, .inr (.inl vd))), (ad 3, .inl (cd 3, 64, .inl is)), (ad 4, .inl (cd 4, 64, .inr (.inl ve))), (ad 5, .inl (cd 5, 64, .inl ie)), (ad 6, .inl (cd 6, 64, .inl rc)), (ad 7, .inl (cd 7, 8, .inl bad)), (ad 8, .inl (cd 8, 64, .inr (.inl bst))), (ad 9, .inl (cd 9, 64, .inl few))]
abbrev mt (cd : Nat → ClassId) : List (ClassId × FieldType) := [(cd 0, .int), (cd 1, .boolean), (cd 2, .long), (cd 3, .boolean), (cd 4, .long), (cd 5, .boolean), (cd 6, .boolean), (cd 7, .boolean), (cd 8, .long), (cd 9, .int)]
def MW (D : va_G) (A : Nat → Prop) (s : State) (h0 : Nat) (ad : Nat → Nat) (cd : Nat → ClassId) (H : Heap) (locs : List Loc) (pn kn : Int32) (co rd : Nat → Int32) (vd : Nat → Int64) (is : Nat → Int32) (ve : Nat → Int64) (ie rc bad : Nat → Int32) (bst : Nat → Int64) (few : Nat → Int32) : Prop :=
  va_K D vwCl (mt cd) s ∧ va_P D vwCl (mw h0 ad cd pn kn co rd vd is ve ie rc bad bst few) H ∧ va_D A (mw h0 ad cd pn kn co rd vd is ve ie rc bad bst few) ∧ va_S A s.heap H locs ∧ ∀ q : Nat, s.heap.size ≤ q → A q
abbrev MS : Type := Int32 × Int32 × (Nat → Int32) × (Nat → Int32) × MT
def MPre (D : va_G) (h0 : Nat) (ad : Nat → Nat) (cd : Nat → ClassId) (sz : Nat) (pn kn : Int32) (co rd : Nat → Int32) (vd : Nat → Int64) (is : Nat → Int32) (ve : Nat → Int64) (ie rc bad : Nat → Int32) (bst : Nat → Int64) (few : Nat → Int32) (U : State) : Prop :=
  U.heap.size = sz ∧ va_P D vwCl (mw h0 ad cd pn kn co rd vd is ve ie rc bad bst few) U.heap ∧ va_K D vwCl (mt cd) U ∧ va_D (fun _ => True) (mw h0 ad cd pn kn co rd vd is ve ie rc bad bst few)
def MB (D : va_G) (A : Nat → Prop) (h0 : Nat) (ad : Nat → Nat) (cd : Nat → ClassId) (u : MS) (t : State) : Prop :=
  va_P D vwCl (mw h0 ad cd u.1 u.2.1 u.2.2.1 u.2.2.2.1 u.2.2.2.2.1 u.2.2.2.2.2.1 u.2.2.2.2.2.2.1 u.2.2.2.2.2.2.2.1 u.2.2.2.2.2.2.2.2.1 u.2.2.2.2.2.2.2.2.2.1 u.2.2.2.2.2.2.2.2.2.2.1 u.2.2.2.2.2.2.2.2.2.2.2) t.heap ∧ va_K D vwCl (mt cd) t ∧ va_D A (mw h0 ad cd u.1 u.2.1 u.2.2.1 u.2.2.2.1 u.2.2.2.2.1 u.2.2.2.2.2.1 u.2.2.2.2.2.2.1 u.2.2.2.2.2.2.2.1 u.2.2.2.2.2.2.2.2.1 u.2.2.2.2.2.2.2.2.2.1 u.2.2.2.2.2.2.2.2.2.2.1 u.2.2.2.2.2.2.2.2.2.2.2)
section
variable {p : Program} {l : Launch} {e : Env} {R : Room} {s : State} {m : MethodId} {args : Array Value} {below : List Frame} {meth : Method} {c : Code} {H : Heap} {locs : List Loc} {cells slots : Nat} {Q : State → Prop}
variable {cc : ByteArray} {pc nL : Nat} {ls : Array Slot} {rest : List Value} {D : va_G} {A : Nat → Prop} {h0 : Nat} {ad : Nat → Nat} {cd : Nat → ClassId} {pn kn : Int32} {co rd : Nat → Int32} {vd : Nat → Int64} {is : Nat → Int32} {ve : Nat → Int64} {ie rc bad : Nat → Int32} {bst : Nat → Int64} {few : Nat → Int32}
theorem w_ne_t (hx : p.tables.exec = Jvm.exec) (hb : c.code = cc) {a b : Nat} {off : Int} {tgt : Nat} (hdg : decode cc pc = .ok (.if_icmp .ne off, 3)) (ht : (pc : Int) + off = (tgt : Int)) (h : ¬ a = b) (ha : a < 2 ^ 31) (hbb : b < 2 ^ 31) (k : W p l e R s m args below meth c H locs cells slots Q (F0 m tgt ls rest)) : W p l e R s m args below meth c H locs cells slots Q (F0 m pc ls (.int (nI b) :: .int (nI a) :: rest)) :=
  lv_icmp_ne hx hb hdg ht (fun _ => k) (fun q => absurd ((nI_eq ha hbb).mp q) h)
theorem w_ne_f (hx : p.tables.exec = Jvm.exec) (hb : c.code = cc) {a b : Nat} {off : Int} {tgt : Nat} (hdg : decode cc pc = .ok (.if_icmp .ne off, 3)) (ht : (pc : Int) + off = (tgt : Int)) (h : a = b) (k : W p l e R s m args below meth c H locs cells slots Q (F0 m (pc + 3) ls rest)) : W p l e R s m args below meth c H locs cells slots Q (F0 m pc ls (.int (nI b) :: .int (nI a) :: rest)) :=
  lv_icmp_ne hx hb hdg ht (fun q => absurd (by rw [h]) q) (fun _ => k)
theorem m_gn (F : CallFix p m c cc nL s args lw_all RX1) (w : MW D A s h0 ad cd H locs pn kn co rd vd is ve ie rc bad bst few) (hdg : decode cc pc = .ok (.getfield 17, 3)) (k : W p l e R s m args below meth c H locs cells slots Q (F0 m (pc + 3) ls (.int pn :: rest))) : W p l e R s m args below meth c H locs cells slots Q (F0 m pc ls (.ref h0 :: rest)) := by
  obtain ⟨hx, hb, hml, hown, hts⟩ := F
  obtain ⟨hK, hP, hD, hS, hA⟩ := w
  exact va_get (D := D) (ci := 1) (v := .int pn) (C := RX1) (T := TX1) (N := 12) hx hb hts in_X1 hown hK hP 0 rfl rfl 2 (by decide) (hts _ q104) (fun _ h9 => h9) rfl hdg k
theorem m_gkn (F : CallFix p m c cc nL s args lw_all RX1) (w : MW D A s h0 ad cd H locs pn kn co rd vd is ve ie rc bad bst few) (hdg : decode cc pc = .ok (.getfield 46, 3)) (k : W p l e R s m args below meth c H locs cells slots Q (F0 m (pc + 3) ls (.int kn :: rest))) : W p l e R s m args below meth c H locs cells slots Q (F0 m pc ls (.ref h0 :: rest)) := by
  obtain ⟨hx, hb, hml, hown, hts⟩ := F
  obtain ⟨hK, hP, hD, hS, hA⟩ := w
  exact va_get (D := D) (ci := 1) (v := .int kn) (C := RX1) (T := TX1) (N := 12) hx hb hts in_X1 hown hK hP 0 rfl rfl 3 (by decide) (hts _ q105) (fun _ h9 => h9) rfl hdg k
theorem m_gco (F : CallFix p m c cc nL s args lw_all RX1) (w : MW D A s h0 ad cd H locs pn kn co rd vd is ve ie rc bad bst few) (hdg : decode cc pc = .ok (.getfield 7, 3)) (k : W p l e R s m args below meth c H locs cells slots Q (F0 m (pc + 3) ls (.ref (ad 0) :: rest))) : W p l e R s m args below meth c H locs cells slots Q (F0 m pc ls (.ref h0 :: rest)) := by
  obtain ⟨hx, hb, hml, hown, hts⟩ := F
  obtain ⟨hK, hP, hD, hS, hA⟩ := w
  exact va_get (D := D) (ci := 1) (v := .ref (ad 0)) (C := RX1) (T := TX1) (N := 12) hx hb hts in_X1 hown hK hP 0 rfl rfl 0 (by decide) (hts _ q102) (fun _ h9 => h9) rfl hdg k
theorem m_grd (F : CallFix p m c cc nL s args lw_all RX1) (w : MW D A s h0 ad cd H locs pn kn co rd vd is ve ie rc bad bst few) (hdg : decode cc pc = .ok (.getfield 13, 3)) (k : W p l e R s m args below meth c H locs cells slots Q (F0 m (pc + 3) ls (.ref (ad 1) :: rest))) : W p l e R s m args below meth c H locs cells slots Q (F0 m pc ls (.ref h0 :: rest)) := by
  obtain ⟨hx, hb, hml, hown, hts⟩ := F
  obtain ⟨hK, hP, hD, hS, hA⟩ := w
  exact va_get (D := D) (ci := 1) (v := .ref (ad 1)) (C := RX1) (T := TX1) (N := 12) hx hb hts in_X1 hown hK hP 0 rfl rfl 1 (by decide) (hts _ q103) (fun _ h9 => h9) rfl hdg k
theorem m_gvd (F : CallFix p m c cc nL s args lw_all RX1) (w : MW D A s h0 ad cd H locs pn kn co rd vd is ve ie rc bad bst few) (hdg : decode cc pc = .ok (.getfield 21, 3)) (k : W p l e R s m args below meth c H locs cells slots Q (F0 m (pc + 3) ls (.ref (ad 2) :: rest))) : W p l e R s m args below meth c H locs cells slots Q (F0 m pc ls (.ref h0 :: rest)) := by
  obtain ⟨hx, hb, hml, hown, hts⟩ := F
  obtain ⟨hK, hP, hD, hS, hA⟩ := w
  exact va_get (D := D) (ci := 1) (v := .ref (ad 2)) (C := RX1) (T := TX1) (N := 12) hx hb hts in_X1 hown hK hP 0 rfl rfl 4 (by decide) (hts _ q106) (fun _ h9 => h9) rfl hdg k
theorem m_gis (F : CallFix p m c cc nL s args lw_all RX1) (w : MW D A s h0 ad cd H locs pn kn co rd vd is ve ie rc bad bst few) (hdg : decode cc pc = .ok (.getfield 25, 3)) (k : W p l e R s m args below meth c H locs cells slots Q (F0 m (pc + 3) ls (.ref (ad 3) :: rest))) : W p l e R s m args below meth c H locs cells slots Q (F0 m pc ls (.ref h0 :: rest)) := by
  obtain ⟨hx, hb, hml, hown, hts⟩ := F
  obtain ⟨hK, hP, hD, hS, hA⟩ := w
  exact va_get (D := D) (ci := 1) (v := .ref (ad 3)) (C := RX1) (T := TX1) (N := 12) hx hb hts in_X1 hown hK hP 0 rfl rfl 5 (by decide) (hts _ q107) (fun _ h9 => h9) rfl hdg k
theorem m_gve (F : CallFix p m c cc nL s args lw_all RX1) (w : MW D A s h0 ad cd H locs pn kn co rd vd is ve ie rc bad bst few) (hdg : decode cc pc = .ok (.getfield 28, 3)) (k : W p l e R s m args below meth c H locs cells slots Q (F0 m (pc + 3) ls (.ref (ad 4) :: rest))) : W p l e R s m args below meth c H locs cells slots Q (F0 m pc ls (.ref h0 :: rest)) := by
  obtain ⟨hx, hb, hml, hown, hts⟩ := F
  obtain ⟨hK, hP, hD, hS, hA⟩ := w
  exact va_get (D := D) (ci := 1) (v := .ref (ad 4)) (C := RX1) (T := TX1) (N := 12) hx hb hts in_X1 hown hK hP 0 rfl rfl 6 (by decide) (hts _ q108) (fun _ h9 => h9) rfl hdg k
theorem m_gie (F : CallFix p m c cc nL s args lw_all RX1) (w : MW D A s h0 ad cd H locs pn kn co rd vd is ve ie rc bad bst few) (hdg : decode cc pc = .ok (.getfield 31, 3)) (k : W p l e R s m args below meth c H locs cells slots Q (F0 m (pc + 3) ls (.ref (ad 5) :: rest))) : W p l e R s m args below meth c H locs cells slots Q (F0 m pc ls (.ref h0 :: rest)) := by
  obtain ⟨hx, hb, hml, hown, hts⟩ := F
  obtain ⟨hK, hP, hD, hS, hA⟩ := w
  exact va_get (D := D) (ci := 1) (v := .ref (ad 5)) (C := RX1) (T := TX1) (N := 12) hx hb hts in_X1 hown hK hP 0 rfl rfl 7 (by decide) (hts _ q109) (fun _ h9 => h9) rfl hdg k
theorem m_grc (F : CallFix p m c cc nL s args lw_all RX1) (w : MW D A s h0 ad cd H locs pn kn co rd vd is ve ie rc bad bst few) (hdg : decode cc pc = .ok (.getfield 34, 3)) (k : W p l e R s m args below meth c H locs cells slots Q (F0 m (pc + 3) ls (.ref (ad 6) :: rest))) : W p l e R s m args below meth c H locs cells slots Q (F0 m pc ls (.ref h0 :: rest)) := by
  obtain ⟨hx, hb, hml, hown, hts⟩ := F
  obtain ⟨hK, hP, hD, hS, hA⟩ := w
  exact va_get (D := D) (ci := 1) (v := .ref (ad 6)) (C := RX1) (T := TX1) (N := 12) hx hb hts in_X1 hown hK hP 0 rfl rfl 8 (by decide) (hts _ q110) (fun _ h9 => h9) rfl hdg k
theorem m_gbad (F : CallFix p m c cc nL s args lw_all RX1) (w : MW D A s h0 ad cd H locs pn kn co rd vd is ve ie rc bad bst few) (hdg : decode cc pc = .ok (.getfield 37, 3)) (k : W p l e R s m args below meth c H locs cells slots Q (F0 m (pc + 3) ls (.ref (ad 7) :: rest))) : W p l e R s m args below meth c H locs cells slots Q (F0 m pc ls (.ref h0 :: rest)) := by
  obtain ⟨hx, hb, hml, hown, hts⟩ := F
  obtain ⟨hK, hP, hD, hS, hA⟩ := w
  exact va_get (D := D) (ci := 1) (v := .ref (ad 7)) (C := RX1) (T := TX1) (N := 12) hx hb hts in_X1 hown hK hP 0 rfl rfl 9 (by decide) (hts _ q111) (fun _ h9 => h9) rfl hdg k
theorem m_gbst (F : CallFix p m c cc nL s args lw_all RX1) (w : MW D A s h0 ad cd H locs pn kn co rd vd is ve ie rc bad bst few) (hdg : decode cc pc = .ok (.getfield 40, 3)) (k : W p l e R s m args below meth c H locs cells slots Q (F0 m (pc + 3) ls (.ref (ad 8) :: rest))) : W p l e R s m args below meth c H locs cells slots Q (F0 m pc ls (.ref h0 :: rest)) := by
  obtain ⟨hx, hb, hml, hown, hts⟩ := F
  obtain ⟨hK, hP, hD, hS, hA⟩ := w
  exact va_get (D := D) (ci := 1) (v := .ref (ad 8)) (C := RX1) (T := TX1) (N := 12) hx hb hts in_X1 hown hK hP 0 rfl rfl 10 (by decide) (hts _ q112) (fun _ h9 => h9) rfl hdg k
theorem m_gfew (F : CallFix p m c cc nL s args lw_all RX1) (w : MW D A s h0 ad cd H locs pn kn co rd vd is ve ie rc bad bst few) (hdg : decode cc pc = .ok (.getfield 43, 3)) (k : W p l e R s m args below meth c H locs cells slots Q (F0 m (pc + 3) ls (.ref (ad 9) :: rest))) : W p l e R s m args below meth c H locs cells slots Q (F0 m pc ls (.ref h0 :: rest)) := by
  obtain ⟨hx, hb, hml, hown, hts⟩ := F
  obtain ⟨hK, hP, hD, hS, hA⟩ := w
  exact va_get (D := D) (ci := 1) (v := .ref (ad 9)) (C := RX1) (T := TX1) (N := 12) hx hb hts in_X1 hown hK hP 0 rfl rfl 11 (by decide) (hts _ q113) (fun _ h9 => h9) rfl hdg k
theorem m_pn (F : CallFix p m c cc nL s args lw_all RX1) (w : MW D A s h0 ad cd H locs pn kn co rd vd is ve ie rc bad bst few) {x : Int32} (hdg : decode cc pc = .ok (.putfield 17, 3)) (kk : ∀ (H : Heap) (locs : List Loc), MW D A s h0 ad cd H locs x kn co rd vd is ve ie rc bad bst few → W p l e R s m args below meth c H locs cells slots Q (F0 m (pc + 3) ls rest)) : W p l e R s m args below meth c H locs cells slots Q (F0 m pc ls (.int x :: .ref h0 :: rest)) := by
  obtain ⟨hx, hb, hml, hown, hts⟩ := F
  obtain ⟨hK, hP, hD, hS, hA⟩ := w
  exact va_put (D := D) (ci := 1) (v := .int x) (ty := .int) (C := RX1) (T := TX1) (N := 12) hx hb hts in_X1 tyX1 tyX1_ok nmX1 hown hK hP hD hS 0 rfl rfl 2 (by decide) (hts _ q104) (fun _ h9 => h9) rfl (by decide +kernel) rfl rfl (Nat.le_of_ble_eq_true rfl) hdg (fun H locs hP hD hS => kk H locs ⟨hK, hP, hD, hS, hA⟩)
theorem m_pkn (F : CallFix p m c cc nL s args lw_all RX1) (w : MW D A s h0 ad cd H locs pn kn co rd vd is ve ie rc bad bst few) {x : Int32} (hn : narrow .boolean (.int x) = .int x) (hfit : fits .boolean (.int x) = true) (hdg : decode cc pc = .ok (.putfield 46, 3)) (kk : ∀ (H : Heap) (locs : List Loc), MW D A s h0 ad cd H locs pn x co rd vd is ve ie rc bad bst few → W p l e R s m args below meth c H locs cells slots Q (F0 m (pc + 3) ls rest)) : W p l e R s m args below meth c H locs cells slots Q (F0 m pc ls (.int x :: .ref h0 :: rest)) := by
  obtain ⟨hx, hb, hml, hown, hts⟩ := F
  obtain ⟨hK, hP, hD, hS, hA⟩ := w
  exact va_put (D := D) (ci := 1) (v := .int x) (ty := .boolean) (C := RX1) (T := TX1) (N := 12) hx hb hts in_X1 tyX1 tyX1_ok nmX1 hown hK hP hD hS 0 rfl rfl 3 (by decide) (hts _ q105) (fun _ h9 => h9) rfl (by decide +kernel) hn hfit (Nat.le_of_ble_eq_true rfl) hdg (fun H locs hP hD hS => kk H locs ⟨hK, hP, hD, hS, hA⟩)
theorem m_ldco (F : CallFix p m c cc nL s args lw_all RX1) (w : MW D A s h0 ad cd H locs pn kn co rd vd is ve ie rc bad bst few) {j : Nat} (hj : j < 64) (hdg : decode cc pc = .ok (.iaload, 1)) (k : W p l e R s m args below meth c H locs cells slots Q (F0 m (pc + 1) ls (.int (co j) :: rest))) : W p l e R s m args below meth c H locs cells slots Q (F0 m pc ls (.int (nI j) :: .ref (ad 0) :: rest)) := by
  obtain ⟨hx, hb, hml, hown, hts⟩ := F
  obtain ⟨hK, hP, hD, hS, hA⟩ := w
  refine va_iald (f := co) hx hb hK hP 1 0 rfl rfl (vp_in_nI hj (by decide)) hdg ?_
  rw [nI_clamp (by omega)]
  exact k
theorem m_stco (F : CallFix p m c cc nL s args lw_all RX1) (w : MW D A s h0 ad cd H locs pn kn co rd vd is ve ie rc bad bst few) {j : Nat} {x : Int32} (hj : j < 64) (hdg : decode cc pc = .ok (.iastore, 1)) (kk : ∀ (H : Heap) (locs : List Loc), MW D A s h0 ad cd H locs pn kn (upd co j x) rd vd is ve ie rc bad bst few → W p l e R s m args below meth c H locs cells slots Q (F0 m (pc + 1) ls rest)) : W p l e R s m args below meth c H locs cells slots Q (F0 m pc ls (.int x :: .int (nI j) :: .ref (ad 0) :: rest)) := by
  obtain ⟨hx, hb, hml, hown, hts⟩ := F
  obtain ⟨hK, hP, hD, hS, hA⟩ := w
  refine va_iast (f := co) hx hb hK hP hD hS 1 0 rfl rfl (vp_in_nI hj (by decide)) hdg (fun H1 l1 hP hD hS => ?_)
  rw [nI_clamp (by omega)] at hP hD
  exact kk H1 l1 ⟨hK, hP, hD, hS, hA⟩
theorem m_ldrd (F : CallFix p m c cc nL s args lw_all RX1) (w : MW D A s h0 ad cd H locs pn kn co rd vd is ve ie rc bad bst few) {j : Nat} (hj : j < 64) (hdg : decode cc pc = .ok (.baload, 1)) (k : W p l e R s m args below meth c H locs cells slots Q (F0 m (pc + 1) ls (.int (rd j) :: rest))) : W p l e R s m args below meth c H locs cells slots Q (F0 m pc ls (.int (nI j) :: .ref (ad 1) :: rest)) := by
  obtain ⟨hx, hb, hml, hown, hts⟩ := F
  obtain ⟨hK, hP, hD, hS, hA⟩ := w
  refine va_zald (f := rd) hx hb hK hP 2 1 rfl rfl (vp_in_nI hj (by decide)) hdg ?_
  rw [nI_clamp (by omega)]
  exact k
theorem m_strd (F : CallFix p m c cc nL s args lw_all RX1) (w : MW D A s h0 ad cd H locs pn kn co rd vd is ve ie rc bad bst few) {j : Nat} {x z : Int32} (hj : j < 64) (hz : vp_nar .boolean x = z) (hdg : decode cc pc = .ok (.bastore, 1)) (kk : ∀ (H : Heap) (locs : List Loc), MW D A s h0 ad cd H locs pn kn co (upd rd j z) vd is ve ie rc bad bst few → W p l e R s m args below meth c H locs cells slots Q (F0 m (pc + 1) ls rest)) : W p l e R s m args below meth c H locs cells slots Q (F0 m pc ls (.int x :: .int (nI j) :: .ref (ad 1) :: rest)) := by
  obtain ⟨hx, hb, hml, hown, hts⟩ := F
  obtain ⟨hK, hP, hD, hS, hA⟩ := w
  refine va_zast (f := rd) hx hb hK hP hD hS 2 1 rfl rfl (vp_in_nI hj (by decide)) hdg (fun H1 l1 hP hD hS => ?_)
  rw [nI_clamp (by omega), hz] at hP hD
  exact kk H1 l1 ⟨hK, hP, hD, hS, hA⟩
theorem m_ldvd (F : CallFix p m c cc nL s args lw_all RX1) (w : MW D A s h0 ad cd H locs pn kn co rd vd is ve ie rc bad bst few) {j : Nat} (hj : j < 64) (hdg : decode cc pc = .ok (.laload, 1)) (k : W p l e R s m args below meth c H locs cells slots Q (F0 m (pc + 1) ls (.long (vd j) :: rest))) : W p l e R s m args below meth c H locs cells slots Q (F0 m pc ls (.int (nI j) :: .ref (ad 2) :: rest)) := by
  obtain ⟨hx, hb, hml, hown, hts⟩ := F
  obtain ⟨hK, hP, hD, hS, hA⟩ := w
  refine va_lald (f := vd) hx hb hK hP 3 2 rfl rfl (vp_in_nI hj (by decide)) hdg ?_
  rw [nI_clamp (by omega)]
  exact k
theorem m_stvd (F : CallFix p m c cc nL s args lw_all RX1) (w : MW D A s h0 ad cd H locs pn kn co rd vd is ve ie rc bad bst few) {j : Nat} {x : Int64} (hj : j < 64) (hdg : decode cc pc = .ok (.lastore, 1)) (kk : ∀ (H : Heap) (locs : List Loc), MW D A s h0 ad cd H locs pn kn co rd (vp_updL vd j x) is ve ie rc bad bst few → W p l e R s m args below meth c H locs cells slots Q (F0 m (pc + 1) ls rest)) : W p l e R s m args below meth c H locs cells slots Q (F0 m pc ls (.long x :: .int (nI j) :: .ref (ad 2) :: rest)) := by
  obtain ⟨hx, hb, hml, hown, hts⟩ := F
  obtain ⟨hK, hP, hD, hS, hA⟩ := w
  refine va_last (f := vd) hx hb hK hP hD hS 3 2 rfl rfl (vp_in_nI hj (by decide)) hdg (fun H1 l1 hP hD hS => ?_)
  rw [nI_clamp (by omega)] at hP hD
  exact kk H1 l1 ⟨hK, hP, hD, hS, hA⟩
theorem m_ldis (F : CallFix p m c cc nL s args lw_all RX1) (w : MW D A s h0 ad cd H locs pn kn co rd vd is ve ie rc bad bst few) {j : Nat} (hj : j < 64) (hdg : decode cc pc = .ok (.baload, 1)) (k : W p l e R s m args below meth c H locs cells slots Q (F0 m (pc + 1) ls (.int (is j) :: rest))) : W p l e R s m args below meth c H locs cells slots Q (F0 m pc ls (.int (nI j) :: .ref (ad 3) :: rest)) := by
  obtain ⟨hx, hb, hml, hown, hts⟩ := F
  obtain ⟨hK, hP, hD, hS, hA⟩ := w
  refine va_zald (f := is) hx hb hK hP 4 3 rfl rfl (vp_in_nI hj (by decide)) hdg ?_
  rw [nI_clamp (by omega)]
  exact k
theorem m_stis (F : CallFix p m c cc nL s args lw_all RX1) (w : MW D A s h0 ad cd H locs pn kn co rd vd is ve ie rc bad bst few) {j : Nat} {x z : Int32} (hj : j < 64) (hz : vp_nar .boolean x = z) (hdg : decode cc pc = .ok (.bastore, 1)) (kk : ∀ (H : Heap) (locs : List Loc), MW D A s h0 ad cd H locs pn kn co rd vd (upd is j z) ve ie rc bad bst few → W p l e R s m args below meth c H locs cells slots Q (F0 m (pc + 1) ls rest)) : W p l e R s m args below meth c H locs cells slots Q (F0 m pc ls (.int x :: .int (nI j) :: .ref (ad 3) :: rest)) := by
  obtain ⟨hx, hb, hml, hown, hts⟩ := F
  obtain ⟨hK, hP, hD, hS, hA⟩ := w
  refine va_zast (f := is) hx hb hK hP hD hS 4 3 rfl rfl (vp_in_nI hj (by decide)) hdg (fun H1 l1 hP hD hS => ?_)
  rw [nI_clamp (by omega), hz] at hP hD
  exact kk H1 l1 ⟨hK, hP, hD, hS, hA⟩
theorem m_ldve (F : CallFix p m c cc nL s args lw_all RX1) (w : MW D A s h0 ad cd H locs pn kn co rd vd is ve ie rc bad bst few) {j : Nat} (hj : j < 64) (hdg : decode cc pc = .ok (.laload, 1)) (k : W p l e R s m args below meth c H locs cells slots Q (F0 m (pc + 1) ls (.long (ve j) :: rest))) : W p l e R s m args below meth c H locs cells slots Q (F0 m pc ls (.int (nI j) :: .ref (ad 4) :: rest)) := by
  obtain ⟨hx, hb, hml, hown, hts⟩ := F
  obtain ⟨hK, hP, hD, hS, hA⟩ := w
  refine va_lald (f := ve) hx hb hK hP 5 4 rfl rfl (vp_in_nI hj (by decide)) hdg ?_
  rw [nI_clamp (by omega)]
  exact k
theorem m_stve (F : CallFix p m c cc nL s args lw_all RX1) (w : MW D A s h0 ad cd H locs pn kn co rd vd is ve ie rc bad bst few) {j : Nat} {x : Int64} (hj : j < 64) (hdg : decode cc pc = .ok (.lastore, 1)) (kk : ∀ (H : Heap) (locs : List Loc), MW D A s h0 ad cd H locs pn kn co rd vd is (vp_updL ve j x) ie rc bad bst few → W p l e R s m args below meth c H locs cells slots Q (F0 m (pc + 1) ls rest)) : W p l e R s m args below meth c H locs cells slots Q (F0 m pc ls (.long x :: .int (nI j) :: .ref (ad 4) :: rest)) := by
  obtain ⟨hx, hb, hml, hown, hts⟩ := F
  obtain ⟨hK, hP, hD, hS, hA⟩ := w
  refine va_last (f := ve) hx hb hK hP hD hS 5 4 rfl rfl (vp_in_nI hj (by decide)) hdg (fun H1 l1 hP hD hS => ?_)
  rw [nI_clamp (by omega)] at hP hD
  exact kk H1 l1 ⟨hK, hP, hD, hS, hA⟩
theorem m_ldie (F : CallFix p m c cc nL s args lw_all RX1) (w : MW D A s h0 ad cd H locs pn kn co rd vd is ve ie rc bad bst few) {j : Nat} (hj : j < 64) (hdg : decode cc pc = .ok (.baload, 1)) (k : W p l e R s m args below meth c H locs cells slots Q (F0 m (pc + 1) ls (.int (ie j) :: rest))) : W p l e R s m args below meth c H locs cells slots Q (F0 m pc ls (.int (nI j) :: .ref (ad 5) :: rest)) := by
  obtain ⟨hx, hb, hml, hown, hts⟩ := F
  obtain ⟨hK, hP, hD, hS, hA⟩ := w
  refine va_zald (f := ie) hx hb hK hP 6 5 rfl rfl (vp_in_nI hj (by decide)) hdg ?_
  rw [nI_clamp (by omega)]
  exact k
theorem m_stie (F : CallFix p m c cc nL s args lw_all RX1) (w : MW D A s h0 ad cd H locs pn kn co rd vd is ve ie rc bad bst few) {j : Nat} {x z : Int32} (hj : j < 64) (hz : vp_nar .boolean x = z) (hdg : decode cc pc = .ok (.bastore, 1)) (kk : ∀ (H : Heap) (locs : List Loc), MW D A s h0 ad cd H locs pn kn co rd vd is ve (upd ie j z) rc bad bst few → W p l e R s m args below meth c H locs cells slots Q (F0 m (pc + 1) ls rest)) : W p l e R s m args below meth c H locs cells slots Q (F0 m pc ls (.int x :: .int (nI j) :: .ref (ad 5) :: rest)) := by
  obtain ⟨hx, hb, hml, hown, hts⟩ := F
  obtain ⟨hK, hP, hD, hS, hA⟩ := w
  refine va_zast (f := ie) hx hb hK hP hD hS 6 5 rfl rfl (vp_in_nI hj (by decide)) hdg (fun H1 l1 hP hD hS => ?_)
  rw [nI_clamp (by omega), hz] at hP hD
  exact kk H1 l1 ⟨hK, hP, hD, hS, hA⟩
theorem m_ldrc (F : CallFix p m c cc nL s args lw_all RX1) (w : MW D A s h0 ad cd H locs pn kn co rd vd is ve ie rc bad bst few) {j : Nat} (hj : j < 64) (hdg : decode cc pc = .ok (.baload, 1)) (k : W p l e R s m args below meth c H locs cells slots Q (F0 m (pc + 1) ls (.int (rc j) :: rest))) : W p l e R s m args below meth c H locs cells slots Q (F0 m pc ls (.int (nI j) :: .ref (ad 6) :: rest)) := by
  obtain ⟨hx, hb, hml, hown, hts⟩ := F
  obtain ⟨hK, hP, hD, hS, hA⟩ := w
  refine va_zald (f := rc) hx hb hK hP 7 6 rfl rfl (vp_in_nI hj (by decide)) hdg ?_
  rw [nI_clamp (by omega)]
  exact k
theorem m_strc (F : CallFix p m c cc nL s args lw_all RX1) (w : MW D A s h0 ad cd H locs pn kn co rd vd is ve ie rc bad bst few) {j : Nat} {x z : Int32} (hj : j < 64) (hz : vp_nar .boolean x = z) (hdg : decode cc pc = .ok (.bastore, 1)) (kk : ∀ (H : Heap) (locs : List Loc), MW D A s h0 ad cd H locs pn kn co rd vd is ve ie (upd rc j z) bad bst few → W p l e R s m args below meth c H locs cells slots Q (F0 m (pc + 1) ls rest)) : W p l e R s m args below meth c H locs cells slots Q (F0 m pc ls (.int x :: .int (nI j) :: .ref (ad 6) :: rest)) := by
  obtain ⟨hx, hb, hml, hown, hts⟩ := F
  obtain ⟨hK, hP, hD, hS, hA⟩ := w
  refine va_zast (f := rc) hx hb hK hP hD hS 7 6 rfl rfl (vp_in_nI hj (by decide)) hdg (fun H1 l1 hP hD hS => ?_)
  rw [nI_clamp (by omega), hz] at hP hD
  exact kk H1 l1 ⟨hK, hP, hD, hS, hA⟩
theorem m_ldbad (F : CallFix p m c cc nL s args lw_all RX1) (w : MW D A s h0 ad cd H locs pn kn co rd vd is ve ie rc bad bst few) {j : Nat} (hj : j < 8) (hdg : decode cc pc = .ok (.baload, 1)) (k : W p l e R s m args below meth c H locs cells slots Q (F0 m (pc + 1) ls (.int (bad j) :: rest))) : W p l e R s m args below meth c H locs cells slots Q (F0 m pc ls (.int (nI j) :: .ref (ad 7) :: rest)) := by
  obtain ⟨hx, hb, hml, hown, hts⟩ := F
  obtain ⟨hK, hP, hD, hS, hA⟩ := w
  refine va_zald (f := bad) hx hb hK hP 8 7 rfl rfl (vp_in_nI hj (by decide)) hdg ?_
  rw [nI_clamp (by omega)]
  exact k
theorem m_stbad (F : CallFix p m c cc nL s args lw_all RX1) (w : MW D A s h0 ad cd H locs pn kn co rd vd is ve ie rc bad bst few) {j : Nat} {x z : Int32} (hj : j < 8) (hz : vp_nar .boolean x = z) (hdg : decode cc pc = .ok (.bastore, 1)) (kk : ∀ (H : Heap) (locs : List Loc), MW D A s h0 ad cd H locs pn kn co rd vd is ve ie rc (upd bad j z) bst few → W p l e R s m args below meth c H locs cells slots Q (F0 m (pc + 1) ls rest)) : W p l e R s m args below meth c H locs cells slots Q (F0 m pc ls (.int x :: .int (nI j) :: .ref (ad 7) :: rest)) := by
  obtain ⟨hx, hb, hml, hown, hts⟩ := F
  obtain ⟨hK, hP, hD, hS, hA⟩ := w
  refine va_zast (f := bad) hx hb hK hP hD hS 8 7 rfl rfl (vp_in_nI hj (by decide)) hdg (fun H1 l1 hP hD hS => ?_)
  rw [nI_clamp (by omega), hz] at hP hD
  exact kk H1 l1 ⟨hK, hP, hD, hS, hA⟩
theorem m_ldbst (F : CallFix p m c cc nL s args lw_all RX1) (w : MW D A s h0 ad cd H locs pn kn co rd vd is ve ie rc bad bst few) {j : Nat} (hj : j < 64) (hdg : decode cc pc = .ok (.laload, 1)) (k : W p l e R s m args below meth c H locs cells slots Q (F0 m (pc + 1) ls (.long (bst j) :: rest))) : W p l e R s m args below meth c H locs cells slots Q (F0 m pc ls (.int (nI j) :: .ref (ad 8) :: rest)) := by
  obtain ⟨hx, hb, hml, hown, hts⟩ := F
  obtain ⟨hK, hP, hD, hS, hA⟩ := w
  refine va_lald (f := bst) hx hb hK hP 9 8 rfl rfl (vp_in_nI hj (by decide)) hdg ?_
  rw [nI_clamp (by omega)]
  exact k
theorem m_stbst (F : CallFix p m c cc nL s args lw_all RX1) (w : MW D A s h0 ad cd H locs pn kn co rd vd is ve ie rc bad bst few) {j : Nat} {x : Int64} (hj : j < 64) (hdg : decode cc pc = .ok (.lastore, 1)) (kk : ∀ (H : Heap) (locs : List Loc), MW D A s h0 ad cd H locs pn kn co rd vd is ve ie rc bad (vp_updL bst j x) few → W p l e R s m args below meth c H locs cells slots Q (F0 m (pc + 1) ls rest)) : W p l e R s m args below meth c H locs cells slots Q (F0 m pc ls (.long x :: .int (nI j) :: .ref (ad 8) :: rest)) := by
  obtain ⟨hx, hb, hml, hown, hts⟩ := F
  obtain ⟨hK, hP, hD, hS, hA⟩ := w
  refine va_last (f := bst) hx hb hK hP hD hS 9 8 rfl rfl (vp_in_nI hj (by decide)) hdg (fun H1 l1 hP hD hS => ?_)
  rw [nI_clamp (by omega)] at hP hD
  exact kk H1 l1 ⟨hK, hP, hD, hS, hA⟩
theorem m_ldfew (F : CallFix p m c cc nL s args lw_all RX1) (w : MW D A s h0 ad cd H locs pn kn co rd vd is ve ie rc bad bst few) {j : Nat} (hj : j < 64) (hdg : decode cc pc = .ok (.iaload, 1)) (k : W p l e R s m args below meth c H locs cells slots Q (F0 m (pc + 1) ls (.int (few j) :: rest))) : W p l e R s m args below meth c H locs cells slots Q (F0 m pc ls (.int (nI j) :: .ref (ad 9) :: rest)) := by
  obtain ⟨hx, hb, hml, hown, hts⟩ := F
  obtain ⟨hK, hP, hD, hS, hA⟩ := w
  refine va_iald (f := few) hx hb hK hP 10 9 rfl rfl (vp_in_nI hj (by decide)) hdg ?_
  rw [nI_clamp (by omega)]
  exact k
theorem m_stfew (F : CallFix p m c cc nL s args lw_all RX1) (w : MW D A s h0 ad cd H locs pn kn co rd vd is ve ie rc bad bst few) {j : Nat} {x : Int32} (hj : j < 64) (hdg : decode cc pc = .ok (.iastore, 1)) (kk : ∀ (H : Heap) (locs : List Loc), MW D A s h0 ad cd H locs pn kn co rd vd is ve ie rc bad bst (upd few j x) → W p l e R s m args below meth c H locs cells slots Q (F0 m (pc + 1) ls rest)) : W p l e R s m args below meth c H locs cells slots Q (F0 m pc ls (.int x :: .int (nI j) :: .ref (ad 9) :: rest)) := by
  obtain ⟨hx, hb, hml, hown, hts⟩ := F
  obtain ⟨hK, hP, hD, hS, hA⟩ := w
  refine va_iast (f := few) hx hb hK hP hD hS 10 9 rfl rfl (vp_in_nI hj (by decide)) hdg (fun H1 l1 hP hD hS => ?_)
  rw [nI_clamp (by omega)] at hP hD
  exact kk H1 l1 ⟨hK, hP, hD, hS, hA⟩
end
/-- a contract of the reference out of a walk -/
theorem m_met {l : Launch} {y : MethodName} {cc : ByteArray} {maxL : Nat} {ret : Option FieldType} {rm : Room} {As : List Value} {Qc : (Nat → Prop) → Array Value → State → Outcome → State → Prop} {D : va_G} {h0 : Nat} {ad : Nat → Nat} {cd : Nat → ClassId} {sz : Nat} {pn kn : Int32} {co rd : Nat → Int32} {vd : Nat → Int64} {is : Nat → Int32} {ve : Nat → Int64} {ie rc bad : Nat → Int32} {bst : Nat → Int64} {few : Nat → Int32} (hy : plainName y.cls = true) (hyc : y.cls = RX1) (hla : (lg_sl (.ref h0 :: As)).length ≤ maxL)
    (body : ∀ (p : Program) (e : Env) (s : State) (m : MethodId) (below : List Frame) (meth : Method) (c : Code) (A : Nat → Prop) (ls : Array Slot), CallFix p m c cc maxL s (.ref h0 :: As).toArray lw_all RX1 → meth.sig.returnType = ret → meth.locks = false → MW D A s h0 ad cd s.heap [] pn kn co rd vd is ve ie rc bad bst few → lv_has ls maxL (lv_args 0 (.ref h0 :: As)) → W p l e rm s m (.ref h0 :: As).toArray below meth c s.heap [] 0 0 (MQ below (Qc A) (.ref h0 :: As).toArray s 0 0 A) (F0 m 0 ls [])) :
    Met l y (ws_ y cc maxL ret) rm (va_Pc (.ref h0 :: As) (MPre D h0 ad cd sz pn kn co rd vd is ve ie rc bad bst few)) (Qc (va_A (mw h0 ad cd pn kn co rd vd is ve ie rc bad bst few) sz)) 0 0 (va_A (mw h0 ad cd pn kn co rd vd is ve ie rc bad bst few) sz) := by
  refine Met.ofW (cc := cc) (maxL := maxL) (ret := ret) hy rfl ?_
  intro p e s m args below meth c s₁ B hml hv
  obtain ⟨rfl, hsz, hP, hK, hD0⟩ := hv
  have hts := atoms_spec (ws := ws_ y cc maxL ret) B.pre
  have hts : ∀ w ∈ lw_all, w.before _ s = true := fun w h => hts w (List.mem_cons_of_mem _ h)
  have hown : s.vm.findClass RX1 = some m.cls := by rw [← hyc]; exact findClass_of_methodNamed B.named
  subst hsz
  have hD := hD0.self (sz := s.heap.size)
  have hl := lv_entry (.ref h0 :: As) (n := maxL) hla
  rw [lg_entry_eq]
  generalize (lg_sl (.ref h0 :: As) ++ List.replicate (maxL - (lg_sl (.ref h0 :: As)).length) Slot.unset).toArray = ls at hl ⊢
  exact body p e s m below meth c _ ls ⟨B.exec, B.bytes, hml, hown, hts⟩ B.returns B.notSynchronized ⟨hK, hP, hD, va_S.rf, fun q h => Or.inr h⟩ hl
section
variable {p : Program} {l : Launch} {e : Env} {R : Room} {s : State} {m : MethodId} {args : Array Value} {below : List Frame} {meth : Method} {c : Code} {H : Heap} {locs : List Loc} {cells slots : Nat} {Q : State → Prop}
variable {cc : ByteArray} {pc nL : Nat} {ls : Array Slot} {rest : List Value} {D : va_G} {A : Nat → Prop} {h0 : Nat} {ad : Nat → Nat} {cd : Nat → ClassId} {pn kn : Int32} {co rd : Nat → Int32} {vd : Nat → Int64} {is : Nat → Int32} {ve : Nat → Int64} {ie rc bad : Nat → Int32} {bst : Nat → Int64} {few : Nat → Int32}
theorem m_vret (hx : p.tables.exec = Jvm.exec) (hb : c.code = cc) (hr' : meth.sig.returnType = none) (hlk : meth.locks = false) (w : MW D A s h0 ad cd H locs pn kn co rd vd is ve ie rc bad bst few) {post : MS → Prop} (hp : post (pn, kn, co, rd, vd, is, ve, ie, rc, bad, bst, few)) (hdg : decode cc pc = .ok (.return_, 1)) : W p l e R s m args below meth c H locs 0 0 (MQ below (va_Qv post (MB D A h0 ad cd) A) args s 0 0 A) (F0 m pc ls []) :=
  W.vret hx hb hr' (fun t ht hW => ⟨⟨(pn, kn, co, rd, vd, is, ve, ie, rc, bad, bst, few), rfl, hp, by rw [ht]; exact w.2.1, va_K.moved hW.alike w.1, w.2.2.1⟩, w.2.2.2.1.F ht⟩) w.2.2.2.1.2.2 hdg hlk
theorem m_iret (hx : p.tables.exec = Jvm.exec) (hb : c.code = cc) (hr' : meth.sig.returnType = some .int) (hlk : meth.locks = false) (w : MW D A s h0 ad cd H locs pn kn co rd vd is ve ie rc bad bst few) {post : Int32 → MS → Prop} {r : Int32} (hp : post r (pn, kn, co, rd, vd, is, ve, ie, rc, bad, bst, few)) (hdg : decode cc pc = .ok (.ireturn, 1)) : W p l e R s m args below meth c H locs 0 0 (MQ below (va_Qi post (MB D A h0 ad cd) A) args s 0 0 A) (F0 m pc ls [.int r]) :=
  W.iret hx hb hr' (fun t ht hW => ⟨⟨r, (pn, kn, co, rd, vd, is, ve, ie, rc, bad, bst, few), rfl, hp, by rw [ht]; exact w.2.1, va_K.moved hW.alike w.1, w.2.2.1⟩, w.2.2.2.1.F ht⟩) w.2.2.2.1.2.2 hdg hlk
theorem m_zret (hx : p.tables.exec = Jvm.exec) (hb : c.code = cc) (hr' : meth.sig.returnType = some .boolean) (hlk : meth.locks = false) (w : MW D A s h0 ad cd H locs pn kn co rd vd is ve ie rc bad bst few) {post : Int32 → MS → Prop} {r : Int32} (hn : narrow .boolean (.int r) = .int r) (hp : post r (pn, kn, co, rd, vd, is, ve, ie, rc, bad, bst, few)) (hdg : decode cc pc = .ok (.ireturn, 1)) : W p l e R s m args below meth c H locs 0 0 (MQ below (va_Qi post (MB D A h0 ad cd) A) args s 0 0 A) (F0 m pc ls [.int r]) :=
  W.zret hx hb hr' hn (fun t ht hW => ⟨⟨r, (pn, kn, co, rd, vd, is, ve, ie, rc, bad, bst, few), rfl, hp, by rw [ht]; exact w.2.1, va_K.moved hW.alike w.1, w.2.2.1⟩, w.2.2.2.1.F ht⟩) w.2.2.2.1.2.2 hdg hlk
theorem m_lret (hx : p.tables.exec = Jvm.exec) (hb : c.code = cc) (hr' : meth.sig.returnType = some .long) (hlk : meth.locks = false) (w : MW D A s h0 ad cd H locs pn kn co rd vd is ve ie rc bad bst few) {post : Int64 → MS → Prop} {r : Int64} (hp : post r (pn, kn, co, rd, vd, is, ve, ie, rc, bad, bst, few)) (hdg : decode cc pc = .ok (.lreturn, 1)) : W p l e R s m args below meth c H locs 0 0 (MQ below (va_Ql post (MB D A h0 ad cd) A) args s 0 0 A) (F0 m pc ls [.long r]) :=
  W.lret hx hb hr' (fun t ht hW => ⟨⟨r, (pn, kn, co, rd, vd, is, ve, ie, rc, bad, bst, few), rfl, hp, by rw [ht]; exact w.2.1, va_K.moved hW.alike w.1, w.2.2.1⟩, w.2.2.2.1.F ht⟩) w.2.2.2.1.2.2 hdg hlk
variable {y : MethodName} {bytes : ByteArray} {maxL index n : Nat} {ret : Option FieldType} {rm : Room} {As st0 : List Value}
theorem m_callv (F : CallFix p m c cc nL s args lw_all RX1) (w : MW D A s h0 ad cd H locs pn kn co rd vd is ve ie rc bad bst few) {post : MS → Prop} (hM : Met l y (ws_ y bytes maxL ret) rm (va_Pc (.ref h0 :: As) (MPre D h0 ad cd H.size pn kn co rd vd is ve ie rc bad bst few)) (va_Qv post (MB D (va_A (mw h0 ad cd pn kn co rd vd is ve ie rc bad bst few) H.size) h0 ad cd) (va_A (mw h0 ad cd pn kn co rd vd is ve ie rc bad bst few) H.size)) 0 0 (va_A (mw h0 ad cd pn kn co rd vd is ve ie rc bad bst few) H.size)) (cw : CallW R s args RX1 RX1 index y bytes maxL ret (ws_ y bytes maxL ret) rm 0 0 n) (hn : As.length = n) (hsz : ls.size = nL) (hst : st0 = As.reverse ++ .ref h0 :: rest) (hro : (rest.map fun v => v.category).sum ≤ 8) (hdg : decode cc pc = .ok (.invokevirtual index, 3)) (hf : cells + 0 ≤ R.cells ∧ slots + 0 ≤ R.slots)
    (kk : ∀ (u : MS) (H : Heap) (locs : List Loc), post u → MW D A s h0 ad cd H locs u.1 u.2.1 u.2.2.1 u.2.2.2.1 u.2.2.2.2.1 u.2.2.2.2.2.1 u.2.2.2.2.2.2.1 u.2.2.2.2.2.2.2.1 u.2.2.2.2.2.2.2.2.1 u.2.2.2.2.2.2.2.2.2.1 u.2.2.2.2.2.2.2.2.2.2.1 u.2.2.2.2.2.2.2.2.2.2.2 → W p l e R s m args below meth c H locs cells slots Q (F0 m (pc + 3) ls (rest))) : W p l e R s m args below meth c H locs cells slots Q (F0 m pc ls st0) := by
  obtain ⟨hK, hP, hD, hS, hA⟩ := w
  have hFc := va_free (wc := mw h0 ad cd pn kn co rd vd is ve ie rc bad bst few) hD hS hA [0, 1, 2, 3, 4, 5, 6, 7, 8, 9, 10] rfl
  refine va_callv (va_runV (As := As) (rest := rest) F hM cw ⟨fun a U g mk q => by obtain ⟨q0, q1, qP, qK, qD⟩ := q; exact ⟨q0, q1, qP, va_K.moved (u := U) (U := U.calling g mk a) (Vm.Alike.refl U.vm) qK, qD⟩, va_recv hK hP (ci := 1) (q0 := 0) rfl rfl, fun U hU hW => ⟨rfl, by rw [hU], by rw [hU]; exact hP, va_K.moved hW.alike hK, hD.weaken (fun _ _ _ _ => trivial)⟩⟩ rfl hn hsz hst (lv_room hro) hdg hf) hS (fun q _ h => hFc q h) hFc (fun u t H1 locs1 ht hvm hpost hB hz1 hk1 hS1 => ?_)
  obtain ⟨hP1, hK1, hD1⟩ := hB
  rw [ht] at hP1
  exact kk u H1 locs1 hpost ⟨va_K.moved hvm.symm hK1, hP1, hD1.weaken (fun _ _ _ h => hFc _ h), hS1, hA⟩
theorem m_calli (F : CallFix p m c cc nL s args lw_all RX1) (w : MW D A s h0 ad cd H locs pn kn co rd vd is ve ie rc bad bst few) {post : Int32 → MS → Prop} (hM : Met l y (ws_ y bytes maxL ret) rm (va_Pc (.ref h0 :: As) (MPre D h0 ad cd H.size pn kn co rd vd is ve ie rc bad bst few)) (va_Qi post (MB D (va_A (mw h0 ad cd pn kn co rd vd is ve ie rc bad bst few) H.size) h0 ad cd) (va_A (mw h0 ad cd pn kn co rd vd is ve ie rc bad bst few) H.size)) 0 0 (va_A (mw h0 ad cd pn kn co rd vd is ve ie rc bad bst few) H.size)) (cw : CallW R s args RX1 RX1 index y bytes maxL ret (ws_ y bytes maxL ret) rm 0 0 n) (hn : As.length = n) (hsz : ls.size = nL) (hst : st0 = As.reverse ++ .ref h0 :: rest) (hro : (rest.map fun v => v.category).sum ≤ 8) (hdg : decode cc pc = .ok (.invokevirtual index, 3)) (hf : cells + 0 ≤ R.cells ∧ slots + 0 ≤ R.slots)
    (kk : ∀ (r : Int32) (u : MS) (H : Heap) (locs : List Loc), post r u → MW D A s h0 ad cd H locs u.1 u.2.1 u.2.2.1 u.2.2.2.1 u.2.2.2.2.1 u.2.2.2.2.2.1 u.2.2.2.2.2.2.1 u.2.2.2.2.2.2.2.1 u.2.2.2.2.2.2.2.2.1 u.2.2.2.2.2.2.2.2.2.1 u.2.2.2.2.2.2.2.2.2.2.1 u.2.2.2.2.2.2.2.2.2.2.2 → W p l e R s m args below meth c H locs cells slots Q (F0 m (pc + 3) ls (.int r :: rest))) : W p l e R s m args below meth c H locs cells slots Q (F0 m pc ls st0) := by
  obtain ⟨hK, hP, hD, hS, hA⟩ := w
  have hFc := va_free (wc := mw h0 ad cd pn kn co rd vd is ve ie rc bad bst few) hD hS hA [0, 1, 2, 3, 4, 5, 6, 7, 8, 9, 10] rfl
  refine va_calli (va_runV (As := As) (rest := rest) F hM cw ⟨fun a U g mk q => by obtain ⟨q0, q1, qP, qK, qD⟩ := q; exact ⟨q0, q1, qP, va_K.moved (u := U) (U := U.calling g mk a) (Vm.Alike.refl U.vm) qK, qD⟩, va_recv hK hP (ci := 1) (q0 := 0) rfl rfl, fun U hU hW => ⟨rfl, by rw [hU], by rw [hU]; exact hP, va_K.moved hW.alike hK, hD.weaken (fun _ _ _ _ => trivial)⟩⟩ rfl hn hsz hst (lv_room hro) hdg hf) hS (fun q _ h => hFc q h) hFc (fun r u t H1 locs1 ht hvm hpost hB hz1 hk1 hS1 => ?_)
  obtain ⟨hP1, hK1, hD1⟩ := hB
  rw [ht] at hP1
  exact kk r u H1 locs1 hpost ⟨va_K.moved hvm.symm hK1, hP1, hD1.weaken (fun _ _ _ h => hFc _ h), hS1, hA⟩
end
abbrev MMv (l : Launch) (y : MethodName) (cc : ByteArray) (maxL : Nat) (ret : Option FieldType) (rm : Room) (As : List Value) (D : va_G) (h0 : Nat) (ad : Nat → Nat) (cd : Nat → ClassId) (sz : Nat) (pn kn : Int32) (co rd : Nat → Int32) (vd : Nat → Int64) (is : Nat → Int32) (ve : Nat → Int64) (ie rc bad : Nat → Int32) (bst : Nat → Int64) (few : Nat → Int32) (post : MS → Prop) : Prop := Met l y (ws_ y cc maxL ret) rm (va_Pc (.ref h0 :: As) (MPre D h0 ad cd sz pn kn co rd vd is ve ie rc bad bst few)) (va_Qv post (MB D (va_A (mw h0 ad cd pn kn co rd vd is ve ie rc bad bst few) sz) h0 ad cd) (va_A (mw h0 ad cd pn kn co rd vd is ve ie rc bad bst few) sz)) 0 0 (va_A (mw h0 ad cd pn kn co rd vd is ve ie rc bad bst few) sz)
abbrev MMi (l : Launch) (y : MethodName) (cc : ByteArray) (maxL : Nat) (ret : Option FieldType) (rm : Room) (As : List Value) (D : va_G) (h0 : Nat) (ad : Nat → Nat) (cd : Nat → ClassId) (sz : Nat) (pn kn : Int32) (co rd : Nat → Int32) (vd : Nat → Int64) (is : Nat → Int32) (ve : Nat → Int64) (ie rc bad : Nat → Int32) (bst : Nat → Int64) (few : Nat → Int32) (post : Int32 → MS → Prop) : Prop := Met l y (ws_ y cc maxL ret) rm (va_Pc (.ref h0 :: As) (MPre D h0 ad cd sz pn kn co rd vd is ve ie rc bad bst few)) (va_Qi post (MB D (va_A (mw h0 ad cd pn kn co rd vd is ve ie rc bad bst few) sz) h0 ad cd) (va_A (mw h0 ad cd pn kn co rd vd is ve ie rc bad bst few) sz)) 0 0 (va_A (mw h0 ad cd pn kn co rd vd is ve ie rc bad bst few) sz)
abbrev MMl (l : Launch) (y : MethodName) (cc : ByteArray) (maxL : Nat) (ret : Option FieldType) (rm : Room) (As : List Value) (D : va_G) (h0 : Nat) (ad : Nat → Nat) (cd : Nat → ClassId) (sz : Nat) (pn kn : Int32) (co rd : Nat → Int32) (vd : Nat → Int64) (is : Nat → Int32) (ve : Nat → Int64) (ie rc bad : Nat → Int32) (bst : Nat → Int64) (few : Nat → Int32) (post : Int64 → MS → Prop) : Prop := Met l y (ws_ y cc maxL ret) rm (va_Pc (.ref h0 :: As) (MPre D h0 ad cd sz pn kn co rd vd is ve ie rc bad bst few)) (va_Ql post (MB D (va_A (mw h0 ad cd pn kn co rd vd is ve ie rc bad bst few) sz) h0 ad cd) (va_A (mw h0 ad cd pn kn co rd vd is ve ie rc bad bst few) sz)) 0 0 (va_A (mw h0 ad cd pn kn co rd vd is ve ie rc bad bst few) sz)
end
section
/-! the contracts of RouteDeskModel (printed by genM2.py) -/
set_option maxHeartbeats 4000000 in
set_option maxRecDepth 100000 in
theorem metX1_at (l : Launch) (D : va_G) (h0 : Nat) (ad : Nat → Nat) (cd : Nat → ClassId) (sz : Nat) (n : Nat) (kn : Int32) (co rd : Nat → Int32) (vd : Nat → Int64) (is : Nat → Int32) (ve : Nat → Int64) (ie rc bad : Nat → Int32) (bst : Nat → Int64) (few : Nat → Int32) (k : Int32) (h1 : 1 ≤ n) (h8 : n ≤ 8) : MMi l yX1_at cX1_at 2 (some .int) ({ frames := 0, cells := 0, slots := 0, locals := 0 }) [.int k] D h0 ad cd sz (nI n) kn co rd vd is ve ie rc bad bst few (fun r u => r = nI (pl_ n k) ∧ u = ((nI n), kn, co, rd, vd, is, ve, ie, rc, bad, bst, few)) := by
  refine m_met (Qc := fun A => va_Qi (fun r u => r = nI (pl_ n k) ∧ u = ((nI n), kn, co, rd, vd, is, ve, ie, rc, bad, bst, few)) (MB D A h0 ad cd) A) (by decide) rfl (Nat.le_of_ble_eq_true rfl) ?_
  intro p e s m below meth c A ls F hr' hlk w hl
  obtain ⟨hx, hb, hml, hown, hts⟩ := id F
  have hl : lv_has ls 2 [(0, .ref h0), (1, .int k)] := hl
  refine lv_iload_n hx hb dX1_at_0 rfl (lv_at hl 1 rfl) ?_
  refine lv_ldc hx hb hown (hts _ q153) dX1_at_1 ?_
  refine lv_iand hx hb dX1_at_3 ?_
  refine lv_aload_n hx hb dX1_at_4 rfl (lv_at hl 0 rfl) ?_
  refine m_gn F w dX1_at_5 ?_
  refine lv_irem hx hb dX1_at_8 (nI_ne0 (by omega) (by omega)) ?_
  refine w_top (pl_eq k h1 h8) ?_
  exact m_iret hx hb hr' hlk w ⟨rfl, rfl⟩ dX1_at_9
section
variable {p : Program} {l : Launch} {e : Env} {R : Room} {s : State} {m : MethodId} {args : Array Value} {below : List Frame} {meth : Method} {c : Code} {H : Heap} {locs : List Loc} {cells slots : Nat} {Q : State → Prop}
variable {cc : ByteArray} {pc nL : Nat} {ls : Array Slot} {rest : List Value} {D : va_G} {A : Nat → Prop} {h0 : Nat} {ad : Nat → Nat} {cd : Nat → ClassId} {pn kn : Int32} {co rd : Nat → Int32} {vd : Nat → Int64} {is : Nat → Int32} {ve : Nat → Int64} {ie rc bad : Nat → Int32} {bst : Nat → Int64} {few : Nat → Int32}
theorem m_at {n : Nat} (F : CallFix p m c cc nL s args lw_all RX1) (w : MW D A s h0 ad cd H locs (nI n) kn co rd vd is ve ie rc bad bst few) (h1 : 1 ≤ n) (h8 : n ≤ 8) {k : Int32} (hsz : ls.size = nL) (hro : (rest.map fun v => v.category).sum ≤ 8) (hR : 1 ≤ R.frames ∧ 21 ≤ R.locals) (hf : cells + 0 ≤ R.cells ∧ slots + 0 ≤ R.slots) (hdg : decode cc pc = .ok (.invokevirtual 51, 3))
    (kk : ∀ (H : Heap) (locs : List Loc), MW D A s h0 ad cd H locs (nI n) kn co rd vd is ve ie rc bad bst few → W p l e R s m args below meth c H locs cells slots Q (F0 m (pc + 3) ls (.int (nI (pl_ n k)) :: rest))) : W p l e R s m args below meth c H locs cells slots Q (F0 m pc ls (.int k :: .ref h0 :: rest)) := by
  have hts := F.2.2.2.2
  refine m_calli F w (metX1_at l D h0 ad cd H.size n kn co rd vd is ve ie rc bad bst few k h1 h8) (cwV 1 hts (lw_V q149 q151 qs5 q10 q152) rfl rfl rfl (by decide +kernel) ⟨hR.1, hR.2⟩) rfl hsz rfl hro hdg hf (fun r u H1 l1 hp w1 => ?_)
  obtain ⟨rfl, rfl⟩ := hp
  exact kk H1 l1 w1
end
theorem pn_eq2 (k : Int32) : 1 + (k &&& 7) = nI (1 + k.toBitVec.toNat % 8) := by
  rw [pk_and k 3 (by decide +kernel)]
  rw [show (1 : Int32) = nI 1 by decide +kernel]
  exact nI_add 1 _
set_option maxHeartbeats 4000000 in
set_option maxRecDepth 100000 in
theorem metX1_places (l : Launch) (D : va_G) (h0 : Nat) (ad : Nat → Nat) (cd : Nat → ClassId) (sz : Nat) (n : Nat) (kn : Int32) (co rd : Nat → Int32) (vd : Nat → Int64) (is : Nat → Int32) (ve : Nat → Int64) (ie rc bad : Nat → Int32) (bst : Nat → Int64) (few : Nat → Int32) (k : Int32) (h1 : 1 ≤ n) (h8 : n ≤ 8) : MMv l yX1_places cX1_places 3 none ({ frames := 0, cells := 0, slots := 0, locals := 0 }) [.int k] D h0 ad cd sz (nI n) kn co rd vd is ve ie rc bad bst few (fun u => u = ((nI (1 + k.toBitVec.toNat % 8)), 0, co, (lp m_v0 0 64 rd), vd, is, ve, ie, rc, bad, bst, few)) := by
  refine m_met (Qc := fun A => va_Qv (fun u => u = ((nI (1 + k.toBitVec.toNat % 8)), 0, co, (lp m_v0 0 64 rd), vd, is, ve, ie, rc, bad, bst, few)) (MB D A h0 ad cd) A) (by decide) rfl (Nat.le_of_ble_eq_true rfl) ?_
  intro p e s m below meth c A ls F hr' hlk w hl
  obtain ⟨hx, hb, hml, hown, hts⟩ := id F
  have hl : lv_has ls 3 [(0, .ref h0), (1, .int k)] := hl
  refine lv_aload_n hx hb dX1_places_0 rfl (lv_at hl 0 rfl) ?_
  refine lv_iconst (v := 1) hx hb dX1_places_1 (by decide +kernel) ?_
  refine lv_iload_n hx hb dX1_places_2 rfl (lv_at hl 1 rfl) ?_
  refine lv_bipush (v := 7) hx hb dX1_places_3 (by decide +kernel) ?_
  refine lv_iand hx hb dX1_places_5 ?_
  refine lv_iadd hx hb dX1_places_6 ?_
  refine w_top (pn_eq2 k) ?_
  refine m_pn F w dX1_places_7 (fun H locs w => ?_)
  refine lv_iconst (v := (nI 0)) hx hb dX1_places_10 (by decide +kernel) ?_
  refine lv_istore_n (lv' := [(2, .int (nI 0)), (0, .ref h0), (1, .int k)]) hx hb dX1_places_11 rfl hl (by decide) rfl (fun ls hl => ?_)
  refine lp_back m_v0 (fun i f => ∀ (H : Heap) (locs : List Loc) (ls : Array Slot), MW D A s h0 ad cd H locs (nI (1 + k.toBitVec.toNat % 8)) kn co f vd is ve ie rc bad bst few → lv_has ls 3 [(0, .ref h0), (2, .int (nI i))] → W p l e _ s m _ below meth c H locs 0 0 _ (F0 m 12 ls [])) 64 ?_ 64 0 rd rfl ?_ _ _ ls w (lv_sub hl [1, 0] rfl)
  · intro i f hi hk H locs ls w hl
    refine lv_iload_n hx hb dX1_places_12 rfl (lv_at hl 1 rfl) ?_
    refine lv_bipush (v := (nI 64)) hx hb dX1_places_13 (by decide +kernel) ?_
    refine w_ge_f (tgt := 31) hx hb dX1_places_15 (by decide) hi (by omega) ?_
    refine lv_aload_n hx hb dX1_places_18 rfl (lv_at hl 0 rfl) ?_
    refine m_grd F w dX1_places_19 ?_
    refine lv_iload_n hx hb dX1_places_22 rfl (lv_at hl 1 rfl) ?_
    refine lv_iconst (v := 0) hx hb dX1_places_23 (by decide +kernel) ?_
    refine m_strd F w (by omega) nz0 dX1_places_24 (fun H locs w => ?_)
    refine lv_iinc (v := nI (i + 1)) (lv' := [(2, .int (nI (i + 1))), (0, .ref h0)]) hx hb dX1_places_25 hl (k := 1) rfl (nI_inc i) (by decide) rfl (fun ls hl => ?_)
    refine lv_goto (tgt := 12) hx hb dX1_places_28 (by decide) ?_
    exact hk _ rfl _ _ _ w (lv_sub hl [1, 0] rfl)
  · intro H locs ls w hl
    refine lv_iload_n hx hb dX1_places_12 rfl (lv_at hl 1 rfl) ?_
    refine lv_bipush (v := (nI 64)) hx hb dX1_places_13 (by decide +kernel) ?_
    refine w_ge_t (tgt := 31) hx hb dX1_places_15 (by decide) (Nat.le_refl 64) (by omega) ?_
    refine lv_aload_n hx hb dX1_places_31 rfl (lv_at hl 0 rfl) ?_
    refine lv_iconst (v := 0) hx hb dX1_places_32 (by decide +kernel) ?_
    refine m_pkn F w rfl rfl dX1_places_33 (fun H locs w => ?_)
    exact m_vret hx hb hr' hlk w rfl dX1_places_36
set_option maxHeartbeats 4000000 in
set_option maxRecDepth 100000 in
theorem metX1_road (l : Launch) (D : va_G) (h0 : Nat) (ad : Nat → Nat) (cd : Nat → ClassId) (sz : Nat) (n : Nat) (kn : Int32) (co rd : Nat → Int32) (vd : Nat → Int64) (is : Nat → Int32) (ve : Nat → Int64) (ie rc bad : Nat → Int32) (bst : Nat → Int64) (few : Nat → Int32) (a b k : Int32) (h1 : 1 ≤ n) (h8 : n ≤ 8) : MMv l yX1_road cX1_road 5 none ({ frames := 1, cells := 0, slots := 0, locals := 21 }) [.int a, .int b, .int k] D h0 ad cd sz (nI n) kn co rd vd is ve ie rc bad bst few (fun u => u = ((nI n), 0, (upd co (8 * pl_ n a + pl_ n b) (k - k / 1000 * 1000)), (upd rd (8 * pl_ n a + pl_ n b) 1), vd, is, ve, ie, rc, bad, bst, few)) := by
  refine m_met (Qc := fun A => va_Qv (fun u => u = ((nI n), 0, (upd co (8 * pl_ n a + pl_ n b) (k - k / 1000 * 1000)), (upd rd (8 * pl_ n a + pl_ n b) 1), vd, is, ve, ie, rc, bad, bst, few)) (MB D A h0 ad cd) A) (by decide) rfl (Nat.le_of_ble_eq_true rfl) ?_
  intro p e s m below meth c A ls F hr' hlk w hl
  obtain ⟨hx, hb, hml, hown, hts⟩ := id F
  have hl : lv_has ls 5 [(0, .ref h0), (1, .int a), (2, .int b), (3, .int k)] := hl
  have ha := pl_lt a h1
  have hbb := pl_lt b h1
  refine lv_bipush (v := (nI 8)) hx hb dX1_road_0 (by decide +kernel) ?_
  refine lv_aload_n hx hb dX1_road_2 rfl (lv_at hl 0 rfl) ?_
  refine lv_iload_n hx hb dX1_road_3 rfl (lv_at hl 1 rfl) ?_
  refine m_at F w h1 h8 hl.1 (Nat.le_of_ble_eq_true rfl) ⟨Nat.le_of_ble_eq_true rfl, Nat.le_of_ble_eq_true rfl⟩ ⟨Nat.le_of_ble_eq_true rfl, Nat.le_of_ble_eq_true rfl⟩ dX1_road_4 (fun H locs w => ?_)
  refine lv_imul hx hb dX1_road_7 ?_
  refine lv_aload_n hx hb dX1_road_8 rfl (lv_at hl 0 rfl) ?_
  refine lv_iload_n hx hb dX1_road_9 rfl (lv_at hl 2 rfl) ?_
  refine m_at F w h1 h8 hl.1 (Nat.le_of_ble_eq_true rfl) ⟨Nat.le_of_ble_eq_true rfl, Nat.le_of_ble_eq_true rfl⟩ ⟨Nat.le_of_ble_eq_true rfl, Nat.le_of_ble_eq_true rfl⟩ dX1_road_10 (fun H locs w => ?_)
  refine lv_iadd hx hb dX1_road_13 ?_
  refine w_top (nI_ix2 (pl_ n a) (pl_ n b)) ?_
  refine lv_istore (lv' := [(4, .int (nI (8 * (pl_ n a) + (pl_ n b)))), (0, .ref h0), (1, .int a), (2, .int b), (3, .int k)]) hx hb dX1_road_14 hl (by decide) rfl (fun ls hl => ?_)
  refine lv_aload_n hx hb dX1_road_16 rfl (lv_at hl 1 rfl) ?_
  refine m_grd F w dX1_road_17 ?_
  refine lv_iload hx hb dX1_road_20 (lv_at hl 0 rfl) ?_
  refine lv_iconst (v := 1) hx hb dX1_road_22 (by decide +kernel) ?_
  refine m_strd F w (by omega) nz1 dX1_road_23 (fun H locs w => ?_)
  refine lv_aload_n hx hb dX1_road_24 rfl (lv_at hl 1 rfl) ?_
  refine m_gco F w dX1_road_25 ?_
  refine lv_iload hx hb dX1_road_28 (lv_at hl 0 rfl) ?_
  refine lv_iload_n hx hb dX1_road_30 rfl (lv_at hl 4 rfl) ?_
  refine lv_sipush (v := 1000) hx hb dX1_road_31 (by decide +kernel) ?_
  refine lv_irem hx hb dX1_road_34 (by decide +kernel) ?_
  refine m_stco F w (by omega) dX1_road_35 (fun H locs w => ?_)
  refine lv_aload_n hx hb dX1_road_36 rfl (lv_at hl 1 rfl) ?_
  refine lv_iconst (v := 0) hx hb dX1_road_37 (by decide +kernel) ?_
  refine m_pkn F w rfl rfl dX1_road_38 (fun H locs w => ?_)
  exact m_vret hx hb hr' hlk w rfl dX1_road_41
set_option maxHeartbeats 4000000 in
set_option maxRecDepth 100000 in
theorem metX1_close (l : Launch) (D : va_G) (h0 : Nat) (ad : Nat → Nat) (cd : Nat → ClassId) (sz : Nat) (n : Nat) (kn : Int32) (co rd : Nat → Int32) (vd : Nat → Int64) (is : Nat → Int32) (ve : Nat → Int64) (ie rc bad : Nat → Int32) (bst : Nat → Int64) (few : Nat → Int32) (a b : Int32) (h1 : 1 ≤ n) (h8 : n ≤ 8) : MMv l yX1_close cX1_close 3 none ({ frames := 1, cells := 0, slots := 0, locals := 21 }) [.int a, .int b] D h0 ad cd sz (nI n) kn co rd vd is ve ie rc bad bst few (fun u => u = ((nI n), 0, co, (upd rd (8 * pl_ n a + pl_ n b) 0), vd, is, ve, ie, rc, bad, bst, few)) := by
  refine m_met (Qc := fun A => va_Qv (fun u => u = ((nI n), 0, co, (upd rd (8 * pl_ n a + pl_ n b) 0), vd, is, ve, ie, rc, bad, bst, few)) (MB D A h0 ad cd) A) (by decide) rfl (Nat.le_of_ble_eq_true rfl) ?_
  intro p e s m below meth c A ls F hr' hlk w hl
  obtain ⟨hx, hb, hml, hown, hts⟩ := id F
  have hl : lv_has ls 3 [(0, .ref h0), (1, .int a), (2, .int b)] := hl
  have ha := pl_lt a h1
  have hbb := pl_lt b h1
  refine lv_aload_n hx hb dX1_close_0 rfl (lv_at hl 0 rfl) ?_
  refine m_grd F w dX1_close_1 ?_
  refine lv_bipush (v := (nI 8)) hx hb dX1_close_4 (by decide +kernel) ?_
  refine lv_aload_n hx hb dX1_close_6 rfl (lv_at hl 0 rfl) ?_
  refine lv_iload_n hx hb dX1_close_7 rfl (lv_at hl 1 rfl) ?_
  refine m_at F w h1 h8 hl.1 (Nat.le_of_ble_eq_true rfl) ⟨Nat.le_of_ble_eq_true rfl, Nat.le_of_ble_eq_true rfl⟩ ⟨Nat.le_of_ble_eq_true rfl, Nat.le_of_ble_eq_true rfl⟩ dX1_close_8 (fun H locs w => ?_)
  refine lv_imul hx hb dX1_close_11 ?_
  refine lv_aload_n hx hb dX1_close_12 rfl (lv_at hl 0 rfl) ?_
  refine lv_iload_n hx hb dX1_close_13 rfl (lv_at hl 2 rfl) ?_
  refine m_at F w h1 h8 hl.1 (Nat.le_of_ble_eq_true rfl) ⟨Nat.le_of_ble_eq_true rfl, Nat.le_of_ble_eq_true rfl⟩ ⟨Nat.le_of_ble_eq_true rfl, Nat.le_of_ble_eq_true rfl⟩ dX1_close_14 (fun H locs w => ?_)
  refine lv_iadd hx hb dX1_close_17 ?_
  refine w_top (nI_ix2 (pl_ n a) (pl_ n b)) ?_
  refine lv_iconst (v := 0) hx hb dX1_close_18 (by decide +kernel) ?_
  refine m_strd F w (by omega) nz0 dX1_close_19 (fun H locs w => ?_)
  refine lv_aload_n hx hb dX1_close_20 rfl (lv_at hl 0 rfl) ?_
  refine lv_iconst (v := 0) hx hb dX1_close_21 (by decide +kernel) ?_
  refine m_pkn F w rfl rfl dX1_close_22 (fun H locs w => ?_)
  exact m_vret hx hb hr' hlk w rfl dX1_close_25
set_option maxHeartbeats 4000000 in
set_option maxRecDepth 100000 in
theorem metX1_longer (l : Launch) (D : va_G) (h0 : Nat) (ad : Nat → Nat) (cd : Nat → ClassId) (sz : Nat) (n : Nat) (kn : Int32) (co rd : Nat → Int32) (vd : Nat → Int64) (is : Nat → Int32) (ve : Nat → Int64) (ie rc bad : Nat → Int32) (bst : Nat → Int64) (few : Nat → Int32)  (h1 : 1 ≤ n) (h8 : n ≤ 8) : MMv l yX1_longer cX1_longer 6 none ({ frames := 0, cells := 0, slots := 0, locals := 0 }) [] D h0 ad cd sz (nI n) kn co rd vd is ve ie rc bad bst few (fun u => u = (nI n, kn, co, rd, m_lg n rd co (vd, is, ve, ie, rc, bad, bst, few))) := by
  refine m_met (Qc := fun A => va_Qv (fun u => u = (nI n, kn, co, rd, m_lg n rd co (vd, is, ve, ie, rc, bad, bst, few))) (MB D A h0 ad cd) A) (by decide) rfl (Nat.le_of_ble_eq_true rfl) ?_
  intro p e s m below meth c A ls F hr' hlk w hl
  obtain ⟨hx, hb, hml, hown, hts⟩ := id F
  have hl : lv_has ls 6 [(0, .ref h0)] := hl
  refine lv_iconst (v := (nI 0)) hx hb dX1_longer_0 (by decide +kernel) ?_
  refine lv_istore_n (lv' := [(1, .int (nI 0)), (0, .ref h0)]) hx hb dX1_longer_1 rfl hl (by decide) rfl (fun ls hl => ?_)
  refine lp_back (m_a n is rd co vd) (fun a x => ∀ (H : Heap) (locs : List Loc) (ls : Array Slot), MW D A s h0 ad cd H locs (nI n) kn co rd vd is x.1 x.2 rc bad bst few → lv_has ls 6 [(0, .ref h0), (1, .int (nI a))] → W p l e _ s m _ below meth c H locs 0 0 _ (F0 m 2 ls [])) n ?_ n 0 (ve, ie) (Nat.zero_add n) ?_ _ _ ls w (lv_sub hl [1, 0] rfl)
  · intro a x ha hka H locs ls w hl
    refine lv_iload_n hx hb dX1_longer_2 rfl (lv_at hl 1 rfl) ?_
    refine lv_aload_n hx hb dX1_longer_3 rfl (lv_at hl 0 rfl) ?_
    refine m_gn F w dX1_longer_4 ?_
    refine w_ge_f (tgt := 170) hx hb dX1_longer_7 (by decide) ha (by omega) ?_
    refine lv_iconst (v := (nI 0)) hx hb dX1_longer_10 (by decide +kernel) ?_
    refine lv_istore_n (lv' := [(2, .int (nI 0)), (0, .ref h0), (1, .int (nI a))]) hx hb dX1_longer_11 rfl hl (by decide) rfl (fun ls hl => ?_)
    refine lp_back (m_b n is rd co vd a) (fun b x => ∀ (H : Heap) (locs : List Loc) (ls : Array Slot), MW D A s h0 ad cd H locs (nI n) kn co rd vd is x.1 x.2 rc bad bst few → lv_has ls 6 [(0, .ref h0), (1, .int (nI a)), (2, .int (nI b))] → W p l e _ s m _ below meth c H locs 0 0 _ (F0 m 12 ls [])) n ?_ n 0 x (Nat.zero_add n) ?_ _ _ ls w (lv_sub hl [1, 2, 0] rfl)
    · intro b x hbn hkb H locs ls w hl
      refine lv_iload_n hx hb dX1_longer_12 rfl (lv_at hl 2 rfl) ?_
      refine lv_aload_n hx hb dX1_longer_13 rfl (lv_at hl 0 rfl) ?_
      refine m_gn F w dX1_longer_14 ?_
      refine w_ge_f (tgt := 164) hx hb dX1_longer_17 (by decide) hbn (by omega) ?_
      refine lv_aload_n hx hb dX1_longer_20 rfl (lv_at hl 0 rfl) ?_
      refine m_gie F w dX1_longer_21 ?_
      refine lv_bipush (v := (nI 8)) hx hb dX1_longer_24 (by decide +kernel) ?_
      refine lv_iload_n hx hb dX1_longer_26 rfl (lv_at hl 1 rfl) ?_
      refine lv_imul hx hb dX1_longer_27 ?_
      refine lv_iload_n hx hb dX1_longer_28 rfl (lv_at hl 2 rfl) ?_
      refine lv_iadd hx hb dX1_longer_29 ?_
      refine w_top (nI_ix2 a b) ?_
      refine lv_iconst (v := 0) hx hb dX1_longer_30 (by decide +kernel) ?_
      refine m_stie F w (by omega) nz0 dX1_longer_31 (fun H locs w => ?_)
      refine lv_iconst (v := (nI 0)) hx hb dX1_longer_32 (by decide +kernel) ?_
      refine lv_istore_n (lv' := [(3, .int (nI 0)), (0, .ref h0), (1, .int (nI a)), (2, .int (nI b))]) hx hb dX1_longer_33 rfl hl (by decide) rfl (fun ls hl => ?_)
      refine lp_back (m_m is rd co vd a b) (fun mm x => ∀ (H : Heap) (locs : List Loc) (ls : Array Slot), MW D A s h0 ad cd H locs (nI n) kn co rd vd is x.1 x.2 rc bad bst few → lv_has ls 6 [(0, .ref h0), (1, .int (nI a)), (2, .int (nI b)), (3, .int (nI mm))] → W p l e _ s m _ below meth c H locs 0 0 _ (F0 m 34 ls [])) n ?_ n 0 (x.1, upd x.2 (8 * a + b) 0) (Nat.zero_add n) ?_ _ _ ls w (lv_sub hl [1, 2, 3, 0] rfl)
      · intro mm x hmm hkm H locs ls w hl
        refine lv_iload_n hx hb dX1_longer_34 rfl (lv_at hl 3 rfl) ?_
        refine lv_aload_n hx hb dX1_longer_35 rfl (lv_at hl 0 rfl) ?_
        refine m_gn F w dX1_longer_36 ?_
        refine w_ge_f (tgt := 158) hx hb dX1_longer_39 (by decide) hmm (by omega) ?_
        refine lv_aload_n hx hb dX1_longer_42 rfl (lv_at hl 0 rfl) ?_
        refine m_gis F w dX1_longer_43 ?_
        refine lv_bipush (v := (nI 8)) hx hb dX1_longer_46 (by decide +kernel) ?_
        refine lv_iload_n hx hb dX1_longer_48 rfl (lv_at hl 1 rfl) ?_
        refine lv_imul hx hb dX1_longer_49 ?_
        refine lv_iload_n hx hb dX1_longer_50 rfl (lv_at hl 3 rfl) ?_
        refine lv_iadd hx hb dX1_longer_51 ?_
        refine w_top (nI_ix2 a mm) ?_
        refine m_ldis F w (by omega) dX1_longer_52 ?_
        refine lv_if_eq (tgt := 152) hx hb dX1_longer_53 (by decide) (fun hi => ?_) (fun hi => ?_)
        · refine lv_iinc (v := nI (mm + 1)) (lv' := [(3, .int (nI (mm + 1))), (0, .ref h0), (1, .int (nI a)), (2, .int (nI b))]) hx hb dX1_longer_152 hl (k := 3) rfl (nI_inc mm) (by decide) rfl (fun ls hl => ?_)
          refine lv_goto (tgt := 34) hx hb dX1_longer_155 (by decide) ?_
          exact hkm x (by rw [m_m, if_neg (fun z => z.1 hi)]) _ _ _ w (lv_sub hl [1, 2, 3, 0] rfl)
        · refine lv_aload_n hx hb dX1_longer_56 rfl (lv_at hl 0 rfl) ?_
          refine m_grd F w dX1_longer_57 ?_
          refine lv_bipush (v := (nI 8)) hx hb dX1_longer_60 (by decide +kernel) ?_
          refine lv_iload_n hx hb dX1_longer_62 rfl (lv_at hl 3 rfl) ?_
          refine lv_imul hx hb dX1_longer_63 ?_
          refine lv_iload_n hx hb dX1_longer_64 rfl (lv_at hl 2 rfl) ?_
          refine lv_iadd hx hb dX1_longer_65 ?_
          refine w_top (nI_ix2 mm b) ?_
          refine m_ldrd F w (by omega) dX1_longer_66 ?_
          refine lv_if_eq (tgt := 152) hx hb dX1_longer_67 (by decide) (fun hj => ?_) (fun hj => ?_)
          · refine lv_iinc (v := nI (mm + 1)) (lv' := [(3, .int (nI (mm + 1))), (0, .ref h0), (1, .int (nI a)), (2, .int (nI b))]) hx hb dX1_longer_152 hl (k := 3) rfl (nI_inc mm) (by decide) rfl (fun ls hl => ?_)
            refine lv_goto (tgt := 34) hx hb dX1_longer_155 (by decide) ?_
            exact hkm x (by rw [m_m, if_neg (fun z => z.2.1 hj)]) _ _ _ w (lv_sub hl [1, 2, 3, 0] rfl)
          · refine lv_aload_n hx hb dX1_longer_70 rfl (lv_at hl 0 rfl) ?_
            refine m_gvd F w dX1_longer_71 ?_
            refine lv_bipush (v := (nI 8)) hx hb dX1_longer_74 (by decide +kernel) ?_
            refine lv_iload_n hx hb dX1_longer_76 rfl (lv_at hl 1 rfl) ?_
            refine lv_imul hx hb dX1_longer_77 ?_
            refine lv_iload_n hx hb dX1_longer_78 rfl (lv_at hl 3 rfl) ?_
            refine lv_iadd hx hb dX1_longer_79 ?_
            refine w_top (nI_ix2 a mm) ?_
            refine m_ldvd F w (by omega) dX1_longer_80 ?_
            refine lv_aload_n hx hb dX1_longer_81 rfl (lv_at hl 0 rfl) ?_
            refine m_gco F w dX1_longer_82 ?_
            refine lv_bipush (v := (nI 8)) hx hb dX1_longer_85 (by decide +kernel) ?_
            refine lv_iload_n hx hb dX1_longer_87 rfl (lv_at hl 3 rfl) ?_
            refine lv_imul hx hb dX1_longer_88 ?_
            refine lv_iload_n hx hb dX1_longer_89 rfl (lv_at hl 2 rfl) ?_
            refine lv_iadd hx hb dX1_longer_90 ?_
            refine w_top (nI_ix2 mm b) ?_
            refine m_ldco F w (by omega) dX1_longer_91 ?_
            refine lv_i2l hx hb dX1_longer_92 rfl ?_
            refine lv_ladd hx hb dX1_longer_93 ?_
            refine lv_lstore (lv' := [(4, .long ((vd (8 * a + mm)) + ((co (8 * mm + b))).toInt64)), (0, .ref h0), (1, .int (nI a)), (2, .int (nI b)), (3, .int (nI mm))]) hx hb dX1_longer_94 hl (by decide) rfl (fun ls hl => ?_)
            refine lv_aload_n hx hb dX1_longer_96 rfl (lv_at hl 1 rfl) ?_
            refine m_gie F w dX1_longer_97 ?_
            refine lv_bipush (v := (nI 8)) hx hb dX1_longer_100 (by decide +kernel) ?_
            refine lv_iload_n hx hb dX1_longer_102 rfl (lv_at hl 2 rfl) ?_
            refine lv_imul hx hb dX1_longer_103 ?_
            refine lv_iload_n hx hb dX1_longer_104 rfl (lv_at hl 3 rfl) ?_
            refine lv_iadd hx hb dX1_longer_105 ?_
            refine w_top (nI_ix2 a b) ?_
            refine m_ldie F w (by omega) dX1_longer_106 ?_
            refine lv_if_eq (tgt := 127) hx hb dX1_longer_107 (by decide) (fun hz => ?_) (fun hz => ?_)
            · refine lv_aload_n hx hb dX1_longer_127 rfl (lv_at hl 1 rfl) ?_
              refine m_gve F w dX1_longer_128 ?_
              refine lv_bipush (v := (nI 8)) hx hb dX1_longer_131 (by decide +kernel) ?_
              refine lv_iload_n hx hb dX1_longer_133 rfl (lv_at hl 2 rfl) ?_
              refine lv_imul hx hb dX1_longer_134 ?_
              refine lv_iload_n hx hb dX1_longer_135 rfl (lv_at hl 3 rfl) ?_
              refine lv_iadd hx hb dX1_longer_136 ?_
              refine w_top (nI_ix2 a b) ?_
              refine lv_lload hx hb dX1_longer_137 (lv_at hl 0 rfl) ?_
              refine m_stve F w (by omega) dX1_longer_139 (fun H locs w => ?_)
              refine lv_aload_n hx hb dX1_longer_140 rfl (lv_at hl 1 rfl) ?_
              refine m_gie F w dX1_longer_141 ?_
              refine lv_bipush (v := (nI 8)) hx hb dX1_longer_144 (by decide +kernel) ?_
              refine lv_iload_n hx hb dX1_longer_146 rfl (lv_at hl 2 rfl) ?_
              refine lv_imul hx hb dX1_longer_147 ?_
              refine lv_iload_n hx hb dX1_longer_148 rfl (lv_at hl 3 rfl) ?_
              refine lv_iadd hx hb dX1_longer_149 ?_
              refine w_top (nI_ix2 a b) ?_
              refine lv_iconst (v := 1) hx hb dX1_longer_150 (by decide +kernel) ?_
              refine m_stie F w (by omega) nz1 dX1_longer_151 (fun H locs w => ?_)
              refine lv_iinc (v := nI (mm + 1)) (lv' := [(3, .int (nI (mm + 1))), (4, .long ((vd (8 * a + mm)) + ((co (8 * mm + b))).toInt64)), (0, .ref h0), (1, .int (nI a)), (2, .int (nI b))]) hx hb dX1_longer_152 hl (k := 4) rfl (nI_inc mm) (by decide) rfl (fun ls hl => ?_)
              refine lv_goto (tgt := 34) hx hb dX1_longer_155 (by decide) ?_
              exact hkm ((vp_updL x.1 (8 * a + b) ((vd (8 * a + mm)) + ((co (8 * mm + b))).toInt64)), (upd x.2 (8 * a + b) 1)) (by rw [m_m, if_pos ⟨hi, hj, Or.inl hz⟩]) _ _ _ w (lv_sub hl [2, 3, 4, 0] rfl)
            · refine lv_lload hx hb dX1_longer_110 (lv_at hl 0 rfl) ?_
              refine lv_aload_n hx hb dX1_longer_112 rfl (lv_at hl 1 rfl) ?_
              refine m_gve F w dX1_longer_113 ?_
              refine lv_bipush (v := (nI 8)) hx hb dX1_longer_116 (by decide +kernel) ?_
              refine lv_iload_n hx hb dX1_longer_118 rfl (lv_at hl 2 rfl) ?_
              refine lv_imul hx hb dX1_longer_119 ?_
              refine lv_iload_n hx hb dX1_longer_120 rfl (lv_at hl 3 rfl) ?_
              refine lv_iadd hx hb dX1_longer_121 ?_
              refine w_top (nI_ix2 a b) ?_
              refine m_ldve F w (by omega) dX1_longer_122 ?_
              refine w_lc_ge (tgt := 152) hx hb dX1_longer_123 dX1_longer_124 (by decide) (fun hlt => ?_) (fun hlt => ?_)
              · refine lv_iinc (v := nI (mm + 1)) (lv' := [(3, .int (nI (mm + 1))), (4, .long ((vd (8 * a + mm)) + ((co (8 * mm + b))).toInt64)), (0, .ref h0), (1, .int (nI a)), (2, .int (nI b))]) hx hb dX1_longer_152 hl (k := 4) rfl (nI_inc mm) (by decide) rfl (fun ls hl => ?_)
                refine lv_goto (tgt := 34) hx hb dX1_longer_155 (by decide) ?_
                exact hkm x (by rw [m_m, if_neg (fun z => z.2.2.elim hz hlt)]) _ _ _ w (lv_sub hl [2, 3, 4, 0] rfl)
              · refine lv_aload_n hx hb dX1_longer_127 rfl (lv_at hl 1 rfl) ?_
                refine m_gve F w dX1_longer_128 ?_
                refine lv_bipush (v := (nI 8)) hx hb dX1_longer_131 (by decide +kernel) ?_
                refine lv_iload_n hx hb dX1_longer_133 rfl (lv_at hl 2 rfl) ?_
                refine lv_imul hx hb dX1_longer_134 ?_
                refine lv_iload_n hx hb dX1_longer_135 rfl (lv_at hl 3 rfl) ?_
                refine lv_iadd hx hb dX1_longer_136 ?_
                refine w_top (nI_ix2 a b) ?_
                refine lv_lload hx hb dX1_longer_137 (lv_at hl 0 rfl) ?_
                refine m_stve F w (by omega) dX1_longer_139 (fun H locs w => ?_)
                refine lv_aload_n hx hb dX1_longer_140 rfl (lv_at hl 1 rfl) ?_
                refine m_gie F w dX1_longer_141 ?_
                refine lv_bipush (v := (nI 8)) hx hb dX1_longer_144 (by decide +kernel) ?_
                refine lv_iload_n hx hb dX1_longer_146 rfl (lv_at hl 2 rfl) ?_
                refine lv_imul hx hb dX1_longer_147 ?_
                refine lv_iload_n hx hb dX1_longer_148 rfl (lv_at hl 3 rfl) ?_
                refine lv_iadd hx hb dX1_longer_149 ?_
                refine w_top (nI_ix2 a b) ?_
                refine lv_iconst (v := 1) hx hb dX1_longer_150 (by decide +kernel) ?_
                refine m_stie F w (by omega) nz1 dX1_longer_151 (fun H locs w => ?_)
                refine lv_iinc (v := nI (mm + 1)) (lv' := [(3, .int (nI (mm + 1))), (4, .long ((vd (8 * a + mm)) + ((co (8 * mm + b))).toInt64)), (0, .ref h0), (1, .int (nI a)), (2, .int (nI b))]) hx hb dX1_longer_152 hl (k := 4) rfl (nI_inc mm) (by decide) rfl (fun ls hl => ?_)
                refine lv_goto (tgt := 34) hx hb dX1_longer_155 (by decide) ?_
                exact hkm ((vp_updL x.1 (8 * a + b) ((vd (8 * a + mm)) + ((co (8 * mm + b))).toInt64)), (upd x.2 (8 * a + b) 1)) (by rw [m_m, if_pos ⟨hi, hj, Or.inr hlt⟩]) _ _ _ w (lv_sub hl [2, 3, 4, 0] rfl)
      · intro H locs ls w hl
        refine lv_iload_n hx hb dX1_longer_34 rfl (lv_at hl 3 rfl) ?_
        refine lv_aload_n hx hb dX1_longer_35 rfl (lv_at hl 0 rfl) ?_
        refine m_gn F w dX1_longer_36 ?_
        refine w_ge_t (tgt := 158) hx hb dX1_longer_39 (by decide) (Nat.le_refl n) (by omega) ?_
        refine lv_iinc (v := nI (b + 1)) (lv' := [(2, .int (nI (b + 1))), (0, .ref h0), (1, .int (nI a)), (3, .int (nI n))]) hx hb dX1_longer_158 hl (k := 2) rfl (nI_inc b) (by decide) rfl (fun ls hl => ?_)
        refine lv_goto (tgt := 12) hx hb dX1_longer_161 (by decide) ?_
        exact hkb _ rfl _ _ _ w (lv_sub hl [1, 2, 0] rfl)
    · intro H locs ls w hl
      refine lv_iload_n hx hb dX1_longer_12 rfl (lv_at hl 2 rfl) ?_
      refine lv_aload_n hx hb dX1_longer_13 rfl (lv_at hl 0 rfl) ?_
      refine m_gn F w dX1_longer_14 ?_
      refine w_ge_t (tgt := 164) hx hb dX1_longer_17 (by decide) (Nat.le_refl n) (by omega) ?_
      refine lv_iinc (v := nI (a + 1)) (lv' := [(1, .int (nI (a + 1))), (0, .ref h0), (2, .int (nI n))]) hx hb dX1_longer_164 hl (k := 1) rfl (nI_inc a) (by decide) rfl (fun ls hl => ?_)
      refine lv_goto (tgt := 2) hx hb dX1_longer_167 (by decide) ?_
      exact hka _ rfl _ _ _ w (lv_sub hl [1, 0] rfl)
  · intro H locs ls w hl
    generalize hy : lp (m_a n is rd co vd) 0 n (ve, ie) = y at w
    refine lv_iload_n hx hb dX1_longer_2 rfl (lv_at hl 1 rfl) ?_
    refine lv_aload_n hx hb dX1_longer_3 rfl (lv_at hl 0 rfl) ?_
    refine m_gn F w dX1_longer_4 ?_
    refine w_ge_t (tgt := 170) hx hb dX1_longer_7 (by decide) (Nat.le_refl n) (by omega) ?_
    refine lv_iconst (v := (nI 0)) hx hb dX1_longer_170 (by decide +kernel) ?_
    refine lv_istore_n (lv' := [(1, .int (nI 0)), (0, .ref h0)]) hx hb dX1_longer_171 rfl hl (by decide) rfl (fun ls hl => ?_)
    refine lp_back (m_cp y) (fun i x => ∀ (H : Heap) (locs : List Loc) (ls : Array Slot), MW D A s h0 ad cd H locs (nI n) kn co rd x.1 x.2 y.1 y.2 rc bad bst few → lv_has ls 6 [(0, .ref h0), (1, .int (nI i))] → W p l e _ s m _ below meth c H locs 0 0 _ (F0 m 172 ls [])) 64 ?_ 64 0 (vd, is) rfl ?_ _ _ ls w (lv_sub hl [1, 0] rfl)
    · intro i x hi hk H locs ls w hl
      refine lv_iload_n hx hb dX1_longer_172 rfl (lv_at hl 1 rfl) ?_
      refine lv_bipush (v := (nI 64)) hx hb dX1_longer_173 (by decide +kernel) ?_
      refine w_ge_f (tgt := 208) hx hb dX1_longer_175 (by decide) hi (by omega) ?_
      refine lv_aload_n hx hb dX1_longer_178 rfl (lv_at hl 0 rfl) ?_
      refine m_gvd F w dX1_longer_179 ?_
      refine lv_iload_n hx hb dX1_longer_182 rfl (lv_at hl 1 rfl) ?_
      refine lv_aload_n hx hb dX1_longer_183 rfl (lv_at hl 0 rfl) ?_
      refine m_gve F w dX1_longer_184 ?_
      refine lv_iload_n hx hb dX1_longer_187 rfl (lv_at hl 1 rfl) ?_
      refine m_ldve F w (by omega) dX1_longer_188 ?_
      refine m_stvd F w (by omega) dX1_longer_189 (fun H locs w => ?_)
      refine lv_aload_n hx hb dX1_longer_190 rfl (lv_at hl 0 rfl) ?_
      refine m_gis F w dX1_longer_191 ?_
      refine lv_iload_n hx hb dX1_longer_194 rfl (lv_at hl 1 rfl) ?_
      refine lv_aload_n hx hb dX1_longer_195 rfl (lv_at hl 0 rfl) ?_
      refine m_gie F w dX1_longer_196 ?_
      refine lv_iload_n hx hb dX1_longer_199 rfl (lv_at hl 1 rfl) ?_
      refine m_ldie F w (by omega) dX1_longer_200 ?_
      refine m_stis F w (by omega) rfl dX1_longer_201 (fun H locs w => ?_)
      refine lv_iinc (v := nI (i + 1)) (lv' := [(1, .int (nI (i + 1))), (0, .ref h0)]) hx hb dX1_longer_202 hl (k := 1) rfl (nI_inc i) (by decide) rfl (fun ls hl => ?_)
      refine lv_goto (tgt := 172) hx hb dX1_longer_205 (by decide) ?_
      exact hk ((vp_updL x.1 i (y.1 i)), (upd x.2 i (vp_nar .boolean (y.2 i)))) rfl _ _ _ w (lv_sub hl [1, 0] rfl)
    · intro H locs ls w hl
      refine lv_iload_n hx hb dX1_longer_172 rfl (lv_at hl 1 rfl) ?_
      refine lv_bipush (v := (nI 64)) hx hb dX1_longer_173 (by decide +kernel) ?_
      refine w_ge_t (tgt := 208) hx hb dX1_longer_175 (by decide) (Nat.le_refl 64) (by omega) ?_
      exact m_vret hx hb hr' hlk w (by subst hy; rfl) dX1_longer_208
section
variable {p : Program} {l : Launch} {e : Env} {R : Room} {s : State} {m : MethodId} {args : Array Value} {below : List Frame} {meth : Method} {c : Code} {H : Heap} {locs : List Loc} {cells slots : Nat} {Q : State → Prop}
variable {cc : ByteArray} {pc nL : Nat} {ls : Array Slot} {rest : List Value} {D : va_G} {A : Nat → Prop} {h0 : Nat} {ad : Nat → Nat} {cd : Nat → ClassId} {pn kn : Int32} {co rd : Nat → Int32} {vd : Nat → Int64} {is : Nat → Int32} {ve : Nat → Int64} {ie rc bad : Nat → Int32} {bst : Nat → Int64} {few : Nat → Int32}
theorem m_lng {n : Nat} (F : CallFix p m c cc nL s args lw_all RX1) (w : MW D A s h0 ad cd H locs (nI n) kn co rd vd is ve ie rc bad bst few) (h1 : 1 ≤ n) (h8 : n ≤ 8)  (hsz : ls.size = nL) (hro : (rest.map fun v => v.category).sum ≤ 8) (hR : 1 ≤ R.frames ∧ 25 ≤ R.locals) (hf : cells + 0 ≤ R.cells ∧ slots + 0 ≤ R.slots) (hdg : decode cc pc = .ok (.invokevirtual 55, 3))
    (kk : ∀ (H : Heap) (locs : List Loc), MW D A s h0 ad cd H locs (nI n) kn co rd (m_lg n rd co (vd, is, ve, ie, rc, bad, bst, few)).1 (m_lg n rd co (vd, is, ve, ie, rc, bad, bst, few)).2.1 (m_lg n rd co (vd, is, ve, ie, rc, bad, bst, few)).2.2.1 (m_lg n rd co (vd, is, ve, ie, rc, bad, bst, few)).2.2.2.1 (m_lg n rd co (vd, is, ve, ie, rc, bad, bst, few)).2.2.2.2.1 (m_lg n rd co (vd, is, ve, ie, rc, bad, bst, few)).2.2.2.2.2.1 (m_lg n rd co (vd, is, ve, ie, rc, bad, bst, few)).2.2.2.2.2.2.1 (m_lg n rd co (vd, is, ve, ie, rc, bad, bst, few)).2.2.2.2.2.2.2 → W p l e R s m args below meth c H locs cells slots Q (F0 m (pc + 3) ls (rest))) : W p l e R s m args below meth c H locs cells slots Q (F0 m pc ls (.ref h0 :: rest)) := by
  have hts := F.2.2.2.2
  refine m_callv F w (metX1_longer l D h0 ad cd H.size n kn co rd vd is ve ie rc bad bst few h1 h8) (cwV 0 hts (lw_V q166 q168 qs7 q10 q169) rfl rfl rfl (by decide +kernel) ⟨hR.1, hR.2⟩) rfl hsz rfl hro hdg hf (fun u H1 l1 hp w1 => ?_)
  obtain rfl := hp
  exact kk H1 l1 w1
end
end
section
theorem w_jn {p : Program} {l : Launch} {e : Env} {R : Room} {s : State} {m : MethodId} {args : Array Value} {below : List Frame} {meth : Method} {c : Code} {H : Heap} {locs : List Loc} {cells slots : Nat} {Q : State → Prop} {α : Type} {g : JFrame} (P : α → Prop) (f : α → JFrame) (J : ∀ v, P v → W p l e R s m args below meth c H locs cells slots Q (f v)) (k : (∀ v, P v → W p l e R s m args below meth c H locs cells slots Q (f v)) → W p l e R s m args below meth c H locs cells slots Q g) : W p l e R s m args below meth c H locs cells slots Q g := k J
theorem bit_n {P : Prop} [Decidable P] : vp_nar .boolean (if P then 1 else 0) = (if P then 1 else 0) := by
  split
  · exact nz1
  · exact nz0
def m_kn (kn : Int32) : Int32 := if kn = 0 then 1 else kn
set_option maxHeartbeats 4000000 in
set_option maxRecDepth 100000 in
theorem metX1_reckon (l : Launch) (D : va_G) (h0 : Nat) (ad : Nat → Nat) (cd : Nat → ClassId) (sz : Nat) (n : Nat) (kn : Int32) (co rd : Nat → Int32) (vd : Nat → Int64) (is : Nat → Int32) (ve : Nat → Int64) (ie rc bad : Nat → Int32) (bst : Nat → Int64) (few : Nat → Int32)  (h1 : 1 ≤ n) (h8 : n ≤ 8) : MMv l yX1_reckon cX1_reckon 3 none ({ frames := 1, cells := 0, slots := 0, locals := 25 }) [] D h0 ad cd sz (nI n) kn co rd vd is ve ie rc bad bst few (fun u => u = (nI n, m_kn kn, co, rd, m_rkn n rd co kn (vd, is, ve, ie, rc, bad, bst, few))) := by
  refine m_met (Qc := fun A => va_Qv (fun u => u = (nI n, m_kn kn, co, rd, m_rkn n rd co kn (vd, is, ve, ie, rc, bad, bst, few))) (MB D A h0 ad cd) A) (by decide) rfl (Nat.le_of_ble_eq_true rfl) ?_
  intro p e s m below meth c A ls F hr' hlk w hl
  obtain ⟨hx, hb, hml, hown, hts⟩ := id F
  have hl : lv_has ls 3 [(0, .ref h0)] := hl
  refine lv_aload_n hx hb dX1_reckon_0 rfl (lv_at hl 0 rfl) ?_
  refine m_gkn F w dX1_reckon_1 ?_
  refine lv_if_eq (tgt := 8) hx hb dX1_reckon_4 (by decide) (fun hkn => ?_) (fun hkn => ?_)
  · refine lv_aload_n hx hb dX1_reckon_8 rfl (lv_at hl 0 rfl) ?_
    refine lv_iconst (v := 1) hx hb dX1_reckon_9 (by decide +kernel) ?_
    refine m_pkn F w rfl rfl dX1_reckon_10 (fun H locs w => ?_)
    refine lv_iconst (v := (nI 0)) hx hb dX1_reckon_13 (by decide +kernel) ?_
    refine lv_istore_n (lv' := [(1, .int (nI 0)), (0, .ref h0)]) hx hb dX1_reckon_14 rfl hl (by decide) rfl (fun ls hl => ?_)
    refine lp_back (m_i0 n) (fun i x => ∀ (H : Heap) (locs : List Loc) (ls : Array Slot), MW D A s h0 ad cd H locs (nI n) 1 co rd x.2.1 x.1 ve ie x.2.2.1 bad bst x.2.2.2 → lv_has ls 3 [(0, .ref h0), (1, .int (nI i))] → W p l e _ s m _ below meth c H locs 0 0 _ (F0 m 15 ls [])) 64 ?_ 64 0 (is, vd, rc, few) rfl ?_ _ _ ls w (lv_sub hl [1, 0] rfl)
    · intro i x hi hk H locs ls w hl
      refine lv_iload_n hx hb dX1_reckon_15 rfl (lv_at hl 1 rfl) ?_
      refine lv_bipush (v := (nI 64)) hx hb dX1_reckon_16 (by decide +kernel) ?_
      refine w_ge_f (tgt := 81) hx hb dX1_reckon_18 (by decide) hi (by omega) ?_
      refine w_jn (fun v : Int32 => v = m_st i n) (fun v => F0 m 53 ls [.int v, .int (nI i), .ref (ad 3)]) ?_ (fun J => ?_)
      · intro v hv
        refine m_stis (z := v) F w (by omega) (by rw [hv, m_st]; exact bit_n) dX1_reckon_53 (fun H locs w => ?_)
        refine lv_aload_n hx hb dX1_reckon_54 rfl (lv_at hl 0 rfl) ?_
        refine m_gvd F w dX1_reckon_55 ?_
        refine lv_iload_n hx hb dX1_reckon_58 rfl (lv_at hl 1 rfl) ?_
        refine lv_lconst (v := 0) hx hb dX1_reckon_59 (by decide +kernel) ?_
        refine m_stvd F w (by omega) dX1_reckon_60 (fun H locs w => ?_)
        refine lv_aload_n hx hb dX1_reckon_61 rfl (lv_at hl 0 rfl) ?_
        refine m_grc F w dX1_reckon_62 ?_
        refine lv_iload_n hx hb dX1_reckon_65 rfl (lv_at hl 1 rfl) ?_
        refine lv_iconst (v := 0) hx hb dX1_reckon_66 (by decide +kernel) ?_
        refine m_strc F w (by omega) nz0 dX1_reckon_67 (fun H locs w => ?_)
        refine lv_aload_n hx hb dX1_reckon_68 rfl (lv_at hl 0 rfl) ?_
        refine m_gfew F w dX1_reckon_69 ?_
        refine lv_iload_n hx hb dX1_reckon_72 rfl (lv_at hl 1 rfl) ?_
        refine lv_iconst (v := (-1)) hx hb dX1_reckon_73 (by decide +kernel) ?_
        refine m_stfew F w (by omega) dX1_reckon_74 (fun H locs w => ?_)
        refine lv_iinc (v := nI (i + 1)) (lv' := [(1, .int (nI (i + 1))), (0, .ref h0)]) hx hb dX1_reckon_75 hl (k := 1) rfl (nI_inc i) (by decide) rfl (fun ls hl => ?_)
        refine lv_goto (tgt := 15) hx hb dX1_reckon_78 (by decide) ?_
        exact hk ((upd x.1 i v), (vp_updL x.2.1 i 0), (upd x.2.2.1 i 0), (upd x.2.2.2 i (-1))) (by rw [m_i0, hv]) _ _ _ w (lv_sub hl [1, 0] rfl)
      refine lv_aload_n hx hb dX1_reckon_21 rfl (lv_at hl 0 rfl) ?_
      refine m_gis F w dX1_reckon_22 ?_
      refine lv_iload_n hx hb dX1_reckon_25 rfl (lv_at hl 1 rfl) ?_
      refine lv_iload_n hx hb dX1_reckon_26 rfl (lv_at hl 1 rfl) ?_
      refine lv_bipush (v := (nI 8)) hx hb dX1_reckon_27 (by decide +kernel) ?_
      refine lv_idiv hx hb dX1_reckon_29 (by decide +kernel) ?_
      refine w_top (pk_div (by omega) (by omega) (by omega)) ?_
      refine lv_iload_n hx hb dX1_reckon_30 rfl (lv_at hl 1 rfl) ?_
      refine lv_bipush (v := (nI 8)) hx hb dX1_reckon_31 (by decide +kernel) ?_
      refine lv_irem hx hb dX1_reckon_33 (by decide +kernel) ?_
      refine w_top (pk_rem (by omega) (by omega) (by omega)) ?_
      rcases Nat.decEq (i / 8) (i % 8) with hq | hq
      · refine w_ne_t (tgt := 52) hx hb dX1_reckon_34 (by decide) hq (by omega) (by omega) ?_
        refine lv_iconst (v := 0) hx hb dX1_reckon_52 (by decide +kernel) ?_
        exact J 0 (by rw [m_st, if_neg (fun z => hq z.1)])
      · refine w_ne_f (tgt := 52) hx hb dX1_reckon_34 (by decide) hq ?_
        refine lv_iload_n hx hb dX1_reckon_37 rfl (lv_at hl 1 rfl) ?_
        refine lv_bipush (v := (nI 8)) hx hb dX1_reckon_38 (by decide +kernel) ?_
        refine lv_idiv hx hb dX1_reckon_40 (by decide +kernel) ?_
        refine w_top (pk_div (by omega) (by omega) (by omega)) ?_
        refine lv_aload_n hx hb dX1_reckon_41 rfl (lv_at hl 0 rfl) ?_
        refine m_gn F w dX1_reckon_42 ?_
        rcases Nat.lt_or_ge (i / 8) n with hr9 | hr9
        · refine w_ge_f (tgt := 52) hx hb dX1_reckon_45 (by decide) hr9 (by omega) ?_
          refine lv_iconst (v := 1) hx hb dX1_reckon_48 (by decide +kernel) ?_
          refine lv_goto (tgt := 53) hx hb dX1_reckon_49 (by decide) ?_
          exact J 1 (by rw [m_st, if_pos ⟨hq, hr9⟩])
        · refine w_ge_t (tgt := 52) hx hb dX1_reckon_45 (by decide) hr9 (by omega) ?_
          refine lv_iconst (v := 0) hx hb dX1_reckon_52 (by decide +kernel) ?_
          exact J 0 (by rw [m_st, if_neg (fun z => absurd z.2 (Nat.not_lt.mpr hr9))])
    · intro H locs ls w hl
      generalize hy : lp (m_i0 n) 0 64 (is, vd, rc, few) = y at w
      refine lv_iload_n hx hb dX1_reckon_15 rfl (lv_at hl 1 rfl) ?_
      refine lv_bipush (v := (nI 64)) hx hb dX1_reckon_16 (by decide +kernel) ?_
      refine w_ge_t (tgt := 81) hx hb dX1_reckon_18 (by decide) (Nat.le_refl 64) (by omega) ?_
      refine lv_iconst (v := (nI 0)) hx hb dX1_reckon_81 (by decide +kernel) ?_
      refine lv_istore_n (lv' := [(1, .int (nI 0)), (0, .ref h0)]) hx hb dX1_reckon_82 rfl hl (by decide) rfl (fun ls hl => ?_)
      refine lp_back m_v0 (fun v f => ∀ (H : Heap) (locs : List Loc) (ls : Array Slot), MW D A s h0 ad cd H locs (nI n) 1 co rd y.2.1 y.1 ve ie y.2.2.1 f bst y.2.2.2 → lv_has ls 3 [(0, .ref h0), (1, .int (nI v))] → W p l e _ s m _ below meth c H locs 0 0 _ (F0 m 83 ls [])) 8 ?_ 8 0 bad rfl ?_ _ _ ls w (lv_sub hl [1, 0] rfl)
      · intro v f hv hk H locs ls w hl
        refine lv_iload_n hx hb dX1_reckon_83 rfl (lv_at hl 1 rfl) ?_
        refine lv_bipush (v := (nI 8)) hx hb dX1_reckon_84 (by decide +kernel) ?_
        refine w_ge_f (tgt := 102) hx hb dX1_reckon_86 (by decide) hv (by omega) ?_
        refine lv_aload_n hx hb dX1_reckon_89 rfl (lv_at hl 0 rfl) ?_
        refine m_gbad F w dX1_reckon_90 ?_
        refine lv_iload_n hx hb dX1_reckon_93 rfl (lv_at hl 1 rfl) ?_
        refine lv_iconst (v := 0) hx hb dX1_reckon_94 (by decide +kernel) ?_
        refine m_stbad F w (by omega) nz0 dX1_reckon_95 (fun H locs w => ?_)
        refine lv_iinc (v := nI (v + 1)) (lv' := [(1, .int (nI (v + 1))), (0, .ref h0)]) hx hb dX1_reckon_96 hl (k := 1) rfl (nI_inc v) (by decide) rfl (fun ls hl => ?_)
        refine lv_goto (tgt := 83) hx hb dX1_reckon_99 (by decide) ?_
        exact hk _ rfl _ _ _ w (lv_sub hl [1, 0] rfl)
      · intro H locs ls w hl
        generalize hz : lp m_v0 0 8 bad = z at w
        refine lv_iload_n hx hb dX1_reckon_83 rfl (lv_at hl 1 rfl) ?_
        refine lv_bipush (v := (nI 8)) hx hb dX1_reckon_84 (by decide +kernel) ?_
        refine w_ge_t (tgt := 102) hx hb dX1_reckon_86 (by decide) (Nat.le_refl 8) (by omega) ?_
        refine lv_iconst (v := (nI 0)) hx hb dX1_reckon_102 (by decide +kernel) ?_
        refine lv_istore_n (lv' := [(1, .int (nI 0)), (0, .ref h0)]) hx hb dX1_reckon_103 rfl hl (by decide) rfl (fun ls hl => ?_)
        refine lp_back (m_k n rd co) (fun k x => ∀ (H : Heap) (locs : List Loc) (ls : Array Slot), MW D A s h0 ad cd H locs (nI n) 1 co rd x.1 x.2.1 x.2.2.1 x.2.2.2.1 x.2.2.2.2.1 x.2.2.2.2.2.1 x.2.2.2.2.2.2.1 x.2.2.2.2.2.2.2 → lv_has ls 3 [(0, .ref h0), (1, .int (nI k))] → W p l e _ s m _ below meth c H locs 0 0 _ (F0 m 104 ls [])) (n + 1) ?_ (n + 1) 0 (y.2.1, y.1, ve, ie, y.2.2.1, z, bst, y.2.2.2) (Nat.zero_add (n + 1)) ?_ _ _ ls w (lv_sub hl [1, 0] rfl)
        · intro k x hkk hk H locs ls w hl
          obtain ⟨vd, is, ve, ie, rc, bad, bst, few⟩ := x
          have w : MW D A s h0 ad cd H locs (nI n) 1 co rd vd is ve ie rc bad bst few := w
          refine lv_iload_n hx hb dX1_reckon_104 rfl (lv_at hl 1 rfl) ?_
          refine lv_aload_n hx hb dX1_reckon_105 rfl (lv_at hl 0 rfl) ?_
          refine m_gn F w dX1_reckon_106 ?_
          refine w_gt_f (tgt := 292) hx hb dX1_reckon_109 (by decide) (Nat.le_of_lt_succ hkk) (by omega) ?_
          refine lv_iconst (v := (nI 0)) hx hb dX1_reckon_112 (by decide +kernel) ?_
          refine lv_istore_n (lv' := [(2, .int (nI 0)), (0, .ref h0), (1, .int (nI k))]) hx hb dX1_reckon_113 rfl hl (by decide) rfl (fun ls hl => ?_)
          refine lp_back (m_i1 n k is vd) (fun i x => ∀ (H : Heap) (locs : List Loc) (ls : Array Slot), MW D A s h0 ad cd H locs (nI n) 1 co rd vd is ve ie x.1 bad x.2.1 x.2.2 → lv_has ls 3 [(0, .ref h0), (1, .int (nI k)), (2, .int (nI i))] → W p l e _ s m _ below meth c H locs 0 0 _ (F0 m 114 ls [])) 64 ?_ 64 0 (rc, bst, few) rfl ?_ _ _ ls w (lv_sub hl [1, 2, 0] rfl)
          · intro i x hi hki H locs ls w hl
            refine lv_iload_n hx hb dX1_reckon_114 rfl (lv_at hl 2 rfl) ?_
            refine lv_bipush (v := (nI 64)) hx hb dX1_reckon_115 (by decide +kernel) ?_
            refine w_ge_f (tgt := 216) hx hb dX1_reckon_117 (by decide) hi (by omega) ?_
            refine w_jn (fun v : Int32 => v = (if x.1 i ≠ 0 ∨ is i ≠ 0 then 1 else 0)) (fun v => F0 m 148 ls [.int v, .int (nI i), .ref (ad 6)]) ?_ (fun J => ?_)
            · intro v hv
              refine m_strc (z := v) F w (by omega) (by rw [hv]; exact bit_n) dX1_reckon_148 (fun H locs w => ?_)
              refine lv_iload_n hx hb dX1_reckon_149 rfl (lv_at hl 1 rfl) ?_
              refine lv_aload_n hx hb dX1_reckon_150 rfl (lv_at hl 0 rfl) ?_
              refine m_gn F w dX1_reckon_151 ?_
              rcases Nat.lt_or_ge k n with hkn9 | hkn9
              · refine w_ge_f (tgt := 210) hx hb dX1_reckon_154 (by decide) hkn9 (by omega) ?_
                refine lv_aload_n hx hb dX1_reckon_157 rfl (lv_at hl 0 rfl) ?_
                refine m_gis F w dX1_reckon_158 ?_
                refine lv_iload_n hx hb dX1_reckon_161 rfl (lv_at hl 2 rfl) ?_
                refine m_ldis F w (by omega) dX1_reckon_162 ?_
                refine lv_if_eq (tgt := 210) hx hb dX1_reckon_163 (by decide) (fun his => ?_) (fun his => ?_)
                · refine lv_iinc (v := nI (i + 1)) (lv' := [(2, .int (nI (i + 1))), (0, .ref h0), (1, .int (nI k))]) hx hb dX1_reckon_210 hl (k := 2) rfl (nI_inc i) (by decide) rfl (fun ls hl => ?_)
                  refine lv_goto (tgt := 114) hx hb dX1_reckon_213 (by decide) ?_
                  exact hki ((upd x.1 i v), x.2.1, x.2.2) (by rw [m_i1, if_neg (fun z => z.2.1 his), hv]) _ _ _ w (lv_sub hl [1, 2, 0] rfl)
                · refine lv_aload_n hx hb dX1_reckon_166 rfl (lv_at hl 0 rfl) ?_
                  refine m_gfew F w dX1_reckon_167 ?_
                  refine lv_iload_n hx hb dX1_reckon_170 rfl (lv_at hl 2 rfl) ?_
                  refine m_ldfew F w (by omega) dX1_reckon_171 ?_
                  refine lv_if_lt (tgt := 191) hx hb dX1_reckon_172 (by decide) (fun hfw => ?_) (fun hfw => ?_)
                  · refine lv_aload_n hx hb dX1_reckon_191 rfl (lv_at hl 0 rfl) ?_
                    refine m_gbst F w dX1_reckon_192 ?_
                    refine lv_iload_n hx hb dX1_reckon_195 rfl (lv_at hl 2 rfl) ?_
                    refine lv_aload_n hx hb dX1_reckon_196 rfl (lv_at hl 0 rfl) ?_
                    refine m_gvd F w dX1_reckon_197 ?_
                    refine lv_iload_n hx hb dX1_reckon_200 rfl (lv_at hl 2 rfl) ?_
                    refine m_ldvd F w (by omega) dX1_reckon_201 ?_
                    refine m_stbst F w (by omega) dX1_reckon_202 (fun H locs w => ?_)
                    refine lv_aload_n hx hb dX1_reckon_203 rfl (lv_at hl 0 rfl) ?_
                    refine m_gfew F w dX1_reckon_204 ?_
                    refine lv_iload_n hx hb dX1_reckon_207 rfl (lv_at hl 2 rfl) ?_
                    refine lv_iload_n hx hb dX1_reckon_208 rfl (lv_at hl 1 rfl) ?_
                    refine m_stfew F w (by omega) dX1_reckon_209 (fun H locs w => ?_)
                    refine lv_iinc (v := nI (i + 1)) (lv' := [(2, .int (nI (i + 1))), (0, .ref h0), (1, .int (nI k))]) hx hb dX1_reckon_210 hl (k := 2) rfl (nI_inc i) (by decide) rfl (fun ls hl => ?_)
                    refine lv_goto (tgt := 114) hx hb dX1_reckon_213 (by decide) ?_
                    exact hki ((upd x.1 i v), (vp_updL x.2.1 i (vd i)), (upd x.2.2 i (nI k))) (by rw [m_i1, if_pos ⟨hkn9, his, Or.inl hfw⟩, hv]) _ _ _ w (lv_sub hl [1, 2, 0] rfl)
                  · refine lv_aload_n hx hb dX1_reckon_175 rfl (lv_at hl 0 rfl) ?_
                    refine m_gvd F w dX1_reckon_176 ?_
                    refine lv_iload_n hx hb dX1_reckon_179 rfl (lv_at hl 2 rfl) ?_
                    refine m_ldvd F w (by omega) dX1_reckon_180 ?_
                    refine lv_aload_n hx hb dX1_reckon_181 rfl (lv_at hl 0 rfl) ?_
                    refine m_gbst F w dX1_reckon_182 ?_
                    refine lv_iload_n hx hb dX1_reckon_185 rfl (lv_at hl 2 rfl) ?_
                    refine m_ldbst F w (by omega) dX1_reckon_186 ?_
                    refine w_lc_ge (tgt := 210) hx hb dX1_reckon_187 dX1_reckon_188 (by decide) (fun hlt => ?_) (fun hlt => ?_)
                    · refine lv_iinc (v := nI (i + 1)) (lv' := [(2, .int (nI (i + 1))), (0, .ref h0), (1, .int (nI k))]) hx hb dX1_reckon_210 hl (k := 2) rfl (nI_inc i) (by decide) rfl (fun ls hl => ?_)
                      refine lv_goto (tgt := 114) hx hb dX1_reckon_213 (by decide) ?_
                      exact hki ((upd x.1 i v), x.2.1, x.2.2) (by rw [m_i1, if_neg (fun z => z.2.2.elim hfw hlt), hv]) _ _ _ w (lv_sub hl [1, 2, 0] rfl)
                    · refine lv_aload_n hx hb dX1_reckon_191 rfl (lv_at hl 0 rfl) ?_
                      refine m_gbst F w dX1_reckon_192 ?_
                      refine lv_iload_n hx hb dX1_reckon_195 rfl (lv_at hl 2 rfl) ?_
                      refine lv_aload_n hx hb dX1_reckon_196 rfl (lv_at hl 0 rfl) ?_
                      refine m_gvd F w dX1_reckon_197 ?_
                      refine lv_iload_n hx hb dX1_reckon_200 rfl (lv_at hl 2 rfl) ?_
                      refine m_ldvd F w (by omega) dX1_reckon_201 ?_
                      refine m_stbst F w (by omega) dX1_reckon_202 (fun H locs w => ?_)
                      refine lv_aload_n hx hb dX1_reckon_203 rfl (lv_at hl 0 rfl) ?_
                      refine m_gfew F w dX1_reckon_204 ?_
                      refine lv_iload_n hx hb dX1_reckon_207 rfl (lv_at hl 2 rfl) ?_
                      refine lv_iload_n hx hb dX1_reckon_208 rfl (lv_at hl 1 rfl) ?_
                      refine m_stfew F w (by omega) dX1_reckon_209 (fun H locs w => ?_)
                      refine lv_iinc (v := nI (i + 1)) (lv' := [(2, .int (nI (i + 1))), (0, .ref h0), (1, .int (nI k))]) hx hb dX1_reckon_210 hl (k := 2) rfl (nI_inc i) (by decide) rfl (fun ls hl => ?_)
                      refine lv_goto (tgt := 114) hx hb dX1_reckon_213 (by decide) ?_
                      exact hki ((upd x.1 i v), (vp_updL x.2.1 i (vd i)), (upd x.2.2 i (nI k))) (by rw [m_i1, if_pos ⟨hkn9, his, Or.inr hlt⟩, hv]) _ _ _ w (lv_sub hl [1, 2, 0] rfl)
              · refine w_ge_t (tgt := 210) hx hb dX1_reckon_154 (by decide) hkn9 (by omega) ?_
                refine lv_iinc (v := nI (i + 1)) (lv' := [(2, .int (nI (i + 1))), (0, .ref h0), (1, .int (nI k))]) hx hb dX1_reckon_210 hl (k := 2) rfl (nI_inc i) (by decide) rfl (fun ls hl => ?_)
                refine lv_goto (tgt := 114) hx hb dX1_reckon_213 (by decide) ?_
                exact hki ((upd x.1 i v), x.2.1, x.2.2) (by rw [m_i1, if_neg (fun z => absurd z.1 (Nat.not_lt.mpr hkn9)), hv]) _ _ _ w (lv_sub hl [1, 2, 0] rfl)
            refine lv_aload_n hx hb dX1_reckon_120 rfl (lv_at hl 0 rfl) ?_
            refine m_grc F w dX1_reckon_121 ?_
            refine lv_iload_n hx hb dX1_reckon_124 rfl (lv_at hl 2 rfl) ?_
            refine lv_aload_n hx hb dX1_reckon_125 rfl (lv_at hl 0 rfl) ?_
            refine m_grc F w dX1_reckon_126 ?_
            refine lv_iload_n hx hb dX1_reckon_129 rfl (lv_at hl 2 rfl) ?_
            refine m_ldrc F w (by omega) dX1_reckon_130 ?_
            refine lv_if_ne (tgt := 143) hx hb dX1_reckon_131 (by decide) (fun h9 => ?_) (fun h9 => ?_)
            · refine lv_iconst (v := 1) hx hb dX1_reckon_143 (by decide +kernel) ?_
              refine lv_goto (tgt := 148) hx hb dX1_reckon_144 (by decide) ?_
              exact J 1 (by rw [if_pos (Or.inl h9)])
            · refine lv_aload_n hx hb dX1_reckon_134 rfl (lv_at hl 0 rfl) ?_
              refine m_gis F w dX1_reckon_135 ?_
              refine lv_iload_n hx hb dX1_reckon_138 rfl (lv_at hl 2 rfl) ?_
              refine m_ldis F w (by omega) dX1_reckon_139 ?_
              refine lv_if_eq (tgt := 147) hx hb dX1_reckon_140 (by decide) (fun h10 => ?_) (fun h10 => ?_)
              · refine lv_iconst (v := 0) hx hb dX1_reckon_147 (by decide +kernel) ?_
                exact J 0 (by rw [if_neg (fun z => z.elim (fun y => y h9) (fun y => y h10))])
              · refine lv_iconst (v := 1) hx hb dX1_reckon_143 (by decide +kernel) ?_
                refine lv_goto (tgt := 148) hx hb dX1_reckon_144 (by decide) ?_
                exact J 1 (by rw [if_pos (Or.inr h10)])
          · intro H locs ls w hl
            generalize hyy : lp (m_i1 n k is vd) 0 64 (rc, bst, few) = yy at w
            refine lv_iload_n hx hb dX1_reckon_114 rfl (lv_at hl 2 rfl) ?_
            refine lv_bipush (v := (nI 64)) hx hb dX1_reckon_115 (by decide +kernel) ?_
            refine w_ge_t (tgt := 216) hx hb dX1_reckon_117 (by decide) (Nat.le_refl 64) (by omega) ?_
            refine lv_iconst (v := (nI 0)) hx hb dX1_reckon_216 (by decide +kernel) ?_
            refine lv_istore_n (lv' := [(2, .int (nI 0)), (0, .ref h0), (1, .int (nI k))]) hx hb dX1_reckon_217 rfl hl (by decide) rfl (fun ls hl => ?_)
            refine lp_back (m_v1 is vd) (fun v f => ∀ (H : Heap) (locs : List Loc) (ls : Array Slot), MW D A s h0 ad cd H locs (nI n) 1 co rd vd is ve ie yy.1 f yy.2.1 yy.2.2 → lv_has ls 3 [(0, .ref h0), (1, .int (nI k)), (2, .int (nI v))] → W p l e _ s m _ below meth c H locs 0 0 _ (F0 m 218 ls [])) n ?_ n 0 bad (Nat.zero_add n) ?_ _ _ ls w (lv_sub hl [1, 2, 0] rfl)
            · intro v f hv hkv H locs ls w hl
              refine lv_iload_n hx hb dX1_reckon_218 rfl (lv_at hl 2 rfl) ?_
              refine lv_aload_n hx hb dX1_reckon_219 rfl (lv_at hl 0 rfl) ?_
              refine m_gn F w dX1_reckon_220 ?_
              refine w_ge_f (tgt := 282) hx hb dX1_reckon_223 (by decide) hv (by omega) ?_
              refine w_jn (fun b : Int32 => b = (if f v ≠ 0 ∨ (is (8 * v + v) ≠ 0 ∧ vd (8 * v + v) < 0) then 1 else 0)) (fun b => F0 m 275 ls [.int b, .int (nI v), .ref (ad 7)]) ?_ (fun J => ?_)
              · intro b hbv
                refine m_stbad (z := b) F w (by omega) (by rw [hbv]; exact bit_n) dX1_reckon_275 (fun H locs w => ?_)
                refine lv_iinc (v := nI (v + 1)) (lv' := [(2, .int (nI (v + 1))), (0, .ref h0), (1, .int (nI k))]) hx hb dX1_reckon_276 hl (k := 2) rfl (nI_inc v) (by decide) rfl (fun ls hl => ?_)
                refine lv_goto (tgt := 218) hx hb dX1_reckon_279 (by decide) ?_
                exact hkv (upd f v b) (by rw [m_v1, hbv]) _ _ _ w (lv_sub hl [1, 2, 0] rfl)
              refine lv_aload_n hx hb dX1_reckon_226 rfl (lv_at hl 0 rfl) ?_
              refine m_gbad F w dX1_reckon_227 ?_
              refine lv_iload_n hx hb dX1_reckon_230 rfl (lv_at hl 2 rfl) ?_
              refine lv_aload_n hx hb dX1_reckon_231 rfl (lv_at hl 0 rfl) ?_
              refine m_gbad F w dX1_reckon_232 ?_
              refine lv_iload_n hx hb dX1_reckon_235 rfl (lv_at hl 2 rfl) ?_
              refine m_ldbad F w (by omega) dX1_reckon_236 ?_
              refine lv_if_ne (tgt := 270) hx hb dX1_reckon_237 (by decide) (fun h9 => ?_) (fun h9 => ?_)
              · refine lv_iconst (v := 1) hx hb dX1_reckon_270 (by decide +kernel) ?_
                refine lv_goto (tgt := 275) hx hb dX1_reckon_271 (by decide) ?_
                exact J 1 (by rw [if_pos (Or.inl h9)])
              · refine lv_aload_n hx hb dX1_reckon_240 rfl (lv_at hl 0 rfl) ?_
                refine m_gis F w dX1_reckon_241 ?_
                refine lv_bipush (v := (nI 8)) hx hb dX1_reckon_244 (by decide +kernel) ?_
                refine lv_iload_n hx hb dX1_reckon_246 rfl (lv_at hl 2 rfl) ?_
                refine lv_imul hx hb dX1_reckon_247 ?_
                refine lv_iload_n hx hb dX1_reckon_248 rfl (lv_at hl 2 rfl) ?_
                refine lv_iadd hx hb dX1_reckon_249 ?_
                refine w_top (nI_ix2 v v) ?_
                refine m_ldis F w (by omega) dX1_reckon_250 ?_
                refine lv_if_eq (tgt := 274) hx hb dX1_reckon_251 (by decide) (fun h10 => ?_) (fun h10 => ?_)
                · refine lv_iconst (v := 0) hx hb dX1_reckon_274 (by decide +kernel) ?_
                  exact J 0 (by rw [if_neg (fun z => z.elim (fun y => y h9) (fun y => y.1 h10))])
                · refine lv_aload_n hx hb dX1_reckon_254 rfl (lv_at hl 0 rfl) ?_
                  refine m_gvd F w dX1_reckon_255 ?_
                  refine lv_bipush (v := (nI 8)) hx hb dX1_reckon_258 (by decide +kernel) ?_
                  refine lv_iload_n hx hb dX1_reckon_260 rfl (lv_at hl 2 rfl) ?_
                  refine lv_imul hx hb dX1_reckon_261 ?_
                  refine lv_iload_n hx hb dX1_reckon_262 rfl (lv_at hl 2 rfl) ?_
                  refine lv_iadd hx hb dX1_reckon_263 ?_
                  refine w_top (nI_ix2 v v) ?_
                  refine m_ldvd F w (by omega) dX1_reckon_264 ?_
                  refine lv_lconst (v := 0) hx hb dX1_reckon_265 (by decide +kernel) ?_
                  refine w_lc_ge (tgt := 274) hx hb dX1_reckon_266 dX1_reckon_267 (by decide) (fun h11 => ?_) (fun h11 => ?_)
                  · refine lv_iconst (v := 0) hx hb dX1_reckon_274 (by decide +kernel) ?_
                    exact J 0 (by rw [if_neg (fun z => z.elim (fun y => y h9) (fun y => h11 y.2))])
                  · refine lv_iconst (v := 1) hx hb dX1_reckon_270 (by decide +kernel) ?_
                    refine lv_goto (tgt := 275) hx hb dX1_reckon_271 (by decide) ?_
                    exact J 1 (by rw [if_pos (Or.inr ⟨h10, h11⟩)])
            · intro H locs ls w hl
              generalize hzz : lp (m_v1 is vd) 0 n bad = zz at w
              refine lv_iload_n hx hb dX1_reckon_218 rfl (lv_at hl 2 rfl) ?_
              refine lv_aload_n hx hb dX1_reckon_219 rfl (lv_at hl 0 rfl) ?_
              refine m_gn F w dX1_reckon_220 ?_
              refine w_ge_t (tgt := 282) hx hb dX1_reckon_223 (by decide) (Nat.le_refl n) (by omega) ?_
              refine lv_aload_n hx hb dX1_reckon_282 rfl (lv_at hl 0 rfl) ?_
              refine m_lng F w h1 h8 hl.1 (Nat.le_of_ble_eq_true rfl) ⟨Nat.le_of_ble_eq_true rfl, Nat.le_of_ble_eq_true rfl⟩ ⟨Nat.le_of_ble_eq_true rfl, Nat.le_of_ble_eq_true rfl⟩ dX1_reckon_283 (fun H locs w => ?_)
              refine lv_iinc (v := nI (k + 1)) (lv' := [(1, .int (nI (k + 1))), (0, .ref h0), (2, .int (nI n))]) hx hb dX1_reckon_286 hl (k := 1) rfl (nI_inc k) (by decide) rfl (fun ls hl => ?_)
              refine lv_goto (tgt := 104) hx hb dX1_reckon_289 (by decide) ?_
              exact hk _ (by rw [m_k]) _ _ _ (by subst hyy; subst hzz; exact w) (lv_sub hl [1, 0] rfl)
        · intro H locs ls w hl
          refine lv_iload_n hx hb dX1_reckon_104 rfl (lv_at hl 1 rfl) ?_
          refine lv_aload_n hx hb dX1_reckon_105 rfl (lv_at hl 0 rfl) ?_
          refine m_gn F w dX1_reckon_106 ?_
          refine w_gt_t (tgt := 292) hx hb dX1_reckon_109 (by decide) (Nat.lt_succ_self n) (by omega) ?_
          exact m_vret hx hb hr' hlk w (by show (_ : MS) = (_ : MS); rw [m_kn, m_rkn, if_pos hkn, if_pos hkn]; subst hy; subst hz; rfl) dX1_reckon_292
  · exact m_vret hx hb hr' hlk w (by show (_ : MS) = (_ : MS); rw [m_kn, m_rkn, if_neg hkn, if_neg hkn]) dX1_reckon_7
section
variable {p : Program} {l : Launch} {e : Env} {R : Room} {s : State} {m : MethodId} {args : Array Value} {below : List Frame} {meth : Method} {c : Code} {H : Heap} {locs : List Loc} {cells slots : Nat} {Q : State → Prop}
variable {cc : ByteArray} {pc nL : Nat} {ls : Array Slot} {rest : List Value} {D : va_G} {A : Nat → Prop} {h0 : Nat} {ad : Nat → Nat} {cd : Nat → ClassId} {pn kn : Int32} {co rd : Nat → Int32} {vd : Nat → Int64} {is : Nat → Int32} {ve : Nat → Int64} {ie rc bad : Nat → Int32} {bst : Nat → Int64} {few : Nat → Int32}
theorem m_rec {n : Nat} (F : CallFix p m c cc nL s args lw_all RX1) (w : MW D A s h0 ad cd H locs (nI n) kn co rd vd is ve ie rc bad bst few) (h1 : 1 ≤ n) (h8 : n ≤ 8)  (hsz : ls.size = nL) (hro : (rest.map fun v => v.category).sum ≤ 8) (hR : 2 ≤ R.frames ∧ 47 ≤ R.locals) (hf : cells + 0 ≤ R.cells ∧ slots + 0 ≤ R.slots) (hdg : decode cc pc = .ok (.invokevirtual 58, 3))
    (kk : ∀ (H : Heap) (locs : List Loc), MW D A s h0 ad cd H locs (nI n) (m_kn kn) co rd (m_rkn n rd co kn (vd, is, ve, ie, rc, bad, bst, few)).1 (m_rkn n rd co kn (vd, is, ve, ie, rc, bad, bst, few)).2.1 (m_rkn n rd co kn (vd, is, ve, ie, rc, bad, bst, few)).2.2.1 (m_rkn n rd co kn (vd, is, ve, ie, rc, bad, bst, few)).2.2.2.1 (m_rkn n rd co kn (vd, is, ve, ie, rc, bad, bst, few)).2.2.2.2.1 (m_rkn n rd co kn (vd, is, ve, ie, rc, bad, bst, few)).2.2.2.2.2.1 (m_rkn n rd co kn (vd, is, ve, ie, rc, bad, bst, few)).2.2.2.2.2.2.1 (m_rkn n rd co kn (vd, is, ve, ie, rc, bad, bst, few)).2.2.2.2.2.2.2 → W p l e R s m args below meth c H locs cells slots Q (F0 m (pc + 3) ls (rest))) : W p l e R s m args below meth c H locs cells slots Q (F0 m pc ls (.ref h0 :: rest)) := by
  have hts := F.2.2.2.2
  refine m_callv F w (metX1_reckon l D h0 ad cd H.size n kn co rd vd is ve ie rc bad bst few h1 h8) (cwV 0 hts (lw_V q162 q164 qs6 q10 q165) rfl rfl rfl (by decide +kernel) ⟨hR.1, hR.2⟩) rfl hsz rfl hro hdg hf (fun u H1 l1 hp w1 => ?_)
  obtain rfl := hp
  exact kk H1 l1 w1
end
end
section
set_option maxHeartbeats 4000000 in
set_option maxRecDepth 100000 in
theorem metX1_reach (l : Launch) (D : va_G) (h0 : Nat) (ad : Nat → Nat) (cd : Nat → ClassId) (sz : Nat) (n : Nat) (kn : Int32) (co rd : Nat → Int32) (vd : Nat → Int64) (is : Nat → Int32) (ve : Nat → Int64) (ie rc bad : Nat → Int32) (bst : Nat → Int64) (few : Nat → Int32) (a b : Int32) (h1 : 1 ≤ n) (h8 : n ≤ 8) (hz : narrow .boolean (.int ((m_rkn n rd co kn (vd, is, ve, ie, rc, bad, bst, few)).2.2.2.2.1 (8 * pl_ n a + pl_ n b))) = .int ((m_rkn n rd co kn (vd, is, ve, ie, rc, bad, bst, few)).2.2.2.2.1 (8 * pl_ n a + pl_ n b))) : MMi l yX1_reach cX1_reach 3 (some .boolean) ({ frames := 2, cells := 0, slots := 0, locals := 47 }) [.int a, .int b] D h0 ad cd sz (nI n) kn co rd vd is ve ie rc bad bst few (fun r u => r = (m_rkn n rd co kn (vd, is, ve, ie, rc, bad, bst, few)).2.2.2.2.1 (8 * pl_ n a + pl_ n b) ∧ u = (nI n, m_kn kn, co, rd, (m_rkn n rd co kn (vd, is, ve, ie, rc, bad, bst, few)))) := by
  refine m_met (Qc := fun A => va_Qi (fun r u => r = (m_rkn n rd co kn (vd, is, ve, ie, rc, bad, bst, few)).2.2.2.2.1 (8 * pl_ n a + pl_ n b) ∧ u = (nI n, m_kn kn, co, rd, (m_rkn n rd co kn (vd, is, ve, ie, rc, bad, bst, few)))) (MB D A h0 ad cd) A) (by decide) rfl (Nat.le_of_ble_eq_true rfl) ?_
  intro p e s m below meth c A ls F hr' hlk w hl
  obtain ⟨hx, hb, hml, hown, hts⟩ := id F
  have hl : lv_has ls 3 [(0, .ref h0), (1, .int a), (2, .int b)] := hl
  have ha := pl_lt a h1
  have hbb := pl_lt b h1
  refine lv_aload_n hx hb dX1_reach_0 rfl (lv_at hl 0 rfl) ?_
  refine m_rec F w h1 h8 hl.1 (Nat.le_of_ble_eq_true rfl) ⟨Nat.le_of_ble_eq_true rfl, Nat.le_of_ble_eq_true rfl⟩ ⟨Nat.le_of_ble_eq_true rfl, Nat.le_of_ble_eq_true rfl⟩ dX1_reach_1 (fun H locs w => ?_)
  generalize m_rkn n rd co kn (vd, is, ve, ie, rc, bad, bst, few) = x at w hz ⊢
  refine lv_aload_n hx hb dX1_reach_4 rfl (lv_at hl 0 rfl) ?_
  refine m_grc F w dX1_reach_5 ?_
  refine lv_bipush (v := (nI 8)) hx hb dX1_reach_8 (by decide +kernel) ?_
  refine lv_aload_n hx hb dX1_reach_10 rfl (lv_at hl 0 rfl) ?_
  refine lv_iload_n hx hb dX1_reach_11 rfl (lv_at hl 1 rfl) ?_
  refine m_at F w h1 h8 hl.1 (Nat.le_of_ble_eq_true rfl) ⟨Nat.le_of_ble_eq_true rfl, Nat.le_of_ble_eq_true rfl⟩ ⟨Nat.le_of_ble_eq_true rfl, Nat.le_of_ble_eq_true rfl⟩ dX1_reach_12 (fun H locs w => ?_)
  refine lv_imul hx hb dX1_reach_15 ?_
  refine lv_aload_n hx hb dX1_reach_16 rfl (lv_at hl 0 rfl) ?_
  refine lv_iload_n hx hb dX1_reach_17 rfl (lv_at hl 2 rfl) ?_
  refine m_at F w h1 h8 hl.1 (Nat.le_of_ble_eq_true rfl) ⟨Nat.le_of_ble_eq_true rfl, Nat.le_of_ble_eq_true rfl⟩ ⟨Nat.le_of_ble_eq_true rfl, Nat.le_of_ble_eq_true rfl⟩ dX1_reach_18 (fun H locs w => ?_)
  refine lv_iadd hx hb dX1_reach_21 ?_
  refine w_top (nI_ix2 (pl_ n a) (pl_ n b)) ?_
  refine m_ldrc F w (by omega) dX1_reach_22 ?_
  exact m_zret hx hb hr' hlk w hz ⟨rfl, rfl⟩ dX1_reach_23
def m_any (bad : Nat → Int32) (v : Nat) (y : Int32) : Int32 := if y ≠ 0 ∨ bad v ≠ 0 then 1 else 0
theorem m_any01 (bad : Nat → Int32) (n : Nat) : lp (m_any bad) 0 n 0 = 0 ∨ lp (m_any bad) 0 n 0 = 1 := by
  refine lp_inv0 (m_any bad) (fun _ y => y = 0 ∨ y = 1) n 0 (Or.inl rfl) (fun j y _ _ => ?_)
  unfold m_any
  split
  · exact Or.inr rfl
  · exact Or.inl rfl
theorem z01 {r : Int32} (h : r = 0 ∨ r = 1) : narrow .boolean (.int r) = .int r := by
  rcases h with h | h <;> rw [h] <;> rfl
set_option maxHeartbeats 4000000 in
set_option maxRecDepth 100000 in
theorem metX1_circle (l : Launch) (D : va_G) (h0 : Nat) (ad : Nat → Nat) (cd : Nat → ClassId) (sz : Nat) (n : Nat) (kn : Int32) (co rd : Nat → Int32) (vd : Nat → Int64) (is : Nat → Int32) (ve : Nat → Int64) (ie rc bad : Nat → Int32) (bst : Nat → Int64) (few : Nat → Int32)  (h1 : 1 ≤ n) (h8 : n ≤ 8) : MMi l yX1_circle cX1_circle 3 (some .boolean) ({ frames := 2, cells := 0, slots := 0, locals := 47 }) [] D h0 ad cd sz (nI n) kn co rd vd is ve ie rc bad bst few (fun r u => r = lp (m_any (m_rkn n rd co kn (vd, is, ve, ie, rc, bad, bst, few)).2.2.2.2.2.1) 0 n 0 ∧ u = (nI n, m_kn kn, co, rd, (m_rkn n rd co kn (vd, is, ve, ie, rc, bad, bst, few)))) := by
  refine m_met (Qc := fun A => va_Qi (fun r u => r = lp (m_any (m_rkn n rd co kn (vd, is, ve, ie, rc, bad, bst, few)).2.2.2.2.2.1) 0 n 0 ∧ u = (nI n, m_kn kn, co, rd, (m_rkn n rd co kn (vd, is, ve, ie, rc, bad, bst, few)))) (MB D A h0 ad cd) A) (by decide) rfl (Nat.le_of_ble_eq_true rfl) ?_
  intro p e s m below meth c A ls F hr' hlk w hl
  obtain ⟨hx, hb, hml, hown, hts⟩ := id F
  have hl : lv_has ls 3 [(0, .ref h0)] := hl
  refine lv_aload_n hx hb dX1_circle_0 rfl (lv_at hl 0 rfl) ?_
  refine m_rec F w h1 h8 hl.1 (Nat.le_of_ble_eq_true rfl) ⟨Nat.le_of_ble_eq_true rfl, Nat.le_of_ble_eq_true rfl⟩ ⟨Nat.le_of_ble_eq_true rfl, Nat.le_of_ble_eq_true rfl⟩ dX1_circle_1 (fun H locs w => ?_)
  generalize m_rkn n rd co kn (vd, is, ve, ie, rc, bad, bst, few) = x at w ⊢
  refine lv_iconst (v := (nI 0)) hx hb dX1_circle_4 (by decide +kernel) ?_
  refine lv_istore_n (lv' := [(1, .int (nI 0)), (0, .ref h0)]) hx hb dX1_circle_5 rfl hl (by decide) rfl (fun ls hl => ?_)
  refine lv_iconst (v := (nI 0)) hx hb dX1_circle_6 (by decide +kernel) ?_
  refine lv_istore_n (lv' := [(2, .int (nI 0)), (1, .int (nI 0)), (0, .ref h0)]) hx hb dX1_circle_7 rfl hl (by decide) rfl (fun ls hl => ?_)
  have hl : lv_has ls 3 [(0, .ref h0), (1, .int 0), (2, .int (nI 0))] := (lv_sub hl [2, 1, 0] rfl)
  refine lp_back (m_any x.2.2.2.2.2.1) (fun v y => ∀ (H : Heap) (locs : List Loc) (ls : Array Slot), MW D A s h0 ad cd H locs (nI n) (m_kn kn) co rd x.1 x.2.1 x.2.2.1 x.2.2.2.1 x.2.2.2.2.1 x.2.2.2.2.2.1 x.2.2.2.2.2.2.1 x.2.2.2.2.2.2.2 → lv_has ls 3 [(0, .ref h0), (1, .int y), (2, .int (nI v))] → W p l e _ s m _ below meth c H locs 0 0 _ (F0 m 8 ls [])) n ?_ n 0 0 (Nat.zero_add n) ?_ _ _ ls w hl
  · intro v y hv hk H locs ls w hl
    refine lv_iload_n hx hb dX1_circle_8 rfl (lv_at hl 2 rfl) ?_
    refine lv_aload_n hx hb dX1_circle_9 rfl (lv_at hl 0 rfl) ?_
    refine m_gn F w dX1_circle_10 ?_
    refine w_ge_f (tgt := 41) hx hb dX1_circle_13 (by decide) hv (by omega) ?_
    refine w_jn (fun b : Int32 => b = m_any x.2.2.2.2.2.1 v y) (fun b => F0 m 34 ls [.int b]) ?_ (fun J => ?_)
    · intro b hbv
      refine lv_istore_n (lv' := [(1, .int b), (0, .ref h0), (2, .int (nI v))]) hx hb dX1_circle_34 rfl hl (by decide) rfl (fun ls hl => ?_)
      refine lv_iinc (v := nI (v + 1)) (lv' := [(2, .int (nI (v + 1))), (1, .int b), (0, .ref h0)]) hx hb dX1_circle_35 hl (k := 2) rfl (nI_inc v) (by decide) rfl (fun ls hl => ?_)
      refine lv_goto (tgt := 8) hx hb dX1_circle_38 (by decide) ?_
      exact hk _ hbv _ _ _ w (lv_sub hl [2, 1, 0] rfl)
    refine lv_iload_n hx hb dX1_circle_16 rfl (lv_at hl 1 rfl) ?_
    refine lv_if_ne (tgt := 29) hx hb dX1_circle_17 (by decide) (fun h9 => ?_) (fun h9 => ?_)
    · refine lv_iconst (v := 1) hx hb dX1_circle_29 (by decide +kernel) ?_
      refine lv_goto (tgt := 34) hx hb dX1_circle_30 (by decide) ?_
      exact J 1 (by rw [m_any, if_pos (Or.inl h9)])
    · refine lv_aload_n hx hb dX1_circle_20 rfl (lv_at hl 0 rfl) ?_
      refine m_gbad F w dX1_circle_21 ?_
      refine lv_iload_n hx hb dX1_circle_24 rfl (lv_at hl 2 rfl) ?_
      refine m_ldbad F w (by omega) dX1_circle_25 ?_
      refine lv_if_eq (tgt := 33) hx hb dX1_circle_26 (by decide) (fun h10 => ?_) (fun h10 => ?_)
      · refine lv_iconst (v := (nI 0)) hx hb dX1_circle_33 (by decide +kernel) ?_
        exact J 0 (by rw [m_any, if_neg (fun z => z.elim (fun y => y h9) (fun y => y h10))])
      · refine lv_iconst (v := 1) hx hb dX1_circle_29 (by decide +kernel) ?_
        refine lv_goto (tgt := 34) hx hb dX1_circle_30 (by decide) ?_
        exact J 1 (by rw [m_any, if_pos (Or.inr h10)])
  · intro H locs ls w hl
    refine lv_iload_n hx hb dX1_circle_8 rfl (lv_at hl 2 rfl) ?_
    refine lv_aload_n hx hb dX1_circle_9 rfl (lv_at hl 0 rfl) ?_
    refine m_gn F w dX1_circle_10 ?_
    refine w_ge_t (tgt := 41) hx hb dX1_circle_13 (by decide) (Nat.le_refl n) (by omega) ?_
    refine lv_iload_n hx hb dX1_circle_41 rfl (lv_at hl 1 rfl) ?_
    exact m_zret hx hb hr' hlk w (z01 (m_any01 _ n)) ⟨rfl, rfl⟩ dX1_circle_42
set_option maxHeartbeats 4000000 in
set_option maxRecDepth 100000 in
theorem metX1_kind (l : Launch) (D : va_G) (h0 : Nat) (ad : Nat → Nat) (cd : Nat → ClassId) (sz : Nat) (n : Nat) (kn : Int32) (co rd : Nat → Int32) (vd : Nat → Int64) (is : Nat → Int32) (ve : Nat → Int64) (ie rc bad : Nat → Int32) (bst : Nat → Int64) (few : Nat → Int32) (a b : Int32) (h1 : 1 ≤ n) (h8 : n ≤ 8) : MMi l yX1_kind cX1_kind 6 (some .int) ({ frames := 2, cells := 0, slots := 0, locals := 47 }) [.int a, .int b] D h0 ad cd sz (nI n) kn co rd vd is ve ie rc bad bst few (fun r u => m_kd n (m_rkn n rd co kn (vd, is, ve, ie, rc, bad, bst, few)).2.2.2.2.1 (m_rkn n rd co kn (vd, is, ve, ie, rc, bad, bst, few)).2.2.2.2.2.1 (pl_ n a) (pl_ n b) r ∧ u = (nI n, m_kn kn, co, rd, (m_rkn n rd co kn (vd, is, ve, ie, rc, bad, bst, few)))) := by
  refine m_met (Qc := fun A => va_Qi (fun r u => m_kd n (m_rkn n rd co kn (vd, is, ve, ie, rc, bad, bst, few)).2.2.2.2.1 (m_rkn n rd co kn (vd, is, ve, ie, rc, bad, bst, few)).2.2.2.2.2.1 (pl_ n a) (pl_ n b) r ∧ u = (nI n, m_kn kn, co, rd, (m_rkn n rd co kn (vd, is, ve, ie, rc, bad, bst, few)))) (MB D A h0 ad cd) A) (by decide) rfl (Nat.le_of_ble_eq_true rfl) ?_
  intro p e s m below meth c A ls F hr' hlk w hl
  obtain ⟨hx, hb, hml, hown, hts⟩ := id F
  have hl : lv_has ls 6 [(0, .ref h0), (1, .int a), (2, .int b)] := hl
  have ha := pl_lt a h1
  have hbb := pl_lt b h1
  refine lv_aload_n hx hb dX1_kind_0 rfl (lv_at hl 0 rfl) ?_
  refine m_rec F w h1 h8 hl.1 (Nat.le_of_ble_eq_true rfl) ⟨Nat.le_of_ble_eq_true rfl, Nat.le_of_ble_eq_true rfl⟩ ⟨Nat.le_of_ble_eq_true rfl, Nat.le_of_ble_eq_true rfl⟩ dX1_kind_1 (fun H locs w => ?_)
  generalize m_rkn n rd co kn (vd, is, ve, ie, rc, bad, bst, few) = x at w ⊢
  refine lv_aload_n hx hb dX1_kind_4 rfl (lv_at hl 0 rfl) ?_
  refine lv_iload_n hx hb dX1_kind_5 rfl (lv_at hl 1 rfl) ?_
  refine m_at F w h1 h8 hl.1 (Nat.le_of_ble_eq_true rfl) ⟨Nat.le_of_ble_eq_true rfl, Nat.le_of_ble_eq_true rfl⟩ ⟨Nat.le_of_ble_eq_true rfl, Nat.le_of_ble_eq_true rfl⟩ dX1_kind_6 (fun H locs w => ?_)
  refine lv_istore_n (lv' := [(3, .int (nI (pl_ n a))), (0, .ref h0), (1, .int a), (2, .int b)]) hx hb dX1_kind_9 rfl hl (by decide) rfl (fun ls hl => ?_)
  refine lv_aload_n hx hb dX1_kind_10 rfl (lv_at hl 1 rfl) ?_
  refine lv_iload_n hx hb dX1_kind_11 rfl (lv_at hl 3 rfl) ?_
  refine m_at F w h1 h8 hl.1 (Nat.le_of_ble_eq_true rfl) ⟨Nat.le_of_ble_eq_true rfl, Nat.le_of_ble_eq_true rfl⟩ ⟨Nat.le_of_ble_eq_true rfl, Nat.le_of_ble_eq_true rfl⟩ dX1_kind_12 (fun H locs w => ?_)
  refine lv_istore (lv' := [(4, .int (nI (pl_ n b))), (3, .int (nI (pl_ n a))), (0, .ref h0), (1, .int a), (2, .int b)]) hx hb dX1_kind_15 hl (by decide) rfl (fun ls hl => ?_)
  generalize pl_ n a = i at ha hl ⊢
  generalize pl_ n b = j at hbb hl ⊢
  refine lv_aload_n hx hb dX1_kind_17 rfl (lv_at hl 2 rfl) ?_
  refine m_grc F w dX1_kind_18 ?_
  refine lv_bipush (v := (nI 8)) hx hb dX1_kind_21 (by decide +kernel) ?_
  refine lv_iload_n hx hb dX1_kind_23 rfl (lv_at hl 1 rfl) ?_
  refine lv_imul hx hb dX1_kind_24 ?_
  refine lv_iload hx hb dX1_kind_25 (lv_at hl 0 rfl) ?_
  refine lv_iadd hx hb dX1_kind_27 ?_
  refine w_top (nI_ix2 i j) ?_
  refine m_ldrc F w (by omega) dX1_kind_28 ?_
  refine lv_if_ne (tgt := 34) hx hb dX1_kind_29 (by decide) (fun hn => ?_) (fun hn => ?_)
  · refine lv_iconst (v := (nI 0)) hx hb dX1_kind_34 (by decide +kernel) ?_
    refine lv_istore (lv' := [(5, .int (nI 0)), (4, .int (nI j)), (3, .int (nI i)), (0, .ref h0), (1, .int a), (2, .int b)]) hx hb dX1_kind_35 hl (by decide) rfl (fun ls hl => ?_)
    refine lp_back (fun _ y => y) (fun v (_ : Unit) => (∀ y, y < v → ¬ m_hit x.2.2.2.2.1 x.2.2.2.2.2.1 i j y) → ∀ (H : Heap) (locs : List Loc) (ls : Array Slot), MW D A s h0 ad cd H locs (nI n) (m_kn kn) co rd x.1 x.2.1 x.2.2.1 x.2.2.2.1 x.2.2.2.2.1 x.2.2.2.2.2.1 x.2.2.2.2.2.2.1 x.2.2.2.2.2.2.2 → lv_has ls 6 [(0, .ref h0), (3, .int (nI i)), (4, .int (nI j)), (5, .int (nI v))] → W p l e _ s m _ below meth c H locs 0 0 _ (F0 m 37 ls [])) n ?_ n 0 () (Nat.zero_add n) ?_ (fun v hv => absurd hv (Nat.not_lt_zero v)) _ _ ls w (lv_sub hl [3, 2, 1, 0] rfl)
    · intro v _ hv hk hno H locs ls w hl
      have hgo : ¬ m_hit x.2.2.2.2.1 x.2.2.2.2.2.1 i j v → ∀ y, y < v + 1 → ¬ m_hit x.2.2.2.2.1 x.2.2.2.2.2.1 i j y := fun q y hy9 => by
        rcases Nat.lt_or_ge y v with z | z
        · exact hno y z
        · rw [show y = v by omega]; exact q
      refine lv_iload hx hb dX1_kind_37 (lv_at hl 3 rfl) ?_
      refine lv_aload_n hx hb dX1_kind_39 rfl (lv_at hl 0 rfl) ?_
      refine m_gn F w dX1_kind_40 ?_
      refine w_ge_f (tgt := 95) hx hb dX1_kind_43 (by decide) hv (by omega) ?_
      refine lv_aload_n hx hb dX1_kind_46 rfl (lv_at hl 0 rfl) ?_
      refine m_gbad F w dX1_kind_47 ?_
      refine lv_iload hx hb dX1_kind_50 (lv_at hl 3 rfl) ?_
      refine m_ldbad F w (by omega) dX1_kind_52 ?_
      refine lv_if_eq (tgt := 89) hx hb dX1_kind_53 (by decide) (fun hc => ?_) (fun hc => ?_)
      · refine lv_iinc (v := nI (v + 1)) (lv' := [(5, .int (nI (v + 1))), (0, .ref h0), (3, .int (nI i)), (4, .int (nI j))]) hx hb dX1_kind_89 hl (k := 3) rfl (nI_inc v) (by decide) rfl (fun ls hl => ?_)
        refine lv_goto (tgt := 37) hx hb dX1_kind_92 (by decide) ?_
        exact hk _ rfl (hgo (fun z => z.1 hc)) _ _ _ w (lv_sub hl [1, 2, 3, 0] rfl)
      · refine lv_aload_n hx hb dX1_kind_56 rfl (lv_at hl 0 rfl) ?_
        refine m_grc F w dX1_kind_57 ?_
        refine lv_bipush (v := (nI 8)) hx hb dX1_kind_60 (by decide +kernel) ?_
        refine lv_iload_n hx hb dX1_kind_62 rfl (lv_at hl 1 rfl) ?_
        refine lv_imul hx hb dX1_kind_63 ?_
        refine lv_iload hx hb dX1_kind_64 (lv_at hl 3 rfl) ?_
        refine lv_iadd hx hb dX1_kind_66 ?_
        refine w_top (nI_ix2 i v) ?_
        refine m_ldrc F w (by omega) dX1_kind_67 ?_
        refine lv_if_eq (tgt := 89) hx hb dX1_kind_68 (by decide) (fun hd => ?_) (fun hd => ?_)
        · refine lv_iinc (v := nI (v + 1)) (lv' := [(5, .int (nI (v + 1))), (0, .ref h0), (3, .int (nI i)), (4, .int (nI j))]) hx hb dX1_kind_89 hl (k := 3) rfl (nI_inc v) (by decide) rfl (fun ls hl => ?_)
          refine lv_goto (tgt := 37) hx hb dX1_kind_92 (by decide) ?_
          exact hk _ rfl (hgo (fun z => z.2.1 hd)) _ _ _ w (lv_sub hl [1, 2, 3, 0] rfl)
        · refine lv_aload_n hx hb dX1_kind_71 rfl (lv_at hl 0 rfl) ?_
          refine m_grc F w dX1_kind_72 ?_
          refine lv_bipush (v := (nI 8)) hx hb dX1_kind_75 (by decide +kernel) ?_
          refine lv_iload hx hb dX1_kind_77 (lv_at hl 3 rfl) ?_
          refine lv_imul hx hb dX1_kind_79 ?_
          refine lv_iload hx hb dX1_kind_80 (lv_at hl 2 rfl) ?_
          refine lv_iadd hx hb dX1_kind_82 ?_
          refine w_top (nI_ix2 v j) ?_
          refine m_ldrc F w (by omega) dX1_kind_83 ?_
          refine lv_if_eq (tgt := 89) hx hb dX1_kind_84 (by decide) (fun he => ?_) (fun he => ?_)
          · refine lv_iinc (v := nI (v + 1)) (lv' := [(5, .int (nI (v + 1))), (0, .ref h0), (3, .int (nI i)), (4, .int (nI j))]) hx hb dX1_kind_89 hl (k := 3) rfl (nI_inc v) (by decide) rfl (fun ls hl => ?_)
            refine lv_goto (tgt := 37) hx hb dX1_kind_92 (by decide) ?_
            exact hk _ rfl (hgo (fun z => z.2.2 he)) _ _ _ w (lv_sub hl [1, 2, 3, 0] rfl)
          · refine lv_iconst (v := 1) hx hb dX1_kind_87 (by decide +kernel) ?_
            exact m_iret hx hb hr' hlk w ⟨Or.inr (Or.inl ⟨rfl, hn, v, hv, hc, hd, he⟩), rfl⟩ dX1_kind_88
    · intro hno H locs ls w hl
      refine lv_iload hx hb dX1_kind_37 (lv_at hl 3 rfl) ?_
      refine lv_aload_n hx hb dX1_kind_39 rfl (lv_at hl 0 rfl) ?_
      refine m_gn F w dX1_kind_40 ?_
      refine w_ge_t (tgt := 95) hx hb dX1_kind_43 (by decide) (Nat.le_refl n) (by omega) ?_
      refine lv_iconst (v := 0) hx hb dX1_kind_95 (by decide +kernel) ?_
      exact m_iret hx hb hr' hlk w ⟨Or.inr (Or.inr ⟨rfl, hn, hno⟩), rfl⟩ dX1_kind_96
  · refine lv_iconst (v := (-1)) hx hb dX1_kind_32 (by decide +kernel) ?_
    exact m_iret hx hb hr' hlk w ⟨Or.inl ⟨rfl, hn⟩, rfl⟩ dX1_kind_33
section
variable {p : Program} {l : Launch} {e : Env} {R : Room} {s : State} {m : MethodId} {args : Array Value} {below : List Frame} {meth : Method} {c : Code} {H : Heap} {locs : List Loc} {cells slots : Nat} {Q : State → Prop}
variable {cc : ByteArray} {pc nL : Nat} {ls : Array Slot} {rest : List Value} {D : va_G} {A : Nat → Prop} {h0 : Nat} {ad : Nat → Nat} {cd : Nat → ClassId} {pn kn : Int32} {co rd : Nat → Int32} {vd : Nat → Int64} {is : Nat → Int32} {ve : Nat → Int64} {ie rc bad : Nat → Int32} {bst : Nat → Int64} {few : Nat → Int32}
theorem m_knd {n : Nat} (F : CallFix p m c cc nL s args lw_all RX1) (w : MW D A s h0 ad cd H locs (nI n) kn co rd vd is ve ie rc bad bst few) (h1 : 1 ≤ n) (h8 : n ≤ 8) {a b : Int32} (hsz : ls.size = nL) (hro : (rest.map fun v => v.category).sum ≤ 8) (hR : 3 ≤ R.frames ∧ 72 ≤ R.locals) (hf : cells + 0 ≤ R.cells ∧ slots + 0 ≤ R.slots) (hdg : decode cc pc = .ok (.invokevirtual 61, 3))
    (kk : ∀ (r : Int32) (H : Heap) (locs : List Loc), m_kd n (m_rkn n rd co kn (vd, is, ve, ie, rc, bad, bst, few)).2.2.2.2.1 (m_rkn n rd co kn (vd, is, ve, ie, rc, bad, bst, few)).2.2.2.2.2.1 (pl_ n a) (pl_ n b) r → MW D A s h0 ad cd H locs (nI n) (m_kn kn) co rd (m_rkn n rd co kn (vd, is, ve, ie, rc, bad, bst, few)).1 (m_rkn n rd co kn (vd, is, ve, ie, rc, bad, bst, few)).2.1 (m_rkn n rd co kn (vd, is, ve, ie, rc, bad, bst, few)).2.2.1 (m_rkn n rd co kn (vd, is, ve, ie, rc, bad, bst, few)).2.2.2.1 (m_rkn n rd co kn (vd, is, ve, ie, rc, bad, bst, few)).2.2.2.2.1 (m_rkn n rd co kn (vd, is, ve, ie, rc, bad, bst, few)).2.2.2.2.2.1 (m_rkn n rd co kn (vd, is, ve, ie, rc, bad, bst, few)).2.2.2.2.2.2.1 (m_rkn n rd co kn (vd, is, ve, ie, rc, bad, bst, few)).2.2.2.2.2.2.2 → W p l e R s m args below meth c H locs cells slots Q (F0 m (pc + 3) ls (.int r :: rest))) : W p l e R s m args below meth c H locs cells slots Q (F0 m pc ls (.int b :: .int a :: .ref h0 :: rest)) := by
  have hts := F.2.2.2.2
  refine m_calli F w (metX1_kind l D h0 ad cd H.size n kn co rd vd is ve ie rc bad bst few a b h1 h8) (cwV 2 hts (lw_V q182 q175 q176 q10 q177) rfl rfl rfl (by decide +kernel) ⟨hR.1, hR.2⟩) rfl hsz rfl hro hdg hf (fun r u H1 l1 hp w1 => ?_)
  obtain ⟨hp, rfl⟩ := hp
  exact kk r H1 l1 hp w1
end
set_option maxHeartbeats 4000000 in
set_option maxRecDepth 100000 in
theorem metX1_least (l : Launch) (D : va_G) (h0 : Nat) (ad : Nat → Nat) (cd : Nat → ClassId) (sz : Nat) (n : Nat) (kn : Int32) (co rd : Nat → Int32) (vd : Nat → Int64) (is : Nat → Int32) (ve : Nat → Int64) (ie rc bad : Nat → Int32) (bst : Nat → Int64) (few : Nat → Int32) (a b : Int32) (h1 : 1 ≤ n) (h8 : n ≤ 8) : MMl l yX1_least cX1_least 3 (some .long) ({ frames := 3, cells := 0, slots := 0, locals := 72 }) [.int a, .int b] D h0 ad cd sz (nI n) kn co rd vd is ve ie rc bad bst few (fun r u => (∃ kd, m_kd n (m_rkn n rd co kn (vd, is, ve, ie, rc, bad, bst, few)).2.2.2.2.1 (m_rkn n rd co kn (vd, is, ve, ie, rc, bad, bst, few)).2.2.2.2.2.1 (pl_ n a) (pl_ n b) kd ∧ ((kd = 0 ∧ r = (m_rkn n rd co kn (vd, is, ve, ie, rc, bad, bst, few)).2.2.2.2.2.2.1 (8 * pl_ n a + pl_ n b)) ∨ (¬ kd = 0 ∧ r = 0))) ∧ u = (nI n, m_kn kn, co, rd, (m_rkn n rd co kn (vd, is, ve, ie, rc, bad, bst, few)))) := by
  refine m_met (Qc := fun A => va_Ql (fun r u => (∃ kd, m_kd n (m_rkn n rd co kn (vd, is, ve, ie, rc, bad, bst, few)).2.2.2.2.1 (m_rkn n rd co kn (vd, is, ve, ie, rc, bad, bst, few)).2.2.2.2.2.1 (pl_ n a) (pl_ n b) kd ∧ ((kd = 0 ∧ r = (m_rkn n rd co kn (vd, is, ve, ie, rc, bad, bst, few)).2.2.2.2.2.2.1 (8 * pl_ n a + pl_ n b)) ∨ (¬ kd = 0 ∧ r = 0))) ∧ u = (nI n, m_kn kn, co, rd, (m_rkn n rd co kn (vd, is, ve, ie, rc, bad, bst, few)))) (MB D A h0 ad cd) A) (by decide) rfl (Nat.le_of_ble_eq_true rfl) ?_
  intro p e s m below meth c A ls F hr' hlk w hl
  obtain ⟨hx, hb, hml, hown, hts⟩ := id F
  have hl : lv_has ls 3 [(0, .ref h0), (1, .int a), (2, .int b)] := hl
  have ha := pl_lt a h1
  have hbb := pl_lt b h1
  refine lv_aload_n hx hb dX1_least_0 rfl (lv_at hl 0 rfl) ?_
  refine lv_iload_n hx hb dX1_least_1 rfl (lv_at hl 1 rfl) ?_
  refine lv_iload_n hx hb dX1_least_2 rfl (lv_at hl 2 rfl) ?_
  refine m_knd F w h1 h8 hl.1 (Nat.le_of_ble_eq_true rfl) ⟨Nat.le_of_ble_eq_true rfl, Nat.le_of_ble_eq_true rfl⟩ ⟨Nat.le_of_ble_eq_true rfl, Nat.le_of_ble_eq_true rfl⟩ dX1_least_3 (fun kd H locs hkd w => ?_)
  generalize m_rkn n rd co kn (vd, is, ve, ie, rc, bad, bst, few) = x at w hkd ⊢
  refine lv_if_eq (tgt := 13) hx hb dX1_least_6 (by decide) (fun hc => ?_) (fun hc => ?_)
  · refine lv_aload_n hx hb dX1_least_13 rfl (lv_at hl 0 rfl) ?_
    refine m_gbst F w dX1_least_14 ?_
    refine lv_bipush (v := (nI 8)) hx hb dX1_least_17 (by decide +kernel) ?_
    refine lv_aload_n hx hb dX1_least_19 rfl (lv_at hl 0 rfl) ?_
    refine lv_iload_n hx hb dX1_least_20 rfl (lv_at hl 1 rfl) ?_
    refine m_at F w h1 h8 hl.1 (Nat.le_of_ble_eq_true rfl) ⟨Nat.le_of_ble_eq_true rfl, Nat.le_of_ble_eq_true rfl⟩ ⟨Nat.le_of_ble_eq_true rfl, Nat.le_of_ble_eq_true rfl⟩ dX1_least_21 (fun H locs w => ?_)
    refine lv_imul hx hb dX1_least_24 ?_
    refine lv_aload_n hx hb dX1_least_25 rfl (lv_at hl 0 rfl) ?_
    refine lv_iload_n hx hb dX1_least_26 rfl (lv_at hl 2 rfl) ?_
    refine m_at F w h1 h8 hl.1 (Nat.le_of_ble_eq_true rfl) ⟨Nat.le_of_ble_eq_true rfl, Nat.le_of_ble_eq_true rfl⟩ ⟨Nat.le_of_ble_eq_true rfl, Nat.le_of_ble_eq_true rfl⟩ dX1_least_27 (fun H locs w => ?_)
    refine lv_iadd hx hb dX1_least_30 ?_
    refine w_top (nI_ix2 (pl_ n a) (pl_ n b)) ?_
    refine m_ldbst F w (by omega) dX1_least_31 ?_
    exact m_lret hx hb hr' hlk w ⟨⟨kd, hkd, Or.inl ⟨hc, rfl⟩⟩, rfl⟩ dX1_least_32
  · refine lv_lconst (v := 0) hx hb dX1_least_9 (by decide +kernel) ?_
    refine lv_goto (tgt := 32) hx hb dX1_least_10 (by decide) ?_
    exact m_lret hx hb hr' hlk w ⟨⟨kd, hkd, Or.inr ⟨hc, rfl⟩⟩, rfl⟩ dX1_least_32
set_option maxHeartbeats 4000000 in
set_option maxRecDepth 100000 in
theorem metX1_roads (l : Launch) (D : va_G) (h0 : Nat) (ad : Nat → Nat) (cd : Nat → ClassId) (sz : Nat) (n : Nat) (kn : Int32) (co rd : Nat → Int32) (vd : Nat → Int64) (is : Nat → Int32) (ve : Nat → Int64) (ie rc bad : Nat → Int32) (bst : Nat → Int64) (few : Nat → Int32) (a b : Int32) (h1 : 1 ≤ n) (h8 : n ≤ 8) : MMi l yX1_roads cX1_roads 3 (some .int) ({ frames := 3, cells := 0, slots := 0, locals := 72 }) [.int a, .int b] D h0 ad cd sz (nI n) kn co rd vd is ve ie rc bad bst few (fun r u => (∃ kd, m_kd n (m_rkn n rd co kn (vd, is, ve, ie, rc, bad, bst, few)).2.2.2.2.1 (m_rkn n rd co kn (vd, is, ve, ie, rc, bad, bst, few)).2.2.2.2.2.1 (pl_ n a) (pl_ n b) kd ∧ ((kd = 0 ∧ r = (m_rkn n rd co kn (vd, is, ve, ie, rc, bad, bst, few)).2.2.2.2.2.2.2 (8 * pl_ n a + pl_ n b)) ∨ (¬ kd = 0 ∧ r = -1))) ∧ u = (nI n, m_kn kn, co, rd, (m_rkn n rd co kn (vd, is, ve, ie, rc, bad, bst, few)))) := by
  refine m_met (Qc := fun A => va_Qi (fun r u => (∃ kd, m_kd n (m_rkn n rd co kn (vd, is, ve, ie, rc, bad, bst, few)).2.2.2.2.1 (m_rkn n rd co kn (vd, is, ve, ie, rc, bad, bst, few)).2.2.2.2.2.1 (pl_ n a) (pl_ n b) kd ∧ ((kd = 0 ∧ r = (m_rkn n rd co kn (vd, is, ve, ie, rc, bad, bst, few)).2.2.2.2.2.2.2 (8 * pl_ n a + pl_ n b)) ∨ (¬ kd = 0 ∧ r = -1))) ∧ u = (nI n, m_kn kn, co, rd, (m_rkn n rd co kn (vd, is, ve, ie, rc, bad, bst, few)))) (MB D A h0 ad cd) A) (by decide) rfl (Nat.le_of_ble_eq_true rfl) ?_
  intro p e s m below meth c A ls F hr' hlk w hl
  obtain ⟨hx, hb, hml, hown, hts⟩ := id F
  have hl : lv_has ls 3 [(0, .ref h0), (1, .int a), (2, .int b)] := hl
  have ha := pl_lt a h1
  have hbb := pl_lt b h1
  refine lv_aload_n hx hb dX1_roads_0 rfl (lv_at hl 0 rfl) ?_
  refine lv_iload_n hx hb dX1_roads_1 rfl (lv_at hl 1 rfl) ?_
  refine lv_iload_n hx hb dX1_roads_2 rfl (lv_at hl 2 rfl) ?_
  refine m_knd F w h1 h8 hl.1 (Nat.le_of_ble_eq_true rfl) ⟨Nat.le_of_ble_eq_true rfl, Nat.le_of_ble_eq_true rfl⟩ ⟨Nat.le_of_ble_eq_true rfl, Nat.le_of_ble_eq_true rfl⟩ dX1_roads_3 (fun kd H locs hkd w => ?_)
  generalize m_rkn n rd co kn (vd, is, ve, ie, rc, bad, bst, few) = x at w hkd ⊢
  refine lv_if_eq (tgt := 13) hx hb dX1_roads_6 (by decide) (fun hc => ?_) (fun hc => ?_)
  · refine lv_aload_n hx hb dX1_roads_13 rfl (lv_at hl 0 rfl) ?_
    refine m_gfew F w dX1_roads_14 ?_
    refine lv_bipush (v := (nI 8)) hx hb dX1_roads_17 (by decide +kernel) ?_
    refine lv_aload_n hx hb dX1_roads_19 rfl (lv_at hl 0 rfl) ?_
    refine lv_iload_n hx hb dX1_roads_20 rfl (lv_at hl 1 rfl) ?_
    refine m_at F w h1 h8 hl.1 (Nat.le_of_ble_eq_true rfl) ⟨Nat.le_of_ble_eq_true rfl, Nat.le_of_ble_eq_true rfl⟩ ⟨Nat.le_of_ble_eq_true rfl, Nat.le_of_ble_eq_true rfl⟩ dX1_roads_21 (fun H locs w => ?_)
    refine lv_imul hx hb dX1_roads_24 ?_
    refine lv_aload_n hx hb dX1_roads_25 rfl (lv_at hl 0 rfl) ?_
    refine lv_iload_n hx hb dX1_roads_26 rfl (lv_at hl 2 rfl) ?_
    refine m_at F w h1 h8 hl.1 (Nat.le_of_ble_eq_true rfl) ⟨Nat.le_of_ble_eq_true rfl, Nat.le_of_ble_eq_true rfl⟩ ⟨Nat.le_of_ble_eq_true rfl, Nat.le_of_ble_eq_true rfl⟩ dX1_roads_27 (fun H locs w => ?_)
    refine lv_iadd hx hb dX1_roads_30 ?_
    refine w_top (nI_ix2 (pl_ n a) (pl_ n b)) ?_
    refine m_ldfew F w (by omega) dX1_roads_31 ?_
    exact m_iret hx hb hr' hlk w ⟨⟨kd, hkd, Or.inl ⟨hc, rfl⟩⟩, rfl⟩ dX1_roads_32
  · refine lv_iconst (v := (-1)) hx hb dX1_roads_9 (by decide +kernel) ?_
    refine lv_goto (tgt := 32) hx hb dX1_roads_10 (by decide) ?_
    exact m_iret hx hb hr' hlk w ⟨⟨kd, hkd, Or.inr ⟨hc, rfl⟩⟩, rfl⟩ dX1_roads_32
end
section
/-! the constructor of RouteDeskModel (printed by genM3.py) -/
/-- the world behind the constructor -/
def MN (D : va_G) (A : Nat → Prop) (h0 : Nat) (u : MS) (t : State) : Prop := ∃ (ad : Nat → Nat) (cd : Nat → ClassId), va_P D vwCl (mw h0 ad cd u.1 u.2.1 u.2.2.1 u.2.2.2.1 u.2.2.2.2.1 u.2.2.2.2.2.1 u.2.2.2.2.2.2.1 u.2.2.2.2.2.2.2.1 u.2.2.2.2.2.2.2.2.1 u.2.2.2.2.2.2.2.2.2.1 u.2.2.2.2.2.2.2.2.2.2.1 u.2.2.2.2.2.2.2.2.2.2.2) t.heap ∧ va_K D vwCl (mt cd) t ∧ va_D A (mw h0 ad cd u.1 u.2.1 u.2.2.1 u.2.2.2.1 u.2.2.2.2.1 u.2.2.2.2.2.1 u.2.2.2.2.2.2.1 u.2.2.2.2.2.2.2.1 u.2.2.2.2.2.2.2.2.1 u.2.2.2.2.2.2.2.2.2.1 u.2.2.2.2.2.2.2.2.2.2.1 u.2.2.2.2.2.2.2.2.2.2.2)
def m_z : Nat → Int32 := fun _ => 0
def m_new : MS := (nI 2, 0, m_z, m_z, x_z, m_z, x_z, m_z, m_z, m_z, x_z, m_z)
abbrev m00 (h0 : Nat) : va_W := [(h0, .inr (1, [.null, .null, .int 0, .int 0, .null, .null, .null, .null, .null, .null, .null, .null]))]
set_option maxHeartbeats 4000000 in
set_option maxRecDepth 100000 in
theorem metX1_init (l : Launch) (D : va_G) (h0 : Nat) (sz : Nat) : Met l yX1_init (ws_ yX1_init cX1_init 1 none) ({ frames := 1, cells := 10, slots := 584, locals := 21 }) (va_Pc [.ref h0] (fun U => U.heap.size = sz ∧ va_P D vwCl (m00 h0) U.heap ∧ va_K D vwCl [] U ∧ va_D (fun _ => True) (m00 h0))) (va_Qv (fun u : MS => u = m_new) (MN D (va_A (m00 h0) sz) h0) (va_A (m00 h0) sz)) 10 584 (va_A (m00 h0) sz) := by
  refine Met.ofW (cc := cX1_init) (maxL := 1) (ret := none) (by decide) rfl ?_
  intro p e s m args below meth c s₁ B hml hv
  obtain ⟨rfl, hsz, hP, hK, hD0⟩ := hv
  have hx := B.exec
  have hb := B.bytes
  have hr := B.returns
  have hlk := B.notSynchronized
  have hts := atoms_spec (ws := ws_ yX1_init cX1_init 1 none) B.pre
  have hts : ∀ w ∈ lw_all, w.before _ s = true := fun w h => hts w (List.mem_cons_of_mem _ h)
  have hown : s.vm.findClass RX1 = some m.cls := findClass_of_methodNamed B.named
  have hin : meth.name = "<init>" := (name_of_methodNamed B.named B.method).1
  subst hsz
  have hD := hD0.self (sz := s.heap.size)
  generalize hAe : va_A (m00 h0) s.heap.size = A at hD ⊢
  have hA : ∀ q : Nat, s.heap.size ≤ q → A q := fun q h => by rw [← hAe]; exact Or.inr h
  have hS : va_S A s.heap s.heap [] := va_S.rf
  have hl := lv_entry ([.ref h0]) (n := 1) (Nat.le_of_ble_eq_true rfl)
  rw [lg_entry_eq]
  generalize (lg_sl ([.ref h0]) ++ List.replicate (1 - (lg_sl ([.ref h0])).length) Slot.unset).toArray = ls at hl ⊢
  have hl : lv_has ls 1 [(0, .ref h0)] := hl
  refine lv_aload_n hx hb dX1_init_0 rfl (lv_at hl 0 rfl) ?_
  refine W.objInit hx hb hown (hts _ q101) (hts _ q18) (hts _ q19) rfl (by rw [hml]; exact hl.1) rfl dX1_init_1 (Nat.le_of_ble_eq_true rfl) (Nat.le_of_ble_eq_true rfl) ?_
  refine W.eq (g2 := F0 m 4 ls []) rfl ?_
  refine lv_aload_n hx hb dX1_init_4 rfl (lv_at hl 0 rfl) ?_
  refine lv_bipush (v := 64) hx hb dX1_init_5 (by decide +kernel) ?_
  refine va_newa (atype := .int) (ty := .int) (N' := 64) (a0 := (64, .inl m_z)) hx hb (hts _ q139) rfl hK hP hD hS hA (fun _ => rfl) (by decide +kernel) (by decide +kernel) (by decide) (Nat.le_of_ble_eq_true rfl) (Nat.le_of_ble_eq_true rfl) dX1_init_7 (fun q1 c1 H hK hP hD hS => ?_)
  have hP : va_P D vwCl [(h0, .inr (1, [.null, .null, .int 0, .int 0, .null, .null, .null, .null, .null, .null, .null, .null])), (q1, .inl (c1, 64, .inl m_z))] H := hP
  have hD : va_D A [(h0, .inr (1, [.null, .null, .int 0, .int 0, .null, .null, .null, .null, .null, .null, .null, .null])), (q1, .inl (c1, 64, .inl m_z))] := hD
  refine W.widen (k := 1) (n := 64) (by omega) (by omega) ?_
  refine va_putF (D := D) (ci := 1) (v := .ref q1) (ty := .array .int) (C := RX1) (T := TX1) (N := 12) hx hb hts in_X1 tyX1 tyX1_ok nmX1 hown hK hP hD hS 0 rfl rfl 0 (by decide) (hts _ q102) (fun _ h9 => h9) rfl hin rfl (by decide +kernel) rfl rfl (Nat.le_of_ble_eq_true rfl) dX1_init_9 (fun H locs hP hD hS => ?_)
  have hP : va_P D vwCl [(h0, .inr (1, [.ref q1, .null, .int 0, .int 0, .null, .null, .null, .null, .null, .null, .null, .null])), (q1, .inl (c1, 64, .inl m_z))] H := hP
  have hD : va_D A [(h0, .inr (1, [.ref q1, .null, .int 0, .int 0, .null, .null, .null, .null, .null, .null, .null, .null])), (q1, .inl (c1, 64, .inl m_z))] := hD
  refine lv_aload_n hx hb dX1_init_12 rfl (lv_at hl 0 rfl) ?_
  refine lv_bipush (v := 64) hx hb dX1_init_13 (by decide +kernel) ?_
  refine va_newa (atype := .boolean) (ty := .boolean) (N' := 64) (a0 := (64, .inl m_z)) hx hb (hts _ q140) rfl hK hP hD hS hA (fun _ => rfl) (by decide +kernel) (by decide +kernel) (by decide) (Nat.le_of_ble_eq_true rfl) (Nat.le_of_ble_eq_true rfl) dX1_init_15 (fun q2 c2 H hK hP hD hS => ?_)
  have hP : va_P D vwCl [(h0, .inr (1, [.ref q1, .null, .int 0, .int 0, .null, .null, .null, .null, .null, .null, .null, .null])), (q1, .inl (c1, 64, .inl m_z)), (q2, .inl (c2, 64, .inl m_z))] H := hP
  have hD : va_D A [(h0, .inr (1, [.ref q1, .null, .int 0, .int 0, .null, .null, .null, .null, .null, .null, .null, .null])), (q1, .inl (c1, 64, .inl m_z)), (q2, .inl (c2, 64, .inl m_z))] := hD
  refine W.widen (k := 2) (n := 128) (by omega) (by omega) ?_
  refine va_putF (D := D) (ci := 1) (v := .ref q2) (ty := .array .boolean) (C := RX1) (T := TX1) (N := 12) hx hb hts in_X1 tyX1 tyX1_ok nmX1 hown hK hP hD hS 0 rfl rfl 1 (by decide) (hts _ q103) (fun _ h9 => h9) rfl hin rfl (by decide +kernel) rfl rfl (Nat.le_of_ble_eq_true rfl) dX1_init_17 (fun H locs hP hD hS => ?_)
  have hP : va_P D vwCl [(h0, .inr (1, [.ref q1, .ref q2, .int 0, .int 0, .null, .null, .null, .null, .null, .null, .null, .null])), (q1, .inl (c1, 64, .inl m_z)), (q2, .inl (c2, 64, .inl m_z))] H := hP
  have hD : va_D A [(h0, .inr (1, [.ref q1, .ref q2, .int 0, .int 0, .null, .null, .null, .null, .null, .null, .null, .null])), (q1, .inl (c1, 64, .inl m_z)), (q2, .inl (c2, 64, .inl m_z))] := hD
  refine lv_aload_n hx hb dX1_init_20 rfl (lv_at hl 0 rfl) ?_
  refine lv_iconst (v := (nI 2)) hx hb dX1_init_21 (by decide +kernel) ?_
  refine va_put (D := D) (ci := 1) (v := .int (nI 2)) (ty := .int) (C := RX1) (T := TX1) (N := 12) hx hb hts in_X1 tyX1 tyX1_ok nmX1 hown hK hP hD hS 0 rfl rfl 2 (by decide) (hts _ q104) (fun _ h9 => h9) rfl (by decide +kernel) rfl rfl (Nat.le_of_ble_eq_true rfl) dX1_init_22 (fun H locs hP hD hS => ?_)
  have hP : va_P D vwCl [(h0, .inr (1, [.ref q1, .ref q2, .int (nI 2), .int 0, .null, .null, .null, .null, .null, .null, .null, .null])), (q1, .inl (c1, 64, .inl m_z)), (q2, .inl (c2, 64, .inl m_z))] H := hP
  have hD : va_D A [(h0, .inr (1, [.ref q1, .ref q2, .int (nI 2), .int 0, .null, .null, .null, .null, .null, .null, .null, .null])), (q1, .inl (c1, 64, .inl m_z)), (q2, .inl (c2, 64, .inl m_z))] := hD
  refine lv_aload_n hx hb dX1_init_25 rfl (lv_at hl 0 rfl) ?_
  refine lv_bipush (v := 64) hx hb dX1_init_26 (by decide +kernel) ?_
  refine va_newa (atype := .long) (ty := .long) (N' := 64) (a0 := (64, .inr (.inl x_z))) hx hb (hts _ q38) rfl hK hP hD hS hA (fun _ => rfl) (by decide +kernel) (by decide +kernel) (by decide) (Nat.le_of_ble_eq_true rfl) (Nat.le_of_ble_eq_true rfl) dX1_init_28 (fun q3 c3 H hK hP hD hS => ?_)
  have hP : va_P D vwCl [(h0, .inr (1, [.ref q1, .ref q2, .int (nI 2), .int 0, .null, .null, .null, .null, .null, .null, .null, .null])), (q1, .inl (c1, 64, .inl m_z)), (q2, .inl (c2, 64, .inl m_z)), (q3, .inl (c3, 64, .inr (.inl x_z)))] H := hP
  have hD : va_D A [(h0, .inr (1, [.ref q1, .ref q2, .int (nI 2), .int 0, .null, .null, .null, .null, .null, .null, .null, .null])), (q1, .inl (c1, 64, .inl m_z)), (q2, .inl (c2, 64, .inl m_z)), (q3, .inl (c3, 64, .inr (.inl x_z)))] := hD
  refine W.widen (k := 3) (n := 192) (by omega) (by omega) ?_
  refine va_putF (D := D) (ci := 1) (v := .ref q3) (ty := .array .long) (C := RX1) (T := TX1) (N := 12) hx hb hts in_X1 tyX1 tyX1_ok nmX1 hown hK hP hD hS 0 rfl rfl 4 (by decide) (hts _ q106) (fun _ h9 => h9) rfl hin rfl (by decide +kernel) rfl rfl (Nat.le_of_ble_eq_true rfl) dX1_init_30 (fun H locs hP hD hS => ?_)
  have hP : va_P D vwCl [(h0, .inr (1, [.ref q1, .ref q2, .int (nI 2), .int 0, .ref q3, .null, .null, .null, .null, .null, .null, .null])), (q1, .inl (c1, 64, .inl m_z)), (q2, .inl (c2, 64, .inl m_z)), (q3, .inl (c3, 64, .inr (.inl x_z)))] H := hP
  have hD : va_D A [(h0, .inr (1, [.ref q1, .ref q2, .int (nI 2), .int 0, .ref q3, .null, .null, .null, .null, .null, .null, .null])), (q1, .inl (c1, 64, .inl m_z)), (q2, .inl (c2, 64, .inl m_z)), (q3, .inl (c3, 64, .inr (.inl x_z)))] := hD
  refine lv_aload_n hx hb dX1_init_33 rfl (lv_at hl 0 rfl) ?_
  refine lv_bipush (v := 64) hx hb dX1_init_34 (by decide +kernel) ?_
  refine va_newa (atype := .boolean) (ty := .boolean) (N' := 64) (a0 := (64, .inl m_z)) hx hb (hts _ q140) rfl hK hP hD hS hA (fun _ => rfl) (by decide +kernel) (by decide +kernel) (by decide) (Nat.le_of_ble_eq_true rfl) (Nat.le_of_ble_eq_true rfl) dX1_init_36 (fun q4 c4 H hK hP hD hS => ?_)
  have hP : va_P D vwCl [(h0, .inr (1, [.ref q1, .ref q2, .int (nI 2), .int 0, .ref q3, .null, .null, .null, .null, .null, .null, .null])), (q1, .inl (c1, 64, .inl m_z)), (q2, .inl (c2, 64, .inl m_z)), (q3, .inl (c3, 64, .inr (.inl x_z))), (q4, .inl (c4, 64, .inl m_z))] H := hP
  have hD : va_D A [(h0, .inr (1, [.ref q1, .ref q2, .int (nI 2), .int 0, .ref q3, .null, .null, .null, .null, .null, .null, .null])), (q1, .inl (c1, 64, .inl m_z)), (q2, .inl (c2, 64, .inl m_z)), (q3, .inl (c3, 64, .inr (.inl x_z))), (q4, .inl (c4, 64, .inl m_z))] := hD
  refine W.widen (k := 4) (n := 256) (by omega) (by omega) ?_
  refine va_putF (D := D) (ci := 1) (v := .ref q4) (ty := .array .boolean) (C := RX1) (T := TX1) (N := 12) hx hb hts in_X1 tyX1 tyX1_ok nmX1 hown hK hP hD hS 0 rfl rfl 5 (by decide) (hts _ q107) (fun _ h9 => h9) rfl hin rfl (by decide +kernel) rfl rfl (Nat.le_of_ble_eq_true rfl) dX1_init_38 (fun H locs hP hD hS => ?_)
  have hP : va_P D vwCl [(h0, .inr (1, [.ref q1, .ref q2, .int (nI 2), .int 0, .ref q3, .ref q4, .null, .null, .null, .null, .null, .null])), (q1, .inl (c1, 64, .inl m_z)), (q2, .inl (c2, 64, .inl m_z)), (q3, .inl (c3, 64, .inr (.inl x_z))), (q4, .inl (c4, 64, .inl m_z))] H := hP
  have hD : va_D A [(h0, .inr (1, [.ref q1, .ref q2, .int (nI 2), .int 0, .ref q3, .ref q4, .null, .null, .null, .null, .null, .null])), (q1, .inl (c1, 64, .inl m_z)), (q2, .inl (c2, 64, .inl m_z)), (q3, .inl (c3, 64, .inr (.inl x_z))), (q4, .inl (c4, 64, .inl m_z))] := hD
  refine lv_aload_n hx hb dX1_init_41 rfl (lv_at hl 0 rfl) ?_
  refine lv_bipush (v := 64) hx hb dX1_init_42 (by decide +kernel) ?_
  refine va_newa (atype := .long) (ty := .long) (N' := 64) (a0 := (64, .inr (.inl x_z))) hx hb (hts _ q38) rfl hK hP hD hS hA (fun _ => rfl) (by decide +kernel) (by decide +kernel) (by decide) (Nat.le_of_ble_eq_true rfl) (Nat.le_of_ble_eq_true rfl) dX1_init_44 (fun q5 c5 H hK hP hD hS => ?_)
  have hP : va_P D vwCl [(h0, .inr (1, [.ref q1, .ref q2, .int (nI 2), .int 0, .ref q3, .ref q4, .null, .null, .null, .null, .null, .null])), (q1, .inl (c1, 64, .inl m_z)), (q2, .inl (c2, 64, .inl m_z)), (q3, .inl (c3, 64, .inr (.inl x_z))), (q4, .inl (c4, 64, .inl m_z)), (q5, .inl (c5, 64, .inr (.inl x_z)))] H := hP
  have hD : va_D A [(h0, .inr (1, [.ref q1, .ref q2, .int (nI 2), .int 0, .ref q3, .ref q4, .null, .null, .null, .null, .null, .null])), (q1, .inl (c1, 64, .inl m_z)), (q2, .inl (c2, 64, .inl m_z)), (q3, .inl (c3, 64, .inr (.inl x_z))), (q4, .inl (c4, 64, .inl m_z)), (q5, .inl (c5, 64, .inr (.inl x_z)))] := hD
  refine W.widen (k := 5) (n := 320) (by omega) (by omega) ?_
  refine va_putF (D := D) (ci := 1) (v := .ref q5) (ty := .array .long) (C := RX1) (T := TX1) (N := 12) hx hb hts in_X1 tyX1 tyX1_ok nmX1 hown hK hP hD hS 0 rfl rfl 6 (by decide) (hts _ q108) (fun _ h9 => h9) rfl hin rfl (by decide +kernel) rfl rfl (Nat.le_of_ble_eq_true rfl) dX1_init_46 (fun H locs hP hD hS => ?_)
  have hP : va_P D vwCl [(h0, .inr (1, [.ref q1, .ref q2, .int (nI 2), .int 0, .ref q3, .ref q4, .ref q5, .null, .null, .null, .null, .null])), (q1, .inl (c1, 64, .inl m_z)), (q2, .inl (c2, 64, .inl m_z)), (q3, .inl (c3, 64, .inr (.inl x_z))), (q4, .inl (c4, 64, .inl m_z)), (q5, .inl (c5, 64, .inr (.inl x_z)))] H := hP
  have hD : va_D A [(h0, .inr (1, [.ref q1, .ref q2, .int (nI 2), .int 0, .ref q3, .ref q4, .ref q5, .null, .null, .null, .null, .null])), (q1, .inl (c1, 64, .inl m_z)), (q2, .inl (c2, 64, .inl m_z)), (q3, .inl (c3, 64, .inr (.inl x_z))), (q4, .inl (c4, 64, .inl m_z)), (q5, .inl (c5, 64, .inr (.inl x_z)))] := hD
  refine lv_aload_n hx hb dX1_init_49 rfl (lv_at hl 0 rfl) ?_
  refine lv_bipush (v := 64) hx hb dX1_init_50 (by decide +kernel) ?_
  refine va_newa (atype := .boolean) (ty := .boolean) (N' := 64) (a0 := (64, .inl m_z)) hx hb (hts _ q140) rfl hK hP hD hS hA (fun _ => rfl) (by decide +kernel) (by decide +kernel) (by decide) (Nat.le_of_ble_eq_true rfl) (Nat.le_of_ble_eq_true rfl) dX1_init_52 (fun q6 c6 H hK hP hD hS => ?_)
  have hP : va_P D vwCl [(h0, .inr (1, [.ref q1, .ref q2, .int (nI 2), .int 0, .ref q3, .ref q4, .ref q5, .null, .null, .null, .null, .null])), (q1, .inl (c1, 64, .inl m_z)), (q2, .inl (c2, 64, .inl m_z)), (q3, .inl (c3, 64, .inr (.inl x_z))), (q4, .inl (c4, 64, .inl m_z)), (q5, .inl (c5, 64, .inr (.inl x_z))), (q6, .inl (c6, 64, .inl m_z))] H := hP
  have hD : va_D A [(h0, .inr (1, [.ref q1, .ref q2, .int (nI 2), .int 0, .ref q3, .ref q4, .ref q5, .null, .null, .null, .null, .null])), (q1, .inl (c1, 64, .inl m_z)), (q2, .inl (c2, 64, .inl m_z)), (q3, .inl (c3, 64, .inr (.inl x_z))), (q4, .inl (c4, 64, .inl m_z)), (q5, .inl (c5, 64, .inr (.inl x_z))), (q6, .inl (c6, 64, .inl m_z))] := hD
  refine W.widen (k := 6) (n := 384) (by omega) (by omega) ?_
  refine va_putF (D := D) (ci := 1) (v := .ref q6) (ty := .array .boolean) (C := RX1) (T := TX1) (N := 12) hx hb hts in_X1 tyX1 tyX1_ok nmX1 hown hK hP hD hS 0 rfl rfl 7 (by decide) (hts _ q109) (fun _ h9 => h9) rfl hin rfl (by decide +kernel) rfl rfl (Nat.le_of_ble_eq_true rfl) dX1_init_54 (fun H locs hP hD hS => ?_)
  have hP : va_P D vwCl [(h0, .inr (1, [.ref q1, .ref q2, .int (nI 2), .int 0, .ref q3, .ref q4, .ref q5, .ref q6, .null, .null, .null, .null])), (q1, .inl (c1, 64, .inl m_z)), (q2, .inl (c2, 64, .inl m_z)), (q3, .inl (c3, 64, .inr (.inl x_z))), (q4, .inl (c4, 64, .inl m_z)), (q5, .inl (c5, 64, .inr (.inl x_z))), (q6, .inl (c6, 64, .inl m_z))] H := hP
  have hD : va_D A [(h0, .inr (1, [.ref q1, .ref q2, .int (nI 2), .int 0, .ref q3, .ref q4, .ref q5, .ref q6, .null, .null, .null, .null])), (q1, .inl (c1, 64, .inl m_z)), (q2, .inl (c2, 64, .inl m_z)), (q3, .inl (c3, 64, .inr (.inl x_z))), (q4, .inl (c4, 64, .inl m_z)), (q5, .inl (c5, 64, .inr (.inl x_z))), (q6, .inl (c6, 64, .inl m_z))] := hD
  refine lv_aload_n hx hb dX1_init_57 rfl (lv_at hl 0 rfl) ?_
  refine lv_bipush (v := 64) hx hb dX1_init_58 (by decide +kernel) ?_
  refine va_newa (atype := .boolean) (ty := .boolean) (N' := 64) (a0 := (64, .inl m_z)) hx hb (hts _ q140) rfl hK hP hD hS hA (fun _ => rfl) (by decide +kernel) (by decide +kernel) (by decide) (Nat.le_of_ble_eq_true rfl) (Nat.le_of_ble_eq_true rfl) dX1_init_60 (fun q7 c7 H hK hP hD hS => ?_)
  have hP : va_P D vwCl [(h0, .inr (1, [.ref q1, .ref q2, .int (nI 2), .int 0, .ref q3, .ref q4, .ref q5, .ref q6, .null, .null, .null, .null])), (q1, .inl (c1, 64, .inl m_z)), (q2, .inl (c2, 64, .inl m_z)), (q3, .inl (c3, 64, .inr (.inl x_z))), (q4, .inl (c4, 64, .inl m_z)), (q5, .inl (c5, 64, .inr (.inl x_z))), (q6, .inl (c6, 64, .inl m_z)), (q7, .inl (c7, 64, .inl m_z))] H := hP
  have hD : va_D A [(h0, .inr (1, [.ref q1, .ref q2, .int (nI 2), .int 0, .ref q3, .ref q4, .ref q5, .ref q6, .null, .null, .null, .null])), (q1, .inl (c1, 64, .inl m_z)), (q2, .inl (c2, 64, .inl m_z)), (q3, .inl (c3, 64, .inr (.inl x_z))), (q4, .inl (c4, 64, .inl m_z)), (q5, .inl (c5, 64, .inr (.inl x_z))), (q6, .inl (c6, 64, .inl m_z)), (q7, .inl (c7, 64, .inl m_z))] := hD
  refine W.widen (k := 7) (n := 448) (by omega) (by omega) ?_
  refine va_putF (D := D) (ci := 1) (v := .ref q7) (ty := .array .boolean) (C := RX1) (T := TX1) (N := 12) hx hb hts in_X1 tyX1 tyX1_ok nmX1 hown hK hP hD hS 0 rfl rfl 8 (by decide) (hts _ q110) (fun _ h9 => h9) rfl hin rfl (by decide +kernel) rfl rfl (Nat.le_of_ble_eq_true rfl) dX1_init_62 (fun H locs hP hD hS => ?_)
  have hP : va_P D vwCl [(h0, .inr (1, [.ref q1, .ref q2, .int (nI 2), .int 0, .ref q3, .ref q4, .ref q5, .ref q6, .ref q7, .null, .null, .null])), (q1, .inl (c1, 64, .inl m_z)), (q2, .inl (c2, 64, .inl m_z)), (q3, .inl (c3, 64, .inr (.inl x_z))), (q4, .inl (c4, 64, .inl m_z)), (q5, .inl (c5, 64, .inr (.inl x_z))), (q6, .inl (c6, 64, .inl m_z)), (q7, .inl (c7, 64, .inl m_z))] H := hP
  have hD : va_D A [(h0, .inr (1, [.ref q1, .ref q2, .int (nI 2), .int 0, .ref q3, .ref q4, .ref q5, .ref q6, .ref q7, .null, .null, .null])), (q1, .inl (c1, 64, .inl m_z)), (q2, .inl (c2, 64, .inl m_z)), (q3, .inl (c3, 64, .inr (.inl x_z))), (q4, .inl (c4, 64, .inl m_z)), (q5, .inl (c5, 64, .inr (.inl x_z))), (q6, .inl (c6, 64, .inl m_z)), (q7, .inl (c7, 64, .inl m_z))] := hD
  refine lv_aload_n hx hb dX1_init_65 rfl (lv_at hl 0 rfl) ?_
  refine lv_bipush (v := 8) hx hb dX1_init_66 (by decide +kernel) ?_
  refine va_newa (atype := .boolean) (ty := .boolean) (N' := 8) (a0 := (8, .inl m_z)) hx hb (hts _ q140) rfl hK hP hD hS hA (fun _ => rfl) (by decide +kernel) (by decide +kernel) (by decide) (Nat.le_of_ble_eq_true rfl) (Nat.le_of_ble_eq_true rfl) dX1_init_68 (fun q8 c8 H hK hP hD hS => ?_)
  have hP : va_P D vwCl [(h0, .inr (1, [.ref q1, .ref q2, .int (nI 2), .int 0, .ref q3, .ref q4, .ref q5, .ref q6, .ref q7, .null, .null, .null])), (q1, .inl (c1, 64, .inl m_z)), (q2, .inl (c2, 64, .inl m_z)), (q3, .inl (c3, 64, .inr (.inl x_z))), (q4, .inl (c4, 64, .inl m_z)), (q5, .inl (c5, 64, .inr (.inl x_z))), (q6, .inl (c6, 64, .inl m_z)), (q7, .inl (c7, 64, .inl m_z)), (q8, .inl (c8, 8, .inl m_z))] H := hP
  have hD : va_D A [(h0, .inr (1, [.ref q1, .ref q2, .int (nI 2), .int 0, .ref q3, .ref q4, .ref q5, .ref q6, .ref q7, .null, .null, .null])), (q1, .inl (c1, 64, .inl m_z)), (q2, .inl (c2, 64, .inl m_z)), (q3, .inl (c3, 64, .inr (.inl x_z))), (q4, .inl (c4, 64, .inl m_z)), (q5, .inl (c5, 64, .inr (.inl x_z))), (q6, .inl (c6, 64, .inl m_z)), (q7, .inl (c7, 64, .inl m_z)), (q8, .inl (c8, 8, .inl m_z))] := hD
  refine W.widen (k := 8) (n := 456) (by omega) (by omega) ?_
  refine va_putF (D := D) (ci := 1) (v := .ref q8) (ty := .array .boolean) (C := RX1) (T := TX1) (N := 12) hx hb hts in_X1 tyX1 tyX1_ok nmX1 hown hK hP hD hS 0 rfl rfl 9 (by decide) (hts _ q111) (fun _ h9 => h9) rfl hin rfl (by decide +kernel) rfl rfl (Nat.le_of_ble_eq_true rfl) dX1_init_70 (fun H locs hP hD hS => ?_)
  have hP : va_P D vwCl [(h0, .inr (1, [.ref q1, .ref q2, .int (nI 2), .int 0, .ref q3, .ref q4, .ref q5, .ref q6, .ref q7, .ref q8, .null, .null])), (q1, .inl (c1, 64, .inl m_z)), (q2, .inl (c2, 64, .inl m_z)), (q3, .inl (c3, 64, .inr (.inl x_z))), (q4, .inl (c4, 64, .inl m_z)), (q5, .inl (c5, 64, .inr (.inl x_z))), (q6, .inl (c6, 64, .inl m_z)), (q7, .inl (c7, 64, .inl m_z)), (q8, .inl (c8, 8, .inl m_z))] H := hP
  have hD : va_D A [(h0, .inr (1, [.ref q1, .ref q2, .int (nI 2), .int 0, .ref q3, .ref q4, .ref q5, .ref q6, .ref q7, .ref q8, .null, .null])), (q1, .inl (c1, 64, .inl m_z)), (q2, .inl (c2, 64, .inl m_z)), (q3, .inl (c3, 64, .inr (.inl x_z))), (q4, .inl (c4, 64, .inl m_z)), (q5, .inl (c5, 64, .inr (.inl x_z))), (q6, .inl (c6, 64, .inl m_z)), (q7, .inl (c7, 64, .inl m_z)), (q8, .inl (c8, 8, .inl m_z))] := hD
  refine lv_aload_n hx hb dX1_init_73 rfl (lv_at hl 0 rfl) ?_
  refine lv_bipush (v := 64) hx hb dX1_init_74 (by decide +kernel) ?_
  refine va_newa (atype := .long) (ty := .long) (N' := 64) (a0 := (64, .inr (.inl x_z))) hx hb (hts _ q38) rfl hK hP hD hS hA (fun _ => rfl) (by decide +kernel) (by decide +kernel) (by decide) (Nat.le_of_ble_eq_true rfl) (Nat.le_of_ble_eq_true rfl) dX1_init_76 (fun q9 c9 H hK hP hD hS => ?_)
  have hP : va_P D vwCl [(h0, .inr (1, [.ref q1, .ref q2, .int (nI 2), .int 0, .ref q3, .ref q4, .ref q5, .ref q6, .ref q7, .ref q8, .null, .null])), (q1, .inl (c1, 64, .inl m_z)), (q2, .inl (c2, 64, .inl m_z)), (q3, .inl (c3, 64, .inr (.inl x_z))), (q4, .inl (c4, 64, .inl m_z)), (q5, .inl (c5, 64, .inr (.inl x_z))), (q6, .inl (c6, 64, .inl m_z)), (q7, .inl (c7, 64, .inl m_z)), (q8, .inl (c8, 8, .inl m_z)), (q9, .inl (c9, 64, .inr (.inl x_z)))] H := hP
  have hD : va_D A [(h0, .inr (1, [.ref q1, .ref q2, .int (nI 2), .int 0, .ref q3, .ref q4, .ref q5, .ref q6, .ref q7, .ref q8, .null, .null])), (q1, .inl (c1, 64, .inl m_z)), (q2, .inl (c2, 64, .inl m_z)), (q3, .inl (c3, 64, .inr (.inl x_z))), (q4, .inl (c4, 64, .inl m_z)), (q5, .inl (c5, 64, .inr (.inl x_z))), (q6, .inl (c6, 64, .inl m_z)), (q7, .inl (c7, 64, .inl m_z)), (q8, .inl (c8, 8, .inl m_z)), (q9, .inl (c9, 64, .inr (.inl x_z)))] := hD
  refine W.widen (k := 9) (n := 520) (by omega) (by omega) ?_
  refine va_putF (D := D) (ci := 1) (v := .ref q9) (ty := .array .long) (C := RX1) (T := TX1) (N := 12) hx hb hts in_X1 tyX1 tyX1_ok nmX1 hown hK hP hD hS 0 rfl rfl 10 (by decide) (hts _ q112) (fun _ h9 => h9) rfl hin rfl (by decide +kernel) rfl rfl (Nat.le_of_ble_eq_true rfl) dX1_init_78 (fun H locs hP hD hS => ?_)
  have hP : va_P D vwCl [(h0, .inr (1, [.ref q1, .ref q2, .int (nI 2), .int 0, .ref q3, .ref q4, .ref q5, .ref q6, .ref q7, .ref q8, .ref q9, .null])), (q1, .inl (c1, 64, .inl m_z)), (q2, .inl (c2, 64, .inl m_z)), (q3, .inl (c3, 64, .inr (.inl x_z))), (q4, .inl (c4, 64, .inl m_z)), (q5, .inl (c5, 64, .inr (.inl x_z))), (q6, .inl (c6, 64, .inl m_z)), (q7, .inl (c7, 64, .inl m_z)), (q8, .inl (c8, 8, .inl m_z)), (q9, .inl (c9, 64, .inr (.inl x_z)))] H := hP
  have hD : va_D A [(h0, .inr (1, [.ref q1, .ref q2, .int (nI 2), .int 0, .ref q3, .ref q4, .ref q5, .ref q6, .ref q7, .ref q8, .ref q9, .null])), (q1, .inl (c1, 64, .inl m_z)), (q2, .inl (c2, 64, .inl m_z)), (q3, .inl (c3, 64, .inr (.inl x_z))), (q4, .inl (c4, 64, .inl m_z)), (q5, .inl (c5, 64, .inr (.inl x_z))), (q6, .inl (c6, 64, .inl m_z)), (q7, .inl (c7, 64, .inl m_z)), (q8, .inl (c8, 8, .inl m_z)), (q9, .inl (c9, 64, .inr (.inl x_z)))] := hD
  refine lv_aload_n hx hb dX1_init_81 rfl (lv_at hl 0 rfl) ?_
  refine lv_bipush (v := 64) hx hb dX1_init_82 (by decide +kernel) ?_
  refine va_newa (atype := .int) (ty := .int) (N' := 64) (a0 := (64, .inl m_z)) hx hb (hts _ q139) rfl hK hP hD hS hA (fun _ => rfl) (by decide +kernel) (by decide +kernel) (by decide) (Nat.le_of_ble_eq_true rfl) (Nat.le_of_ble_eq_true rfl) dX1_init_84 (fun q10 c10 H hK hP hD hS => ?_)
  have hP : va_P D vwCl [(h0, .inr (1, [.ref q1, .ref q2, .int (nI 2), .int 0, .ref q3, .ref q4, .ref q5, .ref q6, .ref q7, .ref q8, .ref q9, .null])), (q1, .inl (c1, 64, .inl m_z)), (q2, .inl (c2, 64, .inl m_z)), (q3, .inl (c3, 64, .inr (.inl x_z))), (q4, .inl (c4, 64, .inl m_z)), (q5, .inl (c5, 64, .inr (.inl x_z))), (q6, .inl (c6, 64, .inl m_z)), (q7, .inl (c7, 64, .inl m_z)), (q8, .inl (c8, 8, .inl m_z)), (q9, .inl (c9, 64, .inr (.inl x_z))), (q10, .inl (c10, 64, .inl m_z))] H := hP
  have hD : va_D A [(h0, .inr (1, [.ref q1, .ref q2, .int (nI 2), .int 0, .ref q3, .ref q4, .ref q5, .ref q6, .ref q7, .ref q8, .ref q9, .null])), (q1, .inl (c1, 64, .inl m_z)), (q2, .inl (c2, 64, .inl m_z)), (q3, .inl (c3, 64, .inr (.inl x_z))), (q4, .inl (c4, 64, .inl m_z)), (q5, .inl (c5, 64, .inr (.inl x_z))), (q6, .inl (c6, 64, .inl m_z)), (q7, .inl (c7, 64, .inl m_z)), (q8, .inl (c8, 8, .inl m_z)), (q9, .inl (c9, 64, .inr (.inl x_z))), (q10, .inl (c10, 64, .inl m_z))] := hD
  refine W.widen (k := 10) (n := 584) (by omega) (by omega) ?_
  refine va_putF (D := D) (ci := 1) (v := .ref q10) (ty := .array .int) (C := RX1) (T := TX1) (N := 12) hx hb hts in_X1 tyX1 tyX1_ok nmX1 hown hK hP hD hS 0 rfl rfl 11 (by decide) (hts _ q113) (fun _ h9 => h9) rfl hin rfl (by decide +kernel) rfl rfl (Nat.le_of_ble_eq_true rfl) dX1_init_86 (fun H locs hP hD hS => ?_)
  have hP : va_P D vwCl [(h0, .inr (1, [.ref q1, .ref q2, .int (nI 2), .int 0, .ref q3, .ref q4, .ref q5, .ref q6, .ref q7, .ref q8, .ref q9, .ref q10])), (q1, .inl (c1, 64, .inl m_z)), (q2, .inl (c2, 64, .inl m_z)), (q3, .inl (c3, 64, .inr (.inl x_z))), (q4, .inl (c4, 64, .inl m_z)), (q5, .inl (c5, 64, .inr (.inl x_z))), (q6, .inl (c6, 64, .inl m_z)), (q7, .inl (c7, 64, .inl m_z)), (q8, .inl (c8, 8, .inl m_z)), (q9, .inl (c9, 64, .inr (.inl x_z))), (q10, .inl (c10, 64, .inl m_z))] H := hP
  have hD : va_D A [(h0, .inr (1, [.ref q1, .ref q2, .int (nI 2), .int 0, .ref q3, .ref q4, .ref q5, .ref q6, .ref q7, .ref q8, .ref q9, .ref q10])), (q1, .inl (c1, 64, .inl m_z)), (q2, .inl (c2, 64, .inl m_z)), (q3, .inl (c3, 64, .inr (.inl x_z))), (q4, .inl (c4, 64, .inl m_z)), (q5, .inl (c5, 64, .inr (.inl x_z))), (q6, .inl (c6, 64, .inl m_z)), (q7, .inl (c7, 64, .inl m_z)), (q8, .inl (c8, 8, .inl m_z)), (q9, .inl (c9, 64, .inr (.inl x_z))), (q10, .inl (c10, 64, .inl m_z))] := hD
  exact W.vret hx hb hr (fun t ht hW => ⟨⟨m_new, rfl, rfl, (fun k => match k with | 0 => q1 | 1 => q2 | 2 => q3 | 3 => q4 | 4 => q5 | 5 => q6 | 6 => q7 | 7 => q8 | 8 => q9 | _ => q10), (fun k => match k with | 0 => c1 | 1 => c2 | 2 => c3 | 3 => c4 | 4 => c5 | 5 => c6 | 6 => c7 | 7 => c8 | 8 => c9 | _ => c10), by rw [ht]; exact hP, va_K.moved hW.alike hK, hD⟩, hS.F ht⟩) hS.2.2 dX1_init_89 hlk
end
section
/-! walks in a graph G on the places below n: plain Lean, no program in sight -/
/-- there is a walk of exactly k roads from a to b that costs z -/
def wk (n : Nat) (G : Nat → Nat → Option Int) : Nat → Nat → Nat → Int → Prop
  | 0, a, b, z => a = b ∧ z = 0
  | k + 1, a, b, z => ∃ (q : Nat) (x w : Int), q < n ∧ wk n G k a q x ∧ G q b = some w ∧ z = x + w
def rch (n : Nat) (G : Nat → Nat → Option Int) (a b : Nat) : Prop := ∃ k z, wk n G k a b z
/-- lexicographic: cost first, then roads -/
def lx (z : Int) (k : Nat) (z2 : Int) (k2 : Nat) : Prop := z < z2 ∨ (z = z2 ∧ k ≤ k2)
theorem wk_app {n : Nat} {G : Nat → Nat → Option Int} {j a q : Nat} {x : Int} (h1 : wk n G j a q x) : ∀ {k b : Nat} {y : Int}, wk n G k q b y → wk n G (j + k) a b (x + y) := by
  intro k
  induction k with
  | zero =>
    intro b y h
    obtain ⟨h2, h3⟩ := h
    subst h2; subst h3
    rw [Int.add_zero]
    exact h1
  | succ k ih =>
    intro b y h
    obtain ⟨r, z, w, hr, hw, hg, hy⟩ := h
    exact ⟨r, x + z, w, hr, ih hw, hg, by omega⟩
theorem rch_trans {n : Nat} {G : Nat → Nat → Option Int} {a b c : Nat} (h1 : rch n G a b) (h2 : rch n G b c) : rch n G a c := by
  obtain ⟨k1, z1, w1⟩ := h1
  obtain ⟨k2, z2, w2⟩ := h2
  exact ⟨k1 + k2, z1 + z2, wk_app w1 w2⟩
theorem rch_rfl {n : Nat} {G : Nat → Nat → Option Int} {a : Nat} : rch n G a a := ⟨0, 0, rfl, rfl⟩
/-- paths by splitting at the highest place between: cost z, k roads, places between below m -/
def pw (G : Nat → Nat → Option Int) : Nat → Nat → Nat → Int → Nat → Prop
  | 0, a, b, z, k => (a = b ∧ z = 0 ∧ k = 0) ∨ (G a b = some z ∧ k = 1)
  | m + 1, a, b, z, k => pw G m a b z k ∨ ∃ z1 k1 z2 k2, pw G m a m z1 k1 ∧ pw G m m b z2 k2 ∧ z = z1 + z2 ∧ k = k1 + k2
theorem pw_len {G : Nat → Nat → Option Int} : ∀ (m : Nat) {a b : Nat} {z : Int} {k : Nat}, pw G m a b z k → k ≤ 2 ^ m := by
  intro m
  induction m with
  | zero =>
    intro a b z k h
    rcases h with ⟨_, _, h⟩ | ⟨_, h⟩ <;> simp <;> omega
  | succ m ih =>
    intro a b z k h
    rw [Nat.pow_succ]
    rcases h with h | ⟨z1, k1, z2, k2, h1, h2, _, hk⟩
    · have := ih h; omega
    · have e1 := ih h1
      have e2 := ih h2
      omega
theorem pw_mono {G : Nat → Nat → Option Int} {a b : Nat} {z : Int} {k m : Nat} (h : pw G m a b z k) : ∀ j, pw G (m + j) a b z k := by
  intro j
  induction j with
  | zero => exact h
  | succ j ih => exact Or.inl ih
theorem pw_wk {n : Nat} {G : Nat → Nat → Option Int} : ∀ (m : Nat), m ≤ n → ∀ {a b : Nat} {z : Int} {k : Nat}, a < n → pw G m a b z k → wk n G k a b z := by
  intro m
  induction m with
  | zero =>
    intro _ a b z k ha h
    rcases h with ⟨h1, h2, h3⟩ | ⟨h1, h2⟩
    · subst h3; exact ⟨h1, h2⟩
    · subst h2
      exact ⟨a, 0, z, ha, ⟨rfl, rfl⟩, h1, by omega⟩
  | succ m ih =>
    intro hm a b z k ha h
    rcases h with h | ⟨z1, k1, z2, k2, h1, h2, hz, hk⟩
    · exact ih (by omega) ha h
    · subst hz; subst hk
      exact wk_app (ih (by omega) ha h1) (ih (by omega) (by omega) h2)
/-- a walk of k + 1 roads whose places between are below m -/
def rw_ (G : Nat → Nat → Option Int) (m : Nat) : Nat → Nat → Nat → Int → Prop
  | 0, a, b, z => G a b = some z
  | k + 1, a, b, z => ∃ (q : Nat) (x w : Int), q < m ∧ rw_ G m k a q x ∧ G q b = some w ∧ z = x + w
theorem rw_wk {n : Nat} {G : Nat → Nat → Option Int} {m : Nat} (hm : m ≤ n) : ∀ {k a b : Nat} {z : Int}, a < n → rw_ G m k a b z → wk n G (k + 1) a b z := by
  intro k
  induction k with
  | zero =>
    intro a b z ha h
    exact ⟨a, 0, z, ha, ⟨rfl, rfl⟩, h, by omega⟩
  | succ k ih =>
    intro a b z ha h
    obtain ⟨q, x, w, hq, h1, h2, h3⟩ := h
    exact ⟨q, x, w, by omega, ih ha h1, h2, h3⟩
theorem wk_rw {n : Nat} {G : Nat → Nat → Option Int} : ∀ {k a b : Nat} {z : Int}, wk n G (k + 1) a b z → rw_ G n k a b z := by
  intro k
  induction k with
  | zero =>
    intro a b z h
    obtain ⟨q, x, w, hq, ⟨h1, h2⟩, h3, h4⟩ := h
    subst h1; subst h2
    show G a b = some z
    rw [h3, h4, Int.zero_add]
  | succ k ih =>
    intro a b z h
    obtain ⟨q, x, w, hq, h1, h3, h4⟩ := h
    exact ⟨q, x, w, hq, ih h1, h3, h4⟩
theorem rw_split {G : Nat → Nat → Option Int} {m : Nat} : ∀ {k a b : Nat} {z : Int}, rw_ G (m + 1) k a b z → rw_ G m k a b z ∨ ∃ k1 k2 z1 z2, rw_ G (m + 1) k1 a m z1 ∧ rw_ G m k2 m b z2 ∧ k1 + k2 + 1 = k ∧ z = z1 + z2 := by
  intro k
  induction k with
  | zero => intro a b z h; exact Or.inl h
  | succ k ih =>
    intro a b z h
    obtain ⟨q, x, w, hq, h1, h2, h3⟩ := h
    by_cases hqm : q = m
    · subst hqm
      exact Or.inr ⟨k, 0, x, w, h1, h2, by omega, h3⟩
    · rcases ih h1 with h4 | ⟨k1, k2, z1, z2, g1, g2, g3, g4⟩
      · exact Or.inl ⟨q, x, w, by omega, h4, h2, h3⟩
      · exact Or.inr ⟨k1, k2 + 1, z1, z2 + w, g1, ⟨q, z2, w, by omega, g2, h2, rfl⟩, by omega, by omega⟩
/-- a place on a round below 0, on the way from a to b -/
def ng (n : Nat) (G : Nat → Nat → Option Int) (m a b : Nat) : Prop := ∃ u z k, u < n ∧ pw G m u u z k ∧ z < 0 ∧ rch n G a u ∧ rch n G u b
theorem ng_lift {n : Nat} {G : Nat → Nat → Option Int} {m a b a' b' : Nat} (h : ng n G m a b) (h1 : rch n G a' a) (h2 : rch n G b b') : ng n G (m + 1) a' b' := by
  obtain ⟨u, z, k, hu, hp, hz, ha, hb⟩ := h
  exact ⟨u, z, k, hu, Or.inl hp, hz, rch_trans h1 ha, rch_trans hb h2⟩
theorem ng_ends {n : Nat} {G : Nat → Nat → Option Int} {m a b a' b' : Nat} (h : ng n G m a b) (h1 : rch n G a' a) (h2 : rch n G b b') : ng n G m a' b' := by
  obtain ⟨u, z, k, hu, hp, hz, ha, hb⟩ := h
  exact ⟨u, z, k, hu, hp, hz, rch_trans h1 ha, rch_trans hb h2⟩
theorem x_claim {n : Nat} {G : Nat → Nat → Option Int} : ∀ (m : Nat), m ≤ n → ∀ (k a b : Nat) (z : Int), a < n → rw_ G m k a b z → ∃ z' k', pw G m a b z' k' ∧ (lx z' k' z (k + 1) ∨ ng n G m a b) := by
  intro m
  induction m with
  | zero =>
    intro _ k a b z _ h
    cases k with
    | zero => exact ⟨z, 1, Or.inr ⟨h, rfl⟩, Or.inl (Or.inr ⟨rfl, Nat.le_refl _⟩)⟩
    | succ k =>
      obtain ⟨q, _, _, hq, _⟩ := h
      exact absurd hq (Nat.not_lt_zero q)
  | succ m ihm =>
    intro hm k
    induction k using Nat.strongRecOn with
    | ind k ihk =>
      intro a b z ha h
      rcases rw_split h with h | ⟨k1, k2, z1, z2, g1, g2, g3, g4⟩
      · obtain ⟨z', k', hp, h3⟩ := ihm (by omega) k a b z ha h
        refine ⟨z', k', Or.inl hp, ?_⟩
        rcases h3 with h3 | h3
        · exact Or.inl h3
        · exact Or.inr (ng_lift h3 rch_rfl rch_rfl)
      · obtain ⟨y1, j1, p1, e1⟩ := ihk k1 (by omega) a m z1 ha g1
        obtain ⟨y2, j2, p2, e2⟩ := ihm (by omega) k2 m b z2 (by omega) g2
        have r1 : rch n G a m := ⟨_, _, rw_wk (by omega) ha g1⟩
        have r2 : rch n G m b := ⟨_, _, rw_wk (by omega) (by omega) g2⟩
        have neg1 : ng n G (m + 1) a m → ng n G (m + 1) a b := fun q => ng_ends q rch_rfl r2
        have neg2 : ng n G m m b → ng n G (m + 1) a b := fun q => ng_lift q r1 rch_rfl
        rcases p1 with p1 | ⟨x1, i1, x2, i2, q1, q2, hx, hi⟩
        · refine ⟨y1 + y2, j1 + j2, Or.inr ⟨y1, j1, y2, j2, p1, p2, rfl, rfl⟩, ?_⟩
          rcases e1 with e1 | e1
          · rcases e2 with e2 | e2
            · left
              unfold lx at e1 e2 ⊢
              omega
            · exact Or.inr (neg2 e2)
          · exact Or.inr (neg1 e1)
        · refine ⟨x1 + y2, i1 + j2, Or.inr ⟨x1, i1, y2, j2, q1, p2, rfl, rfl⟩, ?_⟩
          by_cases hx2 : x2 < 0
          · exact Or.inr ⟨m, x2, i2, by omega, Or.inl q2, hx2, r1, r2⟩
          · rcases e1 with e1 | e1
            · rcases e2 with e2 | e2
              · left
                unfold lx at e1 e2 ⊢
                omega
              · exact Or.inr (neg2 e2)
            · exact Or.inr (neg1 e1)
/-- every walk is beaten by a path, or there is a round below 0 on the way -/
theorem x_dom {n : Nat} {G : Nat → Nat → Option Int} {k a b : Nat} {z : Int} (ha : a < n) (h : wk n G k a b z) : ∃ z' k', pw G n a b z' k' ∧ (lx z' k' z k ∨ ng n G n a b) := by
  cases k with
  | zero =>
    obtain ⟨h1, h2⟩ := h
    refine ⟨0, 0, ?_, Or.inl (Or.inr ⟨h2.symm, Nat.le_refl _⟩)⟩
    have h3 : pw G 0 a b 0 0 := Or.inl ⟨h1, rfl, rfl⟩
    have h4 := pw_mono h3 n
    rw [Nat.zero_add] at h4
    exact h4
  | succ k => exact x_claim n (Nat.le_refl n) k a b z ha (wk_rw h)
/-- below any bound from a to b: a round below 0 on the way -/
def unb (n : Nat) (G : Nat → Nat → Option Int) (a b : Nat) : Prop := ∃ v, v < n ∧ rch n G a v ∧ rch n G v b ∧ ∃ k z, wk n G k v v z ∧ z < 0
/-- the cheapest walk, and of these the shortest -/
def lmin (n : Nat) (G : Nat → Nat → Option Int) (a b : Nat) (z : Int) (k : Nat) : Prop := wk n G k a b z ∧ ∀ z2 k2, wk n G k2 a b z2 → lx z k z2 k2
theorem lmin_uniq {n : Nat} {G : Nat → Nat → Option Int} {a b : Nat} {z z2 : Int} {k k2 : Nat} (h1 : lmin n G a b z k) (h2 : lmin n G a b z2 k2) : z = z2 ∧ k = k2 := by
  have e1 := h1.2 _ _ h2.1
  have e2 := h2.2 _ _ h1.1
  unfold lx at e1 e2
  omega
theorem ng_unb {n : Nat} {G : Nat → Nat → Option Int} {a b : Nat} (h : ng n G n a b) : unb n G a b := by
  obtain ⟨u, z, k, hu, hp, hz, h1, h2⟩ := h
  exact ⟨u, hu, h1, h2, k, z, pw_wk n (Nat.le_refl n) hu hp, hz⟩
-- pigeons
theorem pigeon : ∀ (n : Nat) (f : Nat → Nat), (∀ i, i ≤ n → f i < n) → ∃ i j, i < j ∧ j ≤ n ∧ f i = f j := by
  intro n
  induction n with
  | zero => intro f h; exact absurd (h 0 (Nat.le_refl 0)) (Nat.not_lt_zero _)
  | succ n ih =>
    intro f h
    by_cases hc : ∃ i, i < n + 1 ∧ f i = f (n + 1)
    · obtain ⟨i, h1, h2⟩ := hc
      exact ⟨i, n + 1, h1, Nat.le_refl _, h2⟩
    · have hne : ∀ i, i ≤ n → f i ≠ f (n + 1) := fun i hi q => hc ⟨i, by omega, q⟩
      -- the value n is sent to f (n + 1)
      obtain ⟨i, j, h1, h2, h3⟩ := ih (fun i => if f i = n then f (n + 1) else f i) (by
        intro i hi
        have e1 := h i (by omega)
        have e2 := h (n + 1) (Nat.le_refl _)
        have e3 := hne i hi
        show (if f i = n then f (n + 1) else f i) < n
        split <;> omega)
      refine ⟨i, j, h1, by omega, ?_⟩
      have a1 := hne i (by omega)
      have a2 := hne j (by omega)
      have h3 : (if f i = n then f (n + 1) else f i) = (if f j = n then f (n + 1) else f j) := h3
      split at h3 <;> split at h3 <;> omega
/-- a walk's places and its costs so far -/
theorem wk_seq {n : Nat} {G : Nat → Nat → Option Int} : ∀ {k a b : Nat} {z : Int}, a < n → b < n → wk n G k a b z → ∃ (f : Nat → Nat) (c : Nat → Int), f 0 = a ∧ f k = b ∧ c 0 = 0 ∧ c k = z ∧ (∀ i, i ≤ k → f i < n) ∧ ∀ i, i < k → G (f i) (f (i + 1)) = some (c (i + 1) - c i) := by
  intro k
  induction k with
  | zero =>
    intro a b z ha hb h
    obtain ⟨h1, h2⟩ := h
    exact ⟨fun _ => a, fun _ => 0, rfl, h1, rfl, h2.symm, fun _ _ => ha, fun i hi => absurd hi (Nat.not_lt_zero i)⟩
  | succ k ih =>
    intro a b z ha hb h
    obtain ⟨q, x, w, hq, h1, h2, h3⟩ := h
    obtain ⟨f, c, e1, e2, e3, e4, e5, e6⟩ := ih ha hq h1
    refine ⟨fun i => if i ≤ k then f i else b, fun i => if i ≤ k then c i else z, ?_, ?_, ?_, ?_, ?_, ?_⟩
    · show (if 0 ≤ k then f 0 else b) = a
      rw [if_pos (Nat.zero_le k), e1]
    · show (if k + 1 ≤ k then f (k + 1) else b) = b
      rw [if_neg (by omega)]
    · show (if 0 ≤ k then c 0 else z) = 0
      rw [if_pos (Nat.zero_le k), e3]
    · show (if k + 1 ≤ k then c (k + 1) else z) = z
      rw [if_neg (by omega)]
    · intro i _
      show (if i ≤ k then f i else b) < n
      split
      · exact e5 i (by omega)
      · exact hb
    · intro i hi
      show G (if i ≤ k then f i else b) (if i + 1 ≤ k then f (i + 1) else b) = some ((if i + 1 ≤ k then c (i + 1) else z) - (if i ≤ k then c i else z))
      rw [if_pos (show i ≤ k by omega), if_pos (show i ≤ k by omega)]
      by_cases hik : i + 1 ≤ k
      · rw [if_pos hik, if_pos hik]; exact e6 i (by omega)
      · rw [if_neg hik, if_neg hik]
        have : i = k := by omega
        subst this
        rw [e2, e4, h2, h3]
        congr 1
        omega
theorem seq_wk {n : Nat} {G : Nat → Nat → Option Int} {f : Nat → Nat} {c : Nat → Int} {k : Nat} (h5 : ∀ i, i ≤ k → f i < n) (h6 : ∀ i, i < k → G (f i) (f (i + 1)) = some (c (i + 1) - c i)) : ∀ (j i : Nat), i + j ≤ k → wk n G j (f i) (f (i + j)) (c (i + j) - c i) := by
  intro j
  induction j with
  | zero => intro i _; exact ⟨rfl, by show c i - c i = 0; omega⟩
  | succ j ih =>
    intro i hi
    refine ⟨f (i + j), c (i + j) - c i, c (i + j + 1) - c (i + j), h5 _ (by omega), ih i (by omega), h6 (i + j) (by omega), ?_⟩
    show c (i + (j + 1)) - c i = _
    rw [show i + (j + 1) = i + j + 1 by omega]
    omega
/-- a round below 0 of at most n roads, on the way -/
def ngM (n : Nat) (G : Nat → Nat → Option Int) (a b : Nat) : Prop := ∃ u k z, u < n ∧ k ≤ n ∧ wk n G k u u z ∧ z < 0 ∧ rch n G a u ∧ rch n G u b
theorem ngM_unb {n : Nat} {G : Nat → Nat → Option Int} {a b : Nat} (h : ngM n G a b) : unb n G a b := by
  obtain ⟨u, k, z, hu, _, hw, hz, h1, h2⟩ := h
  exact ⟨u, hu, h1, h2, k, z, hw, hz⟩
/-- every walk is beaten by one of fewer than n roads, or there is a round below 0 on the way -/
theorem m_cut {n : Nat} {G : Nat → Nat → Option Int} : ∀ (k : Nat) {a b : Nat} {z : Int}, a < n → b < n → wk n G k a b z → ∃ k' z', k' < n ∧ wk n G k' a b z' ∧ (lx z' k' z k ∨ ngM n G a b) := by
  intro k
  induction k using Nat.strongRecOn with
  | ind k ih =>
    intro a b z ha hb h
    by_cases hk : k < n
    · exact ⟨k, z, hk, h, Or.inl (Or.inr ⟨rfl, Nat.le_refl _⟩)⟩
    · obtain ⟨f, c, e1, e2, e3, e4, e5, e6⟩ := wk_seq ha hb h
      obtain ⟨i, j, hij, hjn, hf⟩ := pigeon n f (fun i hi => e5 i (by omega))
      have w1 := seq_wk (n := n) e5 e6 i 0 (by omega)
      have w2 := seq_wk (n := n) e5 e6 (j - i) i (by omega)
      have w3 := seq_wk (n := n) e5 e6 (k - j) j (by omega)
      rw [Nat.zero_add, e1, e3] at w1
      rw [show i + (j - i) = j by omega, ← hf] at w2
      rw [show j + (k - j) = k by omega, e2, e4, ← hf] at w3
      have w4 := wk_app w1 w3
      obtain ⟨k', z', g1, g2, g3⟩ := ih (i + (k - j)) (by omega) ha hb w4
      refine ⟨k', z', g1, g2, ?_⟩
      by_cases hneg : c j - c i < 0
      · exact Or.inr ⟨f i, j - i, c j - c i, e5 i (by omega), by omega, w2, hneg, ⟨_, _, w1⟩, ⟨_, _, w3⟩⟩
      · rcases g3 with g3 | g3
        · left
          unfold lx at g3 ⊢
          omega
        · exact Or.inr g3
theorem rch_short {n : Nat} {G : Nat → Nat → Option Int} {a b : Nat} (ha : a < n) (hb : b < n) (h : rch n G a b) : ∃ k z, k < n ∧ wk n G k a b z := by
  obtain ⟨k, z, hw⟩ := h
  obtain ⟨k', z', g1, g2, _⟩ := m_cut k ha hb hw
  exact ⟨k', z', g1, g2⟩
theorem neg_ngM {n : Nat} {G : Nat → Nat → Option Int} {v k : Nat} {z : Int} (hv : v < n) (h : wk n G k v v z) (hz : z < 0) : ngM n G v v := by
  obtain ⟨k', z', g1, g2, g3⟩ := m_cut k hv hv h
  rcases g3 with g3 | g3
  · refine ⟨v, k', z', hv, by omega, g2, ?_, rch_rfl, rch_rfl⟩
    unfold lx at g3
    omega
  · exact g3
end
section
/-! the class's sweep, as plain Lean: what best holds behind it -/
theorem NO_toInt : NO.toInt = 1152921504606846976 := by decide +kernel
theorem i64_add {x y : Int64} (h1 : -9223372036854775808 ≤ x.toInt + y.toInt) (h2 : x.toInt + y.toInt < 9223372036854775808) : (x + y).toInt = x.toInt + y.toInt := by
  rw [Int64.toInt_add, i64_bm h1 h2]
theorem ne_NO {x : Int64} (h : x.toInt < 1152921504606846976) : x ≠ NO := by
  intro q
  rw [q, NO_toInt] at h
  omega
theorem updL_s {f : Nat → Int64} {k : Nat} {x : Int64} : vp_updL f k x k = x := pk_uLs
theorem updL_n {f : Nat → Int64} {k j : Nat} {x : Int64} (h : j ≠ k) : vp_updL f k x j = f j := pk_uLn h
theorem x_copy_at (rd bs : Nat → Int64) : ∀ j, j < 64 → lp (x_copy rd) 0 64 bs j = rd j := by
  refine lp_inv0 (x_copy rd) (fun i f => ∀ j, j < i → f j = rd j) 64 bs (fun j h => absurd h (Nat.not_lt_zero j)) ?_
  intro i f _ h j hj
  unfold x_copy
  by_cases e : j = i
  · subst e; exact updL_s
  · rw [updL_n e]; exact h j (by omega)
theorem x_fill_at (f : Nat → Int64) : ∀ j, j < 64 → lp x_fill 0 64 f j = NO := by
  refine lp_inv0 x_fill (fun i f => ∀ j, j < i → f j = NO) 64 f (fun j h => absurd h (Nat.not_lt_zero j)) ?_
  intro i f _ h j hj
  unfold x_fill
  by_cases e : j = i
  · subst e; exact updL_s
  · rw [updL_n e]; exact h j (by omega)
theorem x_dia_at (f : Nat → Int64) (n : Nat) : ∀ a b, a < 8 → b < 8 → lp x_dia 0 n f (8 * a + b) = if a = b ∧ a < n ∧ 0 < f (8 * a + b) then 0 else f (8 * a + b) := by
  refine lp_inv0 x_dia (fun i g => ∀ a b, a < 8 → b < 8 → g (8 * a + b) = if a = b ∧ a < i ∧ 0 < f (8 * a + b) then 0 else f (8 * a + b)) n f (fun a b _ _ => by rw [if_neg (by omega)]) ?_
  intro i g _ h a b ha hb
  unfold x_dia
  by_cases hi : i < 8
  · have hii := h i i hi hi
    rw [if_neg (by omega)] at hii
    by_cases e : a = i ∧ b = i
    · rw [e.1, e.2]
      by_cases hp : 0 < f (8 * i + i)
      · rw [hii, if_pos hp, updL_s, if_pos ⟨rfl, Nat.lt_succ_self i, hp⟩]
      · rw [hii, if_neg hp, hii, if_neg (fun q => hp q.2.2)]
    · have hab := h a b ha hb
      have hne : 8 * a + b ≠ 8 * i + i := by omega
      have hsame : (a = b ∧ a < i + 1 ∧ 0 < f (8 * a + b)) ↔ (a = b ∧ a < i ∧ 0 < f (8 * a + b)) :=
        ⟨fun q => ⟨q.1, by omega, q.2.2⟩, fun q => ⟨q.1, by omega, q.2.2⟩⟩
      split
      · rw [updL_n hne, hab]; simp only [hsame]
      · rw [hab]; simp only [hsame]
  · have hab := h a b ha hb
    have hne : 8 * a + b ≠ 8 * i + i := by omega
    have hsame : (a = b ∧ a < i + 1 ∧ 0 < f (8 * a + b)) ↔ (a = b ∧ a < i ∧ 0 < f (8 * a + b)) :=
      ⟨fun q => ⟨q.1, by omega, q.2.2⟩, fun q => ⟨q.1, by omega, q.2.2⟩⟩
    split
    · rw [updL_n hne, hab]; simp only [hsame]
    · rw [hab]; simp only [hsame]
/-- a cell x of row a, with the first half and the cell y of the row between -/
def x_cell (first x y : Int64) : Int64 := if y ≠ NO ∧ first + y < x then first + y else x
theorem x_b_at (mm a n : Nat) (first : Int64) (g0 : Nat → Int64) (ha : a < 8) (hm : mm < 8) (hn : n ≤ 8) : ∀ a' b', a' < 8 → b' < 8 → lp (x_b mm a first) 0 n g0 (8 * a' + b') = if a' = a ∧ b' < n then x_cell first (g0 (8 * a' + b')) (g0 (8 * mm + b')) else g0 (8 * a' + b') := by
  refine lp_inv0 (x_b mm a first) (fun i g => ∀ a' b', a' < 8 → b' < 8 → g (8 * a' + b') = if a' = a ∧ b' < i then x_cell first (g0 (8 * a' + b')) (g0 (8 * mm + b')) else g0 (8 * a' + b')) n g0 (fun a' b' _ _ => by rw [if_neg (by omega)]) ?_
  intro b g hb h a' b' ha' hb'
  have hmb := h mm b hm (by omega)
  rw [if_neg (by omega)] at hmb
  have hab := h a b ha (by omega)
  rw [if_neg (by omega)] at hab
  unfold x_b
  rw [hmb, hab]
  by_cases e : a' = a ∧ b' = b
  · obtain ⟨e1, e2⟩ := e
    subst e1; subst e2
    rw [if_pos (show a' = a' ∧ b' < b' + 1 from ⟨rfl, Nat.lt_succ_self b'⟩)]
    unfold x_cell
    by_cases hc : g0 (8 * mm + b') ≠ NO ∧ first + g0 (8 * mm + b') < g0 (8 * a' + b')
    · rw [if_pos hc, if_pos hc, updL_s]
    · rw [if_neg hc, if_neg hc, hab]
  · have h2 := h a' b' ha' hb'
    have hne : 8 * a' + b' ≠ 8 * a + b := by omega
    have hsame : (a' = a ∧ b' < b + 1) ↔ (a' = a ∧ b' < b) := ⟨fun q => ⟨q.1, by omega⟩, fun q => ⟨q.1, by omega⟩⟩
    split
    · rw [updL_n hne, h2]; simp only [hsame]
    · rw [h2]; simp only [hsame]
theorem x_a_at (n mm a : Nat) (g : Nat → Int64) (ha : a < 8) (hm : mm < 8) (hn : n ≤ 8) : ∀ a' b', a' < 8 → b' < 8 → x_a n mm a g (8 * a' + b') = if a' = a ∧ b' < n ∧ g (8 * a + mm) ≠ NO then x_cell (g (8 * a + mm)) (g (8 * a' + b')) (g (8 * mm + b')) else g (8 * a' + b') := by
  intro a' b' ha' hb'
  unfold x_a
  by_cases h : g (8 * a + mm) = NO
  · rw [if_pos h, if_neg (fun q => q.2.2 h)]
  · rw [if_neg h, x_b_at mm a n _ g ha hm hn a' b' ha' hb']
    by_cases e : a' = a ∧ b' < n
    · rw [if_pos e, if_pos ⟨e.1, e.2, h⟩]
    · rw [if_neg e, if_neg (fun q => e ⟨q.1, q.2.1⟩)]
/-- a value that is no NO is a real walk's, and not too large -/
def Snd (n : Nat) (G : Nat → Nat → Option Int) (B : Int) (a b : Nat) (x : Int64) : Prop := x ≠ NO → (∃ (k : Nat) (z : Int), wk n G k a b z ∧ x.toInt = 1024 * z + (k : Int)) ∧ -B ≤ x.toInt ∧ x.toInt ≤ B
theorem Snd.mono {n : Nat} {G : Nat → Nat → Option Int} {B B' : Int} {a b : Nat} {x : Int64} (h : Snd n G B a b x) (hB : B ≤ B') : Snd n G B' a b x := by
  intro q
  obtain ⟨h1, h2, h3⟩ := h q
  exact ⟨h1, by omega, by omega⟩
/-- what a cell is behind the round mm, of what it was (f) -/
def Rel (n : Nat) (G : Nat → Nat → Option Int) (B : Int) (f : Nat → Int64) (mm a b : Nat) (x : Int64) : Prop :=
  Snd n G B a b x ∧ (f (8 * a + b) ≠ NO → x ≠ NO ∧ x.toInt ≤ (f (8 * a + b)).toInt) ∧ (f (8 * a + mm) ≠ NO → f (8 * mm + b) ≠ NO → x ≠ NO ∧ x.toInt ≤ (f (8 * a + mm)).toInt + (f (8 * mm + b)).toInt)
theorem Rel.mono {n : Nat} {G : Nat → Nat → Option Int} {B B' : Int} {f : Nat → Int64} {mm a b : Nat} {x : Int64} (h : Rel n G B f mm a b x) (hB : B ≤ B') : Rel n G B' f mm a b x := ⟨h.1.mono hB, h.2⟩
theorem cell_rel {n : Nat} {G : Nat → Nat → Option Int} {Bf By B : Int} {f : Nat → Int64} {mm a b : Nat} {y : Int64} (hf : Snd n G Bf a mm (f (8 * a + mm))) (hfn : f (8 * a + mm) ≠ NO) (hy : Snd n G By mm b y) (hle : f (8 * mm + b) ≠ NO → y ≠ NO ∧ y.toInt ≤ (f (8 * mm + b)).toInt) (hx : Snd n G B a b (f (8 * a + b))) (h0 : 0 ≤ Bf) (h1 : 0 ≤ By) (hB : B ≤ Bf + By) (hs : Bf + By < 576460752303423488) : Rel n G (Bf + By) f mm a b (x_cell (f (8 * a + mm)) (f (8 * a + b)) y) := by
  unfold x_cell
  obtain ⟨⟨k1, z1, w1, e1⟩, l1, u1⟩ := hf hfn
  by_cases hyn : y = NO
  · rw [if_neg (fun q => q.1 hyn)]
    exact ⟨hx.mono hB, fun q => ⟨q, Int.le_refl _⟩, fun _ q2 => absurd hyn (hle q2).1⟩
  · obtain ⟨⟨k2, z2, w2, e2⟩, l2, u2⟩ := hy hyn
    have hsum : (f (8 * a + mm) + y).toInt = (f (8 * a + mm)).toInt + y.toInt := i64_add (by omega) (by omega)
    by_cases hlt : f (8 * a + mm) + y < f (8 * a + b)
    · rw [if_pos ⟨hyn, hlt⟩]
      rw [Int64.lt_iff_toInt_lt, hsum] at hlt
      have hne : f (8 * a + mm) + y ≠ NO := ne_NO (by rw [hsum]; omega)
      refine ⟨fun _ => ⟨⟨k1 + k2, z1 + z2, wk_app w1 w2, ?_⟩, ?_, ?_⟩, fun _ => ⟨hne, by rw [hsum]; omega⟩, fun _ q2 => ⟨hne, ?_⟩⟩
      · rw [hsum, e1, e2]; push_cast; omega
      · rw [hsum]; omega
      · rw [hsum]; omega
      · have := (hle q2).2
        rw [hsum]; omega
    · rw [if_neg (fun q => hlt q.2)]
      rw [Int64.lt_iff_toInt_lt, hsum] at hlt
      have hne : f (8 * a + b) ≠ NO := ne_NO (by omega)
      exact ⟨hx.mono hB, fun q => ⟨q, Int.le_refl _⟩, fun _ q2 => ⟨hne, by have := (hle q2).2; omega⟩⟩
theorem x_m_rel {n : Nat} {G : Nat → Nat → Option Int} {B : Int} {f : Nat → Int64} {mm : Nat} (hn : n ≤ 8) (hm : mm < n) (h0 : 0 ≤ B) (hB : 3 * B < 576460752303423488) (hf : ∀ a b, a < n → b < n → Snd n G B a b (f (8 * a + b))) : ∀ a b, a < n → b < n → Rel n G (3 * B) f mm a b (x_m n mm f (8 * a + b)) := by
  have key := lp_inv0 (x_a n mm) (fun i g => (∀ a b, a < 8 → b < 8 → i ≤ a → g (8 * a + b) = f (8 * a + b)) ∧ ∀ a b, a < i → a < n → b < n → Rel n G (if a = mm then 2 * B else 3 * B) f mm a b (g (8 * a + b))) n f ⟨fun _ _ _ _ _ => rfl, fun a b h => absurd h (Nat.not_lt_zero a)⟩ (by
    intro a g ha ⟨h1, h2⟩
    have at1 := x_a_at n mm a g (by omega) (by omega) hn
    have hfa : g (8 * a + mm) = f (8 * a + mm) := h1 a mm (by omega) (by omega) (Nat.le_refl a)
    rw [hfa] at at1
    refine ⟨fun a' b' ha' hb' hle => ?_, fun a' b' hlt hn' hb' => ?_⟩
    · rw [at1 a' b' ha' hb', if_neg (by omega)]
      exact h1 a' b' ha' hb' (by omega)
    · by_cases e : a' = a
      · subst e
        have hx : g (8 * a' + b') = f (8 * a' + b') := h1 a' b' (by omega) (by omega) (Nat.le_refl _)
        rw [at1 a' b' (by omega) (by omega), hx]
        by_cases hfn : f (8 * a' + mm) = NO
        · rw [if_neg (show ¬ (a' = a' ∧ b' < n ∧ f (8 * a' + mm) ≠ NO) from fun q => q.2.2 hfn)]
          exact ⟨(hf a' b' hn' hb').mono (by split <;> omega), fun q => ⟨q, Int.le_refl _⟩, fun q => absurd hfn q⟩
        · rw [if_pos (show a' = a' ∧ b' < n ∧ f (8 * a' + mm) ≠ NO from ⟨rfl, hb', hfn⟩)]
          by_cases hmm : a' ≤ mm
          · have hy : g (8 * mm + b') = f (8 * mm + b') := h1 mm b' (by omega) (by omega) hmm
            rw [hy]
            refine (cell_rel (hf a' mm hn' hm) hfn (hf mm b' hm hb') (fun q => ⟨q, Int.le_refl _⟩) (hf a' b' hn' hb') h0 h0 (by omega) (by omega)).mono ?_
            split <;> omega
          · have hr := h2 mm b' (by omega) hm hb'
            rw [if_pos rfl] at hr
            rw [if_neg (show ¬ a' = mm by omega)]
            refine (cell_rel (hf a' mm hn' hm) hfn hr.1 hr.2.1 (hf a' b' hn' hb') h0 (by omega) (by omega) (by omega)).mono (by omega)
      · rw [at1 a' b' (by omega) (by omega), if_neg (show ¬ (a' = a ∧ b' < n ∧ f (8 * a + mm) ≠ NO) from fun q => e q.1)]
        exact h2 a' b' (by omega) hn' hb')
  intro a b ha hb
  exact (key.2 a b ha ha hb).mono (by split <;> omega)
/-- what the class's best says of the graph -/
def XGood (n : Nat) (G : Nat → Nat → Option Int) (bs : Nat → Int64) : Prop :=
  (∀ a b, a < n → b < n → bs (8 * a + b) ≠ NO → ∃ (k : Nat) (z : Int), wk n G k a b z ∧ (bs (8 * a + b)).toInt = 1024 * z + (k : Int)) ∧
  (∀ a b, a < n → b < n → ∀ z k, pw G n a b z k → bs (8 * a + b) ≠ NO ∧ (bs (8 * a + b)).toInt ≤ 1024 * z + (k : Int))
/-- the roads as the class holds them -/
def XE (G : Nat → Nat → Option Int) (rd : Nat → Int64) : Prop := ∀ a b, a < 8 → b < 8 → (G a b = none → rd (8 * a + b) = NO) ∧ ∀ w, G a b = some w → rd (8 * a + b) ≠ NO ∧ (rd (8 * a + b)).toInt = 1024 * w + 1
def Gb (G : Nat → Nat → Option Int) : Prop := ∀ a b w, G a b = some w → -999 ≤ w ∧ w ≤ 999
theorem x_fw_good {n : Nat} {G : Nat → Nat → Option Int} {rd : Nat → Int64} (bs : Nat → Int64) (hn : n ≤ 8) (hE : XE G rd) (hG : Gb G) : XGood n G (x_fw n rd bs) := by
  have z0 : (0 : Int64).toInt = 0 := by decide +kernel
  have hc := x_copy_at rd bs
  have hd : ∀ a b, a < 8 → b < 8 → lp x_dia 0 n (lp (x_copy rd) 0 64 bs) (8 * a + b) = if a = b ∧ a < n ∧ 0 < rd (8 * a + b) then 0 else rd (8 * a + b) := by
    intro a b ha hb
    rw [x_dia_at _ n a b ha hb, hc _ (by omega)]
  unfold x_fw
  generalize lp x_dia 0 n (lp (x_copy rd) 0 64 bs) = f2 at hd ⊢
  have key := lp_inv0 (x_m n) (fun i f => i ≤ n ∧ (∀ a b, a < n → b < n → Snd n G (1022977 * 3 ^ i) a b (f (8 * a + b))) ∧ ∀ a b, a < n → b < n → ∀ z k, pw G i a b z k → f (8 * a + b) ≠ NO ∧ (f (8 * a + b)).toInt ≤ 1024 * z + (k : Int)) n f2 (by
    refine ⟨Nat.zero_le n, fun a b ha hb => ?_, fun a b ha hb z k hp => ?_⟩
    · rw [hd a b (by omega) (by omega)]
      split
      · rename_i q
        intro _
        refine ⟨⟨0, 0, ⟨q.1, rfl⟩, by rw [z0]; rfl⟩, by rw [z0]; omega, by rw [z0]; omega⟩
      · intro hne
        cases hg : G a b with
        | none => exact absurd ((hE a b (by omega) (by omega)).1 hg) hne
        | some w =>
          have h2 := ((hE a b (by omega) (by omega)).2 w hg).2
          have h3 := hG a b w hg
          refine ⟨⟨1, w, ⟨a, 0, w, ha, ⟨rfl, rfl⟩, hg, by omega⟩, by rw [h2]; rfl⟩, by rw [h2]; omega, by rw [h2]; omega⟩
    · rw [hd a b (by omega) (by omega)]
      rcases hp with ⟨h1, h2, h3⟩ | ⟨h1, h2⟩
      · subst h1; subst h2; subst h3
        by_cases hp : 0 < rd (8 * a + a)
        · rw [if_pos ⟨rfl, ha, hp⟩, z0]
          exact ⟨ne_NO (by rw [z0]; omega), by omega⟩
        · rw [if_neg (fun q => hp q.2.2)]
          rw [Int64.lt_iff_toInt_lt, z0] at hp
          exact ⟨ne_NO (by omega), by omega⟩
      · subst h2
        obtain ⟨g1, g2⟩ := (hE a b (by omega) (by omega)).2 z h1
        by_cases hp : a = b ∧ a < n ∧ 0 < rd (8 * a + b)
        · rw [if_pos hp]
          have h4 := hp.2.2
          rw [Int64.lt_iff_toInt_lt, z0, g2] at h4
          rw [z0]
          exact ⟨ne_NO (by rw [z0]; omega), by omega⟩
        · rw [if_neg hp, g2]
          exact ⟨g1, by omega⟩) (by
    intro mm f hmm ⟨_, hS, hU⟩
    have hpow : (3 : Int) ^ mm ≤ 2187 := by
      have : mm = 0 ∨ mm = 1 ∨ mm = 2 ∨ mm = 3 ∨ mm = 4 ∨ mm = 5 ∨ mm = 6 ∨ mm = 7 := by omega
      rcases this with h | h | h | h | h | h | h | h <;> subst h <;> decide
    have hpos : (1 : Int) ≤ 3 ^ mm := by
      have : mm = 0 ∨ mm = 1 ∨ mm = 2 ∨ mm = 3 ∨ mm = 4 ∨ mm = 5 ∨ mm = 6 ∨ mm = 7 := by omega
      rcases this with h | h | h | h | h | h | h | h <;> subst h <;> decide
    have hrel := x_m_rel hn hmm (B := 1022977 * 3 ^ mm) (by omega) (by omega) hS
    refine ⟨by omega, fun a b ha hb => ?_, fun a b ha hb z k hp => ?_⟩
    · exact (hrel a b ha hb).1.mono (by rw [Int.pow_succ]; omega)
    · obtain ⟨-, hle, hmid⟩ := hrel a b ha hb
      rcases hp with hp | ⟨z1, k1, z2, k2, p1, p2, hz, hk⟩
      · obtain ⟨g1, g2⟩ := hU a b ha hb z k hp
        obtain ⟨g3, g4⟩ := hle g1
        exact ⟨g3, by omega⟩
      · obtain ⟨a1, a2⟩ := hU a mm ha hmm z1 k1 p1
        obtain ⟨b1, b2⟩ := hU mm b hmm hb z2 k2 p2
        obtain ⟨g3, g4⟩ := hmid a1 b1
        refine ⟨g3, ?_⟩
        subst hz; subst hk
        push_cast
        omega)
  exact ⟨fun a b ha hb h => (key.2.1 a b ha hb h).1, key.2.2⟩
-- what the questions come to
theorem xg_reach {n : Nat} {G : Nat → Nat → Option Int} {bs : Nat → Int64} (hg : XGood n G bs) {a b : Nat} (ha : a < n) (hb : b < n) : bs (8 * a + b) ≠ NO ↔ rch n G a b := by
  constructor
  · intro h
    obtain ⟨k, z, hw, _⟩ := hg.1 a b ha hb h
    exact ⟨k, z, hw⟩
  · rintro ⟨k, z, hw⟩
    obtain ⟨z', k', hp, _⟩ := x_dom ha hw
    exact (hg.2 a b ha hb z' k' hp).1
theorem xg_len {n : Nat} {G : Nat → Nat → Option Int} (hn : n ≤ 8) {a b k : Nat} {z : Int} (h : pw G n a b z k) : k ≤ 256 := by
  have h1 := pw_len n h
  have h2 : 2 ^ n ≤ 2 ^ 8 := Nat.pow_le_pow_right (by omega) hn
  omega
theorem xg_neg {n : Nat} {G : Nat → Nat → Option Int} {bs : Nat → Int64} (hn : n ≤ 8) (hg : XGood n G bs) {a b : Nat} : (∃ v, v < n ∧ bs (8 * v + v) < 0 ∧ rch n G a v ∧ rch n G v b) ↔ unb n G a b := by
  have z0 : (0 : Int64).toInt = 0 := by decide +kernel
  constructor
  · rintro ⟨v, hv, h, h1, h2⟩
    rw [Int64.lt_iff_toInt_lt, z0] at h
    obtain ⟨k, z, hw, he⟩ := hg.1 v v hv hv (ne_NO (by omega))
    exact ⟨v, hv, h1, h2, k, z, hw, by omega⟩
  · rintro ⟨v, hv, h1, h2, k, z, hw, hz⟩
    obtain ⟨z', k', hp, hl | hl⟩ := x_dom hv hw
    · refine ⟨v, hv, ?_, h1, h2⟩
      have h3 := (hg.2 v v hv hv z' k' hp).2
      have h4 := xg_len hn hp
      rw [Int64.lt_iff_toInt_lt, z0]
      unfold lx at hl
      omega
    · obtain ⟨u, z2, k2, hu, hp2, hz2, g1, g2⟩ := hl
      refine ⟨u, hu, ?_, rch_trans h1 g1, rch_trans g2 h2⟩
      have h3 := (hg.2 u u hu hu z2 k2 hp2).2
      have h4 := xg_len hn hp2
      rw [Int64.lt_iff_toInt_lt, z0]
      omega
theorem xg_hit {n : Nat} {G : Nat → Nat → Option Int} {bs : Nat → Int64} (hn : n ≤ 8) (hg : XGood n G bs) {a b : Nat} (ha : a < n) (hb : b < n) : (∃ v, v < n ∧ x_hit bs a b v) ↔ unb n G a b := by
  rw [← xg_neg hn hg]
  constructor
  · rintro ⟨v, hv, h1, h2, h3⟩
    exact ⟨v, hv, h1, (xg_reach hg ha hv).mp h2, (xg_reach hg hv hb).mp h3⟩
  · rintro ⟨v, hv, h1, h2, h3⟩
    exact ⟨v, hv, h1, (xg_reach hg ha hv).mpr h2, (xg_reach hg hv hb).mpr h3⟩
theorem xg_least {n : Nat} {G : Nat → Nat → Option Int} {bs : Nat → Int64} (hn : n ≤ 8) (hg : XGood n G bs) {a b : Nat} (ha : a < n) (hb : b < n) (hr : bs (8 * a + b) ≠ NO) (hu : ¬ unb n G a b) : ∃ (z : Int) (k : Nat), lmin n G a b z k ∧ k ≤ 256 ∧ (bs (8 * a + b)).toInt = 1024 * z + (k : Int) := by
  obtain ⟨k, z, hw, he⟩ := hg.1 a b ha hb hr
  have dom : ∀ (k2 : Nat) (z2 : Int), wk n G k2 a b z2 → ∃ z3 k3, pw G n a b z3 k3 ∧ lx z3 k3 z2 k2 ∧ k3 ≤ 256 ∧ 1024 * z + (k : Int) ≤ 1024 * z3 + (k3 : Int) := by
    intro k2 z2 h2
    obtain ⟨z3, k3, hp, hl | hl⟩ := x_dom ha h2
    · have h3 := (hg.2 a b ha hb z3 k3 hp).2
      exact ⟨z3, k3, hp, hl, xg_len hn hp, by omega⟩
    · exact absurd (ng_unb hl) hu
  obtain ⟨z1, k1, hp1, hl1, hk1, hle1⟩ := dom k z hw
  have hk : k ≤ 256 := by
    unfold lx at hl1
    omega
  refine ⟨z, k, ⟨hw, fun z2 k2 h2 => ?_⟩, hk, he⟩
  obtain ⟨z3, k3, hp3, hl3, hk3, hle3⟩ := dom k2 z2 h2
  unfold lx at hl3 ⊢
  omega
end
section
/-! the reference's reckon, as plain Lean -/
theorem upd_s {f : Nat → Int32} {k : Nat} {x : Int32} : upd f k x k = x := pk_us
theorem upd_n {f : Nat → Int32} {k j : Nat} {x : Int32} (h : j ≠ k) : upd f k x j = f j := pk_un h
theorem m_cp_at (y x : (Nat → Int64) × (Nat → Int32)) : ∀ j, j < 64 → (lp (m_cp y) 0 64 x).1 j = y.1 j ∧ (lp (m_cp y) 0 64 x).2 j = vp_nar .boolean (y.2 j) := by
  refine lp_inv0 (m_cp y) (fun i x => ∀ j, j < i → x.1 j = y.1 j ∧ x.2 j = vp_nar .boolean (y.2 j)) 64 x (fun j h => absurd h (Nat.not_lt_zero j)) ?_
  intro i x _ h j hj
  unfold m_cp
  by_cases e : j = i
  · subst e; exact ⟨updL_s, upd_s⟩
  · exact ⟨(updL_n e).trans (h j (by omega)).1, (upd_n e).trans (h j (by omega)).2⟩
theorem m_v0_at (N : Nat) (f : Nat → Int32) : ∀ j, j < N → lp m_v0 0 N f j = 0 := by
  refine lp_inv0 m_v0 (fun i f => ∀ j, j < i → f j = 0) N f (fun j h => absurd h (Nat.not_lt_zero j)) ?_
  intro i f _ h j hj
  unfold m_v0
  by_cases e : j = i
  · subst e; exact upd_s
  · rw [upd_n e]; exact h j (by omega)
theorem m_i0_at (n : Nat) (x : (Nat → Int32) × (Nat → Int64) × (Nat → Int32) × (Nat → Int32)) : ∀ j, j < 64 → (lp (m_i0 n) 0 64 x).1 j = m_st j n ∧ (lp (m_i0 n) 0 64 x).2.1 j = 0 ∧ (lp (m_i0 n) 0 64 x).2.2.1 j = 0 ∧ (lp (m_i0 n) 0 64 x).2.2.2 j = -1 := by
  refine lp_inv0 (m_i0 n) (fun i x => ∀ j, j < i → x.1 j = m_st j n ∧ x.2.1 j = 0 ∧ x.2.2.1 j = 0 ∧ x.2.2.2 j = -1) 64 x (fun j h => absurd h (Nat.not_lt_zero j)) ?_
  intro i x _ h j hj
  unfold m_i0
  by_cases e : j = i
  · subst e; exact ⟨upd_s, updL_s, upd_s, upd_s⟩
  · obtain ⟨h1, h2, h3, h4⟩ := h j (by omega)
    exact ⟨(upd_n e).trans h1, (updL_n e).trans h2, (upd_n e).trans h3, (upd_n e).trans h4⟩
theorem m_v1_at (is : Nat → Int32) (d : Nat → Int64) (N : Nat) (f : Nat → Int32) : ∀ v, v < N → lp (m_v1 is d) 0 N f v = if f v ≠ 0 ∨ (is (8 * v + v) ≠ 0 ∧ d (8 * v + v) < 0) then 1 else 0 := by
  have key := lp_inv0 (m_v1 is d) (fun i g => ∀ v, (v < i → g v = if f v ≠ 0 ∨ (is (8 * v + v) ≠ 0 ∧ d (8 * v + v) < 0) then 1 else 0) ∧ (i ≤ v → g v = f v)) N f (fun v => ⟨fun h => absurd h (Nat.not_lt_zero v), fun _ => rfl⟩) (by
    intro i g _ h v
    unfold m_v1
    by_cases e : v = i
    · subst e
      refine ⟨fun _ => ?_, fun q => absurd q (by omega)⟩
      rw [upd_s, (h v).2 (Nat.le_refl v)]
    · exact ⟨fun q => (upd_n e).trans ((h v).1 (by omega)), fun q => (upd_n e).trans ((h v).2 (by omega))⟩)
  exact fun v hv => (key v).1 hv
/-- when a cell of best, few is written at round k -/
def i1c (n k : Nat) (is : Nat → Int32) (d : Nat → Int64) (x : (Nat → Int32) × (Nat → Int64) × (Nat → Int32)) (i : Nat) : Prop := k < n ∧ is i ≠ 0 ∧ (x.2.2 i < 0 ∨ d i < x.2.1 i)
theorem m_i1_at (n k : Nat) (is : Nat → Int32) (d : Nat → Int64) (x : (Nat → Int32) × (Nat → Int64) × (Nat → Int32)) : ∀ i, i < 64 → (lp (m_i1 n k is d) 0 64 x).1 i = (if x.1 i ≠ 0 ∨ is i ≠ 0 then 1 else 0) ∧ (i1c n k is d x i → (lp (m_i1 n k is d) 0 64 x).2.1 i = d i ∧ (lp (m_i1 n k is d) 0 64 x).2.2 i = nI k) ∧ (¬ i1c n k is d x i → (lp (m_i1 n k is d) 0 64 x).2.1 i = x.2.1 i ∧ (lp (m_i1 n k is d) 0 64 x).2.2 i = x.2.2 i) := by
  have key := lp_inv0 (m_i1 n k is d) (fun j y => ∀ i, (i < j → y.1 i = (if x.1 i ≠ 0 ∨ is i ≠ 0 then 1 else 0) ∧ (i1c n k is d x i → y.2.1 i = d i ∧ y.2.2 i = nI k) ∧ (¬ i1c n k is d x i → y.2.1 i = x.2.1 i ∧ y.2.2 i = x.2.2 i)) ∧ (j ≤ i → y.1 i = x.1 i ∧ y.2.1 i = x.2.1 i ∧ y.2.2 i = x.2.2 i)) 64 x (fun i => ⟨fun h => absurd h (Nat.not_lt_zero i), fun _ => ⟨rfl, rfl, rfl⟩⟩) (by
    intro j y _ h i
    by_cases e : i = j
    · subst e
      obtain ⟨e1, e2, e3⟩ := (h i).2 (Nat.le_refl i)
      refine ⟨fun _ => ?_, fun q => absurd q (by omega)⟩
      unfold m_i1
      rw [e1, e2, e3]
      by_cases hc : k < n ∧ is i ≠ 0 ∧ (x.2.2 i < 0 ∨ d i < x.2.1 i)
      · rw [if_pos hc]
        exact ⟨upd_s, fun _ => ⟨updL_s, upd_s⟩, fun q => absurd hc q⟩
      · rw [if_neg hc]
        exact ⟨upd_s, fun q => absurd q hc, fun _ => ⟨e2, e3⟩⟩
    · have same : (m_i1 n k is d j y).1 i = y.1 i ∧ (m_i1 n k is d j y).2.1 i = y.2.1 i ∧ (m_i1 n k is d j y).2.2 i = y.2.2 i := by
        unfold m_i1
        split
        · exact ⟨upd_n e, updL_n e, upd_n e⟩
        · exact ⟨upd_n e, rfl, rfl⟩
      obtain ⟨s1, s2, s3⟩ := same
      rw [s1, s2, s3]
      exact ⟨fun q => (h i).1 (by omega), fun q => (h i).2 (by omega)⟩)
  exact fun i hi => (key i).1 hi
def okm (is rd : Nat → Int32) (a b q : Nat) : Prop := is (8 * a + q) ≠ 0 ∧ rd (8 * q + b) ≠ 0
def vlm (d : Nat → Int64) (co : Nat → Int32) (a b q : Nat) : Int64 := d (8 * a + q) + (co (8 * q + b)).toInt64
def Rm (is rd co : Nat → Int32) (d : Nat → Int64) (N a b : Nat) (i : Int32) (v : Int64) : Prop :=
  (i = 0 ∧ ∀ q, q < N → ¬ okm is rd a b q) ∨ (i = 1 ∧ ∃ q, q < N ∧ okm is rd a b q ∧ v = vlm d co a b q ∧ ∀ q', q' < N → okm is rd a b q' → v.toInt ≤ (vlm d co a b q').toInt)
theorem m_m_at (is rd co : Nat → Int32) (d : Nat → Int64) (a b N : Nat) (x0 : (Nat → Int64) × (Nat → Int32)) (h0 : x0.2 (8 * a + b) = 0) : Rm is rd co d N a b ((lp (m_m is rd co d a b) 0 N x0).2 (8 * a + b)) ((lp (m_m is rd co d a b) 0 N x0).1 (8 * a + b)) ∧ ∀ i, i ≠ 8 * a + b → (lp (m_m is rd co d a b) 0 N x0).1 i = x0.1 i ∧ (lp (m_m is rd co d a b) 0 N x0).2 i = x0.2 i := by
  refine lp_inv0 (m_m is rd co d a b) (fun q x => Rm is rd co d q a b (x.2 (8 * a + b)) (x.1 (8 * a + b)) ∧ ∀ i, i ≠ 8 * a + b → x.1 i = x0.1 i ∧ x.2 i = x0.2 i) N x0 ⟨Or.inl ⟨h0, fun q hq => absurd hq (Nat.not_lt_zero q)⟩, fun _ _ => ⟨rfl, rfl⟩⟩ ?_
  intro q x _ ⟨hR, hO⟩
  unfold m_m
  by_cases hc : is (8 * a + q) ≠ 0 ∧ rd (8 * q + b) ≠ 0 ∧ (x.2 (8 * a + b) = 0 ∨ d (8 * a + q) + (co (8 * q + b)).toInt64 < x.1 (8 * a + b))
  · rw [if_pos hc]
    refine ⟨Or.inr ⟨upd_s, q, Nat.lt_succ_self q, ⟨hc.1, hc.2.1⟩, updL_s, fun q' hq' hok => ?_⟩, fun i hi => ⟨(updL_n hi).trans (hO i hi).1, (upd_n hi).trans (hO i hi).2⟩⟩
    show (vp_updL x.1 (8 * a + b) _ (8 * a + b)).toInt ≤ _
    rw [updL_s]
    by_cases e : q' = q
    · subst e; exact Int.le_refl _
    · rcases hR with ⟨_, hno⟩ | ⟨h1, p, hp, hpo, hpv, hmin⟩
      · exact absurd hok (hno q' (by omega))
      · have hlt := hc.2.2.resolve_left (fun z => by rw [h1] at z; exact absurd z (by decide))
        rw [Int64.lt_iff_toInt_lt] at hlt
        have := hmin q' (by omega) hok
        omega
  · rw [if_neg hc]
    refine ⟨?_, hO⟩
    rcases hR with ⟨h1, hno⟩ | ⟨h1, p, hp, hpo, hpv, hmin⟩
    · refine Or.inl ⟨h1, fun q' hq' hok => ?_⟩
      by_cases e : q' = q
      · subst e; exact hc ⟨hok.1, hok.2, Or.inl h1⟩
      · exact hno q' (by omega) hok
    · refine Or.inr ⟨h1, p, by omega, hpo, hpv, fun q' hq' hok => ?_⟩
      by_cases e : q' = q
      · subst e
        have hnl : ¬ d (8 * a + q') + (co (8 * q' + b)).toInt64 < x.1 (8 * a + b) := fun z => hc ⟨hok.1, hok.2, Or.inr z⟩
        rw [Int64.lt_iff_toInt_lt] at hnl
        show _ ≤ (d (8 * a + q') + (co (8 * q' + b)).toInt64).toInt
        omega
      · exact hmin q' (by omega) hok
theorem m_ex_at (n : Nat) (is rd co : Nat → Int32) (d : Nat → Int64) (x : (Nat → Int64) × (Nat → Int32)) (hn : n ≤ 8) : ∀ a b, a < n → b < n → Rm is rd co d n a b ((m_ex n is rd co d x).2 (8 * a + b)) ((m_ex n is rd co d x).1 (8 * a + b)) := by
  have row : ∀ (a : Nat) (x : (Nat → Int64) × (Nat → Int32)), a < 8 → (∀ b, b < n → Rm is rd co d n a b ((m_a n is rd co d a x).2 (8 * a + b)) ((m_a n is rd co d a x).1 (8 * a + b))) ∧ ∀ a' b', a' < 8 → b' < 8 → a' ≠ a → (m_a n is rd co d a x).1 (8 * a' + b') = x.1 (8 * a' + b') ∧ (m_a n is rd co d a x).2 (8 * a' + b') = x.2 (8 * a' + b') := by
    intro a x ha
    unfold m_a
    refine lp_inv0 (m_b n is rd co d a) (fun j y => (∀ b, b < j → Rm is rd co d n a b (y.2 (8 * a + b)) (y.1 (8 * a + b))) ∧ ∀ a' b', a' < 8 → b' < 8 → a' ≠ a → y.1 (8 * a' + b') = x.1 (8 * a' + b') ∧ y.2 (8 * a' + b') = x.2 (8 * a' + b')) n x ⟨fun b h => absurd h (Nat.not_lt_zero b), fun _ _ _ _ _ => ⟨rfl, rfl⟩⟩ ?_
    intro b y hb ⟨h1, h2⟩
    unfold m_b
    obtain ⟨g1, g2⟩ := m_m_at is rd co d a b n (y.1, upd y.2 (8 * a + b) 0) upd_s
    refine ⟨fun b' hb' => ?_, fun a' b' ha' hb' hne => ?_⟩
    · by_cases e : b' = b
      · subst e; exact g1
      · obtain ⟨k1, k2⟩ := g2 (8 * a + b') (by omega)
        rw [k1, k2]
        show Rm is rd co d n a b' (upd y.2 (8 * a + b) 0 (8 * a + b')) (y.1 (8 * a + b'))
        rw [upd_n (by omega)]
        exact h1 b' (by omega)
    · obtain ⟨k1, k2⟩ := g2 (8 * a' + b') (by omega)
      rw [k1, k2]
      show y.1 (8 * a' + b') = _ ∧ upd y.2 (8 * a + b) 0 (8 * a' + b') = _
      rw [upd_n (by omega)]
      exact h2 a' b' ha' hb' hne
  have key := lp_inv0 (m_a n is rd co d) (fun j y => ∀ a b, a < j → a < n → b < n → Rm is rd co d n a b (y.2 (8 * a + b)) (y.1 (8 * a + b))) n x (fun a b h => absurd h (Nat.not_lt_zero a)) (by
    intro a y ha h a' b' ha' hn' hb'
    obtain ⟨g1, g2⟩ := row a y (by omega)
    by_cases e : a' = a
    · subst e; exact g1 b' hb'
    · obtain ⟨k1, k2⟩ := g2 a' b' (by omega) (by omega) e
      rw [k1, k2]
      exact h a' b' (by omega) hn' hb')
  exact fun a b ha hb => key a b ha ha hb
/-- is and d at round k: the walks of exactly k roads -/
def Ex (n : Nat) (G : Nat → Nat → Option Int) (k a b : Nat) (i : Int32) (d : Int64) : Prop := (i = 0 ∧ ∀ z, ¬ wk n G k a b z) ∨ (i = 1 ∧ wk n G k a b d.toInt ∧ ∀ z, wk n G k a b z → d.toInt ≤ z)
/-- the roads as the reference holds them -/
def ME (G : Nat → Nat → Option Int) (rd co : Nat → Int32) : Prop := ∀ a b, a < 8 → b < 8 → (G a b = none → rd (8 * a + b) = 0) ∧ ∀ w, G a b = some w → rd (8 * a + b) ≠ 0 ∧ (co (8 * a + b)).toInt = w
theorem wk_bd {n : Nat} {G : Nat → Nat → Option Int} (hG : Gb G) : ∀ {k a b : Nat} {z : Int}, wk n G k a b z → -(999 * (k : Int)) ≤ z ∧ z ≤ 999 * (k : Int) := by
  intro k
  induction k with
  | zero => intro a b z h; obtain ⟨_, h⟩ := h; subst h; simp
  | succ k ih =>
    intro a b z h
    obtain ⟨q, x, w, _, h1, h2, h3⟩ := h
    have e1 := ih h1
    have e2 := hG q b w h2
    subst h3
    push_cast
    omega
theorem ex_step {n : Nat} {G : Nat → Nat → Option Int} {is rd co : Nat → Int32} {d : Nat → Int64} {k : Nat} (hn : n ≤ 8) (hk : k ≤ 8) (hG : Gb G) (hM : ME G rd co) (hE : ∀ a b, a < n → b < n → Ex n G k a b (is (8 * a + b)) (d (8 * a + b))) {a b : Nat} (ha : a < n) (hb : b < n) {i : Int32} {v : Int64} (h : Rm is rd co d n a b i v) : Ex n G (k + 1) a b i v := by
  have val : ∀ q w, q < n → is (8 * a + q) ≠ 0 → G q b = some w → wk n G k a q (d (8 * a + q)).toInt ∧ (vlm d co a b q).toInt = (d (8 * a + q)).toInt + w := by
    intro q w hq hi hg
    rcases hE a q ha hq with ⟨e1, _⟩ | ⟨_, e2, _⟩
    · exact absurd e1 hi
    · refine ⟨e2, ?_⟩
      have b1 := wk_bd hG e2
      have b2 := hG q b w hg
      have b3 := ((hM q b (by omega) (by omega)).2 w hg).2
      unfold vlm
      rw [i64_add] <;> rw [Int32.toInt_toInt64, b3] <;> omega
  rcases h with ⟨h1, hno⟩ | ⟨h1, q, hq, ⟨hi, hr⟩, hv, hmin⟩
  · refine Or.inl ⟨h1, fun z hw => ?_⟩
    obtain ⟨q, x, w, hq, w1, w2, _⟩ := hw
    refine hno q hq ⟨?_, ((hM q b (by omega) (by omega)).2 w w2).1⟩
    rcases hE a q ha hq with ⟨_, e2⟩ | ⟨e1, _⟩
    · exact absurd w1 (e2 x)
    · rw [e1]; decide
  · cases hg : G q b with
    | none => exact absurd ((hM q b (by omega) (by omega)).1 hg) hr
    | some w =>
      obtain ⟨g1, g2⟩ := val q w hq hi hg
      refine Or.inr ⟨h1, ⟨q, (d (8 * a + q)).toInt, w, hq, g1, hg, by rw [hv, g2]⟩, fun z hw => ?_⟩
      obtain ⟨q', x, w', hq', w1, w2, w3⟩ := hw
      have hi' : is (8 * a + q') ≠ 0 := by
        rcases hE a q' ha hq' with ⟨_, e2⟩ | ⟨e1, _⟩
        · exact absurd w1 (e2 x)
        · rw [e1]; decide
      obtain ⟨g3, g4⟩ := val q' w' hq' hi' w2
      have h5 := hmin q' hq' ⟨hi', ((hM q' b (by omega) (by omega)).2 w' w2).1⟩
      have h6 : (d (8 * a + q')).toInt ≤ x := by
        rcases hE a q' ha hq' with ⟨e1, _⟩ | ⟨_, _, e3⟩
        · exact absurd e1 hi'
        · exact e3 x w1
      omega
def Rc (n : Nat) (G : Nat → Nat → Option Int) (k a b : Nat) (r : Int32) : Prop := (r = 0 ∧ ∀ j, j < k → ∀ z, ¬ wk n G j a b z) ∨ (r = 1 ∧ ∃ j z, j < k ∧ wk n G j a b z)
def Bd (n : Nat) (G : Nat → Nat → Option Int) (k v : Nat) (r : Int32) : Prop := (r = 0 ∧ ∀ j, j < k → ∀ z, wk n G j v v z → 0 ≤ z) ∨ (r = 1 ∧ ∃ j z, j < k ∧ wk n G j v v z ∧ z < 0)
def Fw (n : Nat) (G : Nat → Nat → Option Int) (k a b : Nat) (d : Int64) (f : Int32) : Prop := (f < 0 ∧ ∀ j, j < k → j < n → ∀ z, ¬ wk n G j a b z) ∨ ∃ K, K < k ∧ K < n ∧ f = nI K ∧ wk n G K a b d.toInt ∧ ∀ j, j < k → j < n → ∀ z2, wk n G j a b z2 → lx d.toInt K z2 j
theorem rc_step {n : Nat} {G : Nat → Nat → Option Int} {k a b : Nat} {r i : Int32} {d : Int64} (h : Rc n G k a b r) (hE : Ex n G k a b i d) : Rc n G (k + 1) a b (if r ≠ 0 ∨ i ≠ 0 then 1 else 0) := by
  by_cases hc : r ≠ 0 ∨ i ≠ 0
  · rw [if_pos hc]
    refine Or.inr ⟨rfl, ?_⟩
    rcases h with ⟨h1, _⟩ | ⟨_, j, z, hj, hw⟩
    · rcases hE with ⟨e1, _⟩ | ⟨_, e2, _⟩
      · exact absurd hc (by rw [h1, e1]; decide)
      · exact ⟨k, _, Nat.lt_succ_self k, e2⟩
    · exact ⟨j, z, by omega, hw⟩
  · rw [if_neg hc]
    refine Or.inl ⟨rfl, fun j hj z hw => ?_⟩
    have h2 : r = 0 := Decidable.byContradiction fun q => hc (Or.inl q)
    have h3 : i = 0 := Decidable.byContradiction fun q => hc (Or.inr q)
    by_cases e : j = k
    · subst e
      rcases hE with ⟨_, e2⟩ | ⟨e1, _⟩
      · exact e2 z hw
      · rw [h3] at e1; exact absurd e1 (by decide)
    · rcases h with ⟨_, h4⟩ | ⟨h1, _⟩
      · exact h4 j (by omega) z hw
      · rw [h2] at h1; exact absurd h1 (by decide)
theorem bd_step {n : Nat} {G : Nat → Nat → Option Int} {k v : Nat} {r i : Int32} {d : Int64} (h : Bd n G k v r) (hE : Ex n G k v v i d) : Bd n G (k + 1) v (if r ≠ 0 ∨ (i ≠ 0 ∧ d < 0) then 1 else 0) := by
  have z0 : (0 : Int64).toInt = 0 := by decide +kernel
  by_cases hc : r ≠ 0 ∨ (i ≠ 0 ∧ d < 0)
  · rw [if_pos hc]
    refine Or.inr ⟨rfl, ?_⟩
    rcases h with ⟨h1, _⟩ | ⟨_, j, z, hj, hw⟩
    · have hc := hc.resolve_left (fun q => q h1)
      rcases hE with ⟨e1, _⟩ | ⟨_, e2, _⟩
      · exact absurd e1 hc.1
      · have h2 := hc.2
        rw [Int64.lt_iff_toInt_lt, z0] at h2
        exact ⟨k, _, Nat.lt_succ_self k, e2, h2⟩
    · exact ⟨j, z, by omega, hw⟩
  · rw [if_neg hc]
    refine Or.inl ⟨rfl, fun j hj z hw => ?_⟩
    have h2 : r = 0 := Decidable.byContradiction fun q => hc (Or.inl q)
    by_cases e : j = k
    · subst e
      rcases hE with ⟨_, e2⟩ | ⟨e1, _, e3⟩
      · exact absurd hw (e2 z)
      · have h3 : ¬ d < 0 := fun q => hc (Or.inr ⟨by rw [e1]; decide, q⟩)
        rw [Int64.lt_iff_toInt_lt, z0] at h3
        have := e3 z hw
        omega
    · rcases h with ⟨_, h4⟩ | ⟨h1, _⟩
      · exact h4 j (by omega) z hw
      · rw [h2] at h1; exact absurd h1 (by decide)
theorem fw_yes {n : Nat} {G : Nat → Nat → Option Int} {k a b : Nat} {d o : Int64} {i f : Int32} (hn : n ≤ 8) (h : Fw n G k a b o f) (hE : Ex n G k a b i d) (hk : k < n) (hi : i ≠ 0) (hc : f < 0 ∨ d < o) : Fw n G (k + 1) a b d (nI k) := by
  rcases hE with ⟨e1, _⟩ | ⟨_, e2, e3⟩
  · exact absurd e1 hi
  · refine Or.inr ⟨k, Nat.lt_succ_self k, hk, rfl, e2, fun j hj hjn z2 hw => ?_⟩
    by_cases e : j = k
    · subst e
      have := e3 z2 hw
      unfold lx
      omega
    · rcases h with ⟨_, h4⟩ | ⟨K, hK, hKn, hf, hwK, hmin⟩
      · exact absurd hw (h4 j (by omega) hjn z2)
      · have hlt := hc.resolve_left (fun q => by rw [hf] at q; exact nI_pos (by omega) q)
        rw [Int64.lt_iff_toInt_lt] at hlt
        have := hmin j (by omega) hjn z2 hw
        unfold lx at this ⊢
        omega
theorem fw_no {n : Nat} {G : Nat → Nat → Option Int} {k a b : Nat} {d o : Int64} {i f : Int32} (h : Fw n G k a b o f) (hE : Ex n G k a b i d) (hc : ¬ (k < n ∧ i ≠ 0 ∧ (f < 0 ∨ d < o))) : Fw n G (k + 1) a b o f := by
  rcases h with ⟨h1, h4⟩ | ⟨K, hK, hKn, hf, hwK, hmin⟩
  · refine Or.inl ⟨h1, fun j hj hjn z hw => ?_⟩
    by_cases e : j = k
    · subst e
      rcases hE with ⟨_, e2⟩ | ⟨e1, _⟩
      · exact e2 z hw
      · exact hc ⟨hjn, by rw [e1]; decide, Or.inl h1⟩
    · exact h4 j (by omega) hjn z hw
  · refine Or.inr ⟨K, by omega, hKn, hf, hwK, fun j hj hjn z2 hw => ?_⟩
    by_cases e : j = k
    · subst e
      rcases hE with ⟨_, e2⟩ | ⟨e1, _, e3⟩
      · exact absurd hw (e2 z2)
      · have hnl : ¬ d < o := fun q => hc ⟨hjn, by rw [e1]; decide, Or.inr q⟩
        rw [Int64.lt_iff_toInt_lt] at hnl
        have := e3 z2 hw
        unfold lx
        omega
    · exact hmin j (by omega) hjn z2 hw
/-- what holds ahead of round k -/
def IK (n : Nat) (G : Nat → Nat → Option Int) (k : Nat) (x : MT) : Prop :=
  (∀ a b, a < n → b < n → Ex n G k a b (x.2.1 (8 * a + b)) (x.1 (8 * a + b))) ∧ (∀ a b, a < n → b < n → Rc n G k a b (x.2.2.2.2.1 (8 * a + b))) ∧ (∀ v, v < n → Bd n G k v (x.2.2.2.2.2.1 v)) ∧ ∀ a b, a < n → b < n → Fw n G k a b (x.2.2.2.2.2.2.1 (8 * a + b)) (x.2.2.2.2.2.2.2 (8 * a + b))
theorem ik_step {n : Nat} {G : Nat → Nat → Option Int} {rd co : Nat → Int32} {k : Nat} {x : MT} (hn : n ≤ 8) (hk : k ≤ 8) (hG : Gb G) (hM : ME G rd co) (h : IK n G k x) : IK n G (k + 1) (m_k n rd co k x) := by
  obtain ⟨vd, is, ve, ie, rc, bad, bst, few⟩ := x
  obtain ⟨h1, h2, h3, h4⟩ := h
  have h1 : ∀ a b, a < n → b < n → Ex n G k a b (is (8 * a + b)) (vd (8 * a + b)) := h1
  have h2 : ∀ a b, a < n → b < n → Rc n G k a b (rc (8 * a + b)) := h2
  have h3 : ∀ v, v < n → Bd n G k v (bad v) := h3
  have h4 : ∀ a b, a < n → b < n → Fw n G k a b (bst (8 * a + b)) (few (8 * a + b)) := h4
  have c1 := m_i1_at n k is vd (rc, bst, few)
  have c2 := m_v1_at is vd n bad
  have c3 := m_ex_at n is rd co vd (ve, ie) hn
  have c4 := m_cp_at (m_ex n is rd co vd (ve, ie)) (vd, is)
  refine ⟨fun a b ha hb => ?_, fun a b ha hb => ?_, fun v hv => ?_, fun a b ha hb => ?_⟩
  · show Ex n G (k + 1) a b ((lp (m_cp (m_ex n is rd co vd (ve, ie))) 0 64 (vd, is)).2 (8 * a + b)) ((lp (m_cp (m_ex n is rd co vd (ve, ie))) 0 64 (vd, is)).1 (8 * a + b))
    obtain ⟨g1, g2⟩ := c4 (8 * a + b) (by omega)
    rw [g1, g2]
    have hE := ex_step hn hk hG hM h1 ha hb (c3 a b ha hb)
    have hb01 : vp_nar .boolean ((m_ex n is rd co vd (ve, ie)).2 (8 * a + b)) = (m_ex n is rd co vd (ve, ie)).2 (8 * a + b) := by
      rcases hE with ⟨e, _⟩ | ⟨e, _⟩ <;> rw [e]
      · exact nz0
      · exact nz1
    rw [hb01]
    exact hE
  · show Rc n G (k + 1) a b ((lp (m_i1 n k is vd) 0 64 (rc, bst, few)).1 (8 * a + b))
    rw [(c1 (8 * a + b) (by omega)).1]
    exact rc_step (h2 a b ha hb) (h1 a b ha hb)
  · show Bd n G (k + 1) v (lp (m_v1 is vd) 0 n bad v)
    rw [c2 v hv]
    exact bd_step (h3 v hv) (h1 v v hv hv)
  · show Fw n G (k + 1) a b ((lp (m_i1 n k is vd) 0 64 (rc, bst, few)).2.1 (8 * a + b)) ((lp (m_i1 n k is vd) 0 64 (rc, bst, few)).2.2 (8 * a + b))
    obtain ⟨-, g2, g3⟩ := c1 (8 * a + b) (by omega)
    by_cases hc : i1c n k is vd (rc, bst, few) (8 * a + b)
    · rw [(g2 hc).1, (g2 hc).2]
      exact fw_yes hn (h4 a b ha hb) (h1 a b ha hb) hc.1 hc.2.1 hc.2.2
    · rw [(g3 hc).1, (g3 hc).2]
      exact fw_no (h4 a b ha hb) (h1 a b ha hb) hc
theorem ik_all {n : Nat} {G : Nat → Nat → Option Int} {rd co : Nat → Int32} (x : MT) (hn : n ≤ 8) (hG : Gb G) (hM : ME G rd co) : IK n G (n + 1) (m_rk n rd co x) := by
  obtain ⟨vd, is, ve, ie, rc, bad, bst, few⟩ := x
  have z0 : (0 : Int64).toInt = 0 := by decide +kernel
  have c1 := m_i0_at n (is, vd, rc, few)
  have c2 := m_v0_at 8 bad
  show IK n G (n + 1) (lp (m_k n rd co) 0 (n + 1) ((lp (m_i0 n) 0 64 (is, vd, rc, few)).2.1, (lp (m_i0 n) 0 64 (is, vd, rc, few)).1, ve, ie, (lp (m_i0 n) 0 64 (is, vd, rc, few)).2.2.1, lp m_v0 0 8 bad, bst, (lp (m_i0 n) 0 64 (is, vd, rc, few)).2.2.2))
  generalize lp (m_i0 n) 0 64 (is, vd, rc, few) = y at c1 ⊢
  generalize lp m_v0 0 8 bad = zb at c2 ⊢
  refine lp_inv0 (m_k n rd co) (fun k x => IK n G k x) (n + 1) _ ⟨fun a b ha hb => ?_, fun a b ha hb => ?_, fun v hv => ?_, fun a b ha hb => ?_⟩ (fun k x hk h => ik_step hn (by omega) hG hM h)
  · obtain ⟨g1, g2, _, _⟩ := c1 (8 * a + b) (by omega)
    show Ex n G 0 a b (y.1 (8 * a + b)) (y.2.1 (8 * a + b))
    rw [g1, g2]
    unfold m_st
    by_cases e : a = b
    · rw [if_pos (by omega)]
      refine Or.inr ⟨rfl, ⟨e, z0⟩, fun z hw => ?_⟩
      rw [z0, hw.2]
      exact Int.le_refl 0
    · rw [if_neg (by omega)]
      exact Or.inl ⟨rfl, fun z hw => e hw.1⟩
  · show Rc n G 0 a b (y.2.2.1 (8 * a + b))
    rw [(c1 (8 * a + b) (by omega)).2.2.1]
    exact Or.inl ⟨rfl, fun j hj => absurd hj (Nat.not_lt_zero j)⟩
  · show Bd n G 0 v (zb v)
    rw [c2 v (by omega)]
    exact Or.inl ⟨rfl, fun j hj => absurd hj (Nat.not_lt_zero j)⟩
  · show Fw n G 0 a b (bst (8 * a + b)) (y.2.2.2 (8 * a + b))
    rw [(c1 (8 * a + b) (by omega)).2.2.2]
    exact Or.inl ⟨by decide, fun j hj => absurd hj (Nat.not_lt_zero j)⟩
/-- what the reference's answers say of the graph -/
def MGood (n : Nat) (G : Nat → Nat → Option Int) (x : MT) : Prop :=
  (∀ a b, a < n → b < n → Rc n G (n + 1) a b (x.2.2.2.2.1 (8 * a + b))) ∧ (∀ v, v < n → Bd n G (n + 1) v (x.2.2.2.2.2.1 v)) ∧ ∀ a b, a < n → b < n → Fw n G (n + 1) a b (x.2.2.2.2.2.2.1 (8 * a + b)) (x.2.2.2.2.2.2.2 (8 * a + b))
theorem m_rk_good {n : Nat} {G : Nat → Nat → Option Int} {rd co : Nat → Int32} (x : MT) (hn : n ≤ 8) (hG : Gb G) (hM : ME G rd co) : MGood n G (m_rk n rd co x) := (ik_all x hn hG hM).2
theorem mg_reach {n : Nat} {G : Nat → Nat → Option Int} {x : MT} (hg : MGood n G x) {a b : Nat} (ha : a < n) (hb : b < n) : x.2.2.2.2.1 (8 * a + b) ≠ 0 ↔ rch n G a b := by
  rcases hg.1 a b ha hb with ⟨h1, h2⟩ | ⟨h1, j, z, _, hw⟩
  · rw [h1]
    refine ⟨fun q => absurd rfl q, fun q => ?_⟩
    obtain ⟨k, z, hk, hw⟩ := rch_short ha hb q
    exact absurd hw (h2 k (by omega) z)
  · rw [h1]
    exact ⟨fun _ => ⟨j, z, hw⟩, fun _ => by decide⟩
theorem mg_bad {n : Nat} {G : Nat → Nat → Option Int} {x : MT} (hg : MGood n G x) {v : Nat} (hv : v < n) : x.2.2.2.2.2.1 v ≠ 0 ↔ ∃ k z, k ≤ n ∧ wk n G k v v z ∧ z < 0 := by
  rcases hg.2.1 v hv with ⟨h1, h2⟩ | ⟨h1, j, z, hj, hw, hz⟩
  · rw [h1]
    refine ⟨fun q => absurd rfl q, fun ⟨k, z, hk, hw, hz⟩ => ?_⟩
    have := h2 k (by omega) z hw
    omega
  · rw [h1]
    exact ⟨fun _ => ⟨j, z, by omega, hw, hz⟩, fun _ => by decide⟩
theorem mg_neg {n : Nat} {G : Nat → Nat → Option Int} {x : MT} (hg : MGood n G x) {a b : Nat} : (∃ v, v < n ∧ x.2.2.2.2.2.1 v ≠ 0 ∧ rch n G a v ∧ rch n G v b) ↔ unb n G a b := by
  constructor
  · rintro ⟨v, hv, h, h1, h2⟩
    obtain ⟨k, z, _, hw, hz⟩ := (mg_bad hg hv).mp h
    exact ⟨v, hv, h1, h2, k, z, hw, hz⟩
  · rintro ⟨v, hv, h1, h2, k, z, hw, hz⟩
    obtain ⟨u, k2, z2, hu, hk2, hw2, hz2, g1, g2⟩ := neg_ngM hv hw hz
    exact ⟨u, hu, (mg_bad hg hu).mpr ⟨k2, z2, hk2, hw2, hz2⟩, rch_trans h1 g1, rch_trans g2 h2⟩
theorem mg_hit {n : Nat} {G : Nat → Nat → Option Int} {x : MT} (hg : MGood n G x) {a b : Nat} (ha : a < n) (hb : b < n) : (∃ v, v < n ∧ m_hit x.2.2.2.2.1 x.2.2.2.2.2.1 a b v) ↔ unb n G a b := by
  rw [← mg_neg hg]
  constructor
  · rintro ⟨v, hv, h1, h2, h3⟩
    exact ⟨v, hv, h1, (mg_reach hg ha hv).mp h2, (mg_reach hg hv hb).mp h3⟩
  · rintro ⟨v, hv, h1, h2, h3⟩
    exact ⟨v, hv, h1, (mg_reach hg ha hv).mpr h2, (mg_reach hg hv hb).mpr h3⟩
theorem mg_least {n : Nat} {G : Nat → Nat → Option Int} {x : MT} (hg : MGood n G x) {a b : Nat} (ha : a < n) (hb : b < n) (hr : rch n G a b) (hu : ¬ unb n G a b) : ∃ (K : Nat), K < n ∧ x.2.2.2.2.2.2.2 (8 * a + b) = nI K ∧ lmin n G a b (x.2.2.2.2.2.2.1 (8 * a + b)).toInt K := by
  rcases hg.2.2 a b ha hb with ⟨_, h2⟩ | ⟨K, _, hKn, hf, hw, hmin⟩
  · obtain ⟨k, z, hk, hw⟩ := rch_short ha hb hr
    exact absurd hw (h2 k (by omega) hk z)
  · refine ⟨K, hKn, hf, hw, fun z2 k2 h2 => ?_⟩
    obtain ⟨k3, z3, hk3, hw3, hl | hl⟩ := m_cut k2 ha hb h2
    · have := hmin k3 (by omega) hk3 z3 hw3
      unfold lx at this hl ⊢
      omega
    · exact absurd (ngM_unb hl) hu
end
section
/-! the plain law: the class and the reference hold the same graph, and answer alike -/
/-- the invariant between the class (n rd bs ch) and the reference (n kn co rdm x) -/
def RI (n : Nat) (rd bs : Nat → Int64) (ch kn : Int32) (co rdm : Nat → Int32) (x : MT) : Prop :=
  1 ≤ n ∧ n ≤ 8 ∧ ∃ G, Gb G ∧ XE G rd ∧ (ch = 1 ∨ (ch = 0 ∧ XGood n G bs)) ∧ ME G rdm co ∧ (kn = 0 ∨ (kn = 1 ∧ MGood n G x))
theorem ri_clear {n : Nat} (h1 : 1 ≤ n) (h8 : n ≤ 8) (rd bs : Nat → Int64) (co rdm : Nat → Int32) (x : MT) (hr : ∀ j, j < 64 → rd j = NO) (hm : ∀ j, j < 64 → rdm j = 0) : RI n rd bs 1 0 co rdm x := by
  refine ⟨h1, h8, fun _ _ => none, fun a b w h => (by cases h), fun a b ha hb => ⟨fun _ => hr _ (by omega), fun w h => (by cases h)⟩, Or.inl rfl, fun a b ha hb => ⟨fun _ => hm _ (by omega), fun w h => (by cases h)⟩, Or.inl rfl⟩
theorem pn_bd (k : Int32) : 1 ≤ pn_ k ∧ pn_ k ≤ 8 := by
  unfold pn_
  omega
theorem ri_places (rd bs : Nat → Int64) (co rdm : Nat → Int32) (x : MT) (k : Int32) : RI (pn_ k) (lp x_fill 0 64 rd) bs 1 0 co (lp m_v0 0 64 rdm) x :=
  ri_clear (pn_bd k).1 (pn_bd k).2 _ _ _ _ _ (x_fill_at rd) (m_v0_at 64 rdm)
theorem i32_1000 (k : Int32) : -999 ≤ (k - k / 1000 * 1000).toInt ∧ (k - k / 1000 * 1000).toInt ≤ 999 := by
  have e : (1000 : Int32).toInt = 1000 := by decide +kernel
  have h1 : -2147483648 ≤ k.toInt := by have h := Int32.le_toInt k; omega
  have h2 : k.toInt < 2147483648 := by have h := Int32.toInt_lt k; omega
  have bm : ∀ z : Int, -2147483648 ≤ z → z < 2147483648 → z.bmod (2 ^ 32) = z := by
    intro z a b
    rw [Int.bmod_eq_of_le] <;> omega
  have tq : k.toInt.tdiv 1000 = if 0 ≤ k.toInt ∨ 1000 ∣ k.toInt then k.toInt / 1000 else k.toInt / 1000 + 1 := by
    rw [Int.tdiv_eq_ediv]
    split <;> simp
  have hq : (k / 1000).toInt = k.toInt.tdiv 1000 := by
    rw [Int32.toInt_div, e, tq]
    apply bm
    · split <;> omega
    · split <;> omega
  have hm : (k / 1000 * 1000).toInt = k.toInt.tdiv 1000 * 1000 := by
    rw [Int32.toInt_mul, hq, e, tq]
    apply bm
    · split <;> omega
    · split <;> omega
  have hr : (k - k / 1000 * 1000).toInt = k.toInt - k.toInt.tdiv 1000 * 1000 := by
    rw [Int32.toInt_sub, hm, tq]
    apply bm
    · split <;> omega
    · split <;> omega
  rw [hr, tq]
  split <;> omega
theorem x_cost_toInt (k : Int32) : (x_cost k).toInt = 1024 * (k - k / 1000 * 1000).toInt + 1 := by
  obtain ⟨h1, h2⟩ := i32_1000 k
  unfold x_cost
  generalize k - k / 1000 * 1000 = r at h1 h2 ⊢
  have e1 : (1 : Int64).toInt = 1 := by decide +kernel
  have hm : (r.toInt64 * 1024).toInt = r.toInt * 1024 := by
    rw [Int64.toInt_mul, Int32.toInt_toInt64, i64_1024]
    apply i64_bm <;> omega
  rw [i64_add] <;> rw [hm, e1] <;> omega
theorem ri_road {n : Nat} {rd bs : Nat → Int64} {ch kn : Int32} {co rdm : Nat → Int32} {x : MT} (h : RI n rd bs ch kn co rdm x) {i j : Nat} (hi : i < n) (hj : j < n) (k : Int32) : RI n (vp_updL rd (8 * i + j) (x_cost k)) bs 1 0 (upd co (8 * i + j) (k - k / 1000 * 1000)) (upd rdm (8 * i + j) 1) x := by
  obtain ⟨h1, h8, G, hG, hE, -, hM, -⟩ := h
  obtain ⟨b1, b2⟩ := i32_1000 k
  have hc := x_cost_toInt k
  refine ⟨h1, h8, fun a b => if a = i ∧ b = j then some (k - k / 1000 * 1000).toInt else G a b, fun a b w hw => ?_, fun a b ha hb => ?_, Or.inl rfl, fun a b ha hb => ?_, Or.inl rfl⟩
  · have hw : (if a = i ∧ b = j then some (k - k / 1000 * 1000).toInt else G a b) = some w := hw
    split at hw
    · cases hw; exact ⟨b1, b2⟩
    · exact hG a b w hw
  · show ((if a = i ∧ b = j then some (k - k / 1000 * 1000).toInt else G a b) = none → _) ∧ ∀ w, (if a = i ∧ b = j then some (k - k / 1000 * 1000).toInt else G a b) = some w → _
    by_cases e : a = i ∧ b = j
    · rw [if_pos e, e.1, e.2, updL_s]
      refine ⟨fun q => (by cases q), fun w q => ?_⟩
      cases q
      exact ⟨ne_NO (by rw [hc]; omega), hc⟩
    · rw [if_neg e, updL_n (by omega)]
      exact hE a b ha hb
  · show ((if a = i ∧ b = j then some (k - k / 1000 * 1000).toInt else G a b) = none → _) ∧ ∀ w, (if a = i ∧ b = j then some (k - k / 1000 * 1000).toInt else G a b) = some w → _
    by_cases e : a = i ∧ b = j
    · rw [if_pos e, e.1, e.2, upd_s, upd_s]
      refine ⟨fun q => (by cases q), fun w q => ⟨by decide, ?_⟩⟩
      cases q
      rfl
    · rw [if_neg e, upd_n (by omega), upd_n (by omega)]
      exact hM a b ha hb
theorem ri_close {n : Nat} {rd bs : Nat → Int64} {ch kn : Int32} {co rdm : Nat → Int32} {x : MT} (h : RI n rd bs ch kn co rdm x) {i j : Nat} (hi : i < n) (hj : j < n) : RI n (vp_updL rd (8 * i + j) NO) bs 1 0 co (upd rdm (8 * i + j) 0) x := by
  obtain ⟨h1, h8, G, hG, hE, -, hM, -⟩ := h
  refine ⟨h1, h8, fun a b => if a = i ∧ b = j then none else G a b, fun a b w hw => ?_, fun a b ha hb => ?_, Or.inl rfl, fun a b ha hb => ?_, Or.inl rfl⟩
  · have hw : (if a = i ∧ b = j then none else G a b) = some w := hw
    split at hw
    · cases hw
    · exact hG a b w hw
  · show ((if a = i ∧ b = j then none else G a b) = none → _) ∧ ∀ w, (if a = i ∧ b = j then none else G a b) = some w → _
    by_cases e : a = i ∧ b = j
    · rw [if_pos e, e.1, e.2, updL_s]
      exact ⟨fun _ => rfl, fun w q => (by cases q)⟩
    · rw [if_neg e, updL_n (by omega)]
      exact hE a b ha hb
  · show ((if a = i ∧ b = j then none else G a b) = none → _) ∧ ∀ w, (if a = i ∧ b = j then none else G a b) = some w → _
    by_cases e : a = i ∧ b = j
    · rw [if_pos e, e.1, e.2, upd_s]
      exact ⟨fun _ => rfl, fun w q => (by cases q)⟩
    · rw [if_neg e, upd_n (by omega)]
      exact hM a b ha hb
/-- behind a question both have reckoned, over one graph -/
theorem ri_ask {n : Nat} {rd bs : Nat → Int64} {ch kn : Int32} {co rdm : Nat → Int32} {x : MT} (h : RI n rd bs ch kn co rdm x) : RI n rd (x_sw n rd bs ch) 0 (m_kn kn) co rdm (m_rkn n rdm co kn x) ∧ ∃ G, XGood n G (x_sw n rd bs ch) ∧ MGood n G (m_rkn n rdm co kn x) := by
  obtain ⟨h1, h8, G, hG, hE, hx, hM, hm⟩ := h
  have gx : XGood n G (x_sw n rd bs ch) := by
    unfold x_sw
    rcases hx with hx | ⟨hx, hg⟩
    · rw [hx, if_neg (by decide)]
      exact x_fw_good bs h8 hE hG
    · rw [if_pos hx]; exact hg
  have gm : MGood n G (m_rkn n rdm co kn x) := by
    unfold m_rkn
    rcases hm with hm | ⟨hm, hg⟩
    · rw [if_pos hm]
      exact m_rk_good x h8 hG hM
    · rw [hm, if_neg (by decide)]; exact hg
  have hkn : m_kn kn = 1 := by
    unfold m_kn
    rcases hm with hm | ⟨hm, _⟩
    · rw [if_pos hm]
    · rw [hm, if_neg (by decide)]
  exact ⟨⟨h1, h8, G, hG, hE, Or.inr ⟨rfl, gx⟩, hM, Or.inr ⟨hkn, gm⟩⟩, G, gx, gm⟩
theorem an_01 {n : Nat} {G : Nat → Nat → Option Int} {x : MT} (hm : MGood n G x) {i j : Nat} (hi : i < n) (hj : j < n) : x.2.2.2.2.1 (8 * i + j) = 0 ∨ x.2.2.2.2.1 (8 * i + j) = 1 := by
  rcases hm.1 i j hi hj with ⟨h, _⟩ | ⟨h, _⟩
  · exact Or.inl h
  · exact Or.inr h
theorem an_reach {n : Nat} {G : Nat → Nat → Option Int} {bs : Nat → Int64} {x : MT} (hx : XGood n G bs) (hm : MGood n G x) {i j : Nat} (hi : i < n) (hj : j < n) : (if bs (8 * i + j) = NO then (0 : Int32) else 1) = x.2.2.2.2.1 (8 * i + j) := by
  have e1 := xg_reach hx hi hj
  have e2 := mg_reach hm hi hj
  rcases an_01 hm hi hj with h | h
  · rw [if_pos (Decidable.byContradiction fun q => (e2.mpr (e1.mp q)) h), h]
  · rw [if_neg (fun q => (e1.mpr (e2.mp (by rw [h]; decide))) q), h]
theorem m_any_is (bad : Nat → Int32) (n : Nat) : (lp (m_any bad) 0 n 0 = 1 ∧ ∃ v, v < n ∧ bad v ≠ 0) ∨ (lp (m_any bad) 0 n 0 = 0 ∧ ∀ v, v < n → bad v = 0) := by
  refine lp_inv0 (m_any bad) (fun i y => (y = 1 ∧ ∃ v, v < i ∧ bad v ≠ 0) ∨ (y = 0 ∧ ∀ v, v < i → bad v = 0)) n 0 (Or.inr ⟨rfl, fun v h => absurd h (Nat.not_lt_zero v)⟩) ?_
  intro i y _ h
  unfold m_any
  by_cases hc : y ≠ 0 ∨ bad i ≠ 0
  · rw [if_pos hc]
    refine Or.inl ⟨rfl, ?_⟩
    rcases h with ⟨_, v, hv, hb⟩ | ⟨h0, _⟩
    · exact ⟨v, by omega, hb⟩
    · exact ⟨i, Nat.lt_succ_self i, hc.resolve_left (fun q => q h0)⟩
  · rw [if_neg hc]
    refine Or.inr ⟨rfl, fun v hv => ?_⟩
    have hy : y = 0 := Decidable.byContradiction fun q => hc (Or.inl q)
    have hb : bad i = 0 := Decidable.byContradiction fun q => hc (Or.inr q)
    rcases h with ⟨h1, _⟩ | ⟨_, h2⟩
    · rw [hy] at h1; exact absurd h1 (by decide)
    · by_cases e : v = i
      · rw [e]; exact hb
      · exact h2 v (by omega)
theorem an_circle {n : Nat} {G : Nat → Nat → Option Int} {bs : Nat → Int64} {x : MT} {r : Int32} (h8 : n ≤ 8) (hx : XGood n G bs) (hm : MGood n G x) (h : (r = 1 ∧ ∃ v, v < n ∧ bs (8 * v + v) < 0) ∨ (r = 0 ∧ ∀ v, v < n → ¬ bs (8 * v + v) < 0)) : r = lp (m_any x.2.2.2.2.2.1) 0 n 0 := by
  rcases h with ⟨h1, v, hv, hb⟩ | ⟨h1, hno⟩
  · obtain ⟨u, hu, hbad, _⟩ := (mg_neg hm).mpr ((xg_neg h8 hx (a := v) (b := v)).mp ⟨v, hv, hb, rch_rfl, rch_rfl⟩)
    rcases m_any_is x.2.2.2.2.2.1 n with ⟨h2, _⟩ | ⟨_, h3⟩
    · rw [h1, h2]
    · exact absurd (h3 u hu) hbad
  · rcases m_any_is x.2.2.2.2.2.1 n with ⟨_, v, hv, hbad⟩ | ⟨h2, _⟩
    · obtain ⟨u, hu, hb, _⟩ := (xg_neg h8 hx).mpr ((mg_neg hm (a := v) (b := v)).mp ⟨v, hv, hbad, rch_rfl, rch_rfl⟩)
      exact absurd hb (hno u hu)
    · rw [h1, h2]
theorem an_kind {n : Nat} {G : Nat → Nat → Option Int} {bs : Nat → Int64} {x : MT} {r1 r2 : Int32} (h8 : n ≤ 8) (hx : XGood n G bs) (hm : MGood n G x) {i j : Nat} (hi : i < n) (hj : j < n) (h1 : x_kd n bs i j r1) (h2 : m_kd n x.2.2.2.2.1 x.2.2.2.2.2.1 i j r2) : r1 = r2 := by
  have e1 := xg_reach hx hi hj
  have e2 := mg_reach hm hi hj
  have e3 := xg_hit h8 hx hi hj
  have e4 := mg_hit hm hi hj
  rcases h1 with ⟨a1, a2⟩ | ⟨a1, a2, a3⟩ | ⟨a1, a2, a3⟩
  · rcases h2 with ⟨b1, b2⟩ | ⟨b1, b2, b3⟩ | ⟨b1, b2, b3⟩
    · rw [a1, b1]
    · exact absurd a2 (e1.mpr (e2.mp b2))
    · exact absurd a2 (e1.mpr (e2.mp b2))
  · rcases h2 with ⟨b1, b2⟩ | ⟨b1, b2, b3⟩ | ⟨b1, b2, b3⟩
    · exact absurd b2 (e2.mpr (e1.mp a2))
    · rw [a1, b1]
    · obtain ⟨v, hv, hh⟩ := e4.mpr (e3.mp a3)
      exact absurd hh (b3 v hv)
  · rcases h2 with ⟨b1, b2⟩ | ⟨b1, b2, b3⟩ | ⟨b1, b2, b3⟩
    · exact absurd b2 (e2.mpr (e1.mp a2))
    · obtain ⟨v, hv, hh⟩ := e3.mpr (e4.mp b3)
      exact absurd hh (a3 v hv)
    · rw [a1, b1]
/-- where kind is 0, both have the one cheapest and shortest -/
theorem an_min {n : Nat} {G : Nat → Nat → Option Int} {bs : Nat → Int64} {x : MT} (h8 : n ≤ 8) (hx : XGood n G bs) (hm : MGood n G x) {i j : Nat} (hi : i < n) (hj : j < n) (h1 : x_kd n bs i j 0) : ∃ (z : Int) (k : Nat), k ≤ 256 ∧ (bs (8 * i + j)).toInt = 1024 * z + (k : Int) ∧ (x.2.2.2.2.2.2.1 (8 * i + j)).toInt = z ∧ x.2.2.2.2.2.2.2 (8 * i + j) = nI k := by
  rcases h1 with ⟨a1, _⟩ | ⟨a1, _⟩ | ⟨_, a2, a3⟩
  · exact absurd a1 (by decide)
  · exact absurd a1 (by decide)
  · have hu : ¬ unb n G i j := fun q => by
      obtain ⟨v, hv, hh⟩ := (xg_hit h8 hx hi hj).mpr q
      exact a3 v hv hh
    obtain ⟨z, k, hl, hk, he⟩ := xg_least h8 hx hi hj a2 hu
    obtain ⟨K, _, hf, hl2⟩ := mg_least hm hi hj ((xg_reach hx hi hj).mp a2) hu
    obtain ⟨q1, q2⟩ := lmin_uniq hl hl2
    exact ⟨z, k, hk, he, q1.symm, by rw [hf, q2]⟩
theorem an_least {n : Nat} {G : Nat → Nat → Option Int} {bs : Nat → Int64} {x : MT} {r1 r2 : Int64} (h8 : n ≤ 8) (hx : XGood n G bs) (hm : MGood n G x) {i j : Nat} (hi : i < n) (hj : j < n) (h1 : ∃ kd, x_kd n bs i j kd ∧ ((kd = 0 ∧ r1.toInt = (bs (8 * i + j)).toInt / 1024) ∨ (¬ kd = 0 ∧ r1 = 0))) (h2 : ∃ kd, m_kd n x.2.2.2.2.1 x.2.2.2.2.2.1 i j kd ∧ ((kd = 0 ∧ r2 = x.2.2.2.2.2.2.1 (8 * i + j)) ∨ (¬ kd = 0 ∧ r2 = 0))) : r1 = r2 := by
  obtain ⟨k1, a1, a2⟩ := h1
  obtain ⟨k2, b1, b2⟩ := h2
  have e := an_kind h8 hx hm hi hj a1 b1
  subst e
  rcases a2 with ⟨a2, a3⟩ | ⟨a2, a3⟩
  · rcases b2 with ⟨_, b3⟩ | ⟨b2, _⟩
    · rw [a2] at a1
      obtain ⟨z, k, hk, g1, g2, _⟩ := an_min h8 hx hm hi hj a1
      apply Int64.toInt_inj.mp
      rw [a3, b3, g1, g2]
      omega
    · exact absurd a2 b2
  · rcases b2 with ⟨b2, _⟩ | ⟨_, b3⟩
    · exact absurd b2 a2
    · rw [a3, b3]
theorem an_roads {n : Nat} {G : Nat → Nat → Option Int} {bs : Nat → Int64} {x : MT} {r1 r2 : Int32} (h8 : n ≤ 8) (hx : XGood n G bs) (hm : MGood n G x) {i j : Nat} (hi : i < n) (hj : j < n) (h1 : ∃ kd, x_kd n bs i j kd ∧ ((kd = 0 ∧ ∃ z : Int64, z.toInt = (bs (8 * i + j)).toInt % 1024 ∧ r1 = z.toInt32) ∨ (¬ kd = 0 ∧ r1 = -1))) (h2 : ∃ kd, m_kd n x.2.2.2.2.1 x.2.2.2.2.2.1 i j kd ∧ ((kd = 0 ∧ r2 = x.2.2.2.2.2.2.2 (8 * i + j)) ∨ (¬ kd = 0 ∧ r2 = -1))) : r1 = r2 := by
  obtain ⟨k1, a1, a2⟩ := h1
  obtain ⟨k2, b1, b2⟩ := h2
  have e := an_kind h8 hx hm hi hj a1 b1
  subst e
  rcases a2 with ⟨a2, z, a3, a4⟩ | ⟨a2, a3⟩
  · rcases b2 with ⟨_, b3⟩ | ⟨b2, _⟩
    · rw [a2] at a1
      obtain ⟨zz, k, hk, g1, _, g3⟩ := an_min h8 hx hm hi hj a1
      have hz : z = lN k := by
        apply Int64.toInt_inj.mp
        rw [a3, g1, lN_toInt (by omega)]
        omega
      rw [a4, b3, g3, hz]
      exact lN_i k
    · exact absurd a2 b2
  · rcases b2 with ⟨b2, _⟩ | ⟨_, b3⟩
    · exact absurd b2 a2
    · rw [a3, b3]
end
section
/-! THE CLAIM OUT OF ONE WALK OF THE LAW'S BODY. Your part is whole_start (and what it stands on); all else here is the same for every law, but numbers. -/
def R_law : String := "RouteDeskLaw"
def lw_P (b : Addr) (xs : List Int32) (args : Array Value) (s : State) : Prop := args = #[.ref b] ∧ s.IntsAt b xs ∧ xs.length ≤ 256 ∧ (Jvm.Cond.and given_1 narrow_1).before args s = true
def lw_Q (_ : Array Value) (s : State) (o : Outcome) (t : State) : Prop := o = .returned (some (.int 1)) ∧ Framed s o t [] 600000 7290000
def lw_Z (below : List Frame) (a : Array Value) (s : State) : State → Prop := fun t => ∃ o, t.status = .running ∧ Ended t below o ∧ lw_Q a s o t
/-- the law's own end, with 1 on the stack, nothing written that was there before, its room as the claim has it -/
theorem lw_ret {p : Program} {l : Launch} {e : Env} {s : State} {m : MethodId} {below : List Frame} {meth : Method} {c : Code} {b : Nat} (hx : p.tables.exec = Jvm.exec) (hb : c.code = code) (hr : meth.sig.returnType = ret) (hlocks : meth.locks = false) {pc : Nat} {H : Heap} {ls : Array Slot} (hdg : decode code pc = .ok (.ireturn, 1)) : W p l e room_1 s m #[Value.ref b] below meth c H [] 600000 7290000 (lw_Z below #[Value.ref b] s) (F0 m pc ls [.int 1]) := by
  intro T hT X
  obtain ⟨fs, hret, hrun, hended, hW, hframe⟩ := X.leave (v := some (.int 1)) (hlocks := hlocks) (fun h => by rw [hr] at h; cases h)
  have hmeth' : T.vm.method? m = some meth := X.method'
  refine ⟨T.setFrames fs, ?_, .returned (some (.int 1)), hrun, hended, rfl, ⟨_, rfl⟩, hW, hframe⟩
  jvm_step X.here [X.here.top, hx, hb, hdg, hmeth', hr, ret, narrow_b1]
  (try refine ⟨rfl, ?_⟩); (try refine ⟨rfl, ?_⟩)
  first | (intro acts; rw [hret _ acts rfl rfl rfl]) | rw [hret _ _ rfl rfl rfl]
  exact Steps.refl _
/-- what holds at the law's entry: the machine, the code, the tables' words (any of lw_tbl by 'hts w (by decide +kernel)'), the script of L ints xs at the cell b, what the Statement gives of the start (any of its parts by flat_of_before) -/
def lw_At (p : Program) (s : State) (m : MethodId) (meth : Method) (c : Code) (b L : Nat) (xs : Nat → Int32) : Prop :=
  p.tables.exec = Jvm.exec ∧ c.code = code ∧ meth.sig.returnType = ret ∧ c.maxLocals = 4 ∧ s.vm.findClass R_law = some m.cls ∧ (∀ w ∈ lw_tbl, w.before #[Value.ref b] s = true) ∧ va_X b L xs s s.heap ∧ b < s.heap.size ∧ meth.locks = false ∧ (Jvm.Cond.and given_1 narrow_1).before #[Value.ref b] s = true
/-- both objects' cells in the law's own world -/
def LW (D : va_G) (s : State) (h0 hr hbs : Nat) (dr db : ClassId) (g0 : Nat) (ad : Nat → Nat) (cd : Nat → ClassId) (H : Heap) (locs : List Loc) (pl : Int32) (rd bs : Nat → Int64) (ch pn kn : Int32) (co rdm : Nat → Int32) (x : MT) : Prop :=
  va_K D vwCl (xt dr db ++ mt cd) s ∧ va_P D vwCl (xw h0 hr hbs dr db pl rd bs ch ++ mw g0 ad cd pn kn co rdm x.1 x.2.1 x.2.2.1 x.2.2.2.1 x.2.2.2.2.1 x.2.2.2.2.2.1 x.2.2.2.2.2.2.1 x.2.2.2.2.2.2.2) H ∧ va_D (fun q : Nat => s.heap.size ≤ q) (xw h0 hr hbs dr db pl rd bs ch ++ mw g0 ad cd pn kn co rdm x.1 x.2.1 x.2.2.1 x.2.2.2.1 x.2.2.2.2.1 x.2.2.2.2.2.1 x.2.2.2.2.2.2.1 x.2.2.2.2.2.2.2) ∧ va_S (fun q : Nat => s.heap.size ≤ q) s.heap H locs
section
variable {p : Program} {l : Launch} {e : Env} {R : Room} {s : State} {m : MethodId} {args : Array Value} {below : List Frame} {meth : Method} {c : Code} {H : Heap} {locs : List Loc} {cells slots : Nat} {Q : State → Prop}
variable {cc : ByteArray} {pc nL : Nat} {ls : Array Slot} {rest : List Value} {D : va_G} {h0 hr hbs : Nat} {dr db : ClassId} {g0 : Nat} {ad : Nat → Nat} {cd : Nat → ClassId} {pl ch pn kn : Int32} {rd bs : Nat → Int64} {co rdm : Nat → Int32} {x : MT}
variable {y : MethodName} {bytes : ByteArray} {maxL index n : Nat} {ret : Option FieldType} {rm : Room} {As st0 : List Value}
theorem l_Xv (F : CallFix p m c cc nL s args lw_all R_law) (w : LW D s h0 hr hbs dr db g0 ad cd H locs pl rd bs ch pn kn co rdm x) {post : XT → Prop} (hM : XMv l y bytes maxL ret rm As D h0 hr hbs dr db H.size pl rd bs ch post) (cw : CallW R s args R_law RX0 index y bytes maxL ret (ws_ y bytes maxL ret) rm 0 0 n) (hn : As.length = n) (hsz : ls.size = nL) (hst : st0 = As.reverse ++ .ref h0 :: rest) (hro : (rest.map fun v => v.category).sum ≤ 8) (hdg : decode cc pc = .ok (.invokevirtual index, 3)) (hf : cells + 0 ≤ R.cells ∧ slots + 0 ≤ R.slots)
    (kk : ∀ (u : XT) (H : Heap) (locs : List Loc), post u → LW D s h0 hr hbs dr db g0 ad cd H locs u.1 u.2.1 u.2.2.1 u.2.2.2 pn kn co rdm x → W p l e R s m args below meth c H locs cells slots Q (F0 m (pc + 3) ls (rest))) : W p l e R s m args below meth c H locs cells slots Q (F0 m pc ls st0) := by
  obtain ⟨hK, hP, hD, hS⟩ := w
  have hA : ∀ q : Nat, s.heap.size ≤ q → (fun q : Nat => s.heap.size ≤ q) q := fun _ h => h
  have hPc := hP.sub (ws' := xw h0 hr hbs dr db pl rd bs ch) [0, 1, 2] rfl
  have hDc := hD.sub (ws' := xw h0 hr hbs dr db pl rd bs ch) [0, 1, 2] (by decide) rfl
  have hKc := hK.sub (tys' := xt dr db) [0, 1] rfl
  have hFc := va_free (wc := xw h0 hr hbs dr db pl rd bs ch) hD hS hA [0, 1, 2] rfl
  refine va_callv (va_runV (As := As) (rest := rest) F hM cw ⟨fun a U g mk q => by obtain ⟨q0, q1, qP, qK, qD⟩ := q; exact ⟨q0, q1, qP, va_K.moved (u := U) (U := U.calling g mk a) (Vm.Alike.refl U.vm) qK, qD⟩, va_recv hKc hPc (ci := 0) (q0 := 0) rfl rfl, fun U hU hW => ⟨rfl, by rw [hU], by rw [hU]; exact hPc, va_K.moved hW.alike hKc, hDc.weaken (fun _ _ _ _ => trivial)⟩⟩ rfl hn hsz hst (lv_room hro) hdg hf) hS (fun q _ h => hFc q h) hFc (fun u t H1 locs1 ht hvm hpost hB hz1 hk1 hS1 => ?_)
  obtain ⟨hP1, hK1, hD1⟩ := hB
  rw [ht] at hP1
  obtain ⟨hP2, hD2⟩ := va_join (wr := mw g0 ad cd pn kn co rdm x.1 x.2.1 x.2.2.1 x.2.2.2.1 x.2.2.2.2.1 x.2.2.2.2.2.1 x.2.2.2.2.2.2.1 x.2.2.2.2.2.2.2) hP hD [0, 1, 2] [3, 4, 5, 6, 7, 8, 9, 10, 11, 12, 13] rfl rfl (by decide) (by decide) hk1 hFc hP1 hD1
  exact kk u H1 locs1 hpost ⟨hK, hP2.sub [11, 12, 13, 0, 1, 2, 3, 4, 5, 6, 7, 8, 9, 10] rfl, hD2.sub [11, 12, 13, 0, 1, 2, 3, 4, 5, 6, 7, 8, 9, 10] (by decide) rfl, hS1⟩
theorem l_Mv (F : CallFix p m c cc nL s args lw_all R_law) (w : LW D s h0 hr hbs dr db g0 ad cd H locs pl rd bs ch pn kn co rdm x) {post : MS → Prop} (hM : MMv l y bytes maxL ret rm As D g0 ad cd H.size pn kn co rdm x.1 x.2.1 x.2.2.1 x.2.2.2.1 x.2.2.2.2.1 x.2.2.2.2.2.1 x.2.2.2.2.2.2.1 x.2.2.2.2.2.2.2 post) (cw : CallW R s args R_law RX1 index y bytes maxL ret (ws_ y bytes maxL ret) rm 0 0 n) (hn : As.length = n) (hsz : ls.size = nL) (hst : st0 = As.reverse ++ .ref g0 :: rest) (hro : (rest.map fun v => v.category).sum ≤ 8) (hdg : decode cc pc = .ok (.invokevirtual index, 3)) (hf : cells + 0 ≤ R.cells ∧ slots + 0 ≤ R.slots)
    (kk : ∀ (u : MS) (H : Heap) (locs : List Loc), post u → LW D s h0 hr hbs dr db g0 ad cd H locs pl rd bs ch u.1 u.2.1 u.2.2.1 u.2.2.2.1 u.2.2.2.2 → W p l e R s m args below meth c H locs cells slots Q (F0 m (pc + 3) ls (rest))) : W p l e R s m args below meth c H locs cells slots Q (F0 m pc ls st0) := by
  obtain ⟨hK, hP, hD, hS⟩ := w
  have hA : ∀ q : Nat, s.heap.size ≤ q → (fun q : Nat => s.heap.size ≤ q) q := fun _ h => h
  have hPc := hP.sub (ws' := mw g0 ad cd pn kn co rdm x.1 x.2.1 x.2.2.1 x.2.2.2.1 x.2.2.2.2.1 x.2.2.2.2.2.1 x.2.2.2.2.2.2.1 x.2.2.2.2.2.2.2) [3, 4, 5, 6, 7, 8, 9, 10, 11, 12, 13] rfl
  have hDc := hD.sub (ws' := mw g0 ad cd pn kn co rdm x.1 x.2.1 x.2.2.1 x.2.2.2.1 x.2.2.2.2.1 x.2.2.2.2.2.1 x.2.2.2.2.2.2.1 x.2.2.2.2.2.2.2) [3, 4, 5, 6, 7, 8, 9, 10, 11, 12, 13] (by decide) rfl
  have hKc := hK.sub (tys' := mt cd) [2, 3, 4, 5, 6, 7, 8, 9, 10, 11] rfl
  have hFc := va_free (wc := mw g0 ad cd pn kn co rdm x.1 x.2.1 x.2.2.1 x.2.2.2.1 x.2.2.2.2.1 x.2.2.2.2.2.1 x.2.2.2.2.2.2.1 x.2.2.2.2.2.2.2) hD hS hA [3, 4, 5, 6, 7, 8, 9, 10, 11, 12, 13] rfl
  refine va_callv (va_runV (As := As) (rest := rest) F hM cw ⟨fun a U g mk q => by obtain ⟨q0, q1, qP, qK, qD⟩ := q; exact ⟨q0, q1, qP, va_K.moved (u := U) (U := U.calling g mk a) (Vm.Alike.refl U.vm) qK, qD⟩, va_recv hKc hPc (ci := 1) (q0 := 0) rfl rfl, fun U hU hW => ⟨rfl, by rw [hU], by rw [hU]; exact hPc, va_K.moved hW.alike hKc, hDc.weaken (fun _ _ _ _ => trivial)⟩⟩ rfl hn hsz hst (lv_room hro) hdg hf) hS (fun q _ h => hFc q h) hFc (fun u t H1 locs1 ht hvm hpost hB hz1 hk1 hS1 => ?_)
  obtain ⟨hP1, hK1, hD1⟩ := hB
  rw [ht] at hP1
  obtain ⟨hP2, hD2⟩ := va_join (wr := xw h0 hr hbs dr db pl rd bs ch) hP hD [3, 4, 5, 6, 7, 8, 9, 10, 11, 12, 13] [0, 1, 2] rfl rfl (by decide) (by decide) hk1 hFc hP1 hD1
  exact kk u H1 locs1 hpost ⟨hK, hP2, hD2, hS1⟩
theorem l_Xi (F : CallFix p m c cc nL s args lw_all R_law) (w : LW D s h0 hr hbs dr db g0 ad cd H locs pl rd bs ch pn kn co rdm x) {post : Int32 → XT → Prop} (hM : XMi l y bytes maxL ret rm As D h0 hr hbs dr db H.size pl rd bs ch post) (cw : CallW R s args R_law RX0 index y bytes maxL ret (ws_ y bytes maxL ret) rm 0 0 n) (hn : As.length = n) (hsz : ls.size = nL) (hst : st0 = As.reverse ++ .ref h0 :: rest) (hro : (rest.map fun v => v.category).sum ≤ 8) (hdg : decode cc pc = .ok (.invokevirtual index, 3)) (hf : cells + 0 ≤ R.cells ∧ slots + 0 ≤ R.slots)
    (kk : ∀ (r : Int32) (u : XT) (H : Heap) (locs : List Loc), post r u → LW D s h0 hr hbs dr db g0 ad cd H locs u.1 u.2.1 u.2.2.1 u.2.2.2 pn kn co rdm x → W p l e R s m args below meth c H locs cells slots Q (F0 m (pc + 3) ls (.int r :: rest))) : W p l e R s m args below meth c H locs cells slots Q (F0 m pc ls st0) := by
  obtain ⟨hK, hP, hD, hS⟩ := w
  have hA : ∀ q : Nat, s.heap.size ≤ q → (fun q : Nat => s.heap.size ≤ q) q := fun _ h => h
  have hPc := hP.sub (ws' := xw h0 hr hbs dr db pl rd bs ch) [0, 1, 2] rfl
  have hDc := hD.sub (ws' := xw h0 hr hbs dr db pl rd bs ch) [0, 1, 2] (by decide) rfl
  have hKc := hK.sub (tys' := xt dr db) [0, 1] rfl
  have hFc := va_free (wc := xw h0 hr hbs dr db pl rd bs ch) hD hS hA [0, 1, 2] rfl
  refine va_calli (va_runV (As := As) (rest := rest) F hM cw ⟨fun a U g mk q => by obtain ⟨q0, q1, qP, qK, qD⟩ := q; exact ⟨q0, q1, qP, va_K.moved (u := U) (U := U.calling g mk a) (Vm.Alike.refl U.vm) qK, qD⟩, va_recv hKc hPc (ci := 0) (q0 := 0) rfl rfl, fun U hU hW => ⟨rfl, by rw [hU], by rw [hU]; exact hPc, va_K.moved hW.alike hKc, hDc.weaken (fun _ _ _ _ => trivial)⟩⟩ rfl hn hsz hst (lv_room hro) hdg hf) hS (fun q _ h => hFc q h) hFc (fun r u t H1 locs1 ht hvm hpost hB hz1 hk1 hS1 => ?_)
  obtain ⟨hP1, hK1, hD1⟩ := hB
  rw [ht] at hP1
  obtain ⟨hP2, hD2⟩ := va_join (wr := mw g0 ad cd pn kn co rdm x.1 x.2.1 x.2.2.1 x.2.2.2.1 x.2.2.2.2.1 x.2.2.2.2.2.1 x.2.2.2.2.2.2.1 x.2.2.2.2.2.2.2) hP hD [0, 1, 2] [3, 4, 5, 6, 7, 8, 9, 10, 11, 12, 13] rfl rfl (by decide) (by decide) hk1 hFc hP1 hD1
  exact kk r u H1 locs1 hpost ⟨hK, hP2.sub [11, 12, 13, 0, 1, 2, 3, 4, 5, 6, 7, 8, 9, 10] rfl, hD2.sub [11, 12, 13, 0, 1, 2, 3, 4, 5, 6, 7, 8, 9, 10] (by decide) rfl, hS1⟩
theorem l_Mi (F : CallFix p m c cc nL s args lw_all R_law) (w : LW D s h0 hr hbs dr db g0 ad cd H locs pl rd bs ch pn kn co rdm x) {post : Int32 → MS → Prop} (hM : MMi l y bytes maxL ret rm As D g0 ad cd H.size pn kn co rdm x.1 x.2.1 x.2.2.1 x.2.2.2.1 x.2.2.2.2.1 x.2.2.2.2.2.1 x.2.2.2.2.2.2.1 x.2.2.2.2.2.2.2 post) (cw : CallW R s args R_law RX1 index y bytes maxL ret (ws_ y bytes maxL ret) rm 0 0 n) (hn : As.length = n) (hsz : ls.size = nL) (hst : st0 = As.reverse ++ .ref g0 :: rest) (hro : (rest.map fun v => v.category).sum ≤ 8) (hdg : decode cc pc = .ok (.invokevirtual index, 3)) (hf : cells + 0 ≤ R.cells ∧ slots + 0 ≤ R.slots)
    (kk : ∀ (r : Int32) (u : MS) (H : Heap) (locs : List Loc), post r u → LW D s h0 hr hbs dr db g0 ad cd H locs pl rd bs ch u.1 u.2.1 u.2.2.1 u.2.2.2.1 u.2.2.2.2 → W p l e R s m args below meth c H locs cells slots Q (F0 m (pc + 3) ls (.int r :: rest))) : W p l e R s m args below meth c H locs cells slots Q (F0 m pc ls st0) := by
  obtain ⟨hK, hP, hD, hS⟩ := w
  have hA : ∀ q : Nat, s.heap.size ≤ q → (fun q : Nat => s.heap.size ≤ q) q := fun _ h => h
  have hPc := hP.sub (ws' := mw g0 ad cd pn kn co rdm x.1 x.2.1 x.2.2.1 x.2.2.2.1 x.2.2.2.2.1 x.2.2.2.2.2.1 x.2.2.2.2.2.2.1 x.2.2.2.2.2.2.2) [3, 4, 5, 6, 7, 8, 9, 10, 11, 12, 13] rfl
  have hDc := hD.sub (ws' := mw g0 ad cd pn kn co rdm x.1 x.2.1 x.2.2.1 x.2.2.2.1 x.2.2.2.2.1 x.2.2.2.2.2.1 x.2.2.2.2.2.2.1 x.2.2.2.2.2.2.2) [3, 4, 5, 6, 7, 8, 9, 10, 11, 12, 13] (by decide) rfl
  have hKc := hK.sub (tys' := mt cd) [2, 3, 4, 5, 6, 7, 8, 9, 10, 11] rfl
  have hFc := va_free (wc := mw g0 ad cd pn kn co rdm x.1 x.2.1 x.2.2.1 x.2.2.2.1 x.2.2.2.2.1 x.2.2.2.2.2.1 x.2.2.2.2.2.2.1 x.2.2.2.2.2.2.2) hD hS hA [3, 4, 5, 6, 7, 8, 9, 10, 11, 12, 13] rfl
  refine va_calli (va_runV (As := As) (rest := rest) F hM cw ⟨fun a U g mk q => by obtain ⟨q0, q1, qP, qK, qD⟩ := q; exact ⟨q0, q1, qP, va_K.moved (u := U) (U := U.calling g mk a) (Vm.Alike.refl U.vm) qK, qD⟩, va_recv hKc hPc (ci := 1) (q0 := 0) rfl rfl, fun U hU hW => ⟨rfl, by rw [hU], by rw [hU]; exact hPc, va_K.moved hW.alike hKc, hDc.weaken (fun _ _ _ _ => trivial)⟩⟩ rfl hn hsz hst (lv_room hro) hdg hf) hS (fun q _ h => hFc q h) hFc (fun r u t H1 locs1 ht hvm hpost hB hz1 hk1 hS1 => ?_)
  obtain ⟨hP1, hK1, hD1⟩ := hB
  rw [ht] at hP1
  obtain ⟨hP2, hD2⟩ := va_join (wr := xw h0 hr hbs dr db pl rd bs ch) hP hD [3, 4, 5, 6, 7, 8, 9, 10, 11, 12, 13] [0, 1, 2] rfl rfl (by decide) (by decide) hk1 hFc hP1 hD1
  exact kk r u H1 locs1 hpost ⟨hK, hP2, hD2, hS1⟩
theorem l_Xl (F : CallFix p m c cc nL s args lw_all R_law) (w : LW D s h0 hr hbs dr db g0 ad cd H locs pl rd bs ch pn kn co rdm x) {post : Int64 → XT → Prop} (hM : XMl l y bytes maxL ret rm As D h0 hr hbs dr db H.size pl rd bs ch post) (cw : CallW R s args R_law RX0 index y bytes maxL ret (ws_ y bytes maxL ret) rm 0 0 n) (hn : As.length = n) (hsz : ls.size = nL) (hst : st0 = As.reverse ++ .ref h0 :: rest) (hro : (rest.map fun v => v.category).sum ≤ 8) (hdg : decode cc pc = .ok (.invokevirtual index, 3)) (hf : cells + 0 ≤ R.cells ∧ slots + 0 ≤ R.slots)
    (kk : ∀ (r : Int64) (u : XT) (H : Heap) (locs : List Loc), post r u → LW D s h0 hr hbs dr db g0 ad cd H locs u.1 u.2.1 u.2.2.1 u.2.2.2 pn kn co rdm x → W p l e R s m args below meth c H locs cells slots Q (F0 m (pc + 3) ls (.long r :: rest))) : W p l e R s m args below meth c H locs cells slots Q (F0 m pc ls st0) := by
  obtain ⟨hK, hP, hD, hS⟩ := w
  have hA : ∀ q : Nat, s.heap.size ≤ q → (fun q : Nat => s.heap.size ≤ q) q := fun _ h => h
  have hPc := hP.sub (ws' := xw h0 hr hbs dr db pl rd bs ch) [0, 1, 2] rfl
  have hDc := hD.sub (ws' := xw h0 hr hbs dr db pl rd bs ch) [0, 1, 2] (by decide) rfl
  have hKc := hK.sub (tys' := xt dr db) [0, 1] rfl
  have hFc := va_free (wc := xw h0 hr hbs dr db pl rd bs ch) hD hS hA [0, 1, 2] rfl
  refine va_calll (va_runV (As := As) (rest := rest) F hM cw ⟨fun a U g mk q => by obtain ⟨q0, q1, qP, qK, qD⟩ := q; exact ⟨q0, q1, qP, va_K.moved (u := U) (U := U.calling g mk a) (Vm.Alike.refl U.vm) qK, qD⟩, va_recv hKc hPc (ci := 0) (q0 := 0) rfl rfl, fun U hU hW => ⟨rfl, by rw [hU], by rw [hU]; exact hPc, va_K.moved hW.alike hKc, hDc.weaken (fun _ _ _ _ => trivial)⟩⟩ rfl hn hsz hst (lv_room hro) hdg hf) hS (fun q _ h => hFc q h) hFc (fun r u t H1 locs1 ht hvm hpost hB hz1 hk1 hS1 => ?_)
  obtain ⟨hP1, hK1, hD1⟩ := hB
  rw [ht] at hP1
  obtain ⟨hP2, hD2⟩ := va_join (wr := mw g0 ad cd pn kn co rdm x.1 x.2.1 x.2.2.1 x.2.2.2.1 x.2.2.2.2.1 x.2.2.2.2.2.1 x.2.2.2.2.2.2.1 x.2.2.2.2.2.2.2) hP hD [0, 1, 2] [3, 4, 5, 6, 7, 8, 9, 10, 11, 12, 13] rfl rfl (by decide) (by decide) hk1 hFc hP1 hD1
  exact kk r u H1 locs1 hpost ⟨hK, hP2.sub [11, 12, 13, 0, 1, 2, 3, 4, 5, 6, 7, 8, 9, 10] rfl, hD2.sub [11, 12, 13, 0, 1, 2, 3, 4, 5, 6, 7, 8, 9, 10] (by decide) rfl, hS1⟩
theorem l_Ml (F : CallFix p m c cc nL s args lw_all R_law) (w : LW D s h0 hr hbs dr db g0 ad cd H locs pl rd bs ch pn kn co rdm x) {post : Int64 → MS → Prop} (hM : MMl l y bytes maxL ret rm As D g0 ad cd H.size pn kn co rdm x.1 x.2.1 x.2.2.1 x.2.2.2.1 x.2.2.2.2.1 x.2.2.2.2.2.1 x.2.2.2.2.2.2.1 x.2.2.2.2.2.2.2 post) (cw : CallW R s args R_law RX1 index y bytes maxL ret (ws_ y bytes maxL ret) rm 0 0 n) (hn : As.length = n) (hsz : ls.size = nL) (hst : st0 = As.reverse ++ .ref g0 :: rest) (hro : (rest.map fun v => v.category).sum ≤ 8) (hdg : decode cc pc = .ok (.invokevirtual index, 3)) (hf : cells + 0 ≤ R.cells ∧ slots + 0 ≤ R.slots)
    (kk : ∀ (r : Int64) (u : MS) (H : Heap) (locs : List Loc), post r u → LW D s h0 hr hbs dr db g0 ad cd H locs pl rd bs ch u.1 u.2.1 u.2.2.1 u.2.2.2.1 u.2.2.2.2 → W p l e R s m args below meth c H locs cells slots Q (F0 m (pc + 3) ls (.long r :: rest))) : W p l e R s m args below meth c H locs cells slots Q (F0 m pc ls st0) := by
  obtain ⟨hK, hP, hD, hS⟩ := w
  have hA : ∀ q : Nat, s.heap.size ≤ q → (fun q : Nat => s.heap.size ≤ q) q := fun _ h => h
  have hPc := hP.sub (ws' := mw g0 ad cd pn kn co rdm x.1 x.2.1 x.2.2.1 x.2.2.2.1 x.2.2.2.2.1 x.2.2.2.2.2.1 x.2.2.2.2.2.2.1 x.2.2.2.2.2.2.2) [3, 4, 5, 6, 7, 8, 9, 10, 11, 12, 13] rfl
  have hDc := hD.sub (ws' := mw g0 ad cd pn kn co rdm x.1 x.2.1 x.2.2.1 x.2.2.2.1 x.2.2.2.2.1 x.2.2.2.2.2.1 x.2.2.2.2.2.2.1 x.2.2.2.2.2.2.2) [3, 4, 5, 6, 7, 8, 9, 10, 11, 12, 13] (by decide) rfl
  have hKc := hK.sub (tys' := mt cd) [2, 3, 4, 5, 6, 7, 8, 9, 10, 11] rfl
  have hFc := va_free (wc := mw g0 ad cd pn kn co rdm x.1 x.2.1 x.2.2.1 x.2.2.2.1 x.2.2.2.2.1 x.2.2.2.2.2.1 x.2.2.2.2.2.2.1 x.2.2.2.2.2.2.2) hD hS hA [3, 4, 5, 6, 7, 8, 9, 10, 11, 12, 13] rfl
  refine va_calll (va_runV (As := As) (rest := rest) F hM cw ⟨fun a U g mk q => by obtain ⟨q0, q1, qP, qK, qD⟩ := q; exact ⟨q0, q1, qP, va_K.moved (u := U) (U := U.calling g mk a) (Vm.Alike.refl U.vm) qK, qD⟩, va_recv hKc hPc (ci := 1) (q0 := 0) rfl rfl, fun U hU hW => ⟨rfl, by rw [hU], by rw [hU]; exact hPc, va_K.moved hW.alike hKc, hDc.weaken (fun _ _ _ _ => trivial)⟩⟩ rfl hn hsz hst (lv_room hro) hdg hf) hS (fun q _ h => hFc q h) hFc (fun r u t H1 locs1 ht hvm hpost hB hz1 hk1 hS1 => ?_)
  obtain ⟨hP1, hK1, hD1⟩ := hB
  rw [ht] at hP1
  obtain ⟨hP2, hD2⟩ := va_join (wr := xw h0 hr hbs dr db pl rd bs ch) hP hD [3, 4, 5, 6, 7, 8, 9, 10, 11, 12, 13] [0, 1, 2] rfl rfl (by decide) (by decide) hk1 hFc hP1 hD1
  exact kk r u H1 locs1 hpost ⟨hK, hP2, hD2, hS1⟩
theorem l_sld {b L : Nat} {xs : Nat → Int32} (hx : p.tables.exec = Jvm.exec) (hb : c.code = cc) (hX : va_X b L xs s s.heap) (hbl : b < s.heap.size) (w : LW D s h0 hr hbs dr db g0 ad cd H locs pl rd bs ch pn kn co rdm x) {j : Nat} (hj : j < L) (hL : L ≤ 256) (hdg : decode cc pc = .ok (.iaload, 1)) (k : W p l e R s m args below meth c H locs cells slots Q (F0 m (pc + 1) ls (.int (xs j) :: rest))) : W p l e R s m args below meth c H locs cells slots Q (F0 m pc ls (.int (nI j) :: .ref b :: rest)) := by
  refine va_sld (A := fun q : Nat => s.heap.size ≤ q) hx hb hX hbl (Nat.not_le.mpr hbl) w.2.2.2 (vp_in_nI hj (by omega)) hdg ?_
  rw [nI_clamp (by omega)]
  exact k
theorem l_slen {b L : Nat} {xs : Nat → Int32} (hx : p.tables.exec = Jvm.exec) (hb : c.code = cc) (hX : va_X b L xs s s.heap) (hbl : b < s.heap.size) (w : LW D s h0 hr hbs dr db g0 ad cd H locs pl rd bs ch pn kn co rdm x) (hdg : decode cc pc = .ok (.arraylength, 1)) (k : W p l e R s m args below meth c H locs cells slots Q (F0 m (pc + 1) ls (.int (nI L) :: rest))) : W p l e R s m args below meth c H locs cells slots Q (F0 m pc ls (.ref b :: rest)) :=
  va_slen (A := fun q : Nat => s.heap.size ≤ q) hx hb hX hbl (Nat.not_le.mpr hbl) w.2.2.2 hdg k
end
end
section
theorem l_exit {p : Program} {l : Launch} {e : Env} {s : State} {m : MethodId} {below : List Frame} {meth : Method} {c : Code} {b L : Nat} {xs : Nat → Int32} (C0 : lw_At p s m meth c b L xs) {H : Heap} {locs : List Loc} {ls : Array Slot} (hS : va_S (fun q : Nat => s.heap.size ≤ q) s.heap H locs) : W p l e room_1 s m #[Value.ref b] below meth c H locs 14 728 (lw_Z below #[Value.ref b] s) (F0 m 325 ls []) := by
  obtain ⟨hx, hb, hr, hml, hown, hts, hX, hbl, hlocks, hgv⟩ := C0
  refine lv_iconst (v := 1) hx hb dL_law_325 (by decide) ?_
  refine va_forget (fun q hq => hS.2.2 q hq) ?_
  refine W.widen (k := 600000) (n := 7290000) (by decide) (by decide) ?_
  exact lw_ret hx hb hr hlocks dL_law_326
/-- one turn of the law's loop, at its body: where i + 3 is within the script -/
def l_next (p : Program) (l : Launch) (e : Env) (s : State) (m : MethodId) (below : List Frame) (meth : Method) (c : Code) (D : va_G) (h0 hr hbs : Nat) (dr db : ClassId) (g0 : Nat) (ad : Nat → Nat) (cd : Nat → ClassId) (b i : Nat) : Prop :=
  ∀ (n : Nat) (rd bs : Nat → Int64) (ch kn : Int32) (co rdm : Nat → Int32) (x : MT), RI n rd bs ch kn co rdm x → ∀ (H : Heap) (locs : List Loc) (ls : Array Slot), LW D s h0 hr hbs dr db g0 ad cd H locs (nI n) rd bs ch (nI n) kn co rdm x → lv_has ls 4 [(0, .ref b), (1, .ref h0), (2, .ref g0), (3, .int (nI i))] → W p l e room_1 s m #[Value.ref b] below meth c H locs 14 728 (lw_Z below #[Value.ref b] s) (F0 m 18 ls [])
set_option maxHeartbeats 4000000 in
set_option maxRecDepth 100000 in
theorem l_case0 {p : Program} {l : Launch} {e : Env} {s : State} {m : MethodId} {below : List Frame} {meth : Method} {c : Code} {D : va_G} {h0 hr hbs : Nat} {dr db : ClassId} {g0 : Nat} {ad : Nat → Nat} {cd : Nat → ClassId} {b L : Nat} {xs : Nat → Int32} (hL : L ≤ 256) (C0 : lw_At p s m meth c b L xs) {i : Nat} (hi : i + 3 < L) (hk : l_next p l e s m below meth c D h0 hr hbs dr db g0 ad cd b (i + 4)) {n : Nat} {rd bs : Nat → Int64} {ch kn : Int32} {co rdm : Nat → Int32} {x : MT} (hR : RI n rd bs ch kn co rdm x) {H : Heap} {locs : List Loc} {ls : Array Slot} (w : LW D s h0 hr hbs dr db g0 ad cd H locs (nI n) rd bs ch (nI n) kn co rdm x) (hl : lv_has ls 4 [(0, .ref b), (1, .ref h0), (2, .ref g0), (3, .int (nI i))]) : W p l e room_1 s m #[Value.ref b] below meth c H locs 14 728 (lw_Z below #[Value.ref b] s) (F0 m 80 ls []) := by
  obtain ⟨hx, hb, hr9, hml, hown, hts0, hX, hbl, hlocks, hgv⟩ := C0
  have hts : ∀ w ∈ lw_all, w.before #[Value.ref b] s = true := fun w h => hts0 w (lw_all_tbl h)
  have F : CallFix p m c code 4 s #[Value.ref b] lw_all R_law := ⟨hx, hb, hml, hown, hts⟩
  have h1 := hR.1
  have h8 := hR.2.1
  refine lv_aload_n hx hb dL_law_80 rfl (lv_at hl 1 rfl) ?_
  refine lv_aload_n hx hb dL_law_81 rfl (lv_at hl 0 rfl) ?_
  refine lv_iload_n hx hb dL_law_82 rfl (lv_at hl 3 rfl) ?_
  refine lv_iconst (v := (nI 1)) hx hb dL_law_83 (by decide +kernel) ?_
  refine lv_iadd hx hb dL_law_84 ?_
  refine w_top (nI_add i 1) ?_
  refine l_sld hx hb hX hbl w (by omega) hL dL_law_85 ?_
  refine l_Xv F w (metX0_places l D h0 hr hbs dr db H.size (nI n) rd bs ch (xs (i + 1))) (cwV 1 hts (lw_V q39 q40 q41 q9 q42) rfl rfl rfl (by decide +kernel) ⟨Nat.le_of_ble_eq_true rfl, Nat.le_of_ble_eq_true rfl⟩) rfl hl.1 rfl (Nat.le_of_ble_eq_true rfl) dL_law_86 ⟨Nat.le_of_ble_eq_true rfl, Nat.le_of_ble_eq_true rfl⟩ (fun u H locs hp w => ?_)
  have hp : u = _ := hp
  subst hp
  refine lv_aload_n hx hb dL_law_89 rfl (lv_at hl 2 rfl) ?_
  refine lv_aload_n hx hb dL_law_90 rfl (lv_at hl 0 rfl) ?_
  refine lv_iload_n hx hb dL_law_91 rfl (lv_at hl 3 rfl) ?_
  refine lv_iconst (v := (nI 1)) hx hb dL_law_92 (by decide +kernel) ?_
  refine lv_iadd hx hb dL_law_93 ?_
  refine w_top (nI_add i 1) ?_
  refine l_sld hx hb hX hbl w (by omega) hL dL_law_94 ?_
  refine l_Mv F w (metX1_places l D g0 ad cd H.size n kn co rdm x.1 x.2.1 x.2.2.1 x.2.2.2.1 x.2.2.2.2.1 x.2.2.2.2.2.1 x.2.2.2.2.2.2.1 x.2.2.2.2.2.2.2 (xs (i + 1)) h1 h8) (cwV 1 hts (lw_V q141 q142 q143 q10 q144) rfl rfl rfl (by decide +kernel) ⟨Nat.le_of_ble_eq_true rfl, Nat.le_of_ble_eq_true rfl⟩) rfl hl.1 rfl (Nat.le_of_ble_eq_true rfl) dL_law_95 ⟨Nat.le_of_ble_eq_true rfl, Nat.le_of_ble_eq_true rfl⟩ (fun u H locs hp w => ?_)
  have hp : u = _ := hp
  subst hp
  refine lv_goto (tgt := 319) hx hb dL_law_98 (by decide) ?_
  refine lv_iinc (v := nI (i + 4)) (lv' := [(3, .int (nI (i + 4))), (0, .ref b), (1, .ref h0), (2, .ref g0)]) hx hb dL_law_319 hl (k := 3) rfl (nI_inc4 i) (by decide) rfl (fun ls hl => ?_)
  refine lv_goto (tgt := 18) hx hb dL_law_322 (by decide) ?_
  exact hk (pn_ (xs (i + 1))) (lp x_fill 0 64 rd) bs 1 0 co (lp m_v0 0 64 rdm) x (ri_places rd bs co rdm x (xs (i + 1))) _ _ _ w (lv_sub hl [1, 2, 3, 0] rfl)
set_option maxHeartbeats 4000000 in
set_option maxRecDepth 100000 in
theorem l_case1 {p : Program} {l : Launch} {e : Env} {s : State} {m : MethodId} {below : List Frame} {meth : Method} {c : Code} {D : va_G} {h0 hr hbs : Nat} {dr db : ClassId} {g0 : Nat} {ad : Nat → Nat} {cd : Nat → ClassId} {b L : Nat} {xs : Nat → Int32} (hL : L ≤ 256) (C0 : lw_At p s m meth c b L xs) {i : Nat} (hi : i + 3 < L) (hk : l_next p l e s m below meth c D h0 hr hbs dr db g0 ad cd b (i + 4)) {n : Nat} {rd bs : Nat → Int64} {ch kn : Int32} {co rdm : Nat → Int32} {x : MT} (hR : RI n rd bs ch kn co rdm x) {H : Heap} {locs : List Loc} {ls : Array Slot} (w : LW D s h0 hr hbs dr db g0 ad cd H locs (nI n) rd bs ch (nI n) kn co rdm x) (hl : lv_has ls 4 [(0, .ref b), (1, .ref h0), (2, .ref g0), (3, .int (nI i))]) : W p l e room_1 s m #[Value.ref b] below meth c H locs 14 728 (lw_Z below #[Value.ref b] s) (F0 m 101 ls []) := by
  obtain ⟨hx, hb, hr9, hml, hown, hts0, hX, hbl, hlocks, hgv⟩ := C0
  have hts : ∀ w ∈ lw_all, w.before #[Value.ref b] s = true := fun w h => hts0 w (lw_all_tbl h)
  have F : CallFix p m c code 4 s #[Value.ref b] lw_all R_law := ⟨hx, hb, hml, hown, hts⟩
  have h1 := hR.1
  have h8 := hR.2.1
  refine lv_aload_n hx hb dL_law_101 rfl (lv_at hl 1 rfl) ?_
  refine lv_aload_n hx hb dL_law_102 rfl (lv_at hl 0 rfl) ?_
  refine lv_iload_n hx hb dL_law_103 rfl (lv_at hl 3 rfl) ?_
  refine lv_iconst (v := (nI 1)) hx hb dL_law_104 (by decide +kernel) ?_
  refine lv_iadd hx hb dL_law_105 ?_
  refine w_top (nI_add i 1) ?_
  refine l_sld hx hb hX hbl w (by omega) hL dL_law_106 ?_
  refine lv_aload_n hx hb dL_law_107 rfl (lv_at hl 0 rfl) ?_
  refine lv_iload_n hx hb dL_law_108 rfl (lv_at hl 3 rfl) ?_
  refine lv_iconst (v := (nI 2)) hx hb dL_law_109 (by decide +kernel) ?_
  refine lv_iadd hx hb dL_law_110 ?_
  refine w_top (nI_add i 2) ?_
  refine l_sld hx hb hX hbl w (by omega) hL dL_law_111 ?_
  refine lv_aload_n hx hb dL_law_112 rfl (lv_at hl 0 rfl) ?_
  refine lv_iload_n hx hb dL_law_113 rfl (lv_at hl 3 rfl) ?_
  refine lv_iconst (v := (nI 3)) hx hb dL_law_114 (by decide +kernel) ?_
  refine lv_iadd hx hb dL_law_115 ?_
  refine w_top (nI_add i 3) ?_
  refine l_sld hx hb hX hbl w (by omega) hL dL_law_116 ?_
  refine l_Xv F w (metX0_road l D h0 hr hbs dr db H.size n rd bs ch (xs (i + 1)) (xs (i + 2)) (xs (i + 3)) h1 h8) (cwV 3 hts (lw_V q43 q44 q45 q9 q46) rfl rfl rfl (by decide +kernel) ⟨Nat.le_of_ble_eq_true rfl, Nat.le_of_ble_eq_true rfl⟩) rfl hl.1 rfl (Nat.le_of_ble_eq_true rfl) dL_law_117 ⟨Nat.le_of_ble_eq_true rfl, Nat.le_of_ble_eq_true rfl⟩ (fun u H locs hp w => ?_)
  have hp : u = _ := hp
  subst hp
  refine lv_aload_n hx hb dL_law_120 rfl (lv_at hl 2 rfl) ?_
  refine lv_aload_n hx hb dL_law_121 rfl (lv_at hl 0 rfl) ?_
  refine lv_iload_n hx hb dL_law_122 rfl (lv_at hl 3 rfl) ?_
  refine lv_iconst (v := (nI 1)) hx hb dL_law_123 (by decide +kernel) ?_
  refine lv_iadd hx hb dL_law_124 ?_
  refine w_top (nI_add i 1) ?_
  refine l_sld hx hb hX hbl w (by omega) hL dL_law_125 ?_
  refine lv_aload_n hx hb dL_law_126 rfl (lv_at hl 0 rfl) ?_
  refine lv_iload_n hx hb dL_law_127 rfl (lv_at hl 3 rfl) ?_
  refine lv_iconst (v := (nI 2)) hx hb dL_law_128 (by decide +kernel) ?_
  refine lv_iadd hx hb dL_law_129 ?_
  refine w_top (nI_add i 2) ?_
  refine l_sld hx hb hX hbl w (by omega) hL dL_law_130 ?_
  refine lv_aload_n hx hb dL_law_131 rfl (lv_at hl 0 rfl) ?_
  refine lv_iload_n hx hb dL_law_132 rfl (lv_at hl 3 rfl) ?_
  refine lv_iconst (v := (nI 3)) hx hb dL_law_133 (by decide +kernel) ?_
  refine lv_iadd hx hb dL_law_134 ?_
  refine w_top (nI_add i 3) ?_
  refine l_sld hx hb hX hbl w (by omega) hL dL_law_135 ?_
  refine l_Mv F w (metX1_road l D g0 ad cd H.size n kn co rdm x.1 x.2.1 x.2.2.1 x.2.2.2.1 x.2.2.2.2.1 x.2.2.2.2.2.1 x.2.2.2.2.2.2.1 x.2.2.2.2.2.2.2 (xs (i + 1)) (xs (i + 2)) (xs (i + 3)) h1 h8) (cwV 3 hts (lw_V q145 q146 q147 q10 q148) rfl rfl rfl (by decide +kernel) ⟨Nat.le_of_ble_eq_true rfl, Nat.le_of_ble_eq_true rfl⟩) rfl hl.1 rfl (Nat.le_of_ble_eq_true rfl) dL_law_136 ⟨Nat.le_of_ble_eq_true rfl, Nat.le_of_ble_eq_true rfl⟩ (fun u H locs hp w => ?_)
  have hp : u = _ := hp
  subst hp
  refine lv_goto (tgt := 319) hx hb dL_law_139 (by decide) ?_
  refine lv_iinc (v := nI (i + 4)) (lv' := [(3, .int (nI (i + 4))), (0, .ref b), (1, .ref h0), (2, .ref g0)]) hx hb dL_law_319 hl (k := 3) rfl (nI_inc4 i) (by decide) rfl (fun ls hl => ?_)
  refine lv_goto (tgt := 18) hx hb dL_law_322 (by decide) ?_
  exact hk n (vp_updL rd (8 * pl_ n (xs (i + 1)) + pl_ n (xs (i + 2))) (x_cost (xs (i + 3)))) bs 1 0 (upd co (8 * pl_ n (xs (i + 1)) + pl_ n (xs (i + 2))) (xs (i + 3) - xs (i + 3) / 1000 * 1000)) (upd rdm (8 * pl_ n (xs (i + 1)) + pl_ n (xs (i + 2))) 1) x (ri_road hR (pl_lt (xs (i + 1)) h1) (pl_lt (xs (i + 2)) h1) (xs (i + 3))) _ _ _ w (lv_sub hl [1, 2, 3, 0] rfl)
set_option maxHeartbeats 4000000 in
set_option maxRecDepth 100000 in
theorem l_case2 {p : Program} {l : Launch} {e : Env} {s : State} {m : MethodId} {below : List Frame} {meth : Method} {c : Code} {D : va_G} {h0 hr hbs : Nat} {dr db : ClassId} {g0 : Nat} {ad : Nat → Nat} {cd : Nat → ClassId} {b L : Nat} {xs : Nat → Int32} (hL : L ≤ 256) (C0 : lw_At p s m meth c b L xs) {i : Nat} (hi : i + 3 < L) (hk : l_next p l e s m below meth c D h0 hr hbs dr db g0 ad cd b (i + 4)) {n : Nat} {rd bs : Nat → Int64} {ch kn : Int32} {co rdm : Nat → Int32} {x : MT} (hR : RI n rd bs ch kn co rdm x) {H : Heap} {locs : List Loc} {ls : Array Slot} (w : LW D s h0 hr hbs dr db g0 ad cd H locs (nI n) rd bs ch (nI n) kn co rdm x) (hl : lv_has ls 4 [(0, .ref b), (1, .ref h0), (2, .ref g0), (3, .int (nI i))]) : W p l e room_1 s m #[Value.ref b] below meth c H locs 14 728 (lw_Z below #[Value.ref b] s) (F0 m 142 ls []) := by
  obtain ⟨hx, hb, hr9, hml, hown, hts0, hX, hbl, hlocks, hgv⟩ := C0
  have hts : ∀ w ∈ lw_all, w.before #[Value.ref b] s = true := fun w h => hts0 w (lw_all_tbl h)
  have F : CallFix p m c code 4 s #[Value.ref b] lw_all R_law := ⟨hx, hb, hml, hown, hts⟩
  have h1 := hR.1
  have h8 := hR.2.1
  refine lv_aload_n hx hb dL_law_142 rfl (lv_at hl 1 rfl) ?_
  refine lv_aload_n hx hb dL_law_143 rfl (lv_at hl 0 rfl) ?_
  refine lv_iload_n hx hb dL_law_144 rfl (lv_at hl 3 rfl) ?_
  refine lv_iconst (v := (nI 1)) hx hb dL_law_145 (by decide +kernel) ?_
  refine lv_iadd hx hb dL_law_146 ?_
  refine w_top (nI_add i 1) ?_
  refine l_sld hx hb hX hbl w (by omega) hL dL_law_147 ?_
  refine lv_aload_n hx hb dL_law_148 rfl (lv_at hl 0 rfl) ?_
  refine lv_iload_n hx hb dL_law_149 rfl (lv_at hl 3 rfl) ?_
  refine lv_iconst (v := (nI 2)) hx hb dL_law_150 (by decide +kernel) ?_
  refine lv_iadd hx hb dL_law_151 ?_
  refine w_top (nI_add i 2) ?_
  refine l_sld hx hb hX hbl w (by omega) hL dL_law_152 ?_
  refine l_Xv F w (metX0_close l D h0 hr hbs dr db H.size n rd bs ch (xs (i + 1)) (xs (i + 2)) h1 h8) (cwV 2 hts (lw_V q57 q58 q59 q9 q60) rfl rfl rfl (by decide +kernel) ⟨Nat.le_of_ble_eq_true rfl, Nat.le_of_ble_eq_true rfl⟩) rfl hl.1 rfl (Nat.le_of_ble_eq_true rfl) dL_law_153 ⟨Nat.le_of_ble_eq_true rfl, Nat.le_of_ble_eq_true rfl⟩ (fun u H locs hp w => ?_)
  have hp : u = _ := hp
  subst hp
  refine lv_aload_n hx hb dL_law_156 rfl (lv_at hl 2 rfl) ?_
  refine lv_aload_n hx hb dL_law_157 rfl (lv_at hl 0 rfl) ?_
  refine lv_iload_n hx hb dL_law_158 rfl (lv_at hl 3 rfl) ?_
  refine lv_iconst (v := (nI 1)) hx hb dL_law_159 (by decide +kernel) ?_
  refine lv_iadd hx hb dL_law_160 ?_
  refine w_top (nI_add i 1) ?_
  refine l_sld hx hb hX hbl w (by omega) hL dL_law_161 ?_
  refine lv_aload_n hx hb dL_law_162 rfl (lv_at hl 0 rfl) ?_
  refine lv_iload_n hx hb dL_law_163 rfl (lv_at hl 3 rfl) ?_
  refine lv_iconst (v := (nI 2)) hx hb dL_law_164 (by decide +kernel) ?_
  refine lv_iadd hx hb dL_law_165 ?_
  refine w_top (nI_add i 2) ?_
  refine l_sld hx hb hX hbl w (by omega) hL dL_law_166 ?_
  refine l_Mv F w (metX1_close l D g0 ad cd H.size n kn co rdm x.1 x.2.1 x.2.2.1 x.2.2.2.1 x.2.2.2.2.1 x.2.2.2.2.2.1 x.2.2.2.2.2.2.1 x.2.2.2.2.2.2.2 (xs (i + 1)) (xs (i + 2)) h1 h8) (cwV 2 hts (lw_V q154 q155 q156 q10 q157) rfl rfl rfl (by decide +kernel) ⟨Nat.le_of_ble_eq_true rfl, Nat.le_of_ble_eq_true rfl⟩) rfl hl.1 rfl (Nat.le_of_ble_eq_true rfl) dL_law_167 ⟨Nat.le_of_ble_eq_true rfl, Nat.le_of_ble_eq_true rfl⟩ (fun u H locs hp w => ?_)
  have hp : u = _ := hp
  subst hp
  refine lv_goto (tgt := 319) hx hb dL_law_170 (by decide) ?_
  refine lv_iinc (v := nI (i + 4)) (lv' := [(3, .int (nI (i + 4))), (0, .ref b), (1, .ref h0), (2, .ref g0)]) hx hb dL_law_319 hl (k := 3) rfl (nI_inc4 i) (by decide) rfl (fun ls hl => ?_)
  refine lv_goto (tgt := 18) hx hb dL_law_322 (by decide) ?_
  exact hk n (vp_updL rd (8 * pl_ n (xs (i + 1)) + pl_ n (xs (i + 2))) NO) bs 1 0 co (upd rdm (8 * pl_ n (xs (i + 1)) + pl_ n (xs (i + 2))) 0) x (ri_close hR (pl_lt (xs (i + 1)) h1) (pl_lt (xs (i + 2)) h1)) _ _ _ w (lv_sub hl [1, 2, 3, 0] rfl)
set_option maxHeartbeats 4000000 in
set_option maxRecDepth 100000 in
theorem l_case3 {p : Program} {l : Launch} {e : Env} {s : State} {m : MethodId} {below : List Frame} {meth : Method} {c : Code} {D : va_G} {h0 hr hbs : Nat} {dr db : ClassId} {g0 : Nat} {ad : Nat → Nat} {cd : Nat → ClassId} {b L : Nat} {xs : Nat → Int32} (hL : L ≤ 256) (C0 : lw_At p s m meth c b L xs) {i : Nat} (hi : i + 3 < L) (hk : l_next p l e s m below meth c D h0 hr hbs dr db g0 ad cd b (i + 4)) {n : Nat} {rd bs : Nat → Int64} {ch kn : Int32} {co rdm : Nat → Int32} {x : MT} (hR : RI n rd bs ch kn co rdm x) {H : Heap} {locs : List Loc} {ls : Array Slot} (w : LW D s h0 hr hbs dr db g0 ad cd H locs (nI n) rd bs ch (nI n) kn co rdm x) (hl : lv_has ls 4 [(0, .ref b), (1, .ref h0), (2, .ref g0), (3, .int (nI i))]) : W p l e room_1 s m #[Value.ref b] below meth c H locs 14 728 (lw_Z below #[Value.ref b] s) (F0 m 173 ls []) := by
  obtain ⟨hx, hb, hr9, hml, hown, hts0, hX, hbl, hlocks, hgv⟩ := C0
  have hts : ∀ w ∈ lw_all, w.before #[Value.ref b] s = true := fun w h => hts0 w (lw_all_tbl h)
  have F : CallFix p m c code 4 s #[Value.ref b] lw_all R_law := ⟨hx, hb, hml, hown, hts⟩
  have h1 := hR.1
  have h8 := hR.2.1
  obtain ⟨hR2, G, gx, gm⟩ := ri_ask hR
  have hz := z01 (an_01 gm (pl_lt (xs (i + 1)) h1) (pl_lt (xs (i + 2)) h1))
  refine lv_aload_n hx hb dL_law_173 rfl (lv_at hl 1 rfl) ?_
  refine lv_aload_n hx hb dL_law_174 rfl (lv_at hl 0 rfl) ?_
  refine lv_iload_n hx hb dL_law_175 rfl (lv_at hl 3 rfl) ?_
  refine lv_iconst (v := (nI 1)) hx hb dL_law_176 (by decide +kernel) ?_
  refine lv_iadd hx hb dL_law_177 ?_
  refine w_top (nI_add i 1) ?_
  refine l_sld hx hb hX hbl w (by omega) hL dL_law_178 ?_
  refine lv_aload_n hx hb dL_law_179 rfl (lv_at hl 0 rfl) ?_
  refine lv_iload_n hx hb dL_law_180 rfl (lv_at hl 3 rfl) ?_
  refine lv_iconst (v := (nI 2)) hx hb dL_law_181 (by decide +kernel) ?_
  refine lv_iadd hx hb dL_law_182 ?_
  refine w_top (nI_add i 2) ?_
  refine l_sld hx hb hX hbl w (by omega) hL dL_law_183 ?_
  refine l_Xi F w (metX0_reach l D h0 hr hbs dr db H.size n rd bs ch (xs (i + 1)) (xs (i + 2)) h1 h8) (cwV 2 hts (lw_V q61 q62 q63 q9 q64) rfl rfl rfl (by decide +kernel) ⟨Nat.le_of_ble_eq_true rfl, Nat.le_of_ble_eq_true rfl⟩) rfl hl.1 rfl (Nat.le_of_ble_eq_true rfl) dL_law_184 ⟨Nat.le_of_ble_eq_true rfl, Nat.le_of_ble_eq_true rfl⟩ (fun rX u H locs hp w => ?_)
  obtain ⟨hpX, rfl⟩ := hp
  refine lv_aload_n hx hb dL_law_187 rfl (lv_at hl 2 rfl) ?_
  refine lv_aload_n hx hb dL_law_188 rfl (lv_at hl 0 rfl) ?_
  refine lv_iload_n hx hb dL_law_189 rfl (lv_at hl 3 rfl) ?_
  refine lv_iconst (v := (nI 1)) hx hb dL_law_190 (by decide +kernel) ?_
  refine lv_iadd hx hb dL_law_191 ?_
  refine w_top (nI_add i 1) ?_
  refine l_sld hx hb hX hbl w (by omega) hL dL_law_192 ?_
  refine lv_aload_n hx hb dL_law_193 rfl (lv_at hl 0 rfl) ?_
  refine lv_iload_n hx hb dL_law_194 rfl (lv_at hl 3 rfl) ?_
  refine lv_iconst (v := (nI 2)) hx hb dL_law_195 (by decide +kernel) ?_
  refine lv_iadd hx hb dL_law_196 ?_
  refine w_top (nI_add i 2) ?_
  refine l_sld hx hb hX hbl w (by omega) hL dL_law_197 ?_
  refine l_Mi F w (metX1_reach l D g0 ad cd H.size n kn co rdm x.1 x.2.1 x.2.2.1 x.2.2.2.1 x.2.2.2.2.1 x.2.2.2.2.2.1 x.2.2.2.2.2.2.1 x.2.2.2.2.2.2.2 (xs (i + 1)) (xs (i + 2)) h1 h8 hz) (cwV 2 hts (lw_V q158 q159 q160 q10 q161) rfl rfl rfl (by decide +kernel) ⟨Nat.le_of_ble_eq_true rfl, Nat.le_of_ble_eq_true rfl⟩) rfl hl.1 rfl (Nat.le_of_ble_eq_true rfl) dL_law_198 ⟨Nat.le_of_ble_eq_true rfl, Nat.le_of_ble_eq_true rfl⟩ (fun rM u H locs hp w => ?_)
  obtain ⟨hpM, rfl⟩ := hp
  have heq : rX = rM := by rw [hpX, hpM]; exact an_reach gx gm (pl_lt (xs (i + 1)) h1) (pl_lt (xs (i + 2)) h1)
  refine lv_icmp_eq (tgt := 319) hx hb dL_law_201 (by decide) (fun hc => ?_) (fun hc => ?_)
  · refine lv_iinc (v := nI (i + 4)) (lv' := [(3, .int (nI (i + 4))), (0, .ref b), (1, .ref h0), (2, .ref g0)]) hx hb dL_law_319 hl (k := 3) rfl (nI_inc4 i) (by decide) rfl (fun ls hl => ?_)
    refine lv_goto (tgt := 18) hx hb dL_law_322 (by decide) ?_
    exact hk n rd (x_sw n rd bs ch) 0 (m_kn kn) co rdm (m_rkn n rdm co kn x) (hR2) _ _ _ w (lv_sub hl [1, 2, 3, 0] rfl)
  · exact absurd heq hc
set_option maxHeartbeats 4000000 in
set_option maxRecDepth 100000 in
theorem l_case4 {p : Program} {l : Launch} {e : Env} {s : State} {m : MethodId} {below : List Frame} {meth : Method} {c : Code} {D : va_G} {h0 hr hbs : Nat} {dr db : ClassId} {g0 : Nat} {ad : Nat → Nat} {cd : Nat → ClassId} {b L : Nat} {xs : Nat → Int32} (hL : L ≤ 256) (C0 : lw_At p s m meth c b L xs) {i : Nat} (hi : i + 3 < L) (hk : l_next p l e s m below meth c D h0 hr hbs dr db g0 ad cd b (i + 4)) {n : Nat} {rd bs : Nat → Int64} {ch kn : Int32} {co rdm : Nat → Int32} {x : MT} (hR : RI n rd bs ch kn co rdm x) {H : Heap} {locs : List Loc} {ls : Array Slot} (w : LW D s h0 hr hbs dr db g0 ad cd H locs (nI n) rd bs ch (nI n) kn co rdm x) (hl : lv_has ls 4 [(0, .ref b), (1, .ref h0), (2, .ref g0), (3, .int (nI i))]) : W p l e room_1 s m #[Value.ref b] below meth c H locs 14 728 (lw_Z below #[Value.ref b] s) (F0 m 206 ls []) := by
  obtain ⟨hx, hb, hr9, hml, hown, hts0, hX, hbl, hlocks, hgv⟩ := C0
  have hts : ∀ w ∈ lw_all, w.before #[Value.ref b] s = true := fun w h => hts0 w (lw_all_tbl h)
  have F : CallFix p m c code 4 s #[Value.ref b] lw_all R_law := ⟨hx, hb, hml, hown, hts⟩
  have h1 := hR.1
  have h8 := hR.2.1
  obtain ⟨hR2, G, gx, gm⟩ := ri_ask hR
  refine lv_aload_n hx hb dL_law_206 rfl (lv_at hl 1 rfl) ?_
  refine l_Xi F w (metX0_circle l D h0 hr hbs dr db H.size n rd bs ch  h1 h8) (cwV 0 hts (lw_V q69 q70 q71 q9 q72) rfl rfl rfl (by decide +kernel) ⟨Nat.le_of_ble_eq_true rfl, Nat.le_of_ble_eq_true rfl⟩) rfl hl.1 rfl (Nat.le_of_ble_eq_true rfl) dL_law_207 ⟨Nat.le_of_ble_eq_true rfl, Nat.le_of_ble_eq_true rfl⟩ (fun rX u H locs hp w => ?_)
  obtain ⟨hpX, rfl⟩ := hp
  refine lv_aload_n hx hb dL_law_210 rfl (lv_at hl 2 rfl) ?_
  refine l_Mi F w (metX1_circle l D g0 ad cd H.size n kn co rdm x.1 x.2.1 x.2.2.1 x.2.2.2.1 x.2.2.2.2.1 x.2.2.2.2.2.1 x.2.2.2.2.2.2.1 x.2.2.2.2.2.2.2  h1 h8) (cwV 0 hts (lw_V q170 q171 q172 q10 q173) rfl rfl rfl (by decide +kernel) ⟨Nat.le_of_ble_eq_true rfl, Nat.le_of_ble_eq_true rfl⟩) rfl hl.1 rfl (Nat.le_of_ble_eq_true rfl) dL_law_211 ⟨Nat.le_of_ble_eq_true rfl, Nat.le_of_ble_eq_true rfl⟩ (fun rM u H locs hp w => ?_)
  obtain ⟨hpM, rfl⟩ := hp
  have heq : rX = rM := by rw [hpM]; exact an_circle h8 gx gm hpX
  refine lv_icmp_eq (tgt := 319) hx hb dL_law_214 (by decide) (fun hc => ?_) (fun hc => ?_)
  · refine lv_iinc (v := nI (i + 4)) (lv' := [(3, .int (nI (i + 4))), (0, .ref b), (1, .ref h0), (2, .ref g0)]) hx hb dL_law_319 hl (k := 3) rfl (nI_inc4 i) (by decide) rfl (fun ls hl => ?_)
    refine lv_goto (tgt := 18) hx hb dL_law_322 (by decide) ?_
    exact hk n rd (x_sw n rd bs ch) 0 (m_kn kn) co rdm (m_rkn n rdm co kn x) (hR2) _ _ _ w (lv_sub hl [1, 2, 3, 0] rfl)
  · exact absurd heq hc
set_option maxHeartbeats 4000000 in
set_option maxRecDepth 100000 in
theorem l_case5 {p : Program} {l : Launch} {e : Env} {s : State} {m : MethodId} {below : List Frame} {meth : Method} {c : Code} {D : va_G} {h0 hr hbs : Nat} {dr db : ClassId} {g0 : Nat} {ad : Nat → Nat} {cd : Nat → ClassId} {b L : Nat} {xs : Nat → Int32} (hL : L ≤ 256) (C0 : lw_At p s m meth c b L xs) {i : Nat} (hi : i + 3 < L) (hk : l_next p l e s m below meth c D h0 hr hbs dr db g0 ad cd b (i + 4)) {n : Nat} {rd bs : Nat → Int64} {ch kn : Int32} {co rdm : Nat → Int32} {x : MT} (hR : RI n rd bs ch kn co rdm x) {H : Heap} {locs : List Loc} {ls : Array Slot} (w : LW D s h0 hr hbs dr db g0 ad cd H locs (nI n) rd bs ch (nI n) kn co rdm x) (hl : lv_has ls 4 [(0, .ref b), (1, .ref h0), (2, .ref g0), (3, .int (nI i))]) : W p l e room_1 s m #[Value.ref b] below meth c H locs 14 728 (lw_Z below #[Value.ref b] s) (F0 m 219 ls []) := by
  obtain ⟨hx, hb, hr9, hml, hown, hts0, hX, hbl, hlocks, hgv⟩ := C0
  have hts : ∀ w ∈ lw_all, w.before #[Value.ref b] s = true := fun w h => hts0 w (lw_all_tbl h)
  have F : CallFix p m c code 4 s #[Value.ref b] lw_all R_law := ⟨hx, hb, hml, hown, hts⟩
  have h1 := hR.1
  have h8 := hR.2.1
  obtain ⟨hR2, G, gx, gm⟩ := ri_ask hR
  refine lv_aload_n hx hb dL_law_219 rfl (lv_at hl 1 rfl) ?_
  refine lv_aload_n hx hb dL_law_220 rfl (lv_at hl 0 rfl) ?_
  refine lv_iload_n hx hb dL_law_221 rfl (lv_at hl 3 rfl) ?_
  refine lv_iconst (v := (nI 1)) hx hb dL_law_222 (by decide +kernel) ?_
  refine lv_iadd hx hb dL_law_223 ?_
  refine w_top (nI_add i 1) ?_
  refine l_sld hx hb hX hbl w (by omega) hL dL_law_224 ?_
  refine lv_aload_n hx hb dL_law_225 rfl (lv_at hl 0 rfl) ?_
  refine lv_iload_n hx hb dL_law_226 rfl (lv_at hl 3 rfl) ?_
  refine lv_iconst (v := (nI 2)) hx hb dL_law_227 (by decide +kernel) ?_
  refine lv_iadd hx hb dL_law_228 ?_
  refine w_top (nI_add i 2) ?_
  refine l_sld hx hb hX hbl w (by omega) hL dL_law_229 ?_
  refine l_Xi F w (metX0_kind l D h0 hr hbs dr db H.size n rd bs ch (xs (i + 1)) (xs (i + 2)) h1 h8) (cwV 2 hts (lw_V q77 q78 q79 q9 q80) rfl rfl rfl (by decide +kernel) ⟨Nat.le_of_ble_eq_true rfl, Nat.le_of_ble_eq_true rfl⟩) rfl hl.1 rfl (Nat.le_of_ble_eq_true rfl) dL_law_230 ⟨Nat.le_of_ble_eq_true rfl, Nat.le_of_ble_eq_true rfl⟩ (fun rX u H locs hp w => ?_)
  obtain ⟨hpX, rfl⟩ := hp
  refine lv_aload_n hx hb dL_law_233 rfl (lv_at hl 2 rfl) ?_
  refine lv_aload_n hx hb dL_law_234 rfl (lv_at hl 0 rfl) ?_
  refine lv_iload_n hx hb dL_law_235 rfl (lv_at hl 3 rfl) ?_
  refine lv_iconst (v := (nI 1)) hx hb dL_law_236 (by decide +kernel) ?_
  refine lv_iadd hx hb dL_law_237 ?_
  refine w_top (nI_add i 1) ?_
  refine l_sld hx hb hX hbl w (by omega) hL dL_law_238 ?_
  refine lv_aload_n hx hb dL_law_239 rfl (lv_at hl 0 rfl) ?_
  refine lv_iload_n hx hb dL_law_240 rfl (lv_at hl 3 rfl) ?_
  refine lv_iconst (v := (nI 2)) hx hb dL_law_241 (by decide +kernel) ?_
  refine lv_iadd hx hb dL_law_242 ?_
  refine w_top (nI_add i 2) ?_
  refine l_sld hx hb hX hbl w (by omega) hL dL_law_243 ?_
  refine l_Mi F w (metX1_kind l D g0 ad cd H.size n kn co rdm x.1 x.2.1 x.2.2.1 x.2.2.2.1 x.2.2.2.2.1 x.2.2.2.2.2.1 x.2.2.2.2.2.2.1 x.2.2.2.2.2.2.2 (xs (i + 1)) (xs (i + 2)) h1 h8) (cwV 2 hts (lw_V q174 q175 q176 q10 q177) rfl rfl rfl (by decide +kernel) ⟨Nat.le_of_ble_eq_true rfl, Nat.le_of_ble_eq_true rfl⟩) rfl hl.1 rfl (Nat.le_of_ble_eq_true rfl) dL_law_244 ⟨Nat.le_of_ble_eq_true rfl, Nat.le_of_ble_eq_true rfl⟩ (fun rM u H locs hp w => ?_)
  obtain ⟨hpM, rfl⟩ := hp
  have heq : rX = rM := an_kind h8 gx gm (pl_lt (xs (i + 1)) h1) (pl_lt (xs (i + 2)) h1) hpX hpM
  refine lv_icmp_eq (tgt := 319) hx hb dL_law_247 (by decide) (fun hc => ?_) (fun hc => ?_)
  · refine lv_iinc (v := nI (i + 4)) (lv' := [(3, .int (nI (i + 4))), (0, .ref b), (1, .ref h0), (2, .ref g0)]) hx hb dL_law_319 hl (k := 3) rfl (nI_inc4 i) (by decide) rfl (fun ls hl => ?_)
    refine lv_goto (tgt := 18) hx hb dL_law_322 (by decide) ?_
    exact hk n rd (x_sw n rd bs ch) 0 (m_kn kn) co rdm (m_rkn n rdm co kn x) (hR2) _ _ _ w (lv_sub hl [1, 2, 3, 0] rfl)
  · exact absurd heq hc
set_option maxHeartbeats 4000000 in
set_option maxRecDepth 100000 in
theorem l_case6 {p : Program} {l : Launch} {e : Env} {s : State} {m : MethodId} {below : List Frame} {meth : Method} {c : Code} {D : va_G} {h0 hr hbs : Nat} {dr db : ClassId} {g0 : Nat} {ad : Nat → Nat} {cd : Nat → ClassId} {b L : Nat} {xs : Nat → Int32} (hL : L ≤ 256) (C0 : lw_At p s m meth c b L xs) {i : Nat} (hi : i + 3 < L) (hk : l_next p l e s m below meth c D h0 hr hbs dr db g0 ad cd b (i + 4)) {n : Nat} {rd bs : Nat → Int64} {ch kn : Int32} {co rdm : Nat → Int32} {x : MT} (hR : RI n rd bs ch kn co rdm x) {H : Heap} {locs : List Loc} {ls : Array Slot} (w : LW D s h0 hr hbs dr db g0 ad cd H locs (nI n) rd bs ch (nI n) kn co rdm x) (hl : lv_has ls 4 [(0, .ref b), (1, .ref h0), (2, .ref g0), (3, .int (nI i))]) : W p l e room_1 s m #[Value.ref b] below meth c H locs 14 728 (lw_Z below #[Value.ref b] s) (F0 m 252 ls []) := by
  obtain ⟨hx, hb, hr9, hml, hown, hts0, hX, hbl, hlocks, hgv⟩ := C0
  have hts : ∀ w ∈ lw_all, w.before #[Value.ref b] s = true := fun w h => hts0 w (lw_all_tbl h)
  have F : CallFix p m c code 4 s #[Value.ref b] lw_all R_law := ⟨hx, hb, hml, hown, hts⟩
  have h1 := hR.1
  have h8 := hR.2.1
  obtain ⟨hR2, G, gx, gm⟩ := ri_ask hR
  refine lv_aload_n hx hb dL_law_252 rfl (lv_at hl 1 rfl) ?_
  refine lv_aload_n hx hb dL_law_253 rfl (lv_at hl 0 rfl) ?_
  refine lv_iload_n hx hb dL_law_254 rfl (lv_at hl 3 rfl) ?_
  refine lv_iconst (v := (nI 1)) hx hb dL_law_255 (by decide +kernel) ?_
  refine lv_iadd hx hb dL_law_256 ?_
  refine w_top (nI_add i 1) ?_
  refine l_sld hx hb hX hbl w (by omega) hL dL_law_257 ?_
  refine lv_aload_n hx hb dL_law_258 rfl (lv_at hl 0 rfl) ?_
  refine lv_iload_n hx hb dL_law_259 rfl (lv_at hl 3 rfl) ?_
  refine lv_iconst (v := (nI 2)) hx hb dL_law_260 (by decide +kernel) ?_
  refine lv_iadd hx hb dL_law_261 ?_
  refine w_top (nI_add i 2) ?_
  refine l_sld hx hb hX hbl w (by omega) hL dL_law_262 ?_
  refine l_Xl F w (metX0_least l D h0 hr hbs dr db H.size n rd bs ch (xs (i + 1)) (xs (i + 2)) h1 h8) (cwV 2 hts (lw_V q81 q82 q83 q9 q84) rfl rfl rfl (by decide +kernel) ⟨Nat.le_of_ble_eq_true rfl, Nat.le_of_ble_eq_true rfl⟩) rfl hl.1 rfl (Nat.le_of_ble_eq_true rfl) dL_law_263 ⟨Nat.le_of_ble_eq_true rfl, Nat.le_of_ble_eq_true rfl⟩ (fun rX u H locs hp w => ?_)
  obtain ⟨hpX, rfl⟩ := hp
  refine lv_aload_n hx hb dL_law_266 rfl (lv_at hl 2 rfl) ?_
  refine lv_aload_n hx hb dL_law_267 rfl (lv_at hl 0 rfl) ?_
  refine lv_iload_n hx hb dL_law_268 rfl (lv_at hl 3 rfl) ?_
  refine lv_iconst (v := (nI 1)) hx hb dL_law_269 (by decide +kernel) ?_
  refine lv_iadd hx hb dL_law_270 ?_
  refine w_top (nI_add i 1) ?_
  refine l_sld hx hb hX hbl w (by omega) hL dL_law_271 ?_
  refine lv_aload_n hx hb dL_law_272 rfl (lv_at hl 0 rfl) ?_
  refine lv_iload_n hx hb dL_law_273 rfl (lv_at hl 3 rfl) ?_
  refine lv_iconst (v := (nI 2)) hx hb dL_law_274 (by decide +kernel) ?_
  refine lv_iadd hx hb dL_law_275 ?_
  refine w_top (nI_add i 2) ?_
  refine l_sld hx hb hX hbl w (by omega) hL dL_law_276 ?_
  refine l_Ml F w (metX1_least l D g0 ad cd H.size n kn co rdm x.1 x.2.1 x.2.2.1 x.2.2.2.1 x.2.2.2.2.1 x.2.2.2.2.2.1 x.2.2.2.2.2.2.1 x.2.2.2.2.2.2.2 (xs (i + 1)) (xs (i + 2)) h1 h8) (cwV 2 hts (lw_V q178 q179 q180 q10 q181) rfl rfl rfl (by decide +kernel) ⟨Nat.le_of_ble_eq_true rfl, Nat.le_of_ble_eq_true rfl⟩) rfl hl.1 rfl (Nat.le_of_ble_eq_true rfl) dL_law_277 ⟨Nat.le_of_ble_eq_true rfl, Nat.le_of_ble_eq_true rfl⟩ (fun rM u H locs hp w => ?_)
  obtain ⟨hpM, rfl⟩ := hp
  have heq : rX = rM := an_least h8 gx gm (pl_lt (xs (i + 1)) h1) (pl_lt (xs (i + 2)) h1) hpX hpM
  refine w_lc_eq (tgt := 319) hx hb dL_law_280 dL_law_281 (by decide) (fun hc => ?_) (fun hc => ?_)
  · refine lv_iinc (v := nI (i + 4)) (lv' := [(3, .int (nI (i + 4))), (0, .ref b), (1, .ref h0), (2, .ref g0)]) hx hb dL_law_319 hl (k := 3) rfl (nI_inc4 i) (by decide) rfl (fun ls hl => ?_)
    refine lv_goto (tgt := 18) hx hb dL_law_322 (by decide) ?_
    exact hk n rd (x_sw n rd bs ch) 0 (m_kn kn) co rdm (m_rkn n rdm co kn x) (hR2) _ _ _ w (lv_sub hl [1, 2, 3, 0] rfl)
  · exact absurd heq hc
set_option maxHeartbeats 4000000 in
set_option maxRecDepth 100000 in
theorem l_case7 {p : Program} {l : Launch} {e : Env} {s : State} {m : MethodId} {below : List Frame} {meth : Method} {c : Code} {D : va_G} {h0 hr hbs : Nat} {dr db : ClassId} {g0 : Nat} {ad : Nat → Nat} {cd : Nat → ClassId} {b L : Nat} {xs : Nat → Int32} (hL : L ≤ 256) (C0 : lw_At p s m meth c b L xs) {i : Nat} (hi : i + 3 < L) (hk : l_next p l e s m below meth c D h0 hr hbs dr db g0 ad cd b (i + 4)) {n : Nat} {rd bs : Nat → Int64} {ch kn : Int32} {co rdm : Nat → Int32} {x : MT} (hR : RI n rd bs ch kn co rdm x) {H : Heap} {locs : List Loc} {ls : Array Slot} (w : LW D s h0 hr hbs dr db g0 ad cd H locs (nI n) rd bs ch (nI n) kn co rdm x) (hl : lv_has ls 4 [(0, .ref b), (1, .ref h0), (2, .ref g0), (3, .int (nI i))]) : W p l e room_1 s m #[Value.ref b] below meth c H locs 14 728 (lw_Z below #[Value.ref b] s) (F0 m 286 ls []) := by
  obtain ⟨hx, hb, hr9, hml, hown, hts0, hX, hbl, hlocks, hgv⟩ := C0
  have hts : ∀ w ∈ lw_all, w.before #[Value.ref b] s = true := fun w h => hts0 w (lw_all_tbl h)
  have F : CallFix p m c code 4 s #[Value.ref b] lw_all R_law := ⟨hx, hb, hml, hown, hts⟩
  have h1 := hR.1
  have h8 := hR.2.1
  obtain ⟨hR2, G, gx, gm⟩ := ri_ask hR
  refine lv_aload_n hx hb dL_law_286 rfl (lv_at hl 1 rfl) ?_
  refine lv_aload_n hx hb dL_law_287 rfl (lv_at hl 0 rfl) ?_
  refine lv_iload_n hx hb dL_law_288 rfl (lv_at hl 3 rfl) ?_
  refine lv_iconst (v := (nI 1)) hx hb dL_law_289 (by decide +kernel) ?_
  refine lv_iadd hx hb dL_law_290 ?_
  refine w_top (nI_add i 1) ?_
  refine l_sld hx hb hX hbl w (by omega) hL dL_law_291 ?_
  refine lv_aload_n hx hb dL_law_292 rfl (lv_at hl 0 rfl) ?_
  refine lv_iload_n hx hb dL_law_293 rfl (lv_at hl 3 rfl) ?_
  refine lv_iconst (v := (nI 2)) hx hb dL_law_294 (by decide +kernel) ?_
  refine lv_iadd hx hb dL_law_295 ?_
  refine w_top (nI_add i 2) ?_
  refine l_sld hx hb hX hbl w (by omega) hL dL_law_296 ?_
  refine l_Xi F w (metX0_roads l D h0 hr hbs dr db H.size n rd bs ch (xs (i + 1)) (xs (i + 2)) h1 h8) (cwV 2 hts (lw_V q89 q90 q91 q9 q92) rfl rfl rfl (by decide +kernel) ⟨Nat.le_of_ble_eq_true rfl, Nat.le_of_ble_eq_true rfl⟩) rfl hl.1 rfl (Nat.le_of_ble_eq_true rfl) dL_law_297 ⟨Nat.le_of_ble_eq_true rfl, Nat.le_of_ble_eq_true rfl⟩ (fun rX u H locs hp w => ?_)
  obtain ⟨hpX, rfl⟩ := hp
  refine lv_aload_n hx hb dL_law_300 rfl (lv_at hl 2 rfl) ?_
  refine lv_aload_n hx hb dL_law_301 rfl (lv_at hl 0 rfl) ?_
  refine lv_iload_n hx hb dL_law_302 rfl (lv_at hl 3 rfl) ?_
  refine lv_iconst (v := (nI 1)) hx hb dL_law_303 (by decide +kernel) ?_
  refine lv_iadd hx hb dL_law_304 ?_
  refine w_top (nI_add i 1) ?_
  refine l_sld hx hb hX hbl w (by omega) hL dL_law_305 ?_
  refine lv_aload_n hx hb dL_law_306 rfl (lv_at hl 0 rfl) ?_
  refine lv_iload_n hx hb dL_law_307 rfl (lv_at hl 3 rfl) ?_
  refine lv_iconst (v := (nI 2)) hx hb dL_law_308 (by decide +kernel) ?_
  refine lv_iadd hx hb dL_law_309 ?_
  refine w_top (nI_add i 2) ?_
  refine l_sld hx hb hX hbl w (by omega) hL dL_law_310 ?_
  refine l_Mi F w (metX1_roads l D g0 ad cd H.size n kn co rdm x.1 x.2.1 x.2.2.1 x.2.2.2.1 x.2.2.2.2.1 x.2.2.2.2.2.1 x.2.2.2.2.2.2.1 x.2.2.2.2.2.2.2 (xs (i + 1)) (xs (i + 2)) h1 h8) (cwV 2 hts (lw_V q183 q184 q185 q10 q186) rfl rfl rfl (by decide +kernel) ⟨Nat.le_of_ble_eq_true rfl, Nat.le_of_ble_eq_true rfl⟩) rfl hl.1 rfl (Nat.le_of_ble_eq_true rfl) dL_law_311 ⟨Nat.le_of_ble_eq_true rfl, Nat.le_of_ble_eq_true rfl⟩ (fun rM u H locs hp w => ?_)
  obtain ⟨hpM, rfl⟩ := hp
  have heq : rX = rM := an_roads h8 gx gm (pl_lt (xs (i + 1)) h1) (pl_lt (xs (i + 2)) h1) hpX hpM
  refine lv_icmp_eq (tgt := 319) hx hb dL_law_314 (by decide) (fun hc => ?_) (fun hc => ?_)
  · refine lv_iinc (v := nI (i + 4)) (lv' := [(3, .int (nI (i + 4))), (0, .ref b), (1, .ref h0), (2, .ref g0)]) hx hb dL_law_319 hl (k := 3) rfl (nI_inc4 i) (by decide) rfl (fun ls hl => ?_)
    refine lv_goto (tgt := 18) hx hb dL_law_322 (by decide) ?_
    exact hk n rd (x_sw n rd bs ch) 0 (m_kn kn) co rdm (m_rkn n rdm co kn x) (hR2) _ _ _ w (lv_sub hl [1, 2, 3, 0] rfl)
  · exact absurd heq hc
set_option maxHeartbeats 4000000 in
set_option maxRecDepth 100000 in
theorem l_body {p : Program} {l : Launch} {e : Env} {s : State} {m : MethodId} {below : List Frame} {meth : Method} {c : Code} {D : va_G} {h0 hr hbs : Nat} {dr db : ClassId} {g0 : Nat} {ad : Nat → Nat} {cd : Nat → ClassId} {b L : Nat} {xs : Nat → Int32} (hL : L ≤ 256) (C0 : lw_At p s m meth c b L xs) {i : Nat} (hi : i + 3 < L) (hk : l_next p l e s m below meth c D h0 hr hbs dr db g0 ad cd b (i + 4)) {n : Nat} {rd bs : Nat → Int64} {ch kn : Int32} {co rdm : Nat → Int32} {x : MT} (hR : RI n rd bs ch kn co rdm x) {H : Heap} {locs : List Loc} {ls : Array Slot} (w : LW D s h0 hr hbs dr db g0 ad cd H locs (nI n) rd bs ch (nI n) kn co rdm x) (hl : lv_has ls 4 [(0, .ref b), (1, .ref h0), (2, .ref g0), (3, .int (nI i))]) : W p l e room_1 s m #[Value.ref b] below meth c H locs 14 728 (lw_Z below #[Value.ref b] s) (F0 m 26 ls []) := by
  obtain ⟨hx, hb, hr9, hml, hown, hts0, hX, hbl, hlocks, hgv⟩ := id C0
  refine lv_aload_n hx hb dL_law_26 rfl (lv_at hl 0 rfl) ?_
  refine lv_iload_n hx hb dL_law_27 rfl (lv_at hl 3 rfl) ?_
  refine l_sld hx hb hX hbl w (by omega) hL dL_law_28 ?_
  refine lv_bipush (v := 7) hx hb dL_law_29 (by decide +kernel) ?_
  refine lv_iand hx hb dL_law_31 ?_
  obtain ⟨j, hj8, hje⟩ := pk_andE (xs i) (m := 7) 3 (by decide +kernel)
  refine w_top hje ?_
  rcases (show j = 0 ∨ j = 1 ∨ j = 2 ∨ j = 3 ∨ j = 4 ∨ j = 5 ∨ j = 6 ∨ j = 7 by omega) with rfl | rfl | rfl | rfl | rfl | rfl | rfl | rfl
  · refine lv_tableIn (tgt := 80) hx hb dL_law_32 (by decide +kernel) (by decide +kernel) (off := 48) (by decide +kernel) (by decide) ?_
    exact l_case0 hL C0 hi hk hR w hl
  · refine lv_tableIn (tgt := 101) hx hb dL_law_32 (by decide +kernel) (by decide +kernel) (off := 69) (by decide +kernel) (by decide) ?_
    exact l_case1 hL C0 hi hk hR w hl
  · refine lv_tableIn (tgt := 142) hx hb dL_law_32 (by decide +kernel) (by decide +kernel) (off := 110) (by decide +kernel) (by decide) ?_
    exact l_case2 hL C0 hi hk hR w hl
  · refine lv_tableIn (tgt := 173) hx hb dL_law_32 (by decide +kernel) (by decide +kernel) (off := 141) (by decide +kernel) (by decide) ?_
    exact l_case3 hL C0 hi hk hR w hl
  · refine lv_tableIn (tgt := 206) hx hb dL_law_32 (by decide +kernel) (by decide +kernel) (off := 174) (by decide +kernel) (by decide) ?_
    exact l_case4 hL C0 hi hk hR w hl
  · refine lv_tableIn (tgt := 219) hx hb dL_law_32 (by decide +kernel) (by decide +kernel) (off := 187) (by decide +kernel) (by decide) ?_
    exact l_case5 hL C0 hi hk hR w hl
  · refine lv_tableIn (tgt := 252) hx hb dL_law_32 (by decide +kernel) (by decide +kernel) (off := 220) (by decide +kernel) (by decide) ?_
    exact l_case6 hL C0 hi hk hR w hl
  · refine lv_tableIn (tgt := 286) hx hb dL_law_32 (by decide +kernel) (by decide +kernel) (off := 254) (by decide +kernel) (by decide) ?_
    exact l_case7 hL C0 hi hk hR w hl
set_option maxHeartbeats 4000000 in
set_option maxRecDepth 100000 in
/-- THE LAW'S LOOP -/
theorem law_loop {p : Program} {l : Launch} {e : Env} {s : State} {m : MethodId} {below : List Frame} {meth : Method} {c : Code} {D : va_G} {h0 hr hbs : Nat} {dr db : ClassId} {g0 : Nat} {ad : Nat → Nat} {cd : Nat → ClassId} {b L : Nat} {xs : Nat → Int32} (hL : L ≤ 256) (C0 : lw_At p s m meth c b L xs) : ∀ (k i : Nat), L + 1 ≤ i + 4 * k → i ≤ 300 → l_next p l e s m below meth c D h0 hr hbs dr db g0 ad cd b i := by
  intro k
  induction k with
  | zero =>
    intro i hik hi9 n rd bs ch kn co rdm x hR H locs ls w hl
    obtain ⟨hx, hb, hr9, hml, hown, hts0, hX, hbl, hlocks, hgv⟩ := id C0
    refine lv_iload_n hx hb dL_law_18 rfl (lv_at hl 3 rfl) ?_
    refine lv_aload_n hx hb dL_law_19 rfl (lv_at hl 0 rfl) ?_
    refine l_slen hx hb hX hbl w dL_law_20 ?_
    refine lv_iconst (v := (nI 4)) hx hb dL_law_21 (by decide +kernel) ?_
    refine lv_isub hx hb dL_law_22 ?_
    rcases Nat.lt_or_ge L 4 with hL4 | hL4
    · refine lv_icmp_gt (tgt := 325) hx hb dL_law_23 (by decide) (fun _ => l_exit C0 w.2.2.2) (fun hq => ?_)
      refine absurd ?_ hq
      have e1 := pk_sneg (a := L) (b := 4) (by decide) hL4
      have e2 := nI_pos' (n := i) (by omega)
      rw [Int32.lt_iff_toInt_lt] at e1 ⊢
      rw [Int32.le_iff_toInt_le] at e2
      omega
    · refine w_top (pk_sub hL4) ?_
      rcases Nat.lt_or_ge (L - 4) i with hc | hc
      · exact w_gt_t (tgt := 325) hx hb dL_law_23 (by decide) hc (by omega) (l_exit C0 w.2.2.2)
      · exact absurd hik (by omega)
  | succ k ih =>
    intro i hik hi9 n rd bs ch kn co rdm x hR H locs ls w hl
    obtain ⟨hx, hb, hr9, hml, hown, hts0, hX, hbl, hlocks, hgv⟩ := id C0
    refine lv_iload_n hx hb dL_law_18 rfl (lv_at hl 3 rfl) ?_
    refine lv_aload_n hx hb dL_law_19 rfl (lv_at hl 0 rfl) ?_
    refine l_slen hx hb hX hbl w dL_law_20 ?_
    refine lv_iconst (v := (nI 4)) hx hb dL_law_21 (by decide +kernel) ?_
    refine lv_isub hx hb dL_law_22 ?_
    rcases Nat.lt_or_ge L 4 with hL4 | hL4
    · refine lv_icmp_gt (tgt := 325) hx hb dL_law_23 (by decide) (fun _ => l_exit C0 w.2.2.2) (fun hq => ?_)
      refine absurd ?_ hq
      have e1 := pk_sneg (a := L) (b := 4) (by decide) hL4
      have e2 := nI_pos' (n := i) (by omega)
      rw [Int32.lt_iff_toInt_lt] at e1 ⊢
      rw [Int32.le_iff_toInt_le] at e2
      omega
    · refine w_top (pk_sub hL4) ?_
      rcases Nat.lt_or_ge (L - 4) i with hc | hc
      · exact w_gt_t (tgt := 325) hx hb dL_law_23 (by decide) hc (by omega) (l_exit C0 w.2.2.2)
      · exact w_gt_f (tgt := 325) hx hb dL_law_23 (by decide) hc (by omega) (l_body hL C0 (by omega) (ih (i + 4) (by omega) (by omega)) hR w hl)
end
section
set_option maxHeartbeats 4000000 in
set_option maxRecDepth 100000 in
/-- from the entry, for every script of at most 256 ints, the law comes to its end with true -/
theorem whole_start {p : Program} {e : Env} {s : State} {m : MethodId} {below : List Frame} {meth : Method} {c : Code} (l : Launch) {b L : Nat} {xs : Nat → Int32} (hL : L ≤ 256) (C0 : lw_At p s m meth c b L xs) : W p l e room_1 s m #[Value.ref b] below meth c s.heap [] 0 0 (lw_Z below #[Value.ref b] s) (entryFrame m ([Value.ref b] : List Value).toArray 4) := by
  obtain ⟨hx, hb, hr9, hml, hown, hts0, hX, hbl, hlocks, hgv⟩ := id C0
  have hts : ∀ w ∈ lw_all, w.before #[Value.ref b] s = true := fun w h => hts0 w (lw_all_tbl h)
  have hA : ∀ q : Nat, s.heap.size ≤ q → (fun q : Nat => s.heap.size ≤ q) q := fun _ h => h
  obtain ⟨c0, iS0, hKn0⟩ := u_known (C := RX0) (T := TX0) (N := 4) (n := 4) hts in_X0 (hts _ q13)
  obtain ⟨c1, iS1, hKn1⟩ := u_known (C := RX1) (T := TX1) (N := 12) (n := 12) hts in_X1 (hts _ q97)
  obtain ⟨D, hKc⟩ : ∃ D : va_G, ∀ (k : Nat) (q : vw_C), vwCl[k]? = some q → u_Kn s q.1 q.2.1 q.2.2 (D.1 k) (D.2 k) := by
    refine ⟨(fun k => if k = 0 then c0 else c1, fun k => if k = 0 then iS0 else iS1), ?_⟩
    intro k q hq
    match k, hq with
    | 0, hq => cases hq; exact hKn0
    | 1, hq => cases hq; exact hKn1
    | k + 2, hq => simp [vwCl] at hq
  have hS : va_S (fun q : Nat => s.heap.size ≤ q) s.heap s.heap [] := va_S.rf
  have hK : va_K D vwCl [] s := ⟨hKc, fun k q h => by simp at h⟩
  have hP : va_P D vwCl [] s.heap := fun k q h => by simp at h
  have hD : va_D (fun q : Nat => s.heap.size ≤ q) [] := ⟨fun i j p q h => by simp at h, fun k q h => by simp at h⟩
  have hl := lv_entry ([.ref b]) (n := 4) (Nat.le_of_ble_eq_true rfl)
  rw [lg_entry_eq]
  generalize (lg_sl ([.ref b]) ++ List.replicate (4 - (lg_sl ([.ref b])).length) Slot.unset).toArray = ls at hl ⊢
  have hl : lv_has ls 4 [(0, .ref b)] := hl
  refine va_new (ci := 0) (fs := [.int 0, .null, .null, .int 0]) (C := RX0) (T := TX0) (N := 4) hx hb hts in_X0 tyX0 tyX0_ok hown (hts _ q12) (hts _ q13) (hts _ q9) hK hP hD hS hA rfl (fun j hj => by rcases (show j = 0 ∨ j = 1 ∨ j = 2 ∨ j = 3 by omega) with rfl | rfl | rfl | rfl <;> rfl) (Nat.le_of_ble_eq_true rfl) (Nat.le_of_ble_eq_true rfl) dL_law_0 (fun h0 H hP hD hS => ?_)
  have hP : va_P D vwCl (x00 h0) H := hP
  have hD : va_D (fun q : Nat => s.heap.size ≤ q) (x00 h0) := hD
  refine W.widen (k := 1) (n := 4) (by omega) (by omega) ?_
  refine lv_dup hx hb dL_law_3 rfl ?_
  have hFc := va_free (wc := x00 h0) hD hS hA [0] rfl
  refine va_callv (va_runI (As := []) (rest := [.ref h0]) ⟨hx, hb, hml, hown, hts⟩ (metX0_init l D h0 H.size) (cwI 0 hts (lw_meth q16) rfl rfl rfl (hts _ q9) (hts _ q14) (hts _ q15) rfl (by decide +kernel) ⟨Nat.le_of_ble_eq_true rfl, Nat.le_of_ble_eq_true rfl⟩) ⟨fun a U g mk q => by obtain ⟨q0, q1, qP, qK, qD⟩ := q; exact ⟨q0, q1, qP, va_K.moved (u := U) (U := U.calling g mk a) (Vm.Alike.refl U.vm) qK, qD⟩, fun U hU hW => ⟨rfl, by rw [hU], by rw [hU]; exact hP, va_K.moved hW.alike hK, hD.weaken (fun _ _ _ _ => trivial)⟩⟩ rfl rfl hl.1 rfl (lv_room (Nat.le_of_ble_eq_true rfl)) dL_law_4 ⟨Nat.le_of_ble_eq_true rfl, Nat.le_of_ble_eq_true rfl⟩) hS (fun q _ h => hFc q h) hFc (fun u t H1 locs ht hvm hw hB hz1 hk1 hS => ?_)
  have hw : u = x_new := hw
  subst hw
  obtain ⟨hr, hbs, dr, db, hP1, hK1, hD1⟩ := hB
  rw [ht] at hP1
  have hK := va_K.moved hvm.symm hK1
  have hP := hP1
  have hD := hD1.weaken (B := fun q : Nat => s.heap.size ≤ q) (fun _ _ _ h => hFc _ h)
  generalize H1 = H at hP hS ⊢
  have hP : va_P D vwCl (xw h0 hr hbs dr db (nI 2) (lp x_fill 0 64 x_z) x_z 1) H := hP
  have hD : va_D (fun q : Nat => s.heap.size ≤ q) (xw h0 hr hbs dr db (nI 2) (lp x_fill 0 64 x_z) x_z 1) := hD
  generalize hrd : lp x_fill 0 64 x_z = rd at hP hD
  refine W.widen (k := 3) (n := 132) (by omega) (by omega) ?_
  refine lv_astore_n (lv' := [(1, .ref h0), (0, .ref b)]) hx hb dL_law_7 rfl hl (by decide) rfl (fun ls hl => ?_)
  refine va_new (ci := 1) (fs := [.null, .null, .int 0, .int 0, .null, .null, .null, .null, .null, .null, .null, .null]) (C := RX1) (T := TX1) (N := 12) hx hb hts in_X1 tyX1 tyX1_ok hown (hts _ q96) (hts _ q97) (hts _ q10) hK hP hD hS hA rfl (fun j hj => by rcases (show j = 0 ∨ j = 1 ∨ j = 2 ∨ j = 3 ∨ j = 4 ∨ j = 5 ∨ j = 6 ∨ j = 7 ∨ j = 8 ∨ j = 9 ∨ j = 10 ∨ j = 11 by omega) with rfl | rfl | rfl | rfl | rfl | rfl | rfl | rfl | rfl | rfl | rfl | rfl <;> rfl) (Nat.le_of_ble_eq_true rfl) (Nat.le_of_ble_eq_true rfl) dL_law_8 (fun g0 H hP hD hS => ?_)
  have hP : va_P D vwCl (xw h0 hr hbs dr db (nI 2) rd x_z 1 ++ m00 g0) H := hP
  have hD : va_D (fun q : Nat => s.heap.size ≤ q) (xw h0 hr hbs dr db (nI 2) rd x_z 1 ++ m00 g0) := hD
  refine W.widen (k := 4) (n := 144) (by omega) (by omega) ?_
  refine lv_dup hx hb dL_law_11 rfl ?_
  have hPc := hP.sub (ws' := m00 g0) [3] rfl
  have hDc := hD.sub (ws' := m00 g0) [3] (by decide) rfl
  have hKc := hK.sub (tys' := []) [] rfl
  have hFc := va_free (wc := m00 g0) hD hS hA [3] rfl
  refine va_callv (va_runI (As := []) (rest := [.ref g0]) ⟨hx, hb, hml, hown, hts⟩ (metX1_init l D g0 H.size) (cwI 0 hts (lw_meth q100) rfl rfl rfl (hts _ q10) (hts _ q98) (hts _ q99) rfl (by decide +kernel) ⟨Nat.le_of_ble_eq_true rfl, Nat.le_of_ble_eq_true rfl⟩) ⟨fun a U g mk q => by obtain ⟨q0, q1, qP, qK, qD⟩ := q; exact ⟨q0, q1, qP, va_K.moved (u := U) (U := U.calling g mk a) (Vm.Alike.refl U.vm) qK, qD⟩, fun U hU hW => ⟨rfl, by rw [hU], by rw [hU]; exact hPc, va_K.moved hW.alike hKc, hDc.weaken (fun _ _ _ _ => trivial)⟩⟩ rfl rfl hl.1 rfl (lv_room (Nat.le_of_ble_eq_true rfl)) dL_law_12 ⟨Nat.le_of_ble_eq_true rfl, Nat.le_of_ble_eq_true rfl⟩) hS (fun q _ h => hFc q h) hFc (fun u t H1 locs ht hvm hw hB hz1 hk1 hS => ?_)
  have hw : u = m_new := hw
  subst hw
  obtain ⟨ad, cd, hP1, hK1, hD1⟩ := hB
  rw [ht] at hP1
  have hK1 := va_K.moved hvm.symm hK1
  obtain ⟨hP, hD⟩ := va_join (wr := xw h0 hr hbs dr db (nI 2) rd x_z 1) hP hD [3] [0, 1, 2] rfl rfl (by decide) (by decide) hk1 hFc hP1 hD1
  have hK := hK.app hK1
  generalize H1 = H at hP hS ⊢
  have w : LW D s h0 hr hbs dr db g0 ad cd H locs (nI 2) rd x_z 1 (nI 2) 0 m_z m_z (x_z, m_z, x_z, m_z, m_z, m_z, x_z, m_z) := ⟨hK, hP, hD, hS⟩
  refine W.widen (k := 14) (n := 728) (by omega) (by omega) ?_
  refine lv_astore_n (lv' := [(2, .ref g0), (1, .ref h0), (0, .ref b)]) hx hb dL_law_15 rfl hl (by decide) rfl (fun ls hl => ?_)
  refine lv_iconst (v := nI 0) hx hb dL_law_16 (by decide +kernel) ?_
  refine lv_istore_n (lv' := [(3, .int (nI 0)), (2, .ref g0), (1, .ref h0), (0, .ref b)]) hx hb dL_law_17 rfl hl (by decide) rfl (fun ls hl => ?_)
  exact law_loop hL C0 (L + 1) 0 (by omega) (by omega) 2 rd x_z 1 0 m_z m_z _ (ri_clear (by omega) (by omega) _ _ _ _ _ (fun j hj => by rw [← hrd]; exact x_fill_at x_z j hj) (fun j _ => rfl)) _ _ ls w (lv_sub hl [3, 2, 1, 0] rfl)
set_option maxHeartbeats 4000000 in
theorem lw_walk (l : Launch) (b : Addr) (xs : List Int32) : MetFree l x (headSpec (Jvm.Cond.code x code maxLocals ret :: tables_1) room_1) (lw_P b xs) (fun _ _ _ _ _ => True) lw_Q := by
  refine MetFree.of_bodyS (code := code) (maxLocals := maxLocals) (ret := ret) (by decide) ?_ ?_
  · intro args s m h hn
    obtain ⟨meth, c, h1, h2, h3, h4, h5, h6, -, -⟩ := Cond.code_spec hn (atoms_spec (ws := Jvm.Cond.code x code maxLocals ret :: tables_1) h _ List.mem_cons_self)
    exact ⟨meth, c, h1, h2, h3, h4, h5, h6⟩
  · intro p e s m args below meth c s₁ B hml0 hP _
    obtain ⟨rfl, hx, hbd, hgv⟩ := hP
    obtain ⟨scr, harrAt, hlist, hof, hsmall⟩ := hx
    obtain ⟨hcb, hkn, -, -⟩ := State.arrayAt?_spec harrAt
    have hown : s.vm.findClass R_law = some m.cls := findClass_of_methodNamed B.named
    have hts0 : ∀ c ∈ (Jvm.Cond.code x code maxLocals ret :: tables_1), c.before #[Value.ref b] s = true := atoms_spec (ws := Jvm.Cond.code x code maxLocals ret :: tables_1) B.pre
    have hts : ∀ w ∈ lw_tbl, w.before #[Value.ref b] s = true := k2_hts_sels lw_privs (fun w hw => hts0 w (List.mem_cons_of_mem _ hw)) lw_privs_ok
    have hml : c.maxLocals = 4 := B.maxLocals_eq (hts0 _ List.mem_cons_self)
    have X₀ : Stand p l e room_1 s m #[Value.ref b] below meth c s₁ [] 0 0 := Stand.of_body B
    have hh0 : s₁.heap = s.heap := by rw [B.state]; rfl
    have hsz : scr.slots.size = xs.length := by rw [← Array.length_toList, hlist, List.length_map]
    have hval : ∀ j : Nat, j < xs.length → scr.slots[j]? = some (.int (xs.getD j 0)) := fun j hj => by
      rw [← Array.getElem?_toList, hlist]
      simp [hj]
    have hbl : b < s.heap.size := (Array.getElem?_eq_some_iff.mp hcb).1
    have hX : va_X b xs.length (fun j => xs.getD j 0) s s.heap := ⟨scr, hcb, hof, hkn, hsz, hval⟩
    have K : W p l e room_1 s m #[Value.ref b] below meth c s₁.heap [] 0 0 (lw_Z below #[Value.ref b] s) (entryFrame m ([Value.ref b] : List Value).toArray 4) := by
      rw [hh0]
      exact whole_start l hbd ⟨B.exec, B.bytes, B.returns, hml, hown, hts, hX, hbl, B.notSynchronized, hgv⟩
    obtain ⟨t, a1, o, b1, b2, b3⟩ := K s₁ rfl X₀
    exact ⟨t, o, a1, b1, b2, b3⟩
theorem lw_pre_spec {args : Array Value} {s : State} (h : (Jvm.Cond.and given_1 narrow_1).before args s = true) (hr : rest_1_c.before args s = true) : ∃ (b : Addr) (xs : List Int32), lw_P b xs args s := by
  have hs := flat_of_before _ h
  have hq := flat_of_before _ hr
  have hc : (Cond.count 1).before args s = true := hs _ (by decide +kernel)
  have harr : (Cond.arrayOf (.arg 0) .int).before args s = true := hs _ (by decide +kernel)
  have hle : (Cond.le (.length (.arg 0)) (.int 256)).before args s = true := hs _ (by decide +kernel)
  have hlen : (Cond.isInt (.length (.arg 0))).before args s = true := hq _ (by decide +kernel)
  have hall : (Cond.all (.arg 0) (.isInt (.elem (.arg 0) (.index 0)))).before args s = true := hq _ (by decide +kernel)
  obtain ⟨b, xs, hb, hx⟩ := State.ints_of_pre rfl harr hlen hall
  have hsm : xs.length < 2 ^ 31 := hx.choose_spec.2.2.2
  have hev : (Term.length (.arg 0)).eval args s none [] s = some (.int xs.length.toInt32) := hx.length_eval hb
  have hv := Cond.le_ints hev (show (Term.int 256).eval args s none [] s = some (.int 256) from rfl)
  have hd : xs.length.toInt32 ≤ 256 := by
    simpa [Cond.before, Cond.holds, hv] using hle
  have hN : xs.length ≤ 256 := (Int32.ofNat_le_ofNat hsm (by decide)).mp (show Int32.ofNat xs.length ≤ Int32.ofNat 256 from hd)
  exact ⟨b, xs, Cond.one_arg hc (show args[0]? = some (.ref b) from hb), hx, hN, h⟩
theorem lw_comes (l : Launch) : Comes l x (Jvm.Cond.code x code maxLocals ret :: tables_1) room_1 (fun tb e args s => Calls_1 tb e args s ∧ rest_1 tb e args s ∧ Pre_1 tb e args s)
    (fun _ _ args s o t => lw_Q args s o t) := by
  intro p e ha hc hk s m args below hf hfit hheap happ hpre
  obtain ⟨b, xs, hP⟩ := lw_pre_spec hpre.2.2 hpre.2.1
  obtain ⟨k, o, h1, h2, h3, hQ⟩ := lw_walk l b xs p e ha hc hk s m args below hf ((Spec.applies_iff_loose hf).mp happ).1 hP trivial
  exact ⟨k, o, h1, h2, h3, hQ⟩
theorem lw_frame {s t : State} {o : Outcome} {args : Array Value} (h : Framed s o t [] 600000 7290000) :
    Framed s o t (fieldLocs frame_1_writes args s ++ arrayLocs frame_1_arrays args s ++ staticLocs frame_1_statics s) 600000 7290000 := h
theorem lw_limb (L : Cond) (hL : ∀ (args : Array Value) (s t : State), L.after args s (.returned (some (.int 1))) t = true) :
    ArmFor flags0 classFile x code maxLocals ret World_1 tables_1 room_1 Calls_1 rest_1 Pre_1
      (fun tb e a s o t => postC L tb e a s o t ∧ Framed s o t (fieldLocs frame_1_writes a s ++ arrayLocs frame_1_arrays a s ++ staticLocs frame_1_statics s) 600000 7290000) := by
  intro l _ _ _ p e ha hc hk s m args below hf hfit hheap happ hpre
  obtain ⟨k, o, h1, h2, h3, rfl, hF⟩ := lw_comes l p e ha hc hk s m args below hf hfit hheap happ hpre
  exact ⟨k, _, h1, h2, h3, hL args s _, lw_frame hF⟩
theorem i_vc : Claimed_1_1 ∧ Claimed_1_2 := ⟨lw_limb limb_1_1 (fun args s t => by simp [limb_1_1, Cond.after, Cond.holds, Cond.value]), lw_limb limb_1_2 (fun args s t => Cond.after_iff.mpr (by
  first | (rw [show limb_1_2 = Cond.eq .result (.int 1) from rfl, Cond.eq_ints (x := 1) (y := 1) rfl rfl]; simp; done) | (simp [limb_1_2, Cond.value, Term.eval]; done)))⟩
end
