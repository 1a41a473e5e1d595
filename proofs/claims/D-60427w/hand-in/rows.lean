section
/-- the name of the private method at place 112 of the Statement's first table -/
def nm_of : Option Jvm.Cond → String
  | some (Jvm.Cond.privateMethod y) => y.name
  | _ => ""
def nm_112 : String := nm_of tables_1_1[112]?
def y_X_admit : MethodName := ⟨"ProcessorSharing", nm_112, "()V"⟩
-- ===== PART A: goes FIRST, ahead of the names: the tables' words, and 'selects' of the private methods out of them =====
/-- a private method of a class that the tables say can be made, by its rows of tables_1 -/
def lw_okq (q : MethodName × Nat) : Prop := (q.1.cls ≠ "java/lang/invoke/MethodHandle" ∧ q.1.cls ≠ "java/lang/invoke/VarHandle") ∧ Cond.instantiable q.1.cls q.2 ∈ tables_1 ∧ Cond.privateMethod q.1 ∈ tables_1 ∧ Cond.instanceMethod q.1 ∈ tables_1
theorem lw_p0 : lw_okq (⟨"ProcessorSharing", "noJob", "(I)Z"⟩, 16) := ⟨⟨by decide +kernel, by decide +kernel⟩, List.mem_of_getElem? (i := 4) (by decide +kernel), List.mem_of_getElem? (i := 72) (by decide +kernel), List.mem_of_getElem? (i := 73) (by decide +kernel)⟩
theorem lw_p1 : lw_okq (⟨"ProcessorSharing", "leaveComing", "(I)V"⟩, 16) := ⟨⟨by decide +kernel, by decide +kernel⟩, List.mem_of_getElem? (i := 4) (by decide +kernel), List.mem_of_getElem? (i := 80) (by decide +kernel), List.mem_of_getElem? (i := 81) (by decide +kernel)⟩
theorem lw_p2 : lw_okq (⟨"ProcessorSharing", "leaveLine", "(I)V"⟩, 16) := ⟨⟨by decide +kernel, by decide +kernel⟩, List.mem_of_getElem? (i := 4) (by decide +kernel), List.mem_of_getElem? (i := 84) (by decide +kernel), List.mem_of_getElem? (i := 85) (by decide +kernel)⟩
theorem lw_p3 : lw_okq (⟨"ProcessorSharing", "leaveHeap", "(I)V"⟩, 16) := ⟨⟨by decide +kernel, by decide +kernel⟩, List.mem_of_getElem? (i := 4) (by decide +kernel), List.mem_of_getElem? (i := 88) (by decide +kernel), List.mem_of_getElem? (i := 89) (by decide +kernel)⟩
theorem lw_p4 : lw_okq (⟨"ProcessorSharing", "takeOut", "(I)V"⟩, 16) := ⟨⟨by decide +kernel, by decide +kernel⟩, List.mem_of_getElem? (i := 4) (by decide +kernel), List.mem_of_getElem? (i := 92) (by decide +kernel), List.mem_of_getElem? (i := 93) (by decide +kernel)⟩
theorem lw_p5 : lw_okq (⟨"ProcessorSharing", "sooner", "(II)Z"⟩, 16) := ⟨⟨by decide +kernel, by decide +kernel⟩, List.mem_of_getElem? (i := 4) (by decide +kernel), List.mem_of_getElem? (i := 96) (by decide +kernel), List.mem_of_getElem? (i := 97) (by decide +kernel)⟩
theorem lw_p6 : lw_okq (⟨"ProcessorSharing", "sink", "(II)V"⟩, 16) := ⟨⟨by decide +kernel, by decide +kernel⟩, List.mem_of_getElem? (i := 4) (by decide +kernel), List.mem_of_getElem? (i := 100) (by decide +kernel), List.mem_of_getElem? (i := 101) (by decide +kernel)⟩
theorem lw_p7 : lw_okq (⟨"ProcessorSharing", "arrive", "()V"⟩, 16) := ⟨⟨by decide +kernel, by decide +kernel⟩, List.mem_of_getElem? (i := 4) (by decide +kernel), List.mem_of_getElem? (i := 108) (by decide +kernel), List.mem_of_getElem? (i := 109) (by decide +kernel)⟩
theorem lw_p8 : lw_okq (y_X_admit, 16) := ⟨⟨by decide +kernel, by decide +kernel⟩, List.mem_of_getElem? (i := 4) (by decide +kernel), List.mem_of_getElem? (i := 112) (by decide +kernel), List.mem_of_getElem? (i := 113) (by decide +kernel)⟩
theorem lw_p9 : lw_okq (⟨"ProcessorSharing", "push", "(I)V"⟩, 16) := ⟨⟨by decide +kernel, by decide +kernel⟩, List.mem_of_getElem? (i := 4) (by decide +kernel), List.mem_of_getElem? (i := 116) (by decide +kernel), List.mem_of_getElem? (i := 117) (by decide +kernel)⟩
theorem lw_p10 : lw_okq (⟨"ProcessorSharing", "stretch", "(I)I"⟩, 16) := ⟨⟨by decide +kernel, by decide +kernel⟩, List.mem_of_getElem? (i := 4) (by decide +kernel), List.mem_of_getElem? (i := 120) (by decide +kernel), List.mem_of_getElem? (i := 121) (by decide +kernel)⟩
theorem lw_p11 : lw_okq (⟨"ProcessorSharing", "complete", "()I"⟩, 16) := ⟨⟨by decide +kernel, by decide +kernel⟩, List.mem_of_getElem? (i := 4) (by decide +kernel), List.mem_of_getElem? (i := 124) (by decide +kernel), List.mem_of_getElem? (i := 125) (by decide +kernel)⟩
theorem lw_p12 : lw_okq (⟨"ProcessorSharingModel", "known", "(I)Z"⟩, 8) := ⟨⟨by decide +kernel, by decide +kernel⟩, List.mem_of_getElem? (i := 157) (by decide +kernel), List.mem_of_getElem? (i := 198) (by decide +kernel), List.mem_of_getElem? (i := 199) (by decide +kernel)⟩
theorem lw_p13 : lw_okq (⟨"ProcessorSharingModel", "anyOpen", "()Z"⟩, 8) := ⟨⟨by decide +kernel, by decide +kernel⟩, List.mem_of_getElem? (i := 157) (by decide +kernel), List.mem_of_getElem? (i := 206) (by decide +kernel), List.mem_of_getElem? (i := 207) (by decide +kernel)⟩
theorem lw_p14 : lw_okq (⟨"ProcessorSharingModel", "oneTick", "()I"⟩, 8) := ⟨⟨by decide +kernel, by decide +kernel⟩, List.mem_of_getElem? (i := 157) (by decide +kernel), List.mem_of_getElem? (i := 210) (by decide +kernel), List.mem_of_getElem? (i := 211) (by decide +kernel)⟩
theorem lw_p15 : lw_okq (⟨"ProcessorSharingModel", "inState", "(I)I"⟩, 8) := ⟨⟨by decide +kernel, by decide +kernel⟩, List.mem_of_getElem? (i := 157) (by decide +kernel), List.mem_of_getElem? (i := 218) (by decide +kernel), List.mem_of_getElem? (i := 219) (by decide +kernel)⟩
def lw_privs_1 : List (MethodName × Nat) := [(⟨"ProcessorSharing", "noJob", "(I)Z"⟩, 16), (⟨"ProcessorSharing", "leaveComing", "(I)V"⟩, 16), (⟨"ProcessorSharing", "leaveLine", "(I)V"⟩, 16), (⟨"ProcessorSharing", "leaveHeap", "(I)V"⟩, 16), (⟨"ProcessorSharing", "takeOut", "(I)V"⟩, 16), (⟨"ProcessorSharing", "sooner", "(II)Z"⟩, 16), (⟨"ProcessorSharing", "sink", "(II)V"⟩, 16), (⟨"ProcessorSharing", "arrive", "()V"⟩, 16), (y_X_admit, 16), (⟨"ProcessorSharing", "push", "(I)V"⟩, 16), (⟨"ProcessorSharing", "stretch", "(I)I"⟩, 16), (⟨"ProcessorSharing", "complete", "()I"⟩, 16), (⟨"ProcessorSharingModel", "known", "(I)Z"⟩, 8), (⟨"ProcessorSharingModel", "anyOpen", "()Z"⟩, 8), (⟨"ProcessorSharingModel", "oneTick", "()I"⟩, 8), (⟨"ProcessorSharingModel", "inState", "(I)I"⟩, 8)]
theorem lw_r1 : ∀ q ∈ lw_privs_1, lw_okq q := List.forall_mem_cons.mpr ⟨lw_p0, List.forall_mem_cons.mpr ⟨lw_p1, List.forall_mem_cons.mpr ⟨lw_p2, List.forall_mem_cons.mpr ⟨lw_p3, List.forall_mem_cons.mpr ⟨lw_p4, List.forall_mem_cons.mpr ⟨lw_p5, List.forall_mem_cons.mpr ⟨lw_p6, List.forall_mem_cons.mpr ⟨lw_p7, List.forall_mem_cons.mpr ⟨lw_p8, List.forall_mem_cons.mpr ⟨lw_p9, List.forall_mem_cons.mpr ⟨lw_p10, List.forall_mem_cons.mpr ⟨lw_p11, List.forall_mem_cons.mpr ⟨lw_p12, List.forall_mem_cons.mpr ⟨lw_p13, List.forall_mem_cons.mpr ⟨lw_p14, List.forall_mem_cons.mpr ⟨lw_p15, fun _ h => absurd h List.not_mem_nil⟩⟩⟩⟩⟩⟩⟩⟩⟩⟩⟩⟩⟩⟩⟩⟩
theorem lw_p16 : lw_okq (⟨"ProcessorSharingModel", "front", "()I"⟩, 8) := ⟨⟨by decide +kernel, by decide +kernel⟩, List.mem_of_getElem? (i := 157) (by decide +kernel), List.mem_of_getElem? (i := 226) (by decide +kernel), List.mem_of_getElem? (i := 227) (by decide +kernel)⟩
def lw_privs_2 : List (MethodName × Nat) := [(⟨"ProcessorSharingModel", "front", "()I"⟩, 8)]
theorem lw_r2 : ∀ q ∈ lw_privs_2, lw_okq q := List.forall_mem_cons.mpr ⟨lw_p16, fun _ h => absurd h List.not_mem_nil⟩
def lw_privs : List (MethodName × Nat) := lw_privs_1 ++ (lw_privs_2)
def lw_tbl : List Cond := k2_sels lw_privs ++ tables_1
theorem lw_privs_ok : ∀ q ∈ lw_privs, lw_okq q := by
  show ∀ q ∈ lw_privs_1 ++ (lw_privs_2), lw_okq q
  exact List.forall_mem_append.mpr ⟨lw_r1, lw_r2⟩

def R_X : String := "ProcessorSharing"
def R_M : String := "ProcessorSharingModel"
def R_law : String := "ProcessorSharingLaw"
def F_X : u_T := fun k => match k with
  | 0 => ("ProcessorSharing", "tick", "I", false)
  | 1 => ("ProcessorSharing", "jobs", "I", false)
  | 2 => ("ProcessorSharing", "sizeOf", "[I", true)
  | 3 => ("ProcessorSharing", "arrival", "[I", true)
  | 4 => ("ProcessorSharing", "stateOf", "[I", true)
  | 5 => ("ProcessorSharing", "admittedAt", "[I", true)
  | 6 => ("ProcessorSharing", "finishedAt", "[I", true)
  | 7 => ("ProcessorSharing", "workOf", "[I", true)
  | 8 => ("ProcessorSharing", "count", "J", false)
  | 9 => ("ProcessorSharing", "mark", "[J", true)
  | 10 => ("ProcessorSharing", "heap", "I", false)
  | 11 => ("ProcessorSharing", "heapJob", "[I", true)
  | 12 => ("ProcessorSharing", "coming", "I", false)
  | 13 => ("ProcessorSharing", "comingJob", "[I", true)
  | 14 => ("ProcessorSharing", "inLine", "I", false)
  | _ => ("ProcessorSharing", "lineJob", "[I", true)
def t_X : Nat → FieldType := fun k => match k with
  | 0 => .int
  | 1 => .int
  | 2 => .array .int
  | 3 => .array .int
  | 4 => .array .int
  | 5 => .array .int
  | 6 => .array .int
  | 7 => .array .int
  | 8 => .long
  | 9 => .array .long
  | 10 => .int
  | 11 => .array .int
  | 12 => .int
  | 13 => .array .int
  | 14 => .int
  | _ => .array .int
theorem n_X : ∀ a, a < 16 → ∀ b, b < 16 → a ≠ b → (F_X a).2.1 ≠ (F_X b).2.1 := by decide +kernel
theorem t_X_ok : ∀ k, k < 16 → parseFieldDescriptor (F_X k).2.2.1 = some (t_X k) := by decide +kernel
def F_M : u_T := fun k => match k with
  | 0 => ("ProcessorSharingModel", "size", "[I", true)
  | 1 => ("ProcessorSharingModel", "arrival", "[I", true)
  | 2 => ("ProcessorSharingModel", "work", "[I", true)
  | 3 => ("ProcessorSharingModel", "admittedAt", "[I", true)
  | 4 => ("ProcessorSharingModel", "finishedAt", "[I", true)
  | 5 => ("ProcessorSharingModel", "gone", "[Z", true)
  | 6 => ("ProcessorSharingModel", "jobs", "I", false)
  | _ => ("ProcessorSharingModel", "tick", "I", false)
def t_M : Nat → FieldType := fun k => match k with
  | 0 => .array .int
  | 1 => .array .int
  | 2 => .array .int
  | 3 => .array .int
  | 4 => .array .int
  | 5 => .array .boolean
  | 6 => .int
  | _ => .int
theorem n_M : ∀ a, a < 8 → ∀ b, b < 8 → a ≠ b → (F_M a).2.1 ≠ (F_M b).2.1 := by decide +kernel
theorem t_M_ok : ∀ k, k < 8 → parseFieldDescriptor (F_M k).2.2.1 = some (t_M k) := by decide +kernel
abbrev classes : List vw_C := [(R_X, F_X, 16), (R_M, F_M, 8)]
abbrev b_X_init : ByteArray := prog_1_method_1_code
def y_X_init : MethodName := ⟨"ProcessorSharing", "<init>", "()V"⟩
abbrev b_X_submit : ByteArray := prog_1_method_3_code
def y_X_submit : MethodName := ⟨"ProcessorSharing", "submit", "(II)I"⟩
abbrev b_X_cancel : ByteArray := prog_1_method_15_code
def y_X_cancel : MethodName := ⟨"ProcessorSharing", "cancel", "(I)I"⟩
abbrev b_X_noJob : ByteArray := prog_1_method_2_code
def y_X_noJob : MethodName := ⟨"ProcessorSharing", "noJob", "(I)Z"⟩
abbrev b_X_had : ByteArray := prog_1_method_20_code
def y_X_had : MethodName := ⟨"ProcessorSharing", "had", "(I)I"⟩
abbrev b_X_leaveComing : ByteArray := prog_1_method_12_code
def y_X_leaveComing : MethodName := ⟨"ProcessorSharing", "leaveComing", "(I)V"⟩
abbrev b_X_leaveLine : ByteArray := prog_1_method_13_code
def y_X_leaveLine : MethodName := ⟨"ProcessorSharing", "leaveLine", "(I)V"⟩
abbrev b_X_leaveHeap : ByteArray := prog_1_method_14_code
def y_X_leaveHeap : MethodName := ⟨"ProcessorSharing", "leaveHeap", "(I)V"⟩
abbrev b_X_takeOut : ByteArray := prog_1_method_6_code
def y_X_takeOut : MethodName := ⟨"ProcessorSharing", "takeOut", "(I)V"⟩
abbrev b_X_sooner : ByteArray := prog_1_method_4_code
def y_X_sooner : MethodName := ⟨"ProcessorSharing", "sooner", "(II)Z"⟩
abbrev b_X_sink : ByteArray := prog_1_method_7_code
def y_X_sink : MethodName := ⟨"ProcessorSharing", "sink", "(II)V"⟩
abbrev b_X_run : ByteArray := prog_1_method_16_code
def y_X_run : MethodName := ⟨"ProcessorSharing", "run", "(I)I"⟩
abbrev b_X_arrive : ByteArray := prog_1_method_8_code
def y_X_arrive : MethodName := ⟨"ProcessorSharing", "arrive", "()V"⟩
abbrev b_X_admit : ByteArray := prog_1_method_9_code
abbrev b_X_push : ByteArray := prog_1_method_5_code
def y_X_push : MethodName := ⟨"ProcessorSharing", "push", "(I)V"⟩
abbrev b_X_stretch : ByteArray := prog_1_method_10_code
def y_X_stretch : MethodName := ⟨"ProcessorSharing", "stretch", "(I)I"⟩
abbrev b_X_complete : ByteArray := prog_1_method_11_code
def y_X_complete : MethodName := ⟨"ProcessorSharing", "complete", "()I"⟩
abbrev b_X_clear : ByteArray := prog_1_method_17_code
def y_X_clear : MethodName := ⟨"ProcessorSharing", "clear", "()V"⟩
abbrev b_X_now : ByteArray := prog_1_method_18_code
def y_X_now : MethodName := ⟨"ProcessorSharing", "now", "()I"⟩
abbrev b_X_state : ByteArray := prog_1_method_19_code
def y_X_state : MethodName := ⟨"ProcessorSharing", "state", "(I)I"⟩
abbrev b_X_admitted : ByteArray := prog_1_method_21_code
def y_X_admitted : MethodName := ⟨"ProcessorSharing", "admitted", "(I)I"⟩
abbrev b_X_finished : ByteArray := prog_1_method_22_code
def y_X_finished : MethodName := ⟨"ProcessorSharing", "finished", "(I)I"⟩
abbrev b_X_served : ByteArray := prog_1_method_23_code
def y_X_served : MethodName := ⟨"ProcessorSharing", "served", "()I"⟩
abbrev b_X_waiting : ByteArray := prog_1_method_24_code
def y_X_waiting : MethodName := ⟨"ProcessorSharing", "waiting", "()I"⟩
abbrev b_M_init : ByteArray := prog_3_method_1_code
def y_M_init : MethodName := ⟨"ProcessorSharingModel", "<init>", "()V"⟩
abbrev b_M_submit : ByteArray := prog_3_method_2_code
def y_M_submit : MethodName := ⟨"ProcessorSharingModel", "submit", "(II)I"⟩
abbrev b_M_cancel : ByteArray := prog_3_method_4_code
def y_M_cancel : MethodName := ⟨"ProcessorSharingModel", "cancel", "(I)I"⟩
abbrev b_M_known : ByteArray := prog_3_method_3_code
def y_M_known : MethodName := ⟨"ProcessorSharingModel", "known", "(I)Z"⟩
abbrev b_M_run : ByteArray := prog_3_method_5_code
def y_M_run : MethodName := ⟨"ProcessorSharingModel", "run", "(I)I"⟩
abbrev b_M_anyOpen : ByteArray := prog_3_method_15_code
def y_M_anyOpen : MethodName := ⟨"ProcessorSharingModel", "anyOpen", "()Z"⟩
abbrev b_M_oneTick : ByteArray := prog_3_method_17_code
def y_M_oneTick : MethodName := ⟨"ProcessorSharingModel", "oneTick", "()I"⟩
abbrev b_M_served : ByteArray := prog_3_method_12_code
def y_M_served : MethodName := ⟨"ProcessorSharingModel", "served", "()I"⟩
abbrev b_M_inState : ByteArray := prog_3_method_14_code
def y_M_inState : MethodName := ⟨"ProcessorSharingModel", "inState", "(I)I"⟩
abbrev b_M_state : ByteArray := prog_3_method_8_code
def y_M_state : MethodName := ⟨"ProcessorSharingModel", "state", "(I)I"⟩
abbrev b_M_front : ByteArray := prog_3_method_16_code
def y_M_front : MethodName := ⟨"ProcessorSharingModel", "front", "()I"⟩
abbrev b_M_clear : ByteArray := prog_3_method_6_code
def y_M_clear : MethodName := ⟨"ProcessorSharingModel", "clear", "()V"⟩
abbrev b_M_now : ByteArray := prog_3_method_7_code
def y_M_now : MethodName := ⟨"ProcessorSharingModel", "now", "()I"⟩
abbrev b_M_had : ByteArray := prog_3_method_9_code
def y_M_had : MethodName := ⟨"ProcessorSharingModel", "had", "(I)I"⟩
abbrev b_M_admitted : ByteArray := prog_3_method_10_code
def y_M_admitted : MethodName := ⟨"ProcessorSharingModel", "admitted", "(I)I"⟩
abbrev b_M_finished : ByteArray := prog_3_method_11_code
def y_M_finished : MethodName := ⟨"ProcessorSharingModel", "finished", "(I)I"⟩
abbrev b_M_waiting : ByteArray := prog_3_method_13_code
def y_M_waiting : MethodName := ⟨"ProcessorSharingModel", "waiting", "()I"⟩
def lw_ws : List Cond := lw_tbl.filter goodWord
theorem gw {w : Cond} (h : w ∈ lw_tbl) (hg : goodWord w = true) : w ∈ lw_ws := List.mem_filter.mpr ⟨h, hg⟩
theorem gw_tbl {w : Cond} (h : w ∈ lw_ws) : w ∈ lw_tbl := (List.mem_filter.mp h).1
theorem gw_good {w : Cond} (h : w ∈ lw_ws) : goodWord w = true := (List.mem_filter.mp h).2
theorem wi_law : Cond.initialized R_law ∈ lw_ws := gw (List.mem_append_right _ (List.mem_append_left _ (List.mem_of_getElem? (i := 0) rfl))) rfl
theorem wi_X : Cond.initialized R_X ∈ lw_ws := gw (List.mem_append_right _ (List.mem_append_left _ (List.mem_of_getElem? (i := 1) rfl))) rfl
theorem wi_M : Cond.initialized R_M ∈ lw_ws := gw (List.mem_append_right _ (List.mem_append_left _ (List.mem_of_getElem? (i := 2) rfl))) rfl
theorem wc_X : Cond.classLink R_law 7 R_X ∈ lw_ws := gw (List.mem_append_right _ (List.mem_append_left _ (List.mem_of_getElem? (i := 3) rfl))) rfl
theorem wn_X : Cond.instantiable R_X 16 ∈ lw_ws := gw (List.mem_append_right _ (List.mem_append_left _ (List.mem_of_getElem? (i := 4) rfl))) rfl
theorem wl_law_9 : Cond.methodLink R_law 9 y_X_init ∈ lw_ws := gw (List.mem_append_right _ (List.mem_append_left _ (List.mem_of_getElem? (i := 5) rfl))) rfl
theorem wm_X_init : Cond.instanceMethod y_X_init ∈ lw_ws := gw (List.mem_append_right _ (List.mem_append_left _ (List.mem_of_getElem? (i := 6) rfl))) rfl
theorem wk_X_init : Cond.code y_X_init b_X_init 1 none ∈ lw_ws := gw (List.mem_append_right _ (List.mem_append_left _ (List.mem_of_getElem? (i := 7) rfl))) rfl
theorem wl_X_1 : Cond.methodLink R_X 1 objectInit ∈ lw_ws := gw (List.mem_append_right _ (List.mem_append_left _ (List.mem_of_getElem? (i := 8) rfl))) rfl
theorem wm_obj : Cond.instanceMethod objectInit ∈ lw_ws := gw (List.mem_append_right _ (List.mem_append_left _ (List.mem_of_getElem? (i := 9) rfl))) rfl
theorem wk_obj : Cond.code objectInit ⟨#[0xb1]⟩ 1 none ∈ lw_ws := gw (List.mem_append_right _ (List.mem_append_left _ (List.mem_of_getElem? (i := 10) rfl))) rfl
theorem wf_X_41 : Cond.fieldLink R_X 41 R_X "tick" "I" ∈ lw_ws := gw (List.mem_append_right _ (List.mem_append_left _ (List.mem_of_getElem? (i := 11) rfl))) rfl
theorem wf_X_45 : Cond.fieldLink R_X 45 R_X "jobs" "I" ∈ lw_ws := gw (List.mem_append_right _ (List.mem_append_left _ (List.mem_of_getElem? (i := 12) rfl))) rfl
theorem wf_X_7 : Cond.fieldLink R_X 7 R_X "sizeOf" "[I" ∈ lw_ws := gw (List.mem_append_right _ (List.mem_append_left _ (List.mem_of_getElem? (i := 13) rfl))) rfl
theorem wf_X_13 : Cond.fieldLink R_X 13 R_X "arrival" "[I" ∈ lw_ws := gw (List.mem_append_right _ (List.mem_append_left _ (List.mem_of_getElem? (i := 14) rfl))) rfl
theorem wf_X_16 : Cond.fieldLink R_X 16 R_X "stateOf" "[I" ∈ lw_ws := gw (List.mem_append_right _ (List.mem_append_left _ (List.mem_of_getElem? (i := 15) rfl))) rfl
theorem wf_X_19 : Cond.fieldLink R_X 19 R_X "admittedAt" "[I" ∈ lw_ws := gw (List.mem_append_right _ (List.mem_append_left _ (List.mem_of_getElem? (i := 16) rfl))) rfl
theorem wf_X_22 : Cond.fieldLink R_X 22 R_X "finishedAt" "[I" ∈ lw_ws := gw (List.mem_append_right _ (List.mem_append_left _ (List.mem_of_getElem? (i := 17) rfl))) rfl
theorem wf_X_25 : Cond.fieldLink R_X 25 R_X "workOf" "[I" ∈ lw_ws := gw (List.mem_append_right _ (List.mem_append_left _ (List.mem_of_getElem? (i := 18) rfl))) rfl
theorem wf_X_66 : Cond.fieldLink R_X 66 R_X "count" "J" ∈ lw_ws := gw (List.mem_append_right _ (List.mem_append_left _ (List.mem_of_getElem? (i := 19) rfl))) rfl
theorem wf_X_28 : Cond.fieldLink R_X 28 R_X "mark" "[J" ∈ lw_ws := gw (List.mem_append_right _ (List.mem_append_left _ (List.mem_of_getElem? (i := 20) rfl))) rfl
theorem wf_X_52 : Cond.fieldLink R_X 52 R_X "heap" "I" ∈ lw_ws := gw (List.mem_append_right _ (List.mem_append_left _ (List.mem_of_getElem? (i := 21) rfl))) rfl
theorem wf_X_32 : Cond.fieldLink R_X 32 R_X "heapJob" "[I" ∈ lw_ws := gw (List.mem_append_right _ (List.mem_append_left _ (List.mem_of_getElem? (i := 22) rfl))) rfl
theorem wf_X_49 : Cond.fieldLink R_X 49 R_X "coming" "I" ∈ lw_ws := gw (List.mem_append_right _ (List.mem_append_left _ (List.mem_of_getElem? (i := 23) rfl))) rfl
theorem wf_X_35 : Cond.fieldLink R_X 35 R_X "comingJob" "[I" ∈ lw_ws := gw (List.mem_append_right _ (List.mem_append_left _ (List.mem_of_getElem? (i := 24) rfl))) rfl
theorem wf_X_63 : Cond.fieldLink R_X 63 R_X "inLine" "I" ∈ lw_ws := gw (List.mem_append_right _ (List.mem_append_left _ (List.mem_of_getElem? (i := 25) rfl))) rfl
theorem wf_X_38 : Cond.fieldLink R_X 38 R_X "lineJob" "[I" ∈ lw_ws := gw (List.mem_append_right _ (List.mem_append_left _ (List.mem_of_getElem? (i := 26) rfl))) rfl
theorem wa_int : Cond.arrayClass .int ∈ lw_ws := gw (List.mem_append_right _ (List.mem_append_left _ (List.mem_of_getElem? (i := 60) rfl))) rfl
theorem wa_long : Cond.arrayClass .long ∈ lw_ws := gw (List.mem_append_right _ (List.mem_append_left _ (List.mem_of_getElem? (i := 61) rfl))) rfl
theorem wl_law_13 : Cond.methodLink R_law 13 y_X_submit ∈ lw_ws := gw (List.mem_append_right _ (List.mem_append_left _ (List.mem_of_getElem? (i := 62) rfl))) rfl
theorem wm_X_submit : Cond.instanceMethod y_X_submit ∈ lw_ws := gw (List.mem_append_right _ (List.mem_append_left _ (List.mem_of_getElem? (i := 63) rfl))) rfl
theorem ws_X_submit : Cond.selects R_X y_X_submit y_X_submit ∈ lw_ws := gw (List.mem_append_right _ (List.mem_append_left _ (List.mem_of_getElem? (i := 64) rfl))) rfl
theorem wk_X_submit : Cond.code y_X_submit b_X_submit 5 (some .int) ∈ lw_ws := gw (List.mem_append_right _ (List.mem_append_left _ (List.mem_of_getElem? (i := 65) rfl))) rfl
theorem wv_X : Cond.constant R_X 48 100000 ∈ lw_ws := gw (List.mem_append_right _ (List.mem_append_left _ (List.mem_of_getElem? (i := 66) rfl))) rfl
theorem wl_law_18 : Cond.methodLink R_law 18 y_X_cancel ∈ lw_ws := gw (List.mem_append_right _ (List.mem_append_left _ (List.mem_of_getElem? (i := 67) rfl))) rfl
theorem wm_X_cancel : Cond.instanceMethod y_X_cancel ∈ lw_ws := gw (List.mem_append_right _ (List.mem_append_left _ (List.mem_of_getElem? (i := 68) rfl))) rfl
theorem ws_X_cancel : Cond.selects R_X y_X_cancel y_X_cancel ∈ lw_ws := gw (List.mem_append_right _ (List.mem_append_left _ (List.mem_of_getElem? (i := 69) rfl))) rfl
theorem wk_X_cancel : Cond.code y_X_cancel b_X_cancel 3 (some .int) ∈ lw_ws := gw (List.mem_append_right _ (List.mem_append_left _ (List.mem_of_getElem? (i := 70) rfl))) rfl
theorem wl_X_77 : Cond.methodLink R_X 77 y_X_noJob ∈ lw_ws := gw (List.mem_append_right _ (List.mem_append_left _ (List.mem_of_getElem? (i := 71) rfl))) rfl
theorem wm_X_noJob : Cond.instanceMethod y_X_noJob ∈ lw_ws := gw (List.mem_append_right _ (List.mem_append_left _ (List.mem_of_getElem? (i := 73) rfl))) rfl
theorem wk_X_noJob : Cond.code y_X_noJob b_X_noJob 2 (some .boolean) ∈ lw_ws := gw (List.mem_append_right _ (List.mem_append_left _ (List.mem_of_getElem? (i := 74) rfl))) rfl
theorem wl_X_81 : Cond.methodLink R_X 81 y_X_had ∈ lw_ws := gw (List.mem_append_right _ (List.mem_append_left _ (List.mem_of_getElem? (i := 75) rfl))) rfl
theorem wm_X_had : Cond.instanceMethod y_X_had ∈ lw_ws := gw (List.mem_append_right _ (List.mem_append_left _ (List.mem_of_getElem? (i := 76) rfl))) rfl
theorem ws_X_had : Cond.selects R_X y_X_had y_X_had ∈ lw_ws := gw (List.mem_append_right _ (List.mem_append_left _ (List.mem_of_getElem? (i := 77) rfl))) rfl
theorem wk_X_had : Cond.code y_X_had b_X_had 2 (some .int) ∈ lw_ws := gw (List.mem_append_right _ (List.mem_append_left _ (List.mem_of_getElem? (i := 78) rfl))) rfl
theorem wl_X_85 : Cond.methodLink R_X 85 y_X_leaveComing ∈ lw_ws := gw (List.mem_append_right _ (List.mem_append_left _ (List.mem_of_getElem? (i := 79) rfl))) rfl
theorem wm_X_leaveComing : Cond.instanceMethod y_X_leaveComing ∈ lw_ws := gw (List.mem_append_right _ (List.mem_append_left _ (List.mem_of_getElem? (i := 81) rfl))) rfl
theorem wk_X_leaveComing : Cond.code y_X_leaveComing b_X_leaveComing 4 none ∈ lw_ws := gw (List.mem_append_right _ (List.mem_append_left _ (List.mem_of_getElem? (i := 82) rfl))) rfl
theorem wl_X_88 : Cond.methodLink R_X 88 y_X_leaveLine ∈ lw_ws := gw (List.mem_append_right _ (List.mem_append_left _ (List.mem_of_getElem? (i := 83) rfl))) rfl
theorem wm_X_leaveLine : Cond.instanceMethod y_X_leaveLine ∈ lw_ws := gw (List.mem_append_right _ (List.mem_append_left _ (List.mem_of_getElem? (i := 85) rfl))) rfl
theorem wk_X_leaveLine : Cond.code y_X_leaveLine b_X_leaveLine 4 none ∈ lw_ws := gw (List.mem_append_right _ (List.mem_append_left _ (List.mem_of_getElem? (i := 86) rfl))) rfl
theorem wl_X_91 : Cond.methodLink R_X 91 y_X_leaveHeap ∈ lw_ws := gw (List.mem_append_right _ (List.mem_append_left _ (List.mem_of_getElem? (i := 87) rfl))) rfl
theorem wm_X_leaveHeap : Cond.instanceMethod y_X_leaveHeap ∈ lw_ws := gw (List.mem_append_right _ (List.mem_append_left _ (List.mem_of_getElem? (i := 89) rfl))) rfl
theorem wk_X_leaveHeap : Cond.code y_X_leaveHeap b_X_leaveHeap 3 none ∈ lw_ws := gw (List.mem_append_right _ (List.mem_append_left _ (List.mem_of_getElem? (i := 90) rfl))) rfl
theorem wl_X_74 : Cond.methodLink R_X 74 y_X_takeOut ∈ lw_ws := gw (List.mem_append_right _ (List.mem_append_left _ (List.mem_of_getElem? (i := 91) rfl))) rfl
theorem wm_X_takeOut : Cond.instanceMethod y_X_takeOut ∈ lw_ws := gw (List.mem_append_right _ (List.mem_append_left _ (List.mem_of_getElem? (i := 93) rfl))) rfl
theorem wk_X_takeOut : Cond.code y_X_takeOut b_X_takeOut 4 none ∈ lw_ws := gw (List.mem_append_right _ (List.mem_append_left _ (List.mem_of_getElem? (i := 94) rfl))) rfl
theorem wl_X_55 : Cond.methodLink R_X 55 y_X_sooner ∈ lw_ws := gw (List.mem_append_right _ (List.mem_append_left _ (List.mem_of_getElem? (i := 95) rfl))) rfl
theorem wm_X_sooner : Cond.instanceMethod y_X_sooner ∈ lw_ws := gw (List.mem_append_right _ (List.mem_append_left _ (List.mem_of_getElem? (i := 97) rfl))) rfl
theorem wk_X_sooner : Cond.code y_X_sooner b_X_sooner 3 (some .boolean) ∈ lw_ws := gw (List.mem_append_right _ (List.mem_append_left _ (List.mem_of_getElem? (i := 98) rfl))) rfl
theorem wl_X_59 : Cond.methodLink R_X 59 y_X_sink ∈ lw_ws := gw (List.mem_append_right _ (List.mem_append_left _ (List.mem_of_getElem? (i := 99) rfl))) rfl
theorem wm_X_sink : Cond.instanceMethod y_X_sink ∈ lw_ws := gw (List.mem_append_right _ (List.mem_append_left _ (List.mem_of_getElem? (i := 101) rfl))) rfl
theorem wk_X_sink : Cond.code y_X_sink b_X_sink 6 none ∈ lw_ws := gw (List.mem_append_right _ (List.mem_append_left _ (List.mem_of_getElem? (i := 102) rfl))) rfl
theorem wl_law_23 : Cond.methodLink R_law 23 y_X_run ∈ lw_ws := gw (List.mem_append_right _ (List.mem_append_left _ (List.mem_of_getElem? (i := 103) rfl))) rfl
theorem wm_X_run : Cond.instanceMethod y_X_run ∈ lw_ws := gw (List.mem_append_right _ (List.mem_append_left _ (List.mem_of_getElem? (i := 104) rfl))) rfl
theorem ws_X_run : Cond.selects R_X y_X_run y_X_run ∈ lw_ws := gw (List.mem_append_right _ (List.mem_append_left _ (List.mem_of_getElem? (i := 105) rfl))) rfl
theorem wk_X_run : Cond.code y_X_run b_X_run 5 (some .int) ∈ lw_ws := gw (List.mem_append_right _ (List.mem_append_left _ (List.mem_of_getElem? (i := 106) rfl))) rfl
theorem wl_X_94 : Cond.methodLink R_X 94 y_X_arrive ∈ lw_ws := gw (List.mem_append_right _ (List.mem_append_left _ (List.mem_of_getElem? (i := 107) rfl))) rfl
theorem wm_X_arrive : Cond.instanceMethod y_X_arrive ∈ lw_ws := gw (List.mem_append_right _ (List.mem_append_left _ (List.mem_of_getElem? (i := 109) rfl))) rfl
theorem wk_X_arrive : Cond.code y_X_arrive b_X_arrive 3 none ∈ lw_ws := gw (List.mem_append_right _ (List.mem_append_left _ (List.mem_of_getElem? (i := 110) rfl))) rfl
theorem wl_X_97 : Cond.methodLink R_X 97 y_X_admit ∈ lw_ws := gw (List.mem_append_right _ (List.mem_append_left _ (List.mem_of_getElem? (i := 111) rfl))) rfl
theorem wm_X_admit : Cond.instanceMethod y_X_admit ∈ lw_ws := gw (List.mem_append_right _ (List.mem_append_left _ (List.mem_of_getElem? (i := 113) rfl))) rfl
theorem wk_X_admit : Cond.code y_X_admit b_X_admit 3 none ∈ lw_ws := gw (List.mem_append_right _ (List.mem_append_left _ (List.mem_of_getElem? (i := 114) rfl))) rfl
theorem wl_X_70 : Cond.methodLink R_X 70 y_X_push ∈ lw_ws := gw (List.mem_append_right _ (List.mem_append_left _ (List.mem_of_getElem? (i := 115) rfl))) rfl
theorem wm_X_push : Cond.instanceMethod y_X_push ∈ lw_ws := gw (List.mem_append_right _ (List.mem_append_left _ (List.mem_of_getElem? (i := 117) rfl))) rfl
theorem wk_X_push : Cond.code y_X_push b_X_push 3 none ∈ lw_ws := gw (List.mem_append_right _ (List.mem_append_left _ (List.mem_of_getElem? (i := 118) rfl))) rfl
theorem wl_X_100 : Cond.methodLink R_X 100 y_X_stretch ∈ lw_ws := gw (List.mem_append_right _ (List.mem_append_left _ (List.mem_of_getElem? (i := 119) rfl))) rfl
theorem wm_X_stretch : Cond.instanceMethod y_X_stretch ∈ lw_ws := gw (List.mem_append_right _ (List.mem_append_left _ (List.mem_of_getElem? (i := 121) rfl))) rfl
theorem wk_X_stretch : Cond.code y_X_stretch b_X_stretch 8 (some .int) ∈ lw_ws := gw (List.mem_append_right _ (List.mem_append_left _ (List.mem_of_getElem? (i := 122) rfl))) rfl
theorem wl_X_103 : Cond.methodLink R_X 103 y_X_complete ∈ lw_ws := gw (List.mem_append_right _ (List.mem_append_left _ (List.mem_of_getElem? (i := 123) rfl))) rfl
theorem wm_X_complete : Cond.instanceMethod y_X_complete ∈ lw_ws := gw (List.mem_append_right _ (List.mem_append_left _ (List.mem_of_getElem? (i := 125) rfl))) rfl
theorem wk_X_complete : Cond.code y_X_complete b_X_complete 3 (some .int) ∈ lw_ws := gw (List.mem_append_right _ (List.mem_append_left _ (List.mem_of_getElem? (i := 126) rfl))) rfl
theorem wl_law_27 : Cond.methodLink R_law 27 y_X_clear ∈ lw_ws := gw (List.mem_append_right _ (List.mem_append_left _ (List.mem_of_getElem? (i := 127) rfl))) rfl
theorem wm_X_clear : Cond.instanceMethod y_X_clear ∈ lw_ws := gw (List.mem_append_right _ (List.mem_append_left _ (List.mem_of_getElem? (i := 128) rfl))) rfl
theorem ws_X_clear : Cond.selects R_X y_X_clear y_X_clear ∈ lw_ws := gw (List.mem_append_right _ (List.mem_append_left _ (List.mem_of_getElem? (i := 129) rfl))) rfl
theorem wk_X_clear : Cond.code y_X_clear b_X_clear 1 none ∈ lw_ws := gw (List.mem_append_right _ (List.mem_append_left _ (List.mem_of_getElem? (i := 130) rfl))) rfl
theorem wl_law_31 : Cond.methodLink R_law 31 y_X_now ∈ lw_ws := gw (List.mem_append_right _ (List.mem_append_left _ (List.mem_of_getElem? (i := 131) rfl))) rfl
theorem wm_X_now : Cond.instanceMethod y_X_now ∈ lw_ws := gw (List.mem_append_right _ (List.mem_append_left _ (List.mem_of_getElem? (i := 132) rfl))) rfl
theorem ws_X_now : Cond.selects R_X y_X_now y_X_now ∈ lw_ws := gw (List.mem_append_right _ (List.mem_append_left _ (List.mem_of_getElem? (i := 133) rfl))) rfl
theorem wk_X_now : Cond.code y_X_now b_X_now 1 (some .int) ∈ lw_ws := gw (List.mem_append_right _ (List.mem_append_left _ (List.mem_of_getElem? (i := 134) rfl))) rfl
theorem wl_law_36 : Cond.methodLink R_law 36 y_X_state ∈ lw_ws := gw (List.mem_append_right _ (List.mem_append_left _ (List.mem_of_getElem? (i := 135) rfl))) rfl
theorem wm_X_state : Cond.instanceMethod y_X_state ∈ lw_ws := gw (List.mem_append_right _ (List.mem_append_left _ (List.mem_of_getElem? (i := 136) rfl))) rfl
theorem ws_X_state : Cond.selects R_X y_X_state y_X_state ∈ lw_ws := gw (List.mem_append_right _ (List.mem_append_left _ (List.mem_of_getElem? (i := 137) rfl))) rfl
theorem wk_X_state : Cond.code y_X_state b_X_state 2 (some .int) ∈ lw_ws := gw (List.mem_append_right _ (List.mem_append_left _ (List.mem_of_getElem? (i := 138) rfl))) rfl
theorem wl_law_40 : Cond.methodLink R_law 40 y_X_had ∈ lw_ws := gw (List.mem_append_right _ (List.mem_append_left _ (List.mem_of_getElem? (i := 139) rfl))) rfl
theorem wl_law_44 : Cond.methodLink R_law 44 y_X_admitted ∈ lw_ws := gw (List.mem_append_right _ (List.mem_append_left _ (List.mem_of_getElem? (i := 140) rfl))) rfl
theorem wm_X_admitted : Cond.instanceMethod y_X_admitted ∈ lw_ws := gw (List.mem_append_right _ (List.mem_append_left _ (List.mem_of_getElem? (i := 141) rfl))) rfl
theorem ws_X_admitted : Cond.selects R_X y_X_admitted y_X_admitted ∈ lw_ws := gw (List.mem_append_right _ (List.mem_append_left _ (List.mem_of_getElem? (i := 142) rfl))) rfl
theorem wk_X_admitted : Cond.code y_X_admitted b_X_admitted 2 (some .int) ∈ lw_ws := gw (List.mem_append_right _ (List.mem_append_left _ (List.mem_of_getElem? (i := 143) rfl))) rfl
theorem wl_law_48 : Cond.methodLink R_law 48 y_X_finished ∈ lw_ws := gw (List.mem_append_right _ (List.mem_append_left _ (List.mem_of_getElem? (i := 144) rfl))) rfl
theorem wm_X_finished : Cond.instanceMethod y_X_finished ∈ lw_ws := gw (List.mem_append_right _ (List.mem_append_left _ (List.mem_of_getElem? (i := 145) rfl))) rfl
theorem ws_X_finished : Cond.selects R_X y_X_finished y_X_finished ∈ lw_ws := gw (List.mem_append_right _ (List.mem_append_left _ (List.mem_of_getElem? (i := 146) rfl))) rfl
theorem wk_X_finished : Cond.code y_X_finished b_X_finished 2 (some .int) ∈ lw_ws := gw (List.mem_append_right _ (List.mem_append_left _ (List.mem_of_getElem? (i := 147) rfl))) rfl
theorem wl_law_52 : Cond.methodLink R_law 52 y_X_served ∈ lw_ws := gw (List.mem_append_right _ (List.mem_append_left _ (List.mem_of_getElem? (i := 148) rfl))) rfl
theorem wm_X_served : Cond.instanceMethod y_X_served ∈ lw_ws := gw (List.mem_append_right _ (List.mem_append_left _ (List.mem_of_getElem? (i := 149) rfl))) rfl
theorem ws_X_served : Cond.selects R_X y_X_served y_X_served ∈ lw_ws := gw (List.mem_append_right _ (List.mem_append_left _ (List.mem_of_getElem? (i := 150) rfl))) rfl
theorem wk_X_served : Cond.code y_X_served b_X_served 1 (some .int) ∈ lw_ws := gw (List.mem_append_right _ (List.mem_append_left _ (List.mem_of_getElem? (i := 151) rfl))) rfl
theorem wl_law_56 : Cond.methodLink R_law 56 y_X_waiting ∈ lw_ws := gw (List.mem_append_right _ (List.mem_append_left _ (List.mem_of_getElem? (i := 152) rfl))) rfl
theorem wm_X_waiting : Cond.instanceMethod y_X_waiting ∈ lw_ws := gw (List.mem_append_right _ (List.mem_append_left _ (List.mem_of_getElem? (i := 153) rfl))) rfl
theorem ws_X_waiting : Cond.selects R_X y_X_waiting y_X_waiting ∈ lw_ws := gw (List.mem_append_right _ (List.mem_append_left _ (List.mem_of_getElem? (i := 154) rfl))) rfl
theorem wk_X_waiting : Cond.code y_X_waiting b_X_waiting 1 (some .int) ∈ lw_ws := gw (List.mem_append_right _ (List.mem_append_left _ (List.mem_of_getElem? (i := 155) rfl))) rfl
theorem wc_M : Cond.classLink R_law 10 R_M ∈ lw_ws := gw (List.mem_append_right _ (List.mem_append_left _ (List.mem_of_getElem? (i := 156) rfl))) rfl
theorem wn_M : Cond.instantiable R_M 8 ∈ lw_ws := gw (List.mem_append_right _ (List.mem_append_left _ (List.mem_of_getElem? (i := 157) rfl))) rfl
theorem wl_law_12 : Cond.methodLink R_law 12 y_M_init ∈ lw_ws := gw (List.mem_append_right _ (List.mem_append_left _ (List.mem_of_getElem? (i := 158) rfl))) rfl
theorem wm_M_init : Cond.instanceMethod y_M_init ∈ lw_ws := gw (List.mem_append_right _ (List.mem_append_left _ (List.mem_of_getElem? (i := 159) rfl))) rfl
theorem wk_M_init : Cond.code y_M_init b_M_init 1 none ∈ lw_ws := gw (List.mem_append_right _ (List.mem_append_left _ (List.mem_of_getElem? (i := 160) rfl))) rfl
theorem wl_M_1 : Cond.methodLink R_M 1 objectInit ∈ lw_ws := gw (List.mem_append_right _ (List.mem_append_left _ (List.mem_of_getElem? (i := 161) rfl))) rfl
theorem wf_M_7 : Cond.fieldLink R_M 7 R_M "size" "[I" ∈ lw_ws := gw (List.mem_append_right _ (List.mem_append_left _ (List.mem_of_getElem? (i := 162) rfl))) rfl
theorem wf_M_13 : Cond.fieldLink R_M 13 R_M "arrival" "[I" ∈ lw_ws := gw (List.mem_append_right _ (List.mem_append_left _ (List.mem_of_getElem? (i := 163) rfl))) rfl
theorem wf_M_16 : Cond.fieldLink R_M 16 R_M "work" "[I" ∈ lw_ws := gw (List.mem_append_right _ (List.mem_append_left _ (List.mem_of_getElem? (i := 164) rfl))) rfl
theorem wf_M_19 : Cond.fieldLink R_M 19 R_M "admittedAt" "[I" ∈ lw_ws := gw (List.mem_append_right _ (List.mem_append_left _ (List.mem_of_getElem? (i := 165) rfl))) rfl
theorem wf_M_22 : Cond.fieldLink R_M 22 R_M "finishedAt" "[I" ∈ lw_ws := gw (List.mem_append_right _ (List.mem_append_left _ (List.mem_of_getElem? (i := 166) rfl))) rfl
theorem wf_M_25 : Cond.fieldLink R_M 25 R_M "gone" "[Z" ∈ lw_ws := gw (List.mem_append_right _ (List.mem_append_left _ (List.mem_of_getElem? (i := 167) rfl))) rfl
theorem wf_M_30 : Cond.fieldLink R_M 30 R_M "jobs" "I" ∈ lw_ws := gw (List.mem_append_right _ (List.mem_append_left _ (List.mem_of_getElem? (i := 168) rfl))) rfl
theorem wf_M_34 : Cond.fieldLink R_M 34 R_M "tick" "I" ∈ lw_ws := gw (List.mem_append_right _ (List.mem_append_left _ (List.mem_of_getElem? (i := 169) rfl))) rfl
theorem wa_boolean : Cond.arrayClass .boolean ∈ lw_ws := gw (List.mem_append_right _ (List.mem_append_left _ (List.mem_of_getElem? (i := 187) rfl))) rfl
theorem wl_law_17 : Cond.methodLink R_law 17 y_M_submit ∈ lw_ws := gw (List.mem_append_right _ (List.mem_append_left _ (List.mem_of_getElem? (i := 188) rfl))) rfl
theorem wm_M_submit : Cond.instanceMethod y_M_submit ∈ lw_ws := gw (List.mem_append_right _ (List.mem_append_left _ (List.mem_of_getElem? (i := 189) rfl))) rfl
theorem ws_M_submit : Cond.selects R_M y_M_submit y_M_submit ∈ lw_ws := gw (List.mem_append_right _ (List.mem_append_left _ (List.mem_of_getElem? (i := 190) rfl))) rfl
theorem wk_M_submit : Cond.code y_M_submit b_M_submit 3 (some .int) ∈ lw_ws := gw (List.mem_append_right _ (List.mem_append_left _ (List.mem_of_getElem? (i := 191) rfl))) rfl
theorem wv_M : Cond.constant R_M 29 100000 ∈ lw_ws := gw (List.mem_append_right _ (List.mem_append_left _ (List.mem_of_getElem? (i := 192) rfl))) rfl
theorem wl_law_22 : Cond.methodLink R_law 22 y_M_cancel ∈ lw_ws := gw (List.mem_append_right _ (List.mem_append_left _ (List.mem_of_getElem? (i := 193) rfl))) rfl
theorem wm_M_cancel : Cond.instanceMethod y_M_cancel ∈ lw_ws := gw (List.mem_append_right _ (List.mem_append_left _ (List.mem_of_getElem? (i := 194) rfl))) rfl
theorem ws_M_cancel : Cond.selects R_M y_M_cancel y_M_cancel ∈ lw_ws := gw (List.mem_append_right _ (List.mem_append_left _ (List.mem_of_getElem? (i := 195) rfl))) rfl
theorem wk_M_cancel : Cond.code y_M_cancel b_M_cancel 2 (some .int) ∈ lw_ws := gw (List.mem_append_right _ (List.mem_append_left _ (List.mem_of_getElem? (i := 196) rfl))) rfl
theorem wl_M_37 : Cond.methodLink R_M 37 y_M_known ∈ lw_ws := gw (List.mem_append_right _ (List.mem_append_left _ (List.mem_of_getElem? (i := 197) rfl))) rfl
theorem wm_M_known : Cond.instanceMethod y_M_known ∈ lw_ws := gw (List.mem_append_right _ (List.mem_append_left _ (List.mem_of_getElem? (i := 199) rfl))) rfl
theorem wk_M_known : Cond.code y_M_known b_M_known 2 (some .boolean) ∈ lw_ws := gw (List.mem_append_right _ (List.mem_append_left _ (List.mem_of_getElem? (i := 200) rfl))) rfl
theorem wl_law_26 : Cond.methodLink R_law 26 y_M_run ∈ lw_ws := gw (List.mem_append_right _ (List.mem_append_left _ (List.mem_of_getElem? (i := 201) rfl))) rfl
theorem wm_M_run : Cond.instanceMethod y_M_run ∈ lw_ws := gw (List.mem_append_right _ (List.mem_append_left _ (List.mem_of_getElem? (i := 202) rfl))) rfl
theorem ws_M_run : Cond.selects R_M y_M_run y_M_run ∈ lw_ws := gw (List.mem_append_right _ (List.mem_append_left _ (List.mem_of_getElem? (i := 203) rfl))) rfl
theorem wk_M_run : Cond.code y_M_run b_M_run 5 (some .int) ∈ lw_ws := gw (List.mem_append_right _ (List.mem_append_left _ (List.mem_of_getElem? (i := 204) rfl))) rfl
theorem wl_M_41 : Cond.methodLink R_M 41 y_M_anyOpen ∈ lw_ws := gw (List.mem_append_right _ (List.mem_append_left _ (List.mem_of_getElem? (i := 205) rfl))) rfl
theorem wm_M_anyOpen : Cond.instanceMethod y_M_anyOpen ∈ lw_ws := gw (List.mem_append_right _ (List.mem_append_left _ (List.mem_of_getElem? (i := 207) rfl))) rfl
theorem wk_M_anyOpen : Cond.code y_M_anyOpen b_M_anyOpen 2 (some .boolean) ∈ lw_ws := gw (List.mem_append_right _ (List.mem_append_left _ (List.mem_of_getElem? (i := 208) rfl))) rfl
theorem wl_M_45 : Cond.methodLink R_M 45 y_M_oneTick ∈ lw_ws := gw (List.mem_append_right _ (List.mem_append_left _ (List.mem_of_getElem? (i := 209) rfl))) rfl
theorem wm_M_oneTick : Cond.instanceMethod y_M_oneTick ∈ lw_ws := gw (List.mem_append_right _ (List.mem_append_left _ (List.mem_of_getElem? (i := 211) rfl))) rfl
theorem wk_M_oneTick : Cond.code y_M_oneTick b_M_oneTick 6 (some .int) ∈ lw_ws := gw (List.mem_append_right _ (List.mem_append_left _ (List.mem_of_getElem? (i := 212) rfl))) rfl
theorem wl_M_56 : Cond.methodLink R_M 56 y_M_served ∈ lw_ws := gw (List.mem_append_right _ (List.mem_append_left _ (List.mem_of_getElem? (i := 213) rfl))) rfl
theorem wm_M_served : Cond.instanceMethod y_M_served ∈ lw_ws := gw (List.mem_append_right _ (List.mem_append_left _ (List.mem_of_getElem? (i := 214) rfl))) rfl
theorem ws_M_served : Cond.selects R_M y_M_served y_M_served ∈ lw_ws := gw (List.mem_append_right _ (List.mem_append_left _ (List.mem_of_getElem? (i := 215) rfl))) rfl
theorem wk_M_served : Cond.code y_M_served b_M_served 1 (some .int) ∈ lw_ws := gw (List.mem_append_right _ (List.mem_append_left _ (List.mem_of_getElem? (i := 216) rfl))) rfl
theorem wl_M_49 : Cond.methodLink R_M 49 y_M_inState ∈ lw_ws := gw (List.mem_append_right _ (List.mem_append_left _ (List.mem_of_getElem? (i := 217) rfl))) rfl
theorem wm_M_inState : Cond.instanceMethod y_M_inState ∈ lw_ws := gw (List.mem_append_right _ (List.mem_append_left _ (List.mem_of_getElem? (i := 219) rfl))) rfl
theorem wk_M_inState : Cond.code y_M_inState b_M_inState 4 (some .int) ∈ lw_ws := gw (List.mem_append_right _ (List.mem_append_left _ (List.mem_of_getElem? (i := 220) rfl))) rfl
theorem wl_M_53 : Cond.methodLink R_M 53 y_M_state ∈ lw_ws := gw (List.mem_append_right _ (List.mem_append_left _ (List.mem_of_getElem? (i := 221) rfl))) rfl
theorem wm_M_state : Cond.instanceMethod y_M_state ∈ lw_ws := gw (List.mem_append_right _ (List.mem_append_left _ (List.mem_of_getElem? (i := 222) rfl))) rfl
theorem ws_M_state : Cond.selects R_M y_M_state y_M_state ∈ lw_ws := gw (List.mem_append_right _ (List.mem_append_left _ (List.mem_of_getElem? (i := 223) rfl))) rfl
theorem wk_M_state : Cond.code y_M_state b_M_state 2 (some .int) ∈ lw_ws := gw (List.mem_append_right _ (List.mem_append_left _ (List.mem_of_getElem? (i := 224) rfl))) rfl
theorem wl_M_59 : Cond.methodLink R_M 59 y_M_front ∈ lw_ws := gw (List.mem_append_right _ (List.mem_append_left _ (List.mem_of_getElem? (i := 225) rfl))) rfl
theorem wm_M_front : Cond.instanceMethod y_M_front ∈ lw_ws := gw (List.mem_append_right _ (List.mem_append_left _ (List.mem_of_getElem? (i := 227) rfl))) rfl
theorem wk_M_front : Cond.code y_M_front b_M_front 4 (some .int) ∈ lw_ws := gw (List.mem_append_right _ (List.mem_append_left _ (List.mem_of_getElem? (i := 228) rfl))) rfl
theorem wl_law_30 : Cond.methodLink R_law 30 y_M_clear ∈ lw_ws := gw (List.mem_append_right _ (List.mem_append_left _ (List.mem_of_getElem? (i := 229) rfl))) rfl
theorem wm_M_clear : Cond.instanceMethod y_M_clear ∈ lw_ws := gw (List.mem_append_right _ (List.mem_append_left _ (List.mem_of_getElem? (i := 230) rfl))) rfl
theorem ws_M_clear : Cond.selects R_M y_M_clear y_M_clear ∈ lw_ws := gw (List.mem_append_right _ (List.mem_append_left _ (List.mem_of_getElem? (i := 231) rfl))) rfl
theorem wk_M_clear : Cond.code y_M_clear b_M_clear 1 none ∈ lw_ws := gw (List.mem_append_right _ (List.mem_append_left _ (List.mem_of_getElem? (i := 232) rfl))) rfl
theorem wl_law_35 : Cond.methodLink R_law 35 y_M_now ∈ lw_ws := gw (List.mem_append_right _ (List.mem_append_left _ (List.mem_of_getElem? (i := 233) rfl))) rfl
theorem wm_M_now : Cond.instanceMethod y_M_now ∈ lw_ws := gw (List.mem_append_right _ (List.mem_append_left _ (List.mem_of_getElem? (i := 234) rfl))) rfl
theorem ws_M_now : Cond.selects R_M y_M_now y_M_now ∈ lw_ws := gw (List.mem_append_right _ (List.mem_append_left _ (List.mem_of_getElem? (i := 235) rfl))) rfl
theorem wk_M_now : Cond.code y_M_now b_M_now 1 (some .int) ∈ lw_ws := gw (List.mem_append_right _ (List.mem_append_left _ (List.mem_of_getElem? (i := 236) rfl))) rfl
theorem wl_law_39 : Cond.methodLink R_law 39 y_M_state ∈ lw_ws := gw (List.mem_append_right _ (List.mem_append_left _ (List.mem_of_getElem? (i := 237) rfl))) rfl
theorem wl_law_43 : Cond.methodLink R_law 43 y_M_had ∈ lw_ws := gw (List.mem_append_right _ (List.mem_append_left _ (List.mem_of_getElem? (i := 238) rfl))) rfl
theorem wm_M_had : Cond.instanceMethod y_M_had ∈ lw_ws := gw (List.mem_append_right _ (List.mem_append_left _ (List.mem_of_getElem? (i := 239) rfl))) rfl
theorem ws_M_had : Cond.selects R_M y_M_had y_M_had ∈ lw_ws := gw (List.mem_append_right _ (List.mem_append_right _ (List.mem_of_getElem? (i := 0) rfl))) rfl
theorem wk_M_had : Cond.code y_M_had b_M_had 2 (some .int) ∈ lw_ws := gw (List.mem_append_right _ (List.mem_append_right _ (List.mem_of_getElem? (i := 1) rfl))) rfl
theorem wl_law_47 : Cond.methodLink R_law 47 y_M_admitted ∈ lw_ws := gw (List.mem_append_right _ (List.mem_append_right _ (List.mem_of_getElem? (i := 2) rfl))) rfl
theorem wm_M_admitted : Cond.instanceMethod y_M_admitted ∈ lw_ws := gw (List.mem_append_right _ (List.mem_append_right _ (List.mem_of_getElem? (i := 3) rfl))) rfl
theorem ws_M_admitted : Cond.selects R_M y_M_admitted y_M_admitted ∈ lw_ws := gw (List.mem_append_right _ (List.mem_append_right _ (List.mem_of_getElem? (i := 4) rfl))) rfl
theorem wk_M_admitted : Cond.code y_M_admitted b_M_admitted 2 (some .int) ∈ lw_ws := gw (List.mem_append_right _ (List.mem_append_right _ (List.mem_of_getElem? (i := 5) rfl))) rfl
theorem wl_law_51 : Cond.methodLink R_law 51 y_M_finished ∈ lw_ws := gw (List.mem_append_right _ (List.mem_append_right _ (List.mem_of_getElem? (i := 6) rfl))) rfl
theorem wm_M_finished : Cond.instanceMethod y_M_finished ∈ lw_ws := gw (List.mem_append_right _ (List.mem_append_right _ (List.mem_of_getElem? (i := 7) rfl))) rfl
theorem ws_M_finished : Cond.selects R_M y_M_finished y_M_finished ∈ lw_ws := gw (List.mem_append_right _ (List.mem_append_right _ (List.mem_of_getElem? (i := 8) rfl))) rfl
theorem wk_M_finished : Cond.code y_M_finished b_M_finished 2 (some .int) ∈ lw_ws := gw (List.mem_append_right _ (List.mem_append_right _ (List.mem_of_getElem? (i := 9) rfl))) rfl
theorem wl_law_55 : Cond.methodLink R_law 55 y_M_served ∈ lw_ws := gw (List.mem_append_right _ (List.mem_append_right _ (List.mem_of_getElem? (i := 10) rfl))) rfl
theorem wl_law_59 : Cond.methodLink R_law 59 y_M_waiting ∈ lw_ws := gw (List.mem_append_right _ (List.mem_append_right _ (List.mem_of_getElem? (i := 11) rfl))) rfl
theorem wm_M_waiting : Cond.instanceMethod y_M_waiting ∈ lw_ws := gw (List.mem_append_right _ (List.mem_append_right _ (List.mem_of_getElem? (i := 12) rfl))) rfl
theorem ws_M_waiting : Cond.selects R_M y_M_waiting y_M_waiting ∈ lw_ws := gw (List.mem_append_right _ (List.mem_append_right _ (List.mem_of_getElem? (i := 13) rfl))) rfl
theorem wk_M_waiting : Cond.code y_M_waiting b_M_waiting 1 (some .int) ∈ lw_ws := gw (List.mem_append_right _ (List.mem_append_right _ (List.mem_of_getElem? (i := 14) rfl))) rfl
theorem ws_X_noJob : Cond.selects R_X y_X_noJob y_X_noJob ∈ lw_ws := gw (List.mem_append_left _ (List.mem_of_getElem? (i := 0) rfl)) rfl
theorem ws_X_leaveComing : Cond.selects R_X y_X_leaveComing y_X_leaveComing ∈ lw_ws := gw (List.mem_append_left _ (List.mem_of_getElem? (i := 1) rfl)) rfl
theorem ws_X_leaveLine : Cond.selects R_X y_X_leaveLine y_X_leaveLine ∈ lw_ws := gw (List.mem_append_left _ (List.mem_of_getElem? (i := 2) rfl)) rfl
theorem ws_X_leaveHeap : Cond.selects R_X y_X_leaveHeap y_X_leaveHeap ∈ lw_ws := gw (List.mem_append_left _ (List.mem_of_getElem? (i := 3) rfl)) rfl
theorem ws_X_takeOut : Cond.selects R_X y_X_takeOut y_X_takeOut ∈ lw_ws := gw (List.mem_append_left _ (List.mem_of_getElem? (i := 4) rfl)) rfl
theorem ws_X_sooner : Cond.selects R_X y_X_sooner y_X_sooner ∈ lw_ws := gw (List.mem_append_left _ (List.mem_of_getElem? (i := 5) rfl)) rfl
theorem ws_X_sink : Cond.selects R_X y_X_sink y_X_sink ∈ lw_ws := gw (List.mem_append_left _ (List.mem_of_getElem? (i := 6) rfl)) rfl
theorem ws_X_arrive : Cond.selects R_X y_X_arrive y_X_arrive ∈ lw_ws := gw (List.mem_append_left _ (List.mem_of_getElem? (i := 7) rfl)) rfl
theorem ws_X_admit : Cond.selects R_X y_X_admit y_X_admit ∈ lw_ws := gw (List.mem_append_left _ (List.mem_of_getElem? (i := 8) rfl)) rfl
theorem ws_X_push : Cond.selects R_X y_X_push y_X_push ∈ lw_ws := gw (List.mem_append_left _ (List.mem_of_getElem? (i := 9) rfl)) rfl
theorem ws_X_stretch : Cond.selects R_X y_X_stretch y_X_stretch ∈ lw_ws := gw (List.mem_append_left _ (List.mem_of_getElem? (i := 10) rfl)) rfl
theorem ws_X_complete : Cond.selects R_X y_X_complete y_X_complete ∈ lw_ws := gw (List.mem_append_left _ (List.mem_of_getElem? (i := 11) rfl)) rfl
theorem ws_M_known : Cond.selects R_M y_M_known y_M_known ∈ lw_ws := gw (List.mem_append_left _ (List.mem_of_getElem? (i := 12) rfl)) rfl
theorem ws_M_anyOpen : Cond.selects R_M y_M_anyOpen y_M_anyOpen ∈ lw_ws := gw (List.mem_append_left _ (List.mem_of_getElem? (i := 13) rfl)) rfl
theorem ws_M_oneTick : Cond.selects R_M y_M_oneTick y_M_oneTick ∈ lw_ws := gw (List.mem_append_left _ (List.mem_of_getElem? (i := 14) rfl)) rfl
theorem ws_M_inState : Cond.selects R_M y_M_inState y_M_inState ∈ lw_ws := gw (List.mem_append_left _ (List.mem_of_getElem? (i := 15) rfl)) rfl
theorem ws_M_front : Cond.selects R_M y_M_front y_M_front ∈ lw_ws := gw (List.mem_append_left _ (List.mem_of_getElem? (i := 16) rfl)) rfl
theorem i_X : ∀ w ∈ u_ws R_X F_X 16, w ∈ lw_ws := by
  intro w hw
  obtain ⟨k, hk, rfl⟩ := List.mem_map.mp hw
  have hk := List.mem_range.mp hk
  match k, hk with
  | 0, _ => exact gw (List.mem_append_right _ (List.mem_append_left _ (List.mem_of_getElem? (i := 27) rfl))) rfl
  | 1, _ => exact gw (List.mem_append_right _ (List.mem_append_left _ (List.mem_of_getElem? (i := 29) rfl))) rfl
  | 2, _ => exact gw (List.mem_append_right _ (List.mem_append_left _ (List.mem_of_getElem? (i := 31) rfl))) rfl
  | 3, _ => exact gw (List.mem_append_right _ (List.mem_append_left _ (List.mem_of_getElem? (i := 33) rfl))) rfl
  | 4, _ => exact gw (List.mem_append_right _ (List.mem_append_left _ (List.mem_of_getElem? (i := 35) rfl))) rfl
  | 5, _ => exact gw (List.mem_append_right _ (List.mem_append_left _ (List.mem_of_getElem? (i := 37) rfl))) rfl
  | 6, _ => exact gw (List.mem_append_right _ (List.mem_append_left _ (List.mem_of_getElem? (i := 39) rfl))) rfl
  | 7, _ => exact gw (List.mem_append_right _ (List.mem_append_left _ (List.mem_of_getElem? (i := 41) rfl))) rfl
  | 8, _ => exact gw (List.mem_append_right _ (List.mem_append_left _ (List.mem_of_getElem? (i := 43) rfl))) rfl
  | 9, _ => exact gw (List.mem_append_right _ (List.mem_append_left _ (List.mem_of_getElem? (i := 45) rfl))) rfl
  | 10, _ => exact gw (List.mem_append_right _ (List.mem_append_left _ (List.mem_of_getElem? (i := 47) rfl))) rfl
  | 11, _ => exact gw (List.mem_append_right _ (List.mem_append_left _ (List.mem_of_getElem? (i := 49) rfl))) rfl
  | 12, _ => exact gw (List.mem_append_right _ (List.mem_append_left _ (List.mem_of_getElem? (i := 51) rfl))) rfl
  | 13, _ => exact gw (List.mem_append_right _ (List.mem_append_left _ (List.mem_of_getElem? (i := 53) rfl))) rfl
  | 14, _ => exact gw (List.mem_append_right _ (List.mem_append_left _ (List.mem_of_getElem? (i := 55) rfl))) rfl
  | 15, _ => exact gw (List.mem_append_right _ (List.mem_append_left _ (List.mem_of_getElem? (i := 57) rfl))) rfl
  | k + 16, h => exact absurd h (by omega)
theorem i_M : ∀ w ∈ u_ws R_M F_M 8, w ∈ lw_ws := by
  intro w hw
  obtain ⟨k, hk, rfl⟩ := List.mem_map.mp hw
  have hk := List.mem_range.mp hk
  match k, hk with
  | 0, _ => exact gw (List.mem_append_right _ (List.mem_append_left _ (List.mem_of_getElem? (i := 170) rfl))) rfl
  | 1, _ => exact gw (List.mem_append_right _ (List.mem_append_left _ (List.mem_of_getElem? (i := 172) rfl))) rfl
  | 2, _ => exact gw (List.mem_append_right _ (List.mem_append_left _ (List.mem_of_getElem? (i := 174) rfl))) rfl
  | 3, _ => exact gw (List.mem_append_right _ (List.mem_append_left _ (List.mem_of_getElem? (i := 176) rfl))) rfl
  | 4, _ => exact gw (List.mem_append_right _ (List.mem_append_left _ (List.mem_of_getElem? (i := 178) rfl))) rfl
  | 5, _ => exact gw (List.mem_append_right _ (List.mem_append_left _ (List.mem_of_getElem? (i := 180) rfl))) rfl
  | 6, _ => exact gw (List.mem_append_right _ (List.mem_append_left _ (List.mem_of_getElem? (i := 182) rfl))) rfl
  | 7, _ => exact gw (List.mem_append_right _ (List.mem_append_left _ (List.mem_of_getElem? (i := 184) rfl))) rfl
  | k + 8, h => exact absurd h (by omega)
end
section
theorem d_X_init_0 : decode b_X_init 0 = .ok (.aload_n 0, 1) := by decide +kernel
theorem d_X_init_1 : decode b_X_init 1 = .ok (.invokespecial 1, 3) := by decide +kernel
theorem d_X_init_4 : decode b_X_init 4 = .ok (.aload_n 0, 1) := by decide +kernel
theorem d_X_init_5 : decode b_X_init 5 = .ok (.bipush 24, 2) := by decide +kernel
theorem d_X_init_7 : decode b_X_init 7 = .ok (.newarray .int, 2) := by decide +kernel
theorem d_X_init_9 : decode b_X_init 9 = .ok (.putfield 7, 3) := by decide +kernel
theorem d_X_init_12 : decode b_X_init 12 = .ok (.aload_n 0, 1) := by decide +kernel
theorem d_X_init_13 : decode b_X_init 13 = .ok (.bipush 24, 2) := by decide +kernel
theorem d_X_init_15 : decode b_X_init 15 = .ok (.newarray .int, 2) := by decide +kernel
theorem d_X_init_17 : decode b_X_init 17 = .ok (.putfield 13, 3) := by decide +kernel
theorem d_X_init_20 : decode b_X_init 20 = .ok (.aload_n 0, 1) := by decide +kernel
theorem d_X_init_21 : decode b_X_init 21 = .ok (.bipush 24, 2) := by decide +kernel
theorem d_X_init_23 : decode b_X_init 23 = .ok (.newarray .int, 2) := by decide +kernel
theorem d_X_init_25 : decode b_X_init 25 = .ok (.putfield 16, 3) := by decide +kernel
theorem d_X_init_28 : decode b_X_init 28 = .ok (.aload_n 0, 1) := by decide +kernel
theorem d_X_init_29 : decode b_X_init 29 = .ok (.bipush 24, 2) := by decide +kernel
theorem d_X_init_31 : decode b_X_init 31 = .ok (.newarray .int, 2) := by decide +kernel
theorem d_X_init_33 : decode b_X_init 33 = .ok (.putfield 19, 3) := by decide +kernel
theorem d_X_init_36 : decode b_X_init 36 = .ok (.aload_n 0, 1) := by decide +kernel
theorem d_X_init_37 : decode b_X_init 37 = .ok (.bipush 24, 2) := by decide +kernel
theorem d_X_init_39 : decode b_X_init 39 = .ok (.newarray .int, 2) := by decide +kernel
theorem d_X_init_41 : decode b_X_init 41 = .ok (.putfield 22, 3) := by decide +kernel
theorem d_X_init_44 : decode b_X_init 44 = .ok (.aload_n 0, 1) := by decide +kernel
theorem d_X_init_45 : decode b_X_init 45 = .ok (.bipush 24, 2) := by decide +kernel
theorem d_X_init_47 : decode b_X_init 47 = .ok (.newarray .int, 2) := by decide +kernel
theorem d_X_init_49 : decode b_X_init 49 = .ok (.putfield 25, 3) := by decide +kernel
theorem d_X_init_52 : decode b_X_init 52 = .ok (.aload_n 0, 1) := by decide +kernel
theorem d_X_init_53 : decode b_X_init 53 = .ok (.bipush 24, 2) := by decide +kernel
theorem d_X_init_55 : decode b_X_init 55 = .ok (.newarray .long, 2) := by decide +kernel
theorem d_X_init_57 : decode b_X_init 57 = .ok (.putfield 28, 3) := by decide +kernel
theorem d_X_init_60 : decode b_X_init 60 = .ok (.aload_n 0, 1) := by decide +kernel
theorem d_X_init_61 : decode b_X_init 61 = .ok (.bipush 8, 2) := by decide +kernel
theorem d_X_init_63 : decode b_X_init 63 = .ok (.newarray .int, 2) := by decide +kernel
theorem d_X_init_65 : decode b_X_init 65 = .ok (.putfield 32, 3) := by decide +kernel
theorem d_X_init_68 : decode b_X_init 68 = .ok (.aload_n 0, 1) := by decide +kernel
theorem d_X_init_69 : decode b_X_init 69 = .ok (.bipush 24, 2) := by decide +kernel
theorem d_X_init_71 : decode b_X_init 71 = .ok (.newarray .int, 2) := by decide +kernel
theorem d_X_init_73 : decode b_X_init 73 = .ok (.putfield 35, 3) := by decide +kernel
theorem d_X_init_76 : decode b_X_init 76 = .ok (.aload_n 0, 1) := by decide +kernel
theorem d_X_init_77 : decode b_X_init 77 = .ok (.bipush 24, 2) := by decide +kernel
theorem d_X_init_79 : decode b_X_init 79 = .ok (.newarray .int, 2) := by decide +kernel
theorem d_X_init_81 : decode b_X_init 81 = .ok (.putfield 38, 3) := by decide +kernel
theorem d_X_init_84 : decode b_X_init 84 = .ok (.aload_n 0, 1) := by decide +kernel
theorem d_X_init_85 : decode b_X_init 85 = .ok (.iconst 0, 1) := by decide +kernel
theorem d_X_init_86 : decode b_X_init 86 = .ok (.putfield 41, 3) := by decide +kernel
theorem d_X_init_89 : decode b_X_init 89 = .ok (.return_, 1) := by decide +kernel
theorem d_X_submit_0 : decode b_X_submit 0 = .ok (.iload_n 1, 1) := by decide +kernel
theorem d_X_submit_1 : decode b_X_submit 1 = .ok (.iconst 1, 1) := by decide +kernel
theorem d_X_submit_2 : decode b_X_submit 2 = .ok (.if_icmp .lt 9, 3) := by decide +kernel
theorem d_X_submit_5 : decode b_X_submit 5 = .ok (.iload_n 1, 1) := by decide +kernel
theorem d_X_submit_6 : decode b_X_submit 6 = .ok (.ldc 48, 2) := by decide +kernel
theorem d_X_submit_8 : decode b_X_submit 8 = .ok (.if_icmp .le 5, 3) := by decide +kernel
theorem d_X_submit_11 : decode b_X_submit 11 = .ok (.iconst (-1), 1) := by decide +kernel
theorem d_X_submit_12 : decode b_X_submit 12 = .ok (.ireturn, 1) := by decide +kernel
theorem d_X_submit_13 : decode b_X_submit 13 = .ok (.iload_n 2, 1) := by decide +kernel
theorem d_X_submit_14 : decode b_X_submit 14 = .ok (.ifCond .lt 10, 3) := by decide +kernel
theorem d_X_submit_17 : decode b_X_submit 17 = .ok (.iload_n 2, 1) := by decide +kernel
theorem d_X_submit_18 : decode b_X_submit 18 = .ok (.sipush 1000, 3) := by decide +kernel
theorem d_X_submit_21 : decode b_X_submit 21 = .ok (.if_icmp .le 6, 3) := by decide +kernel
theorem d_X_submit_24 : decode b_X_submit 24 = .ok (.bipush (-2), 2) := by decide +kernel
theorem d_X_submit_26 : decode b_X_submit 26 = .ok (.ireturn, 1) := by decide +kernel
theorem d_X_submit_27 : decode b_X_submit 27 = .ok (.aload_n 0, 1) := by decide +kernel
theorem d_X_submit_28 : decode b_X_submit 28 = .ok (.getfield 45, 3) := by decide +kernel
theorem d_X_submit_31 : decode b_X_submit 31 = .ok (.bipush 24, 2) := by decide +kernel
theorem d_X_submit_33 : decode b_X_submit 33 = .ok (.if_icmp .lt 6, 3) := by decide +kernel
theorem d_X_submit_36 : decode b_X_submit 36 = .ok (.bipush (-3), 2) := by decide +kernel
theorem d_X_submit_38 : decode b_X_submit 38 = .ok (.ireturn, 1) := by decide +kernel
theorem d_X_submit_39 : decode b_X_submit 39 = .ok (.aload_n 0, 1) := by decide +kernel
theorem d_X_submit_40 : decode b_X_submit 40 = .ok (.getfield 45, 3) := by decide +kernel
theorem d_X_submit_43 : decode b_X_submit 43 = .ok (.istore_n 3, 1) := by decide +kernel
theorem d_X_submit_44 : decode b_X_submit 44 = .ok (.aload_n 0, 1) := by decide +kernel
theorem d_X_submit_45 : decode b_X_submit 45 = .ok (.dup, 1) := by decide +kernel
theorem d_X_submit_46 : decode b_X_submit 46 = .ok (.getfield 45, 3) := by decide +kernel
theorem d_X_submit_49 : decode b_X_submit 49 = .ok (.iconst 1, 1) := by decide +kernel
theorem d_X_submit_50 : decode b_X_submit 50 = .ok (.iadd, 1) := by decide +kernel
theorem d_X_submit_51 : decode b_X_submit 51 = .ok (.putfield 45, 3) := by decide +kernel
theorem d_X_submit_54 : decode b_X_submit 54 = .ok (.aload_n 0, 1) := by decide +kernel
theorem d_X_submit_55 : decode b_X_submit 55 = .ok (.getfield 7, 3) := by decide +kernel
theorem d_X_submit_58 : decode b_X_submit 58 = .ok (.iload_n 3, 1) := by decide +kernel
theorem d_X_submit_59 : decode b_X_submit 59 = .ok (.iload_n 1, 1) := by decide +kernel
theorem d_X_submit_60 : decode b_X_submit 60 = .ok (.iastore, 1) := by decide +kernel
theorem d_X_submit_61 : decode b_X_submit 61 = .ok (.aload_n 0, 1) := by decide +kernel
theorem d_X_submit_62 : decode b_X_submit 62 = .ok (.getfield 13, 3) := by decide +kernel
theorem d_X_submit_65 : decode b_X_submit 65 = .ok (.iload_n 3, 1) := by decide +kernel
theorem d_X_submit_66 : decode b_X_submit 66 = .ok (.aload_n 0, 1) := by decide +kernel
theorem d_X_submit_67 : decode b_X_submit 67 = .ok (.getfield 41, 3) := by decide +kernel
theorem d_X_submit_70 : decode b_X_submit 70 = .ok (.iload_n 2, 1) := by decide +kernel
theorem d_X_submit_71 : decode b_X_submit 71 = .ok (.iadd, 1) := by decide +kernel
theorem d_X_submit_72 : decode b_X_submit 72 = .ok (.iastore, 1) := by decide +kernel
theorem d_X_submit_73 : decode b_X_submit 73 = .ok (.aload_n 0, 1) := by decide +kernel
theorem d_X_submit_74 : decode b_X_submit 74 = .ok (.getfield 16, 3) := by decide +kernel
theorem d_X_submit_77 : decode b_X_submit 77 = .ok (.iload_n 3, 1) := by decide +kernel
theorem d_X_submit_78 : decode b_X_submit 78 = .ok (.iconst 0, 1) := by decide +kernel
theorem d_X_submit_79 : decode b_X_submit 79 = .ok (.iastore, 1) := by decide +kernel
theorem d_X_submit_80 : decode b_X_submit 80 = .ok (.aload_n 0, 1) := by decide +kernel
theorem d_X_submit_81 : decode b_X_submit 81 = .ok (.getfield 19, 3) := by decide +kernel
theorem d_X_submit_84 : decode b_X_submit 84 = .ok (.iload_n 3, 1) := by decide +kernel
theorem d_X_submit_85 : decode b_X_submit 85 = .ok (.bipush (-5), 2) := by decide +kernel
theorem d_X_submit_87 : decode b_X_submit 87 = .ok (.iastore, 1) := by decide +kernel
theorem d_X_submit_88 : decode b_X_submit 88 = .ok (.aload_n 0, 1) := by decide +kernel
theorem d_X_submit_89 : decode b_X_submit 89 = .ok (.getfield 22, 3) := by decide +kernel
theorem d_X_submit_92 : decode b_X_submit 92 = .ok (.iload_n 3, 1) := by decide +kernel
theorem d_X_submit_93 : decode b_X_submit 93 = .ok (.bipush (-5), 2) := by decide +kernel
theorem d_X_submit_95 : decode b_X_submit 95 = .ok (.iastore, 1) := by decide +kernel
theorem d_X_submit_96 : decode b_X_submit 96 = .ok (.aload_n 0, 1) := by decide +kernel
theorem d_X_submit_97 : decode b_X_submit 97 = .ok (.getfield 25, 3) := by decide +kernel
theorem d_X_submit_100 : decode b_X_submit 100 = .ok (.iload_n 3, 1) := by decide +kernel
theorem d_X_submit_101 : decode b_X_submit 101 = .ok (.iconst 0, 1) := by decide +kernel
theorem d_X_submit_102 : decode b_X_submit 102 = .ok (.iastore, 1) := by decide +kernel
theorem d_X_submit_103 : decode b_X_submit 103 = .ok (.aload_n 0, 1) := by decide +kernel
theorem d_X_submit_104 : decode b_X_submit 104 = .ok (.getfield 49, 3) := by decide +kernel
theorem d_X_submit_107 : decode b_X_submit 107 = .ok (.istore 4, 2) := by decide +kernel
theorem d_X_submit_109 : decode b_X_submit 109 = .ok (.iload 4, 2) := by decide +kernel
theorem d_X_submit_111 : decode b_X_submit 111 = .ok (.ifCond .le 48, 3) := by decide +kernel
theorem d_X_submit_114 : decode b_X_submit 114 = .ok (.aload_n 0, 1) := by decide +kernel
theorem d_X_submit_115 : decode b_X_submit 115 = .ok (.getfield 13, 3) := by decide +kernel
theorem d_X_submit_118 : decode b_X_submit 118 = .ok (.aload_n 0, 1) := by decide +kernel
theorem d_X_submit_119 : decode b_X_submit 119 = .ok (.getfield 35, 3) := by decide +kernel
theorem d_X_submit_122 : decode b_X_submit 122 = .ok (.iload 4, 2) := by decide +kernel
theorem d_X_submit_124 : decode b_X_submit 124 = .ok (.iconst 1, 1) := by decide +kernel
theorem d_X_submit_125 : decode b_X_submit 125 = .ok (.isub, 1) := by decide +kernel
theorem d_X_submit_126 : decode b_X_submit 126 = .ok (.iaload, 1) := by decide +kernel
theorem d_X_submit_127 : decode b_X_submit 127 = .ok (.iaload, 1) := by decide +kernel
theorem d_X_submit_128 : decode b_X_submit 128 = .ok (.aload_n 0, 1) := by decide +kernel
theorem d_X_submit_129 : decode b_X_submit 129 = .ok (.getfield 13, 3) := by decide +kernel
theorem d_X_submit_132 : decode b_X_submit 132 = .ok (.iload_n 3, 1) := by decide +kernel
theorem d_X_submit_133 : decode b_X_submit 133 = .ok (.iaload, 1) := by decide +kernel
theorem d_X_submit_134 : decode b_X_submit 134 = .ok (.if_icmp .le 25, 3) := by decide +kernel
theorem d_X_submit_137 : decode b_X_submit 137 = .ok (.aload_n 0, 1) := by decide +kernel
theorem d_X_submit_138 : decode b_X_submit 138 = .ok (.getfield 35, 3) := by decide +kernel
theorem d_X_submit_141 : decode b_X_submit 141 = .ok (.iload 4, 2) := by decide +kernel
theorem d_X_submit_143 : decode b_X_submit 143 = .ok (.aload_n 0, 1) := by decide +kernel
theorem d_X_submit_144 : decode b_X_submit 144 = .ok (.getfield 35, 3) := by decide +kernel
theorem d_X_submit_147 : decode b_X_submit 147 = .ok (.iload 4, 2) := by decide +kernel
theorem d_X_submit_149 : decode b_X_submit 149 = .ok (.iconst 1, 1) := by decide +kernel
theorem d_X_submit_150 : decode b_X_submit 150 = .ok (.isub, 1) := by decide +kernel
theorem d_X_submit_151 : decode b_X_submit 151 = .ok (.iaload, 1) := by decide +kernel
theorem d_X_submit_152 : decode b_X_submit 152 = .ok (.iastore, 1) := by decide +kernel
theorem d_X_submit_153 : decode b_X_submit 153 = .ok (.iinc 4 (-1), 3) := by decide +kernel
theorem d_X_submit_156 : decode b_X_submit 156 = .ok (.goto (-47), 3) := by decide +kernel
theorem d_X_submit_159 : decode b_X_submit 159 = .ok (.aload_n 0, 1) := by decide +kernel
theorem d_X_submit_160 : decode b_X_submit 160 = .ok (.getfield 35, 3) := by decide +kernel
theorem d_X_submit_163 : decode b_X_submit 163 = .ok (.iload 4, 2) := by decide +kernel
theorem d_X_submit_165 : decode b_X_submit 165 = .ok (.iload_n 3, 1) := by decide +kernel
theorem d_X_submit_166 : decode b_X_submit 166 = .ok (.iastore, 1) := by decide +kernel
theorem d_X_submit_167 : decode b_X_submit 167 = .ok (.aload_n 0, 1) := by decide +kernel
theorem d_X_submit_168 : decode b_X_submit 168 = .ok (.dup, 1) := by decide +kernel
theorem d_X_submit_169 : decode b_X_submit 169 = .ok (.getfield 49, 3) := by decide +kernel
theorem d_X_submit_172 : decode b_X_submit 172 = .ok (.iconst 1, 1) := by decide +kernel
theorem d_X_submit_173 : decode b_X_submit 173 = .ok (.iadd, 1) := by decide +kernel
theorem d_X_submit_174 : decode b_X_submit 174 = .ok (.putfield 49, 3) := by decide +kernel
theorem d_X_submit_177 : decode b_X_submit 177 = .ok (.iload_n 3, 1) := by decide +kernel
theorem d_X_submit_178 : decode b_X_submit 178 = .ok (.ireturn, 1) := by decide +kernel
theorem d_X_cancel_0 : decode b_X_cancel 0 = .ok (.aload_n 0, 1) := by decide +kernel
theorem d_X_cancel_1 : decode b_X_cancel 1 = .ok (.iload_n 1, 1) := by decide +kernel
theorem d_X_cancel_2 : decode b_X_cancel 2 = .ok (.invokevirtual 77, 3) := by decide +kernel
theorem d_X_cancel_5 : decode b_X_cancel 5 = .ok (.ifCond .eq 6, 3) := by decide +kernel
theorem d_X_cancel_8 : decode b_X_cancel 8 = .ok (.bipush (-4), 2) := by decide +kernel
theorem d_X_cancel_10 : decode b_X_cancel 10 = .ok (.ireturn, 1) := by decide +kernel
theorem d_X_cancel_11 : decode b_X_cancel 11 = .ok (.aload_n 0, 1) := by decide +kernel
theorem d_X_cancel_12 : decode b_X_cancel 12 = .ok (.getfield 16, 3) := by decide +kernel
theorem d_X_cancel_15 : decode b_X_cancel 15 = .ok (.iload_n 1, 1) := by decide +kernel
theorem d_X_cancel_16 : decode b_X_cancel 16 = .ok (.iaload, 1) := by decide +kernel
theorem d_X_cancel_17 : decode b_X_cancel 17 = .ok (.iconst 3, 1) := by decide +kernel
theorem d_X_cancel_18 : decode b_X_cancel 18 = .ok (.if_icmp .lt 6, 3) := by decide +kernel
theorem d_X_cancel_21 : decode b_X_cancel 21 = .ok (.bipush (-5), 2) := by decide +kernel
theorem d_X_cancel_23 : decode b_X_cancel 23 = .ok (.ireturn, 1) := by decide +kernel
theorem d_X_cancel_24 : decode b_X_cancel 24 = .ok (.aload_n 0, 1) := by decide +kernel
theorem d_X_cancel_25 : decode b_X_cancel 25 = .ok (.iload_n 1, 1) := by decide +kernel
theorem d_X_cancel_26 : decode b_X_cancel 26 = .ok (.invokevirtual 81, 3) := by decide +kernel
theorem d_X_cancel_29 : decode b_X_cancel 29 = .ok (.istore_n 2, 1) := by decide +kernel
theorem d_X_cancel_30 : decode b_X_cancel 30 = .ok (.aload_n 0, 1) := by decide +kernel
theorem d_X_cancel_31 : decode b_X_cancel 31 = .ok (.getfield 16, 3) := by decide +kernel
theorem d_X_cancel_34 : decode b_X_cancel 34 = .ok (.iload_n 1, 1) := by decide +kernel
theorem d_X_cancel_35 : decode b_X_cancel 35 = .ok (.iaload, 1) := by decide +kernel
theorem d_X_cancel_36 : decode b_X_cancel 36 = .ok (.ifCond .ne 11, 3) := by decide +kernel
theorem d_X_cancel_39 : decode b_X_cancel 39 = .ok (.aload_n 0, 1) := by decide +kernel
theorem d_X_cancel_40 : decode b_X_cancel 40 = .ok (.iload_n 1, 1) := by decide +kernel
theorem d_X_cancel_41 : decode b_X_cancel 41 = .ok (.invokevirtual 85, 3) := by decide +kernel
theorem d_X_cancel_44 : decode b_X_cancel 44 = .ok (.goto 26, 3) := by decide +kernel
theorem d_X_cancel_47 : decode b_X_cancel 47 = .ok (.aload_n 0, 1) := by decide +kernel
theorem d_X_cancel_48 : decode b_X_cancel 48 = .ok (.getfield 16, 3) := by decide +kernel
theorem d_X_cancel_51 : decode b_X_cancel 51 = .ok (.iload_n 1, 1) := by decide +kernel
theorem d_X_cancel_52 : decode b_X_cancel 52 = .ok (.iaload, 1) := by decide +kernel
theorem d_X_cancel_53 : decode b_X_cancel 53 = .ok (.iconst 1, 1) := by decide +kernel
theorem d_X_cancel_54 : decode b_X_cancel 54 = .ok (.if_icmp .ne 11, 3) := by decide +kernel
theorem d_X_cancel_57 : decode b_X_cancel 57 = .ok (.aload_n 0, 1) := by decide +kernel
theorem d_X_cancel_58 : decode b_X_cancel 58 = .ok (.iload_n 1, 1) := by decide +kernel
theorem d_X_cancel_59 : decode b_X_cancel 59 = .ok (.invokevirtual 88, 3) := by decide +kernel
theorem d_X_cancel_62 : decode b_X_cancel 62 = .ok (.goto 8, 3) := by decide +kernel
theorem d_X_cancel_65 : decode b_X_cancel 65 = .ok (.aload_n 0, 1) := by decide +kernel
theorem d_X_cancel_66 : decode b_X_cancel 66 = .ok (.iload_n 1, 1) := by decide +kernel
theorem d_X_cancel_67 : decode b_X_cancel 67 = .ok (.invokevirtual 91, 3) := by decide +kernel
theorem d_X_cancel_70 : decode b_X_cancel 70 = .ok (.aload_n 0, 1) := by decide +kernel
theorem d_X_cancel_71 : decode b_X_cancel 71 = .ok (.getfield 16, 3) := by decide +kernel
theorem d_X_cancel_74 : decode b_X_cancel 74 = .ok (.iload_n 1, 1) := by decide +kernel
theorem d_X_cancel_75 : decode b_X_cancel 75 = .ok (.iconst 4, 1) := by decide +kernel
theorem d_X_cancel_76 : decode b_X_cancel 76 = .ok (.iastore, 1) := by decide +kernel
theorem d_X_cancel_77 : decode b_X_cancel 77 = .ok (.aload_n 0, 1) := by decide +kernel
theorem d_X_cancel_78 : decode b_X_cancel 78 = .ok (.getfield 25, 3) := by decide +kernel
theorem d_X_cancel_81 : decode b_X_cancel 81 = .ok (.iload_n 1, 1) := by decide +kernel
theorem d_X_cancel_82 : decode b_X_cancel 82 = .ok (.iload_n 2, 1) := by decide +kernel
theorem d_X_cancel_83 : decode b_X_cancel 83 = .ok (.iastore, 1) := by decide +kernel
theorem d_X_cancel_84 : decode b_X_cancel 84 = .ok (.iload_n 2, 1) := by decide +kernel
theorem d_X_cancel_85 : decode b_X_cancel 85 = .ok (.ireturn, 1) := by decide +kernel
theorem d_X_noJob_0 : decode b_X_noJob 0 = .ok (.iload_n 1, 1) := by decide +kernel
theorem d_X_noJob_1 : decode b_X_noJob 1 = .ok (.ifCond .lt 11, 3) := by decide +kernel
theorem d_X_noJob_4 : decode b_X_noJob 4 = .ok (.iload_n 1, 1) := by decide +kernel
theorem d_X_noJob_5 : decode b_X_noJob 5 = .ok (.aload_n 0, 1) := by decide +kernel
theorem d_X_noJob_6 : decode b_X_noJob 6 = .ok (.getfield 45, 3) := by decide +kernel
theorem d_X_noJob_9 : decode b_X_noJob 9 = .ok (.if_icmp .lt 7, 3) := by decide +kernel
theorem d_X_noJob_12 : decode b_X_noJob 12 = .ok (.iconst 1, 1) := by decide +kernel
theorem d_X_noJob_13 : decode b_X_noJob 13 = .ok (.goto 4, 3) := by decide +kernel
theorem d_X_noJob_16 : decode b_X_noJob 16 = .ok (.iconst 0, 1) := by decide +kernel
theorem d_X_noJob_17 : decode b_X_noJob 17 = .ok (.ireturn, 1) := by decide +kernel
theorem d_X_had_0 : decode b_X_had 0 = .ok (.aload_n 0, 1) := by decide +kernel
theorem d_X_had_1 : decode b_X_had 1 = .ok (.iload_n 1, 1) := by decide +kernel
theorem d_X_had_2 : decode b_X_had 2 = .ok (.invokevirtual 77, 3) := by decide +kernel
theorem d_X_had_5 : decode b_X_had 5 = .ok (.ifCond .eq 6, 3) := by decide +kernel
theorem d_X_had_8 : decode b_X_had 8 = .ok (.bipush (-4), 2) := by decide +kernel
theorem d_X_had_10 : decode b_X_had 10 = .ok (.ireturn, 1) := by decide +kernel
theorem d_X_had_11 : decode b_X_had 11 = .ok (.aload_n 0, 1) := by decide +kernel
theorem d_X_had_12 : decode b_X_had 12 = .ok (.getfield 16, 3) := by decide +kernel
theorem d_X_had_15 : decode b_X_had 15 = .ok (.iload_n 1, 1) := by decide +kernel
theorem d_X_had_16 : decode b_X_had 16 = .ok (.iaload, 1) := by decide +kernel
theorem d_X_had_17 : decode b_X_had 17 = .ok (.iconst 2, 1) := by decide +kernel
theorem d_X_had_18 : decode b_X_had 18 = .ok (.if_icmp .eq 10, 3) := by decide +kernel
theorem d_X_had_21 : decode b_X_had 21 = .ok (.aload_n 0, 1) := by decide +kernel
theorem d_X_had_22 : decode b_X_had 22 = .ok (.getfield 25, 3) := by decide +kernel
theorem d_X_had_25 : decode b_X_had 25 = .ok (.iload_n 1, 1) := by decide +kernel
theorem d_X_had_26 : decode b_X_had 26 = .ok (.iaload, 1) := by decide +kernel
theorem d_X_had_27 : decode b_X_had 27 = .ok (.ireturn, 1) := by decide +kernel
theorem d_X_had_28 : decode b_X_had 28 = .ok (.aload_n 0, 1) := by decide +kernel
theorem d_X_had_29 : decode b_X_had 29 = .ok (.getfield 7, 3) := by decide +kernel
theorem d_X_had_32 : decode b_X_had 32 = .ok (.iload_n 1, 1) := by decide +kernel
theorem d_X_had_33 : decode b_X_had 33 = .ok (.iaload, 1) := by decide +kernel
theorem d_X_had_34 : decode b_X_had 34 = .ok (.i2l, 1) := by decide +kernel
theorem d_X_had_35 : decode b_X_had 35 = .ok (.aload_n 0, 1) := by decide +kernel
theorem d_X_had_36 : decode b_X_had 36 = .ok (.getfield 28, 3) := by decide +kernel
theorem d_X_had_39 : decode b_X_had 39 = .ok (.iload_n 1, 1) := by decide +kernel
theorem d_X_had_40 : decode b_X_had 40 = .ok (.laload, 1) := by decide +kernel
theorem d_X_had_41 : decode b_X_had 41 = .ok (.aload_n 0, 1) := by decide +kernel
theorem d_X_had_42 : decode b_X_had 42 = .ok (.getfield 66, 3) := by decide +kernel
theorem d_X_had_45 : decode b_X_had 45 = .ok (.lsub, 1) := by decide +kernel
theorem d_X_had_46 : decode b_X_had 46 = .ok (.lsub, 1) := by decide +kernel
theorem d_X_had_47 : decode b_X_had 47 = .ok (.l2i, 1) := by decide +kernel
theorem d_X_had_48 : decode b_X_had 48 = .ok (.ireturn, 1) := by decide +kernel
theorem d_X_leaveComing_0 : decode b_X_leaveComing 0 = .ok (.iconst 0, 1) := by decide +kernel
theorem d_X_leaveComing_1 : decode b_X_leaveComing 1 = .ok (.istore_n 2, 1) := by decide +kernel
theorem d_X_leaveComing_2 : decode b_X_leaveComing 2 = .ok (.iconst 0, 1) := by decide +kernel
theorem d_X_leaveComing_3 : decode b_X_leaveComing 3 = .ok (.istore_n 3, 1) := by decide +kernel
theorem d_X_leaveComing_4 : decode b_X_leaveComing 4 = .ok (.iload_n 3, 1) := by decide +kernel
theorem d_X_leaveComing_5 : decode b_X_leaveComing 5 = .ok (.aload_n 0, 1) := by decide +kernel
theorem d_X_leaveComing_6 : decode b_X_leaveComing 6 = .ok (.getfield 49, 3) := by decide +kernel
theorem d_X_leaveComing_9 : decode b_X_leaveComing 9 = .ok (.if_icmp .ge 34, 3) := by decide +kernel
theorem d_X_leaveComing_12 : decode b_X_leaveComing 12 = .ok (.aload_n 0, 1) := by decide +kernel
theorem d_X_leaveComing_13 : decode b_X_leaveComing 13 = .ok (.getfield 35, 3) := by decide +kernel
theorem d_X_leaveComing_16 : decode b_X_leaveComing 16 = .ok (.iload_n 3, 1) := by decide +kernel
theorem d_X_leaveComing_17 : decode b_X_leaveComing 17 = .ok (.iaload, 1) := by decide +kernel
theorem d_X_leaveComing_18 : decode b_X_leaveComing 18 = .ok (.iload_n 1, 1) := by decide +kernel
theorem d_X_leaveComing_19 : decode b_X_leaveComing 19 = .ok (.if_icmp .eq 18, 3) := by decide +kernel
theorem d_X_leaveComing_22 : decode b_X_leaveComing 22 = .ok (.aload_n 0, 1) := by decide +kernel
theorem d_X_leaveComing_23 : decode b_X_leaveComing 23 = .ok (.getfield 35, 3) := by decide +kernel
theorem d_X_leaveComing_26 : decode b_X_leaveComing 26 = .ok (.iload_n 2, 1) := by decide +kernel
theorem d_X_leaveComing_27 : decode b_X_leaveComing 27 = .ok (.aload_n 0, 1) := by decide +kernel
theorem d_X_leaveComing_28 : decode b_X_leaveComing 28 = .ok (.getfield 35, 3) := by decide +kernel
theorem d_X_leaveComing_31 : decode b_X_leaveComing 31 = .ok (.iload_n 3, 1) := by decide +kernel
theorem d_X_leaveComing_32 : decode b_X_leaveComing 32 = .ok (.iaload, 1) := by decide +kernel
theorem d_X_leaveComing_33 : decode b_X_leaveComing 33 = .ok (.iastore, 1) := by decide +kernel
theorem d_X_leaveComing_34 : decode b_X_leaveComing 34 = .ok (.iinc 2 1, 3) := by decide +kernel
theorem d_X_leaveComing_37 : decode b_X_leaveComing 37 = .ok (.iinc 3 1, 3) := by decide +kernel
theorem d_X_leaveComing_40 : decode b_X_leaveComing 40 = .ok (.goto (-36), 3) := by decide +kernel
theorem d_X_leaveComing_43 : decode b_X_leaveComing 43 = .ok (.aload_n 0, 1) := by decide +kernel
theorem d_X_leaveComing_44 : decode b_X_leaveComing 44 = .ok (.iload_n 2, 1) := by decide +kernel
theorem d_X_leaveComing_45 : decode b_X_leaveComing 45 = .ok (.putfield 49, 3) := by decide +kernel
theorem d_X_leaveComing_48 : decode b_X_leaveComing 48 = .ok (.return_, 1) := by decide +kernel
theorem d_X_leaveLine_0 : decode b_X_leaveLine 0 = .ok (.iconst 0, 1) := by decide +kernel
theorem d_X_leaveLine_1 : decode b_X_leaveLine 1 = .ok (.istore_n 2, 1) := by decide +kernel
theorem d_X_leaveLine_2 : decode b_X_leaveLine 2 = .ok (.iconst 0, 1) := by decide +kernel
theorem d_X_leaveLine_3 : decode b_X_leaveLine 3 = .ok (.istore_n 3, 1) := by decide +kernel
theorem d_X_leaveLine_4 : decode b_X_leaveLine 4 = .ok (.iload_n 3, 1) := by decide +kernel
theorem d_X_leaveLine_5 : decode b_X_leaveLine 5 = .ok (.aload_n 0, 1) := by decide +kernel
theorem d_X_leaveLine_6 : decode b_X_leaveLine 6 = .ok (.getfield 63, 3) := by decide +kernel
theorem d_X_leaveLine_9 : decode b_X_leaveLine 9 = .ok (.if_icmp .ge 34, 3) := by decide +kernel
theorem d_X_leaveLine_12 : decode b_X_leaveLine 12 = .ok (.aload_n 0, 1) := by decide +kernel
theorem d_X_leaveLine_13 : decode b_X_leaveLine 13 = .ok (.getfield 38, 3) := by decide +kernel
theorem d_X_leaveLine_16 : decode b_X_leaveLine 16 = .ok (.iload_n 3, 1) := by decide +kernel
theorem d_X_leaveLine_17 : decode b_X_leaveLine 17 = .ok (.iaload, 1) := by decide +kernel
theorem d_X_leaveLine_18 : decode b_X_leaveLine 18 = .ok (.iload_n 1, 1) := by decide +kernel
theorem d_X_leaveLine_19 : decode b_X_leaveLine 19 = .ok (.if_icmp .eq 18, 3) := by decide +kernel
theorem d_X_leaveLine_22 : decode b_X_leaveLine 22 = .ok (.aload_n 0, 1) := by decide +kernel
theorem d_X_leaveLine_23 : decode b_X_leaveLine 23 = .ok (.getfield 38, 3) := by decide +kernel
theorem d_X_leaveLine_26 : decode b_X_leaveLine 26 = .ok (.iload_n 2, 1) := by decide +kernel
theorem d_X_leaveLine_27 : decode b_X_leaveLine 27 = .ok (.aload_n 0, 1) := by decide +kernel
theorem d_X_leaveLine_28 : decode b_X_leaveLine 28 = .ok (.getfield 38, 3) := by decide +kernel
theorem d_X_leaveLine_31 : decode b_X_leaveLine 31 = .ok (.iload_n 3, 1) := by decide +kernel
theorem d_X_leaveLine_32 : decode b_X_leaveLine 32 = .ok (.iaload, 1) := by decide +kernel
theorem d_X_leaveLine_33 : decode b_X_leaveLine 33 = .ok (.iastore, 1) := by decide +kernel
theorem d_X_leaveLine_34 : decode b_X_leaveLine 34 = .ok (.iinc 2 1, 3) := by decide +kernel
theorem d_X_leaveLine_37 : decode b_X_leaveLine 37 = .ok (.iinc 3 1, 3) := by decide +kernel
theorem d_X_leaveLine_40 : decode b_X_leaveLine 40 = .ok (.goto (-36), 3) := by decide +kernel
theorem d_X_leaveLine_43 : decode b_X_leaveLine 43 = .ok (.aload_n 0, 1) := by decide +kernel
theorem d_X_leaveLine_44 : decode b_X_leaveLine 44 = .ok (.iload_n 2, 1) := by decide +kernel
theorem d_X_leaveLine_45 : decode b_X_leaveLine 45 = .ok (.putfield 63, 3) := by decide +kernel
theorem d_X_leaveLine_48 : decode b_X_leaveLine 48 = .ok (.return_, 1) := by decide +kernel
theorem d_X_leaveHeap_0 : decode b_X_leaveHeap 0 = .ok (.iconst 0, 1) := by decide +kernel
theorem d_X_leaveHeap_1 : decode b_X_leaveHeap 1 = .ok (.istore_n 2, 1) := by decide +kernel
theorem d_X_leaveHeap_2 : decode b_X_leaveHeap 2 = .ok (.iload_n 2, 1) := by decide +kernel
theorem d_X_leaveHeap_3 : decode b_X_leaveHeap 3 = .ok (.aload_n 0, 1) := by decide +kernel
theorem d_X_leaveHeap_4 : decode b_X_leaveHeap 4 = .ok (.getfield 52, 3) := by decide +kernel
theorem d_X_leaveHeap_7 : decode b_X_leaveHeap 7 = .ok (.iconst 1, 1) := by decide +kernel
theorem d_X_leaveHeap_8 : decode b_X_leaveHeap 8 = .ok (.isub, 1) := by decide +kernel
theorem d_X_leaveHeap_9 : decode b_X_leaveHeap 9 = .ok (.if_icmp .ge 19, 3) := by decide +kernel
theorem d_X_leaveHeap_12 : decode b_X_leaveHeap 12 = .ok (.aload_n 0, 1) := by decide +kernel
theorem d_X_leaveHeap_13 : decode b_X_leaveHeap 13 = .ok (.getfield 32, 3) := by decide +kernel
theorem d_X_leaveHeap_16 : decode b_X_leaveHeap 16 = .ok (.iload_n 2, 1) := by decide +kernel
theorem d_X_leaveHeap_17 : decode b_X_leaveHeap 17 = .ok (.iaload, 1) := by decide +kernel
theorem d_X_leaveHeap_18 : decode b_X_leaveHeap 18 = .ok (.iload_n 1, 1) := by decide +kernel
theorem d_X_leaveHeap_19 : decode b_X_leaveHeap 19 = .ok (.if_icmp .eq 9, 3) := by decide +kernel
theorem d_X_leaveHeap_22 : decode b_X_leaveHeap 22 = .ok (.iinc 2 1, 3) := by decide +kernel
theorem d_X_leaveHeap_25 : decode b_X_leaveHeap 25 = .ok (.goto (-23), 3) := by decide +kernel
theorem d_X_leaveHeap_28 : decode b_X_leaveHeap 28 = .ok (.aload_n 0, 1) := by decide +kernel
theorem d_X_leaveHeap_29 : decode b_X_leaveHeap 29 = .ok (.iload_n 2, 1) := by decide +kernel
theorem d_X_leaveHeap_30 : decode b_X_leaveHeap 30 = .ok (.invokevirtual 74, 3) := by decide +kernel
theorem d_X_leaveHeap_33 : decode b_X_leaveHeap 33 = .ok (.return_, 1) := by decide +kernel
theorem d_X_takeOut_0 : decode b_X_takeOut 0 = .ok (.aload_n 0, 1) := by decide +kernel
theorem d_X_takeOut_1 : decode b_X_takeOut 1 = .ok (.dup, 1) := by decide +kernel
theorem d_X_takeOut_2 : decode b_X_takeOut 2 = .ok (.getfield 52, 3) := by decide +kernel
theorem d_X_takeOut_5 : decode b_X_takeOut 5 = .ok (.iconst 1, 1) := by decide +kernel
theorem d_X_takeOut_6 : decode b_X_takeOut 6 = .ok (.isub, 1) := by decide +kernel
theorem d_X_takeOut_7 : decode b_X_takeOut 7 = .ok (.putfield 52, 3) := by decide +kernel
theorem d_X_takeOut_10 : decode b_X_takeOut 10 = .ok (.aload_n 0, 1) := by decide +kernel
theorem d_X_takeOut_11 : decode b_X_takeOut 11 = .ok (.getfield 32, 3) := by decide +kernel
theorem d_X_takeOut_14 : decode b_X_takeOut 14 = .ok (.aload_n 0, 1) := by decide +kernel
theorem d_X_takeOut_15 : decode b_X_takeOut 15 = .ok (.getfield 52, 3) := by decide +kernel
theorem d_X_takeOut_18 : decode b_X_takeOut 18 = .ok (.iaload, 1) := by decide +kernel
theorem d_X_takeOut_19 : decode b_X_takeOut 19 = .ok (.istore_n 2, 1) := by decide +kernel
theorem d_X_takeOut_20 : decode b_X_takeOut 20 = .ok (.iload_n 1, 1) := by decide +kernel
theorem d_X_takeOut_21 : decode b_X_takeOut 21 = .ok (.aload_n 0, 1) := by decide +kernel
theorem d_X_takeOut_22 : decode b_X_takeOut 22 = .ok (.getfield 52, 3) := by decide +kernel
theorem d_X_takeOut_25 : decode b_X_takeOut 25 = .ok (.if_icmp .ne 4, 3) := by decide +kernel
theorem d_X_takeOut_28 : decode b_X_takeOut 28 = .ok (.return_, 1) := by decide +kernel
theorem d_X_takeOut_29 : decode b_X_takeOut 29 = .ok (.iload_n 1, 1) := by decide +kernel
theorem d_X_takeOut_30 : decode b_X_takeOut 30 = .ok (.istore_n 3, 1) := by decide +kernel
theorem d_X_takeOut_31 : decode b_X_takeOut 31 = .ok (.iload_n 3, 1) := by decide +kernel
theorem d_X_takeOut_32 : decode b_X_takeOut 32 = .ok (.ifCond .le 46, 3) := by decide +kernel
theorem d_X_takeOut_35 : decode b_X_takeOut 35 = .ok (.aload_n 0, 1) := by decide +kernel
theorem d_X_takeOut_36 : decode b_X_takeOut 36 = .ok (.iload_n 2, 1) := by decide +kernel
theorem d_X_takeOut_37 : decode b_X_takeOut 37 = .ok (.aload_n 0, 1) := by decide +kernel
theorem d_X_takeOut_38 : decode b_X_takeOut 38 = .ok (.getfield 32, 3) := by decide +kernel
theorem d_X_takeOut_41 : decode b_X_takeOut 41 = .ok (.iload_n 3, 1) := by decide +kernel
theorem d_X_takeOut_42 : decode b_X_takeOut 42 = .ok (.iconst 1, 1) := by decide +kernel
theorem d_X_takeOut_43 : decode b_X_takeOut 43 = .ok (.isub, 1) := by decide +kernel
theorem d_X_takeOut_44 : decode b_X_takeOut 44 = .ok (.iconst 2, 1) := by decide +kernel
theorem d_X_takeOut_45 : decode b_X_takeOut 45 = .ok (.idiv, 1) := by decide +kernel
theorem d_X_takeOut_46 : decode b_X_takeOut 46 = .ok (.iaload, 1) := by decide +kernel
theorem d_X_takeOut_47 : decode b_X_takeOut 47 = .ok (.invokevirtual 55, 3) := by decide +kernel
theorem d_X_takeOut_50 : decode b_X_takeOut 50 = .ok (.ifCond .eq 28, 3) := by decide +kernel
theorem d_X_takeOut_53 : decode b_X_takeOut 53 = .ok (.aload_n 0, 1) := by decide +kernel
theorem d_X_takeOut_54 : decode b_X_takeOut 54 = .ok (.getfield 32, 3) := by decide +kernel
theorem d_X_takeOut_57 : decode b_X_takeOut 57 = .ok (.iload_n 3, 1) := by decide +kernel
theorem d_X_takeOut_58 : decode b_X_takeOut 58 = .ok (.aload_n 0, 1) := by decide +kernel
theorem d_X_takeOut_59 : decode b_X_takeOut 59 = .ok (.getfield 32, 3) := by decide +kernel
theorem d_X_takeOut_62 : decode b_X_takeOut 62 = .ok (.iload_n 3, 1) := by decide +kernel
theorem d_X_takeOut_63 : decode b_X_takeOut 63 = .ok (.iconst 1, 1) := by decide +kernel
theorem d_X_takeOut_64 : decode b_X_takeOut 64 = .ok (.isub, 1) := by decide +kernel
theorem d_X_takeOut_65 : decode b_X_takeOut 65 = .ok (.iconst 2, 1) := by decide +kernel
theorem d_X_takeOut_66 : decode b_X_takeOut 66 = .ok (.idiv, 1) := by decide +kernel
theorem d_X_takeOut_67 : decode b_X_takeOut 67 = .ok (.iaload, 1) := by decide +kernel
theorem d_X_takeOut_68 : decode b_X_takeOut 68 = .ok (.iastore, 1) := by decide +kernel
theorem d_X_takeOut_69 : decode b_X_takeOut 69 = .ok (.iload_n 3, 1) := by decide +kernel
theorem d_X_takeOut_70 : decode b_X_takeOut 70 = .ok (.iconst 1, 1) := by decide +kernel
theorem d_X_takeOut_71 : decode b_X_takeOut 71 = .ok (.isub, 1) := by decide +kernel
theorem d_X_takeOut_72 : decode b_X_takeOut 72 = .ok (.iconst 2, 1) := by decide +kernel
theorem d_X_takeOut_73 : decode b_X_takeOut 73 = .ok (.idiv, 1) := by decide +kernel
theorem d_X_takeOut_74 : decode b_X_takeOut 74 = .ok (.istore_n 3, 1) := by decide +kernel
theorem d_X_takeOut_75 : decode b_X_takeOut 75 = .ok (.goto (-44), 3) := by decide +kernel
theorem d_X_takeOut_78 : decode b_X_takeOut 78 = .ok (.aload_n 0, 1) := by decide +kernel
theorem d_X_takeOut_79 : decode b_X_takeOut 79 = .ok (.iload_n 3, 1) := by decide +kernel
theorem d_X_takeOut_80 : decode b_X_takeOut 80 = .ok (.iload_n 2, 1) := by decide +kernel
theorem d_X_takeOut_81 : decode b_X_takeOut 81 = .ok (.invokevirtual 59, 3) := by decide +kernel
theorem d_X_takeOut_84 : decode b_X_takeOut 84 = .ok (.return_, 1) := by decide +kernel
theorem d_X_sooner_0 : decode b_X_sooner 0 = .ok (.aload_n 0, 1) := by decide +kernel
theorem d_X_sooner_1 : decode b_X_sooner 1 = .ok (.getfield 28, 3) := by decide +kernel
theorem d_X_sooner_4 : decode b_X_sooner 4 = .ok (.iload_n 1, 1) := by decide +kernel
theorem d_X_sooner_5 : decode b_X_sooner 5 = .ok (.laload, 1) := by decide +kernel
theorem d_X_sooner_6 : decode b_X_sooner 6 = .ok (.aload_n 0, 1) := by decide +kernel
theorem d_X_sooner_7 : decode b_X_sooner 7 = .ok (.getfield 28, 3) := by decide +kernel
theorem d_X_sooner_10 : decode b_X_sooner 10 = .ok (.iload_n 2, 1) := by decide +kernel
theorem d_X_sooner_11 : decode b_X_sooner 11 = .ok (.laload, 1) := by decide +kernel
theorem d_X_sooner_12 : decode b_X_sooner 12 = .ok (.lcmp, 1) := by decide +kernel
theorem d_X_sooner_13 : decode b_X_sooner 13 = .ok (.ifCond .lt 24, 3) := by decide +kernel
theorem d_X_sooner_16 : decode b_X_sooner 16 = .ok (.aload_n 0, 1) := by decide +kernel
theorem d_X_sooner_17 : decode b_X_sooner 17 = .ok (.getfield 28, 3) := by decide +kernel
theorem d_X_sooner_20 : decode b_X_sooner 20 = .ok (.iload_n 1, 1) := by decide +kernel
theorem d_X_sooner_21 : decode b_X_sooner 21 = .ok (.laload, 1) := by decide +kernel
theorem d_X_sooner_22 : decode b_X_sooner 22 = .ok (.aload_n 0, 1) := by decide +kernel
theorem d_X_sooner_23 : decode b_X_sooner 23 = .ok (.getfield 28, 3) := by decide +kernel
theorem d_X_sooner_26 : decode b_X_sooner 26 = .ok (.iload_n 2, 1) := by decide +kernel
theorem d_X_sooner_27 : decode b_X_sooner 27 = .ok (.laload, 1) := by decide +kernel
theorem d_X_sooner_28 : decode b_X_sooner 28 = .ok (.lcmp, 1) := by decide +kernel
theorem d_X_sooner_29 : decode b_X_sooner 29 = .ok (.ifCond .ne 12, 3) := by decide +kernel
theorem d_X_sooner_32 : decode b_X_sooner 32 = .ok (.iload_n 1, 1) := by decide +kernel
theorem d_X_sooner_33 : decode b_X_sooner 33 = .ok (.iload_n 2, 1) := by decide +kernel
theorem d_X_sooner_34 : decode b_X_sooner 34 = .ok (.if_icmp .ge 7, 3) := by decide +kernel
theorem d_X_sooner_37 : decode b_X_sooner 37 = .ok (.iconst 1, 1) := by decide +kernel
theorem d_X_sooner_38 : decode b_X_sooner 38 = .ok (.goto 4, 3) := by decide +kernel
theorem d_X_sooner_41 : decode b_X_sooner 41 = .ok (.iconst 0, 1) := by decide +kernel
theorem d_X_sooner_42 : decode b_X_sooner 42 = .ok (.ireturn, 1) := by decide +kernel
theorem d_X_sink_0 : decode b_X_sink 0 = .ok (.iload_n 1, 1) := by decide +kernel
theorem d_X_sink_1 : decode b_X_sink 1 = .ok (.istore_n 3, 1) := by decide +kernel
theorem d_X_sink_2 : decode b_X_sink 2 = .ok (.iconst 0, 1) := by decide +kernel
theorem d_X_sink_3 : decode b_X_sink 3 = .ok (.istore 4, 2) := by decide +kernel
theorem d_X_sink_5 : decode b_X_sink 5 = .ok (.iload 4, 2) := by decide +kernel
theorem d_X_sink_7 : decode b_X_sink 7 = .ok (.bipush 8, 2) := by decide +kernel
theorem d_X_sink_9 : decode b_X_sink 9 = .ok (.if_icmp .ge 93, 3) := by decide +kernel
theorem d_X_sink_12 : decode b_X_sink 12 = .ok (.iconst 2, 1) := by decide +kernel
theorem d_X_sink_13 : decode b_X_sink 13 = .ok (.iload_n 3, 1) := by decide +kernel
theorem d_X_sink_14 : decode b_X_sink 14 = .ok (.imul, 1) := by decide +kernel
theorem d_X_sink_15 : decode b_X_sink 15 = .ok (.iconst 1, 1) := by decide +kernel
theorem d_X_sink_16 : decode b_X_sink 16 = .ok (.iadd, 1) := by decide +kernel
theorem d_X_sink_17 : decode b_X_sink 17 = .ok (.istore 5, 2) := by decide +kernel
theorem d_X_sink_19 : decode b_X_sink 19 = .ok (.iload 5, 2) := by decide +kernel
theorem d_X_sink_21 : decode b_X_sink 21 = .ok (.iconst 1, 1) := by decide +kernel
theorem d_X_sink_22 : decode b_X_sink 22 = .ok (.iadd, 1) := by decide +kernel
theorem d_X_sink_23 : decode b_X_sink 23 = .ok (.aload_n 0, 1) := by decide +kernel
theorem d_X_sink_24 : decode b_X_sink 24 = .ok (.getfield 52, 3) := by decide +kernel
theorem d_X_sink_27 : decode b_X_sink 27 = .ok (.if_icmp .ge 29, 3) := by decide +kernel
theorem d_X_sink_30 : decode b_X_sink 30 = .ok (.aload_n 0, 1) := by decide +kernel
theorem d_X_sink_31 : decode b_X_sink 31 = .ok (.aload_n 0, 1) := by decide +kernel
theorem d_X_sink_32 : decode b_X_sink 32 = .ok (.getfield 32, 3) := by decide +kernel
theorem d_X_sink_35 : decode b_X_sink 35 = .ok (.iload 5, 2) := by decide +kernel
theorem d_X_sink_37 : decode b_X_sink 37 = .ok (.iconst 1, 1) := by decide +kernel
theorem d_X_sink_38 : decode b_X_sink 38 = .ok (.iadd, 1) := by decide +kernel
theorem d_X_sink_39 : decode b_X_sink 39 = .ok (.iaload, 1) := by decide +kernel
theorem d_X_sink_40 : decode b_X_sink 40 = .ok (.aload_n 0, 1) := by decide +kernel
theorem d_X_sink_41 : decode b_X_sink 41 = .ok (.getfield 32, 3) := by decide +kernel
theorem d_X_sink_44 : decode b_X_sink 44 = .ok (.iload 5, 2) := by decide +kernel
theorem d_X_sink_46 : decode b_X_sink 46 = .ok (.iaload, 1) := by decide +kernel
theorem d_X_sink_47 : decode b_X_sink 47 = .ok (.invokevirtual 55, 3) := by decide +kernel
theorem d_X_sink_50 : decode b_X_sink 50 = .ok (.ifCond .eq 6, 3) := by decide +kernel
theorem d_X_sink_53 : decode b_X_sink 53 = .ok (.iinc 5 1, 3) := by decide +kernel
theorem d_X_sink_56 : decode b_X_sink 56 = .ok (.iload 5, 2) := by decide +kernel
theorem d_X_sink_58 : decode b_X_sink 58 = .ok (.aload_n 0, 1) := by decide +kernel
theorem d_X_sink_59 : decode b_X_sink 59 = .ok (.getfield 52, 3) := by decide +kernel
theorem d_X_sink_62 : decode b_X_sink 62 = .ok (.if_icmp .ge 34, 3) := by decide +kernel
theorem d_X_sink_65 : decode b_X_sink 65 = .ok (.aload_n 0, 1) := by decide +kernel
theorem d_X_sink_66 : decode b_X_sink 66 = .ok (.aload_n 0, 1) := by decide +kernel
theorem d_X_sink_67 : decode b_X_sink 67 = .ok (.getfield 32, 3) := by decide +kernel
theorem d_X_sink_70 : decode b_X_sink 70 = .ok (.iload 5, 2) := by decide +kernel
theorem d_X_sink_72 : decode b_X_sink 72 = .ok (.iaload, 1) := by decide +kernel
theorem d_X_sink_73 : decode b_X_sink 73 = .ok (.iload_n 2, 1) := by decide +kernel
theorem d_X_sink_74 : decode b_X_sink 74 = .ok (.invokevirtual 55, 3) := by decide +kernel
theorem d_X_sink_77 : decode b_X_sink 77 = .ok (.ifCond .eq 19, 3) := by decide +kernel
theorem d_X_sink_80 : decode b_X_sink 80 = .ok (.aload_n 0, 1) := by decide +kernel
theorem d_X_sink_81 : decode b_X_sink 81 = .ok (.getfield 32, 3) := by decide +kernel
theorem d_X_sink_84 : decode b_X_sink 84 = .ok (.iload_n 3, 1) := by decide +kernel
theorem d_X_sink_85 : decode b_X_sink 85 = .ok (.aload_n 0, 1) := by decide +kernel
theorem d_X_sink_86 : decode b_X_sink 86 = .ok (.getfield 32, 3) := by decide +kernel
theorem d_X_sink_89 : decode b_X_sink 89 = .ok (.iload 5, 2) := by decide +kernel
theorem d_X_sink_91 : decode b_X_sink 91 = .ok (.iaload, 1) := by decide +kernel
theorem d_X_sink_92 : decode b_X_sink 92 = .ok (.iastore, 1) := by decide +kernel
theorem d_X_sink_93 : decode b_X_sink 93 = .ok (.iload 5, 2) := by decide +kernel
theorem d_X_sink_95 : decode b_X_sink 95 = .ok (.istore_n 3, 1) := by decide +kernel
theorem d_X_sink_96 : decode b_X_sink 96 = .ok (.iinc 4 1, 3) := by decide +kernel
theorem d_X_sink_99 : decode b_X_sink 99 = .ok (.goto (-94), 3) := by decide +kernel
theorem d_X_sink_102 : decode b_X_sink 102 = .ok (.aload_n 0, 1) := by decide +kernel
theorem d_X_sink_103 : decode b_X_sink 103 = .ok (.getfield 32, 3) := by decide +kernel
theorem d_X_sink_106 : decode b_X_sink 106 = .ok (.iload_n 3, 1) := by decide +kernel
theorem d_X_sink_107 : decode b_X_sink 107 = .ok (.iload_n 2, 1) := by decide +kernel
theorem d_X_sink_108 : decode b_X_sink 108 = .ok (.iastore, 1) := by decide +kernel
theorem d_X_sink_109 : decode b_X_sink 109 = .ok (.return_, 1) := by decide +kernel
theorem d_X_run_0 : decode b_X_run 0 = .ok (.iload_n 1, 1) := by decide +kernel
theorem d_X_run_1 : decode b_X_run 1 = .ok (.istore_n 2, 1) := by decide +kernel
theorem d_X_run_2 : decode b_X_run 2 = .ok (.iload_n 2, 1) := by decide +kernel
theorem d_X_run_3 : decode b_X_run 3 = .ok (.ifCond .ge 5, 3) := by decide +kernel
theorem d_X_run_6 : decode b_X_run 6 = .ok (.iconst 0, 1) := by decide +kernel
theorem d_X_run_7 : decode b_X_run 7 = .ok (.istore_n 2, 1) := by decide +kernel
theorem d_X_run_8 : decode b_X_run 8 = .ok (.iload_n 2, 1) := by decide +kernel
theorem d_X_run_9 : decode b_X_run 9 = .ok (.sipush 5000, 3) := by decide +kernel
theorem d_X_run_12 : decode b_X_run 12 = .ok (.if_icmp .le 7, 3) := by decide +kernel
theorem d_X_run_15 : decode b_X_run 15 = .ok (.sipush 5000, 3) := by decide +kernel
theorem d_X_run_18 : decode b_X_run 18 = .ok (.istore_n 2, 1) := by decide +kernel
theorem d_X_run_19 : decode b_X_run 19 = .ok (.iconst 0, 1) := by decide +kernel
theorem d_X_run_20 : decode b_X_run 20 = .ok (.istore_n 3, 1) := by decide +kernel
theorem d_X_run_21 : decode b_X_run 21 = .ok (.iload_n 2, 1) := by decide +kernel
theorem d_X_run_22 : decode b_X_run 22 = .ok (.ifCond .le 73, 3) := by decide +kernel
theorem d_X_run_25 : decode b_X_run 25 = .ok (.aload_n 0, 1) := by decide +kernel
theorem d_X_run_26 : decode b_X_run 26 = .ok (.invokevirtual 94, 3) := by decide +kernel
theorem d_X_run_29 : decode b_X_run 29 = .ok (.aload_n 0, 1) := by decide +kernel
theorem d_X_run_30 : decode b_X_run 30 = .ok (.invokevirtual 97, 3) := by decide +kernel
theorem d_X_run_33 : decode b_X_run 33 = .ok (.aload_n 0, 1) := by decide +kernel
theorem d_X_run_34 : decode b_X_run 34 = .ok (.iload_n 2, 1) := by decide +kernel
theorem d_X_run_35 : decode b_X_run 35 = .ok (.invokevirtual 100, 3) := by decide +kernel
theorem d_X_run_38 : decode b_X_run 38 = .ok (.istore 4, 2) := by decide +kernel
theorem d_X_run_40 : decode b_X_run 40 = .ok (.aload_n 0, 1) := by decide +kernel
theorem d_X_run_41 : decode b_X_run 41 = .ok (.getfield 52, 3) := by decide +kernel
theorem d_X_run_44 : decode b_X_run 44 = .ok (.ifCond .le 25, 3) := by decide +kernel
theorem d_X_run_47 : decode b_X_run 47 = .ok (.aload_n 0, 1) := by decide +kernel
theorem d_X_run_48 : decode b_X_run 48 = .ok (.dup, 1) := by decide +kernel
theorem d_X_run_49 : decode b_X_run 49 = .ok (.getfield 66, 3) := by decide +kernel
theorem d_X_run_52 : decode b_X_run 52 = .ok (.sipush 840, 3) := by decide +kernel
theorem d_X_run_55 : decode b_X_run 55 = .ok (.aload_n 0, 1) := by decide +kernel
theorem d_X_run_56 : decode b_X_run 56 = .ok (.getfield 52, 3) := by decide +kernel
theorem d_X_run_59 : decode b_X_run 59 = .ok (.idiv, 1) := by decide +kernel
theorem d_X_run_60 : decode b_X_run 60 = .ok (.i2l, 1) := by decide +kernel
theorem d_X_run_61 : decode b_X_run 61 = .ok (.iload 4, 2) := by decide +kernel
theorem d_X_run_63 : decode b_X_run 63 = .ok (.i2l, 1) := by decide +kernel
theorem d_X_run_64 : decode b_X_run 64 = .ok (.lmul, 1) := by decide +kernel
theorem d_X_run_65 : decode b_X_run 65 = .ok (.ladd, 1) := by decide +kernel
theorem d_X_run_66 : decode b_X_run 66 = .ok (.putfield 66, 3) := by decide +kernel
theorem d_X_run_69 : decode b_X_run 69 = .ok (.aload_n 0, 1) := by decide +kernel
theorem d_X_run_70 : decode b_X_run 70 = .ok (.dup, 1) := by decide +kernel
theorem d_X_run_71 : decode b_X_run 71 = .ok (.getfield 41, 3) := by decide +kernel
theorem d_X_run_74 : decode b_X_run 74 = .ok (.iload 4, 2) := by decide +kernel
theorem d_X_run_76 : decode b_X_run 76 = .ok (.iadd, 1) := by decide +kernel
theorem d_X_run_77 : decode b_X_run 77 = .ok (.putfield 41, 3) := by decide +kernel
theorem d_X_run_80 : decode b_X_run 80 = .ok (.iload_n 2, 1) := by decide +kernel
theorem d_X_run_81 : decode b_X_run 81 = .ok (.iload 4, 2) := by decide +kernel
theorem d_X_run_83 : decode b_X_run 83 = .ok (.isub, 1) := by decide +kernel
theorem d_X_run_84 : decode b_X_run 84 = .ok (.istore_n 2, 1) := by decide +kernel
theorem d_X_run_85 : decode b_X_run 85 = .ok (.iload_n 3, 1) := by decide +kernel
theorem d_X_run_86 : decode b_X_run 86 = .ok (.aload_n 0, 1) := by decide +kernel
theorem d_X_run_87 : decode b_X_run 87 = .ok (.invokevirtual 103, 3) := by decide +kernel
theorem d_X_run_90 : decode b_X_run 90 = .ok (.iadd, 1) := by decide +kernel
theorem d_X_run_91 : decode b_X_run 91 = .ok (.istore_n 3, 1) := by decide +kernel
theorem d_X_run_92 : decode b_X_run 92 = .ok (.goto (-71), 3) := by decide +kernel
theorem d_X_run_95 : decode b_X_run 95 = .ok (.iload_n 3, 1) := by decide +kernel
theorem d_X_run_96 : decode b_X_run 96 = .ok (.ireturn, 1) := by decide +kernel
theorem d_X_arrive_0 : decode b_X_arrive 0 = .ok (.iconst 0, 1) := by decide +kernel
theorem d_X_arrive_1 : decode b_X_arrive 1 = .ok (.istore_n 1, 1) := by decide +kernel
theorem d_X_arrive_2 : decode b_X_arrive 2 = .ok (.iload_n 1, 1) := by decide +kernel
theorem d_X_arrive_3 : decode b_X_arrive 3 = .ok (.aload_n 0, 1) := by decide +kernel
theorem d_X_arrive_4 : decode b_X_arrive 4 = .ok (.getfield 49, 3) := by decide +kernel
theorem d_X_arrive_7 : decode b_X_arrive 7 = .ok (.if_icmp .ge 64, 3) := by decide +kernel
theorem d_X_arrive_10 : decode b_X_arrive 10 = .ok (.aload_n 0, 1) := by decide +kernel
theorem d_X_arrive_11 : decode b_X_arrive 11 = .ok (.getfield 13, 3) := by decide +kernel
theorem d_X_arrive_14 : decode b_X_arrive 14 = .ok (.aload_n 0, 1) := by decide +kernel
theorem d_X_arrive_15 : decode b_X_arrive 15 = .ok (.getfield 35, 3) := by decide +kernel
theorem d_X_arrive_18 : decode b_X_arrive 18 = .ok (.iload_n 1, 1) := by decide +kernel
theorem d_X_arrive_19 : decode b_X_arrive 19 = .ok (.iaload, 1) := by decide +kernel
theorem d_X_arrive_20 : decode b_X_arrive 20 = .ok (.iaload, 1) := by decide +kernel
theorem d_X_arrive_21 : decode b_X_arrive 21 = .ok (.aload_n 0, 1) := by decide +kernel
theorem d_X_arrive_22 : decode b_X_arrive 22 = .ok (.getfield 41, 3) := by decide +kernel
theorem d_X_arrive_25 : decode b_X_arrive 25 = .ok (.if_icmp .gt 46, 3) := by decide +kernel
theorem d_X_arrive_28 : decode b_X_arrive 28 = .ok (.aload_n 0, 1) := by decide +kernel
theorem d_X_arrive_29 : decode b_X_arrive 29 = .ok (.getfield 16, 3) := by decide +kernel
theorem d_X_arrive_32 : decode b_X_arrive 32 = .ok (.aload_n 0, 1) := by decide +kernel
theorem d_X_arrive_33 : decode b_X_arrive 33 = .ok (.getfield 35, 3) := by decide +kernel
theorem d_X_arrive_36 : decode b_X_arrive 36 = .ok (.iload_n 1, 1) := by decide +kernel
theorem d_X_arrive_37 : decode b_X_arrive 37 = .ok (.iaload, 1) := by decide +kernel
theorem d_X_arrive_38 : decode b_X_arrive 38 = .ok (.iconst 1, 1) := by decide +kernel
theorem d_X_arrive_39 : decode b_X_arrive 39 = .ok (.iastore, 1) := by decide +kernel
theorem d_X_arrive_40 : decode b_X_arrive 40 = .ok (.aload_n 0, 1) := by decide +kernel
theorem d_X_arrive_41 : decode b_X_arrive 41 = .ok (.getfield 38, 3) := by decide +kernel
theorem d_X_arrive_44 : decode b_X_arrive 44 = .ok (.aload_n 0, 1) := by decide +kernel
theorem d_X_arrive_45 : decode b_X_arrive 45 = .ok (.getfield 63, 3) := by decide +kernel
theorem d_X_arrive_48 : decode b_X_arrive 48 = .ok (.aload_n 0, 1) := by decide +kernel
theorem d_X_arrive_49 : decode b_X_arrive 49 = .ok (.getfield 35, 3) := by decide +kernel
theorem d_X_arrive_52 : decode b_X_arrive 52 = .ok (.iload_n 1, 1) := by decide +kernel
theorem d_X_arrive_53 : decode b_X_arrive 53 = .ok (.iaload, 1) := by decide +kernel
theorem d_X_arrive_54 : decode b_X_arrive 54 = .ok (.iastore, 1) := by decide +kernel
theorem d_X_arrive_55 : decode b_X_arrive 55 = .ok (.aload_n 0, 1) := by decide +kernel
theorem d_X_arrive_56 : decode b_X_arrive 56 = .ok (.dup, 1) := by decide +kernel
theorem d_X_arrive_57 : decode b_X_arrive 57 = .ok (.getfield 63, 3) := by decide +kernel
theorem d_X_arrive_60 : decode b_X_arrive 60 = .ok (.iconst 1, 1) := by decide +kernel
theorem d_X_arrive_61 : decode b_X_arrive 61 = .ok (.iadd, 1) := by decide +kernel
theorem d_X_arrive_62 : decode b_X_arrive 62 = .ok (.putfield 63, 3) := by decide +kernel
theorem d_X_arrive_65 : decode b_X_arrive 65 = .ok (.iinc 1 1, 3) := by decide +kernel
theorem d_X_arrive_68 : decode b_X_arrive 68 = .ok (.goto (-66), 3) := by decide +kernel
theorem d_X_arrive_71 : decode b_X_arrive 71 = .ok (.aload_n 0, 1) := by decide +kernel
theorem d_X_arrive_72 : decode b_X_arrive 72 = .ok (.dup, 1) := by decide +kernel
theorem d_X_arrive_73 : decode b_X_arrive 73 = .ok (.getfield 49, 3) := by decide +kernel
theorem d_X_arrive_76 : decode b_X_arrive 76 = .ok (.iload_n 1, 1) := by decide +kernel
theorem d_X_arrive_77 : decode b_X_arrive 77 = .ok (.isub, 1) := by decide +kernel
theorem d_X_arrive_78 : decode b_X_arrive 78 = .ok (.putfield 49, 3) := by decide +kernel
theorem d_X_arrive_81 : decode b_X_arrive 81 = .ok (.iconst 0, 1) := by decide +kernel
theorem d_X_arrive_82 : decode b_X_arrive 82 = .ok (.istore_n 2, 1) := by decide +kernel
theorem d_X_arrive_83 : decode b_X_arrive 83 = .ok (.iload_n 2, 1) := by decide +kernel
theorem d_X_arrive_84 : decode b_X_arrive 84 = .ok (.aload_n 0, 1) := by decide +kernel
theorem d_X_arrive_85 : decode b_X_arrive 85 = .ok (.getfield 49, 3) := by decide +kernel
theorem d_X_arrive_88 : decode b_X_arrive 88 = .ok (.if_icmp .ge 23, 3) := by decide +kernel
theorem d_X_arrive_91 : decode b_X_arrive 91 = .ok (.aload_n 0, 1) := by decide +kernel
theorem d_X_arrive_92 : decode b_X_arrive 92 = .ok (.getfield 35, 3) := by decide +kernel
theorem d_X_arrive_95 : decode b_X_arrive 95 = .ok (.iload_n 2, 1) := by decide +kernel
theorem d_X_arrive_96 : decode b_X_arrive 96 = .ok (.aload_n 0, 1) := by decide +kernel
theorem d_X_arrive_97 : decode b_X_arrive 97 = .ok (.getfield 35, 3) := by decide +kernel
theorem d_X_arrive_100 : decode b_X_arrive 100 = .ok (.iload_n 2, 1) := by decide +kernel
theorem d_X_arrive_101 : decode b_X_arrive 101 = .ok (.iload_n 1, 1) := by decide +kernel
theorem d_X_arrive_102 : decode b_X_arrive 102 = .ok (.iadd, 1) := by decide +kernel
theorem d_X_arrive_103 : decode b_X_arrive 103 = .ok (.iaload, 1) := by decide +kernel
theorem d_X_arrive_104 : decode b_X_arrive 104 = .ok (.iastore, 1) := by decide +kernel
theorem d_X_arrive_105 : decode b_X_arrive 105 = .ok (.iinc 2 1, 3) := by decide +kernel
theorem d_X_arrive_108 : decode b_X_arrive 108 = .ok (.goto (-25), 3) := by decide +kernel
theorem d_X_arrive_111 : decode b_X_arrive 111 = .ok (.return_, 1) := by decide +kernel
theorem d_X_admit_0 : decode b_X_admit 0 = .ok (.iconst 0, 1) := by decide +kernel
theorem d_X_admit_1 : decode b_X_admit 1 = .ok (.istore_n 1, 1) := by decide +kernel
theorem d_X_admit_2 : decode b_X_admit 2 = .ok (.iload_n 1, 1) := by decide +kernel
theorem d_X_admit_3 : decode b_X_admit 3 = .ok (.aload_n 0, 1) := by decide +kernel
theorem d_X_admit_4 : decode b_X_admit 4 = .ok (.getfield 63, 3) := by decide +kernel
theorem d_X_admit_7 : decode b_X_admit 7 = .ok (.if_icmp .ge 65, 3) := by decide +kernel
theorem d_X_admit_10 : decode b_X_admit 10 = .ok (.aload_n 0, 1) := by decide +kernel
theorem d_X_admit_11 : decode b_X_admit 11 = .ok (.getfield 52, 3) := by decide +kernel
theorem d_X_admit_14 : decode b_X_admit 14 = .ok (.bipush 8, 2) := by decide +kernel
theorem d_X_admit_16 : decode b_X_admit 16 = .ok (.if_icmp .ge 56, 3) := by decide +kernel
theorem d_X_admit_19 : decode b_X_admit 19 = .ok (.aload_n 0, 1) := by decide +kernel
theorem d_X_admit_20 : decode b_X_admit 20 = .ok (.getfield 38, 3) := by decide +kernel
theorem d_X_admit_23 : decode b_X_admit 23 = .ok (.iload_n 1, 1) := by decide +kernel
theorem d_X_admit_24 : decode b_X_admit 24 = .ok (.iaload, 1) := by decide +kernel
theorem d_X_admit_25 : decode b_X_admit 25 = .ok (.istore_n 2, 1) := by decide +kernel
theorem d_X_admit_26 : decode b_X_admit 26 = .ok (.aload_n 0, 1) := by decide +kernel
theorem d_X_admit_27 : decode b_X_admit 27 = .ok (.getfield 16, 3) := by decide +kernel
theorem d_X_admit_30 : decode b_X_admit 30 = .ok (.iload_n 2, 1) := by decide +kernel
theorem d_X_admit_31 : decode b_X_admit 31 = .ok (.iconst 2, 1) := by decide +kernel
theorem d_X_admit_32 : decode b_X_admit 32 = .ok (.iastore, 1) := by decide +kernel
theorem d_X_admit_33 : decode b_X_admit 33 = .ok (.aload_n 0, 1) := by decide +kernel
theorem d_X_admit_34 : decode b_X_admit 34 = .ok (.getfield 19, 3) := by decide +kernel
theorem d_X_admit_37 : decode b_X_admit 37 = .ok (.iload_n 2, 1) := by decide +kernel
theorem d_X_admit_38 : decode b_X_admit 38 = .ok (.aload_n 0, 1) := by decide +kernel
theorem d_X_admit_39 : decode b_X_admit 39 = .ok (.getfield 41, 3) := by decide +kernel
theorem d_X_admit_42 : decode b_X_admit 42 = .ok (.iastore, 1) := by decide +kernel
theorem d_X_admit_43 : decode b_X_admit 43 = .ok (.aload_n 0, 1) := by decide +kernel
theorem d_X_admit_44 : decode b_X_admit 44 = .ok (.getfield 28, 3) := by decide +kernel
theorem d_X_admit_47 : decode b_X_admit 47 = .ok (.iload_n 2, 1) := by decide +kernel
theorem d_X_admit_48 : decode b_X_admit 48 = .ok (.aload_n 0, 1) := by decide +kernel
theorem d_X_admit_49 : decode b_X_admit 49 = .ok (.getfield 66, 3) := by decide +kernel
theorem d_X_admit_52 : decode b_X_admit 52 = .ok (.aload_n 0, 1) := by decide +kernel
theorem d_X_admit_53 : decode b_X_admit 53 = .ok (.getfield 7, 3) := by decide +kernel
theorem d_X_admit_56 : decode b_X_admit 56 = .ok (.iload_n 2, 1) := by decide +kernel
theorem d_X_admit_57 : decode b_X_admit 57 = .ok (.iaload, 1) := by decide +kernel
theorem d_X_admit_58 : decode b_X_admit 58 = .ok (.i2l, 1) := by decide +kernel
theorem d_X_admit_59 : decode b_X_admit 59 = .ok (.ladd, 1) := by decide +kernel
theorem d_X_admit_60 : decode b_X_admit 60 = .ok (.lastore, 1) := by decide +kernel
theorem d_X_admit_61 : decode b_X_admit 61 = .ok (.aload_n 0, 1) := by decide +kernel
theorem d_X_admit_62 : decode b_X_admit 62 = .ok (.iload_n 2, 1) := by decide +kernel
theorem d_X_admit_63 : decode b_X_admit 63 = .ok (.invokevirtual 70, 3) := by decide +kernel
theorem d_X_admit_66 : decode b_X_admit 66 = .ok (.iinc 1 1, 3) := by decide +kernel
theorem d_X_admit_69 : decode b_X_admit 69 = .ok (.goto (-67), 3) := by decide +kernel
theorem d_X_admit_72 : decode b_X_admit 72 = .ok (.aload_n 0, 1) := by decide +kernel
theorem d_X_admit_73 : decode b_X_admit 73 = .ok (.dup, 1) := by decide +kernel
theorem d_X_admit_74 : decode b_X_admit 74 = .ok (.getfield 63, 3) := by decide +kernel
theorem d_X_admit_77 : decode b_X_admit 77 = .ok (.iload_n 1, 1) := by decide +kernel
theorem d_X_admit_78 : decode b_X_admit 78 = .ok (.isub, 1) := by decide +kernel
theorem d_X_admit_79 : decode b_X_admit 79 = .ok (.putfield 63, 3) := by decide +kernel
theorem d_X_admit_82 : decode b_X_admit 82 = .ok (.iconst 0, 1) := by decide +kernel
theorem d_X_admit_83 : decode b_X_admit 83 = .ok (.istore_n 2, 1) := by decide +kernel
theorem d_X_admit_84 : decode b_X_admit 84 = .ok (.iload_n 2, 1) := by decide +kernel
theorem d_X_admit_85 : decode b_X_admit 85 = .ok (.aload_n 0, 1) := by decide +kernel
theorem d_X_admit_86 : decode b_X_admit 86 = .ok (.getfield 63, 3) := by decide +kernel
theorem d_X_admit_89 : decode b_X_admit 89 = .ok (.if_icmp .ge 23, 3) := by decide +kernel
theorem d_X_admit_92 : decode b_X_admit 92 = .ok (.aload_n 0, 1) := by decide +kernel
theorem d_X_admit_93 : decode b_X_admit 93 = .ok (.getfield 38, 3) := by decide +kernel
theorem d_X_admit_96 : decode b_X_admit 96 = .ok (.iload_n 2, 1) := by decide +kernel
theorem d_X_admit_97 : decode b_X_admit 97 = .ok (.aload_n 0, 1) := by decide +kernel
theorem d_X_admit_98 : decode b_X_admit 98 = .ok (.getfield 38, 3) := by decide +kernel
theorem d_X_admit_101 : decode b_X_admit 101 = .ok (.iload_n 2, 1) := by decide +kernel
theorem d_X_admit_102 : decode b_X_admit 102 = .ok (.iload_n 1, 1) := by decide +kernel
theorem d_X_admit_103 : decode b_X_admit 103 = .ok (.iadd, 1) := by decide +kernel
theorem d_X_admit_104 : decode b_X_admit 104 = .ok (.iaload, 1) := by decide +kernel
theorem d_X_admit_105 : decode b_X_admit 105 = .ok (.iastore, 1) := by decide +kernel
theorem d_X_admit_106 : decode b_X_admit 106 = .ok (.iinc 2 1, 3) := by decide +kernel
theorem d_X_admit_109 : decode b_X_admit 109 = .ok (.goto (-25), 3) := by decide +kernel
theorem d_X_admit_112 : decode b_X_admit 112 = .ok (.return_, 1) := by decide +kernel
theorem d_X_push_0 : decode b_X_push 0 = .ok (.aload_n 0, 1) := by decide +kernel
theorem d_X_push_1 : decode b_X_push 1 = .ok (.getfield 52, 3) := by decide +kernel
theorem d_X_push_4 : decode b_X_push 4 = .ok (.istore_n 2, 1) := by decide +kernel
theorem d_X_push_5 : decode b_X_push 5 = .ok (.aload_n 0, 1) := by decide +kernel
theorem d_X_push_6 : decode b_X_push 6 = .ok (.dup, 1) := by decide +kernel
theorem d_X_push_7 : decode b_X_push 7 = .ok (.getfield 52, 3) := by decide +kernel
theorem d_X_push_10 : decode b_X_push 10 = .ok (.iconst 1, 1) := by decide +kernel
theorem d_X_push_11 : decode b_X_push 11 = .ok (.iadd, 1) := by decide +kernel
theorem d_X_push_12 : decode b_X_push 12 = .ok (.putfield 52, 3) := by decide +kernel
theorem d_X_push_15 : decode b_X_push 15 = .ok (.iload_n 2, 1) := by decide +kernel
theorem d_X_push_16 : decode b_X_push 16 = .ok (.ifCond .le 46, 3) := by decide +kernel
theorem d_X_push_19 : decode b_X_push 19 = .ok (.aload_n 0, 1) := by decide +kernel
theorem d_X_push_20 : decode b_X_push 20 = .ok (.iload_n 1, 1) := by decide +kernel
theorem d_X_push_21 : decode b_X_push 21 = .ok (.aload_n 0, 1) := by decide +kernel
theorem d_X_push_22 : decode b_X_push 22 = .ok (.getfield 32, 3) := by decide +kernel
theorem d_X_push_25 : decode b_X_push 25 = .ok (.iload_n 2, 1) := by decide +kernel
theorem d_X_push_26 : decode b_X_push 26 = .ok (.iconst 1, 1) := by decide +kernel
theorem d_X_push_27 : decode b_X_push 27 = .ok (.isub, 1) := by decide +kernel
theorem d_X_push_28 : decode b_X_push 28 = .ok (.iconst 2, 1) := by decide +kernel
theorem d_X_push_29 : decode b_X_push 29 = .ok (.idiv, 1) := by decide +kernel
theorem d_X_push_30 : decode b_X_push 30 = .ok (.iaload, 1) := by decide +kernel
theorem d_X_push_31 : decode b_X_push 31 = .ok (.invokevirtual 55, 3) := by decide +kernel
theorem d_X_push_34 : decode b_X_push 34 = .ok (.ifCond .eq 28, 3) := by decide +kernel
theorem d_X_push_37 : decode b_X_push 37 = .ok (.aload_n 0, 1) := by decide +kernel
theorem d_X_push_38 : decode b_X_push 38 = .ok (.getfield 32, 3) := by decide +kernel
theorem d_X_push_41 : decode b_X_push 41 = .ok (.iload_n 2, 1) := by decide +kernel
theorem d_X_push_42 : decode b_X_push 42 = .ok (.aload_n 0, 1) := by decide +kernel
theorem d_X_push_43 : decode b_X_push 43 = .ok (.getfield 32, 3) := by decide +kernel
theorem d_X_push_46 : decode b_X_push 46 = .ok (.iload_n 2, 1) := by decide +kernel
theorem d_X_push_47 : decode b_X_push 47 = .ok (.iconst 1, 1) := by decide +kernel
theorem d_X_push_48 : decode b_X_push 48 = .ok (.isub, 1) := by decide +kernel
theorem d_X_push_49 : decode b_X_push 49 = .ok (.iconst 2, 1) := by decide +kernel
theorem d_X_push_50 : decode b_X_push 50 = .ok (.idiv, 1) := by decide +kernel
theorem d_X_push_51 : decode b_X_push 51 = .ok (.iaload, 1) := by decide +kernel
theorem d_X_push_52 : decode b_X_push 52 = .ok (.iastore, 1) := by decide +kernel
theorem d_X_push_53 : decode b_X_push 53 = .ok (.iload_n 2, 1) := by decide +kernel
theorem d_X_push_54 : decode b_X_push 54 = .ok (.iconst 1, 1) := by decide +kernel
theorem d_X_push_55 : decode b_X_push 55 = .ok (.isub, 1) := by decide +kernel
theorem d_X_push_56 : decode b_X_push 56 = .ok (.iconst 2, 1) := by decide +kernel
theorem d_X_push_57 : decode b_X_push 57 = .ok (.idiv, 1) := by decide +kernel
theorem d_X_push_58 : decode b_X_push 58 = .ok (.istore_n 2, 1) := by decide +kernel
theorem d_X_push_59 : decode b_X_push 59 = .ok (.goto (-44), 3) := by decide +kernel
theorem d_X_push_62 : decode b_X_push 62 = .ok (.aload_n 0, 1) := by decide +kernel
theorem d_X_push_63 : decode b_X_push 63 = .ok (.getfield 32, 3) := by decide +kernel
theorem d_X_push_66 : decode b_X_push 66 = .ok (.iload_n 2, 1) := by decide +kernel
theorem d_X_push_67 : decode b_X_push 67 = .ok (.iload_n 1, 1) := by decide +kernel
theorem d_X_push_68 : decode b_X_push 68 = .ok (.iastore, 1) := by decide +kernel
theorem d_X_push_69 : decode b_X_push 69 = .ok (.return_, 1) := by decide +kernel
theorem d_X_stretch_0 : decode b_X_stretch 0 = .ok (.iload_n 1, 1) := by decide +kernel
theorem d_X_stretch_1 : decode b_X_stretch 1 = .ok (.istore_n 2, 1) := by decide +kernel
theorem d_X_stretch_2 : decode b_X_stretch 2 = .ok (.aload_n 0, 1) := by decide +kernel
theorem d_X_stretch_3 : decode b_X_stretch 3 = .ok (.getfield 49, 3) := by decide +kernel
theorem d_X_stretch_6 : decode b_X_stretch 6 = .ok (.ifCond .le 40, 3) := by decide +kernel
theorem d_X_stretch_9 : decode b_X_stretch 9 = .ok (.aload_n 0, 1) := by decide +kernel
theorem d_X_stretch_10 : decode b_X_stretch 10 = .ok (.getfield 13, 3) := by decide +kernel
theorem d_X_stretch_13 : decode b_X_stretch 13 = .ok (.aload_n 0, 1) := by decide +kernel
theorem d_X_stretch_14 : decode b_X_stretch 14 = .ok (.getfield 35, 3) := by decide +kernel
theorem d_X_stretch_17 : decode b_X_stretch 17 = .ok (.iconst 0, 1) := by decide +kernel
theorem d_X_stretch_18 : decode b_X_stretch 18 = .ok (.iaload, 1) := by decide +kernel
theorem d_X_stretch_19 : decode b_X_stretch 19 = .ok (.iaload, 1) := by decide +kernel
theorem d_X_stretch_20 : decode b_X_stretch 20 = .ok (.aload_n 0, 1) := by decide +kernel
theorem d_X_stretch_21 : decode b_X_stretch 21 = .ok (.getfield 41, 3) := by decide +kernel
theorem d_X_stretch_24 : decode b_X_stretch 24 = .ok (.isub, 1) := by decide +kernel
theorem d_X_stretch_25 : decode b_X_stretch 25 = .ok (.iload_n 2, 1) := by decide +kernel
theorem d_X_stretch_26 : decode b_X_stretch 26 = .ok (.if_icmp .ge 20, 3) := by decide +kernel
theorem d_X_stretch_29 : decode b_X_stretch 29 = .ok (.aload_n 0, 1) := by decide +kernel
theorem d_X_stretch_30 : decode b_X_stretch 30 = .ok (.getfield 13, 3) := by decide +kernel
theorem d_X_stretch_33 : decode b_X_stretch 33 = .ok (.aload_n 0, 1) := by decide +kernel
theorem d_X_stretch_34 : decode b_X_stretch 34 = .ok (.getfield 35, 3) := by decide +kernel
theorem d_X_stretch_37 : decode b_X_stretch 37 = .ok (.iconst 0, 1) := by decide +kernel
theorem d_X_stretch_38 : decode b_X_stretch 38 = .ok (.iaload, 1) := by decide +kernel
theorem d_X_stretch_39 : decode b_X_stretch 39 = .ok (.iaload, 1) := by decide +kernel
theorem d_X_stretch_40 : decode b_X_stretch 40 = .ok (.aload_n 0, 1) := by decide +kernel
theorem d_X_stretch_41 : decode b_X_stretch 41 = .ok (.getfield 41, 3) := by decide +kernel
theorem d_X_stretch_44 : decode b_X_stretch 44 = .ok (.isub, 1) := by decide +kernel
theorem d_X_stretch_45 : decode b_X_stretch 45 = .ok (.istore_n 2, 1) := by decide +kernel
theorem d_X_stretch_46 : decode b_X_stretch 46 = .ok (.aload_n 0, 1) := by decide +kernel
theorem d_X_stretch_47 : decode b_X_stretch 47 = .ok (.getfield 52, 3) := by decide +kernel
theorem d_X_stretch_50 : decode b_X_stretch 50 = .ok (.ifCond .le 54, 3) := by decide +kernel
theorem d_X_stretch_53 : decode b_X_stretch 53 = .ok (.sipush 840, 3) := by decide +kernel
theorem d_X_stretch_56 : decode b_X_stretch 56 = .ok (.aload_n 0, 1) := by decide +kernel
theorem d_X_stretch_57 : decode b_X_stretch 57 = .ok (.getfield 52, 3) := by decide +kernel
theorem d_X_stretch_60 : decode b_X_stretch 60 = .ok (.idiv, 1) := by decide +kernel
theorem d_X_stretch_61 : decode b_X_stretch 61 = .ok (.istore_n 3, 1) := by decide +kernel
theorem d_X_stretch_62 : decode b_X_stretch 62 = .ok (.aload_n 0, 1) := by decide +kernel
theorem d_X_stretch_63 : decode b_X_stretch 63 = .ok (.getfield 28, 3) := by decide +kernel
theorem d_X_stretch_66 : decode b_X_stretch 66 = .ok (.aload_n 0, 1) := by decide +kernel
theorem d_X_stretch_67 : decode b_X_stretch 67 = .ok (.getfield 32, 3) := by decide +kernel
theorem d_X_stretch_70 : decode b_X_stretch 70 = .ok (.iconst 0, 1) := by decide +kernel
theorem d_X_stretch_71 : decode b_X_stretch 71 = .ok (.iaload, 1) := by decide +kernel
theorem d_X_stretch_72 : decode b_X_stretch 72 = .ok (.laload, 1) := by decide +kernel
theorem d_X_stretch_73 : decode b_X_stretch 73 = .ok (.aload_n 0, 1) := by decide +kernel
theorem d_X_stretch_74 : decode b_X_stretch 74 = .ok (.getfield 66, 3) := by decide +kernel
theorem d_X_stretch_77 : decode b_X_stretch 77 = .ok (.lsub, 1) := by decide +kernel
theorem d_X_stretch_78 : decode b_X_stretch 78 = .ok (.lstore 4, 2) := by decide +kernel
theorem d_X_stretch_80 : decode b_X_stretch 80 = .ok (.lload 4, 2) := by decide +kernel
theorem d_X_stretch_82 : decode b_X_stretch 82 = .ok (.iload_n 3, 1) := by decide +kernel
theorem d_X_stretch_83 : decode b_X_stretch 83 = .ok (.i2l, 1) := by decide +kernel
theorem d_X_stretch_84 : decode b_X_stretch 84 = .ok (.ladd, 1) := by decide +kernel
theorem d_X_stretch_85 : decode b_X_stretch 85 = .ok (.lconst 1, 1) := by decide +kernel
theorem d_X_stretch_86 : decode b_X_stretch 86 = .ok (.lsub, 1) := by decide +kernel
theorem d_X_stretch_87 : decode b_X_stretch 87 = .ok (.iload_n 3, 1) := by decide +kernel
theorem d_X_stretch_88 : decode b_X_stretch 88 = .ok (.i2l, 1) := by decide +kernel
theorem d_X_stretch_89 : decode b_X_stretch 89 = .ok (.ldiv, 1) := by decide +kernel
theorem d_X_stretch_90 : decode b_X_stretch 90 = .ok (.lstore 6, 2) := by decide +kernel
theorem d_X_stretch_92 : decode b_X_stretch 92 = .ok (.lload 6, 2) := by decide +kernel
theorem d_X_stretch_94 : decode b_X_stretch 94 = .ok (.iload_n 2, 1) := by decide +kernel
theorem d_X_stretch_95 : decode b_X_stretch 95 = .ok (.i2l, 1) := by decide +kernel
theorem d_X_stretch_96 : decode b_X_stretch 96 = .ok (.lcmp, 1) := by decide +kernel
theorem d_X_stretch_97 : decode b_X_stretch 97 = .ok (.ifCond .ge 7, 3) := by decide +kernel
theorem d_X_stretch_100 : decode b_X_stretch 100 = .ok (.lload 6, 2) := by decide +kernel
theorem d_X_stretch_102 : decode b_X_stretch 102 = .ok (.l2i, 1) := by decide +kernel
theorem d_X_stretch_103 : decode b_X_stretch 103 = .ok (.istore_n 2, 1) := by decide +kernel
theorem d_X_stretch_104 : decode b_X_stretch 104 = .ok (.iload_n 2, 1) := by decide +kernel
theorem d_X_stretch_105 : decode b_X_stretch 105 = .ok (.iconst 1, 1) := by decide +kernel
theorem d_X_stretch_106 : decode b_X_stretch 106 = .ok (.if_icmp .ge 7, 3) := by decide +kernel
theorem d_X_stretch_109 : decode b_X_stretch 109 = .ok (.iconst 1, 1) := by decide +kernel
theorem d_X_stretch_110 : decode b_X_stretch 110 = .ok (.goto 4, 3) := by decide +kernel
theorem d_X_stretch_113 : decode b_X_stretch 113 = .ok (.iload_n 2, 1) := by decide +kernel
theorem d_X_stretch_114 : decode b_X_stretch 114 = .ok (.ireturn, 1) := by decide +kernel
theorem d_X_complete_0 : decode b_X_complete 0 = .ok (.iconst 0, 1) := by decide +kernel
theorem d_X_complete_1 : decode b_X_complete 1 = .ok (.istore_n 1, 1) := by decide +kernel
theorem d_X_complete_2 : decode b_X_complete 2 = .ok (.iload_n 1, 1) := by decide +kernel
theorem d_X_complete_3 : decode b_X_complete 3 = .ok (.bipush 8, 2) := by decide +kernel
theorem d_X_complete_5 : decode b_X_complete 5 = .ok (.if_icmp .ge 78, 3) := by decide +kernel
theorem d_X_complete_8 : decode b_X_complete 8 = .ok (.aload_n 0, 1) := by decide +kernel
theorem d_X_complete_9 : decode b_X_complete 9 = .ok (.getfield 52, 3) := by decide +kernel
theorem d_X_complete_12 : decode b_X_complete 12 = .ok (.ifCond .le 71, 3) := by decide +kernel
theorem d_X_complete_15 : decode b_X_complete 15 = .ok (.aload_n 0, 1) := by decide +kernel
theorem d_X_complete_16 : decode b_X_complete 16 = .ok (.getfield 28, 3) := by decide +kernel
theorem d_X_complete_19 : decode b_X_complete 19 = .ok (.aload_n 0, 1) := by decide +kernel
theorem d_X_complete_20 : decode b_X_complete 20 = .ok (.getfield 32, 3) := by decide +kernel
theorem d_X_complete_23 : decode b_X_complete 23 = .ok (.iconst 0, 1) := by decide +kernel
theorem d_X_complete_24 : decode b_X_complete 24 = .ok (.iaload, 1) := by decide +kernel
theorem d_X_complete_25 : decode b_X_complete 25 = .ok (.laload, 1) := by decide +kernel
theorem d_X_complete_26 : decode b_X_complete 26 = .ok (.aload_n 0, 1) := by decide +kernel
theorem d_X_complete_27 : decode b_X_complete 27 = .ok (.getfield 66, 3) := by decide +kernel
theorem d_X_complete_30 : decode b_X_complete 30 = .ok (.lcmp, 1) := by decide +kernel
theorem d_X_complete_31 : decode b_X_complete 31 = .ok (.ifCond .gt 52, 3) := by decide +kernel
theorem d_X_complete_34 : decode b_X_complete 34 = .ok (.aload_n 0, 1) := by decide +kernel
theorem d_X_complete_35 : decode b_X_complete 35 = .ok (.getfield 32, 3) := by decide +kernel
theorem d_X_complete_38 : decode b_X_complete 38 = .ok (.iconst 0, 1) := by decide +kernel
theorem d_X_complete_39 : decode b_X_complete 39 = .ok (.iaload, 1) := by decide +kernel
theorem d_X_complete_40 : decode b_X_complete 40 = .ok (.istore_n 2, 1) := by decide +kernel
theorem d_X_complete_41 : decode b_X_complete 41 = .ok (.aload_n 0, 1) := by decide +kernel
theorem d_X_complete_42 : decode b_X_complete 42 = .ok (.getfield 16, 3) := by decide +kernel
theorem d_X_complete_45 : decode b_X_complete 45 = .ok (.iload_n 2, 1) := by decide +kernel
theorem d_X_complete_46 : decode b_X_complete 46 = .ok (.iconst 3, 1) := by decide +kernel
theorem d_X_complete_47 : decode b_X_complete 47 = .ok (.iastore, 1) := by decide +kernel
theorem d_X_complete_48 : decode b_X_complete 48 = .ok (.aload_n 0, 1) := by decide +kernel
theorem d_X_complete_49 : decode b_X_complete 49 = .ok (.getfield 22, 3) := by decide +kernel
theorem d_X_complete_52 : decode b_X_complete 52 = .ok (.iload_n 2, 1) := by decide +kernel
theorem d_X_complete_53 : decode b_X_complete 53 = .ok (.aload_n 0, 1) := by decide +kernel
theorem d_X_complete_54 : decode b_X_complete 54 = .ok (.getfield 41, 3) := by decide +kernel
theorem d_X_complete_57 : decode b_X_complete 57 = .ok (.iconst 1, 1) := by decide +kernel
theorem d_X_complete_58 : decode b_X_complete 58 = .ok (.isub, 1) := by decide +kernel
theorem d_X_complete_59 : decode b_X_complete 59 = .ok (.iastore, 1) := by decide +kernel
theorem d_X_complete_60 : decode b_X_complete 60 = .ok (.aload_n 0, 1) := by decide +kernel
theorem d_X_complete_61 : decode b_X_complete 61 = .ok (.getfield 25, 3) := by decide +kernel
theorem d_X_complete_64 : decode b_X_complete 64 = .ok (.iload_n 2, 1) := by decide +kernel
theorem d_X_complete_65 : decode b_X_complete 65 = .ok (.aload_n 0, 1) := by decide +kernel
theorem d_X_complete_66 : decode b_X_complete 66 = .ok (.getfield 7, 3) := by decide +kernel
theorem d_X_complete_69 : decode b_X_complete 69 = .ok (.iload_n 2, 1) := by decide +kernel
theorem d_X_complete_70 : decode b_X_complete 70 = .ok (.iaload, 1) := by decide +kernel
theorem d_X_complete_71 : decode b_X_complete 71 = .ok (.iastore, 1) := by decide +kernel
theorem d_X_complete_72 : decode b_X_complete 72 = .ok (.aload_n 0, 1) := by decide +kernel
theorem d_X_complete_73 : decode b_X_complete 73 = .ok (.iconst 0, 1) := by decide +kernel
theorem d_X_complete_74 : decode b_X_complete 74 = .ok (.invokevirtual 74, 3) := by decide +kernel
theorem d_X_complete_77 : decode b_X_complete 77 = .ok (.iinc 1 1, 3) := by decide +kernel
theorem d_X_complete_80 : decode b_X_complete 80 = .ok (.goto (-78), 3) := by decide +kernel
theorem d_X_complete_83 : decode b_X_complete 83 = .ok (.iload_n 1, 1) := by decide +kernel
theorem d_X_complete_84 : decode b_X_complete 84 = .ok (.ireturn, 1) := by decide +kernel
theorem d_X_clear_0 : decode b_X_clear 0 = .ok (.aload_n 0, 1) := by decide +kernel
theorem d_X_clear_1 : decode b_X_clear 1 = .ok (.iconst 0, 1) := by decide +kernel
theorem d_X_clear_2 : decode b_X_clear 2 = .ok (.putfield 45, 3) := by decide +kernel
theorem d_X_clear_5 : decode b_X_clear 5 = .ok (.aload_n 0, 1) := by decide +kernel
theorem d_X_clear_6 : decode b_X_clear 6 = .ok (.iconst 0, 1) := by decide +kernel
theorem d_X_clear_7 : decode b_X_clear 7 = .ok (.putfield 52, 3) := by decide +kernel
theorem d_X_clear_10 : decode b_X_clear 10 = .ok (.aload_n 0, 1) := by decide +kernel
theorem d_X_clear_11 : decode b_X_clear 11 = .ok (.iconst 0, 1) := by decide +kernel
theorem d_X_clear_12 : decode b_X_clear 12 = .ok (.putfield 49, 3) := by decide +kernel
theorem d_X_clear_15 : decode b_X_clear 15 = .ok (.aload_n 0, 1) := by decide +kernel
theorem d_X_clear_16 : decode b_X_clear 16 = .ok (.iconst 0, 1) := by decide +kernel
theorem d_X_clear_17 : decode b_X_clear 17 = .ok (.putfield 63, 3) := by decide +kernel
theorem d_X_clear_20 : decode b_X_clear 20 = .ok (.return_, 1) := by decide +kernel
theorem d_X_now_0 : decode b_X_now 0 = .ok (.aload_n 0, 1) := by decide +kernel
theorem d_X_now_1 : decode b_X_now 1 = .ok (.getfield 41, 3) := by decide +kernel
theorem d_X_now_4 : decode b_X_now 4 = .ok (.ireturn, 1) := by decide +kernel
theorem d_X_state_0 : decode b_X_state 0 = .ok (.aload_n 0, 1) := by decide +kernel
theorem d_X_state_1 : decode b_X_state 1 = .ok (.iload_n 1, 1) := by decide +kernel
theorem d_X_state_2 : decode b_X_state 2 = .ok (.invokevirtual 77, 3) := by decide +kernel
theorem d_X_state_5 : decode b_X_state 5 = .ok (.ifCond .eq 8, 3) := by decide +kernel
theorem d_X_state_8 : decode b_X_state 8 = .ok (.bipush (-4), 2) := by decide +kernel
theorem d_X_state_10 : decode b_X_state 10 = .ok (.goto 9, 3) := by decide +kernel
theorem d_X_state_13 : decode b_X_state 13 = .ok (.aload_n 0, 1) := by decide +kernel
theorem d_X_state_14 : decode b_X_state 14 = .ok (.getfield 16, 3) := by decide +kernel
theorem d_X_state_17 : decode b_X_state 17 = .ok (.iload_n 1, 1) := by decide +kernel
theorem d_X_state_18 : decode b_X_state 18 = .ok (.iaload, 1) := by decide +kernel
theorem d_X_state_19 : decode b_X_state 19 = .ok (.ireturn, 1) := by decide +kernel
theorem d_X_admitted_0 : decode b_X_admitted 0 = .ok (.aload_n 0, 1) := by decide +kernel
theorem d_X_admitted_1 : decode b_X_admitted 1 = .ok (.iload_n 1, 1) := by decide +kernel
theorem d_X_admitted_2 : decode b_X_admitted 2 = .ok (.invokevirtual 77, 3) := by decide +kernel
theorem d_X_admitted_5 : decode b_X_admitted 5 = .ok (.ifCond .eq 8, 3) := by decide +kernel
theorem d_X_admitted_8 : decode b_X_admitted 8 = .ok (.bipush (-4), 2) := by decide +kernel
theorem d_X_admitted_10 : decode b_X_admitted 10 = .ok (.goto 9, 3) := by decide +kernel
theorem d_X_admitted_13 : decode b_X_admitted 13 = .ok (.aload_n 0, 1) := by decide +kernel
theorem d_X_admitted_14 : decode b_X_admitted 14 = .ok (.getfield 19, 3) := by decide +kernel
theorem d_X_admitted_17 : decode b_X_admitted 17 = .ok (.iload_n 1, 1) := by decide +kernel
theorem d_X_admitted_18 : decode b_X_admitted 18 = .ok (.iaload, 1) := by decide +kernel
theorem d_X_admitted_19 : decode b_X_admitted 19 = .ok (.ireturn, 1) := by decide +kernel
theorem d_X_finished_0 : decode b_X_finished 0 = .ok (.aload_n 0, 1) := by decide +kernel
theorem d_X_finished_1 : decode b_X_finished 1 = .ok (.iload_n 1, 1) := by decide +kernel
theorem d_X_finished_2 : decode b_X_finished 2 = .ok (.invokevirtual 77, 3) := by decide +kernel
theorem d_X_finished_5 : decode b_X_finished 5 = .ok (.ifCond .eq 8, 3) := by decide +kernel
theorem d_X_finished_8 : decode b_X_finished 8 = .ok (.bipush (-4), 2) := by decide +kernel
theorem d_X_finished_10 : decode b_X_finished 10 = .ok (.goto 9, 3) := by decide +kernel
theorem d_X_finished_13 : decode b_X_finished 13 = .ok (.aload_n 0, 1) := by decide +kernel
theorem d_X_finished_14 : decode b_X_finished 14 = .ok (.getfield 22, 3) := by decide +kernel
theorem d_X_finished_17 : decode b_X_finished 17 = .ok (.iload_n 1, 1) := by decide +kernel
theorem d_X_finished_18 : decode b_X_finished 18 = .ok (.iaload, 1) := by decide +kernel
theorem d_X_finished_19 : decode b_X_finished 19 = .ok (.ireturn, 1) := by decide +kernel
theorem d_X_served_0 : decode b_X_served 0 = .ok (.aload_n 0, 1) := by decide +kernel
theorem d_X_served_1 : decode b_X_served 1 = .ok (.getfield 52, 3) := by decide +kernel
theorem d_X_served_4 : decode b_X_served 4 = .ok (.ireturn, 1) := by decide +kernel
theorem d_X_waiting_0 : decode b_X_waiting 0 = .ok (.aload_n 0, 1) := by decide +kernel
theorem d_X_waiting_1 : decode b_X_waiting 1 = .ok (.getfield 63, 3) := by decide +kernel
theorem d_X_waiting_4 : decode b_X_waiting 4 = .ok (.ireturn, 1) := by decide +kernel
end
section
theorem d_M_init_0 : decode b_M_init 0 = .ok (.aload_n 0, 1) := by decide +kernel
theorem d_M_init_1 : decode b_M_init 1 = .ok (.invokespecial 1, 3) := by decide +kernel
theorem d_M_init_4 : decode b_M_init 4 = .ok (.aload_n 0, 1) := by decide +kernel
theorem d_M_init_5 : decode b_M_init 5 = .ok (.bipush 24, 2) := by decide +kernel
theorem d_M_init_7 : decode b_M_init 7 = .ok (.newarray .int, 2) := by decide +kernel
theorem d_M_init_9 : decode b_M_init 9 = .ok (.putfield 7, 3) := by decide +kernel
theorem d_M_init_12 : decode b_M_init 12 = .ok (.aload_n 0, 1) := by decide +kernel
theorem d_M_init_13 : decode b_M_init 13 = .ok (.bipush 24, 2) := by decide +kernel
theorem d_M_init_15 : decode b_M_init 15 = .ok (.newarray .int, 2) := by decide +kernel
theorem d_M_init_17 : decode b_M_init 17 = .ok (.putfield 13, 3) := by decide +kernel
theorem d_M_init_20 : decode b_M_init 20 = .ok (.aload_n 0, 1) := by decide +kernel
theorem d_M_init_21 : decode b_M_init 21 = .ok (.bipush 24, 2) := by decide +kernel
theorem d_M_init_23 : decode b_M_init 23 = .ok (.newarray .int, 2) := by decide +kernel
theorem d_M_init_25 : decode b_M_init 25 = .ok (.putfield 16, 3) := by decide +kernel
theorem d_M_init_28 : decode b_M_init 28 = .ok (.aload_n 0, 1) := by decide +kernel
theorem d_M_init_29 : decode b_M_init 29 = .ok (.bipush 24, 2) := by decide +kernel
theorem d_M_init_31 : decode b_M_init 31 = .ok (.newarray .int, 2) := by decide +kernel
theorem d_M_init_33 : decode b_M_init 33 = .ok (.putfield 19, 3) := by decide +kernel
theorem d_M_init_36 : decode b_M_init 36 = .ok (.aload_n 0, 1) := by decide +kernel
theorem d_M_init_37 : decode b_M_init 37 = .ok (.bipush 24, 2) := by decide +kernel
theorem d_M_init_39 : decode b_M_init 39 = .ok (.newarray .int, 2) := by decide +kernel
theorem d_M_init_41 : decode b_M_init 41 = .ok (.putfield 22, 3) := by decide +kernel
theorem d_M_init_44 : decode b_M_init 44 = .ok (.aload_n 0, 1) := by decide +kernel
theorem d_M_init_45 : decode b_M_init 45 = .ok (.bipush 24, 2) := by decide +kernel
theorem d_M_init_47 : decode b_M_init 47 = .ok (.newarray .boolean, 2) := by decide +kernel
theorem d_M_init_49 : decode b_M_init 49 = .ok (.putfield 25, 3) := by decide +kernel
theorem d_M_init_52 : decode b_M_init 52 = .ok (.return_, 1) := by decide +kernel
theorem d_M_submit_0 : decode b_M_submit 0 = .ok (.iload_n 1, 1) := by decide +kernel
theorem d_M_submit_1 : decode b_M_submit 1 = .ok (.iconst 1, 1) := by decide +kernel
theorem d_M_submit_2 : decode b_M_submit 2 = .ok (.if_icmp .lt 9, 3) := by decide +kernel
theorem d_M_submit_5 : decode b_M_submit 5 = .ok (.iload_n 1, 1) := by decide +kernel
theorem d_M_submit_6 : decode b_M_submit 6 = .ok (.ldc 29, 2) := by decide +kernel
theorem d_M_submit_8 : decode b_M_submit 8 = .ok (.if_icmp .le 5, 3) := by decide +kernel
theorem d_M_submit_11 : decode b_M_submit 11 = .ok (.iconst (-1), 1) := by decide +kernel
theorem d_M_submit_12 : decode b_M_submit 12 = .ok (.ireturn, 1) := by decide +kernel
theorem d_M_submit_13 : decode b_M_submit 13 = .ok (.iload_n 2, 1) := by decide +kernel
theorem d_M_submit_14 : decode b_M_submit 14 = .ok (.ifCond .lt 10, 3) := by decide +kernel
theorem d_M_submit_17 : decode b_M_submit 17 = .ok (.iload_n 2, 1) := by decide +kernel
theorem d_M_submit_18 : decode b_M_submit 18 = .ok (.sipush 1000, 3) := by decide +kernel
theorem d_M_submit_21 : decode b_M_submit 21 = .ok (.if_icmp .le 6, 3) := by decide +kernel
theorem d_M_submit_24 : decode b_M_submit 24 = .ok (.bipush (-2), 2) := by decide +kernel
theorem d_M_submit_26 : decode b_M_submit 26 = .ok (.ireturn, 1) := by decide +kernel
theorem d_M_submit_27 : decode b_M_submit 27 = .ok (.aload_n 0, 1) := by decide +kernel
theorem d_M_submit_28 : decode b_M_submit 28 = .ok (.getfield 30, 3) := by decide +kernel
theorem d_M_submit_31 : decode b_M_submit 31 = .ok (.bipush 24, 2) := by decide +kernel
theorem d_M_submit_33 : decode b_M_submit 33 = .ok (.if_icmp .ne 6, 3) := by decide +kernel
theorem d_M_submit_36 : decode b_M_submit 36 = .ok (.bipush (-3), 2) := by decide +kernel
theorem d_M_submit_38 : decode b_M_submit 38 = .ok (.ireturn, 1) := by decide +kernel
theorem d_M_submit_39 : decode b_M_submit 39 = .ok (.aload_n 0, 1) := by decide +kernel
theorem d_M_submit_40 : decode b_M_submit 40 = .ok (.getfield 7, 3) := by decide +kernel
theorem d_M_submit_43 : decode b_M_submit 43 = .ok (.aload_n 0, 1) := by decide +kernel
theorem d_M_submit_44 : decode b_M_submit 44 = .ok (.getfield 30, 3) := by decide +kernel
theorem d_M_submit_47 : decode b_M_submit 47 = .ok (.iload_n 1, 1) := by decide +kernel
theorem d_M_submit_48 : decode b_M_submit 48 = .ok (.iastore, 1) := by decide +kernel
theorem d_M_submit_49 : decode b_M_submit 49 = .ok (.aload_n 0, 1) := by decide +kernel
theorem d_M_submit_50 : decode b_M_submit 50 = .ok (.getfield 13, 3) := by decide +kernel
theorem d_M_submit_53 : decode b_M_submit 53 = .ok (.aload_n 0, 1) := by decide +kernel
theorem d_M_submit_54 : decode b_M_submit 54 = .ok (.getfield 30, 3) := by decide +kernel
theorem d_M_submit_57 : decode b_M_submit 57 = .ok (.aload_n 0, 1) := by decide +kernel
theorem d_M_submit_58 : decode b_M_submit 58 = .ok (.getfield 34, 3) := by decide +kernel
theorem d_M_submit_61 : decode b_M_submit 61 = .ok (.iload_n 2, 1) := by decide +kernel
theorem d_M_submit_62 : decode b_M_submit 62 = .ok (.iadd, 1) := by decide +kernel
theorem d_M_submit_63 : decode b_M_submit 63 = .ok (.iastore, 1) := by decide +kernel
theorem d_M_submit_64 : decode b_M_submit 64 = .ok (.aload_n 0, 1) := by decide +kernel
theorem d_M_submit_65 : decode b_M_submit 65 = .ok (.getfield 16, 3) := by decide +kernel
theorem d_M_submit_68 : decode b_M_submit 68 = .ok (.aload_n 0, 1) := by decide +kernel
theorem d_M_submit_69 : decode b_M_submit 69 = .ok (.getfield 30, 3) := by decide +kernel
theorem d_M_submit_72 : decode b_M_submit 72 = .ok (.iconst 0, 1) := by decide +kernel
theorem d_M_submit_73 : decode b_M_submit 73 = .ok (.iastore, 1) := by decide +kernel
theorem d_M_submit_74 : decode b_M_submit 74 = .ok (.aload_n 0, 1) := by decide +kernel
theorem d_M_submit_75 : decode b_M_submit 75 = .ok (.getfield 19, 3) := by decide +kernel
theorem d_M_submit_78 : decode b_M_submit 78 = .ok (.aload_n 0, 1) := by decide +kernel
theorem d_M_submit_79 : decode b_M_submit 79 = .ok (.getfield 30, 3) := by decide +kernel
theorem d_M_submit_82 : decode b_M_submit 82 = .ok (.bipush (-5), 2) := by decide +kernel
theorem d_M_submit_84 : decode b_M_submit 84 = .ok (.iastore, 1) := by decide +kernel
theorem d_M_submit_85 : decode b_M_submit 85 = .ok (.aload_n 0, 1) := by decide +kernel
theorem d_M_submit_86 : decode b_M_submit 86 = .ok (.getfield 22, 3) := by decide +kernel
theorem d_M_submit_89 : decode b_M_submit 89 = .ok (.aload_n 0, 1) := by decide +kernel
theorem d_M_submit_90 : decode b_M_submit 90 = .ok (.getfield 30, 3) := by decide +kernel
theorem d_M_submit_93 : decode b_M_submit 93 = .ok (.bipush (-5), 2) := by decide +kernel
theorem d_M_submit_95 : decode b_M_submit 95 = .ok (.iastore, 1) := by decide +kernel
theorem d_M_submit_96 : decode b_M_submit 96 = .ok (.aload_n 0, 1) := by decide +kernel
theorem d_M_submit_97 : decode b_M_submit 97 = .ok (.getfield 25, 3) := by decide +kernel
theorem d_M_submit_100 : decode b_M_submit 100 = .ok (.aload_n 0, 1) := by decide +kernel
theorem d_M_submit_101 : decode b_M_submit 101 = .ok (.getfield 30, 3) := by decide +kernel
theorem d_M_submit_104 : decode b_M_submit 104 = .ok (.iconst 0, 1) := by decide +kernel
theorem d_M_submit_105 : decode b_M_submit 105 = .ok (.bastore, 1) := by decide +kernel
theorem d_M_submit_106 : decode b_M_submit 106 = .ok (.aload_n 0, 1) := by decide +kernel
theorem d_M_submit_107 : decode b_M_submit 107 = .ok (.dup, 1) := by decide +kernel
theorem d_M_submit_108 : decode b_M_submit 108 = .ok (.getfield 30, 3) := by decide +kernel
theorem d_M_submit_111 : decode b_M_submit 111 = .ok (.iconst 1, 1) := by decide +kernel
theorem d_M_submit_112 : decode b_M_submit 112 = .ok (.iadd, 1) := by decide +kernel
theorem d_M_submit_113 : decode b_M_submit 113 = .ok (.putfield 30, 3) := by decide +kernel
theorem d_M_submit_116 : decode b_M_submit 116 = .ok (.aload_n 0, 1) := by decide +kernel
theorem d_M_submit_117 : decode b_M_submit 117 = .ok (.getfield 30, 3) := by decide +kernel
theorem d_M_submit_120 : decode b_M_submit 120 = .ok (.iconst 1, 1) := by decide +kernel
theorem d_M_submit_121 : decode b_M_submit 121 = .ok (.isub, 1) := by decide +kernel
theorem d_M_submit_122 : decode b_M_submit 122 = .ok (.ireturn, 1) := by decide +kernel
theorem d_M_cancel_0 : decode b_M_cancel 0 = .ok (.aload_n 0, 1) := by decide +kernel
theorem d_M_cancel_1 : decode b_M_cancel 1 = .ok (.iload_n 1, 1) := by decide +kernel
theorem d_M_cancel_2 : decode b_M_cancel 2 = .ok (.invokevirtual 37, 3) := by decide +kernel
theorem d_M_cancel_5 : decode b_M_cancel 5 = .ok (.ifCond .ne 6, 3) := by decide +kernel
theorem d_M_cancel_8 : decode b_M_cancel 8 = .ok (.bipush (-4), 2) := by decide +kernel
theorem d_M_cancel_10 : decode b_M_cancel 10 = .ok (.ireturn, 1) := by decide +kernel
theorem d_M_cancel_11 : decode b_M_cancel 11 = .ok (.aload_n 0, 1) := by decide +kernel
theorem d_M_cancel_12 : decode b_M_cancel 12 = .ok (.getfield 22, 3) := by decide +kernel
theorem d_M_cancel_15 : decode b_M_cancel 15 = .ok (.iload_n 1, 1) := by decide +kernel
theorem d_M_cancel_16 : decode b_M_cancel 16 = .ok (.iaload, 1) := by decide +kernel
theorem d_M_cancel_17 : decode b_M_cancel 17 = .ok (.ifCond .ge 12, 3) := by decide +kernel
theorem d_M_cancel_20 : decode b_M_cancel 20 = .ok (.aload_n 0, 1) := by decide +kernel
theorem d_M_cancel_21 : decode b_M_cancel 21 = .ok (.getfield 25, 3) := by decide +kernel
theorem d_M_cancel_24 : decode b_M_cancel 24 = .ok (.iload_n 1, 1) := by decide +kernel
theorem d_M_cancel_25 : decode b_M_cancel 25 = .ok (.baload, 1) := by decide +kernel
theorem d_M_cancel_26 : decode b_M_cancel 26 = .ok (.ifCond .eq 6, 3) := by decide +kernel
theorem d_M_cancel_29 : decode b_M_cancel 29 = .ok (.bipush (-5), 2) := by decide +kernel
theorem d_M_cancel_31 : decode b_M_cancel 31 = .ok (.ireturn, 1) := by decide +kernel
theorem d_M_cancel_32 : decode b_M_cancel 32 = .ok (.aload_n 0, 1) := by decide +kernel
theorem d_M_cancel_33 : decode b_M_cancel 33 = .ok (.getfield 25, 3) := by decide +kernel
theorem d_M_cancel_36 : decode b_M_cancel 36 = .ok (.iload_n 1, 1) := by decide +kernel
theorem d_M_cancel_37 : decode b_M_cancel 37 = .ok (.iconst 1, 1) := by decide +kernel
theorem d_M_cancel_38 : decode b_M_cancel 38 = .ok (.bastore, 1) := by decide +kernel
theorem d_M_cancel_39 : decode b_M_cancel 39 = .ok (.aload_n 0, 1) := by decide +kernel
theorem d_M_cancel_40 : decode b_M_cancel 40 = .ok (.getfield 16, 3) := by decide +kernel
theorem d_M_cancel_43 : decode b_M_cancel 43 = .ok (.iload_n 1, 1) := by decide +kernel
theorem d_M_cancel_44 : decode b_M_cancel 44 = .ok (.iaload, 1) := by decide +kernel
theorem d_M_cancel_45 : decode b_M_cancel 45 = .ok (.ireturn, 1) := by decide +kernel
theorem d_M_known_0 : decode b_M_known 0 = .ok (.iload_n 1, 1) := by decide +kernel
theorem d_M_known_1 : decode b_M_known 1 = .ok (.ifCond .lt 15, 3) := by decide +kernel
theorem d_M_known_4 : decode b_M_known 4 = .ok (.iload_n 1, 1) := by decide +kernel
theorem d_M_known_5 : decode b_M_known 5 = .ok (.aload_n 0, 1) := by decide +kernel
theorem d_M_known_6 : decode b_M_known 6 = .ok (.getfield 30, 3) := by decide +kernel
theorem d_M_known_9 : decode b_M_known 9 = .ok (.if_icmp .ge 7, 3) := by decide +kernel
theorem d_M_known_12 : decode b_M_known 12 = .ok (.iconst 1, 1) := by decide +kernel
theorem d_M_known_13 : decode b_M_known 13 = .ok (.goto 4, 3) := by decide +kernel
theorem d_M_known_16 : decode b_M_known 16 = .ok (.iconst 0, 1) := by decide +kernel
theorem d_M_known_17 : decode b_M_known 17 = .ok (.ireturn, 1) := by decide +kernel
theorem d_M_run_0 : decode b_M_run 0 = .ok (.iload_n 1, 1) := by decide +kernel
theorem d_M_run_1 : decode b_M_run 1 = .ok (.ifCond .ge 7, 3) := by decide +kernel
theorem d_M_run_4 : decode b_M_run 4 = .ok (.iconst 0, 1) := by decide +kernel
theorem d_M_run_5 : decode b_M_run 5 = .ok (.goto 17, 3) := by decide +kernel
theorem d_M_run_8 : decode b_M_run 8 = .ok (.iload_n 1, 1) := by decide +kernel
theorem d_M_run_9 : decode b_M_run 9 = .ok (.sipush 5000, 3) := by decide +kernel
theorem d_M_run_12 : decode b_M_run 12 = .ok (.if_icmp .le 9, 3) := by decide +kernel
theorem d_M_run_15 : decode b_M_run 15 = .ok (.sipush 5000, 3) := by decide +kernel
theorem d_M_run_18 : decode b_M_run 18 = .ok (.goto 4, 3) := by decide +kernel
theorem d_M_run_21 : decode b_M_run 21 = .ok (.iload_n 1, 1) := by decide +kernel
theorem d_M_run_22 : decode b_M_run 22 = .ok (.istore_n 2, 1) := by decide +kernel
theorem d_M_run_23 : decode b_M_run 23 = .ok (.iconst 0, 1) := by decide +kernel
theorem d_M_run_24 : decode b_M_run 24 = .ok (.istore_n 3, 1) := by decide +kernel
theorem d_M_run_25 : decode b_M_run 25 = .ok (.iconst 0, 1) := by decide +kernel
theorem d_M_run_26 : decode b_M_run 26 = .ok (.istore 4, 2) := by decide +kernel
theorem d_M_run_28 : decode b_M_run 28 = .ok (.iload 4, 2) := by decide +kernel
theorem d_M_run_30 : decode b_M_run 30 = .ok (.iload_n 2, 1) := by decide +kernel
theorem d_M_run_31 : decode b_M_run 31 = .ok (.if_icmp .ge 33, 3) := by decide +kernel
theorem d_M_run_34 : decode b_M_run 34 = .ok (.aload_n 0, 1) := by decide +kernel
theorem d_M_run_35 : decode b_M_run 35 = .ok (.invokevirtual 41, 3) := by decide +kernel
theorem d_M_run_38 : decode b_M_run 38 = .ok (.ifCond .eq 10, 3) := by decide +kernel
theorem d_M_run_41 : decode b_M_run 41 = .ok (.iload_n 3, 1) := by decide +kernel
theorem d_M_run_42 : decode b_M_run 42 = .ok (.aload_n 0, 1) := by decide +kernel
theorem d_M_run_43 : decode b_M_run 43 = .ok (.invokevirtual 45, 3) := by decide +kernel
theorem d_M_run_46 : decode b_M_run 46 = .ok (.iadd, 1) := by decide +kernel
theorem d_M_run_47 : decode b_M_run 47 = .ok (.istore_n 3, 1) := by decide +kernel
theorem d_M_run_48 : decode b_M_run 48 = .ok (.aload_n 0, 1) := by decide +kernel
theorem d_M_run_49 : decode b_M_run 49 = .ok (.dup, 1) := by decide +kernel
theorem d_M_run_50 : decode b_M_run 50 = .ok (.getfield 34, 3) := by decide +kernel
theorem d_M_run_53 : decode b_M_run 53 = .ok (.iconst 1, 1) := by decide +kernel
theorem d_M_run_54 : decode b_M_run 54 = .ok (.iadd, 1) := by decide +kernel
theorem d_M_run_55 : decode b_M_run 55 = .ok (.putfield 34, 3) := by decide +kernel
theorem d_M_run_58 : decode b_M_run 58 = .ok (.iinc 4 1, 3) := by decide +kernel
theorem d_M_run_61 : decode b_M_run 61 = .ok (.goto (-33), 3) := by decide +kernel
theorem d_M_run_64 : decode b_M_run 64 = .ok (.iload_n 3, 1) := by decide +kernel
theorem d_M_run_65 : decode b_M_run 65 = .ok (.ireturn, 1) := by decide +kernel
theorem d_M_anyOpen_0 : decode b_M_anyOpen 0 = .ok (.iconst 0, 1) := by decide +kernel
theorem d_M_anyOpen_1 : decode b_M_anyOpen 1 = .ok (.istore_n 1, 1) := by decide +kernel
theorem d_M_anyOpen_2 : decode b_M_anyOpen 2 = .ok (.iload_n 1, 1) := by decide +kernel
theorem d_M_anyOpen_3 : decode b_M_anyOpen 3 = .ok (.aload_n 0, 1) := by decide +kernel
theorem d_M_anyOpen_4 : decode b_M_anyOpen 4 = .ok (.getfield 30, 3) := by decide +kernel
theorem d_M_anyOpen_7 : decode b_M_anyOpen 7 = .ok (.if_icmp .ge 29, 3) := by decide +kernel
theorem d_M_anyOpen_10 : decode b_M_anyOpen 10 = .ok (.aload_n 0, 1) := by decide +kernel
theorem d_M_anyOpen_11 : decode b_M_anyOpen 11 = .ok (.getfield 25, 3) := by decide +kernel
theorem d_M_anyOpen_14 : decode b_M_anyOpen 14 = .ok (.iload_n 1, 1) := by decide +kernel
theorem d_M_anyOpen_15 : decode b_M_anyOpen 15 = .ok (.baload, 1) := by decide +kernel
theorem d_M_anyOpen_16 : decode b_M_anyOpen 16 = .ok (.ifCond .ne 14, 3) := by decide +kernel
theorem d_M_anyOpen_19 : decode b_M_anyOpen 19 = .ok (.aload_n 0, 1) := by decide +kernel
theorem d_M_anyOpen_20 : decode b_M_anyOpen 20 = .ok (.getfield 22, 3) := by decide +kernel
theorem d_M_anyOpen_23 : decode b_M_anyOpen 23 = .ok (.iload_n 1, 1) := by decide +kernel
theorem d_M_anyOpen_24 : decode b_M_anyOpen 24 = .ok (.iaload, 1) := by decide +kernel
theorem d_M_anyOpen_25 : decode b_M_anyOpen 25 = .ok (.ifCond .ge 5, 3) := by decide +kernel
theorem d_M_anyOpen_28 : decode b_M_anyOpen 28 = .ok (.iconst 1, 1) := by decide +kernel
theorem d_M_anyOpen_29 : decode b_M_anyOpen 29 = .ok (.ireturn, 1) := by decide +kernel
theorem d_M_anyOpen_30 : decode b_M_anyOpen 30 = .ok (.iinc 1 1, 3) := by decide +kernel
theorem d_M_anyOpen_33 : decode b_M_anyOpen 33 = .ok (.goto (-31), 3) := by decide +kernel
theorem d_M_anyOpen_36 : decode b_M_anyOpen 36 = .ok (.iconst 0, 1) := by decide +kernel
theorem d_M_anyOpen_37 : decode b_M_anyOpen 37 = .ok (.ireturn, 1) := by decide +kernel
theorem d_M_oneTick_0 : decode b_M_oneTick 0 = .ok (.aload_n 0, 1) := by decide +kernel
theorem d_M_oneTick_1 : decode b_M_oneTick 1 = .ok (.invokevirtual 56, 3) := by decide +kernel
theorem d_M_oneTick_4 : decode b_M_oneTick 4 = .ok (.istore_n 1, 1) := by decide +kernel
theorem d_M_oneTick_5 : decode b_M_oneTick 5 = .ok (.iload_n 1, 1) := by decide +kernel
theorem d_M_oneTick_6 : decode b_M_oneTick 6 = .ok (.bipush 8, 2) := by decide +kernel
theorem d_M_oneTick_8 : decode b_M_oneTick 8 = .ok (.if_icmp .ge 28, 3) := by decide +kernel
theorem d_M_oneTick_11 : decode b_M_oneTick 11 = .ok (.aload_n 0, 1) := by decide +kernel
theorem d_M_oneTick_12 : decode b_M_oneTick 12 = .ok (.invokevirtual 59, 3) := by decide +kernel
theorem d_M_oneTick_15 : decode b_M_oneTick 15 = .ok (.istore_n 2, 1) := by decide +kernel
theorem d_M_oneTick_16 : decode b_M_oneTick 16 = .ok (.iload_n 2, 1) := by decide +kernel
theorem d_M_oneTick_17 : decode b_M_oneTick 17 = .ok (.ifCond .lt 13, 3) := by decide +kernel
theorem d_M_oneTick_20 : decode b_M_oneTick 20 = .ok (.aload_n 0, 1) := by decide +kernel
theorem d_M_oneTick_21 : decode b_M_oneTick 21 = .ok (.getfield 19, 3) := by decide +kernel
theorem d_M_oneTick_24 : decode b_M_oneTick 24 = .ok (.iload_n 2, 1) := by decide +kernel
theorem d_M_oneTick_25 : decode b_M_oneTick 25 = .ok (.aload_n 0, 1) := by decide +kernel
theorem d_M_oneTick_26 : decode b_M_oneTick 26 = .ok (.getfield 34, 3) := by decide +kernel
theorem d_M_oneTick_29 : decode b_M_oneTick 29 = .ok (.iastore, 1) := by decide +kernel
theorem d_M_oneTick_30 : decode b_M_oneTick 30 = .ok (.iinc 1 1, 3) := by decide +kernel
theorem d_M_oneTick_33 : decode b_M_oneTick 33 = .ok (.goto (-28), 3) := by decide +kernel
theorem d_M_oneTick_36 : decode b_M_oneTick 36 = .ok (.aload_n 0, 1) := by decide +kernel
theorem d_M_oneTick_37 : decode b_M_oneTick 37 = .ok (.invokevirtual 56, 3) := by decide +kernel
theorem d_M_oneTick_40 : decode b_M_oneTick 40 = .ok (.istore_n 1, 1) := by decide +kernel
theorem d_M_oneTick_41 : decode b_M_oneTick 41 = .ok (.iload_n 1, 1) := by decide +kernel
theorem d_M_oneTick_42 : decode b_M_oneTick 42 = .ok (.ifCond .gt 5, 3) := by decide +kernel
theorem d_M_oneTick_45 : decode b_M_oneTick 45 = .ok (.iconst 0, 1) := by decide +kernel
theorem d_M_oneTick_46 : decode b_M_oneTick 46 = .ok (.ireturn, 1) := by decide +kernel
theorem d_M_oneTick_47 : decode b_M_oneTick 47 = .ok (.sipush 840, 3) := by decide +kernel
theorem d_M_oneTick_50 : decode b_M_oneTick 50 = .ok (.iload_n 1, 1) := by decide +kernel
theorem d_M_oneTick_51 : decode b_M_oneTick 51 = .ok (.idiv, 1) := by decide +kernel
theorem d_M_oneTick_52 : decode b_M_oneTick 52 = .ok (.istore_n 2, 1) := by decide +kernel
theorem d_M_oneTick_53 : decode b_M_oneTick 53 = .ok (.iconst 0, 1) := by decide +kernel
theorem d_M_oneTick_54 : decode b_M_oneTick 54 = .ok (.istore_n 3, 1) := by decide +kernel
theorem d_M_oneTick_55 : decode b_M_oneTick 55 = .ok (.iconst 0, 1) := by decide +kernel
theorem d_M_oneTick_56 : decode b_M_oneTick 56 = .ok (.istore 4, 2) := by decide +kernel
theorem d_M_oneTick_58 : decode b_M_oneTick 58 = .ok (.iload 4, 2) := by decide +kernel
theorem d_M_oneTick_60 : decode b_M_oneTick 60 = .ok (.aload_n 0, 1) := by decide +kernel
theorem d_M_oneTick_61 : decode b_M_oneTick 61 = .ok (.getfield 30, 3) := by decide +kernel
theorem d_M_oneTick_64 : decode b_M_oneTick 64 = .ok (.if_icmp .ge 117, 3) := by decide +kernel
theorem d_M_oneTick_67 : decode b_M_oneTick 67 = .ok (.aload_n 0, 1) := by decide +kernel
theorem d_M_oneTick_68 : decode b_M_oneTick 68 = .ok (.getfield 25, 3) := by decide +kernel
theorem d_M_oneTick_71 : decode b_M_oneTick 71 = .ok (.iload 4, 2) := by decide +kernel
theorem d_M_oneTick_73 : decode b_M_oneTick 73 = .ok (.baload, 1) := by decide +kernel
theorem d_M_oneTick_74 : decode b_M_oneTick 74 = .ok (.ifCond .ne 27, 3) := by decide +kernel
theorem d_M_oneTick_77 : decode b_M_oneTick 77 = .ok (.aload_n 0, 1) := by decide +kernel
theorem d_M_oneTick_78 : decode b_M_oneTick 78 = .ok (.getfield 19, 3) := by decide +kernel
theorem d_M_oneTick_81 : decode b_M_oneTick 81 = .ok (.iload 4, 2) := by decide +kernel
theorem d_M_oneTick_83 : decode b_M_oneTick 83 = .ok (.iaload, 1) := by decide +kernel
theorem d_M_oneTick_84 : decode b_M_oneTick 84 = .ok (.ifCond .lt 17, 3) := by decide +kernel
theorem d_M_oneTick_87 : decode b_M_oneTick 87 = .ok (.aload_n 0, 1) := by decide +kernel
theorem d_M_oneTick_88 : decode b_M_oneTick 88 = .ok (.getfield 22, 3) := by decide +kernel
theorem d_M_oneTick_91 : decode b_M_oneTick 91 = .ok (.iload 4, 2) := by decide +kernel
theorem d_M_oneTick_93 : decode b_M_oneTick 93 = .ok (.iaload, 1) := by decide +kernel
theorem d_M_oneTick_94 : decode b_M_oneTick 94 = .ok (.ifCond .ge 7, 3) := by decide +kernel
theorem d_M_oneTick_97 : decode b_M_oneTick 97 = .ok (.iconst 1, 1) := by decide +kernel
theorem d_M_oneTick_98 : decode b_M_oneTick 98 = .ok (.goto 4, 3) := by decide +kernel
theorem d_M_oneTick_101 : decode b_M_oneTick 101 = .ok (.iconst 0, 1) := by decide +kernel
theorem d_M_oneTick_102 : decode b_M_oneTick 102 = .ok (.istore 5, 2) := by decide +kernel
theorem d_M_oneTick_104 : decode b_M_oneTick 104 = .ok (.iload 5, 2) := by decide +kernel
theorem d_M_oneTick_106 : decode b_M_oneTick 106 = .ok (.ifCond .eq 53, 3) := by decide +kernel
theorem d_M_oneTick_109 : decode b_M_oneTick 109 = .ok (.aload_n 0, 1) := by decide +kernel
theorem d_M_oneTick_110 : decode b_M_oneTick 110 = .ok (.getfield 7, 3) := by decide +kernel
theorem d_M_oneTick_113 : decode b_M_oneTick 113 = .ok (.iload 4, 2) := by decide +kernel
theorem d_M_oneTick_115 : decode b_M_oneTick 115 = .ok (.iaload, 1) := by decide +kernel
theorem d_M_oneTick_116 : decode b_M_oneTick 116 = .ok (.aload_n 0, 1) := by decide +kernel
theorem d_M_oneTick_117 : decode b_M_oneTick 117 = .ok (.getfield 16, 3) := by decide +kernel
theorem d_M_oneTick_120 : decode b_M_oneTick 120 = .ok (.iload 4, 2) := by decide +kernel
theorem d_M_oneTick_122 : decode b_M_oneTick 122 = .ok (.iaload, 1) := by decide +kernel
theorem d_M_oneTick_123 : decode b_M_oneTick 123 = .ok (.isub, 1) := by decide +kernel
theorem d_M_oneTick_124 : decode b_M_oneTick 124 = .ok (.iload_n 2, 1) := by decide +kernel
theorem d_M_oneTick_125 : decode b_M_oneTick 125 = .ok (.if_icmp .gt 34, 3) := by decide +kernel
theorem d_M_oneTick_128 : decode b_M_oneTick 128 = .ok (.aload_n 0, 1) := by decide +kernel
theorem d_M_oneTick_129 : decode b_M_oneTick 129 = .ok (.getfield 16, 3) := by decide +kernel
theorem d_M_oneTick_132 : decode b_M_oneTick 132 = .ok (.iload 4, 2) := by decide +kernel
theorem d_M_oneTick_134 : decode b_M_oneTick 134 = .ok (.aload_n 0, 1) := by decide +kernel
theorem d_M_oneTick_135 : decode b_M_oneTick 135 = .ok (.getfield 7, 3) := by decide +kernel
theorem d_M_oneTick_138 : decode b_M_oneTick 138 = .ok (.iload 4, 2) := by decide +kernel
theorem d_M_oneTick_140 : decode b_M_oneTick 140 = .ok (.iaload, 1) := by decide +kernel
theorem d_M_oneTick_141 : decode b_M_oneTick 141 = .ok (.iastore, 1) := by decide +kernel
theorem d_M_oneTick_142 : decode b_M_oneTick 142 = .ok (.aload_n 0, 1) := by decide +kernel
theorem d_M_oneTick_143 : decode b_M_oneTick 143 = .ok (.getfield 22, 3) := by decide +kernel
theorem d_M_oneTick_146 : decode b_M_oneTick 146 = .ok (.iload 4, 2) := by decide +kernel
theorem d_M_oneTick_148 : decode b_M_oneTick 148 = .ok (.aload_n 0, 1) := by decide +kernel
theorem d_M_oneTick_149 : decode b_M_oneTick 149 = .ok (.getfield 34, 3) := by decide +kernel
theorem d_M_oneTick_152 : decode b_M_oneTick 152 = .ok (.iastore, 1) := by decide +kernel
theorem d_M_oneTick_153 : decode b_M_oneTick 153 = .ok (.iinc 3 1, 3) := by decide +kernel
theorem d_M_oneTick_156 : decode b_M_oneTick 156 = .ok (.goto 19, 3) := by decide +kernel
theorem d_M_oneTick_159 : decode b_M_oneTick 159 = .ok (.iload 5, 2) := by decide +kernel
theorem d_M_oneTick_161 : decode b_M_oneTick 161 = .ok (.ifCond .eq 14, 3) := by decide +kernel
theorem d_M_oneTick_164 : decode b_M_oneTick 164 = .ok (.aload_n 0, 1) := by decide +kernel
theorem d_M_oneTick_165 : decode b_M_oneTick 165 = .ok (.getfield 16, 3) := by decide +kernel
theorem d_M_oneTick_168 : decode b_M_oneTick 168 = .ok (.iload 4, 2) := by decide +kernel
theorem d_M_oneTick_170 : decode b_M_oneTick 170 = .ok (.dup2, 1) := by decide +kernel
theorem d_M_oneTick_171 : decode b_M_oneTick 171 = .ok (.iaload, 1) := by decide +kernel
theorem d_M_oneTick_172 : decode b_M_oneTick 172 = .ok (.iload_n 2, 1) := by decide +kernel
theorem d_M_oneTick_173 : decode b_M_oneTick 173 = .ok (.iadd, 1) := by decide +kernel
theorem d_M_oneTick_174 : decode b_M_oneTick 174 = .ok (.iastore, 1) := by decide +kernel
theorem d_M_oneTick_175 : decode b_M_oneTick 175 = .ok (.iinc 4 1, 3) := by decide +kernel
theorem d_M_oneTick_178 : decode b_M_oneTick 178 = .ok (.goto (-120), 3) := by decide +kernel
theorem d_M_oneTick_181 : decode b_M_oneTick 181 = .ok (.iload_n 3, 1) := by decide +kernel
theorem d_M_oneTick_182 : decode b_M_oneTick 182 = .ok (.ireturn, 1) := by decide +kernel
theorem d_M_served_0 : decode b_M_served 0 = .ok (.aload_n 0, 1) := by decide +kernel
theorem d_M_served_1 : decode b_M_served 1 = .ok (.iconst 2, 1) := by decide +kernel
theorem d_M_served_2 : decode b_M_served 2 = .ok (.invokevirtual 49, 3) := by decide +kernel
theorem d_M_served_5 : decode b_M_served 5 = .ok (.ireturn, 1) := by decide +kernel
theorem d_M_inState_0 : decode b_M_inState 0 = .ok (.iconst 0, 1) := by decide +kernel
theorem d_M_inState_1 : decode b_M_inState 1 = .ok (.istore_n 2, 1) := by decide +kernel
theorem d_M_inState_2 : decode b_M_inState 2 = .ok (.iconst 0, 1) := by decide +kernel
theorem d_M_inState_3 : decode b_M_inState 3 = .ok (.istore_n 3, 1) := by decide +kernel
theorem d_M_inState_4 : decode b_M_inState 4 = .ok (.iload_n 3, 1) := by decide +kernel
theorem d_M_inState_5 : decode b_M_inState 5 = .ok (.aload_n 0, 1) := by decide +kernel
theorem d_M_inState_6 : decode b_M_inState 6 = .ok (.getfield 30, 3) := by decide +kernel
theorem d_M_inState_9 : decode b_M_inState 9 = .ok (.if_icmp .ge 21, 3) := by decide +kernel
theorem d_M_inState_12 : decode b_M_inState 12 = .ok (.aload_n 0, 1) := by decide +kernel
theorem d_M_inState_13 : decode b_M_inState 13 = .ok (.iload_n 3, 1) := by decide +kernel
theorem d_M_inState_14 : decode b_M_inState 14 = .ok (.invokevirtual 53, 3) := by decide +kernel
theorem d_M_inState_17 : decode b_M_inState 17 = .ok (.iload_n 1, 1) := by decide +kernel
theorem d_M_inState_18 : decode b_M_inState 18 = .ok (.if_icmp .ne 6, 3) := by decide +kernel
theorem d_M_inState_21 : decode b_M_inState 21 = .ok (.iinc 2 1, 3) := by decide +kernel
theorem d_M_inState_24 : decode b_M_inState 24 = .ok (.iinc 3 1, 3) := by decide +kernel
theorem d_M_inState_27 : decode b_M_inState 27 = .ok (.goto (-23), 3) := by decide +kernel
theorem d_M_inState_30 : decode b_M_inState 30 = .ok (.iload_n 2, 1) := by decide +kernel
theorem d_M_inState_31 : decode b_M_inState 31 = .ok (.ireturn, 1) := by decide +kernel
theorem d_M_state_0 : decode b_M_state 0 = .ok (.aload_n 0, 1) := by decide +kernel
theorem d_M_state_1 : decode b_M_state 1 = .ok (.iload_n 1, 1) := by decide +kernel
theorem d_M_state_2 : decode b_M_state 2 = .ok (.invokevirtual 37, 3) := by decide +kernel
theorem d_M_state_5 : decode b_M_state 5 = .ok (.ifCond .ne 6, 3) := by decide +kernel
theorem d_M_state_8 : decode b_M_state 8 = .ok (.bipush (-4), 2) := by decide +kernel
theorem d_M_state_10 : decode b_M_state 10 = .ok (.ireturn, 1) := by decide +kernel
theorem d_M_state_11 : decode b_M_state 11 = .ok (.aload_n 0, 1) := by decide +kernel
theorem d_M_state_12 : decode b_M_state 12 = .ok (.getfield 25, 3) := by decide +kernel
theorem d_M_state_15 : decode b_M_state 15 = .ok (.iload_n 1, 1) := by decide +kernel
theorem d_M_state_16 : decode b_M_state 16 = .ok (.baload, 1) := by decide +kernel
theorem d_M_state_17 : decode b_M_state 17 = .ok (.ifCond .eq 5, 3) := by decide +kernel
theorem d_M_state_20 : decode b_M_state 20 = .ok (.iconst 4, 1) := by decide +kernel
theorem d_M_state_21 : decode b_M_state 21 = .ok (.ireturn, 1) := by decide +kernel
theorem d_M_state_22 : decode b_M_state 22 = .ok (.aload_n 0, 1) := by decide +kernel
theorem d_M_state_23 : decode b_M_state 23 = .ok (.getfield 22, 3) := by decide +kernel
theorem d_M_state_26 : decode b_M_state 26 = .ok (.iload_n 1, 1) := by decide +kernel
theorem d_M_state_27 : decode b_M_state 27 = .ok (.iaload, 1) := by decide +kernel
theorem d_M_state_28 : decode b_M_state 28 = .ok (.ifCond .lt 5, 3) := by decide +kernel
theorem d_M_state_31 : decode b_M_state 31 = .ok (.iconst 3, 1) := by decide +kernel
theorem d_M_state_32 : decode b_M_state 32 = .ok (.ireturn, 1) := by decide +kernel
theorem d_M_state_33 : decode b_M_state 33 = .ok (.aload_n 0, 1) := by decide +kernel
theorem d_M_state_34 : decode b_M_state 34 = .ok (.getfield 19, 3) := by decide +kernel
theorem d_M_state_37 : decode b_M_state 37 = .ok (.iload_n 1, 1) := by decide +kernel
theorem d_M_state_38 : decode b_M_state 38 = .ok (.iaload, 1) := by decide +kernel
theorem d_M_state_39 : decode b_M_state 39 = .ok (.ifCond .lt 5, 3) := by decide +kernel
theorem d_M_state_42 : decode b_M_state 42 = .ok (.iconst 2, 1) := by decide +kernel
theorem d_M_state_43 : decode b_M_state 43 = .ok (.ireturn, 1) := by decide +kernel
theorem d_M_state_44 : decode b_M_state 44 = .ok (.aload_n 0, 1) := by decide +kernel
theorem d_M_state_45 : decode b_M_state 45 = .ok (.getfield 13, 3) := by decide +kernel
theorem d_M_state_48 : decode b_M_state 48 = .ok (.iload_n 1, 1) := by decide +kernel
theorem d_M_state_49 : decode b_M_state 49 = .ok (.iaload, 1) := by decide +kernel
theorem d_M_state_50 : decode b_M_state 50 = .ok (.aload_n 0, 1) := by decide +kernel
theorem d_M_state_51 : decode b_M_state 51 = .ok (.getfield 34, 3) := by decide +kernel
theorem d_M_state_54 : decode b_M_state 54 = .ok (.if_icmp .ge 7, 3) := by decide +kernel
theorem d_M_state_57 : decode b_M_state 57 = .ok (.iconst 1, 1) := by decide +kernel
theorem d_M_state_58 : decode b_M_state 58 = .ok (.goto 4, 3) := by decide +kernel
theorem d_M_state_61 : decode b_M_state 61 = .ok (.iconst 0, 1) := by decide +kernel
theorem d_M_state_62 : decode b_M_state 62 = .ok (.ireturn, 1) := by decide +kernel
theorem d_M_front_0 : decode b_M_front 0 = .ok (.iconst (-1), 1) := by decide +kernel
theorem d_M_front_1 : decode b_M_front 1 = .ok (.istore_n 1, 1) := by decide +kernel
theorem d_M_front_2 : decode b_M_front 2 = .ok (.iconst 0, 1) := by decide +kernel
theorem d_M_front_3 : decode b_M_front 3 = .ok (.istore_n 2, 1) := by decide +kernel
theorem d_M_front_4 : decode b_M_front 4 = .ok (.iload_n 2, 1) := by decide +kernel
theorem d_M_front_5 : decode b_M_front 5 = .ok (.aload_n 0, 1) := by decide +kernel
theorem d_M_front_6 : decode b_M_front 6 = .ok (.getfield 30, 3) := by decide +kernel
theorem d_M_front_9 : decode b_M_front 9 = .ok (.if_icmp .ge 71, 3) := by decide +kernel
theorem d_M_front_12 : decode b_M_front 12 = .ok (.aload_n 0, 1) := by decide +kernel
theorem d_M_front_13 : decode b_M_front 13 = .ok (.getfield 25, 3) := by decide +kernel
theorem d_M_front_16 : decode b_M_front 16 = .ok (.iload_n 2, 1) := by decide +kernel
theorem d_M_front_17 : decode b_M_front 17 = .ok (.baload, 1) := by decide +kernel
theorem d_M_front_18 : decode b_M_front 18 = .ok (.ifCond .ne 29, 3) := by decide +kernel
theorem d_M_front_21 : decode b_M_front 21 = .ok (.aload_n 0, 1) := by decide +kernel
theorem d_M_front_22 : decode b_M_front 22 = .ok (.getfield 19, 3) := by decide +kernel
theorem d_M_front_25 : decode b_M_front 25 = .ok (.iload_n 2, 1) := by decide +kernel
theorem d_M_front_26 : decode b_M_front 26 = .ok (.iaload, 1) := by decide +kernel
theorem d_M_front_27 : decode b_M_front 27 = .ok (.ifCond .ge 20, 3) := by decide +kernel
theorem d_M_front_30 : decode b_M_front 30 = .ok (.aload_n 0, 1) := by decide +kernel
theorem d_M_front_31 : decode b_M_front 31 = .ok (.getfield 13, 3) := by decide +kernel
theorem d_M_front_34 : decode b_M_front 34 = .ok (.iload_n 2, 1) := by decide +kernel
theorem d_M_front_35 : decode b_M_front 35 = .ok (.iaload, 1) := by decide +kernel
theorem d_M_front_36 : decode b_M_front 36 = .ok (.aload_n 0, 1) := by decide +kernel
theorem d_M_front_37 : decode b_M_front 37 = .ok (.getfield 34, 3) := by decide +kernel
theorem d_M_front_40 : decode b_M_front 40 = .ok (.if_icmp .gt 7, 3) := by decide +kernel
theorem d_M_front_43 : decode b_M_front 43 = .ok (.iconst 1, 1) := by decide +kernel
theorem d_M_front_44 : decode b_M_front 44 = .ok (.goto 4, 3) := by decide +kernel
theorem d_M_front_47 : decode b_M_front 47 = .ok (.iconst 0, 1) := by decide +kernel
theorem d_M_front_48 : decode b_M_front 48 = .ok (.istore_n 3, 1) := by decide +kernel
theorem d_M_front_49 : decode b_M_front 49 = .ok (.iload_n 3, 1) := by decide +kernel
theorem d_M_front_50 : decode b_M_front 50 = .ok (.ifCond .eq 24, 3) := by decide +kernel
theorem d_M_front_53 : decode b_M_front 53 = .ok (.iload_n 1, 1) := by decide +kernel
theorem d_M_front_54 : decode b_M_front 54 = .ok (.ifCond .lt 18, 3) := by decide +kernel
theorem d_M_front_57 : decode b_M_front 57 = .ok (.aload_n 0, 1) := by decide +kernel
theorem d_M_front_58 : decode b_M_front 58 = .ok (.getfield 13, 3) := by decide +kernel
theorem d_M_front_61 : decode b_M_front 61 = .ok (.iload_n 2, 1) := by decide +kernel
theorem d_M_front_62 : decode b_M_front 62 = .ok (.iaload, 1) := by decide +kernel
theorem d_M_front_63 : decode b_M_front 63 = .ok (.aload_n 0, 1) := by decide +kernel
theorem d_M_front_64 : decode b_M_front 64 = .ok (.getfield 13, 3) := by decide +kernel
theorem d_M_front_67 : decode b_M_front 67 = .ok (.iload_n 1, 1) := by decide +kernel
theorem d_M_front_68 : decode b_M_front 68 = .ok (.iaload, 1) := by decide +kernel
theorem d_M_front_69 : decode b_M_front 69 = .ok (.if_icmp .ge 5, 3) := by decide +kernel
theorem d_M_front_72 : decode b_M_front 72 = .ok (.iload_n 2, 1) := by decide +kernel
theorem d_M_front_73 : decode b_M_front 73 = .ok (.istore_n 1, 1) := by decide +kernel
theorem d_M_front_74 : decode b_M_front 74 = .ok (.iinc 2 1, 3) := by decide +kernel
theorem d_M_front_77 : decode b_M_front 77 = .ok (.goto (-73), 3) := by decide +kernel
theorem d_M_front_80 : decode b_M_front 80 = .ok (.iload_n 1, 1) := by decide +kernel
theorem d_M_front_81 : decode b_M_front 81 = .ok (.ireturn, 1) := by decide +kernel
theorem d_M_clear_0 : decode b_M_clear 0 = .ok (.aload_n 0, 1) := by decide +kernel
theorem d_M_clear_1 : decode b_M_clear 1 = .ok (.iconst 0, 1) := by decide +kernel
theorem d_M_clear_2 : decode b_M_clear 2 = .ok (.putfield 30, 3) := by decide +kernel
theorem d_M_clear_5 : decode b_M_clear 5 = .ok (.return_, 1) := by decide +kernel
theorem d_M_now_0 : decode b_M_now 0 = .ok (.aload_n 0, 1) := by decide +kernel
theorem d_M_now_1 : decode b_M_now 1 = .ok (.getfield 34, 3) := by decide +kernel
theorem d_M_now_4 : decode b_M_now 4 = .ok (.ireturn, 1) := by decide +kernel
theorem d_M_had_0 : decode b_M_had 0 = .ok (.aload_n 0, 1) := by decide +kernel
theorem d_M_had_1 : decode b_M_had 1 = .ok (.iload_n 1, 1) := by decide +kernel
theorem d_M_had_2 : decode b_M_had 2 = .ok (.invokevirtual 37, 3) := by decide +kernel
theorem d_M_had_5 : decode b_M_had 5 = .ok (.ifCond .eq 12, 3) := by decide +kernel
theorem d_M_had_8 : decode b_M_had 8 = .ok (.aload_n 0, 1) := by decide +kernel
theorem d_M_had_9 : decode b_M_had 9 = .ok (.getfield 16, 3) := by decide +kernel
theorem d_M_had_12 : decode b_M_had 12 = .ok (.iload_n 1, 1) := by decide +kernel
theorem d_M_had_13 : decode b_M_had 13 = .ok (.iaload, 1) := by decide +kernel
theorem d_M_had_14 : decode b_M_had 14 = .ok (.goto 5, 3) := by decide +kernel
theorem d_M_had_17 : decode b_M_had 17 = .ok (.bipush (-4), 2) := by decide +kernel
theorem d_M_had_19 : decode b_M_had 19 = .ok (.ireturn, 1) := by decide +kernel
theorem d_M_admitted_0 : decode b_M_admitted 0 = .ok (.aload_n 0, 1) := by decide +kernel
theorem d_M_admitted_1 : decode b_M_admitted 1 = .ok (.iload_n 1, 1) := by decide +kernel
theorem d_M_admitted_2 : decode b_M_admitted 2 = .ok (.invokevirtual 37, 3) := by decide +kernel
theorem d_M_admitted_5 : decode b_M_admitted 5 = .ok (.ifCond .eq 12, 3) := by decide +kernel
theorem d_M_admitted_8 : decode b_M_admitted 8 = .ok (.aload_n 0, 1) := by decide +kernel
theorem d_M_admitted_9 : decode b_M_admitted 9 = .ok (.getfield 19, 3) := by decide +kernel
theorem d_M_admitted_12 : decode b_M_admitted 12 = .ok (.iload_n 1, 1) := by decide +kernel
theorem d_M_admitted_13 : decode b_M_admitted 13 = .ok (.iaload, 1) := by decide +kernel
theorem d_M_admitted_14 : decode b_M_admitted 14 = .ok (.goto 5, 3) := by decide +kernel
theorem d_M_admitted_17 : decode b_M_admitted 17 = .ok (.bipush (-4), 2) := by decide +kernel
theorem d_M_admitted_19 : decode b_M_admitted 19 = .ok (.ireturn, 1) := by decide +kernel
theorem d_M_finished_0 : decode b_M_finished 0 = .ok (.aload_n 0, 1) := by decide +kernel
theorem d_M_finished_1 : decode b_M_finished 1 = .ok (.iload_n 1, 1) := by decide +kernel
theorem d_M_finished_2 : decode b_M_finished 2 = .ok (.invokevirtual 37, 3) := by decide +kernel
theorem d_M_finished_5 : decode b_M_finished 5 = .ok (.ifCond .eq 12, 3) := by decide +kernel
theorem d_M_finished_8 : decode b_M_finished 8 = .ok (.aload_n 0, 1) := by decide +kernel
theorem d_M_finished_9 : decode b_M_finished 9 = .ok (.getfield 22, 3) := by decide +kernel
theorem d_M_finished_12 : decode b_M_finished 12 = .ok (.iload_n 1, 1) := by decide +kernel
theorem d_M_finished_13 : decode b_M_finished 13 = .ok (.iaload, 1) := by decide +kernel
theorem d_M_finished_14 : decode b_M_finished 14 = .ok (.goto 5, 3) := by decide +kernel
theorem d_M_finished_17 : decode b_M_finished 17 = .ok (.bipush (-4), 2) := by decide +kernel
theorem d_M_finished_19 : decode b_M_finished 19 = .ok (.ireturn, 1) := by decide +kernel
theorem d_M_waiting_0 : decode b_M_waiting 0 = .ok (.aload_n 0, 1) := by decide +kernel
theorem d_M_waiting_1 : decode b_M_waiting 1 = .ok (.iconst 1, 1) := by decide +kernel
theorem d_M_waiting_2 : decode b_M_waiting 2 = .ok (.invokevirtual 49, 3) := by decide +kernel
theorem d_M_waiting_5 : decode b_M_waiting 5 = .ok (.ireturn, 1) := by decide +kernel
end
section
theorem d_law_0 : decode code 0 = .ok (.new 7, 3) := by decide +kernel
theorem d_law_3 : decode code 3 = .ok (.dup, 1) := by decide +kernel
theorem d_law_4 : decode code 4 = .ok (.invokespecial 9, 3) := by decide +kernel
theorem d_law_7 : decode code 7 = .ok (.astore_n 1, 1) := by decide +kernel
theorem d_law_8 : decode code 8 = .ok (.new 10, 3) := by decide +kernel
theorem d_law_11 : decode code 11 = .ok (.dup, 1) := by decide +kernel
theorem d_law_12 : decode code 12 = .ok (.invokespecial 12, 3) := by decide +kernel
theorem d_law_15 : decode code 15 = .ok (.astore_n 2, 1) := by decide +kernel
theorem d_law_16 : decode code 16 = .ok (.iconst 0, 1) := by decide +kernel
theorem d_law_17 : decode code 17 = .ok (.istore_n 3, 1) := by decide +kernel
theorem d_law_18 : decode code 18 = .ok (.iload_n 3, 1) := by decide +kernel
theorem d_law_19 : decode code 19 = .ok (.aload_n 0, 1) := by decide +kernel
theorem d_law_20 : decode code 20 = .ok (.arraylength, 1) := by decide +kernel
theorem d_law_21 : decode code 21 = .ok (.iconst 3, 1) := by decide +kernel
theorem d_law_22 : decode code 22 = .ok (.isub, 1) := by decide +kernel
theorem d_law_23 : decode code 23 = .ok (.if_icmp .gt 296, 3) := by decide +kernel
theorem d_law_26 : decode code 26 = .ok (.aload_n 0, 1) := by decide +kernel
theorem d_law_27 : decode code 27 = .ok (.iload_n 3, 1) := by decide +kernel
theorem d_law_28 : decode code 28 = .ok (.iaload, 1) := by decide +kernel
theorem d_law_29 : decode code 29 = .ok (.bipush 15, 2) := by decide +kernel
theorem d_law_31 : decode code 31 = .ok (.iand, 1) := by decide +kernel
theorem d_law_32 : decode code 32 = .ok (.tableswitch 281 0 10 #[60, 93, 116, 139, 150, 163, 186, 209, 232, 255, 268], 60) := by decide +kernel
theorem d_law_92 : decode code 92 = .ok (.aload_n 1, 1) := by decide +kernel
theorem d_law_93 : decode code 93 = .ok (.aload_n 0, 1) := by decide +kernel
theorem d_law_94 : decode code 94 = .ok (.iload_n 3, 1) := by decide +kernel
theorem d_law_95 : decode code 95 = .ok (.iconst 1, 1) := by decide +kernel
theorem d_law_96 : decode code 96 = .ok (.iadd, 1) := by decide +kernel
theorem d_law_97 : decode code 97 = .ok (.iaload, 1) := by decide +kernel
theorem d_law_98 : decode code 98 = .ok (.aload_n 0, 1) := by decide +kernel
theorem d_law_99 : decode code 99 = .ok (.iload_n 3, 1) := by decide +kernel
theorem d_law_100 : decode code 100 = .ok (.iconst 2, 1) := by decide +kernel
theorem d_law_101 : decode code 101 = .ok (.iadd, 1) := by decide +kernel
theorem d_law_102 : decode code 102 = .ok (.iaload, 1) := by decide +kernel
theorem d_law_103 : decode code 103 = .ok (.invokevirtual 13, 3) := by decide +kernel
theorem d_law_106 : decode code 106 = .ok (.aload_n 2, 1) := by decide +kernel
theorem d_law_107 : decode code 107 = .ok (.aload_n 0, 1) := by decide +kernel
theorem d_law_108 : decode code 108 = .ok (.iload_n 3, 1) := by decide +kernel
theorem d_law_109 : decode code 109 = .ok (.iconst 1, 1) := by decide +kernel
theorem d_law_110 : decode code 110 = .ok (.iadd, 1) := by decide +kernel
theorem d_law_111 : decode code 111 = .ok (.iaload, 1) := by decide +kernel
theorem d_law_112 : decode code 112 = .ok (.aload_n 0, 1) := by decide +kernel
theorem d_law_113 : decode code 113 = .ok (.iload_n 3, 1) := by decide +kernel
theorem d_law_114 : decode code 114 = .ok (.iconst 2, 1) := by decide +kernel
theorem d_law_115 : decode code 115 = .ok (.iadd, 1) := by decide +kernel
theorem d_law_116 : decode code 116 = .ok (.iaload, 1) := by decide +kernel
theorem d_law_117 : decode code 117 = .ok (.invokevirtual 17, 3) := by decide +kernel
theorem d_law_120 : decode code 120 = .ok (.if_icmp .eq 193, 3) := by decide +kernel
theorem d_law_123 : decode code 123 = .ok (.iconst 0, 1) := by decide +kernel
theorem d_law_124 : decode code 124 = .ok (.ireturn, 1) := by decide +kernel
theorem d_law_125 : decode code 125 = .ok (.aload_n 1, 1) := by decide +kernel
theorem d_law_126 : decode code 126 = .ok (.aload_n 0, 1) := by decide +kernel
theorem d_law_127 : decode code 127 = .ok (.iload_n 3, 1) := by decide +kernel
theorem d_law_128 : decode code 128 = .ok (.iconst 1, 1) := by decide +kernel
theorem d_law_129 : decode code 129 = .ok (.iadd, 1) := by decide +kernel
theorem d_law_130 : decode code 130 = .ok (.iaload, 1) := by decide +kernel
theorem d_law_131 : decode code 131 = .ok (.invokevirtual 18, 3) := by decide +kernel
theorem d_law_134 : decode code 134 = .ok (.aload_n 2, 1) := by decide +kernel
theorem d_law_135 : decode code 135 = .ok (.aload_n 0, 1) := by decide +kernel
theorem d_law_136 : decode code 136 = .ok (.iload_n 3, 1) := by decide +kernel
theorem d_law_137 : decode code 137 = .ok (.iconst 1, 1) := by decide +kernel
theorem d_law_138 : decode code 138 = .ok (.iadd, 1) := by decide +kernel
theorem d_law_139 : decode code 139 = .ok (.iaload, 1) := by decide +kernel
theorem d_law_140 : decode code 140 = .ok (.invokevirtual 22, 3) := by decide +kernel
theorem d_law_143 : decode code 143 = .ok (.if_icmp .eq 170, 3) := by decide +kernel
theorem d_law_146 : decode code 146 = .ok (.iconst 0, 1) := by decide +kernel
theorem d_law_147 : decode code 147 = .ok (.ireturn, 1) := by decide +kernel
theorem d_law_148 : decode code 148 = .ok (.aload_n 1, 1) := by decide +kernel
theorem d_law_149 : decode code 149 = .ok (.aload_n 0, 1) := by decide +kernel
theorem d_law_150 : decode code 150 = .ok (.iload_n 3, 1) := by decide +kernel
theorem d_law_151 : decode code 151 = .ok (.iconst 1, 1) := by decide +kernel
theorem d_law_152 : decode code 152 = .ok (.iadd, 1) := by decide +kernel
theorem d_law_153 : decode code 153 = .ok (.iaload, 1) := by decide +kernel
theorem d_law_154 : decode code 154 = .ok (.invokevirtual 23, 3) := by decide +kernel
theorem d_law_157 : decode code 157 = .ok (.aload_n 2, 1) := by decide +kernel
theorem d_law_158 : decode code 158 = .ok (.aload_n 0, 1) := by decide +kernel
theorem d_law_159 : decode code 159 = .ok (.iload_n 3, 1) := by decide +kernel
theorem d_law_160 : decode code 160 = .ok (.iconst 1, 1) := by decide +kernel
theorem d_law_161 : decode code 161 = .ok (.iadd, 1) := by decide +kernel
theorem d_law_162 : decode code 162 = .ok (.iaload, 1) := by decide +kernel
theorem d_law_163 : decode code 163 = .ok (.invokevirtual 26, 3) := by decide +kernel
theorem d_law_166 : decode code 166 = .ok (.if_icmp .eq 147, 3) := by decide +kernel
theorem d_law_169 : decode code 169 = .ok (.iconst 0, 1) := by decide +kernel
theorem d_law_170 : decode code 170 = .ok (.ireturn, 1) := by decide +kernel
theorem d_law_171 : decode code 171 = .ok (.aload_n 1, 1) := by decide +kernel
theorem d_law_172 : decode code 172 = .ok (.invokevirtual 27, 3) := by decide +kernel
theorem d_law_175 : decode code 175 = .ok (.aload_n 2, 1) := by decide +kernel
theorem d_law_176 : decode code 176 = .ok (.invokevirtual 30, 3) := by decide +kernel
theorem d_law_179 : decode code 179 = .ok (.goto 134, 3) := by decide +kernel
theorem d_law_182 : decode code 182 = .ok (.aload_n 1, 1) := by decide +kernel
theorem d_law_183 : decode code 183 = .ok (.invokevirtual 31, 3) := by decide +kernel
theorem d_law_186 : decode code 186 = .ok (.aload_n 2, 1) := by decide +kernel
theorem d_law_187 : decode code 187 = .ok (.invokevirtual 35, 3) := by decide +kernel
theorem d_law_190 : decode code 190 = .ok (.if_icmp .eq 123, 3) := by decide +kernel
theorem d_law_193 : decode code 193 = .ok (.iconst 0, 1) := by decide +kernel
theorem d_law_194 : decode code 194 = .ok (.ireturn, 1) := by decide +kernel
theorem d_law_195 : decode code 195 = .ok (.aload_n 1, 1) := by decide +kernel
theorem d_law_196 : decode code 196 = .ok (.aload_n 0, 1) := by decide +kernel
theorem d_law_197 : decode code 197 = .ok (.iload_n 3, 1) := by decide +kernel
theorem d_law_198 : decode code 198 = .ok (.iconst 1, 1) := by decide +kernel
theorem d_law_199 : decode code 199 = .ok (.iadd, 1) := by decide +kernel
theorem d_law_200 : decode code 200 = .ok (.iaload, 1) := by decide +kernel
theorem d_law_201 : decode code 201 = .ok (.invokevirtual 36, 3) := by decide +kernel
theorem d_law_204 : decode code 204 = .ok (.aload_n 2, 1) := by decide +kernel
theorem d_law_205 : decode code 205 = .ok (.aload_n 0, 1) := by decide +kernel
theorem d_law_206 : decode code 206 = .ok (.iload_n 3, 1) := by decide +kernel
theorem d_law_207 : decode code 207 = .ok (.iconst 1, 1) := by decide +kernel
theorem d_law_208 : decode code 208 = .ok (.iadd, 1) := by decide +kernel
theorem d_law_209 : decode code 209 = .ok (.iaload, 1) := by decide +kernel
theorem d_law_210 : decode code 210 = .ok (.invokevirtual 39, 3) := by decide +kernel
theorem d_law_213 : decode code 213 = .ok (.if_icmp .eq 100, 3) := by decide +kernel
theorem d_law_216 : decode code 216 = .ok (.iconst 0, 1) := by decide +kernel
theorem d_law_217 : decode code 217 = .ok (.ireturn, 1) := by decide +kernel
theorem d_law_218 : decode code 218 = .ok (.aload_n 1, 1) := by decide +kernel
theorem d_law_219 : decode code 219 = .ok (.aload_n 0, 1) := by decide +kernel
theorem d_law_220 : decode code 220 = .ok (.iload_n 3, 1) := by decide +kernel
theorem d_law_221 : decode code 221 = .ok (.iconst 1, 1) := by decide +kernel
theorem d_law_222 : decode code 222 = .ok (.iadd, 1) := by decide +kernel
theorem d_law_223 : decode code 223 = .ok (.iaload, 1) := by decide +kernel
theorem d_law_224 : decode code 224 = .ok (.invokevirtual 40, 3) := by decide +kernel
theorem d_law_227 : decode code 227 = .ok (.aload_n 2, 1) := by decide +kernel
theorem d_law_228 : decode code 228 = .ok (.aload_n 0, 1) := by decide +kernel
theorem d_law_229 : decode code 229 = .ok (.iload_n 3, 1) := by decide +kernel
theorem d_law_230 : decode code 230 = .ok (.iconst 1, 1) := by decide +kernel
theorem d_law_231 : decode code 231 = .ok (.iadd, 1) := by decide +kernel
theorem d_law_232 : decode code 232 = .ok (.iaload, 1) := by decide +kernel
theorem d_law_233 : decode code 233 = .ok (.invokevirtual 43, 3) := by decide +kernel
theorem d_law_236 : decode code 236 = .ok (.if_icmp .eq 77, 3) := by decide +kernel
theorem d_law_239 : decode code 239 = .ok (.iconst 0, 1) := by decide +kernel
theorem d_law_240 : decode code 240 = .ok (.ireturn, 1) := by decide +kernel
theorem d_law_241 : decode code 241 = .ok (.aload_n 1, 1) := by decide +kernel
theorem d_law_242 : decode code 242 = .ok (.aload_n 0, 1) := by decide +kernel
theorem d_law_243 : decode code 243 = .ok (.iload_n 3, 1) := by decide +kernel
theorem d_law_244 : decode code 244 = .ok (.iconst 1, 1) := by decide +kernel
theorem d_law_245 : decode code 245 = .ok (.iadd, 1) := by decide +kernel
theorem d_law_246 : decode code 246 = .ok (.iaload, 1) := by decide +kernel
theorem d_law_247 : decode code 247 = .ok (.invokevirtual 44, 3) := by decide +kernel
theorem d_law_250 : decode code 250 = .ok (.aload_n 2, 1) := by decide +kernel
theorem d_law_251 : decode code 251 = .ok (.aload_n 0, 1) := by decide +kernel
theorem d_law_252 : decode code 252 = .ok (.iload_n 3, 1) := by decide +kernel
theorem d_law_253 : decode code 253 = .ok (.iconst 1, 1) := by decide +kernel
theorem d_law_254 : decode code 254 = .ok (.iadd, 1) := by decide +kernel
theorem d_law_255 : decode code 255 = .ok (.iaload, 1) := by decide +kernel
theorem d_law_256 : decode code 256 = .ok (.invokevirtual 47, 3) := by decide +kernel
theorem d_law_259 : decode code 259 = .ok (.if_icmp .eq 54, 3) := by decide +kernel
theorem d_law_262 : decode code 262 = .ok (.iconst 0, 1) := by decide +kernel
theorem d_law_263 : decode code 263 = .ok (.ireturn, 1) := by decide +kernel
theorem d_law_264 : decode code 264 = .ok (.aload_n 1, 1) := by decide +kernel
theorem d_law_265 : decode code 265 = .ok (.aload_n 0, 1) := by decide +kernel
theorem d_law_266 : decode code 266 = .ok (.iload_n 3, 1) := by decide +kernel
theorem d_law_267 : decode code 267 = .ok (.iconst 1, 1) := by decide +kernel
theorem d_law_268 : decode code 268 = .ok (.iadd, 1) := by decide +kernel
theorem d_law_269 : decode code 269 = .ok (.iaload, 1) := by decide +kernel
theorem d_law_270 : decode code 270 = .ok (.invokevirtual 48, 3) := by decide +kernel
theorem d_law_273 : decode code 273 = .ok (.aload_n 2, 1) := by decide +kernel
theorem d_law_274 : decode code 274 = .ok (.aload_n 0, 1) := by decide +kernel
theorem d_law_275 : decode code 275 = .ok (.iload_n 3, 1) := by decide +kernel
theorem d_law_276 : decode code 276 = .ok (.iconst 1, 1) := by decide +kernel
theorem d_law_277 : decode code 277 = .ok (.iadd, 1) := by decide +kernel
theorem d_law_278 : decode code 278 = .ok (.iaload, 1) := by decide +kernel
theorem d_law_279 : decode code 279 = .ok (.invokevirtual 51, 3) := by decide +kernel
theorem d_law_282 : decode code 282 = .ok (.if_icmp .eq 31, 3) := by decide +kernel
theorem d_law_285 : decode code 285 = .ok (.iconst 0, 1) := by decide +kernel
theorem d_law_286 : decode code 286 = .ok (.ireturn, 1) := by decide +kernel
theorem d_law_287 : decode code 287 = .ok (.aload_n 1, 1) := by decide +kernel
theorem d_law_288 : decode code 288 = .ok (.invokevirtual 52, 3) := by decide +kernel
theorem d_law_291 : decode code 291 = .ok (.aload_n 2, 1) := by decide +kernel
theorem d_law_292 : decode code 292 = .ok (.invokevirtual 55, 3) := by decide +kernel
theorem d_law_295 : decode code 295 = .ok (.if_icmp .eq 18, 3) := by decide +kernel
theorem d_law_298 : decode code 298 = .ok (.iconst 0, 1) := by decide +kernel
theorem d_law_299 : decode code 299 = .ok (.ireturn, 1) := by decide +kernel
theorem d_law_300 : decode code 300 = .ok (.aload_n 1, 1) := by decide +kernel
theorem d_law_301 : decode code 301 = .ok (.invokevirtual 56, 3) := by decide +kernel
theorem d_law_304 : decode code 304 = .ok (.aload_n 2, 1) := by decide +kernel
theorem d_law_305 : decode code 305 = .ok (.invokevirtual 59, 3) := by decide +kernel
theorem d_law_308 : decode code 308 = .ok (.if_icmp .eq 5, 3) := by decide +kernel
theorem d_law_311 : decode code 311 = .ok (.iconst 0, 1) := by decide +kernel
theorem d_law_312 : decode code 312 = .ok (.ireturn, 1) := by decide +kernel
theorem d_law_313 : decode code 313 = .ok (.iinc 3 3, 3) := by decide +kernel
theorem d_law_316 : decode code 316 = .ok (.goto (-298), 3) := by decide +kernel
theorem d_law_319 : decode code 319 = .ok (.iconst 1, 1) := by decide +kernel
theorem d_law_320 : decode code 320 = .ok (.ireturn, 1) := by decide +kernel
end
section
/-! the pictures: X (the class) and M (the model), as tuples with accessors (x.., m..) and setters (u.., v..) -/
abbrev PX : Type := Nat × Nat × (Nat → Nat) × (Nat → Nat) × (Nat → Nat) × (Nat → Int32) × (Nat → Int32) × (Nat → Nat) × Nat × (Nat → Nat) × Nat × (Nat → Nat) × Nat × (Nat → Nat) × Nat × (Nat → Nat)
def xT (u : PX) : Nat := u.1
def xJ (u : PX) : Nat := u.2.1
def xSz (u : PX) : (Nat → Nat) := u.2.2.1
def xAr (u : PX) : (Nat → Nat) := u.2.2.2.1
def xSt (u : PX) : (Nat → Nat) := u.2.2.2.2.1
def xAd (u : PX) : (Nat → Int32) := u.2.2.2.2.2.1
def xFi (u : PX) : (Nat → Int32) := u.2.2.2.2.2.2.1
def xWk (u : PX) : (Nat → Nat) := u.2.2.2.2.2.2.2.1
def xCt (u : PX) : Nat := u.2.2.2.2.2.2.2.2.1
def xMk (u : PX) : (Nat → Nat) := u.2.2.2.2.2.2.2.2.2.1
def xHp (u : PX) : Nat := u.2.2.2.2.2.2.2.2.2.2.1
def xHj (u : PX) : (Nat → Nat) := u.2.2.2.2.2.2.2.2.2.2.2.1
def xCm (u : PX) : Nat := u.2.2.2.2.2.2.2.2.2.2.2.2.1
def xCj (u : PX) : (Nat → Nat) := u.2.2.2.2.2.2.2.2.2.2.2.2.2.1
def xIl (u : PX) : Nat := u.2.2.2.2.2.2.2.2.2.2.2.2.2.2.1
def xLj (u : PX) : (Nat → Nat) := u.2.2.2.2.2.2.2.2.2.2.2.2.2.2.2
def uT (u : PX) (v : Nat) : PX := (v, u.2)
def uJ (u : PX) (v : Nat) : PX := (u.1, v, u.2.2)
def uSz (u : PX) (v : (Nat → Nat)) : PX := (u.1, u.2.1, v, u.2.2.2)
def uAr (u : PX) (v : (Nat → Nat)) : PX := (u.1, u.2.1, u.2.2.1, v, u.2.2.2.2)
def uSt (u : PX) (v : (Nat → Nat)) : PX := (u.1, u.2.1, u.2.2.1, u.2.2.2.1, v, u.2.2.2.2.2)
def uAd (u : PX) (v : (Nat → Int32)) : PX := (u.1, u.2.1, u.2.2.1, u.2.2.2.1, u.2.2.2.2.1, v, u.2.2.2.2.2.2)
def uFi (u : PX) (v : (Nat → Int32)) : PX := (u.1, u.2.1, u.2.2.1, u.2.2.2.1, u.2.2.2.2.1, u.2.2.2.2.2.1, v, u.2.2.2.2.2.2.2)
def uWk (u : PX) (v : (Nat → Nat)) : PX := (u.1, u.2.1, u.2.2.1, u.2.2.2.1, u.2.2.2.2.1, u.2.2.2.2.2.1, u.2.2.2.2.2.2.1, v, u.2.2.2.2.2.2.2.2)
def uCt (u : PX) (v : Nat) : PX := (u.1, u.2.1, u.2.2.1, u.2.2.2.1, u.2.2.2.2.1, u.2.2.2.2.2.1, u.2.2.2.2.2.2.1, u.2.2.2.2.2.2.2.1, v, u.2.2.2.2.2.2.2.2.2)
def uMk (u : PX) (v : (Nat → Nat)) : PX := (u.1, u.2.1, u.2.2.1, u.2.2.2.1, u.2.2.2.2.1, u.2.2.2.2.2.1, u.2.2.2.2.2.2.1, u.2.2.2.2.2.2.2.1, u.2.2.2.2.2.2.2.2.1, v, u.2.2.2.2.2.2.2.2.2.2)
def uHp (u : PX) (v : Nat) : PX := (u.1, u.2.1, u.2.2.1, u.2.2.2.1, u.2.2.2.2.1, u.2.2.2.2.2.1, u.2.2.2.2.2.2.1, u.2.2.2.2.2.2.2.1, u.2.2.2.2.2.2.2.2.1, u.2.2.2.2.2.2.2.2.2.1, v, u.2.2.2.2.2.2.2.2.2.2.2)
def uHj (u : PX) (v : (Nat → Nat)) : PX := (u.1, u.2.1, u.2.2.1, u.2.2.2.1, u.2.2.2.2.1, u.2.2.2.2.2.1, u.2.2.2.2.2.2.1, u.2.2.2.2.2.2.2.1, u.2.2.2.2.2.2.2.2.1, u.2.2.2.2.2.2.2.2.2.1, u.2.2.2.2.2.2.2.2.2.2.1, v, u.2.2.2.2.2.2.2.2.2.2.2.2)
def uCm (u : PX) (v : Nat) : PX := (u.1, u.2.1, u.2.2.1, u.2.2.2.1, u.2.2.2.2.1, u.2.2.2.2.2.1, u.2.2.2.2.2.2.1, u.2.2.2.2.2.2.2.1, u.2.2.2.2.2.2.2.2.1, u.2.2.2.2.2.2.2.2.2.1, u.2.2.2.2.2.2.2.2.2.2.1, u.2.2.2.2.2.2.2.2.2.2.2.1, v, u.2.2.2.2.2.2.2.2.2.2.2.2.2)
def uCj (u : PX) (v : (Nat → Nat)) : PX := (u.1, u.2.1, u.2.2.1, u.2.2.2.1, u.2.2.2.2.1, u.2.2.2.2.2.1, u.2.2.2.2.2.2.1, u.2.2.2.2.2.2.2.1, u.2.2.2.2.2.2.2.2.1, u.2.2.2.2.2.2.2.2.2.1, u.2.2.2.2.2.2.2.2.2.2.1, u.2.2.2.2.2.2.2.2.2.2.2.1, u.2.2.2.2.2.2.2.2.2.2.2.2.1, v, u.2.2.2.2.2.2.2.2.2.2.2.2.2.2)
def uIl (u : PX) (v : Nat) : PX := (u.1, u.2.1, u.2.2.1, u.2.2.2.1, u.2.2.2.2.1, u.2.2.2.2.2.1, u.2.2.2.2.2.2.1, u.2.2.2.2.2.2.2.1, u.2.2.2.2.2.2.2.2.1, u.2.2.2.2.2.2.2.2.2.1, u.2.2.2.2.2.2.2.2.2.2.1, u.2.2.2.2.2.2.2.2.2.2.2.1, u.2.2.2.2.2.2.2.2.2.2.2.2.1, u.2.2.2.2.2.2.2.2.2.2.2.2.2.1, v, u.2.2.2.2.2.2.2.2.2.2.2.2.2.2.2)
def uLj (u : PX) (v : (Nat → Nat)) : PX := (u.1, u.2.1, u.2.2.1, u.2.2.2.1, u.2.2.2.2.1, u.2.2.2.2.2.1, u.2.2.2.2.2.2.1, u.2.2.2.2.2.2.2.1, u.2.2.2.2.2.2.2.2.1, u.2.2.2.2.2.2.2.2.2.1, u.2.2.2.2.2.2.2.2.2.2.1, u.2.2.2.2.2.2.2.2.2.2.2.1, u.2.2.2.2.2.2.2.2.2.2.2.2.1, u.2.2.2.2.2.2.2.2.2.2.2.2.2.1, u.2.2.2.2.2.2.2.2.2.2.2.2.2.2.1, v)
abbrev PM : Type := (Nat → Nat) × (Nat → Nat) × (Nat → Nat) × (Nat → Int32) × (Nat → Int32) × (Nat → Nat) × Nat × Nat
def mSz (u : PM) : (Nat → Nat) := u.1
def mAr (u : PM) : (Nat → Nat) := u.2.1
def mWk (u : PM) : (Nat → Nat) := u.2.2.1
def mAd (u : PM) : (Nat → Int32) := u.2.2.2.1
def mFi (u : PM) : (Nat → Int32) := u.2.2.2.2.1
def mGn (u : PM) : (Nat → Nat) := u.2.2.2.2.2.1
def mJ (u : PM) : Nat := u.2.2.2.2.2.2.1
def mT (u : PM) : Nat := u.2.2.2.2.2.2.2
def vSz (u : PM) (v : (Nat → Nat)) : PM := (v, u.2)
def vAr (u : PM) (v : (Nat → Nat)) : PM := (u.1, v, u.2.2)
def vWk (u : PM) (v : (Nat → Nat)) : PM := (u.1, u.2.1, v, u.2.2.2)
def vAd (u : PM) (v : (Nat → Int32)) : PM := (u.1, u.2.1, u.2.2.1, v, u.2.2.2.2)
def vFi (u : PM) (v : (Nat → Int32)) : PM := (u.1, u.2.1, u.2.2.1, u.2.2.2.1, v, u.2.2.2.2.2)
def vGn (u : PM) (v : (Nat → Nat)) : PM := (u.1, u.2.1, u.2.2.1, u.2.2.2.1, u.2.2.2.2.1, v, u.2.2.2.2.2.2)
def vJ (u : PM) (v : Nat) : PM := (u.1, u.2.1, u.2.2.1, u.2.2.2.1, u.2.2.2.2.1, u.2.2.2.2.2.1, v, u.2.2.2.2.2.2.2)
def vT (u : PM) (v : Nat) : PM := (u.1, u.2.1, u.2.2.1, u.2.2.2.1, u.2.2.2.2.1, u.2.2.2.2.2.1, u.2.2.2.2.2.2.1, v)
/-- the fields of the class's object: a 0 is its own cell, a 1 .. a 10 its arrays -/
def fX (a : Nat → Nat) (u : PX) : List Value := [.int (nI (xT u)), .int (nI (xJ u)), .ref (a 1), .ref (a 2), .ref (a 3), .ref (a 4), .ref (a 5), .ref (a 6), .long (lN (xCt u)), .ref (a 7), .int (nI (xHp u)), .ref (a 8), .int (nI (xCm u)), .ref (a 9), .int (nI (xIl u)), .ref (a 10)]
def wX (a : Nat → Nat) (g : Nat → ClassId) (u : PX) : va_W := [(a 0, .inr (0, fX a u)), (a 1, .inl (g 1, 24, .inl (fun j => nI (xSz u j)))), (a 2, .inl (g 2, 24, .inl (fun j => nI (xAr u j)))), (a 3, .inl (g 3, 24, .inl (fun j => nI (xSt u j)))), (a 4, .inl (g 4, 24, .inl (xAd u))), (a 5, .inl (g 5, 24, .inl (xFi u))), (a 6, .inl (g 6, 24, .inl (fun j => nI (xWk u j)))), (a 7, .inl (g 7, 24, .inr (.inl (fun j => lN (xMk u j))))), (a 8, .inl (g 8, 8, .inl (fun j => nI (xHj u j)))), (a 9, .inl (g 9, 24, .inl (fun j => nI (xCj u j)))), (a 10, .inl (g 10, 24, .inl (fun j => nI (xLj u j))))]
def tX (g : Nat → ClassId) : List (ClassId × FieldType) := [(g 1, .int), (g 2, .int), (g 3, .int), (g 4, .int), (g 5, .int), (g 6, .int), (g 7, .long), (g 8, .int), (g 9, .int), (g 10, .int)]
def fM (a : Nat → Nat) (u : PM) : List Value := [.ref (a 1), .ref (a 2), .ref (a 3), .ref (a 4), .ref (a 5), .ref (a 6), .int (nI (mJ u)), .int (nI (mT u))]
def wM (a : Nat → Nat) (g : Nat → ClassId) (u : PM) : va_W := [(a 0, .inr (1, fM a u)), (a 1, .inl (g 1, 24, .inl (fun j => nI (mSz u j)))), (a 2, .inl (g 2, 24, .inl (fun j => nI (mAr u j)))), (a 3, .inl (g 3, 24, .inl (fun j => nI (mWk u j)))), (a 4, .inl (g 4, 24, .inl (mAd u))), (a 5, .inl (g 5, 24, .inl (mFi u))), (a 6, .inl (g 6, 24, .inl (fun j => nI (mGn u j))))]
def tM (g : Nat → ClassId) : List (ClassId × FieldType) := [(g 1, .int), (g 2, .int), (g 3, .int), (g 4, .int), (g 5, .int), (g 6, .boolean)]
/-- the room of a method that calls d deep -/
def rd (d : Nat) : Room := { frames := d, cells := 0, slots := 0, locals := 30 * d }
/-- the world ws in heap H of a method that began at H0, in one word -/
def wB (D : va_G) (tys : List (ClassId × FieldType)) (s : State) (A : Nat → Prop) (H0 : Heap) (ws : va_W) (H : Heap) (locs : List Loc) : Prop := va_P D classes ws H ∧ va_D A ws ∧ va_S A H0 H locs ∧ va_K D classes tys s ∧ ∀ q, H0.size ≤ q → A q
/-- contracts over a picture S, its cells w : S → va_W: an int's (MetI) and a void one's (MetV) -/
def wPc {S : Type} (D : va_G) (tys : List (ClassId × FieldType)) (w : S → va_W) (As : List Value) (u : S) (sz : Nat) : Array Value → State → Prop := va_Pc As (fun U => U.heap.size = sz ∧ va_P D classes (w u) U.heap ∧ va_K D classes tys U ∧ va_D (fun _ => True) (w u))
def wAt {S : Type} (D : va_G) (tys : List (ClassId × FieldType)) (w : S → va_W) (A : Nat → Prop) (u : S) (t : State) : Prop := va_P D classes (w u) t.heap ∧ va_K D classes tys t ∧ va_D A (w u)
def MetI {S : Type} (l : Launch) (y : MethodName) (b : ByteArray) (n : Nat) (r : Option FieldType) (d : Nat) (D : va_G) (tys : List (ClassId × FieldType)) (w : S → va_W) (As : List Value) (u : S) (post : Int32 → S → Prop) : Prop :=
  ∀ sz, Met l y (Cond.code y b n r :: lw_ws) (rd d) (wPc D tys w As u sz) (va_Qi post (wAt D tys w (va_A (w u) sz)) (va_A (w u) sz)) 0 0 (va_A (w u) sz)
def MetV {S : Type} (l : Launch) (y : MethodName) (b : ByteArray) (n : Nat) (d : Nat) (D : va_G) (tys : List (ClassId × FieldType)) (w : S → va_W) (As : List Value) (u : S) (post : S → Prop) : Prop :=
  ∀ sz, Met l y (Cond.code y b n none :: lw_ws) (rd d) (wPc D tys w As u sz) (va_Qv post (wAt D tys w (va_A (w u) sz)) (va_A (w u) sz)) 0 0 (va_A (w u) sz)
theorem gin_cons {y y2 : MethodName} {b b2 : ByteArray} {n n2 : Nat} {r r2 : Option FieldType} (h : Cond.code y2 b2 n2 r2 ∈ lw_ws) : GoodIn (Cond.code y b n r :: lw_ws) (Cond.code y2 b2 n2 r2 :: lw_ws) := by
  intro w hw
  rcases List.mem_cons.mp hw with rfl | hw
  · exact ⟨List.mem_cons_of_mem _ h, good_of_word (gw_good h)⟩
  · exact ⟨List.mem_cons_of_mem _ hw, good_of_word (gw_good hw)⟩
theorem gin_ws {y2 : MethodName} {b2 : ByteArray} {n2 : Nat} {r2 : Option FieldType} (h : Cond.code y2 b2 n2 r2 ∈ lw_ws) : GoodIn lw_ws (Cond.code y2 b2 n2 r2 :: lw_ws) := by
  intro w hw
  rcases List.mem_cons.mp hw with rfl | hw
  · exact ⟨h, good_of_word (gw_good h)⟩
  · exact ⟨hw, good_of_word (gw_good hw)⟩
section KR
variable {p : Program} {l : Launch} {e : Env} {R : Room} {s : State} {m : MethodId} {args : Array Value} {below : List Frame} {meth : Method} {c : Code} {H : Heap} {locs : List Loc} {cells slots : Nat} {Q : State → Prop}
variable {cc : ByteArray} {nL pc : Nat} {ls : Array Slot} {rest : List Value} {own : String} {D : va_G} {A : Nat → Prop} {tys : List (ClassId × FieldType)} {ws : va_W} {H0 : Heap}
theorem k_iconst (E : CallFix p m c cc nL s args lw_ws own) {n : Int} (v : Nat) (hdg : decode cc pc = .ok (.iconst n, 1)) (hv : Int32.ofInt n = nI v) (kk : W p l e R s m args below meth c H locs cells slots Q (F0 m (pc + 1) ls (.int (nI v) :: rest))) : W p l e R s m args below meth c H locs cells slots Q (F0 m pc ls (rest)) := lv_iconst E.1 E.2.1 hdg hv kk
theorem k_bipush (E : CallFix p m c cc nL s args lw_ws own) {n : Int} (v : Nat) (hdg : decode cc pc = .ok (.bipush n, 2)) (hv : (Int8.ofInt n).toInt32 = nI v) (kk : W p l e R s m args below meth c H locs cells slots Q (F0 m (pc + 2) ls (.int (nI v) :: rest))) : W p l e R s m args below meth c H locs cells slots Q (F0 m pc ls (rest)) := lv_bipush E.1 E.2.1 hdg hv kk
theorem k_sipush (E : CallFix p m c cc nL s args lw_ws own) {n : Int} (v : Nat) (hdg : decode cc pc = .ok (.sipush n, 3)) (hv : (Int16.ofInt n).toInt32 = nI v) (kk : W p l e R s m args below meth c H locs cells slots Q (F0 m (pc + 3) ls (.int (nI v) :: rest))) : W p l e R s m args below meth c H locs cells slots Q (F0 m pc ls (rest)) := lv_sipush E.1 E.2.1 hdg hv kk
theorem k_iadd (E : CallFix p m c cc nL s args lw_ws own) {x y : Nat} (hdg : decode cc pc = .ok (.iadd, 1)) (kk : W p l e R s m args below meth c H locs cells slots Q (F0 m (pc + 1) ls (.int (nI (x + y)) :: rest))) : W p l e R s m args below meth c H locs cells slots Q (F0 m pc ls (.int (nI y) :: .int (nI x) :: rest)) := lv_iadd E.1 E.2.1 hdg (by rw [nI_add]; exact kk)
theorem k_imul (E : CallFix p m c cc nL s args lw_ws own) {x y : Nat} (hdg : decode cc pc = .ok (.imul, 1)) (kk : W p l e R s m args below meth c H locs cells slots Q (F0 m (pc + 1) ls (.int (nI (x * y)) :: rest))) : W p l e R s m args below meth c H locs cells slots Q (F0 m pc ls (.int (nI y) :: .int (nI x) :: rest)) := lv_imul E.1 E.2.1 hdg (by rw [pk_mul]; exact kk)
theorem k_isub (E : CallFix p m c cc nL s args lw_ws own) {x y : Nat} (h : y ≤ x) (hdg : decode cc pc = .ok (.isub, 1)) (kk : W p l e R s m args below meth c H locs cells slots Q (F0 m (pc + 1) ls (.int (nI (x - y)) :: rest))) : W p l e R s m args below meth c H locs cells slots Q (F0 m pc ls (.int (nI y) :: .int (nI x) :: rest)) := lv_isub E.1 E.2.1 hdg (by rw [pk_sub h]; exact kk)
theorem k_idiv (E : CallFix p m c cc nL s args lw_ws own) {x y : Nat} (hx : x < 2 ^ 31) (h0 : 0 < y) (hy : y < 2 ^ 31) (hdg : decode cc pc = .ok (.idiv, 1)) (kk : W p l e R s m args below meth c H locs cells slots Q (F0 m (pc + 1) ls (.int (nI (x / y)) :: rest))) : W p l e R s m args below meth c H locs cells slots Q (F0 m pc ls (.int (nI y) :: .int (nI x) :: rest)) := lv_idiv E.1 E.2.1 hdg (nI_ne0 h0 hy) (by rw [pk_div hx h0 hy]; exact kk)
theorem k_ladd (E : CallFix p m c cc nL s args lw_ws own) {x y : Nat} (hdg : decode cc pc = .ok (.ladd, 1)) (kk : W p l e R s m args below meth c H locs cells slots Q (F0 m (pc + 1) ls (.long (lN (x + y)) :: rest))) : W p l e R s m args below meth c H locs cells slots Q (F0 m pc ls (.long (lN y) :: .long (lN x) :: rest)) := lv_ladd E.1 E.2.1 hdg (by rw [lN_add]; exact kk)
theorem k_lmul (E : CallFix p m c cc nL s args lw_ws own) {x y : Nat} (hdg : decode cc pc = .ok (.lmul, 1)) (kk : W p l e R s m args below meth c H locs cells slots Q (F0 m (pc + 1) ls (.long (lN (x * y)) :: rest))) : W p l e R s m args below meth c H locs cells slots Q (F0 m pc ls (.long (lN y) :: .long (lN x) :: rest)) := lv_lmul E.1 E.2.1 hdg (by rw [lN_mul]; exact kk)
theorem k_lsub (E : CallFix p m c cc nL s args lw_ws own) {x y : Nat} (h : y ≤ x) (hdg : decode cc pc = .ok (.lsub, 1)) (kk : W p l e R s m args below meth c H locs cells slots Q (F0 m (pc + 1) ls (.long (lN (x - y)) :: rest))) : W p l e R s m args below meth c H locs cells slots Q (F0 m pc ls (.long (lN y) :: .long (lN x) :: rest)) := lv_lsub E.1 E.2.1 hdg (by rw [lN_sub h]; exact kk)
theorem k_ldiv (E : CallFix p m c cc nL s args lw_ws own) {x y : Nat} (hx : x < 2 ^ 63) (h0 : 0 < y) (hy : y < 2 ^ 63) (hdg : decode cc pc = .ok (.ldiv, 1)) (kk : W p l e R s m args below meth c H locs cells slots Q (F0 m (pc + 1) ls (.long (lN (x / y)) :: rest))) : W p l e R s m args below meth c H locs cells slots Q (F0 m pc ls (.long (lN y) :: .long (lN x) :: rest)) := lv_ldiv E.1 E.2.1 hdg (fun q => absurd ((pk_lEQ hy (by decide)).mp (q.trans (show (0 : Int64) = lN 0 from rfl))) (by omega)) (by rw [pk_lDiv hx h0 hy]; exact kk)
theorem k_i2l (E : CallFix p m c cc nL s args lw_ws own) {x : Nat} (hx : x < 2 ^ 31) (hdg : decode cc pc = .ok (.i2l, 1)) (kk : W p l e R s m args below meth c H locs cells slots Q (F0 m (pc + 1) ls (.long (lN x) :: rest))) : W p l e R s m args below meth c H locs cells slots Q (F0 m pc ls (.int (nI x) :: rest)) := lv_i2l E.1 E.2.1 hdg (nI_l hx) kk
theorem k_l2i (E : CallFix p m c cc nL s args lw_ws own) {x : Nat} (hdg : decode cc pc = .ok (.l2i, 1)) (kk : W p l e R s m args below meth c H locs cells slots Q (F0 m (pc + 1) ls (.int (nI x) :: rest))) : W p l e R s m args below meth c H locs cells slots Q (F0 m pc ls (.long (lN x) :: rest)) := lv_l2i E.1 E.2.1 hdg (lN_i x) kk
theorem k_dup (E : CallFix p m c cc nL s args lw_ws own) {v : Value} (hv : v.category = 1) (hdg : decode cc pc = .ok (.dup, 1)) (kk : W p l e R s m args below meth c H locs cells slots Q (F0 m (pc + 1) ls (v :: v :: rest))) : W p l e R s m args below meth c H locs cells slots Q (F0 m pc ls (v :: rest)) := lv_dup E.1 E.2.1 hdg hv kk
theorem k_icmp_eq (E : CallFix p m c cc nL s args lw_ws own) {x y : Nat} {off : Int} (tgt : Nat) (hx : x < 2 ^ 31) (hy : y < 2 ^ 31) (hdg : decode cc pc = .ok (.if_icmp .eq off, 3)) (ht : (pc : Int) + off = (tgt : Int)) (kt : x = y → W p l e R s m args below meth c H locs cells slots Q (F0 m tgt ls rest)) (kf : x ≠ y → W p l e R s m args below meth c H locs cells slots Q (F0 m (pc + 3) ls rest)) : W p l e R s m args below meth c H locs cells slots Q (F0 m pc ls (.int (nI y) :: .int (nI x) :: rest)) := lv_icmp_eq E.1 E.2.1 hdg ht (fun h => kt ((nI_eq hx hy).mp h)) (fun h => kf (fun q => h ((nI_eq hx hy).mpr q)))
theorem k_icmp_ne (E : CallFix p m c cc nL s args lw_ws own) {x y : Nat} {off : Int} (tgt : Nat) (hx : x < 2 ^ 31) (hy : y < 2 ^ 31) (hdg : decode cc pc = .ok (.if_icmp .ne off, 3)) (ht : (pc : Int) + off = (tgt : Int)) (kt : x ≠ y → W p l e R s m args below meth c H locs cells slots Q (F0 m tgt ls rest)) (kf : x = y → W p l e R s m args below meth c H locs cells slots Q (F0 m (pc + 3) ls rest)) : W p l e R s m args below meth c H locs cells slots Q (F0 m pc ls (.int (nI y) :: .int (nI x) :: rest)) := lv_icmp_ne E.1 E.2.1 hdg ht (fun h => kt (fun q => h ((nI_eq hx hy).mpr q))) (fun h => kf ((nI_eq hx hy).mp h))
theorem k_icmp_lt (E : CallFix p m c cc nL s args lw_ws own) {x y : Nat} {off : Int} (tgt : Nat) (hx : x < 2 ^ 31) (hy : y < 2 ^ 31) (hdg : decode cc pc = .ok (.if_icmp .lt off, 3)) (ht : (pc : Int) + off = (tgt : Int)) (kt : x < y → W p l e R s m args below meth c H locs cells slots Q (F0 m tgt ls rest)) (kf : y ≤ x → W p l e R s m args below meth c H locs cells slots Q (F0 m (pc + 3) ls rest)) : W p l e R s m args below meth c H locs cells slots Q (F0 m pc ls (.int (nI y) :: .int (nI x) :: rest)) := lv_icmp_lt E.1 E.2.1 hdg ht (fun h => kt ((nI_ltI hx hy).mp h)) (fun h => kf (Nat.not_lt.mp (fun q => h ((nI_ltI hx hy).mpr q))))
theorem k_icmp_ge (E : CallFix p m c cc nL s args lw_ws own) {x y : Nat} {off : Int} (tgt : Nat) (hx : x < 2 ^ 31) (hy : y < 2 ^ 31) (hdg : decode cc pc = .ok (.if_icmp .ge off, 3)) (ht : (pc : Int) + off = (tgt : Int)) (kt : y ≤ x → W p l e R s m args below meth c H locs cells slots Q (F0 m tgt ls rest)) (kf : x < y → W p l e R s m args below meth c H locs cells slots Q (F0 m (pc + 3) ls rest)) : W p l e R s m args below meth c H locs cells slots Q (F0 m pc ls (.int (nI y) :: .int (nI x) :: rest)) := lv_icmp_ge E.1 E.2.1 hdg ht (fun h => kt ((nI_leI hy hx).mp h)) (fun h => kf (Nat.not_le.mp (fun q => h ((nI_leI hy hx).mpr q))))
theorem k_icmp_gt (E : CallFix p m c cc nL s args lw_ws own) {x y : Nat} {off : Int} (tgt : Nat) (hx : x < 2 ^ 31) (hy : y < 2 ^ 31) (hdg : decode cc pc = .ok (.if_icmp .gt off, 3)) (ht : (pc : Int) + off = (tgt : Int)) (kt : y < x → W p l e R s m args below meth c H locs cells slots Q (F0 m tgt ls rest)) (kf : x ≤ y → W p l e R s m args below meth c H locs cells slots Q (F0 m (pc + 3) ls rest)) : W p l e R s m args below meth c H locs cells slots Q (F0 m pc ls (.int (nI y) :: .int (nI x) :: rest)) := lv_icmp_gt E.1 E.2.1 hdg ht (fun h => kt ((nI_ltI hy hx).mp h)) (fun h => kf (Nat.not_lt.mp (fun q => h ((nI_ltI hy hx).mpr q))))
theorem k_icmp_le (E : CallFix p m c cc nL s args lw_ws own) {x y : Nat} {off : Int} (tgt : Nat) (hx : x < 2 ^ 31) (hy : y < 2 ^ 31) (hdg : decode cc pc = .ok (.if_icmp .le off, 3)) (ht : (pc : Int) + off = (tgt : Int)) (kt : x ≤ y → W p l e R s m args below meth c H locs cells slots Q (F0 m tgt ls rest)) (kf : y < x → W p l e R s m args below meth c H locs cells slots Q (F0 m (pc + 3) ls rest)) : W p l e R s m args below meth c H locs cells slots Q (F0 m pc ls (.int (nI y) :: .int (nI x) :: rest)) := lv_icmp_le E.1 E.2.1 hdg ht (fun h => kt ((nI_leI hx hy).mp h)) (fun h => kf (Nat.not_le.mp (fun q => h ((nI_leI hx hy).mpr q))))
theorem z0 : 0 < 2 ^ 31 := by decide
theorem k_if_eq (E : CallFix p m c cc nL s args lw_ws own) {x : Nat} {off : Int} (tgt : Nat) (hx : x < 2 ^ 31) (hdg : decode cc pc = .ok (.ifCond .eq off, 3)) (ht : (pc : Int) + off = (tgt : Int)) (kt : x = 0 → W p l e R s m args below meth c H locs cells slots Q (F0 m tgt ls rest)) (kf : x ≠ 0 → W p l e R s m args below meth c H locs cells slots Q (F0 m (pc + 3) ls rest)) : W p l e R s m args below meth c H locs cells slots Q (F0 m pc ls (.int (nI x) :: rest)) := lv_if_eq E.1 E.2.1 hdg ht (fun h => kt ((nI_eq hx z0).mp h)) (fun h => kf (fun q => h ((nI_eq hx z0).mpr q)))
theorem k_if_ne (E : CallFix p m c cc nL s args lw_ws own) {x : Nat} {off : Int} (tgt : Nat) (hx : x < 2 ^ 31) (hdg : decode cc pc = .ok (.ifCond .ne off, 3)) (ht : (pc : Int) + off = (tgt : Int)) (kt : x ≠ 0 → W p l e R s m args below meth c H locs cells slots Q (F0 m tgt ls rest)) (kf : x = 0 → W p l e R s m args below meth c H locs cells slots Q (F0 m (pc + 3) ls rest)) : W p l e R s m args below meth c H locs cells slots Q (F0 m pc ls (.int (nI x) :: rest)) := lv_if_ne E.1 E.2.1 hdg ht (fun h => kt (fun q => h ((nI_eq hx z0).mpr q))) (fun h => kf ((nI_eq hx z0).mp h))
theorem k_if_gt (E : CallFix p m c cc nL s args lw_ws own) {x : Nat} {off : Int} (tgt : Nat) (hx : x < 2 ^ 31) (hdg : decode cc pc = .ok (.ifCond .gt off, 3)) (ht : (pc : Int) + off = (tgt : Int)) (kt : 0 < x → W p l e R s m args below meth c H locs cells slots Q (F0 m tgt ls rest)) (kf : x = 0 → W p l e R s m args below meth c H locs cells slots Q (F0 m (pc + 3) ls rest)) : W p l e R s m args below meth c H locs cells slots Q (F0 m pc ls (.int (nI x) :: rest)) := lv_if_gt E.1 E.2.1 hdg ht (fun h => kt ((nI_ltI z0 hx).mp h)) (fun h => kf (Nat.le_zero.mp (Nat.not_lt.mp (fun q => h ((nI_ltI z0 hx).mpr q)))))
theorem k_if_le (E : CallFix p m c cc nL s args lw_ws own) {x : Nat} {off : Int} (tgt : Nat) (hx : x < 2 ^ 31) (hdg : decode cc pc = .ok (.ifCond .le off, 3)) (ht : (pc : Int) + off = (tgt : Int)) (kt : x = 0 → W p l e R s m args below meth c H locs cells slots Q (F0 m tgt ls rest)) (kf : 0 < x → W p l e R s m args below meth c H locs cells slots Q (F0 m (pc + 3) ls rest)) : W p l e R s m args below meth c H locs cells slots Q (F0 m pc ls (.int (nI x) :: rest)) := lv_if_le E.1 E.2.1 hdg ht (fun h => kt (Nat.le_zero.mp ((nI_leI hx z0).mp h))) (fun h => kf (Nat.not_le.mp (fun q => h ((nI_leI hx z0).mpr q))))
theorem k_if_lt (E : CallFix p m c cc nL s args lw_ws own) {x : Nat} {off : Int} (tgt : Nat) (hx : x < 2 ^ 31) (hdg : decode cc pc = .ok (.ifCond .lt off, 3)) (ht : (pc : Int) + off = (tgt : Int)) (kf : W p l e R s m args below meth c H locs cells slots Q (F0 m (pc + 3) ls rest)) : W p l e R s m args below meth c H locs cells slots Q (F0 m pc ls (.int (nI x) :: rest)) := lv_if_lt E.1 E.2.1 hdg ht (fun h => absurd h (nI_pos hx)) (fun _ => kf)
theorem k_if_ge (E : CallFix p m c cc nL s args lw_ws own) {x : Nat} {off : Int} (tgt : Nat) (hx : x < 2 ^ 31) (hdg : decode cc pc = .ok (.ifCond .ge off, 3)) (ht : (pc : Int) + off = (tgt : Int)) (kt : W p l e R s m args below meth c H locs cells slots Q (F0 m tgt ls rest)) : W p l e R s m args below meth c H locs cells slots Q (F0 m pc ls (.int (nI x) :: rest)) := lv_if_ge E.1 E.2.1 hdg ht (fun _ => kt) (fun h => absurd (nI_pos' hx) h)
theorem k_lcmp_lt (E : CallFix p m c cc nL s args lw_ws own) {x y : Nat} {off : Int} (tgt : Nat) (hx : x < 2 ^ 63) (hy : y < 2 ^ 63) (hdg : decode cc pc = .ok (.lcmp, 1)) (hd2 : decode cc (pc + 1) = .ok (.ifCond .lt off, 3)) (ht : ((pc + 1 : Nat) : Int) + off = (tgt : Int)) (kt : x < y → W p l e R s m args below meth c H locs cells slots Q (F0 m tgt ls rest)) (kf : y ≤ x → W p l e R s m args below meth c H locs cells slots Q (F0 m (pc + 1 + 3) ls rest)) : W p l e R s m args below meth c H locs cells slots Q (F0 m pc ls (.long (lN y) :: .long (lN x) :: rest)) := W.lcmp E.1 E.2.1 hdg (lv_if_lt E.1 E.2.1 hd2 ht (fun h => kt ((pk_lLT hx hy).mp ((lg_cmp_lt _ _).mp h))) (fun h => kf (Nat.not_lt.mp (fun q => h ((lg_cmp_lt _ _).mpr ((pk_lLT hx hy).mpr q))))))
theorem k_lcmp_ne (E : CallFix p m c cc nL s args lw_ws own) {x y : Nat} {off : Int} (tgt : Nat) (hx : x < 2 ^ 63) (hy : y < 2 ^ 63) (hdg : decode cc pc = .ok (.lcmp, 1)) (hd2 : decode cc (pc + 1) = .ok (.ifCond .ne off, 3)) (ht : ((pc + 1 : Nat) : Int) + off = (tgt : Int)) (kt : x ≠ y → W p l e R s m args below meth c H locs cells slots Q (F0 m tgt ls rest)) (kf : x = y → W p l e R s m args below meth c H locs cells slots Q (F0 m (pc + 1 + 3) ls rest)) : W p l e R s m args below meth c H locs cells slots Q (F0 m pc ls (.long (lN y) :: .long (lN x) :: rest)) := W.lcmp E.1 E.2.1 hdg (lv_if_ne E.1 E.2.1 hd2 ht (fun h => kt (fun q => h ((lg_cmp_eq _ _).mpr ((pk_lEQ hx hy).mpr q)))) (fun h => kf ((pk_lEQ hx hy).mp ((lg_cmp_eq _ _).mp h))))
theorem k_lcmp_gt (E : CallFix p m c cc nL s args lw_ws own) {x y : Nat} {off : Int} (tgt : Nat) (hx : x < 2 ^ 63) (hy : y < 2 ^ 63) (hdg : decode cc pc = .ok (.lcmp, 1)) (hd2 : decode cc (pc + 1) = .ok (.ifCond .gt off, 3)) (ht : ((pc + 1 : Nat) : Int) + off = (tgt : Int)) (kt : y < x → W p l e R s m args below meth c H locs cells slots Q (F0 m tgt ls rest)) (kf : x ≤ y → W p l e R s m args below meth c H locs cells slots Q (F0 m (pc + 1 + 3) ls rest)) : W p l e R s m args below meth c H locs cells slots Q (F0 m pc ls (.long (lN y) :: .long (lN x) :: rest)) := W.lcmp E.1 E.2.1 hdg (lv_if_gt E.1 E.2.1 hd2 ht (fun h => kt ((pk_lLT hy hx).mp ((lg_cmp_gt _ _).mp h))) (fun h => kf (Nat.not_lt.mp (fun q => h ((lg_cmp_gt _ _).mpr ((pk_lLT hy hx).mpr q))))))
theorem k_lcmp_ge (E : CallFix p m c cc nL s args lw_ws own) {x y : Nat} {off : Int} (tgt : Nat) (hx : x < 2 ^ 63) (hy : y < 2 ^ 63) (hdg : decode cc pc = .ok (.lcmp, 1)) (hd2 : decode cc (pc + 1) = .ok (.ifCond .ge off, 3)) (ht : ((pc + 1 : Nat) : Int) + off = (tgt : Int)) (kt : y ≤ x → W p l e R s m args below meth c H locs cells slots Q (F0 m tgt ls rest)) (kf : x < y → W p l e R s m args below meth c H locs cells slots Q (F0 m (pc + 1 + 3) ls rest)) : W p l e R s m args below meth c H locs cells slots Q (F0 m pc ls (.long (lN y) :: .long (lN x) :: rest)) := W.lcmp E.1 E.2.1 hdg (lv_if_ge E.1 E.2.1 hd2 ht (fun h => kt ((pk_lLE hy hx).mp ((lg_cmp_ge _ _).mp h))) (fun h => kf (Nat.not_le.mp (fun q => h ((lg_cmp_ge _ _).mpr ((pk_lLE hy hx).mpr q))))))
theorem k_upN {f : Nat → Nat} {i x n : Nat} (hi : i < n) (hn : n < 2 ^ 31) : upd (fun j => nI (f j)) (nI i).toNatClampNeg (nI x) = fun j => nI (va_up f i x j) := by
  rw [nI_clamp (Nat.lt_trans hi hn)]
  funext j
  unfold upd va_up
  split <;> rfl
theorem k_upL {f : Nat → Nat} {i x n : Nat} (hi : i < n) (hn : n < 2 ^ 31) : vp_updL (fun j => lN (f j)) (nI i).toNatClampNeg (lN x) = fun j => lN (va_up f i x j) := by
  rw [nI_clamp (Nat.lt_trans hi hn)]
  funext j
  unfold vp_updL va_up
  split <;> rfl
theorem k_ild (E : CallFix p m c cc nL s args lw_ws own) (B : wB D tys s A H0 ws H locs) (q0 t0 : Nat) {a n i : Nat} {cA : ClassId} {f : Nat → Nat} (ha : ws[q0]? = some (a, .inl (cA, n, .inl (fun j => nI (f j))))) (ht : tys[t0]? = some (cA, .int)) (hi : i < n) (hn : n < 2 ^ 31) (hdg : decode cc pc = .ok (.iaload, 1)) (kk : W p l e R s m args below meth c H locs cells slots Q (F0 m (pc + 1) ls (.int (nI (f i)) :: rest))) : W p l e R s m args below meth c H locs cells slots Q (F0 m pc ls (.int (nI i) :: .ref a :: rest)) := by
  refine va_iald E.1 E.2.1 B.2.2.2.1 B.1 q0 t0 ha ht (vp_in_nI hi hn) hdg ?_
  rw [nI_clamp (Nat.lt_trans hi hn)]
  exact kk
theorem k_ildR (E : CallFix p m c cc nL s args lw_ws own) (B : wB D tys s A H0 ws H locs) (q0 t0 : Nat) {a n i : Nat} {cA : ClassId} {f : Nat → Int32} (ha : ws[q0]? = some (a, .inl (cA, n, .inl f))) (ht : tys[t0]? = some (cA, .int)) (hi : i < n) (hn : n < 2 ^ 31) (hdg : decode cc pc = .ok (.iaload, 1)) (kk : W p l e R s m args below meth c H locs cells slots Q (F0 m (pc + 1) ls (.int (f i) :: rest))) : W p l e R s m args below meth c H locs cells slots Q (F0 m pc ls (.int (nI i) :: .ref a :: rest)) := by
  refine va_iald E.1 E.2.1 B.2.2.2.1 B.1 q0 t0 ha ht (vp_in_nI hi hn) hdg ?_
  rw [nI_clamp (Nat.lt_trans hi hn)]
  exact kk
theorem k_lld (E : CallFix p m c cc nL s args lw_ws own) (B : wB D tys s A H0 ws H locs) (q0 t0 : Nat) {a n i : Nat} {cA : ClassId} {f : Nat → Nat} (ha : ws[q0]? = some (a, .inl (cA, n, .inr (.inl (fun j => lN (f j)))))) (ht : tys[t0]? = some (cA, .long)) (hi : i < n) (hn : n < 2 ^ 31) (hdg : decode cc pc = .ok (.laload, 1)) (kk : W p l e R s m args below meth c H locs cells slots Q (F0 m (pc + 1) ls (.long (lN (f i)) :: rest))) : W p l e R s m args below meth c H locs cells slots Q (F0 m pc ls (.int (nI i) :: .ref a :: rest)) := by
  refine va_lald E.1 E.2.1 B.2.2.2.1 B.1 q0 t0 ha ht (vp_in_nI hi hn) hdg ?_
  rw [nI_clamp (Nat.lt_trans hi hn)]
  exact kk
theorem k_zld (E : CallFix p m c cc nL s args lw_ws own) (B : wB D tys s A H0 ws H locs) (q0 t0 : Nat) {a n i : Nat} {cA : ClassId} {f : Nat → Nat} (ha : ws[q0]? = some (a, .inl (cA, n, .inl (fun j => nI (f j))))) (ht : tys[t0]? = some (cA, .boolean)) (hi : i < n) (hn : n < 2 ^ 31) (hdg : decode cc pc = .ok (.baload, 1)) (kk : W p l e R s m args below meth c H locs cells slots Q (F0 m (pc + 1) ls (.int (nI (f i)) :: rest))) : W p l e R s m args below meth c H locs cells slots Q (F0 m pc ls (.int (nI i) :: .ref a :: rest)) := by
  refine va_zald E.1 E.2.1 B.2.2.2.1 B.1 q0 t0 ha ht (vp_in_nI hi hn) hdg ?_
  rw [nI_clamp (Nat.lt_trans hi hn)]
  exact kk
theorem k_ist (E : CallFix p m c cc nL s args lw_ws own) (B : wB D tys s A H0 ws H locs) (q0 t0 : Nat) {a n i : Nat} {x : Nat} {cA : ClassId} {f : Nat → Nat} {ws' : va_W} (ha : ws[q0]? = some (a, .inl (cA, n, .inl (fun j => nI (f j))))) (ht : tys[t0]? = some (cA, .int)) (hi : i < n) (hn : n < 2 ^ 31)  (hw : ws.set q0 (a, .inl (cA, n, .inl (fun j => nI (va_up f i x j)))) = ws') (hdg : decode cc pc = .ok (.iastore, 1)) (kk : ∀ (H : Heap) (locs : List Loc), wB D tys s A H0 ws' H locs → W p l e R s m args below meth c H locs cells slots Q (F0 m (pc + 1) ls rest)) : W p l e R s m args below meth c H locs cells slots Q (F0 m pc ls (.int (nI x) :: .int (nI i) :: .ref a :: rest)) := by
  refine va_iast E.1 E.2.1 B.2.2.2.1 B.1 B.2.1 B.2.2.1 q0 t0 ha ht (vp_in_nI hi hn) hdg (fun H locs hP hD hS => ?_)
  rw [k_upN hi hn] at hP hD
  exact kk H locs ⟨hw ▸ hP, hw ▸ hD, hS, B.2.2.2.1, B.2.2.2.2⟩
theorem k_istR (E : CallFix p m c cc nL s args lw_ws own) (B : wB D tys s A H0 ws H locs) (q0 t0 : Nat) {a n i : Nat} {x : Int32} {cA : ClassId} {f : Nat → Int32} {ws' : va_W} (ha : ws[q0]? = some (a, .inl (cA, n, .inl f))) (ht : tys[t0]? = some (cA, .int)) (hi : i < n) (hn : n < 2 ^ 31)  (hw : ws.set q0 (a, .inl (cA, n, .inl (upd f i x))) = ws') (hdg : decode cc pc = .ok (.iastore, 1)) (kk : ∀ (H : Heap) (locs : List Loc), wB D tys s A H0 ws' H locs → W p l e R s m args below meth c H locs cells slots Q (F0 m (pc + 1) ls rest)) : W p l e R s m args below meth c H locs cells slots Q (F0 m pc ls (.int x :: .int (nI i) :: .ref a :: rest)) := by
  refine va_iast E.1 E.2.1 B.2.2.2.1 B.1 B.2.1 B.2.2.1 q0 t0 ha ht (vp_in_nI hi hn) hdg (fun H locs hP hD hS => ?_)
  rw [nI_clamp (Nat.lt_trans hi hn)] at hP hD
  exact kk H locs ⟨hw ▸ hP, hw ▸ hD, hS, B.2.2.2.1, B.2.2.2.2⟩
theorem k_lst (E : CallFix p m c cc nL s args lw_ws own) (B : wB D tys s A H0 ws H locs) (q0 t0 : Nat) {a n i : Nat} {x : Nat} {cA : ClassId} {f : Nat → Nat} {ws' : va_W} (ha : ws[q0]? = some (a, .inl (cA, n, .inr (.inl (fun j => lN (f j)))))) (ht : tys[t0]? = some (cA, .long)) (hi : i < n) (hn : n < 2 ^ 31)  (hw : ws.set q0 (a, .inl (cA, n, .inr (.inl (fun j => lN (va_up f i x j))))) = ws') (hdg : decode cc pc = .ok (.lastore, 1)) (kk : ∀ (H : Heap) (locs : List Loc), wB D tys s A H0 ws' H locs → W p l e R s m args below meth c H locs cells slots Q (F0 m (pc + 1) ls rest)) : W p l e R s m args below meth c H locs cells slots Q (F0 m pc ls (.long (lN x) :: .int (nI i) :: .ref a :: rest)) := by
  refine va_last E.1 E.2.1 B.2.2.2.1 B.1 B.2.1 B.2.2.1 q0 t0 ha ht (vp_in_nI hi hn) hdg (fun H locs hP hD hS => ?_)
  rw [k_upL hi hn] at hP hD
  exact kk H locs ⟨hw ▸ hP, hw ▸ hD, hS, B.2.2.2.1, B.2.2.2.2⟩
theorem k_zst (E : CallFix p m c cc nL s args lw_ws own) (B : wB D tys s A H0 ws H locs) (q0 t0 : Nat) {a n i : Nat} {x : Nat} {cA : ClassId} {f : Nat → Nat} {ws' : va_W} (ha : ws[q0]? = some (a, .inl (cA, n, .inl (fun j => nI (f j))))) (ht : tys[t0]? = some (cA, .boolean)) (hi : i < n) (hn : n < 2 ^ 31) (hx : vp_nar .boolean (nI x) = nI x) (hw : ws.set q0 (a, .inl (cA, n, .inl (fun j => nI (va_up f i x j)))) = ws') (hdg : decode cc pc = .ok (.bastore, 1)) (kk : ∀ (H : Heap) (locs : List Loc), wB D tys s A H0 ws' H locs → W p l e R s m args below meth c H locs cells slots Q (F0 m (pc + 1) ls rest)) : W p l e R s m args below meth c H locs cells slots Q (F0 m pc ls (.int (nI x) :: .int (nI i) :: .ref a :: rest)) := by
  refine va_zast E.1 E.2.1 B.2.2.2.1 B.1 B.2.1 B.2.2.1 q0 t0 ha ht (vp_in_nI hi hn) hdg (fun H locs hP hD hS => ?_)
  rw [hx, k_upN hi hn] at hP hD
  exact kk H locs ⟨hw ▸ hP, hw ▸ hD, hS, B.2.2.2.1, B.2.2.2.2⟩
theorem k_getX {a : Nat → Nat} {g : Nat → ClassId} {u : PX} (E : CallFix p m c cc nL s args lw_ws R_X) (B : wB D tys s A H0 (wX a g u) H locs) (k : Nat) (hk : k < 16) {index : Nat} (hl : Cond.fieldLink R_X index R_X (F_X k).2.1 (F_X k).2.2.1 ∈ lw_ws) (hr : (F_X k).1 = R_X) {v : Value} (hv : (fX a u)[k]? = some v) (hdg : decode cc pc = .ok (.getfield index, 3)) (kk : W p l e R s m args below meth c H locs cells slots Q (F0 m (pc + 3) ls (v :: rest))) : W p l e R s m args below meth c H locs cells slots Q (F0 m pc ls (.ref (a 0) :: rest)) :=
  va_get (ref := R_X) E.1 E.2.1 E.2.2.2.2 i_X E.2.2.2.1 B.2.2.2.1 B.1 0 rfl (show classes[0]? = some (R_X, F_X, 16) from rfl) k hk (E.2.2.2.2 _ hl) (fun _ h9 => by rw [hr] at h9; exact h9) hv hdg kk
theorem k_putX {a : Nat → Nat} {g : Nat → ClassId} {u : PX} (u' : PX) (E : CallFix p m c cc nL s args lw_ws R_X) (B : wB D tys s A H0 (wX a g u) H locs) (k : Nat) (hk : k < 16) {index : Nat} (hl : Cond.fieldLink R_X index R_X (F_X k).2.1 (F_X k).2.2.1 ∈ lw_ws) (hr : (F_X k).1 = R_X) (hfin : (F_X k).2.2.2 = false) {v : Value} (hn : narrow (t_X k) v = v) (hfit : fits (t_X k) v = true) (hw : (wX a g u).set 0 (a 0, .inr (0, (fX a u).set k v)) = wX a g u') (hdg : decode cc pc = .ok (.putfield index, 3)) (kk : ∀ (H : Heap) (locs : List Loc), wB D tys s A H0 (wX a g u') H locs → W p l e R s m args below meth c H locs cells slots Q (F0 m (pc + 3) ls rest)) : W p l e R s m args below meth c H locs cells slots Q (F0 m pc ls (v :: .ref (a 0) :: rest)) :=
  va_put (ref := R_X) E.1 E.2.1 E.2.2.2.2 i_X t_X t_X_ok n_X E.2.2.2.1 B.2.2.2.1 B.1 B.2.1 B.2.2.1 0 rfl (show classes[0]? = some (R_X, F_X, 16) from rfl) k hk (E.2.2.2.2 _ hl) (fun _ h9 => by rw [hr] at h9; exact h9) hfin (t_X_ok k hk) hn hfit hk hdg (fun H locs hP hD hS => kk H locs ⟨hw ▸ hP, hw ▸ hD, hS, B.2.2.2.1, B.2.2.2.2⟩)
theorem k_getM {a : Nat → Nat} {g : Nat → ClassId} {u : PM} (E : CallFix p m c cc nL s args lw_ws R_M) (B : wB D tys s A H0 (wM a g u) H locs) (k : Nat) (hk : k < 8) {index : Nat} (hl : Cond.fieldLink R_M index R_M (F_M k).2.1 (F_M k).2.2.1 ∈ lw_ws) (hr : (F_M k).1 = R_M) {v : Value} (hv : (fM a u)[k]? = some v) (hdg : decode cc pc = .ok (.getfield index, 3)) (kk : W p l e R s m args below meth c H locs cells slots Q (F0 m (pc + 3) ls (v :: rest))) : W p l e R s m args below meth c H locs cells slots Q (F0 m pc ls (.ref (a 0) :: rest)) :=
  va_get (ref := R_M) E.1 E.2.1 E.2.2.2.2 i_M E.2.2.2.1 B.2.2.2.1 B.1 0 rfl (show classes[1]? = some (R_M, F_M, 8) from rfl) k hk (E.2.2.2.2 _ hl) (fun _ h9 => by rw [hr] at h9; exact h9) hv hdg kk
theorem k_putM {a : Nat → Nat} {g : Nat → ClassId} {u : PM} (u' : PM) (E : CallFix p m c cc nL s args lw_ws R_M) (B : wB D tys s A H0 (wM a g u) H locs) (k : Nat) (hk : k < 8) {index : Nat} (hl : Cond.fieldLink R_M index R_M (F_M k).2.1 (F_M k).2.2.1 ∈ lw_ws) (hr : (F_M k).1 = R_M) (hfin : (F_M k).2.2.2 = false) {v : Value} (hn : narrow (t_M k) v = v) (hfit : fits (t_M k) v = true) (hw : (wM a g u).set 0 (a 0, .inr (1, (fM a u).set k v)) = wM a g u') (hdg : decode cc pc = .ok (.putfield index, 3)) (kk : ∀ (H : Heap) (locs : List Loc), wB D tys s A H0 (wM a g u') H locs → W p l e R s m args below meth c H locs cells slots Q (F0 m (pc + 3) ls rest)) : W p l e R s m args below meth c H locs cells slots Q (F0 m pc ls (v :: .ref (a 0) :: rest)) :=
  va_put (ref := R_M) E.1 E.2.1 E.2.2.2.2 i_M t_M t_M_ok n_M E.2.2.2.1 B.2.2.2.1 B.1 B.2.1 B.2.2.1 0 rfl (show classes[1]? = some (R_M, F_M, 8) from rfl) k hk (E.2.2.2.2 _ hl) (fun _ h9 => by rw [hr] at h9; exact h9) hfin (t_M_ok k hk) hn hfit hk hdg (fun H locs hP hD hS => kk H locs ⟨hw ▸ hP, hw ▸ hD, hS, B.2.2.2.1, B.2.2.2.2⟩)
end KR
end
section
/-! a contract out of a walk; a call of a contract whose world is the caller's whole world -/
section KC
variable {S : Type} {l : Launch} {y : MethodName} {b : ByteArray} {n d : Nat} {D : va_G} {tys : List (ClassId × FieldType)} {w : S → va_W} {As : List Value} {u : S}
theorem MetI.of {ty : FieldType} {post : Int32 → S → Prop} (hy : plainName y.cls = true) (hn : (lg_sl As).length ≤ n)
    (body : ∀ (p : Program) (e : Env) (s : State) (m : MethodId) (args : Array Value) (below : List Frame) (meth : Method) (c : Code) (A : Nat → Prop) (Q : State → Prop) (ls : Array Slot),
      CallFix p m c b n s args lw_ws y.cls → lv_has ls n (lv_args 0 As) → wB D tys s A s.heap (w u) s.heap [] →
      (∀ (r : Int32) (u' : S) (H : Heap) (locs : List Loc) (pc : Nat) (ls : Array Slot), post r u' → narrow ty (.int r) = .int r → wB D tys s A s.heap (w u') H locs → decode b pc = .ok (.ireturn, 1) → W p l e (rd d) s m args below meth c H locs 0 0 Q (F0 m pc ls [.int r])) →
      W p l e (rd d) s m args below meth c s.heap [] 0 0 Q (F0 m 0 ls [])) : MetI l y b n (some ty) d D tys w As u post := by
  intro sz
  refine Met.ofW (cc := b) (maxL := n) (ret := some ty) hy rfl ?_
  intro p e s m args below meth c s₁ B hml hv
  obtain ⟨rfl, hsz, hP, hK, hD0⟩ := hv
  have hx := B.exec
  have hb := B.bytes
  have hr := B.returns
  have hts := atoms_spec (ws := Cond.code y b n (some ty) :: lw_ws) B.pre
  have hown : s.vm.findClass y.cls = some m.cls := findClass_of_methodNamed B.named
  have hlocks := B.notSynchronized
  subst hsz
  have hD := hD0.self (sz := s.heap.size)
  have hl := lv_entry As (n := n) hn
  rw [lg_entry_eq]
  generalize (lg_sl As ++ List.replicate (n - (lg_sl As).length) Slot.unset).toArray = ls at hl ⊢
  refine body p e s m _ below meth c (va_A (w u) s.heap.size) _ ls ⟨hx, hb, hml, hown, fun q h => hts q (List.mem_cons_of_mem _ h)⟩ hl ⟨hP, hD, va_S.rf, hK, fun q h => Or.inr h⟩ ?_
  intro r u' H locs pc ls hp hnr hB hd
  exact W.zret hx hb hr hnr (fun t ht hW => ⟨⟨r, u', rfl, hp, by rw [ht]; exact hB.1, va_K.moved hW.alike hB.2.2.2.1, hB.2.1⟩, hB.2.2.1.F ht⟩) hB.2.2.1.2.2 hd
theorem MetV.of {post : S → Prop} (hy : plainName y.cls = true) (hn : (lg_sl As).length ≤ n)
    (body : ∀ (p : Program) (e : Env) (s : State) (m : MethodId) (args : Array Value) (below : List Frame) (meth : Method) (c : Code) (A : Nat → Prop) (Q : State → Prop) (ls : Array Slot),
      CallFix p m c b n s args lw_ws y.cls → lv_has ls n (lv_args 0 As) → wB D tys s A s.heap (w u) s.heap [] →
      (∀ (u' : S) (H : Heap) (locs : List Loc) (pc : Nat) (ls : Array Slot), post u' → wB D tys s A s.heap (w u') H locs → decode b pc = .ok (.return_, 1) → W p l e (rd d) s m args below meth c H locs 0 0 Q (F0 m pc ls [])) →
      W p l e (rd d) s m args below meth c s.heap [] 0 0 Q (F0 m 0 ls [])) : MetV l y b n d D tys w As u post := by
  intro sz
  refine Met.ofW (cc := b) (maxL := n) (ret := none) hy rfl ?_
  intro p e s m args below meth c s₁ B hml hv
  obtain ⟨rfl, hsz, hP, hK, hD0⟩ := hv
  have hx := B.exec
  have hb := B.bytes
  have hr := B.returns
  have hts := atoms_spec (ws := Cond.code y b n none :: lw_ws) B.pre
  have hown : s.vm.findClass y.cls = some m.cls := findClass_of_methodNamed B.named
  have hlocks := B.notSynchronized
  subst hsz
  have hD := hD0.self (sz := s.heap.size)
  have hl := lv_entry As (n := n) hn
  rw [lg_entry_eq]
  generalize (lg_sl As ++ List.replicate (n - (lg_sl As).length) Slot.unset).toArray = ls at hl ⊢
  refine body p e s m _ below meth c (va_A (w u) s.heap.size) _ ls ⟨hx, hb, hml, hown, fun q h => hts q (List.mem_cons_of_mem _ h)⟩ hl ⟨hP, hD, va_S.rf, hK, fun q h => Or.inr h⟩ ?_
  intro u' H locs pc ls hp hB hd
  exact W.vret hx hb hr (fun t ht hW => ⟨⟨u', rfl, hp, by rw [ht]; exact hB.1, va_K.moved hW.alike hB.2.2.2.1, hB.2.1⟩, hB.2.2.1.F ht⟩) hB.2.2.1.2.2 hd
end KC
theorem wPc_blind {S : Type} {D : va_G} {tys : List (ClassId × FieldType)} {w : S → va_W} {As : List Value} {u : S} {sz : Nat} : FrameBlind (wPc D tys w As u sz) := fun a U g mk q => by
  obtain ⟨q0, q1, qP, qK, qD⟩ := q
  exact ⟨q0, q1, qP, va_K.moved (u := U) (U := U.calling g mk a) (Vm.Alike.refl U.vm) qK, qD⟩
/-- what a call of y needs of the tables, by name; 'k' counts its parameters -/
def kCall (own C : String) (index : Nat) (y : MethodName) (b : ByteArray) (n : Nat) (r : Option FieldType) (k : Nat) : Prop :=
  Cond.methodLink own index y ∈ lw_ws ∧ Cond.instanceMethod y ∈ lw_ws ∧ Cond.selects C y y ∈ lw_ws ∧ Cond.code y b n r ∈ lw_ws ∧ Cond.initialized C ∈ lw_ws ∧ (y.cls = C ∧ y.cls ≠ "java/lang/invoke/MethodHandle" ∧ y.cls ≠ "java/lang/invoke/VarHandle" ∧ (parseMethodDescriptor y.desc).map (fun d => d.parameters.length) = some k)
section KD
variable {p : Program} {l : Launch} {e : Env} {R : Room} {s : State} {m : MethodId} {args : Array Value} {below : List Frame} {meth : Method} {c : Code} {H : Heap} {locs : List Loc} {cells slots : Nat} {Q : State → Prop}
variable {cc : ByteArray} {nL pc : Nat} {ls : Array Slot} {rest st : List Value} {own : String} {D : va_G} {A : Nat → Prop} {tys : List (ClassId × FieldType)} {H0 : Heap}
variable {S : Type} {y : MethodName} {b : ByteArray} {n d index : Nat} {w : S → va_W} {As : List Value} {u : S} {o : Nat}
theorem kCall.cw {r : Option FieldType} {C : String} {k : Nat} (h : kCall own C index y b n r k) (hts : ∀ w ∈ lw_ws, w.before args s = true) (hroom : d + 1 ≤ R.frames ∧ 8 + (n + 11) + 30 * d ≤ R.locals) : CallW R s args own C index y b n r (Cond.code y b n r :: lw_ws) (rd d) 0 0 k := by
  obtain ⟨h1, h2, h3, h4, h5, h6⟩ := h
  refine cwV k hts ?_ rfl rfl rfl h6 hroom
  intro q hq
  rcases List.mem_append.mp hq with hq | hq
  · have hin : q ∈ lw_ws := by
      rcases List.mem_cons.mp hq with rfl | hq
      · exact h1
      rcases List.mem_cons.mp hq with rfl | hq
      · exact h2
      rcases List.mem_cons.mp hq with rfl | hq
      · exact h3
      rcases List.mem_cons.mp hq with rfl | hq
      · exact h5
      · cases hq
    exact ⟨hin, good_of_word (gw_good hin)⟩
  · exact gin_ws h4 q hq
theorem k_calli {r : Option FieldType} {C : String} {ci : Nat} {T : u_T} {N : Nat} {fs : List Value} {post : Int32 → S → Prop} (E : CallFix p m c cc nL s args lw_ws own) (hM : MetI l y b n r d D tys w (.ref o :: As) u post) (hk : kCall own C index y b n r As.length) (hroom : d + 1 ≤ R.frames ∧ 8 + (n + 11) + 30 * d ≤ R.locals)
    (B : wB D tys s A H0 (w u) H locs) (hc : classes[ci]? = some (C, T, N)) (he : (w u)[0]? = some (o, .inr (ci, fs))) (hsz : ls.size = nL) (hs : st = As.reverse ++ .ref o :: rest) (hcat : (rest.map fun v => v.category).sum ≤ 8) (hdg : decode cc pc = .ok (.invokevirtual index, 3)) (hf : cells + 0 ≤ R.cells ∧ slots + 0 ≤ R.slots)
    (kk : ∀ (r : Int32) (u' : S) (H : Heap) (locs : List Loc), post r u' → wB D tys s A H0 (w u') H locs → W p l e R s m args below meth c H locs cells slots Q (F0 m (pc + 3) ls (.int r :: rest))) : W p l e R s m args below meth c H locs cells slots Q (F0 m pc ls st) := by
  obtain ⟨hP, hD, hS, hK, hA⟩ := B
  have hall : (List.range (w u).length).map (fun i => (w u)[i]?) = (w u).map some := by
    apply List.ext_getElem?
    intro i
    rw [List.getElem?_map, List.getElem?_map]
    by_cases hi : i < (w u).length
    · rw [List.getElem?_range hi]
      simp [hi]
    · rw [List.getElem?_eq_none (by simp; omega), List.getElem?_eq_none (by omega)]
      rfl
  have hFc := va_free (wc := w u) hD hS hA _ hall
  refine va_calli (va_runV (As := As) (rest := rest) E (hM H.size) (hk.cw E.2.2.2.2 hroom) ⟨wPc_blind, va_recv hK hP hc he, fun U hU hW => ⟨rfl, by rw [hU], by rw [hU]; exact hP, va_K.moved hW.alike hK, hD.weaken (fun _ _ _ _ => trivial)⟩⟩ rfl rfl hsz hs (lv_room hcat) hdg hf) hS (fun q _ h => hFc q h) hFc (fun r u' t H1 locs ht hvm hw hB hz1 hk1 hS => ?_)
  obtain ⟨hP1, hK1, hD1⟩ := hB
  rw [ht] at hP1
  exact kk r u' H1 locs hw ⟨hP1, hD1.weaken (fun _ q _ h => hFc q.1 h), hS, hK, hA⟩
theorem k_callv {C : String} {ci : Nat} {T : u_T} {N : Nat} {fs : List Value} {post : S → Prop} (E : CallFix p m c cc nL s args lw_ws own) (hM : MetV l y b n d D tys w (.ref o :: As) u post) (hk : kCall own C index y b n none As.length) (hroom : d + 1 ≤ R.frames ∧ 8 + (n + 11) + 30 * d ≤ R.locals)
    (B : wB D tys s A H0 (w u) H locs) (hc : classes[ci]? = some (C, T, N)) (he : (w u)[0]? = some (o, .inr (ci, fs))) (hsz : ls.size = nL) (hs : st = As.reverse ++ .ref o :: rest) (hcat : (rest.map fun v => v.category).sum ≤ 8) (hdg : decode cc pc = .ok (.invokevirtual index, 3)) (hf : cells + 0 ≤ R.cells ∧ slots + 0 ≤ R.slots)
    (kk : ∀ (u' : S) (H : Heap) (locs : List Loc), post u' → wB D tys s A H0 (w u') H locs → W p l e R s m args below meth c H locs cells slots Q (F0 m (pc + 3) ls rest)) : W p l e R s m args below meth c H locs cells slots Q (F0 m pc ls st) := by
  obtain ⟨hP, hD, hS, hK, hA⟩ := B
  have hall : (List.range (w u).length).map (fun i => (w u)[i]?) = (w u).map some := by
    apply List.ext_getElem?
    intro i
    rw [List.getElem?_map, List.getElem?_map]
    by_cases hi : i < (w u).length
    · rw [List.getElem?_range hi]
      simp [hi]
    · rw [List.getElem?_eq_none (by simp; omega), List.getElem?_eq_none (by omega)]
      rfl
  have hFc := va_free (wc := w u) hD hS hA _ hall
  refine va_callv (va_runV (As := As) (rest := rest) E (hM H.size) (hk.cw E.2.2.2.2 hroom) ⟨wPc_blind, va_recv hK hP hc he, fun U hU hW => ⟨rfl, by rw [hU], by rw [hU]; exact hP, va_K.moved hW.alike hK, hD.weaken (fun _ _ _ _ => trivial)⟩⟩ rfl rfl hsz hs (lv_room hcat) hdg hf) hS (fun q _ h => hFc q h) hFc (fun u' t H1 locs ht hvm hw hB hz1 hk1 hS => ?_)
  obtain ⟨hP1, hK1, hD1⟩ := hB
  rw [ht] at hP1
  exact kk u' H1 locs hw ⟨hP1, hD1.weaken (fun _ q _ h => hFc q.1 h), hS, hK, hA⟩
end KD
end
section
theorem kc_law_13 : kCall R_law R_X 13 y_X_submit b_X_submit 5 (some .int) 2 := ⟨wl_law_13, wm_X_submit, ws_X_submit, wk_X_submit, wi_X, by decide +kernel⟩
theorem kc_law_18 : kCall R_law R_X 18 y_X_cancel b_X_cancel 3 (some .int) 1 := ⟨wl_law_18, wm_X_cancel, ws_X_cancel, wk_X_cancel, wi_X, by decide +kernel⟩
theorem kc_X_77 : kCall R_X R_X 77 y_X_noJob b_X_noJob 2 (some .boolean) 1 := ⟨wl_X_77, wm_X_noJob, ws_X_noJob, wk_X_noJob, wi_X, by decide +kernel⟩
theorem kc_X_81 : kCall R_X R_X 81 y_X_had b_X_had 2 (some .int) 1 := ⟨wl_X_81, wm_X_had, ws_X_had, wk_X_had, wi_X, by decide +kernel⟩
theorem kc_X_85 : kCall R_X R_X 85 y_X_leaveComing b_X_leaveComing 4 none 1 := ⟨wl_X_85, wm_X_leaveComing, ws_X_leaveComing, wk_X_leaveComing, wi_X, by decide +kernel⟩
theorem kc_X_88 : kCall R_X R_X 88 y_X_leaveLine b_X_leaveLine 4 none 1 := ⟨wl_X_88, wm_X_leaveLine, ws_X_leaveLine, wk_X_leaveLine, wi_X, by decide +kernel⟩
theorem kc_X_91 : kCall R_X R_X 91 y_X_leaveHeap b_X_leaveHeap 3 none 1 := ⟨wl_X_91, wm_X_leaveHeap, ws_X_leaveHeap, wk_X_leaveHeap, wi_X, by decide +kernel⟩
theorem kc_X_74 : kCall R_X R_X 74 y_X_takeOut b_X_takeOut 4 none 1 := ⟨wl_X_74, wm_X_takeOut, ws_X_takeOut, wk_X_takeOut, wi_X, by decide +kernel⟩
theorem kc_X_55 : kCall R_X R_X 55 y_X_sooner b_X_sooner 3 (some .boolean) 2 := ⟨wl_X_55, wm_X_sooner, ws_X_sooner, wk_X_sooner, wi_X, by decide +kernel⟩
theorem kc_X_59 : kCall R_X R_X 59 y_X_sink b_X_sink 6 none 2 := ⟨wl_X_59, wm_X_sink, ws_X_sink, wk_X_sink, wi_X, by decide +kernel⟩
theorem kc_law_23 : kCall R_law R_X 23 y_X_run b_X_run 5 (some .int) 1 := ⟨wl_law_23, wm_X_run, ws_X_run, wk_X_run, wi_X, by decide +kernel⟩
theorem kc_X_94 : kCall R_X R_X 94 y_X_arrive b_X_arrive 3 none 0 := ⟨wl_X_94, wm_X_arrive, ws_X_arrive, wk_X_arrive, wi_X, by decide +kernel⟩
theorem kc_X_97 : kCall R_X R_X 97 y_X_admit b_X_admit 3 none 0 := ⟨wl_X_97, wm_X_admit, ws_X_admit, wk_X_admit, wi_X, by decide +kernel⟩
theorem kc_X_70 : kCall R_X R_X 70 y_X_push b_X_push 3 none 1 := ⟨wl_X_70, wm_X_push, ws_X_push, wk_X_push, wi_X, by decide +kernel⟩
theorem kc_X_100 : kCall R_X R_X 100 y_X_stretch b_X_stretch 8 (some .int) 1 := ⟨wl_X_100, wm_X_stretch, ws_X_stretch, wk_X_stretch, wi_X, by decide +kernel⟩
theorem kc_X_103 : kCall R_X R_X 103 y_X_complete b_X_complete 3 (some .int) 0 := ⟨wl_X_103, wm_X_complete, ws_X_complete, wk_X_complete, wi_X, by decide +kernel⟩
theorem kc_law_27 : kCall R_law R_X 27 y_X_clear b_X_clear 1 none 0 := ⟨wl_law_27, wm_X_clear, ws_X_clear, wk_X_clear, wi_X, by decide +kernel⟩
theorem kc_law_31 : kCall R_law R_X 31 y_X_now b_X_now 1 (some .int) 0 := ⟨wl_law_31, wm_X_now, ws_X_now, wk_X_now, wi_X, by decide +kernel⟩
theorem kc_law_36 : kCall R_law R_X 36 y_X_state b_X_state 2 (some .int) 1 := ⟨wl_law_36, wm_X_state, ws_X_state, wk_X_state, wi_X, by decide +kernel⟩
theorem kc_law_40 : kCall R_law R_X 40 y_X_had b_X_had 2 (some .int) 1 := ⟨wl_law_40, wm_X_had, ws_X_had, wk_X_had, wi_X, by decide +kernel⟩
theorem kc_law_44 : kCall R_law R_X 44 y_X_admitted b_X_admitted 2 (some .int) 1 := ⟨wl_law_44, wm_X_admitted, ws_X_admitted, wk_X_admitted, wi_X, by decide +kernel⟩
theorem kc_law_48 : kCall R_law R_X 48 y_X_finished b_X_finished 2 (some .int) 1 := ⟨wl_law_48, wm_X_finished, ws_X_finished, wk_X_finished, wi_X, by decide +kernel⟩
theorem kc_law_52 : kCall R_law R_X 52 y_X_served b_X_served 1 (some .int) 0 := ⟨wl_law_52, wm_X_served, ws_X_served, wk_X_served, wi_X, by decide +kernel⟩
theorem kc_law_56 : kCall R_law R_X 56 y_X_waiting b_X_waiting 1 (some .int) 0 := ⟨wl_law_56, wm_X_waiting, ws_X_waiting, wk_X_waiting, wi_X, by decide +kernel⟩
theorem kc_law_17 : kCall R_law R_M 17 y_M_submit b_M_submit 3 (some .int) 2 := ⟨wl_law_17, wm_M_submit, ws_M_submit, wk_M_submit, wi_M, by decide +kernel⟩
theorem kc_law_22 : kCall R_law R_M 22 y_M_cancel b_M_cancel 2 (some .int) 1 := ⟨wl_law_22, wm_M_cancel, ws_M_cancel, wk_M_cancel, wi_M, by decide +kernel⟩
theorem kc_M_37 : kCall R_M R_M 37 y_M_known b_M_known 2 (some .boolean) 1 := ⟨wl_M_37, wm_M_known, ws_M_known, wk_M_known, wi_M, by decide +kernel⟩
theorem kc_law_26 : kCall R_law R_M 26 y_M_run b_M_run 5 (some .int) 1 := ⟨wl_law_26, wm_M_run, ws_M_run, wk_M_run, wi_M, by decide +kernel⟩
theorem kc_M_41 : kCall R_M R_M 41 y_M_anyOpen b_M_anyOpen 2 (some .boolean) 0 := ⟨wl_M_41, wm_M_anyOpen, ws_M_anyOpen, wk_M_anyOpen, wi_M, by decide +kernel⟩
theorem kc_M_45 : kCall R_M R_M 45 y_M_oneTick b_M_oneTick 6 (some .int) 0 := ⟨wl_M_45, wm_M_oneTick, ws_M_oneTick, wk_M_oneTick, wi_M, by decide +kernel⟩
theorem kc_M_56 : kCall R_M R_M 56 y_M_served b_M_served 1 (some .int) 0 := ⟨wl_M_56, wm_M_served, ws_M_served, wk_M_served, wi_M, by decide +kernel⟩
theorem kc_M_49 : kCall R_M R_M 49 y_M_inState b_M_inState 4 (some .int) 1 := ⟨wl_M_49, wm_M_inState, ws_M_inState, wk_M_inState, wi_M, by decide +kernel⟩
theorem kc_M_53 : kCall R_M R_M 53 y_M_state b_M_state 2 (some .int) 1 := ⟨wl_M_53, wm_M_state, ws_M_state, wk_M_state, wi_M, by decide +kernel⟩
theorem kc_M_59 : kCall R_M R_M 59 y_M_front b_M_front 4 (some .int) 0 := ⟨wl_M_59, wm_M_front, ws_M_front, wk_M_front, wi_M, by decide +kernel⟩
theorem kc_law_30 : kCall R_law R_M 30 y_M_clear b_M_clear 1 none 0 := ⟨wl_law_30, wm_M_clear, ws_M_clear, wk_M_clear, wi_M, by decide +kernel⟩
theorem kc_law_35 : kCall R_law R_M 35 y_M_now b_M_now 1 (some .int) 0 := ⟨wl_law_35, wm_M_now, ws_M_now, wk_M_now, wi_M, by decide +kernel⟩
theorem kc_law_39 : kCall R_law R_M 39 y_M_state b_M_state 2 (some .int) 1 := ⟨wl_law_39, wm_M_state, ws_M_state, wk_M_state, wi_M, by decide +kernel⟩
theorem kc_law_43 : kCall R_law R_M 43 y_M_had b_M_had 2 (some .int) 1 := ⟨wl_law_43, wm_M_had, ws_M_had, wk_M_had, wi_M, by decide +kernel⟩
theorem kc_law_47 : kCall R_law R_M 47 y_M_admitted b_M_admitted 2 (some .int) 1 := ⟨wl_law_47, wm_M_admitted, ws_M_admitted, wk_M_admitted, wi_M, by decide +kernel⟩
theorem kc_law_51 : kCall R_law R_M 51 y_M_finished b_M_finished 2 (some .int) 1 := ⟨wl_law_51, wm_M_finished, ws_M_finished, wk_M_finished, wi_M, by decide +kernel⟩
theorem kc_law_55 : kCall R_law R_M 55 y_M_served b_M_served 1 (some .int) 0 := ⟨wl_law_55, wm_M_served, ws_M_served, wk_M_served, wi_M, by decide +kernel⟩
theorem kc_law_59 : kCall R_law R_M 59 y_M_waiting b_M_waiting 1 (some .int) 0 := ⟨wl_law_59, wm_M_waiting, ws_M_waiting, wk_M_waiting, wi_M, by decide +kernel⟩
end
section
/-! the first pure words: 'sooner', a question about a job -/
abbrev soon (mk : Nat → Nat) (i j : Nat) : Prop := mk i < mk j ∨ (mk i = mk j ∧ i < j)
/-- what a question about job j answers: -4 where there is no such job -/
def qry (J : Nat) (j : Int32) (f : Nat → Int32) : Int32 := if j < 0 ∨ nI J ≤ j then -4 else f j.toNatClampNeg
theorem qry_in {J : Nat} {j : Int32} (hJ : J < 2 ^ 31) (h : ¬ (j < 0 ∨ nI J ≤ j)) : ∃ k, k < J ∧ j = nI k := by
  rcases pk_ix j hJ with q | q | q
  · exact absurd (Or.inl q) h
  · exact absurd (Or.inr q) h
  · exact q
theorem qry_at {J k : Nat} {f : Nat → Int32} (hk : k < J) (hJ : J < 2 ^ 31) : qry J (nI k) f = f k := by
  unfold qry
  rw [if_neg, nI_clamp (by omega)]
  rintro (q | q)
  · exact nI_pos (by omega) q
  · exact absurd ((nI_leI (by omega) (by omega)).mp q) (by omega)
theorem qry_no {J : Nat} {j : Int32} {f : Nat → Int32} (h : j < 0 ∨ nI J ≤ j) : qry J j f = -4 := if_pos h
end
section
theorem wX_T (a : Nat → Nat) (g : Nat → ClassId) (u : PX) (v : Nat) : (wX a g u).set 0 (a 0, .inr (0, (fX a u).set 0 (.int (nI v)))) = wX a g (uT u v) := rfl
theorem wX_J (a : Nat → Nat) (g : Nat → ClassId) (u : PX) (v : Nat) : (wX a g u).set 0 (a 0, .inr (0, (fX a u).set 1 (.int (nI v)))) = wX a g (uJ u v) := rfl
theorem wX_Sz (a : Nat → Nat) (g : Nat → ClassId) (u : PX) (f : Nat → Nat) : (wX a g u).set 1 (a 1, .inl (g 1, 24, .inl (fun j => nI (f j)))) = wX a g (uSz u f) := rfl
theorem wX_Ar (a : Nat → Nat) (g : Nat → ClassId) (u : PX) (f : Nat → Nat) : (wX a g u).set 2 (a 2, .inl (g 2, 24, .inl (fun j => nI (f j)))) = wX a g (uAr u f) := rfl
theorem wX_St (a : Nat → Nat) (g : Nat → ClassId) (u : PX) (f : Nat → Nat) : (wX a g u).set 3 (a 3, .inl (g 3, 24, .inl (fun j => nI (f j)))) = wX a g (uSt u f) := rfl
theorem wX_Ad (a : Nat → Nat) (g : Nat → ClassId) (u : PX) (f : Nat → Int32) : (wX a g u).set 4 (a 4, .inl (g 4, 24, .inl f)) = wX a g (uAd u f) := rfl
theorem wX_Fi (a : Nat → Nat) (g : Nat → ClassId) (u : PX) (f : Nat → Int32) : (wX a g u).set 5 (a 5, .inl (g 5, 24, .inl f)) = wX a g (uFi u f) := rfl
theorem wX_Wk (a : Nat → Nat) (g : Nat → ClassId) (u : PX) (f : Nat → Nat) : (wX a g u).set 6 (a 6, .inl (g 6, 24, .inl (fun j => nI (f j)))) = wX a g (uWk u f) := rfl
theorem wX_Ct (a : Nat → Nat) (g : Nat → ClassId) (u : PX) (v : Nat) : (wX a g u).set 0 (a 0, .inr (0, (fX a u).set 8 (.long (lN v)))) = wX a g (uCt u v) := rfl
theorem wX_Mk (a : Nat → Nat) (g : Nat → ClassId) (u : PX) (f : Nat → Nat) : (wX a g u).set 7 (a 7, .inl (g 7, 24, .inr (.inl (fun j => lN (f j))))) = wX a g (uMk u f) := rfl
theorem wX_Hp (a : Nat → Nat) (g : Nat → ClassId) (u : PX) (v : Nat) : (wX a g u).set 0 (a 0, .inr (0, (fX a u).set 10 (.int (nI v)))) = wX a g (uHp u v) := rfl
theorem wX_Hj (a : Nat → Nat) (g : Nat → ClassId) (u : PX) (f : Nat → Nat) : (wX a g u).set 8 (a 8, .inl (g 8, 8, .inl (fun j => nI (f j)))) = wX a g (uHj u f) := rfl
theorem wX_Cm (a : Nat → Nat) (g : Nat → ClassId) (u : PX) (v : Nat) : (wX a g u).set 0 (a 0, .inr (0, (fX a u).set 12 (.int (nI v)))) = wX a g (uCm u v) := rfl
theorem wX_Cj (a : Nat → Nat) (g : Nat → ClassId) (u : PX) (f : Nat → Nat) : (wX a g u).set 9 (a 9, .inl (g 9, 24, .inl (fun j => nI (f j)))) = wX a g (uCj u f) := rfl
theorem wX_Il (a : Nat → Nat) (g : Nat → ClassId) (u : PX) (v : Nat) : (wX a g u).set 0 (a 0, .inr (0, (fX a u).set 14 (.int (nI v)))) = wX a g (uIl u v) := rfl
theorem wX_Lj (a : Nat → Nat) (g : Nat → ClassId) (u : PX) (f : Nat → Nat) : (wX a g u).set 10 (a 10, .inl (g 10, 24, .inl (fun j => nI (f j)))) = wX a g (uLj u f) := rfl
theorem wM_Sz (a : Nat → Nat) (g : Nat → ClassId) (u : PM) (f : Nat → Nat) : (wM a g u).set 1 (a 1, .inl (g 1, 24, .inl (fun j => nI (f j)))) = wM a g (vSz u f) := rfl
theorem wM_Ar (a : Nat → Nat) (g : Nat → ClassId) (u : PM) (f : Nat → Nat) : (wM a g u).set 2 (a 2, .inl (g 2, 24, .inl (fun j => nI (f j)))) = wM a g (vAr u f) := rfl
theorem wM_Wk (a : Nat → Nat) (g : Nat → ClassId) (u : PM) (f : Nat → Nat) : (wM a g u).set 3 (a 3, .inl (g 3, 24, .inl (fun j => nI (f j)))) = wM a g (vWk u f) := rfl
theorem wM_Ad (a : Nat → Nat) (g : Nat → ClassId) (u : PM) (f : Nat → Int32) : (wM a g u).set 4 (a 4, .inl (g 4, 24, .inl f)) = wM a g (vAd u f) := rfl
theorem wM_Fi (a : Nat → Nat) (g : Nat → ClassId) (u : PM) (f : Nat → Int32) : (wM a g u).set 5 (a 5, .inl (g 5, 24, .inl f)) = wM a g (vFi u f) := rfl
theorem wM_Gn (a : Nat → Nat) (g : Nat → ClassId) (u : PM) (f : Nat → Nat) : (wM a g u).set 6 (a 6, .inl (g 6, 24, .inl (fun j => nI (f j)))) = wM a g (vGn u f) := rfl
theorem wM_J (a : Nat → Nat) (g : Nat → ClassId) (u : PM) (v : Nat) : (wM a g u).set 0 (a 0, .inr (1, (fM a u).set 6 (.int (nI v)))) = wM a g (vJ u v) := rfl
theorem wM_T (a : Nat → Nat) (g : Nat → ClassId) (u : PM) (v : Nat) : (wM a g u).set 0 (a 0, .inr (1, (fM a u).set 7 (.int (nI v)))) = wM a g (vT u v) := rfl
theorem xT_uT (U : PX) (v : Nat) : xT (uT U v) = v := rfl
theorem xT_uJ (U : PX) (v : Nat) : xT (uJ U v) = xT U := rfl
theorem xT_uSz (U : PX) (v : Nat → Nat) : xT (uSz U v) = xT U := rfl
theorem xT_uAr (U : PX) (v : Nat → Nat) : xT (uAr U v) = xT U := rfl
theorem xT_uSt (U : PX) (v : Nat → Nat) : xT (uSt U v) = xT U := rfl
theorem xT_uAd (U : PX) (v : Nat → Int32) : xT (uAd U v) = xT U := rfl
theorem xT_uFi (U : PX) (v : Nat → Int32) : xT (uFi U v) = xT U := rfl
theorem xT_uWk (U : PX) (v : Nat → Nat) : xT (uWk U v) = xT U := rfl
theorem xT_uCt (U : PX) (v : Nat) : xT (uCt U v) = xT U := rfl
theorem xT_uMk (U : PX) (v : Nat → Nat) : xT (uMk U v) = xT U := rfl
theorem xT_uHp (U : PX) (v : Nat) : xT (uHp U v) = xT U := rfl
theorem xT_uHj (U : PX) (v : Nat → Nat) : xT (uHj U v) = xT U := rfl
theorem xT_uCm (U : PX) (v : Nat) : xT (uCm U v) = xT U := rfl
theorem xT_uCj (U : PX) (v : Nat → Nat) : xT (uCj U v) = xT U := rfl
theorem xT_uIl (U : PX) (v : Nat) : xT (uIl U v) = xT U := rfl
theorem xT_uLj (U : PX) (v : Nat → Nat) : xT (uLj U v) = xT U := rfl
theorem xJ_uT (U : PX) (v : Nat) : xJ (uT U v) = xJ U := rfl
theorem xJ_uJ (U : PX) (v : Nat) : xJ (uJ U v) = v := rfl
theorem xJ_uSz (U : PX) (v : Nat → Nat) : xJ (uSz U v) = xJ U := rfl
theorem xJ_uAr (U : PX) (v : Nat → Nat) : xJ (uAr U v) = xJ U := rfl
theorem xJ_uSt (U : PX) (v : Nat → Nat) : xJ (uSt U v) = xJ U := rfl
theorem xJ_uAd (U : PX) (v : Nat → Int32) : xJ (uAd U v) = xJ U := rfl
theorem xJ_uFi (U : PX) (v : Nat → Int32) : xJ (uFi U v) = xJ U := rfl
theorem xJ_uWk (U : PX) (v : Nat → Nat) : xJ (uWk U v) = xJ U := rfl
theorem xJ_uCt (U : PX) (v : Nat) : xJ (uCt U v) = xJ U := rfl
theorem xJ_uMk (U : PX) (v : Nat → Nat) : xJ (uMk U v) = xJ U := rfl
theorem xJ_uHp (U : PX) (v : Nat) : xJ (uHp U v) = xJ U := rfl
theorem xJ_uHj (U : PX) (v : Nat → Nat) : xJ (uHj U v) = xJ U := rfl
theorem xJ_uCm (U : PX) (v : Nat) : xJ (uCm U v) = xJ U := rfl
theorem xJ_uCj (U : PX) (v : Nat → Nat) : xJ (uCj U v) = xJ U := rfl
theorem xJ_uIl (U : PX) (v : Nat) : xJ (uIl U v) = xJ U := rfl
theorem xJ_uLj (U : PX) (v : Nat → Nat) : xJ (uLj U v) = xJ U := rfl
theorem xSz_uT (U : PX) (v : Nat) : xSz (uT U v) = xSz U := rfl
theorem xSz_uJ (U : PX) (v : Nat) : xSz (uJ U v) = xSz U := rfl
theorem xSz_uSz (U : PX) (v : Nat → Nat) : xSz (uSz U v) = v := rfl
theorem xSz_uAr (U : PX) (v : Nat → Nat) : xSz (uAr U v) = xSz U := rfl
theorem xSz_uSt (U : PX) (v : Nat → Nat) : xSz (uSt U v) = xSz U := rfl
theorem xSz_uAd (U : PX) (v : Nat → Int32) : xSz (uAd U v) = xSz U := rfl
theorem xSz_uFi (U : PX) (v : Nat → Int32) : xSz (uFi U v) = xSz U := rfl
theorem xSz_uWk (U : PX) (v : Nat → Nat) : xSz (uWk U v) = xSz U := rfl
theorem xSz_uCt (U : PX) (v : Nat) : xSz (uCt U v) = xSz U := rfl
theorem xSz_uMk (U : PX) (v : Nat → Nat) : xSz (uMk U v) = xSz U := rfl
theorem xSz_uHp (U : PX) (v : Nat) : xSz (uHp U v) = xSz U := rfl
theorem xSz_uHj (U : PX) (v : Nat → Nat) : xSz (uHj U v) = xSz U := rfl
theorem xSz_uCm (U : PX) (v : Nat) : xSz (uCm U v) = xSz U := rfl
theorem xSz_uCj (U : PX) (v : Nat → Nat) : xSz (uCj U v) = xSz U := rfl
theorem xSz_uIl (U : PX) (v : Nat) : xSz (uIl U v) = xSz U := rfl
theorem xSz_uLj (U : PX) (v : Nat → Nat) : xSz (uLj U v) = xSz U := rfl
theorem xAr_uT (U : PX) (v : Nat) : xAr (uT U v) = xAr U := rfl
theorem xAr_uJ (U : PX) (v : Nat) : xAr (uJ U v) = xAr U := rfl
theorem xAr_uSz (U : PX) (v : Nat → Nat) : xAr (uSz U v) = xAr U := rfl
theorem xAr_uAr (U : PX) (v : Nat → Nat) : xAr (uAr U v) = v := rfl
theorem xAr_uSt (U : PX) (v : Nat → Nat) : xAr (uSt U v) = xAr U := rfl
theorem xAr_uAd (U : PX) (v : Nat → Int32) : xAr (uAd U v) = xAr U := rfl
theorem xAr_uFi (U : PX) (v : Nat → Int32) : xAr (uFi U v) = xAr U := rfl
theorem xAr_uWk (U : PX) (v : Nat → Nat) : xAr (uWk U v) = xAr U := rfl
theorem xAr_uCt (U : PX) (v : Nat) : xAr (uCt U v) = xAr U := rfl
theorem xAr_uMk (U : PX) (v : Nat → Nat) : xAr (uMk U v) = xAr U := rfl
theorem xAr_uHp (U : PX) (v : Nat) : xAr (uHp U v) = xAr U := rfl
theorem xAr_uHj (U : PX) (v : Nat → Nat) : xAr (uHj U v) = xAr U := rfl
theorem xAr_uCm (U : PX) (v : Nat) : xAr (uCm U v) = xAr U := rfl
theorem xAr_uCj (U : PX) (v : Nat → Nat) : xAr (uCj U v) = xAr U := rfl
theorem xAr_uIl (U : PX) (v : Nat) : xAr (uIl U v) = xAr U := rfl
theorem xAr_uLj (U : PX) (v : Nat → Nat) : xAr (uLj U v) = xAr U := rfl
theorem xSt_uT (U : PX) (v : Nat) : xSt (uT U v) = xSt U := rfl
theorem xSt_uJ (U : PX) (v : Nat) : xSt (uJ U v) = xSt U := rfl
theorem xSt_uSz (U : PX) (v : Nat → Nat) : xSt (uSz U v) = xSt U := rfl
theorem xSt_uAr (U : PX) (v : Nat → Nat) : xSt (uAr U v) = xSt U := rfl
theorem xSt_uSt (U : PX) (v : Nat → Nat) : xSt (uSt U v) = v := rfl
theorem xSt_uAd (U : PX) (v : Nat → Int32) : xSt (uAd U v) = xSt U := rfl
theorem xSt_uFi (U : PX) (v : Nat → Int32) : xSt (uFi U v) = xSt U := rfl
theorem xSt_uWk (U : PX) (v : Nat → Nat) : xSt (uWk U v) = xSt U := rfl
theorem xSt_uCt (U : PX) (v : Nat) : xSt (uCt U v) = xSt U := rfl
theorem xSt_uMk (U : PX) (v : Nat → Nat) : xSt (uMk U v) = xSt U := rfl
theorem xSt_uHp (U : PX) (v : Nat) : xSt (uHp U v) = xSt U := rfl
theorem xSt_uHj (U : PX) (v : Nat → Nat) : xSt (uHj U v) = xSt U := rfl
theorem xSt_uCm (U : PX) (v : Nat) : xSt (uCm U v) = xSt U := rfl
theorem xSt_uCj (U : PX) (v : Nat → Nat) : xSt (uCj U v) = xSt U := rfl
theorem xSt_uIl (U : PX) (v : Nat) : xSt (uIl U v) = xSt U := rfl
theorem xSt_uLj (U : PX) (v : Nat → Nat) : xSt (uLj U v) = xSt U := rfl
theorem xAd_uT (U : PX) (v : Nat) : xAd (uT U v) = xAd U := rfl
theorem xAd_uJ (U : PX) (v : Nat) : xAd (uJ U v) = xAd U := rfl
theorem xAd_uSz (U : PX) (v : Nat → Nat) : xAd (uSz U v) = xAd U := rfl
theorem xAd_uAr (U : PX) (v : Nat → Nat) : xAd (uAr U v) = xAd U := rfl
theorem xAd_uSt (U : PX) (v : Nat → Nat) : xAd (uSt U v) = xAd U := rfl
theorem xAd_uAd (U : PX) (v : Nat → Int32) : xAd (uAd U v) = v := rfl
theorem xAd_uFi (U : PX) (v : Nat → Int32) : xAd (uFi U v) = xAd U := rfl
theorem xAd_uWk (U : PX) (v : Nat → Nat) : xAd (uWk U v) = xAd U := rfl
theorem xAd_uCt (U : PX) (v : Nat) : xAd (uCt U v) = xAd U := rfl
theorem xAd_uMk (U : PX) (v : Nat → Nat) : xAd (uMk U v) = xAd U := rfl
theorem xAd_uHp (U : PX) (v : Nat) : xAd (uHp U v) = xAd U := rfl
theorem xAd_uHj (U : PX) (v : Nat → Nat) : xAd (uHj U v) = xAd U := rfl
theorem xAd_uCm (U : PX) (v : Nat) : xAd (uCm U v) = xAd U := rfl
theorem xAd_uCj (U : PX) (v : Nat → Nat) : xAd (uCj U v) = xAd U := rfl
theorem xAd_uIl (U : PX) (v : Nat) : xAd (uIl U v) = xAd U := rfl
theorem xAd_uLj (U : PX) (v : Nat → Nat) : xAd (uLj U v) = xAd U := rfl
theorem xFi_uT (U : PX) (v : Nat) : xFi (uT U v) = xFi U := rfl
theorem xFi_uJ (U : PX) (v : Nat) : xFi (uJ U v) = xFi U := rfl
theorem xFi_uSz (U : PX) (v : Nat → Nat) : xFi (uSz U v) = xFi U := rfl
theorem xFi_uAr (U : PX) (v : Nat → Nat) : xFi (uAr U v) = xFi U := rfl
theorem xFi_uSt (U : PX) (v : Nat → Nat) : xFi (uSt U v) = xFi U := rfl
theorem xFi_uAd (U : PX) (v : Nat → Int32) : xFi (uAd U v) = xFi U := rfl
theorem xFi_uFi (U : PX) (v : Nat → Int32) : xFi (uFi U v) = v := rfl
theorem xFi_uWk (U : PX) (v : Nat → Nat) : xFi (uWk U v) = xFi U := rfl
theorem xFi_uCt (U : PX) (v : Nat) : xFi (uCt U v) = xFi U := rfl
theorem xFi_uMk (U : PX) (v : Nat → Nat) : xFi (uMk U v) = xFi U := rfl
theorem xFi_uHp (U : PX) (v : Nat) : xFi (uHp U v) = xFi U := rfl
theorem xFi_uHj (U : PX) (v : Nat → Nat) : xFi (uHj U v) = xFi U := rfl
theorem xFi_uCm (U : PX) (v : Nat) : xFi (uCm U v) = xFi U := rfl
theorem xFi_uCj (U : PX) (v : Nat → Nat) : xFi (uCj U v) = xFi U := rfl
theorem xFi_uIl (U : PX) (v : Nat) : xFi (uIl U v) = xFi U := rfl
theorem xFi_uLj (U : PX) (v : Nat → Nat) : xFi (uLj U v) = xFi U := rfl
theorem xWk_uT (U : PX) (v : Nat) : xWk (uT U v) = xWk U := rfl
theorem xWk_uJ (U : PX) (v : Nat) : xWk (uJ U v) = xWk U := rfl
theorem xWk_uSz (U : PX) (v : Nat → Nat) : xWk (uSz U v) = xWk U := rfl
theorem xWk_uAr (U : PX) (v : Nat → Nat) : xWk (uAr U v) = xWk U := rfl
theorem xWk_uSt (U : PX) (v : Nat → Nat) : xWk (uSt U v) = xWk U := rfl
theorem xWk_uAd (U : PX) (v : Nat → Int32) : xWk (uAd U v) = xWk U := rfl
theorem xWk_uFi (U : PX) (v : Nat → Int32) : xWk (uFi U v) = xWk U := rfl
theorem xWk_uWk (U : PX) (v : Nat → Nat) : xWk (uWk U v) = v := rfl
theorem xWk_uCt (U : PX) (v : Nat) : xWk (uCt U v) = xWk U := rfl
theorem xWk_uMk (U : PX) (v : Nat → Nat) : xWk (uMk U v) = xWk U := rfl
theorem xWk_uHp (U : PX) (v : Nat) : xWk (uHp U v) = xWk U := rfl
theorem xWk_uHj (U : PX) (v : Nat → Nat) : xWk (uHj U v) = xWk U := rfl
theorem xWk_uCm (U : PX) (v : Nat) : xWk (uCm U v) = xWk U := rfl
theorem xWk_uCj (U : PX) (v : Nat → Nat) : xWk (uCj U v) = xWk U := rfl
theorem xWk_uIl (U : PX) (v : Nat) : xWk (uIl U v) = xWk U := rfl
theorem xWk_uLj (U : PX) (v : Nat → Nat) : xWk (uLj U v) = xWk U := rfl
theorem xCt_uT (U : PX) (v : Nat) : xCt (uT U v) = xCt U := rfl
theorem xCt_uJ (U : PX) (v : Nat) : xCt (uJ U v) = xCt U := rfl
theorem xCt_uSz (U : PX) (v : Nat → Nat) : xCt (uSz U v) = xCt U := rfl
theorem xCt_uAr (U : PX) (v : Nat → Nat) : xCt (uAr U v) = xCt U := rfl
theorem xCt_uSt (U : PX) (v : Nat → Nat) : xCt (uSt U v) = xCt U := rfl
theorem xCt_uAd (U : PX) (v : Nat → Int32) : xCt (uAd U v) = xCt U := rfl
theorem xCt_uFi (U : PX) (v : Nat → Int32) : xCt (uFi U v) = xCt U := rfl
theorem xCt_uWk (U : PX) (v : Nat → Nat) : xCt (uWk U v) = xCt U := rfl
theorem xCt_uCt (U : PX) (v : Nat) : xCt (uCt U v) = v := rfl
theorem xCt_uMk (U : PX) (v : Nat → Nat) : xCt (uMk U v) = xCt U := rfl
theorem xCt_uHp (U : PX) (v : Nat) : xCt (uHp U v) = xCt U := rfl
theorem xCt_uHj (U : PX) (v : Nat → Nat) : xCt (uHj U v) = xCt U := rfl
theorem xCt_uCm (U : PX) (v : Nat) : xCt (uCm U v) = xCt U := rfl
theorem xCt_uCj (U : PX) (v : Nat → Nat) : xCt (uCj U v) = xCt U := rfl
theorem xCt_uIl (U : PX) (v : Nat) : xCt (uIl U v) = xCt U := rfl
theorem xCt_uLj (U : PX) (v : Nat → Nat) : xCt (uLj U v) = xCt U := rfl
theorem xMk_uT (U : PX) (v : Nat) : xMk (uT U v) = xMk U := rfl
theorem xMk_uJ (U : PX) (v : Nat) : xMk (uJ U v) = xMk U := rfl
theorem xMk_uSz (U : PX) (v : Nat → Nat) : xMk (uSz U v) = xMk U := rfl
theorem xMk_uAr (U : PX) (v : Nat → Nat) : xMk (uAr U v) = xMk U := rfl
theorem xMk_uSt (U : PX) (v : Nat → Nat) : xMk (uSt U v) = xMk U := rfl
theorem xMk_uAd (U : PX) (v : Nat → Int32) : xMk (uAd U v) = xMk U := rfl
theorem xMk_uFi (U : PX) (v : Nat → Int32) : xMk (uFi U v) = xMk U := rfl
theorem xMk_uWk (U : PX) (v : Nat → Nat) : xMk (uWk U v) = xMk U := rfl
theorem xMk_uCt (U : PX) (v : Nat) : xMk (uCt U v) = xMk U := rfl
theorem xMk_uMk (U : PX) (v : Nat → Nat) : xMk (uMk U v) = v := rfl
theorem xMk_uHp (U : PX) (v : Nat) : xMk (uHp U v) = xMk U := rfl
theorem xMk_uHj (U : PX) (v : Nat → Nat) : xMk (uHj U v) = xMk U := rfl
theorem xMk_uCm (U : PX) (v : Nat) : xMk (uCm U v) = xMk U := rfl
theorem xMk_uCj (U : PX) (v : Nat → Nat) : xMk (uCj U v) = xMk U := rfl
theorem xMk_uIl (U : PX) (v : Nat) : xMk (uIl U v) = xMk U := rfl
theorem xMk_uLj (U : PX) (v : Nat → Nat) : xMk (uLj U v) = xMk U := rfl
theorem xHp_uT (U : PX) (v : Nat) : xHp (uT U v) = xHp U := rfl
theorem xHp_uJ (U : PX) (v : Nat) : xHp (uJ U v) = xHp U := rfl
theorem xHp_uSz (U : PX) (v : Nat → Nat) : xHp (uSz U v) = xHp U := rfl
theorem xHp_uAr (U : PX) (v : Nat → Nat) : xHp (uAr U v) = xHp U := rfl
theorem xHp_uSt (U : PX) (v : Nat → Nat) : xHp (uSt U v) = xHp U := rfl
theorem xHp_uAd (U : PX) (v : Nat → Int32) : xHp (uAd U v) = xHp U := rfl
theorem xHp_uFi (U : PX) (v : Nat → Int32) : xHp (uFi U v) = xHp U := rfl
theorem xHp_uWk (U : PX) (v : Nat → Nat) : xHp (uWk U v) = xHp U := rfl
theorem xHp_uCt (U : PX) (v : Nat) : xHp (uCt U v) = xHp U := rfl
theorem xHp_uMk (U : PX) (v : Nat → Nat) : xHp (uMk U v) = xHp U := rfl
theorem xHp_uHp (U : PX) (v : Nat) : xHp (uHp U v) = v := rfl
theorem xHp_uHj (U : PX) (v : Nat → Nat) : xHp (uHj U v) = xHp U := rfl
theorem xHp_uCm (U : PX) (v : Nat) : xHp (uCm U v) = xHp U := rfl
theorem xHp_uCj (U : PX) (v : Nat → Nat) : xHp (uCj U v) = xHp U := rfl
theorem xHp_uIl (U : PX) (v : Nat) : xHp (uIl U v) = xHp U := rfl
theorem xHp_uLj (U : PX) (v : Nat → Nat) : xHp (uLj U v) = xHp U := rfl
theorem xHj_uT (U : PX) (v : Nat) : xHj (uT U v) = xHj U := rfl
theorem xHj_uJ (U : PX) (v : Nat) : xHj (uJ U v) = xHj U := rfl
theorem xHj_uSz (U : PX) (v : Nat → Nat) : xHj (uSz U v) = xHj U := rfl
theorem xHj_uAr (U : PX) (v : Nat → Nat) : xHj (uAr U v) = xHj U := rfl
theorem xHj_uSt (U : PX) (v : Nat → Nat) : xHj (uSt U v) = xHj U := rfl
theorem xHj_uAd (U : PX) (v : Nat → Int32) : xHj (uAd U v) = xHj U := rfl
theorem xHj_uFi (U : PX) (v : Nat → Int32) : xHj (uFi U v) = xHj U := rfl
theorem xHj_uWk (U : PX) (v : Nat → Nat) : xHj (uWk U v) = xHj U := rfl
theorem xHj_uCt (U : PX) (v : Nat) : xHj (uCt U v) = xHj U := rfl
theorem xHj_uMk (U : PX) (v : Nat → Nat) : xHj (uMk U v) = xHj U := rfl
theorem xHj_uHp (U : PX) (v : Nat) : xHj (uHp U v) = xHj U := rfl
theorem xHj_uHj (U : PX) (v : Nat → Nat) : xHj (uHj U v) = v := rfl
theorem xHj_uCm (U : PX) (v : Nat) : xHj (uCm U v) = xHj U := rfl
theorem xHj_uCj (U : PX) (v : Nat → Nat) : xHj (uCj U v) = xHj U := rfl
theorem xHj_uIl (U : PX) (v : Nat) : xHj (uIl U v) = xHj U := rfl
theorem xHj_uLj (U : PX) (v : Nat → Nat) : xHj (uLj U v) = xHj U := rfl
theorem xCm_uT (U : PX) (v : Nat) : xCm (uT U v) = xCm U := rfl
theorem xCm_uJ (U : PX) (v : Nat) : xCm (uJ U v) = xCm U := rfl
theorem xCm_uSz (U : PX) (v : Nat → Nat) : xCm (uSz U v) = xCm U := rfl
theorem xCm_uAr (U : PX) (v : Nat → Nat) : xCm (uAr U v) = xCm U := rfl
theorem xCm_uSt (U : PX) (v : Nat → Nat) : xCm (uSt U v) = xCm U := rfl
theorem xCm_uAd (U : PX) (v : Nat → Int32) : xCm (uAd U v) = xCm U := rfl
theorem xCm_uFi (U : PX) (v : Nat → Int32) : xCm (uFi U v) = xCm U := rfl
theorem xCm_uWk (U : PX) (v : Nat → Nat) : xCm (uWk U v) = xCm U := rfl
theorem xCm_uCt (U : PX) (v : Nat) : xCm (uCt U v) = xCm U := rfl
theorem xCm_uMk (U : PX) (v : Nat → Nat) : xCm (uMk U v) = xCm U := rfl
theorem xCm_uHp (U : PX) (v : Nat) : xCm (uHp U v) = xCm U := rfl
theorem xCm_uHj (U : PX) (v : Nat → Nat) : xCm (uHj U v) = xCm U := rfl
theorem xCm_uCm (U : PX) (v : Nat) : xCm (uCm U v) = v := rfl
theorem xCm_uCj (U : PX) (v : Nat → Nat) : xCm (uCj U v) = xCm U := rfl
theorem xCm_uIl (U : PX) (v : Nat) : xCm (uIl U v) = xCm U := rfl
theorem xCm_uLj (U : PX) (v : Nat → Nat) : xCm (uLj U v) = xCm U := rfl
theorem xCj_uT (U : PX) (v : Nat) : xCj (uT U v) = xCj U := rfl
theorem xCj_uJ (U : PX) (v : Nat) : xCj (uJ U v) = xCj U := rfl
theorem xCj_uSz (U : PX) (v : Nat → Nat) : xCj (uSz U v) = xCj U := rfl
theorem xCj_uAr (U : PX) (v : Nat → Nat) : xCj (uAr U v) = xCj U := rfl
theorem xCj_uSt (U : PX) (v : Nat → Nat) : xCj (uSt U v) = xCj U := rfl
theorem xCj_uAd (U : PX) (v : Nat → Int32) : xCj (uAd U v) = xCj U := rfl
theorem xCj_uFi (U : PX) (v : Nat → Int32) : xCj (uFi U v) = xCj U := rfl
theorem xCj_uWk (U : PX) (v : Nat → Nat) : xCj (uWk U v) = xCj U := rfl
theorem xCj_uCt (U : PX) (v : Nat) : xCj (uCt U v) = xCj U := rfl
theorem xCj_uMk (U : PX) (v : Nat → Nat) : xCj (uMk U v) = xCj U := rfl
theorem xCj_uHp (U : PX) (v : Nat) : xCj (uHp U v) = xCj U := rfl
theorem xCj_uHj (U : PX) (v : Nat → Nat) : xCj (uHj U v) = xCj U := rfl
theorem xCj_uCm (U : PX) (v : Nat) : xCj (uCm U v) = xCj U := rfl
theorem xCj_uCj (U : PX) (v : Nat → Nat) : xCj (uCj U v) = v := rfl
theorem xCj_uIl (U : PX) (v : Nat) : xCj (uIl U v) = xCj U := rfl
theorem xCj_uLj (U : PX) (v : Nat → Nat) : xCj (uLj U v) = xCj U := rfl
theorem xIl_uT (U : PX) (v : Nat) : xIl (uT U v) = xIl U := rfl
theorem xIl_uJ (U : PX) (v : Nat) : xIl (uJ U v) = xIl U := rfl
theorem xIl_uSz (U : PX) (v : Nat → Nat) : xIl (uSz U v) = xIl U := rfl
theorem xIl_uAr (U : PX) (v : Nat → Nat) : xIl (uAr U v) = xIl U := rfl
theorem xIl_uSt (U : PX) (v : Nat → Nat) : xIl (uSt U v) = xIl U := rfl
theorem xIl_uAd (U : PX) (v : Nat → Int32) : xIl (uAd U v) = xIl U := rfl
theorem xIl_uFi (U : PX) (v : Nat → Int32) : xIl (uFi U v) = xIl U := rfl
theorem xIl_uWk (U : PX) (v : Nat → Nat) : xIl (uWk U v) = xIl U := rfl
theorem xIl_uCt (U : PX) (v : Nat) : xIl (uCt U v) = xIl U := rfl
theorem xIl_uMk (U : PX) (v : Nat → Nat) : xIl (uMk U v) = xIl U := rfl
theorem xIl_uHp (U : PX) (v : Nat) : xIl (uHp U v) = xIl U := rfl
theorem xIl_uHj (U : PX) (v : Nat → Nat) : xIl (uHj U v) = xIl U := rfl
theorem xIl_uCm (U : PX) (v : Nat) : xIl (uCm U v) = xIl U := rfl
theorem xIl_uCj (U : PX) (v : Nat → Nat) : xIl (uCj U v) = xIl U := rfl
theorem xIl_uIl (U : PX) (v : Nat) : xIl (uIl U v) = v := rfl
theorem xIl_uLj (U : PX) (v : Nat → Nat) : xIl (uLj U v) = xIl U := rfl
theorem xLj_uT (U : PX) (v : Nat) : xLj (uT U v) = xLj U := rfl
theorem xLj_uJ (U : PX) (v : Nat) : xLj (uJ U v) = xLj U := rfl
theorem xLj_uSz (U : PX) (v : Nat → Nat) : xLj (uSz U v) = xLj U := rfl
theorem xLj_uAr (U : PX) (v : Nat → Nat) : xLj (uAr U v) = xLj U := rfl
theorem xLj_uSt (U : PX) (v : Nat → Nat) : xLj (uSt U v) = xLj U := rfl
theorem xLj_uAd (U : PX) (v : Nat → Int32) : xLj (uAd U v) = xLj U := rfl
theorem xLj_uFi (U : PX) (v : Nat → Int32) : xLj (uFi U v) = xLj U := rfl
theorem xLj_uWk (U : PX) (v : Nat → Nat) : xLj (uWk U v) = xLj U := rfl
theorem xLj_uCt (U : PX) (v : Nat) : xLj (uCt U v) = xLj U := rfl
theorem xLj_uMk (U : PX) (v : Nat → Nat) : xLj (uMk U v) = xLj U := rfl
theorem xLj_uHp (U : PX) (v : Nat) : xLj (uHp U v) = xLj U := rfl
theorem xLj_uHj (U : PX) (v : Nat → Nat) : xLj (uHj U v) = xLj U := rfl
theorem xLj_uCm (U : PX) (v : Nat) : xLj (uCm U v) = xLj U := rfl
theorem xLj_uCj (U : PX) (v : Nat → Nat) : xLj (uCj U v) = xLj U := rfl
theorem xLj_uIl (U : PX) (v : Nat) : xLj (uIl U v) = xLj U := rfl
theorem xLj_uLj (U : PX) (v : Nat → Nat) : xLj (uLj U v) = v := rfl
theorem fX_T {a : Nat → Nat} {U : PX} {e : Nat} (h : xT U = e) : (fX a U)[0]? = some (.int (nI e)) := by
  subst h
  rfl
theorem fX_J {a : Nat → Nat} {U : PX} {e : Nat} (h : xJ U = e) : (fX a U)[1]? = some (.int (nI e)) := by
  subst h
  rfl
theorem aX_Sz {a : Nat → Nat} {g : Nat → ClassId} {U : PX} {f : Nat → Nat} (h : xSz U = f) : (wX a g U)[1]? = some (a 1, .inl (g 1, 24, .inl (fun j => nI (f j)))) := by
  subst h
  rfl
theorem aX_Ar {a : Nat → Nat} {g : Nat → ClassId} {U : PX} {f : Nat → Nat} (h : xAr U = f) : (wX a g U)[2]? = some (a 2, .inl (g 2, 24, .inl (fun j => nI (f j)))) := by
  subst h
  rfl
theorem aX_St {a : Nat → Nat} {g : Nat → ClassId} {U : PX} {f : Nat → Nat} (h : xSt U = f) : (wX a g U)[3]? = some (a 3, .inl (g 3, 24, .inl (fun j => nI (f j)))) := by
  subst h
  rfl
theorem aX_Ad {a : Nat → Nat} {g : Nat → ClassId} {U : PX} {f : Nat → Int32} (h : xAd U = f) : (wX a g U)[4]? = some (a 4, .inl (g 4, 24, .inl f)) := by
  subst h
  rfl
theorem aX_Fi {a : Nat → Nat} {g : Nat → ClassId} {U : PX} {f : Nat → Int32} (h : xFi U = f) : (wX a g U)[5]? = some (a 5, .inl (g 5, 24, .inl f)) := by
  subst h
  rfl
theorem aX_Wk {a : Nat → Nat} {g : Nat → ClassId} {U : PX} {f : Nat → Nat} (h : xWk U = f) : (wX a g U)[6]? = some (a 6, .inl (g 6, 24, .inl (fun j => nI (f j)))) := by
  subst h
  rfl
theorem fX_Ct {a : Nat → Nat} {U : PX} {e : Nat} (h : xCt U = e) : (fX a U)[8]? = some (.long (lN e)) := by
  subst h
  rfl
theorem aX_Mk {a : Nat → Nat} {g : Nat → ClassId} {U : PX} {f : Nat → Nat} (h : xMk U = f) : (wX a g U)[7]? = some (a 7, .inl (g 7, 24, .inr (.inl (fun j => lN (f j))))) := by
  subst h
  rfl
theorem fX_Hp {a : Nat → Nat} {U : PX} {e : Nat} (h : xHp U = e) : (fX a U)[10]? = some (.int (nI e)) := by
  subst h
  rfl
theorem aX_Hj {a : Nat → Nat} {g : Nat → ClassId} {U : PX} {f : Nat → Nat} (h : xHj U = f) : (wX a g U)[8]? = some (a 8, .inl (g 8, 8, .inl (fun j => nI (f j)))) := by
  subst h
  rfl
theorem fX_Cm {a : Nat → Nat} {U : PX} {e : Nat} (h : xCm U = e) : (fX a U)[12]? = some (.int (nI e)) := by
  subst h
  rfl
theorem aX_Cj {a : Nat → Nat} {g : Nat → ClassId} {U : PX} {f : Nat → Nat} (h : xCj U = f) : (wX a g U)[9]? = some (a 9, .inl (g 9, 24, .inl (fun j => nI (f j)))) := by
  subst h
  rfl
theorem fX_Il {a : Nat → Nat} {U : PX} {e : Nat} (h : xIl U = e) : (fX a U)[14]? = some (.int (nI e)) := by
  subst h
  rfl
theorem aX_Lj {a : Nat → Nat} {g : Nat → ClassId} {U : PX} {f : Nat → Nat} (h : xLj U = f) : (wX a g U)[10]? = some (a 10, .inl (g 10, 24, .inl (fun j => nI (f j)))) := by
  subst h
  rfl
theorem mSz_vSz (U : PM) (v : Nat → Nat) : mSz (vSz U v) = v := rfl
theorem mSz_vAr (U : PM) (v : Nat → Nat) : mSz (vAr U v) = mSz U := rfl
theorem mSz_vWk (U : PM) (v : Nat → Nat) : mSz (vWk U v) = mSz U := rfl
theorem mSz_vAd (U : PM) (v : Nat → Int32) : mSz (vAd U v) = mSz U := rfl
theorem mSz_vFi (U : PM) (v : Nat → Int32) : mSz (vFi U v) = mSz U := rfl
theorem mSz_vGn (U : PM) (v : Nat → Nat) : mSz (vGn U v) = mSz U := rfl
theorem mSz_vJ (U : PM) (v : Nat) : mSz (vJ U v) = mSz U := rfl
theorem mSz_vT (U : PM) (v : Nat) : mSz (vT U v) = mSz U := rfl
theorem mAr_vSz (U : PM) (v : Nat → Nat) : mAr (vSz U v) = mAr U := rfl
theorem mAr_vAr (U : PM) (v : Nat → Nat) : mAr (vAr U v) = v := rfl
theorem mAr_vWk (U : PM) (v : Nat → Nat) : mAr (vWk U v) = mAr U := rfl
theorem mAr_vAd (U : PM) (v : Nat → Int32) : mAr (vAd U v) = mAr U := rfl
theorem mAr_vFi (U : PM) (v : Nat → Int32) : mAr (vFi U v) = mAr U := rfl
theorem mAr_vGn (U : PM) (v : Nat → Nat) : mAr (vGn U v) = mAr U := rfl
theorem mAr_vJ (U : PM) (v : Nat) : mAr (vJ U v) = mAr U := rfl
theorem mAr_vT (U : PM) (v : Nat) : mAr (vT U v) = mAr U := rfl
theorem mWk_vSz (U : PM) (v : Nat → Nat) : mWk (vSz U v) = mWk U := rfl
theorem mWk_vAr (U : PM) (v : Nat → Nat) : mWk (vAr U v) = mWk U := rfl
theorem mWk_vWk (U : PM) (v : Nat → Nat) : mWk (vWk U v) = v := rfl
theorem mWk_vAd (U : PM) (v : Nat → Int32) : mWk (vAd U v) = mWk U := rfl
theorem mWk_vFi (U : PM) (v : Nat → Int32) : mWk (vFi U v) = mWk U := rfl
theorem mWk_vGn (U : PM) (v : Nat → Nat) : mWk (vGn U v) = mWk U := rfl
theorem mWk_vJ (U : PM) (v : Nat) : mWk (vJ U v) = mWk U := rfl
theorem mWk_vT (U : PM) (v : Nat) : mWk (vT U v) = mWk U := rfl
theorem mAd_vSz (U : PM) (v : Nat → Nat) : mAd (vSz U v) = mAd U := rfl
theorem mAd_vAr (U : PM) (v : Nat → Nat) : mAd (vAr U v) = mAd U := rfl
theorem mAd_vWk (U : PM) (v : Nat → Nat) : mAd (vWk U v) = mAd U := rfl
theorem mAd_vAd (U : PM) (v : Nat → Int32) : mAd (vAd U v) = v := rfl
theorem mAd_vFi (U : PM) (v : Nat → Int32) : mAd (vFi U v) = mAd U := rfl
theorem mAd_vGn (U : PM) (v : Nat → Nat) : mAd (vGn U v) = mAd U := rfl
theorem mAd_vJ (U : PM) (v : Nat) : mAd (vJ U v) = mAd U := rfl
theorem mAd_vT (U : PM) (v : Nat) : mAd (vT U v) = mAd U := rfl
theorem mFi_vSz (U : PM) (v : Nat → Nat) : mFi (vSz U v) = mFi U := rfl
theorem mFi_vAr (U : PM) (v : Nat → Nat) : mFi (vAr U v) = mFi U := rfl
theorem mFi_vWk (U : PM) (v : Nat → Nat) : mFi (vWk U v) = mFi U := rfl
theorem mFi_vAd (U : PM) (v : Nat → Int32) : mFi (vAd U v) = mFi U := rfl
theorem mFi_vFi (U : PM) (v : Nat → Int32) : mFi (vFi U v) = v := rfl
theorem mFi_vGn (U : PM) (v : Nat → Nat) : mFi (vGn U v) = mFi U := rfl
theorem mFi_vJ (U : PM) (v : Nat) : mFi (vJ U v) = mFi U := rfl
theorem mFi_vT (U : PM) (v : Nat) : mFi (vT U v) = mFi U := rfl
theorem mGn_vSz (U : PM) (v : Nat → Nat) : mGn (vSz U v) = mGn U := rfl
theorem mGn_vAr (U : PM) (v : Nat → Nat) : mGn (vAr U v) = mGn U := rfl
theorem mGn_vWk (U : PM) (v : Nat → Nat) : mGn (vWk U v) = mGn U := rfl
theorem mGn_vAd (U : PM) (v : Nat → Int32) : mGn (vAd U v) = mGn U := rfl
theorem mGn_vFi (U : PM) (v : Nat → Int32) : mGn (vFi U v) = mGn U := rfl
theorem mGn_vGn (U : PM) (v : Nat → Nat) : mGn (vGn U v) = v := rfl
theorem mGn_vJ (U : PM) (v : Nat) : mGn (vJ U v) = mGn U := rfl
theorem mGn_vT (U : PM) (v : Nat) : mGn (vT U v) = mGn U := rfl
theorem mJ_vSz (U : PM) (v : Nat → Nat) : mJ (vSz U v) = mJ U := rfl
theorem mJ_vAr (U : PM) (v : Nat → Nat) : mJ (vAr U v) = mJ U := rfl
theorem mJ_vWk (U : PM) (v : Nat → Nat) : mJ (vWk U v) = mJ U := rfl
theorem mJ_vAd (U : PM) (v : Nat → Int32) : mJ (vAd U v) = mJ U := rfl
theorem mJ_vFi (U : PM) (v : Nat → Int32) : mJ (vFi U v) = mJ U := rfl
theorem mJ_vGn (U : PM) (v : Nat → Nat) : mJ (vGn U v) = mJ U := rfl
theorem mJ_vJ (U : PM) (v : Nat) : mJ (vJ U v) = v := rfl
theorem mJ_vT (U : PM) (v : Nat) : mJ (vT U v) = mJ U := rfl
theorem mT_vSz (U : PM) (v : Nat → Nat) : mT (vSz U v) = mT U := rfl
theorem mT_vAr (U : PM) (v : Nat → Nat) : mT (vAr U v) = mT U := rfl
theorem mT_vWk (U : PM) (v : Nat → Nat) : mT (vWk U v) = mT U := rfl
theorem mT_vAd (U : PM) (v : Nat → Int32) : mT (vAd U v) = mT U := rfl
theorem mT_vFi (U : PM) (v : Nat → Int32) : mT (vFi U v) = mT U := rfl
theorem mT_vGn (U : PM) (v : Nat → Nat) : mT (vGn U v) = mT U := rfl
theorem mT_vJ (U : PM) (v : Nat) : mT (vJ U v) = mT U := rfl
theorem mT_vT (U : PM) (v : Nat) : mT (vT U v) = v := rfl
theorem aM_Sz {a : Nat → Nat} {g : Nat → ClassId} {U : PM} {f : Nat → Nat} (h : mSz U = f) : (wM a g U)[1]? = some (a 1, .inl (g 1, 24, .inl (fun j => nI (f j)))) := by
  subst h
  rfl
theorem aM_Ar {a : Nat → Nat} {g : Nat → ClassId} {U : PM} {f : Nat → Nat} (h : mAr U = f) : (wM a g U)[2]? = some (a 2, .inl (g 2, 24, .inl (fun j => nI (f j)))) := by
  subst h
  rfl
theorem aM_Wk {a : Nat → Nat} {g : Nat → ClassId} {U : PM} {f : Nat → Nat} (h : mWk U = f) : (wM a g U)[3]? = some (a 3, .inl (g 3, 24, .inl (fun j => nI (f j)))) := by
  subst h
  rfl
theorem aM_Ad {a : Nat → Nat} {g : Nat → ClassId} {U : PM} {f : Nat → Int32} (h : mAd U = f) : (wM a g U)[4]? = some (a 4, .inl (g 4, 24, .inl f)) := by
  subst h
  rfl
theorem aM_Fi {a : Nat → Nat} {g : Nat → ClassId} {U : PM} {f : Nat → Int32} (h : mFi U = f) : (wM a g U)[5]? = some (a 5, .inl (g 5, 24, .inl f)) := by
  subst h
  rfl
theorem aM_Gn {a : Nat → Nat} {g : Nat → ClassId} {U : PM} {f : Nat → Nat} (h : mGn U = f) : (wM a g U)[6]? = some (a 6, .inl (g 6, 24, .inl (fun j => nI (f j)))) := by
  subst h
  rfl
theorem fM_J {a : Nat → Nat} {U : PM} {e : Nat} (h : mJ U = e) : (fM a U)[6]? = some (.int (nI e)) := by
  subst h
  rfl
theorem fM_T {a : Nat → Nat} {U : PM} {e : Nat} (h : mT U = e) : (fM a U)[7]? = some (.int (nI e)) := by
  subst h
  rfl
end
section
set_option maxHeartbeats 4000000 in
set_option maxRecDepth 100000 in
/-- noJob(job): 1 where the job is none -/
theorem c_X_noJob (l : Launch) (D : va_G) (a : Nat → Nat) (g : Nat → ClassId) (u : PX) (j : Int32) : MetI l y_X_noJob b_X_noJob 2 (some .boolean) 0 D (tX g) (wX a g) [.ref (a 0), .int j] u (fun r u' => u' = u ∧ r = if j < 0 ∨ nI (xJ u) ≤ j then 1 else 0) := by
  refine MetI.of (by decide) (Nat.le_of_ble_eq_true rfl) ?_
  intro p e s m args below meth c A Q ls E hl B ret
  have E : CallFix p m c b_X_noJob 2 s args lw_ws R_X := E
  have hl : lv_has ls 2 [(0, .ref (a 0)), (1, .int j)] := hl
  refine lv_iload_n E.1 E.2.1 d_X_noJob_0 rfl (lv_at hl 1 rfl) ?_
  refine lv_if_lt (tgt := 12) E.1 E.2.1 d_X_noJob_1 (by decide) (fun h1 => ?_) (fun h1 => ?_)
  · skip
    refine k_iconst E 1 d_X_noJob_12 rfl ?_
    refine lv_goto (tgt := 17) E.1 E.2.1 d_X_noJob_13 (by decide) ?_
    exact ret _ _ _ _ _ _ ⟨rfl, (if_pos (Or.inl h1)).symm⟩ rfl B d_X_noJob_17
  · skip
    refine lv_iload_n E.1 E.2.1 d_X_noJob_4 rfl (lv_at hl 1 rfl) ?_
    refine lv_aload_n E.1 E.2.1 d_X_noJob_5 rfl (lv_at hl 0 rfl) ?_
    refine k_getX E B 1 (by decide) wf_X_45 rfl (fX_J rfl) d_X_noJob_6 ?_
    refine lv_icmp_lt (tgt := 16) E.1 E.2.1 d_X_noJob_9 (by decide) (fun h2 => ?_) (fun h2 => ?_)
    · skip
      refine k_iconst E 0 d_X_noJob_16 rfl ?_
      exact ret _ _ _ _ _ _ ⟨rfl, (if_neg (fun q => q.elim h1 (fun q => (Int32.not_le.mpr h2) q))).symm⟩ rfl B d_X_noJob_17
    · skip
      refine k_iconst E 1 d_X_noJob_12 rfl ?_
      refine lv_goto (tgt := 17) E.1 E.2.1 d_X_noJob_13 (by decide) ?_
      exact ret _ _ _ _ _ _ ⟨rfl, (if_pos (Or.inr (Int32.not_lt.mp h2))).symm⟩ rfl B d_X_noJob_17
set_option maxHeartbeats 4000000 in
set_option maxRecDepth 100000 in
/-- sooner(i, j) -/
theorem c_X_sooner (l : Launch) (D : va_G) (a : Nat → Nat) (g : Nat → ClassId) (u : PX) (i j : Nat) (hi : i < 24) (hj : j < 24) (hm : ∀ k, k < 24 → xMk u k < 2 ^ 63) : MetI l y_X_sooner b_X_sooner 3 (some .boolean) 0 D (tX g) (wX a g) [.ref (a 0), .int (nI i), .int (nI j)] u (fun r u' => u' = u ∧ r = nI (if soon (xMk u) i j then 1 else 0)) := by
  refine MetI.of (by decide) (Nat.le_of_ble_eq_true rfl) ?_
  intro p e s m args below meth c A Q ls E hl B ret
  have E : CallFix p m c b_X_sooner 3 s args lw_ws R_X := E
  have hl : lv_has ls 3 [(0, .ref (a 0)), (1, .int (nI i)), (2, .int (nI j))] := hl
  have hmi := hm i hi
  have hmj := hm j hj
  refine lv_aload_n E.1 E.2.1 d_X_sooner_0 rfl (lv_at hl 0 rfl) ?_
  refine k_getX E B 9 (by decide) wf_X_28 rfl rfl d_X_sooner_1 ?_
  refine lv_iload_n E.1 E.2.1 d_X_sooner_4 rfl (lv_at hl 1 rfl) ?_
  refine k_lld E B 7 6 (aX_Mk rfl) rfl (by omega) (by decide) d_X_sooner_5 ?_
  refine lv_aload_n E.1 E.2.1 d_X_sooner_6 rfl (lv_at hl 0 rfl) ?_
  refine k_getX E B 9 (by decide) wf_X_28 rfl rfl d_X_sooner_7 ?_
  refine lv_iload_n E.1 E.2.1 d_X_sooner_10 rfl (lv_at hl 2 rfl) ?_
  refine k_lld E B 7 6 (aX_Mk rfl) rfl (by omega) (by decide) d_X_sooner_11 ?_
  refine k_lcmp_lt E 37 (by omega) (by omega) d_X_sooner_12 d_X_sooner_13 (by decide) (fun h1 => ?_) (fun h1 => ?_)
  · skip
    refine k_iconst E 1 d_X_sooner_37 rfl ?_
    refine lv_goto (tgt := 42) E.1 E.2.1 d_X_sooner_38 (by decide) ?_
    exact ret _ _ _ _ _ _ ⟨rfl, by rw [if_pos (Or.inl h1)]⟩ rfl B d_X_sooner_42
  · skip
    refine lv_aload_n E.1 E.2.1 d_X_sooner_16 rfl (lv_at hl 0 rfl) ?_
    refine k_getX E B 9 (by decide) wf_X_28 rfl rfl d_X_sooner_17 ?_
    refine lv_iload_n E.1 E.2.1 d_X_sooner_20 rfl (lv_at hl 1 rfl) ?_
    refine k_lld E B 7 6 (aX_Mk rfl) rfl (by omega) (by decide) d_X_sooner_21 ?_
    refine lv_aload_n E.1 E.2.1 d_X_sooner_22 rfl (lv_at hl 0 rfl) ?_
    refine k_getX E B 9 (by decide) wf_X_28 rfl rfl d_X_sooner_23 ?_
    refine lv_iload_n E.1 E.2.1 d_X_sooner_26 rfl (lv_at hl 2 rfl) ?_
    refine k_lld E B 7 6 (aX_Mk rfl) rfl (by omega) (by decide) d_X_sooner_27 ?_
    refine k_lcmp_ne E 41 (by omega) (by omega) d_X_sooner_28 d_X_sooner_29 (by decide) (fun h2 => ?_) (fun h2 => ?_)
    · skip
      refine k_iconst E 0 d_X_sooner_41 rfl ?_
      exact ret _ _ _ _ _ _ ⟨rfl, by rw [if_neg (by unfold soon; omega)]⟩ rfl B d_X_sooner_42
    · skip
      refine lv_iload_n E.1 E.2.1 d_X_sooner_32 rfl (lv_at hl 1 rfl) ?_
      refine lv_iload_n E.1 E.2.1 d_X_sooner_33 rfl (lv_at hl 2 rfl) ?_
      refine k_icmp_ge E 41 (by omega) (by omega) d_X_sooner_34 (by decide) (fun h3 => ?_) (fun h3 => ?_)
      · skip
        refine k_iconst E 0 d_X_sooner_41 rfl ?_
        exact ret _ _ _ _ _ _ ⟨rfl, by rw [if_neg (by unfold soon; omega)]⟩ rfl B d_X_sooner_42
      · skip
        refine k_iconst E 1 d_X_sooner_37 rfl ?_
        refine lv_goto (tgt := 42) E.1 E.2.1 d_X_sooner_38 (by decide) ?_
        exact ret _ _ _ _ _ _ ⟨rfl, by rw [if_pos (by unfold soon; omega)]⟩ rfl B d_X_sooner_42
set_option maxHeartbeats 4000000 in
set_option maxRecDepth 100000 in
theorem c_X_now (l : Launch) (D : va_G) (a : Nat → Nat) (g : Nat → ClassId) (u : PX)  : MetI l y_X_now b_X_now 1 (some .int) 0 D (tX g) (wX a g) [.ref (a 0)] u (fun r u' => u' = u ∧ r = nI (xT u)) := by
  refine MetI.of (by decide) (Nat.le_of_ble_eq_true rfl) ?_
  intro p e s m args below meth c A Q ls E hl B ret
  have E : CallFix p m c b_X_now 1 s args lw_ws R_X := E
  have hl : lv_has ls 1 [(0, .ref (a 0))] := hl
  refine lv_aload_n E.1 E.2.1 d_X_now_0 rfl (lv_at hl 0 rfl) ?_
  refine k_getX E B 0 (by decide) wf_X_41 rfl (fX_T rfl) d_X_now_1 ?_
  exact ret _ _ _ _ _ _ ⟨rfl, rfl⟩ rfl B d_X_now_4
set_option maxHeartbeats 4000000 in
set_option maxRecDepth 100000 in
theorem c_X_served (l : Launch) (D : va_G) (a : Nat → Nat) (g : Nat → ClassId) (u : PX)  : MetI l y_X_served b_X_served 1 (some .int) 0 D (tX g) (wX a g) [.ref (a 0)] u (fun r u' => u' = u ∧ r = nI (xHp u)) := by
  refine MetI.of (by decide) (Nat.le_of_ble_eq_true rfl) ?_
  intro p e s m args below meth c A Q ls E hl B ret
  have E : CallFix p m c b_X_served 1 s args lw_ws R_X := E
  have hl : lv_has ls 1 [(0, .ref (a 0))] := hl
  refine lv_aload_n E.1 E.2.1 d_X_served_0 rfl (lv_at hl 0 rfl) ?_
  refine k_getX E B 10 (by decide) wf_X_52 rfl (fX_Hp rfl) d_X_served_1 ?_
  exact ret _ _ _ _ _ _ ⟨rfl, rfl⟩ rfl B d_X_served_4
set_option maxHeartbeats 4000000 in
set_option maxRecDepth 100000 in
theorem c_X_waiting (l : Launch) (D : va_G) (a : Nat → Nat) (g : Nat → ClassId) (u : PX)  : MetI l y_X_waiting b_X_waiting 1 (some .int) 0 D (tX g) (wX a g) [.ref (a 0)] u (fun r u' => u' = u ∧ r = nI (xIl u)) := by
  refine MetI.of (by decide) (Nat.le_of_ble_eq_true rfl) ?_
  intro p e s m args below meth c A Q ls E hl B ret
  have E : CallFix p m c b_X_waiting 1 s args lw_ws R_X := E
  have hl : lv_has ls 1 [(0, .ref (a 0))] := hl
  refine lv_aload_n E.1 E.2.1 d_X_waiting_0 rfl (lv_at hl 0 rfl) ?_
  refine k_getX E B 14 (by decide) wf_X_63 rfl (fX_Il rfl) d_X_waiting_1 ?_
  exact ret _ _ _ _ _ _ ⟨rfl, rfl⟩ rfl B d_X_waiting_4
set_option maxHeartbeats 4000000 in
set_option maxRecDepth 100000 in
theorem c_X_clear (l : Launch) (D : va_G) (a : Nat → Nat) (g : Nat → ClassId) (u : PX)  : MetV l y_X_clear b_X_clear 1 0 D (tX g) (wX a g) [.ref (a 0)] u (fun u' => u' = uIl (uCm (uHp (uJ u 0) 0) 0) 0) := by
  refine MetV.of (by decide) (Nat.le_of_ble_eq_true rfl) ?_
  intro p e s m args below meth c A Q ls E hl B ret
  have E : CallFix p m c b_X_clear 1 s args lw_ws R_X := E
  have hl : lv_has ls 1 [(0, .ref (a 0))] := hl
  refine lv_aload_n E.1 E.2.1 d_X_clear_0 rfl (lv_at hl 0 rfl) ?_
  refine k_iconst E 0 d_X_clear_1 rfl ?_
  refine k_putX (uJ u 0) E B 1 (by decide) wf_X_45 rfl rfl rfl rfl (wX_J _ _ _ _) d_X_clear_2 (fun H locs B => ?_)
  refine lv_aload_n E.1 E.2.1 d_X_clear_5 rfl (lv_at hl 0 rfl) ?_
  refine k_iconst E 0 d_X_clear_6 rfl ?_
  refine k_putX (uHp (uJ u 0) 0) E B 10 (by decide) wf_X_52 rfl rfl rfl rfl (wX_Hp _ _ _ _) d_X_clear_7 (fun H locs B => ?_)
  refine lv_aload_n E.1 E.2.1 d_X_clear_10 rfl (lv_at hl 0 rfl) ?_
  refine k_iconst E 0 d_X_clear_11 rfl ?_
  refine k_putX (uCm (uHp (uJ u 0) 0) 0) E B 12 (by decide) wf_X_49 rfl rfl rfl rfl (wX_Cm _ _ _ _) d_X_clear_12 (fun H locs B => ?_)
  refine lv_aload_n E.1 E.2.1 d_X_clear_15 rfl (lv_at hl 0 rfl) ?_
  refine k_iconst E 0 d_X_clear_16 rfl ?_
  refine k_putX (uIl (uCm (uHp (uJ u 0) 0) 0) 0) E B 14 (by decide) wf_X_63 rfl rfl rfl rfl (wX_Il _ _ _ _) d_X_clear_17 (fun H locs B => ?_)
  exact ret _ _ _ _ _ rfl B d_X_clear_20
set_option maxHeartbeats 4000000 in
set_option maxRecDepth 100000 in
theorem c_X_state (l : Launch) (D : va_G) (a : Nat → Nat) (g : Nat → ClassId) (u : PX) (j : Int32) (hJ : xJ u ≤ 24) : MetI l y_X_state b_X_state 2 (some .int) 1 D (tX g) (wX a g) [.ref (a 0), .int j] u (fun r u' => u' = u ∧ r = qry (xJ u) j (fun k => nI (xSt u k))) := by
  refine MetI.of (by decide) (Nat.le_of_ble_eq_true rfl) ?_
  intro p e s m args below meth c A Q ls E hl B ret
  have E : CallFix p m c b_X_state 2 s args lw_ws R_X := E
  have hl : lv_has ls 2 [(0, .ref (a 0)), (1, .int j)] := hl
  refine lv_aload_n E.1 E.2.1 d_X_state_0 rfl (lv_at hl 0 rfl) ?_
  refine lv_iload_n E.1 E.2.1 d_X_state_1 rfl (lv_at hl 1 rfl) ?_
  refine k_calli (As := [.int j]) (rest := []) E (c_X_noJob l D a g u j) kc_X_77 ⟨Nat.le_of_ble_eq_true rfl, Nat.le_of_ble_eq_true rfl⟩ B (show classes[0]? = _ from rfl) rfl hl.1 rfl (Nat.le_of_ble_eq_true rfl) d_X_state_2 ⟨Nat.le_of_ble_eq_true rfl, Nat.le_of_ble_eq_true rfl⟩ (fun r u1 H locs hq B => ?_)
  obtain ⟨hu, hr⟩ := hq
  rw [hu] at B
  by_cases hj : j < 0 ∨ nI (xJ u) ≤ j
  · skip
    rw [if_pos hj] at hr
    refine lv_if_eq (tgt := 13) E.1 E.2.1 d_X_state_5 (by decide) (fun h1 => ?_) (fun h1 => ?_)
    · skip
      exact absurd (h1.symm.trans hr) (by decide)
    · skip
      refine lv_bipush (v := -4) E.1 E.2.1 d_X_state_8 rfl ?_
      refine lv_goto (tgt := 19) E.1 E.2.1 d_X_state_10 (by decide) ?_
      exact ret _ _ _ _ _ _ ⟨rfl, (if_pos hj).symm⟩ rfl B d_X_state_19
  · skip
    rw [if_neg hj] at hr
    refine lv_if_eq (tgt := 13) E.1 E.2.1 d_X_state_5 (by decide) (fun h1 => ?_) (fun h1 => ?_)
    · skip
      obtain ⟨k, hk, rfl⟩ := qry_in (by omega) hj
      refine lv_aload_n E.1 E.2.1 d_X_state_13 rfl (lv_at hl 0 rfl) ?_
      refine k_getX E B 4 (by decide) wf_X_16 rfl rfl d_X_state_14 ?_
      refine lv_iload_n E.1 E.2.1 d_X_state_17 rfl (lv_at hl 1 rfl) ?_
      refine k_ild E B 3 2 (aX_St rfl) rfl (by omega) (by decide) d_X_state_18 ?_
      exact ret _ _ _ _ _ _ ⟨rfl, by rw [qry_at hk (by omega)]⟩ rfl B d_X_state_19
    · skip
      exact absurd hr h1
set_option maxHeartbeats 4000000 in
set_option maxRecDepth 100000 in
theorem c_X_admitted (l : Launch) (D : va_G) (a : Nat → Nat) (g : Nat → ClassId) (u : PX) (j : Int32) (hJ : xJ u ≤ 24) : MetI l y_X_admitted b_X_admitted 2 (some .int) 1 D (tX g) (wX a g) [.ref (a 0), .int j] u (fun r u' => u' = u ∧ r = qry (xJ u) j (xAd u)) := by
  refine MetI.of (by decide) (Nat.le_of_ble_eq_true rfl) ?_
  intro p e s m args below meth c A Q ls E hl B ret
  have E : CallFix p m c b_X_admitted 2 s args lw_ws R_X := E
  have hl : lv_has ls 2 [(0, .ref (a 0)), (1, .int j)] := hl
  refine lv_aload_n E.1 E.2.1 d_X_admitted_0 rfl (lv_at hl 0 rfl) ?_
  refine lv_iload_n E.1 E.2.1 d_X_admitted_1 rfl (lv_at hl 1 rfl) ?_
  refine k_calli (As := [.int j]) (rest := []) E (c_X_noJob l D a g u j) kc_X_77 ⟨Nat.le_of_ble_eq_true rfl, Nat.le_of_ble_eq_true rfl⟩ B (show classes[0]? = _ from rfl) rfl hl.1 rfl (Nat.le_of_ble_eq_true rfl) d_X_admitted_2 ⟨Nat.le_of_ble_eq_true rfl, Nat.le_of_ble_eq_true rfl⟩ (fun r u1 H locs hq B => ?_)
  obtain ⟨hu, hr⟩ := hq
  rw [hu] at B
  by_cases hj : j < 0 ∨ nI (xJ u) ≤ j
  · skip
    rw [if_pos hj] at hr
    refine lv_if_eq (tgt := 13) E.1 E.2.1 d_X_admitted_5 (by decide) (fun h1 => ?_) (fun h1 => ?_)
    · skip
      exact absurd (h1.symm.trans hr) (by decide)
    · skip
      refine lv_bipush (v := -4) E.1 E.2.1 d_X_admitted_8 rfl ?_
      refine lv_goto (tgt := 19) E.1 E.2.1 d_X_admitted_10 (by decide) ?_
      exact ret _ _ _ _ _ _ ⟨rfl, (if_pos hj).symm⟩ rfl B d_X_admitted_19
  · skip
    rw [if_neg hj] at hr
    refine lv_if_eq (tgt := 13) E.1 E.2.1 d_X_admitted_5 (by decide) (fun h1 => ?_) (fun h1 => ?_)
    · skip
      obtain ⟨k, hk, rfl⟩ := qry_in (by omega) hj
      refine lv_aload_n E.1 E.2.1 d_X_admitted_13 rfl (lv_at hl 0 rfl) ?_
      refine k_getX E B 5 (by decide) wf_X_19 rfl rfl d_X_admitted_14 ?_
      refine lv_iload_n E.1 E.2.1 d_X_admitted_17 rfl (lv_at hl 1 rfl) ?_
      refine k_ildR E B 4 3 (aX_Ad rfl) rfl (by omega) (by decide) d_X_admitted_18 ?_
      exact ret _ _ _ _ _ _ ⟨rfl, by rw [qry_at hk (by omega)]⟩ rfl B d_X_admitted_19
    · skip
      exact absurd hr h1
set_option maxHeartbeats 4000000 in
set_option maxRecDepth 100000 in
theorem c_X_finished (l : Launch) (D : va_G) (a : Nat → Nat) (g : Nat → ClassId) (u : PX) (j : Int32) (hJ : xJ u ≤ 24) : MetI l y_X_finished b_X_finished 2 (some .int) 1 D (tX g) (wX a g) [.ref (a 0), .int j] u (fun r u' => u' = u ∧ r = qry (xJ u) j (xFi u)) := by
  refine MetI.of (by decide) (Nat.le_of_ble_eq_true rfl) ?_
  intro p e s m args below meth c A Q ls E hl B ret
  have E : CallFix p m c b_X_finished 2 s args lw_ws R_X := E
  have hl : lv_has ls 2 [(0, .ref (a 0)), (1, .int j)] := hl
  refine lv_aload_n E.1 E.2.1 d_X_finished_0 rfl (lv_at hl 0 rfl) ?_
  refine lv_iload_n E.1 E.2.1 d_X_finished_1 rfl (lv_at hl 1 rfl) ?_
  refine k_calli (As := [.int j]) (rest := []) E (c_X_noJob l D a g u j) kc_X_77 ⟨Nat.le_of_ble_eq_true rfl, Nat.le_of_ble_eq_true rfl⟩ B (show classes[0]? = _ from rfl) rfl hl.1 rfl (Nat.le_of_ble_eq_true rfl) d_X_finished_2 ⟨Nat.le_of_ble_eq_true rfl, Nat.le_of_ble_eq_true rfl⟩ (fun r u1 H locs hq B => ?_)
  obtain ⟨hu, hr⟩ := hq
  rw [hu] at B
  by_cases hj : j < 0 ∨ nI (xJ u) ≤ j
  · skip
    rw [if_pos hj] at hr
    refine lv_if_eq (tgt := 13) E.1 E.2.1 d_X_finished_5 (by decide) (fun h1 => ?_) (fun h1 => ?_)
    · skip
      exact absurd (h1.symm.trans hr) (by decide)
    · skip
      refine lv_bipush (v := -4) E.1 E.2.1 d_X_finished_8 rfl ?_
      refine lv_goto (tgt := 19) E.1 E.2.1 d_X_finished_10 (by decide) ?_
      exact ret _ _ _ _ _ _ ⟨rfl, (if_pos hj).symm⟩ rfl B d_X_finished_19
  · skip
    rw [if_neg hj] at hr
    refine lv_if_eq (tgt := 13) E.1 E.2.1 d_X_finished_5 (by decide) (fun h1 => ?_) (fun h1 => ?_)
    · skip
      obtain ⟨k, hk, rfl⟩ := qry_in (by omega) hj
      refine lv_aload_n E.1 E.2.1 d_X_finished_13 rfl (lv_at hl 0 rfl) ?_
      refine k_getX E B 6 (by decide) wf_X_22 rfl rfl d_X_finished_14 ?_
      refine lv_iload_n E.1 E.2.1 d_X_finished_17 rfl (lv_at hl 1 rfl) ?_
      refine k_ildR E B 5 4 (aX_Fi rfl) rfl (by omega) (by decide) d_X_finished_18 ?_
      exact ret _ _ _ _ _ _ ⟨rfl, by rw [qry_at hk (by omega)]⟩ rfl B d_X_finished_19
    · skip
      exact absurd hr h1
end
section
/-! a heap of numbers with keys, and one with a hole: no program in sight -/
theorem va_up_s {α : Type} {f : Nat → α} {k : Nat} {v : α} : va_up f k v k = v := by unfold va_up; rw [if_pos rfl]
theorem va_up_n {α : Type} {f : Nat → α} {k j : Nat} {v : α} (h : j ≠ k) : va_up f k v j = f j := by unfold va_up; rw [if_neg h]
/-- h counts S without repetition by its first n places -/
def Bij (h : Nat → Nat) (n : Nat) (S : Nat → Prop) : Prop := (∀ k, k < n → S (h k)) ∧ (∀ j, S j → ∃ k, k < n ∧ h k = j) ∧ ∀ k k', k < n → k' < n → h k = h k' → k = k'
def HpO (κ : Nat → Nat) (h : Nat → Nat) (n : Nat) : Prop := ∀ k, 0 < k → k < n → κ (h ((k - 1) / 2)) ≤ κ (h k)
def Hp (κ : Nat → Nat) (h : Nat → Nat) (n : Nat) (S : Nat → Prop) : Prop := Bij h n S ∧ HpO κ h n
def key (mk : Nat → Nat) (j : Nat) : Nat := mk j * 32 + j
theorem soon_key {mk : Nat → Nat} {i j : Nat} (hi : i < 24) (hj : j < 24) : soon mk i j ↔ key mk i < key mk j := by
  unfold soon key
  omega
theorem Bij.swap {h h' : Nat → Nat} {n i p : Nat} {S : Nat → Prop} (H : Bij h n S) (hi : i < n) (hp : p < n) (e1 : h' i = h p) (e2 : h' p = h i) (e3 : ∀ k, k ≠ i → k ≠ p → h' k = h k) : Bij h' n S := by
  have hs : ∀ k, h' k = h (if k = i then p else if k = p then i else k) := by
    intro k
    by_cases h1 : k = i
    · rw [if_pos h1, h1, e1]
    · rw [if_neg h1]
      by_cases h2 : k = p
      · rw [if_pos h2, h2, e2]
      · rw [if_neg h2, e3 k h1 h2]
  have hb : ∀ k, k < n → (if k = i then p else if k = p then i else k) < n := by
    intro k hk
    split
    · exact hp
    · split
      · exact hi
      · exact hk
  refine ⟨fun k hk => ?_, fun j hj => ?_, fun k k' hk hk' he => ?_⟩
  · rw [hs]
    exact H.1 _ (hb k hk)
  · obtain ⟨k, hk, e⟩ := H.2.1 j hj
    by_cases h1 : k = i
    · exact ⟨p, hp, by rw [e2, ← h1, e]⟩
    · by_cases h2 : k = p
      · exact ⟨i, hi, by rw [e1, ← h2, e]⟩
      · exact ⟨k, hk, by rw [e3 k h1 h2, e]⟩
  · rw [hs k, hs k'] at he
    have := H.2.2 _ _ (hb k hk) (hb k' hk') he
    split at this <;> split at this <;> (try split at this) <;> (try split at this) <;> omega
/-- a heap with a hole at i that is to take 'job' -/
def HI (κ : Nat → Nat) (hj : Nat → Nat) (n i job : Nat) (S : Nat → Prop) : Prop :=
  i < n ∧ Bij (va_up hj i job) n S ∧ (∀ k, 0 < k → k < n → k ≠ i → (k - 1) / 2 ≠ i → κ (hj ((k - 1) / 2)) ≤ κ (hj k)) ∧ ∀ k, 0 < k → k < n → (k - 1) / 2 = i → 0 < i → κ (hj ((i - 1) / 2)) ≤ κ (hj k)
def UpOk (κ : Nat → Nat) (hj : Nat → Nat) (n i job : Nat) : Prop := ∀ k, 0 < k → k < n → (k - 1) / 2 = i → κ job ≤ κ (hj k)
def PaOk (κ : Nat → Nat) (hj : Nat → Nat) (i job : Nat) : Prop := 0 < i → κ (hj ((i - 1) / 2)) ≤ κ job
theorem HI.up {κ hj : Nat → Nat} {n i job : Nat} {S : Nat → Prop} (H : HI κ hj n i job S) (h0 : 0 < i) (hk : κ job < κ (hj ((i - 1) / 2))) :
    HI κ (va_up hj i (hj ((i - 1) / 2))) n ((i - 1) / 2) job S ∧ UpOk κ (va_up hj i (hj ((i - 1) / 2))) n ((i - 1) / 2) job := by
  obtain ⟨hi, hB, hO, hC⟩ := H
  have hpi : (i - 1) / 2 < i := by omega
  have hpn : (i - 1) / 2 ≠ i := by omega
  have v1 : ∀ k, k ≠ i → va_up hj i (hj ((i - 1) / 2)) k = hj k := fun k h => va_up_n h
  have v2 : va_up hj i (hj ((i - 1) / 2)) i = hj ((i - 1) / 2) := va_up_s
  refine ⟨⟨by omega, ?_, ?_, ?_⟩, ?_⟩
  · refine hB.swap (i := i) (p := (i - 1) / 2) hi (by omega) ?_ ?_ ?_
    · rw [va_up_n (Ne.symm hpn), v2, va_up_n hpn]
    · rw [va_up_s, va_up_s]
    · intro k h1 h2
      rw [va_up_n h2, v1 k h1, va_up_n h1]
  · intro k k0 kn kp kpp
    by_cases hki : k = i
    · exact absurd (by rw [hki]) kpp
    · by_cases hkc : (k - 1) / 2 = i
      · rw [hkc, v2, v1 k hki]
        exact hC k k0 kn hkc h0
      · rw [v1 k hki, v1 _ hkc]
        exact hO k k0 kn hki hkc
  · intro k k0 kn kp pp
    have hpo := hO ((i - 1) / 2) pp (by omega) hpn (by omega)
    have hq : ((i - 1) / 2 - 1) / 2 ≠ i := by omega
    rw [v1 _ hq]
    by_cases hki : k = i
    · rw [hki, v2]
      exact hpo
    · rw [v1 k hki]
      have := hO k k0 kn hki (by omega)
      rw [kp] at this
      omega
  · intro k k0 kn kp
    by_cases hki : k = i
    · rw [hki, v2]
      omega
    · rw [v1 k hki]
      have := hO k k0 kn hki (by omega)
      rw [kp] at this
      omega
theorem HI.down {κ hj : Nat → Nat} {n i job c : Nat} {S : Nat → Prop} (H : HI κ hj n i job S) (hP : PaOk κ hj i job) (c0 : 0 < c) (cn : c < n) (hc : (c - 1) / 2 = i) (hm : ∀ k, 0 < k → k < n → (k - 1) / 2 = i → κ (hj c) ≤ κ (hj k)) (hk : κ (hj c) < κ job) :
    HI κ (va_up hj i (hj c)) n c job S ∧ PaOk κ (va_up hj i (hj c)) c job := by
  obtain ⟨hi, hB, hO, hC⟩ := H
  have hci : c ≠ i := by omega
  have v1 : ∀ k, k ≠ i → va_up hj i (hj c) k = hj k := fun k h => va_up_n h
  have v2 : va_up hj i (hj c) i = hj c := va_up_s
  refine ⟨⟨cn, ?_, ?_, ?_⟩, ?_⟩
  · refine hB.swap (i := i) (p := c) hi cn ?_ ?_ ?_
    · rw [va_up_n (Ne.symm hci), v2, va_up_n hci]
    · rw [va_up_s, va_up_s]
    · intro k h1 h2
      rw [va_up_n h2, v1 k h1, va_up_n h1]
  · intro k k0 kn kc kcc
    by_cases hki : k = i
    · subst hki
      rw [v2, v1 _ (by omega)]
      exact hC c c0 cn hc k0
    · by_cases hkp : (k - 1) / 2 = i
      · rw [hkp, v2, v1 k hki]
        exact hm k k0 kn hkp
      · rw [v1 k hki, v1 _ hkp]
        exact hO k k0 kn hki hkp
  · intro k k0 kn kc _
    rw [hc, v2, v1 k (by omega)]
    have := hO k k0 kn (by omega) (by omega)
    rw [kc] at this
    exact this
  · intro _
    rw [hc, v2]
    omega
theorem HI.fin {κ hj : Nat → Nat} {n i job : Nat} {S : Nat → Prop} (H : HI κ hj n i job S) (hP : PaOk κ hj i job) (hU : UpOk κ hj n i job) : Hp κ (va_up hj i job) n S := by
  obtain ⟨hi, hB, hO, hC⟩ := H
  refine ⟨hB, fun k k0 kn => ?_⟩
  by_cases hki : k = i
  · subst hki
    rw [va_up_s, va_up_n (by omega)]
    exact hP k0
  · by_cases hkp : (k - 1) / 2 = i
    · rw [hkp, va_up_s, va_up_n hki]
      exact hU k k0 kn hkp
    · rw [va_up_n hki, va_up_n hkp]
      exact hO k k0 kn hki hkp
theorem Hp.push {κ hj : Nat → Nat} {n job : Nat} {S : Nat → Prop} (H : Hp κ hj n S) (hS : ¬ S job) : HI κ hj (n + 1) n job (fun j => j = job ∨ S j) ∧ UpOk κ hj (n + 1) n job := by
  obtain ⟨⟨b1, b2, b3⟩, hO⟩ := H
  refine ⟨⟨by omega, ⟨?_, ?_, ?_⟩, ?_, ?_⟩, ?_⟩
  · intro k hk
    by_cases h : k = n
    · left
      rw [h, va_up_s]
    · right
      rw [va_up_n h]
      exact b1 k (by omega)
  · rintro j (rfl | h)
    · exact ⟨n, by omega, va_up_s⟩
    · obtain ⟨k, hk, e⟩ := b2 j h
      exact ⟨k, by omega, by rw [va_up_n (by omega)]; exact e⟩
  · intro k k' hk hk' he
    by_cases h : k = n
    · by_cases h' : k' = n
      · omega
      · rw [h, va_up_s, va_up_n h'] at he
        exact absurd (he ▸ b1 k' (by omega)) hS
    · by_cases h' : k' = n
      · rw [h', va_up_s, va_up_n h] at he
        exact absurd (he ▸ b1 k (by omega)) hS
      · rw [va_up_n h, va_up_n h'] at he
        exact b3 k k' (by omega) (by omega) he
  · intro k k0 kn h1 h2
    exact hO k k0 (by omega)
  · intro k k0 kn h1 h2
    omega
  · intro k k0 kn h1
    omega
theorem Hp.last {κ hj : Nat → Nat} {n : Nat} {S : Nat → Prop} (H : Hp κ hj (n + 1) S) : Hp κ hj n (fun j => S j ∧ j ≠ hj n) := by
  obtain ⟨⟨b1, b2, b3⟩, hO⟩ := H
  refine ⟨⟨?_, ?_, ?_⟩, ?_⟩
  · intro k hk
    refine ⟨b1 k (by omega), fun he => ?_⟩
    have := b3 k n (by omega) (by omega) he
    omega
  · rintro j ⟨h1, h2⟩
    obtain ⟨k, hk, e⟩ := b2 j h1
    refine ⟨k, ?_, e⟩
    have : k ≠ n := fun q => h2 (by rw [← e, q])
    omega
  · intro k k' hk hk' he
    exact b3 k k' (by omega) (by omega) he
  · intro k k0 kn
    exact hO k k0 (by omega)
theorem Hp.take {κ hj : Nat → Nat} {n i : Nat} {S : Nat → Prop} (H : Hp κ hj (n + 1) S) (hi : i < n) : HI κ hj n i (hj n) (fun j => S j ∧ j ≠ hj i) := by
  obtain ⟨⟨b1, b2, b3⟩, hO⟩ := H
  refine ⟨hi, ⟨?_, ?_, ?_⟩, ?_, ?_⟩
  · intro k hk
    by_cases h : k = i
    · rw [h, va_up_s]
      refine ⟨b1 n (by omega), fun he => ?_⟩
      have := b3 n i (by omega) (by omega) he
      omega
    · rw [va_up_n h]
      refine ⟨b1 k (by omega), fun he => h (b3 k i (by omega) (by omega) he)⟩
  · rintro j ⟨h1, h2⟩
    obtain ⟨k, hk, e⟩ := b2 j h1
    by_cases h : k = n
    · exact ⟨i, hi, by rw [va_up_s, ← h, e]⟩
    · have hki : k ≠ i := fun q => h2 (by rw [← e, q])
      exact ⟨k, by omega, by rw [va_up_n hki, e]⟩
  · intro k k' hk hk' he
    by_cases h : k = i
    · by_cases h' : k' = i
      · omega
      · rw [h, va_up_s, va_up_n h'] at he
        have := b3 n k' (by omega) (by omega) he
        omega
    · by_cases h' : k' = i
      · rw [h', va_up_s, va_up_n h] at he
        have := b3 k n (by omega) (by omega) he
        omega
      · rw [va_up_n h, va_up_n h'] at he
        exact b3 k k' (by omega) (by omega) he
  · intro k k0 kn h1 h2
    exact hO k k0 (by omega)
  · intro k k0 kn h1 h2
    have q1 := hO k k0 (by omega)
    have q2 := hO i h2 (by omega)
    rw [h1] at q1
    omega
theorem Hp.top {κ hj : Nat → Nat} {n : Nat} {S : Nat → Prop} (H : Hp κ hj n S) : ∀ k, k < n → κ (hj 0) ≤ κ (hj k) := by
  intro k
  induction k using Nat.strongRecOn with
  | ind k ih =>
    intro hk
    by_cases h : k = 0
    · rw [h]
      omega
    · have q1 := H.2 k (by omega) hk
      have q2 := ih ((k - 1) / 2) (by omega) (by omega)
      omega
theorem Bij.congr {h : Nat → Nat} {n : Nat} {S S' : Nat → Prop} (H : Bij h n S) (hS : ∀ j, S j ↔ S' j) : Bij h n S' :=
  ⟨fun k hk => (hS _).mp (H.1 k hk), fun j hj => H.2.1 j ((hS j).mpr hj), H.2.2⟩
theorem Hp.congr {κ κ' h : Nat → Nat} {n : Nat} {S S' : Nat → Prop} (H : Hp κ h n S) (hS : ∀ j, S j ↔ S' j) (hκ : ∀ j, S j → κ j = κ' j) : Hp κ' h n S' :=
  ⟨H.1.congr hS, fun k k0 kn => by rw [← hκ _ (H.1.1 k kn), ← hκ _ (H.1.1 ((k - 1) / 2) (by omega))]; exact H.2 k k0 kn⟩
theorem key_mk {mk : Nat → Nat} {i j : Nat} (hi : i < 24) (hj : j < 24) (h : key mk i ≤ key mk j) : mk i ≤ mk j := by
  unfold key at h
  omega
end
section
theorem uHj_uHj (U : PX) (v w : Nat → Nat) : uHj (uHj U v) w = uHj U w := by
  simp only [uHj]
theorem uHp_uHj (U : PX) (v : Nat → Nat) (w : Nat) : uHp (uHj U v) w = uHj (uHp U w) v := by
  simp only [uHp, uHj]
theorem uHp_uHp (U : PX) (v w : Nat) : uHp (uHp U v) w = uHp U w := by
  simp only [uHp]
theorem sooner_no {mk : Nat → Nat} {i j : Nat} {r : Int32} (hr : r = nI (if soon mk i j then 1 else 0)) (h : r = 0) : ¬ soon mk i j := by
  intro q
  rw [if_pos q] at hr
  exact absurd (h.symm.trans hr) (by decide)
theorem sooner_yes {mk : Nat → Nat} {i j : Nat} {r : Int32} (hr : r = nI (if soon mk i j then 1 else 0)) (h : ¬ r = 0) : soon mk i j := by
  rcases Classical.em (soon mk i j) with q | q
  · exact q
  · rw [if_neg q] at hr
    exact absurd hr h
theorem HI.lt {κ hj : Nat → Nat} {n i job k : Nat} {S : Nat → Prop} (H : HI κ hj n i job S) (hS : ∀ j, S j → j < 24) (hk : k < n) (hki : k ≠ i) : hj k < 24 := by
  have := H.2.1.1 k hk
  rw [va_up_n hki] at this
  exact hS _ this
theorem Hp.take' {κ hj : Nat → Nat} {n i : Nat} {S : Nat → Prop} (h0 : 0 < n) (H : Hp κ hj n S) (hi : i < n - 1) : HI κ hj (n - 1) i (hj (n - 1)) (fun j => S j ∧ j ≠ hj i) := by
  obtain ⟨q, rfl⟩ : ∃ q, n = q + 1 := ⟨n - 1, by omega⟩
  exact H.take hi
theorem Hp.last' {κ hj : Nat → Nat} {n : Nat} {S : Nat → Prop} (h0 : 0 < n) (H : Hp κ hj n S) : Hp κ hj (n - 1) (fun j => S j ∧ j ≠ hj (n - 1)) := by
  obtain ⟨q, rfl⟩ : ∃ q, n = q + 1 := ⟨n - 1, by omega⟩
  exact H.last
set_option maxHeartbeats 4000000 in
set_option maxRecDepth 100000 in
/-- push(job): the heap takes one job more -/
theorem c_X_push (l : Launch) (D : va_G) (a : Nat → Nat) (g : Nat → ClassId) (u : PX) (job : Nat) (mk hj : Nat → Nat) (n : Nat) (S : Nat → Prop) (e1 : xMk u = mk) (e2 : xHj u = hj) (e3 : xHp u = n) (hS : ∀ j, S j → j < 24) (hm : ∀ k, k < 24 → mk k < 2 ^ 63) (hjob : job < 24) (hn : n < 8) (hH : Hp (key mk) hj n S) (hno : ¬ S job) : MetV l y_X_push b_X_push 3 1 D (tX g) (wX a g) [.ref (a 0), .int (nI job)] u (fun u' => ∃ h', u' = uHj (uHp u (n + 1)) h' ∧ Hp (key mk) h' (n + 1) (fun j => j = job ∨ S j)) := by
  refine MetV.of (by decide) (Nat.le_of_ble_eq_true rfl) ?_
  intro p e s m args below meth c A Q ls E hl B ret
  have E : CallFix p m c b_X_push 3 s args lw_ws R_X := E
  have hl : lv_has ls 3 [(0, .ref (a 0)), (1, .int (nI job))] := hl
  obtain ⟨hI, hU⟩ := hH.push hno
  have hS2 : ∀ j, (j = job ∨ S j) → j < 24 := fun j q => q.elim (fun q => by omega) (hS j)
  have B : wB D (tX g) s A s.heap (wX a g (uHj (uHp u n) hj)) s.heap [] := by
    have e9 : uHj (uHp u n) hj = u := by
      rw [← e2, ← e3]
      rfl
    rw [e9]
    exact B
  have loop : ∀ (i : Nat) (hj : Nat → Nat) (H : Heap) (locs : List Loc) (ls : Array Slot), HI (key mk) hj (n + 1) i job (fun j => j = job ∨ S j) → UpOk (key mk) hj (n + 1) i job → lv_has ls 3 [(2, .int (nI i)), (0, .ref (a 0)), (1, .int (nI job))] → wB D (tX g) s A s.heap (wX a g (uHj (uHp u (n + 1)) hj)) H locs → W p l e (rd 1) s m args below meth c H locs 0 0 Q (F0 m 15 ls []) := by
    intro i
    induction i using Nat.strongRecOn with
    | ind i ih =>
      intro hj H locs ls hI hU hl B
      have hin := hI.1
      refine lv_iload_n E.1 E.2.1 d_X_push_15 rfl (lv_at hl 0 rfl) ?_
      refine k_if_le E 62 (by omega) d_X_push_16 (by decide) (fun h1 => ?_) (fun h1 => ?_)
      · skip
        refine lv_aload_n E.1 E.2.1 d_X_push_62 rfl (lv_at hl 1 rfl) ?_
        refine k_getX E B 11 (by decide) wf_X_32 rfl rfl d_X_push_63 ?_
        refine lv_iload_n E.1 E.2.1 d_X_push_66 rfl (lv_at hl 0 rfl) ?_
        refine lv_iload_n E.1 E.2.1 d_X_push_67 rfl (lv_at hl 2 rfl) ?_
        refine k_ist E B 8 7 (ws' := wX a g (uHj (uHj (uHp u (n + 1)) hj) (va_up hj i job))) (aX_Hj (xHj_uHj _ _)) rfl (by omega) (by decide) (wX_Hj _ _ _ _) d_X_push_68 (fun H locs B => ?_)
        rw [uHj_uHj] at B
        exact ret _ _ _ _ _ ⟨_, rfl, hI.fin (fun q => by omega) hU⟩ B d_X_push_69
      · skip
        have hlt : hj ((i - 1) / 2) < 24 := hI.lt hS2 (by omega) (by omega)
        refine lv_aload_n E.1 E.2.1 d_X_push_19 rfl (lv_at hl 1 rfl) ?_
        refine lv_iload_n E.1 E.2.1 d_X_push_20 rfl (lv_at hl 2 rfl) ?_
        refine lv_aload_n E.1 E.2.1 d_X_push_21 rfl (lv_at hl 1 rfl) ?_
        refine k_getX E B 11 (by decide) wf_X_32 rfl rfl d_X_push_22 ?_
        refine lv_iload_n E.1 E.2.1 d_X_push_25 rfl (lv_at hl 0 rfl) ?_
        refine k_iconst E 1 d_X_push_26 rfl ?_
        refine k_isub E (by omega) d_X_push_27 ?_
        refine k_iconst E 2 d_X_push_28 rfl ?_
        refine k_idiv E (by omega) (by omega) (by omega) d_X_push_29 ?_
        refine k_ild E B 8 7 (aX_Hj (xHj_uHj _ _)) rfl (by omega) (by decide) d_X_push_30 ?_
        refine k_calli (As := [.int (nI job), .int (nI (hj ((i - 1) / 2)))]) (rest := []) E (c_X_sooner l D a g (uHj (uHp u (n + 1)) hj) (job) (hj ((i - 1) / 2)) hjob hlt (by rw [((xMk_uHj _ _).trans (xMk_uHp _ _)).trans e1]; exact hm)) kc_X_55 ⟨Nat.le_of_ble_eq_true rfl, Nat.le_of_ble_eq_true rfl⟩ B (show classes[0]? = _ from rfl) rfl hl.1 rfl (Nat.le_of_ble_eq_true rfl) d_X_push_31 ⟨Nat.le_of_ble_eq_true rfl, Nat.le_of_ble_eq_true rfl⟩ (fun r u1 H locs hq B => ?_)
        obtain ⟨hu, hr⟩ := hq
        rw [hu] at B
        rw [((xMk_uHj _ _).trans (xMk_uHp _ _)).trans e1] at hr
        refine lv_if_eq (tgt := 62) E.1 E.2.1 d_X_push_34 (by decide) (fun h0 => ?_) (fun h0 => ?_)
        · skip
          have hs := sooner_no hr h0
          rw [soon_key hjob hlt] at hs
          refine lv_aload_n E.1 E.2.1 d_X_push_62 rfl (lv_at hl 1 rfl) ?_
          refine k_getX E B 11 (by decide) wf_X_32 rfl rfl d_X_push_63 ?_
          refine lv_iload_n E.1 E.2.1 d_X_push_66 rfl (lv_at hl 0 rfl) ?_
          refine lv_iload_n E.1 E.2.1 d_X_push_67 rfl (lv_at hl 2 rfl) ?_
          refine k_ist E B 8 7 (ws' := wX a g (uHj (uHj (uHp u (n + 1)) hj) (va_up hj i job))) (aX_Hj (xHj_uHj _ _)) rfl (by omega) (by decide) (wX_Hj _ _ _ _) d_X_push_68 (fun H locs B => ?_)
          rw [uHj_uHj] at B
          exact ret _ _ _ _ _ ⟨_, rfl, hI.fin (fun _ => by omega) hU⟩ B d_X_push_69
        · skip
          have hs := (soon_key hjob hlt).mp (sooner_yes hr h0)
          obtain ⟨hI2, hU2⟩ := hI.up h1 hs
          refine lv_aload_n E.1 E.2.1 d_X_push_37 rfl (lv_at hl 1 rfl) ?_
          refine k_getX E B 11 (by decide) wf_X_32 rfl rfl d_X_push_38 ?_
          refine lv_iload_n E.1 E.2.1 d_X_push_41 rfl (lv_at hl 0 rfl) ?_
          refine lv_aload_n E.1 E.2.1 d_X_push_42 rfl (lv_at hl 1 rfl) ?_
          refine k_getX E B 11 (by decide) wf_X_32 rfl rfl d_X_push_43 ?_
          refine lv_iload_n E.1 E.2.1 d_X_push_46 rfl (lv_at hl 0 rfl) ?_
          refine k_iconst E 1 d_X_push_47 rfl ?_
          refine k_isub E (by omega) d_X_push_48 ?_
          refine k_iconst E 2 d_X_push_49 rfl ?_
          refine k_idiv E (by omega) (by omega) (by omega) d_X_push_50 ?_
          refine k_ild E B 8 7 (aX_Hj (xHj_uHj _ _)) rfl (by omega) (by decide) d_X_push_51 ?_
          refine k_ist E B 8 7 (ws' := wX a g (uHj (uHj (uHp u (n + 1)) hj) (va_up hj i (hj ((i - 1) / 2))))) (aX_Hj (xHj_uHj _ _)) rfl (by omega) (by decide) (wX_Hj _ _ _ _) d_X_push_52 (fun H locs B => ?_)
          rw [uHj_uHj] at B
          refine lv_iload_n E.1 E.2.1 d_X_push_53 rfl (lv_at hl 0 rfl) ?_
          refine k_iconst E 1 d_X_push_54 rfl ?_
          refine k_isub E (by omega) d_X_push_55 ?_
          refine k_iconst E 2 d_X_push_56 rfl ?_
          refine k_idiv E (by omega) (by omega) (by omega) d_X_push_57 ?_
          refine lv_istore_n (lv' := [(2, .int (nI ((i - 1) / 2))), (0, .ref (a 0)), (1, .int (nI job))]) E.1 E.2.1 d_X_push_58 rfl hl (by decide) rfl (fun ls hl => ?_)
          refine lv_goto (tgt := 15) E.1 E.2.1 d_X_push_59 (by decide) ?_
          exact ih _ (by omega) _ _ _ _ hI2 hU2 (lv_sub hl [0, 1, 2] rfl) B
  refine lv_aload_n E.1 E.2.1 d_X_push_0 rfl (lv_at hl 0 rfl) ?_
  refine k_getX E B 10 (by decide) wf_X_52 rfl (fX_Hp ((xHp_uHj _ _).trans (xHp_uHp _ _))) d_X_push_1 ?_
  refine lv_istore_n (lv' := [(2, .int (nI n)), (0, .ref (a 0)), (1, .int (nI job))]) E.1 E.2.1 d_X_push_4 rfl hl (by decide) rfl (fun ls hl => ?_)
  refine lv_aload_n E.1 E.2.1 d_X_push_5 rfl (lv_at hl 1 rfl) ?_
  refine k_dup E rfl d_X_push_6 ?_
  refine k_getX E B 10 (by decide) wf_X_52 rfl (fX_Hp ((xHp_uHj _ _).trans (xHp_uHp _ _))) d_X_push_7 ?_
  refine k_iconst E 1 d_X_push_10 rfl ?_
  refine k_iadd E d_X_push_11 ?_
  refine k_putX (uHp (uHj (uHp u n) hj) (n + 1)) E B 10 (by decide) wf_X_52 rfl rfl rfl rfl (wX_Hp _ _ _ _) d_X_push_12 (fun H locs B => ?_)
  rw [uHp_uHj, uHp_uHp] at B
  exact loop n hj _ _ _ hI hU hl B
set_option maxHeartbeats 4000000 in
set_option maxRecDepth 100000 in
/-- sink(from, job): the hole goes down to its place -/
theorem c_X_sink (l : Launch) (D : va_G) (a : Nat → Nat) (g : Nat → ClassId) (u : PX) (i0 job : Nat) (mk hj : Nat → Nat) (n : Nat) (S : Nat → Prop) (e1 : xMk u = mk) (e2 : xHj u = hj) (e3 : xHp u = n) (hS : ∀ j, S j → j < 24) (hm : ∀ k, k < 24 → mk k < 2 ^ 63) (hjob : job < 24) (hn : n ≤ 8) (hI : HI (key mk) hj n i0 job S) (hP : PaOk (key mk) hj i0 job) : MetV l y_X_sink b_X_sink 6 1 D (tX g) (wX a g) [.ref (a 0), .int (nI i0), .int (nI job)] u (fun u' => ∃ h', u' = uHj (uHp u n) h' ∧ Hp (key mk) h' n S) := by
  refine MetV.of (by decide) (Nat.le_of_ble_eq_true rfl) ?_
  intro p e s m args below meth c A Q ls E hl B ret
  have E : CallFix p m c b_X_sink 6 s args lw_ws R_X := E
  have hl : lv_has ls 6 [(0, .ref (a 0)), (1, .int (nI i0)), (2, .int (nI job))] := hl
  have B : wB D (tX g) s A s.heap (wX a g (uHj (uHp u n) hj)) s.heap [] := by
    have e9 : uHj (uHp u n) hj = u := by
      rw [← e2, ← e3]
      rfl
    rw [e9]
    exact B
  have loop : ∀ (z : Nat), ∀ (t i : Nat) (hj : Nat → Nat) (H : Heap) (locs : List Loc) (ls : Array Slot), t ≤ 8 → 8 - t ≤ z → HI (key mk) hj n i job S → PaOk (key mk) hj i job → (UpOk (key mk) hj n i job ∨ t ≤ i) → lv_has ls 6 [(4, .int (nI t)), (3, .int (nI i)), (0, .ref (a 0)), (2, .int (nI job))] → wB D (tX g) s A s.heap (wX a g (uHj (uHp u n) hj)) H locs → W p l e (rd 1) s m args below meth c H locs 0 0 Q (F0 m 5 ls []) := by
    intro z
    induction z with
    | zero =>
      intro t i hj H locs ls ht hz hI hP hU hl B
      have hin := hI.1
      refine lv_iload E.1 E.2.1 d_X_sink_5 (lv_at hl 0 rfl) ?_
      refine k_bipush E 8 d_X_sink_7 rfl ?_
      refine k_icmp_ge E 102 (by omega) (by omega) d_X_sink_9 (by decide) (fun h1 => ?_) (fun h1 => ?_)
      · skip
        have hU2 : UpOk (key mk) hj n i job := hU.elim id (fun q => by omega)
        refine lv_aload_n E.1 E.2.1 d_X_sink_102 rfl (lv_at hl 2 rfl) ?_
        refine k_getX E B 11 (by decide) wf_X_32 rfl rfl d_X_sink_103 ?_
        refine lv_iload_n E.1 E.2.1 d_X_sink_106 rfl (lv_at hl 1 rfl) ?_
        refine lv_iload_n E.1 E.2.1 d_X_sink_107 rfl (lv_at hl 3 rfl) ?_
        refine k_ist E B 8 7 (ws' := wX a g (uHj (uHj (uHp u n) hj) (va_up hj i job))) (aX_Hj (xHj_uHj _ _)) rfl (by omega) (by decide) (wX_Hj _ _ _ _) d_X_sink_108 (fun H locs B => ?_)
        rw [uHj_uHj] at B
        exact ret _ _ _ _ _ ⟨_, rfl, hI.fin hP hU2⟩ B d_X_sink_109
      · skip
        exact absurd h1 (by omega)
    | succ z ih =>
      intro t i hj H locs ls ht hz hI hP hU hl B
      have hin := hI.1
      refine lv_iload E.1 E.2.1 d_X_sink_5 (lv_at hl 0 rfl) ?_
      refine k_bipush E 8 d_X_sink_7 rfl ?_
      refine k_icmp_ge E 102 (by omega) (by omega) d_X_sink_9 (by decide) (fun h1 => ?_) (fun h1 => ?_)
      · skip
        have hU2 : UpOk (key mk) hj n i job := hU.elim id (fun q => by omega)
        refine lv_aload_n E.1 E.2.1 d_X_sink_102 rfl (lv_at hl 2 rfl) ?_
        refine k_getX E B 11 (by decide) wf_X_32 rfl rfl d_X_sink_103 ?_
        refine lv_iload_n E.1 E.2.1 d_X_sink_106 rfl (lv_at hl 1 rfl) ?_
        refine lv_iload_n E.1 E.2.1 d_X_sink_107 rfl (lv_at hl 3 rfl) ?_
        refine k_ist E B 8 7 (ws' := wX a g (uHj (uHj (uHp u n) hj) (va_up hj i job))) (aX_Hj (xHj_uHj _ _)) rfl (by omega) (by decide) (wX_Hj _ _ _ _) d_X_sink_108 (fun H locs B => ?_)
        rw [uHj_uHj] at B
        exact ret _ _ _ _ _ ⟨_, rfl, hI.fin hP hU2⟩ B d_X_sink_109
      · skip
        have j96 : ∀ (i : Nat) (hj : Nat → Nat) (cx : Int32) (H : Heap) (locs : List Loc) (ls : Array Slot), HI (key mk) hj n i job S → PaOk (key mk) hj i job → (UpOk (key mk) hj n i job ∨ t + 1 ≤ i) → lv_has ls 6 [(5, .int cx), (3, .int (nI i)), (4, .int (nI t)), (0, .ref (a 0)), (2, .int (nI job))] → wB D (tX g) s A s.heap (wX a g (uHj (uHp u n) hj)) H locs → W p l e (rd 1) s m args below meth c H locs 0 0 Q (F0 m 96 ls []) := by
          intro i hj cx H locs ls hI hP hU hl B
          refine lv_iinc (v := nI (t + 1)) (lv' := [(4, .int (nI (t + 1))), (5, .int cx), (3, .int (nI i)), (0, .ref (a 0)), (2, .int (nI job))]) E.1 E.2.1 d_X_sink_96 hl (k := 2) rfl (by rw [show Int32.ofInt 1 = nI 1 from rfl, nI_add]) (by decide) rfl (fun ls hl => ?_)
          refine lv_goto (tgt := 5) E.1 E.2.1 d_X_sink_99 (by decide) ?_
          exact ih (t + 1) i hj _ _ _ (by omega) (by omega) hI hP hU (lv_sub hl [0, 2, 3, 4] rfl) B
        have j56 : ∀ (cc0 : Nat) (H : Heap) (locs : List Loc) (ls : Array Slot), (cc0 = 2 * i + 1 ∨ cc0 = 2 * i + 2) → (n ≤ cc0 → n ≤ 2 * i + 1) → (∀ k, 0 < k → k < n → (k - 1) / 2 = i → key mk (hj cc0) ≤ key mk (hj k)) → lv_has ls 6 [(5, .int (nI cc0)), (3, .int (nI i)), (4, .int (nI t)), (0, .ref (a 0)), (2, .int (nI job))] → wB D (tX g) s A s.heap (wX a g (uHj (uHp u n) hj)) H locs → W p l e (rd 1) s m args below meth c H locs 0 0 Q (F0 m 56 ls []) := by
          intro cc0 H locs ls hc hcn hmin hl B
          refine lv_iload E.1 E.2.1 d_X_sink_56 (lv_at hl 0 rfl) ?_
          refine lv_aload_n E.1 E.2.1 d_X_sink_58 rfl (lv_at hl 3 rfl) ?_
          refine k_getX E B 10 (by decide) wf_X_52 rfl (fX_Hp ((xHp_uHj _ _).trans (xHp_uHp _ _))) d_X_sink_59 ?_
          refine k_icmp_ge E 96 (by omega) (by omega) d_X_sink_62 (by decide) (fun h2 => ?_) (fun h2 => ?_)
          · skip
            exact j96 i hj _ _ _ _ hI hP (Or.inl (fun k k0 kn kp => by omega)) (lv_sub hl [0, 1, 2, 3, 4] rfl) B
          · skip
            have hlt : hj cc0 < 24 := hI.lt hS h2 (by omega)
            refine lv_aload_n E.1 E.2.1 d_X_sink_65 rfl (lv_at hl 3 rfl) ?_
            refine lv_aload_n E.1 E.2.1 d_X_sink_66 rfl (lv_at hl 3 rfl) ?_
            refine k_getX E B 11 (by decide) wf_X_32 rfl rfl d_X_sink_67 ?_
            refine lv_iload E.1 E.2.1 d_X_sink_70 (lv_at hl 0 rfl) ?_
            refine k_ild E B 8 7 (aX_Hj (xHj_uHj _ _)) rfl (by omega) (by decide) d_X_sink_72 ?_
            refine lv_iload_n E.1 E.2.1 d_X_sink_73 rfl (lv_at hl 4 rfl) ?_
            refine k_calli (As := [.int (nI (hj cc0)), .int (nI job)]) (rest := []) E (c_X_sooner l D a g (uHj (uHp u n) hj) (hj cc0) (job) hlt hjob (by rw [((xMk_uHj _ _).trans (xMk_uHp _ _)).trans e1]; exact hm)) kc_X_55 ⟨Nat.le_of_ble_eq_true rfl, Nat.le_of_ble_eq_true rfl⟩ B (show classes[0]? = _ from rfl) rfl hl.1 rfl (Nat.le_of_ble_eq_true rfl) d_X_sink_74 ⟨Nat.le_of_ble_eq_true rfl, Nat.le_of_ble_eq_true rfl⟩ (fun r u1 H locs hq B => ?_)
            obtain ⟨hu, hr⟩ := hq
            rw [hu] at B
            rw [((xMk_uHj _ _).trans (xMk_uHp _ _)).trans e1] at hr
            refine lv_if_eq (tgt := 96) E.1 E.2.1 d_X_sink_77 (by decide) (fun h0 => ?_) (fun h0 => ?_)
            · skip
              have hs := sooner_no hr h0
              rw [soon_key hlt hjob] at hs
              exact j96 i hj _ _ _ _ hI hP (Or.inl (fun k k0 kn kp => by have := hmin k k0 kn kp; omega)) (lv_sub hl [0, 1, 2, 3, 4] rfl) B
            · skip
              have hs := (soon_key hlt hjob).mp (sooner_yes hr h0)
              have hti : t ≤ i := hU.elim (fun q => by have := q cc0 (by omega) h2 (by omega); omega) id
              obtain ⟨hI2, hP2⟩ := hI.down hP (by omega) h2 (by omega) hmin hs
              refine lv_aload_n E.1 E.2.1 d_X_sink_80 rfl (lv_at hl 3 rfl) ?_
              refine k_getX E B 11 (by decide) wf_X_32 rfl rfl d_X_sink_81 ?_
              refine lv_iload_n E.1 E.2.1 d_X_sink_84 rfl (lv_at hl 1 rfl) ?_
              refine lv_aload_n E.1 E.2.1 d_X_sink_85 rfl (lv_at hl 3 rfl) ?_
              refine k_getX E B 11 (by decide) wf_X_32 rfl rfl d_X_sink_86 ?_
              refine lv_iload E.1 E.2.1 d_X_sink_89 (lv_at hl 0 rfl) ?_
              refine k_ild E B 8 7 (aX_Hj (xHj_uHj _ _)) rfl (by omega) (by decide) d_X_sink_91 ?_
              refine k_ist E B 8 7 (ws' := wX a g (uHj (uHj (uHp u n) hj) (va_up hj i (hj cc0)))) (aX_Hj (xHj_uHj _ _)) rfl (by omega) (by decide) (wX_Hj _ _ _ _) d_X_sink_92 (fun H locs B => ?_)
              rw [uHj_uHj] at B
              refine lv_iload E.1 E.2.1 d_X_sink_93 (lv_at hl 0 rfl) ?_
              refine lv_istore_n (lv' := [(3, .int (nI cc0)), (5, .int (nI cc0)), (4, .int (nI t)), (0, .ref (a 0)), (2, .int (nI job))]) E.1 E.2.1 d_X_sink_95 rfl hl (by decide) rfl (fun ls hl => ?_)
              exact j96 cc0 _ _ _ _ _ hI2 hP2 (Or.inr (by omega)) (lv_sub hl [1, 0, 2, 3, 4] rfl) B
        refine k_iconst E 2 d_X_sink_12 rfl ?_
        refine lv_iload_n E.1 E.2.1 d_X_sink_13 rfl (lv_at hl 1 rfl) ?_
        refine k_imul E d_X_sink_14 ?_
        refine k_iconst E 1 d_X_sink_15 rfl ?_
        refine k_iadd E d_X_sink_16 ?_
        refine lv_istore (lv' := [(5, .int (nI ((2 * i) + 1))), (4, .int (nI t)), (3, .int (nI i)), (0, .ref (a 0)), (2, .int (nI job))]) E.1 E.2.1 d_X_sink_17 hl (by decide) rfl (fun ls hl => ?_)
        refine lv_iload E.1 E.2.1 d_X_sink_19 (lv_at hl 0 rfl) ?_
        refine k_iconst E 1 d_X_sink_21 rfl ?_
        refine k_iadd E d_X_sink_22 ?_
        refine lv_aload_n E.1 E.2.1 d_X_sink_23 rfl (lv_at hl 3 rfl) ?_
        refine k_getX E B 10 (by decide) wf_X_52 rfl (fX_Hp ((xHp_uHj _ _).trans (xHp_uHp _ _))) d_X_sink_24 ?_
        refine k_icmp_ge E 56 (by omega) (by omega) d_X_sink_27 (by decide) (fun h3 => ?_) (fun h3 => ?_)
        · skip
          refine j56 _ _ _ _ (Or.inl rfl) (fun q => by omega) (fun k k0 kn kp => ?_) (lv_sub hl [0, 2, 1, 3, 4] rfl) B
          have : k = 2 * i + 1 := by omega
          rw [this]
          exact Nat.le_refl _
        · skip
          have hl1 : hj (2 * i + 1) < 24 := hI.lt hS (by omega) (by omega)
          have hl2 : hj (2 * i + 1 + 1) < 24 := hI.lt hS (by omega) (by omega)
          refine lv_aload_n E.1 E.2.1 d_X_sink_30 rfl (lv_at hl 3 rfl) ?_
          refine lv_aload_n E.1 E.2.1 d_X_sink_31 rfl (lv_at hl 3 rfl) ?_
          refine k_getX E B 11 (by decide) wf_X_32 rfl rfl d_X_sink_32 ?_
          refine lv_iload E.1 E.2.1 d_X_sink_35 (lv_at hl 0 rfl) ?_
          refine k_iconst E 1 d_X_sink_37 rfl ?_
          refine k_iadd E d_X_sink_38 ?_
          refine k_ild E B 8 7 (aX_Hj (xHj_uHj _ _)) rfl (by omega) (by decide) d_X_sink_39 ?_
          refine lv_aload_n E.1 E.2.1 d_X_sink_40 rfl (lv_at hl 3 rfl) ?_
          refine k_getX E B 11 (by decide) wf_X_32 rfl rfl d_X_sink_41 ?_
          refine lv_iload E.1 E.2.1 d_X_sink_44 (lv_at hl 0 rfl) ?_
          refine k_ild E B 8 7 (aX_Hj (xHj_uHj _ _)) rfl (by omega) (by decide) d_X_sink_46 ?_
          refine k_calli (As := [.int (nI (hj (((2 * i) + 1) + 1))), .int (nI (hj ((2 * i) + 1)))]) (rest := []) E (c_X_sooner l D a g (uHj (uHp u n) hj) (hj (2 * i + 1 + 1)) (hj (2 * i + 1)) hl2 hl1 (by rw [((xMk_uHj _ _).trans (xMk_uHp _ _)).trans e1]; exact hm)) kc_X_55 ⟨Nat.le_of_ble_eq_true rfl, Nat.le_of_ble_eq_true rfl⟩ B (show classes[0]? = _ from rfl) rfl hl.1 rfl (Nat.le_of_ble_eq_true rfl) d_X_sink_47 ⟨Nat.le_of_ble_eq_true rfl, Nat.le_of_ble_eq_true rfl⟩ (fun r u1 H locs hq B => ?_)
          obtain ⟨hu, hr⟩ := hq
          rw [hu] at B
          rw [((xMk_uHj _ _).trans (xMk_uHp _ _)).trans e1] at hr
          refine lv_if_eq (tgt := 56) E.1 E.2.1 d_X_sink_50 (by decide) (fun h0 => ?_) (fun h0 => ?_)
          · skip
            have hs := sooner_no hr h0
            rw [soon_key hl2 hl1] at hs
            refine j56 _ _ _ _ (Or.inl rfl) (fun q => by omega) (fun k k0 kn kp => ?_) (lv_sub hl [0, 2, 1, 3, 4] rfl) B
            rcases (show k = 2 * i + 1 ∨ k = 2 * i + 1 + 1 by omega) with e | e
            · rw [e]; exact Nat.le_refl _
            · rw [e]; omega
          · skip
            have hs := (soon_key hl2 hl1).mp (sooner_yes hr h0)
            refine lv_iinc (v := nI ((2 * i) + 1 + 1)) (lv' := [(5, .int (nI ((2 * i) + 1 + 1))), (4, .int (nI t)), (3, .int (nI i)), (0, .ref (a 0)), (2, .int (nI job))]) E.1 E.2.1 d_X_sink_53 hl (k := 0) rfl (by rw [show Int32.ofInt 1 = nI 1 from rfl, nI_add]) (by decide) rfl (fun ls hl => ?_)
            refine j56 _ _ _ _ (Or.inr (by omega)) (fun q => by omega) (fun k k0 kn kp => ?_) (lv_sub hl [0, 2, 1, 3, 4] rfl) B
            rcases (show k = 2 * i + 1 ∨ k = 2 * i + 1 + 1 by omega) with e | e
            · rw [e]; omega
            · rw [e]; exact Nat.le_refl _
  refine lv_iload_n E.1 E.2.1 d_X_sink_0 rfl (lv_at hl 1 rfl) ?_
  refine lv_istore_n (lv' := [(3, .int (nI i0)), (0, .ref (a 0)), (1, .int (nI i0)), (2, .int (nI job))]) E.1 E.2.1 d_X_sink_1 rfl hl (by decide) rfl (fun ls hl => ?_)
  refine k_iconst E 0 d_X_sink_2 rfl ?_
  refine lv_istore (lv' := [(4, .int (nI 0)), (3, .int (nI i0)), (0, .ref (a 0)), (1, .int (nI i0)), (2, .int (nI job))]) E.1 E.2.1 d_X_sink_3 hl (by decide) rfl (fun ls hl => ?_)
  exact loop 8 0 i0 hj _ _ _ (by omega) (by omega) hI hP (Or.inr (Nat.zero_le _)) (lv_sub hl [0, 1, 2, 4] rfl) B
set_option maxHeartbeats 4000000 in
set_option maxRecDepth 100000 in
/-- takeOut(place) -/
theorem c_X_takeOut (l : Launch) (D : va_G) (a : Nat → Nat) (g : Nat → ClassId) (u : PX) (pl : Nat) (mk hj : Nat → Nat) (n : Nat) (S : Nat → Prop) (e1 : xMk u = mk) (e2 : xHj u = hj) (e3 : xHp u = n) (hS : ∀ j, S j → j < 24) (hm : ∀ k, k < 24 → mk k < 2 ^ 63) (h0 : 0 < n) (hn : n ≤ 8) (hpl : pl < n) (hH : Hp (key mk) hj n S) : MetV l y_X_takeOut b_X_takeOut 4 2 D (tX g) (wX a g) [.ref (a 0), .int (nI pl)] u (fun u' => ∃ h', u' = uHj (uHp u (n - 1)) h' ∧ Hp (key mk) h' (n - 1) (fun j => S j ∧ j ≠ hj pl)) := by
  refine MetV.of (by decide) (Nat.le_of_ble_eq_true rfl) ?_
  intro p e s m args below meth c A Q ls E hl B ret
  have E : CallFix p m c b_X_takeOut 4 s args lw_ws R_X := E
  have hl : lv_has ls 4 [(0, .ref (a 0)), (1, .int (nI pl))] := hl
  have B : wB D (tX g) s A s.heap (wX a g (uHj (uHp u n) hj)) s.heap [] := by
    have e9 : uHj (uHp u n) hj = u := by
      rw [← e2, ← e3]
      rfl
    rw [e9]
    exact B
  have hjob : hj (n - 1) < 24 := hS _ (hH.1.1 _ (by omega))
  have loop : ∀ (i : Nat) (hj2 : Nat → Nat) (H : Heap) (locs : List Loc) (ls : Array Slot), HI (key mk) hj2 (n - 1) i (hj (n - 1)) (fun j => S j ∧ j ≠ hj pl) → lv_has ls 4 [(3, .int (nI i)), (2, .int (nI (hj (n - 1)))), (0, .ref (a 0)), (1, .int (nI pl))] → wB D (tX g) s A s.heap (wX a g (uHj (uHp u (n - 1)) hj2)) H locs → W p l e (rd 2) s m args below meth c H locs 0 0 Q (F0 m 31 ls []) := by
    intro i
    induction i using Nat.strongRecOn with
    | ind i ih =>
      intro hj2 H locs ls hI hl B
      have hin := hI.1
      have hS2 : ∀ j, (S j ∧ j ≠ hj pl) → j < 24 := fun j q => hS j q.1
      refine lv_iload_n E.1 E.2.1 d_X_takeOut_31 rfl (lv_at hl 0 rfl) ?_
      refine k_if_le E 78 (by omega) d_X_takeOut_32 (by decide) (fun h1 => ?_) (fun h1 => ?_)
      · skip
        refine lv_aload_n E.1 E.2.1 d_X_takeOut_78 rfl (lv_at hl 2 rfl) ?_
        refine lv_iload_n E.1 E.2.1 d_X_takeOut_79 rfl (lv_at hl 0 rfl) ?_
        refine lv_iload_n E.1 E.2.1 d_X_takeOut_80 rfl (lv_at hl 1 rfl) ?_
        refine k_callv (As := [.int (nI i), .int (nI (hj (n - 1)))]) (rest := []) E (c_X_sink l D a g (uHj (uHp u (n - 1)) hj2) i (hj (n - 1)) mk hj2 (n - 1) _ (((xMk_uHj _ _).trans (xMk_uHp _ _)).trans e1) (xHj_uHj _ _) ((xHp_uHj _ _).trans (xHp_uHp _ _)) hS2 hm hjob (by omega) hI (fun q => by omega)) kc_X_59 ⟨Nat.le_of_ble_eq_true rfl, Nat.le_of_ble_eq_true rfl⟩ B (show classes[0]? = _ from rfl) rfl hl.1 rfl (Nat.le_of_ble_eq_true rfl) d_X_takeOut_81 ⟨Nat.le_of_ble_eq_true rfl, Nat.le_of_ble_eq_true rfl⟩ (fun u1 H locs hq B => ?_)
        obtain ⟨h', hu, hH'⟩ := hq
        rw [hu] at B
        have e9 : uHj (uHp (uHj (uHp u (n - 1)) hj2) (n - 1)) h' = uHj (uHp u (n - 1)) h' := by simp only [uHj, uHp]
        rw [e9] at B
        exact ret _ _ _ _ _ ⟨_, rfl, hH'⟩ B d_X_takeOut_84
      · skip
        have hlt : hj2 ((i - 1) / 2) < 24 := hI.lt hS2 (by omega) (by omega)
        refine lv_aload_n E.1 E.2.1 d_X_takeOut_35 rfl (lv_at hl 2 rfl) ?_
        refine lv_iload_n E.1 E.2.1 d_X_takeOut_36 rfl (lv_at hl 1 rfl) ?_
        refine lv_aload_n E.1 E.2.1 d_X_takeOut_37 rfl (lv_at hl 2 rfl) ?_
        refine k_getX E B 11 (by decide) wf_X_32 rfl rfl d_X_takeOut_38 ?_
        refine lv_iload_n E.1 E.2.1 d_X_takeOut_41 rfl (lv_at hl 0 rfl) ?_
        refine k_iconst E 1 d_X_takeOut_42 rfl ?_
        refine k_isub E (by omega) d_X_takeOut_43 ?_
        refine k_iconst E 2 d_X_takeOut_44 rfl ?_
        refine k_idiv E (by omega) (by omega) (by omega) d_X_takeOut_45 ?_
        refine k_ild E B 8 7 (aX_Hj (xHj_uHj _ _)) rfl (by omega) (by decide) d_X_takeOut_46 ?_
        refine k_calli (As := [.int (nI (hj (n - 1))), .int (nI (hj2 ((i - 1) / 2)))]) (rest := []) E (c_X_sooner l D a g (uHj (uHp u (n - 1)) hj2) (hj (n - 1)) (hj2 ((i - 1) / 2)) hjob hlt (by rw [((xMk_uHj _ _).trans (xMk_uHp _ _)).trans e1]; exact hm)) kc_X_55 ⟨Nat.le_of_ble_eq_true rfl, Nat.le_of_ble_eq_true rfl⟩ B (show classes[0]? = _ from rfl) rfl hl.1 rfl (Nat.le_of_ble_eq_true rfl) d_X_takeOut_47 ⟨Nat.le_of_ble_eq_true rfl, Nat.le_of_ble_eq_true rfl⟩ (fun r u1 H locs hq B => ?_)
        obtain ⟨hu, hr⟩ := hq
        rw [hu] at B
        rw [((xMk_uHj _ _).trans (xMk_uHp _ _)).trans e1] at hr
        refine lv_if_eq (tgt := 78) E.1 E.2.1 d_X_takeOut_50 (by decide) (fun h0 => ?_) (fun h0 => ?_)
        · skip
          have hs := sooner_no hr h0
          rw [soon_key hjob hlt] at hs
          refine lv_aload_n E.1 E.2.1 d_X_takeOut_78 rfl (lv_at hl 2 rfl) ?_
          refine lv_iload_n E.1 E.2.1 d_X_takeOut_79 rfl (lv_at hl 0 rfl) ?_
          refine lv_iload_n E.1 E.2.1 d_X_takeOut_80 rfl (lv_at hl 1 rfl) ?_
          refine k_callv (As := [.int (nI i), .int (nI (hj (n - 1)))]) (rest := []) E (c_X_sink l D a g (uHj (uHp u (n - 1)) hj2) i (hj (n - 1)) mk hj2 (n - 1) _ (((xMk_uHj _ _).trans (xMk_uHp _ _)).trans e1) (xHj_uHj _ _) ((xHp_uHj _ _).trans (xHp_uHp _ _)) hS2 hm hjob (by omega) hI (fun _ => by omega)) kc_X_59 ⟨Nat.le_of_ble_eq_true rfl, Nat.le_of_ble_eq_true rfl⟩ B (show classes[0]? = _ from rfl) rfl hl.1 rfl (Nat.le_of_ble_eq_true rfl) d_X_takeOut_81 ⟨Nat.le_of_ble_eq_true rfl, Nat.le_of_ble_eq_true rfl⟩ (fun u1 H locs hq B => ?_)
          obtain ⟨h', hu, hH'⟩ := hq
          rw [hu] at B
          have e9 : uHj (uHp (uHj (uHp u (n - 1)) hj2) (n - 1)) h' = uHj (uHp u (n - 1)) h' := by simp only [uHj, uHp]
          rw [e9] at B
          exact ret _ _ _ _ _ ⟨_, rfl, hH'⟩ B d_X_takeOut_84
        · skip
          have hs := (soon_key hjob hlt).mp (sooner_yes hr h0)
          obtain ⟨hI2, hU2⟩ := hI.up h1 hs
          refine lv_aload_n E.1 E.2.1 d_X_takeOut_53 rfl (lv_at hl 2 rfl) ?_
          refine k_getX E B 11 (by decide) wf_X_32 rfl rfl d_X_takeOut_54 ?_
          refine lv_iload_n E.1 E.2.1 d_X_takeOut_57 rfl (lv_at hl 0 rfl) ?_
          refine lv_aload_n E.1 E.2.1 d_X_takeOut_58 rfl (lv_at hl 2 rfl) ?_
          refine k_getX E B 11 (by decide) wf_X_32 rfl rfl d_X_takeOut_59 ?_
          refine lv_iload_n E.1 E.2.1 d_X_takeOut_62 rfl (lv_at hl 0 rfl) ?_
          refine k_iconst E 1 d_X_takeOut_63 rfl ?_
          refine k_isub E (by omega) d_X_takeOut_64 ?_
          refine k_iconst E 2 d_X_takeOut_65 rfl ?_
          refine k_idiv E (by omega) (by omega) (by omega) d_X_takeOut_66 ?_
          refine k_ild E B 8 7 (aX_Hj (xHj_uHj _ _)) rfl (by omega) (by decide) d_X_takeOut_67 ?_
          refine k_ist E B 8 7 (ws' := wX a g (uHj (uHj (uHp u (n - 1)) hj2) (va_up hj2 i (hj2 ((i - 1) / 2))))) (aX_Hj (xHj_uHj _ _)) rfl (by omega) (by decide) (wX_Hj _ _ _ _) d_X_takeOut_68 (fun H locs B => ?_)
          rw [uHj_uHj] at B
          refine lv_iload_n E.1 E.2.1 d_X_takeOut_69 rfl (lv_at hl 0 rfl) ?_
          refine k_iconst E 1 d_X_takeOut_70 rfl ?_
          refine k_isub E (by omega) d_X_takeOut_71 ?_
          refine k_iconst E 2 d_X_takeOut_72 rfl ?_
          refine k_idiv E (by omega) (by omega) (by omega) d_X_takeOut_73 ?_
          refine lv_istore_n (lv' := [(3, .int (nI ((i - 1) / 2))), (2, .int (nI (hj (n - 1)))), (0, .ref (a 0)), (1, .int (nI pl))]) E.1 E.2.1 d_X_takeOut_74 rfl hl (by decide) rfl (fun ls hl => ?_)
          refine lv_goto (tgt := 31) E.1 E.2.1 d_X_takeOut_75 (by decide) ?_
          exact ih _ (by omega) _ _ _ _ hI2 (lv_sub hl [0, 1, 2, 3] rfl) B
  refine lv_aload_n E.1 E.2.1 d_X_takeOut_0 rfl (lv_at hl 0 rfl) ?_
  refine k_dup E rfl d_X_takeOut_1 ?_
  refine k_getX E B 10 (by decide) wf_X_52 rfl (fX_Hp ((xHp_uHj _ _).trans (xHp_uHp _ _))) d_X_takeOut_2 ?_
  refine k_iconst E 1 d_X_takeOut_5 rfl ?_
  refine k_isub E (by omega) d_X_takeOut_6 ?_
  refine k_putX (uHp (uHj (uHp u n) hj) (n - 1)) E B 10 (by decide) wf_X_52 rfl rfl rfl rfl (wX_Hp _ _ _ _) d_X_takeOut_7 (fun H locs B => ?_)
  rw [uHp_uHj, uHp_uHp] at B
  refine lv_aload_n E.1 E.2.1 d_X_takeOut_10 rfl (lv_at hl 0 rfl) ?_
  refine k_getX E B 11 (by decide) wf_X_32 rfl rfl d_X_takeOut_11 ?_
  refine lv_aload_n E.1 E.2.1 d_X_takeOut_14 rfl (lv_at hl 0 rfl) ?_
  refine k_getX E B 10 (by decide) wf_X_52 rfl (fX_Hp ((xHp_uHj _ _).trans (xHp_uHp _ _))) d_X_takeOut_15 ?_
  refine k_ild E B 8 7 (aX_Hj (xHj_uHj _ _)) rfl (by omega) (by decide) d_X_takeOut_18 ?_
  refine lv_istore_n (lv' := [(2, .int (nI (hj (n - 1)))), (0, .ref (a 0)), (1, .int (nI pl))]) E.1 E.2.1 d_X_takeOut_19 rfl hl (by decide) rfl (fun ls hl => ?_)
  refine lv_iload_n E.1 E.2.1 d_X_takeOut_20 rfl (lv_at hl 2 rfl) ?_
  refine lv_aload_n E.1 E.2.1 d_X_takeOut_21 rfl (lv_at hl 1 rfl) ?_
  refine k_getX E B 10 (by decide) wf_X_52 rfl (fX_Hp ((xHp_uHj _ _).trans (xHp_uHp _ _))) d_X_takeOut_22 ?_
  refine k_icmp_ne E 29 (by omega) (by omega) d_X_takeOut_25 (by decide) (fun h2 => ?_) (fun h2 => ?_)
  · skip
    refine lv_iload_n E.1 E.2.1 d_X_takeOut_29 rfl (lv_at hl 2 rfl) ?_
    refine lv_istore_n (lv' := [(3, .int (nI pl)), (2, .int (nI (hj (n - 1)))), (0, .ref (a 0)), (1, .int (nI pl))]) E.1 E.2.1 d_X_takeOut_30 rfl hl (by decide) rfl (fun ls hl => ?_)
    exact loop pl hj _ _ _ (hH.take' h0 (by omega)) (lv_sub hl [0, 1, 2, 3] rfl) B
  · skip
    have hL := hH.last' h0
    rw [← h2] at hL
    rw [← h2] at B
    refine ret _ _ _ _ _ ⟨hj, rfl, ?_⟩ (by rw [← h2]; exact B) d_X_takeOut_28
    rw [← h2]
    exact hL
set_option maxHeartbeats 4000000 in
set_option maxRecDepth 100000 in
/-- leaveHeap(job) -/
theorem c_X_leaveHeap (l : Launch) (D : va_G) (a : Nat → Nat) (g : Nat → ClassId) (u : PX) (job : Nat) (mk hj : Nat → Nat) (n : Nat) (S : Nat → Prop) (e1 : xMk u = mk) (e2 : xHj u = hj) (e3 : xHp u = n) (hS : ∀ j, S j → j < 24) (hm : ∀ k, k < 24 → mk k < 2 ^ 63) (hn : n ≤ 8) (hin : S job) (hH : Hp (key mk) hj n S) : MetV l y_X_leaveHeap b_X_leaveHeap 3 3 D (tX g) (wX a g) [.ref (a 0), .int (nI job)] u (fun u' => ∃ h', u' = uHj (uHp u (n - 1)) h' ∧ Hp (key mk) h' (n - 1) (fun j => S j ∧ j ≠ job)) := by
  refine MetV.of (by decide) (Nat.le_of_ble_eq_true rfl) ?_
  intro p e s m args below meth c A Q ls E hl B ret
  have E : CallFix p m c b_X_leaveHeap 3 s args lw_ws R_X := E
  have hl : lv_has ls 3 [(0, .ref (a 0)), (1, .int (nI job))] := hl
  have B : wB D (tX g) s A s.heap (wX a g (uHj (uHp u n) hj)) s.heap [] := by
    have e9 : uHj (uHp u n) hj = u := by
      rw [← e2, ← e3]
      rfl
    rw [e9]
    exact B
  obtain ⟨k0, hk0, ek0⟩ := hH.1.2.1 job hin
  have hjob := hS job hin
  have loop : ∀ (z i : Nat) (ls : Array Slot), i < n → n - i ≤ z → (∀ k, k < i → hj k ≠ job) → lv_has ls 3 [(2, .int (nI i)), (0, .ref (a 0)), (1, .int (nI job))] → W p l e (rd 3) s m args below meth c s.heap [] 0 0 Q (F0 m 2 ls []) := by
    intro z
    induction z with
    | zero => intro i ls h1 h2; omega
    | succ z ih =>
      intro i ls hi hz hne hl
      have hlt := hS _ (hH.1.1 i hi)
      refine lv_iload_n E.1 E.2.1 d_X_leaveHeap_2 rfl (lv_at hl 0 rfl) ?_
      refine lv_aload_n E.1 E.2.1 d_X_leaveHeap_3 rfl (lv_at hl 1 rfl) ?_
      refine k_getX E B 10 (by decide) wf_X_52 rfl (fX_Hp ((xHp_uHj _ _).trans (xHp_uHp _ _))) d_X_leaveHeap_4 ?_
      refine k_iconst E 1 d_X_leaveHeap_7 rfl ?_
      refine k_isub E (by omega) d_X_leaveHeap_8 ?_
      refine k_icmp_ge E 28 (by omega) (by omega) d_X_leaveHeap_9 (by decide) (fun h1 => ?_) (fun h1 => ?_)
      · skip
        have hje : hj i = job := by
          have : k0 = i := by
            rcases Nat.lt_or_ge k0 i with q | q
            · exact absurd ek0 (hne k0 q)
            · omega
          rw [← this]
          exact ek0
        refine lv_aload_n E.1 E.2.1 d_X_leaveHeap_28 rfl (lv_at hl 1 rfl) ?_
        refine lv_iload_n E.1 E.2.1 d_X_leaveHeap_29 rfl (lv_at hl 0 rfl) ?_
        refine k_callv (As := [.int (nI i)]) (rest := []) E (c_X_takeOut l D a g (uHj (uHp u n) hj) i mk hj n S (((xMk_uHj _ _).trans (xMk_uHp _ _)).trans e1) (xHj_uHj _ _) ((xHp_uHj _ _).trans (xHp_uHp _ _)) hS hm (by omega) hn hi hH) kc_X_74 ⟨Nat.le_of_ble_eq_true rfl, Nat.le_of_ble_eq_true rfl⟩ B (show classes[0]? = _ from rfl) rfl hl.1 rfl (Nat.le_of_ble_eq_true rfl) d_X_leaveHeap_30 ⟨Nat.le_of_ble_eq_true rfl, Nat.le_of_ble_eq_true rfl⟩ (fun u1 H locs hq B => ?_)
        obtain ⟨h', hu, hH'⟩ := hq
        rw [hu] at B
        have e9 : uHj (uHp (uHj (uHp u n) hj) (n - 1)) h' = uHj (uHp u (n - 1)) h' := by simp only [uHj, uHp]
        rw [e9] at B
        rw [hje] at hH'
        exact ret _ _ _ _ _ ⟨_, rfl, hH'⟩ B d_X_leaveHeap_33
      · skip
        refine lv_aload_n E.1 E.2.1 d_X_leaveHeap_12 rfl (lv_at hl 1 rfl) ?_
        refine k_getX E B 11 (by decide) wf_X_32 rfl rfl d_X_leaveHeap_13 ?_
        refine lv_iload_n E.1 E.2.1 d_X_leaveHeap_16 rfl (lv_at hl 0 rfl) ?_
        refine k_ild E B 8 7 (aX_Hj (xHj_uHj _ _)) rfl (by omega) (by decide) d_X_leaveHeap_17 ?_
        refine lv_iload_n E.1 E.2.1 d_X_leaveHeap_18 rfl (lv_at hl 2 rfl) ?_
        refine k_icmp_eq E 28 (by omega) (by omega) d_X_leaveHeap_19 (by decide) (fun h2 => ?_) (fun h2 => ?_)
        · skip
          have hje : hj i = job := h2
          refine lv_aload_n E.1 E.2.1 d_X_leaveHeap_28 rfl (lv_at hl 1 rfl) ?_
          refine lv_iload_n E.1 E.2.1 d_X_leaveHeap_29 rfl (lv_at hl 0 rfl) ?_
          refine k_callv (As := [.int (nI i)]) (rest := []) E (c_X_takeOut l D a g (uHj (uHp u n) hj) i mk hj n S (((xMk_uHj _ _).trans (xMk_uHp _ _)).trans e1) (xHj_uHj _ _) ((xHp_uHj _ _).trans (xHp_uHp _ _)) hS hm (by omega) hn hi hH) kc_X_74 ⟨Nat.le_of_ble_eq_true rfl, Nat.le_of_ble_eq_true rfl⟩ B (show classes[0]? = _ from rfl) rfl hl.1 rfl (Nat.le_of_ble_eq_true rfl) d_X_leaveHeap_30 ⟨Nat.le_of_ble_eq_true rfl, Nat.le_of_ble_eq_true rfl⟩ (fun u1 H locs hq B => ?_)
          obtain ⟨h', hu, hH'⟩ := hq
          rw [hu] at B
          have e9 : uHj (uHp (uHj (uHp u n) hj) (n - 1)) h' = uHj (uHp u (n - 1)) h' := by simp only [uHj, uHp]
          rw [e9] at B
          rw [hje] at hH'
          exact ret _ _ _ _ _ ⟨_, rfl, hH'⟩ B d_X_leaveHeap_33
        · skip
          refine lv_iinc (v := nI (i + 1)) (lv' := [(2, .int (nI (i + 1))), (0, .ref (a 0)), (1, .int (nI job))]) E.1 E.2.1 d_X_leaveHeap_22 hl (k := 0) rfl (by rw [show Int32.ofInt 1 = nI 1 from rfl, nI_add]) (by decide) rfl (fun ls hl => ?_)
          refine lv_goto (tgt := 2) E.1 E.2.1 d_X_leaveHeap_25 (by decide) ?_
          refine ih (i + 1) _ (by omega) (by omega) (fun k hk => ?_) (lv_sub hl [0, 1, 2] rfl)
          rcases (show k < i ∨ k = i by omega) with q | q
          · exact hne k q
          · rw [q]
            exact h2
  refine k_iconst E 0 d_X_leaveHeap_0 rfl ?_
  refine lv_istore_n (lv' := [(2, .int (nI 0)), (0, .ref (a 0)), (1, .int (nI job))]) E.1 E.2.1 d_X_leaveHeap_1 rfl hl (by decide) rfl (fun ls hl => ?_)
  exact loop n 0 _ (by omega) (by omega) (fun k hk => by omega) hl
end
section
theorem uCj_uCj (U : PX) (v w : Nat → Nat) : uCj (uCj U v) w = uCj U w := by
  simp only [uCj]
theorem uCj_uIl (U : PX) (v : Nat) (w : Nat → Nat) : uCj (uIl U v) w = uIl (uCj U w) v := by
  simp only [uCj, uIl]
theorem uCj_uLj (U : PX) (v : Nat → Nat) (w : Nat → Nat) : uCj (uLj U v) w = uLj (uCj U w) v := by
  simp only [uCj, uLj]
theorem uCm_uCj (U : PX) (v : Nat → Nat) (w : Nat) : uCm (uCj U v) w = uCj (uCm U w) v := by
  simp only [uCm, uCj]
theorem uCm_uCm (U : PX) (v w : Nat) : uCm (uCm U v) w = uCm U w := by
  simp only [uCm]
theorem uCm_uIl (U : PX) (v : Nat) (w : Nat) : uCm (uIl U v) w = uIl (uCm U w) v := by
  simp only [uCm, uIl]
theorem uCm_uLj (U : PX) (v : Nat → Nat) (w : Nat) : uCm (uLj U v) w = uLj (uCm U w) v := by
  simp only [uCm, uLj]
theorem uIl_uIl (U : PX) (v w : Nat) : uIl (uIl U v) w = uIl U w := by
  simp only [uIl]
theorem uIl_uLj (U : PX) (v : Nat → Nat) (w : Nat) : uIl (uLj U v) w = uLj (uIl U w) v := by
  simp only [uIl, uLj]
theorem uLj_uLj (U : PX) (v w : Nat → Nat) : uLj (uLj U v) w = uLj U w := by
  simp only [uLj]
theorem uSt_uCj (U : PX) (v : Nat → Nat) (w : Nat → Nat) : uSt (uCj U v) w = uCj (uSt U w) v := by
  simp only [uSt, uCj]
theorem uSt_uCm (U : PX) (v : Nat) (w : Nat → Nat) : uSt (uCm U v) w = uCm (uSt U w) v := by
  simp only [uSt, uCm]
theorem uSt_uIl (U : PX) (v : Nat) (w : Nat → Nat) : uSt (uIl U v) w = uIl (uSt U w) v := by
  simp only [uSt, uIl]
theorem uSt_uLj (U : PX) (v : Nat → Nat) (w : Nat → Nat) : uSt (uLj U v) w = uLj (uSt U w) v := by
  simp only [uSt, uLj]
theorem uSt_uSt (U : PX) (v w : Nat → Nat) : uSt (uSt U v) w = uSt U w := by
  simp only [uSt]
set_option maxHeartbeats 4000000 in
set_option maxRecDepth 100000 in
/-- arrive(): the first n of those to come go to the line -/
theorem c_X_arrive (l : Launch) (D : va_G) (a : Nat → Nat) (g : Nat → ClassId) (u : PX) (T cm il : Nat) (ar st cj lj : Nat → Nat) (eT : xT u = T) (eAr : xAr u = ar) (eSt : xSt u = st) (eCm : xCm u = cm) (eCj : xCj u = cj) (eIl : xIl u = il) (eLj : xLj u = lj) (hT : T < 2 ^ 31) (har : ∀ i, i < cm → ar (cj i) < 2 ^ 31) (hq : il + cm ≤ 24) (hc : ∀ i, i < cm → cj i < 24) : MetV l y_X_arrive b_X_arrive 3 0 D (tX g) (wX a g) [.ref (a 0)] u (fun u' => ∃ n, n ≤ cm ∧ (∀ i, i < n → ar (cj i) ≤ T) ∧ (n < cm → T < ar (cj n)) ∧ ∃ st' cj' lj', u' = uLj (uIl (uCj (uCm (uSt u st') (cm - n)) cj') (il + n)) lj' ∧ (∀ i, i < cm - n → cj' i = cj (i + n)) ∧ (∀ i, i < il → lj' i = lj i) ∧ (∀ i, i < n → lj' (il + i) = cj i) ∧ (∀ i, i < n → st' (cj i) = 1) ∧ ∀ j, (∀ i, i < n → j ≠ cj i) → st' j = st j) := by
  refine MetV.of (by decide) (Nat.le_of_ble_eq_true rfl) ?_
  intro p e s m args below meth c A Q ls E hl B ret
  have E : CallFix p m c b_X_arrive 3 s args lw_ws R_X := E
  have hl : lv_has ls 3 [(0, .ref (a 0))] := hl
  have B : wB D (tX g) s A s.heap (wX a g (uLj (uIl (uCj (uCm (uSt u st) cm) cj) il) lj)) s.heap [] := by
    have e9 : uLj (uIl (uCj (uCm (uSt u st) cm) cj) il) lj = u := by
      rw [← eSt, ← eCm, ← eCj, ← eIl, ← eLj]
      rfl
    rw [e9]
    exact B
  have shift : ∀ (n : Nat) (st2 lj2 : Nat → Nat), n ≤ cm → (∀ i, i < n → ar (cj i) ≤ T) → (∀ i, i < il → lj2 i = lj i) → (∀ i, i < n → lj2 (il + i) = cj i) → (∀ i, i < n → st2 (cj i) = 1) → (∀ j, (∀ i, i < n → j ≠ cj i) → st2 j = st j) → (n < cm → T < ar (cj n)) → ∀ (z i : Nat) (cj2 : Nat → Nat) (H : Heap) (locs : List Loc) (ls : Array Slot), cm - n - i ≤ z → i ≤ cm - n → (∀ k, k < i → cj2 k = cj (k + n)) → (∀ k, i ≤ k → cj2 k = cj k) → lv_has ls 3 [(2, .int (nI i)), (1, .int (nI n)), (0, .ref (a 0))] → wB D (tX g) s A s.heap (wX a g (uLj (uIl (uCj (uCm (uSt u st2) (cm - n)) cj2) (il + n)) lj2)) H locs → W p l e (rd 0) s m args below meth c H locs 0 0 Q (F0 m 83 ls []) := by
    intro n st2 lj2 hn i1 i2 i3 i4 i5 hstop z
    induction z with
    | zero =>
      intro i cj2 H locs ls hz hi k1 k2 hl B
      refine lv_iload_n E.1 E.2.1 d_X_arrive_83 rfl (lv_at hl 0 rfl) ?_
      refine lv_aload_n E.1 E.2.1 d_X_arrive_84 rfl (lv_at hl 2 rfl) ?_
      refine k_getX E B 12 (by decide) wf_X_49 rfl (fX_Cm ((xCm_uLj _ _).trans ((xCm_uIl _ _).trans ((xCm_uCj _ _).trans (xCm_uCm _ _))))) d_X_arrive_85 ?_
      refine k_icmp_ge E 111 (by omega) (by omega) d_X_arrive_88 (by decide) (fun h1 => ?_) (fun h1 => ?_)
      · skip
        exact ret _ _ _ _ _ ⟨n, hn, i1, hstop, st2, cj2, lj2, rfl, fun k hk => k1 k (by omega), i2, i3, i4, i5⟩ B d_X_arrive_111
      · skip
        exact absurd h1 (by omega)
    | succ z ih =>
      intro i cj2 H locs ls hz hi k1 k2 hl B
      refine lv_iload_n E.1 E.2.1 d_X_arrive_83 rfl (lv_at hl 0 rfl) ?_
      refine lv_aload_n E.1 E.2.1 d_X_arrive_84 rfl (lv_at hl 2 rfl) ?_
      refine k_getX E B 12 (by decide) wf_X_49 rfl (fX_Cm ((xCm_uLj _ _).trans ((xCm_uIl _ _).trans ((xCm_uCj _ _).trans (xCm_uCm _ _))))) d_X_arrive_85 ?_
      refine k_icmp_ge E 111 (by omega) (by omega) d_X_arrive_88 (by decide) (fun h1 => ?_) (fun h1 => ?_)
      · skip
        exact ret _ _ _ _ _ ⟨n, hn, i1, hstop, st2, cj2, lj2, rfl, fun k hk => k1 k (by omega), i2, i3, i4, i5⟩ B d_X_arrive_111
      · skip
        refine lv_aload_n E.1 E.2.1 d_X_arrive_91 rfl (lv_at hl 2 rfl) ?_
        refine k_getX E B 13 (by decide) wf_X_35 rfl rfl d_X_arrive_92 ?_
        refine lv_iload_n E.1 E.2.1 d_X_arrive_95 rfl (lv_at hl 0 rfl) ?_
        refine lv_aload_n E.1 E.2.1 d_X_arrive_96 rfl (lv_at hl 2 rfl) ?_
        refine k_getX E B 13 (by decide) wf_X_35 rfl rfl d_X_arrive_97 ?_
        refine lv_iload_n E.1 E.2.1 d_X_arrive_100 rfl (lv_at hl 0 rfl) ?_
        refine lv_iload_n E.1 E.2.1 d_X_arrive_101 rfl (lv_at hl 1 rfl) ?_
        refine k_iadd E d_X_arrive_102 ?_
        refine k_ild E B 9 8 (aX_Cj ((xCj_uLj _ _).trans ((xCj_uIl _ _).trans (xCj_uCj _ _)))) rfl (by omega) (by decide) d_X_arrive_103 ?_
        refine k_ist E B 9 8 (ws' := wX a g (uCj (uLj (uIl (uCj (uCm (uSt u st2) (cm - n)) cj2) (il + n)) lj2) (va_up cj2 i (cj2 (i + n))))) (aX_Cj ((xCj_uLj _ _).trans ((xCj_uIl _ _).trans (xCj_uCj _ _)))) rfl (by omega) (by decide) (wX_Cj _ _ _ _) d_X_arrive_104 (fun H locs B => ?_)
        rw [uCj_uLj, uCj_uIl, uCj_uCj] at B
        refine lv_iinc (v := nI (i + 1)) (lv' := [(2, .int (nI (i + 1))), (1, .int (nI n)), (0, .ref (a 0))]) E.1 E.2.1 d_X_arrive_105 hl (k := 0) rfl (by rw [show Int32.ofInt 1 = nI 1 from rfl, nI_add]) (by decide) rfl (fun ls hl => ?_)
        refine lv_goto (tgt := 83) E.1 E.2.1 d_X_arrive_108 (by decide) ?_
        refine ih (i + 1) _ _ _ _ (by omega) (by omega) (fun k hk => ?_) (fun k hk => ?_) (lv_sub hl [0, 1, 2] rfl) B
        · rcases (show k = i ∨ k < i by omega) with q | q
          · rw [q, va_up_s]
            exact k2 _ (by omega)
          · rw [va_up_n (by omega)]
            exact k1 k q
        · rw [va_up_n (by omega)]
          exact k2 k (by omega)
  have loop : ∀ (z n : Nat) (st2 lj2 : Nat → Nat) (H : Heap) (locs : List Loc) (ls : Array Slot), cm - n ≤ z → n ≤ cm → (∀ i, i < n → ar (cj i) ≤ T) → (∀ i, i < il → lj2 i = lj i) → (∀ i, i < n → lj2 (il + i) = cj i) → (∀ i, i < n → st2 (cj i) = 1) → (∀ j, (∀ i, i < n → j ≠ cj i) → st2 j = st j) → lv_has ls 3 [(1, .int (nI n)), (0, .ref (a 0))] → wB D (tX g) s A s.heap (wX a g (uLj (uIl (uCj (uCm (uSt u st2) cm) cj) (il + n)) lj2)) H locs → W p l e (rd 0) s m args below meth c H locs 0 0 Q (F0 m 2 ls []) := by
    intro z
    induction z with
    | zero =>
      intro n st2 lj2 H locs ls hz hn i1 i2 i3 i4 i5 hl B
      refine lv_iload_n E.1 E.2.1 d_X_arrive_2 rfl (lv_at hl 0 rfl) ?_
      refine lv_aload_n E.1 E.2.1 d_X_arrive_3 rfl (lv_at hl 1 rfl) ?_
      refine k_getX E B 12 (by decide) wf_X_49 rfl (fX_Cm ((xCm_uLj _ _).trans ((xCm_uIl _ _).trans ((xCm_uCj _ _).trans (xCm_uCm _ _))))) d_X_arrive_4 ?_
      refine k_icmp_ge E 71 (by omega) (by omega) d_X_arrive_7 (by decide) (fun h1 => ?_) (fun h1 => ?_)
      · skip
        refine lv_aload_n E.1 E.2.1 d_X_arrive_71 rfl (lv_at hl 1 rfl) ?_
        refine k_dup E rfl d_X_arrive_72 ?_
        refine k_getX E B 12 (by decide) wf_X_49 rfl (fX_Cm ((xCm_uLj _ _).trans ((xCm_uIl _ _).trans ((xCm_uCj _ _).trans (xCm_uCm _ _))))) d_X_arrive_73 ?_
        refine lv_iload_n E.1 E.2.1 d_X_arrive_76 rfl (lv_at hl 0 rfl) ?_
        refine k_isub E (by omega) d_X_arrive_77 ?_
        refine k_putX (uCm (uLj (uIl (uCj (uCm (uSt u st2) cm) cj) (il + n)) lj2) (cm - n)) E B 12 (by decide) wf_X_49 rfl rfl rfl rfl (wX_Cm _ _ _ _) d_X_arrive_78 (fun H locs B => ?_)
        rw [uCm_uLj, uCm_uIl, uCm_uCj, uCm_uCm] at B
        refine k_iconst E 0 d_X_arrive_81 rfl ?_
        refine lv_istore_n (lv' := [(2, .int (nI 0)), (1, .int (nI n)), (0, .ref (a 0))]) E.1 E.2.1 d_X_arrive_82 rfl hl (by decide) rfl (fun ls hl => ?_)
        exact shift n st2 lj2 hn i1 i2 i3 i4 i5 (fun q => by omega) _ 0 cj _ _ _ (Nat.le_refl _) (by omega) (fun k hk => by omega) (fun k hk => rfl) hl B
      · skip
        exact absurd h1 (by omega)
    | succ z ih =>
      intro n st2 lj2 H locs ls hz hn i1 i2 i3 i4 i5 hl B
      refine lv_iload_n E.1 E.2.1 d_X_arrive_2 rfl (lv_at hl 0 rfl) ?_
      refine lv_aload_n E.1 E.2.1 d_X_arrive_3 rfl (lv_at hl 1 rfl) ?_
      refine k_getX E B 12 (by decide) wf_X_49 rfl (fX_Cm ((xCm_uLj _ _).trans ((xCm_uIl _ _).trans ((xCm_uCj _ _).trans (xCm_uCm _ _))))) d_X_arrive_4 ?_
      refine k_icmp_ge E 71 (by omega) (by omega) d_X_arrive_7 (by decide) (fun h1 => ?_) (fun h1 => ?_)
      · skip
        refine lv_aload_n E.1 E.2.1 d_X_arrive_71 rfl (lv_at hl 1 rfl) ?_
        refine k_dup E rfl d_X_arrive_72 ?_
        refine k_getX E B 12 (by decide) wf_X_49 rfl (fX_Cm ((xCm_uLj _ _).trans ((xCm_uIl _ _).trans ((xCm_uCj _ _).trans (xCm_uCm _ _))))) d_X_arrive_73 ?_
        refine lv_iload_n E.1 E.2.1 d_X_arrive_76 rfl (lv_at hl 0 rfl) ?_
        refine k_isub E (by omega) d_X_arrive_77 ?_
        refine k_putX (uCm (uLj (uIl (uCj (uCm (uSt u st2) cm) cj) (il + n)) lj2) (cm - n)) E B 12 (by decide) wf_X_49 rfl rfl rfl rfl (wX_Cm _ _ _ _) d_X_arrive_78 (fun H locs B => ?_)
        rw [uCm_uLj, uCm_uIl, uCm_uCj, uCm_uCm] at B
        refine k_iconst E 0 d_X_arrive_81 rfl ?_
        refine lv_istore_n (lv' := [(2, .int (nI 0)), (1, .int (nI n)), (0, .ref (a 0))]) E.1 E.2.1 d_X_arrive_82 rfl hl (by decide) rfl (fun ls hl => ?_)
        exact shift n st2 lj2 hn i1 i2 i3 i4 i5 (fun q => by omega) _ 0 cj _ _ _ (Nat.le_refl _) (by omega) (fun k hk => by omega) (fun k hk => rfl) hl B
      · skip
        have hcn := hc n h1
        have harn := har n h1
        rw [← eAr] at harn
        refine lv_aload_n E.1 E.2.1 d_X_arrive_10 rfl (lv_at hl 1 rfl) ?_
        refine k_getX E B 3 (by decide) wf_X_13 rfl rfl d_X_arrive_11 ?_
        refine lv_aload_n E.1 E.2.1 d_X_arrive_14 rfl (lv_at hl 1 rfl) ?_
        refine k_getX E B 13 (by decide) wf_X_35 rfl rfl d_X_arrive_15 ?_
        refine lv_iload_n E.1 E.2.1 d_X_arrive_18 rfl (lv_at hl 0 rfl) ?_
        refine k_ild E B 9 8 (aX_Cj ((xCj_uLj _ _).trans ((xCj_uIl _ _).trans (xCj_uCj _ _)))) rfl (by omega) (by decide) d_X_arrive_19 ?_
        refine k_ild E B 2 1 (aX_Ar ((xAr_uLj _ _).trans ((xAr_uIl _ _).trans ((xAr_uCj _ _).trans ((xAr_uCm _ _).trans (xAr_uSt _ _)))))) rfl (by omega) (by decide) d_X_arrive_20 ?_
        refine lv_aload_n E.1 E.2.1 d_X_arrive_21 rfl (lv_at hl 1 rfl) ?_
        refine k_getX E B 0 (by decide) wf_X_41 rfl (fX_T ((xT_uLj _ _).trans ((xT_uIl _ _).trans ((xT_uCj _ _).trans ((xT_uCm _ _).trans (xT_uSt _ _)))))) d_X_arrive_22 ?_
        refine k_icmp_gt E 71 (by omega) (by rw [eT]; exact hT) d_X_arrive_25 (by decide) (fun h2 => ?_) (fun h2 => ?_)
        · skip
          refine lv_aload_n E.1 E.2.1 d_X_arrive_71 rfl (lv_at hl 1 rfl) ?_
          refine k_dup E rfl d_X_arrive_72 ?_
          refine k_getX E B 12 (by decide) wf_X_49 rfl (fX_Cm ((xCm_uLj _ _).trans ((xCm_uIl _ _).trans ((xCm_uCj _ _).trans (xCm_uCm _ _))))) d_X_arrive_73 ?_
          refine lv_iload_n E.1 E.2.1 d_X_arrive_76 rfl (lv_at hl 0 rfl) ?_
          refine k_isub E (by omega) d_X_arrive_77 ?_
          refine k_putX (uCm (uLj (uIl (uCj (uCm (uSt u st2) cm) cj) (il + n)) lj2) (cm - n)) E B 12 (by decide) wf_X_49 rfl rfl rfl rfl (wX_Cm _ _ _ _) d_X_arrive_78 (fun H locs B => ?_)
          rw [uCm_uLj, uCm_uIl, uCm_uCj, uCm_uCm] at B
          refine k_iconst E 0 d_X_arrive_81 rfl ?_
          refine lv_istore_n (lv' := [(2, .int (nI 0)), (1, .int (nI n)), (0, .ref (a 0))]) E.1 E.2.1 d_X_arrive_82 rfl hl (by decide) rfl (fun ls hl => ?_)
          exact shift n st2 lj2 hn i1 i2 i3 i4 i5 (fun _ => by rw [← eAr, ← eT]; exact h2) _ 0 cj _ _ _ (Nat.le_refl _) (by omega) (fun k hk => by omega) (fun k hk => rfl) hl B
        · skip
          refine lv_aload_n E.1 E.2.1 d_X_arrive_28 rfl (lv_at hl 1 rfl) ?_
          refine k_getX E B 4 (by decide) wf_X_16 rfl rfl d_X_arrive_29 ?_
          refine lv_aload_n E.1 E.2.1 d_X_arrive_32 rfl (lv_at hl 1 rfl) ?_
          refine k_getX E B 13 (by decide) wf_X_35 rfl rfl d_X_arrive_33 ?_
          refine lv_iload_n E.1 E.2.1 d_X_arrive_36 rfl (lv_at hl 0 rfl) ?_
          refine k_ild E B 9 8 (aX_Cj ((xCj_uLj _ _).trans ((xCj_uIl _ _).trans (xCj_uCj _ _)))) rfl (by omega) (by decide) d_X_arrive_37 ?_
          refine k_iconst E 1 d_X_arrive_38 rfl ?_
          refine k_ist E B 3 2 (ws' := wX a g (uSt (uLj (uIl (uCj (uCm (uSt u st2) cm) cj) (il + n)) lj2) (va_up st2 (cj n) 1))) (aX_St ((xSt_uLj _ _).trans ((xSt_uIl _ _).trans ((xSt_uCj _ _).trans ((xSt_uCm _ _).trans (xSt_uSt _ _)))))) rfl (by omega) (by decide) (wX_St _ _ _ _) d_X_arrive_39 (fun H locs B => ?_)
          rw [uSt_uLj, uSt_uIl, uSt_uCj, uSt_uCm, uSt_uSt] at B
          refine lv_aload_n E.1 E.2.1 d_X_arrive_40 rfl (lv_at hl 1 rfl) ?_
          refine k_getX E B 15 (by decide) wf_X_38 rfl rfl d_X_arrive_41 ?_
          refine lv_aload_n E.1 E.2.1 d_X_arrive_44 rfl (lv_at hl 1 rfl) ?_
          refine k_getX E B 14 (by decide) wf_X_63 rfl (fX_Il ((xIl_uLj _ _).trans (xIl_uIl _ _))) d_X_arrive_45 ?_
          refine lv_aload_n E.1 E.2.1 d_X_arrive_48 rfl (lv_at hl 1 rfl) ?_
          refine k_getX E B 13 (by decide) wf_X_35 rfl rfl d_X_arrive_49 ?_
          refine lv_iload_n E.1 E.2.1 d_X_arrive_52 rfl (lv_at hl 0 rfl) ?_
          refine k_ild E B 9 8 (aX_Cj ((xCj_uLj _ _).trans ((xCj_uIl _ _).trans (xCj_uCj _ _)))) rfl (by omega) (by decide) d_X_arrive_53 ?_
          refine k_ist E B 10 9 (ws' := wX a g (uLj (uLj (uIl (uCj (uCm (uSt u (va_up st2 (cj n) 1)) cm) cj) (il + n)) lj2) (va_up lj2 (il + n) (cj n)))) (aX_Lj (xLj_uLj _ _)) rfl (by omega) (by decide) (wX_Lj _ _ _ _) d_X_arrive_54 (fun H locs B => ?_)
          rw [uLj_uLj] at B
          refine lv_aload_n E.1 E.2.1 d_X_arrive_55 rfl (lv_at hl 1 rfl) ?_
          refine k_dup E rfl d_X_arrive_56 ?_
          refine k_getX E B 14 (by decide) wf_X_63 rfl (fX_Il ((xIl_uLj _ _).trans (xIl_uIl _ _))) d_X_arrive_57 ?_
          refine k_iconst E 1 d_X_arrive_60 rfl ?_
          refine k_iadd E d_X_arrive_61 ?_
          refine k_putX (uIl (uLj (uIl (uCj (uCm (uSt u (va_up st2 (cj n) 1)) cm) cj) (il + n)) (va_up lj2 (il + n) (cj n))) ((il + n) + 1)) E B 14 (by decide) wf_X_63 rfl rfl rfl rfl (wX_Il _ _ _ _) d_X_arrive_62 (fun H locs B => ?_)
          rw [uIl_uLj, uIl_uIl] at B
          refine lv_iinc (v := nI (n + 1)) (lv' := [(1, .int (nI (n + 1))), (0, .ref (a 0))]) E.1 E.2.1 d_X_arrive_65 hl (k := 0) rfl (by rw [show Int32.ofInt 1 = nI 1 from rfl, nI_add]) (by decide) rfl (fun ls hl => ?_)
          refine lv_goto (tgt := 2) E.1 E.2.1 d_X_arrive_68 (by decide) ?_
          refine ih (n + 1) _ _ _ _ _ (by omega) (by omega) (fun i hi => ?_) (fun i hi => ?_) (fun i hi => ?_) (fun i hi => ?_) (fun j hj => ?_) (lv_sub hl [0, 1] rfl) B
          · rcases (show i < n ∨ i = n by omega) with q | q
            · exact i1 i q
            · rw [q, ← eAr, ← eT]
              exact h2
          · rw [va_up_n (by omega)]
            exact i2 i hi
          · rcases (show i < n ∨ i = n by omega) with q | q
            · rw [va_up_n (by omega)]
              exact i3 i q
            · rw [q, va_up_s]
          · rcases (show i < n ∨ i = n by omega) with q | q
            · by_cases e : cj i = cj n
              · rw [e, va_up_s]
              · rw [va_up_n e]
                exact i4 i q
            · rw [q, va_up_s]
          · rw [va_up_n (hj n (by omega))]
            exact i5 j (fun i hi => hj i (by omega))
  refine k_iconst E 0 d_X_arrive_0 rfl ?_
  refine lv_istore_n (lv' := [(1, .int (nI 0)), (0, .ref (a 0))]) E.1 E.2.1 d_X_arrive_1 rfl hl (by decide) rfl (fun ls hl => ?_)
  exact loop cm 0 st lj _ _ _ (by omega) (by omega) (fun i hi => by omega) (fun i hi => rfl) (fun i hi => by omega) (fun i hi => by omega) (fun j hj => rfl) hl B
set_option maxHeartbeats 4000000 in
set_option maxRecDepth 100000 in
/-- stretch(left): how many ticks go at once -/
theorem c_X_stretch (l : Launch) (D : va_G) (a : Nat → Nat) (g : Nat → ClassId) (u : PX) (left T cm ct hp : Nat) (ar cj mk hj : Nat → Nat) (eT : xT u = T) (eAr : xAr u = ar) (eCm : xCm u = cm) (eCj : xCj u = cj) (eCt : xCt u = ct) (eMk : xMk u = mk) (eHp : xHp u = hp) (eHj : xHj u = hj) (hl1 : 1 ≤ left) (hl5 : left ≤ 5000) (hT : T < 2 ^ 30) (hcm : cm ≤ 24) (hc : 0 < cm → cj 0 < 24 ∧ T < ar (cj 0) ∧ ar (cj 0) < 2 ^ 30) (hp8 : hp ≤ 8) (hh : 0 < hp → hj 0 < 24 ∧ ct < mk (hj 0) ∧ mk (hj 0) < 2 ^ 62) : MetI l y_X_stretch b_X_stretch 8 (some .int) 0 D (tX g) (wX a g) [.ref (a 0), .int (nI left)] u (fun r u' => u' = u ∧ ∃ k, r = nI k ∧ 1 ≤ k ∧ k ≤ left ∧ (0 < cm → k ≤ ar (cj 0) - T) ∧ (0 < hp → (k - 1) * (840 / hp) < mk (hj 0) - ct)) := by
  refine MetI.of (by decide) (Nat.le_of_ble_eq_true rfl) ?_
  intro p e s m args below meth c A Q ls E hl B ret
  have E : CallFix p m c b_X_stretch 8 s args lw_ws R_X := E
  have hl : lv_has ls 8 [(0, .ref (a 0)), (1, .int (nI left))] := hl
  subst eT eAr eCm eCj eCt eMk eHp eHj
  have j104 : ∀ (k : Nat) (ls : Array Slot), 1 ≤ k → k ≤ left → (0 < xCm u → k ≤ xAr u (xCj u 0) - xT u) → (0 < xHp u → (k - 1) * (840 / xHp u) < xMk u (xHj u 0) - xCt u) → lv_has ls 8 [(2, .int (nI k))] → W p l e (rd 0) s m args below meth c s.heap [] 0 0 Q (F0 m 104 ls []) := by
    intro k ls k1 k2 k3 k4 hl
    refine lv_iload_n E.1 E.2.1 d_X_stretch_104 rfl (lv_at hl 0 rfl) ?_
    refine k_iconst E 1 d_X_stretch_105 rfl ?_
    refine k_icmp_ge E 113 (by omega) (by omega) d_X_stretch_106 (by decide) (fun h1 => ?_) (fun h1 => ?_)
    · skip
      refine lv_iload_n E.1 E.2.1 d_X_stretch_113 rfl (lv_at hl 0 rfl) ?_
      exact ret _ _ _ _ _ _ ⟨rfl, k, rfl, k1, k2, k3, k4⟩ rfl B d_X_stretch_114
    · skip
      exact absurd h1 (by omega)
  have j46 : ∀ (k : Nat) (ls : Array Slot), 1 ≤ k → k ≤ left → (0 < xCm u → k ≤ xAr u (xCj u 0) - xT u) → lv_has ls 8 [(2, .int (nI k)), (0, .ref (a 0))] → W p l e (rd 0) s m args below meth c s.heap [] 0 0 Q (F0 m 46 ls []) := by
    intro k ls k1 k2 k3 hl
    refine lv_aload_n E.1 E.2.1 d_X_stretch_46 rfl (lv_at hl 1 rfl) ?_
    refine k_getX E B 10 (by decide) wf_X_52 rfl (fX_Hp rfl) d_X_stretch_47 ?_
    refine k_if_le E 104 (by omega) d_X_stretch_50 (by decide) (fun h1 => ?_) (fun h1 => ?_)
    · skip
      exact j104 k _ k1 k2 k3 (fun q => by omega) (lv_sub hl [0] rfl)
    · skip
      obtain ⟨q1, q2, q3⟩ := hh h1
      have hr0 : 0 < 840 / xHp u := Nat.div_pos (by omega) h1
      have hr1 : 840 / xHp u ≤ 840 := Nat.div_le_self _ _
      refine k_sipush E 840 d_X_stretch_53 rfl ?_
      refine lv_aload_n E.1 E.2.1 d_X_stretch_56 rfl (lv_at hl 1 rfl) ?_
      refine k_getX E B 10 (by decide) wf_X_52 rfl (fX_Hp rfl) d_X_stretch_57 ?_
      refine k_idiv E (by omega) (by omega) (by omega) d_X_stretch_60 ?_
      refine lv_istore_n (lv' := [(3, .int (nI (840 / (xHp u)))), (2, .int (nI k)), (0, .ref (a 0))]) E.1 E.2.1 d_X_stretch_61 rfl hl (by decide) rfl (fun ls hl => ?_)
      refine lv_aload_n E.1 E.2.1 d_X_stretch_62 rfl (lv_at hl 2 rfl) ?_
      refine k_getX E B 9 (by decide) wf_X_28 rfl rfl d_X_stretch_63 ?_
      refine lv_aload_n E.1 E.2.1 d_X_stretch_66 rfl (lv_at hl 2 rfl) ?_
      refine k_getX E B 11 (by decide) wf_X_32 rfl rfl d_X_stretch_67 ?_
      refine k_iconst E 0 d_X_stretch_70 rfl ?_
      refine k_ild E B 8 7 (aX_Hj rfl) rfl (by omega) (by decide) d_X_stretch_71 ?_
      refine k_lld E B 7 6 (aX_Mk rfl) rfl (by omega) (by decide) d_X_stretch_72 ?_
      refine lv_aload_n E.1 E.2.1 d_X_stretch_73 rfl (lv_at hl 2 rfl) ?_
      refine k_getX E B 8 (by decide) wf_X_66 rfl (fX_Ct rfl) d_X_stretch_74 ?_
      refine k_lsub E (by omega) d_X_stretch_77 ?_
      refine lv_lstore (lv' := [(4, .long (lN ((xMk u (xHj u 0)) - (xCt u)))), (3, .int (nI (840 / (xHp u)))), (2, .int (nI k)), (0, .ref (a 0))]) E.1 E.2.1 d_X_stretch_78 hl (by decide) rfl (fun ls hl => ?_)
      refine lv_lload E.1 E.2.1 d_X_stretch_80 (lv_at hl 0 rfl) ?_
      refine lv_iload_n E.1 E.2.1 d_X_stretch_82 rfl (lv_at hl 1 rfl) ?_
      refine k_i2l E (by omega) d_X_stretch_83 ?_
      refine k_ladd E d_X_stretch_84 ?_
      refine lv_lconst (v := lN 1) E.1 E.2.1 d_X_stretch_85 rfl ?_
      refine k_lsub E (by omega) d_X_stretch_86 ?_
      refine lv_iload_n E.1 E.2.1 d_X_stretch_87 rfl (lv_at hl 1 rfl) ?_
      refine k_i2l E (by omega) d_X_stretch_88 ?_
      refine k_ldiv E (by omega) (by omega) (by omega) d_X_stretch_89 ?_
      refine lv_lstore (lv' := [(6, .long (lN (((((xMk u (xHj u 0)) - (xCt u)) + (840 / (xHp u))) - 1) / (840 / (xHp u))))), (4, .long (lN ((xMk u (xHj u 0)) - (xCt u)))), (3, .int (nI (840 / (xHp u)))), (2, .int (nI k)), (0, .ref (a 0))]) E.1 E.2.1 d_X_stretch_90 hl (by decide) rfl (fun ls hl => ?_)
      obtain ⟨tk, etk⟩ : ∃ z, z = (xMk u (xHj u 0) - xCt u + 840 / xHp u - 1) / (840 / xHp u) := ⟨_, rfl⟩
      rw [← etk] at hl
      have t1 : tk * (840 / xHp u) ≤ xMk u (xHj u 0) - xCt u + 840 / xHp u - 1 := by
        rw [etk]
        exact Nat.div_mul_le_self _ _
      have t2 : 0 < tk := by
        rw [etk]
        exact Nat.div_pos (by omega) hr0
      have t3 : tk < 2 ^ 63 := by
        have : tk ≤ xMk u (xHj u 0) - xCt u + 840 / xHp u - 1 := by
          rw [etk]
          exact Nat.div_le_self _ _
        omega
      have t4 : (tk - 1) * (840 / xHp u) < xMk u (xHj u 0) - xCt u := by
        rw [Nat.sub_mul, Nat.one_mul]
        have : 840 / xHp u ≤ tk * (840 / xHp u) := Nat.le_mul_of_pos_left _ t2
        omega
      refine lv_lload E.1 E.2.1 d_X_stretch_92 (lv_at hl 0 rfl) ?_
      refine lv_iload_n E.1 E.2.1 d_X_stretch_94 rfl (lv_at hl 3 rfl) ?_
      refine k_i2l E (by omega) d_X_stretch_95 ?_
      refine k_lcmp_ge E 104 (by omega) (by omega) d_X_stretch_96 d_X_stretch_97 (by decide) (fun h2 => ?_) (fun h2 => ?_)
      · skip
        refine j104 k _ k1 k2 k3 (fun _ => ?_) (lv_sub hl [3] rfl)
        exact Nat.lt_of_le_of_lt (Nat.mul_le_mul_right _ (by omega)) t4
      · skip
        refine lv_lload E.1 E.2.1 d_X_stretch_100 (lv_at hl 0 rfl) ?_
        refine k_l2i E d_X_stretch_102 ?_
        refine lv_istore_n (lv' := [(2, .int (nI tk)), (6, .long (lN tk)), (4, .long (lN ((xMk u (xHj u 0)) - (xCt u)))), (3, .int (nI (840 / (xHp u)))), (0, .ref (a 0))]) E.1 E.2.1 d_X_stretch_103 rfl hl (by decide) rfl (fun ls hl => ?_)
        exact j104 tk _ t2 (by omega) (fun q => by have := k3 q; omega) (fun _ => t4) (lv_sub hl [0] rfl)
  refine lv_iload_n E.1 E.2.1 d_X_stretch_0 rfl (lv_at hl 1 rfl) ?_
  refine lv_istore_n (lv' := [(2, .int (nI left)), (0, .ref (a 0)), (1, .int (nI left))]) E.1 E.2.1 d_X_stretch_1 rfl hl (by decide) rfl (fun ls hl => ?_)
  refine lv_aload_n E.1 E.2.1 d_X_stretch_2 rfl (lv_at hl 1 rfl) ?_
  refine k_getX E B 12 (by decide) wf_X_49 rfl (fX_Cm rfl) d_X_stretch_3 ?_
  refine k_if_le E 46 (by omega) d_X_stretch_6 (by decide) (fun h1 => ?_) (fun h1 => ?_)
  · skip
    exact j46 left _ hl1 (Nat.le_refl _) (fun q => by omega) (lv_sub hl [0, 1] rfl)
  · skip
    obtain ⟨q1, q2, q3⟩ := hc h1
    refine lv_aload_n E.1 E.2.1 d_X_stretch_9 rfl (lv_at hl 1 rfl) ?_
    refine k_getX E B 3 (by decide) wf_X_13 rfl rfl d_X_stretch_10 ?_
    refine lv_aload_n E.1 E.2.1 d_X_stretch_13 rfl (lv_at hl 1 rfl) ?_
    refine k_getX E B 13 (by decide) wf_X_35 rfl rfl d_X_stretch_14 ?_
    refine k_iconst E 0 d_X_stretch_17 rfl ?_
    refine k_ild E B 9 8 (aX_Cj rfl) rfl (by omega) (by decide) d_X_stretch_18 ?_
    refine k_ild E B 2 1 (aX_Ar rfl) rfl (by omega) (by decide) d_X_stretch_19 ?_
    refine lv_aload_n E.1 E.2.1 d_X_stretch_20 rfl (lv_at hl 1 rfl) ?_
    refine k_getX E B 0 (by decide) wf_X_41 rfl (fX_T rfl) d_X_stretch_21 ?_
    refine k_isub E (by omega) d_X_stretch_24 ?_
    refine lv_iload_n E.1 E.2.1 d_X_stretch_25 rfl (lv_at hl 0 rfl) ?_
    refine k_icmp_ge E 46 (by omega) (by omega) d_X_stretch_26 (by decide) (fun h2 => ?_) (fun h2 => ?_)
    · skip
      exact j46 left _ hl1 (Nat.le_refl _) (fun q => by omega) (lv_sub hl [0, 1] rfl)
    · skip
      refine lv_aload_n E.1 E.2.1 d_X_stretch_29 rfl (lv_at hl 1 rfl) ?_
      refine k_getX E B 3 (by decide) wf_X_13 rfl rfl d_X_stretch_30 ?_
      refine lv_aload_n E.1 E.2.1 d_X_stretch_33 rfl (lv_at hl 1 rfl) ?_
      refine k_getX E B 13 (by decide) wf_X_35 rfl rfl d_X_stretch_34 ?_
      refine k_iconst E 0 d_X_stretch_37 rfl ?_
      refine k_ild E B 9 8 (aX_Cj rfl) rfl (by omega) (by decide) d_X_stretch_38 ?_
      refine k_ild E B 2 1 (aX_Ar rfl) rfl (by omega) (by decide) d_X_stretch_39 ?_
      refine lv_aload_n E.1 E.2.1 d_X_stretch_40 rfl (lv_at hl 1 rfl) ?_
      refine k_getX E B 0 (by decide) wf_X_41 rfl (fX_T rfl) d_X_stretch_41 ?_
      refine k_isub E (by omega) d_X_stretch_44 ?_
      refine lv_istore_n (lv' := [(2, .int (nI ((xAr u (xCj u 0)) - (xT u)))), (0, .ref (a 0)), (1, .int (nI left))]) E.1 E.2.1 d_X_stretch_45 rfl hl (by decide) rfl (fun ls hl => ?_)
      exact j46 _ _ (by omega) (by omega) (fun q => Nat.le_refl _) (lv_sub hl [0, 1] rfl)
set_option maxHeartbeats 4000000 in
set_option maxRecDepth 100000 in
/-- had(job) -/
theorem c_X_had (l : Launch) (D : va_G) (a : Nat → Nat) (g : Nat → ClassId) (u : PX) (j : Int32) (hJ : xJ u ≤ 24) (hst : ∀ k, k < xJ u → xSt u k < 5) (hsz : ∀ k, k < xJ u → xSz u k < 2 ^ 31) (hmk : ∀ k, k < xJ u → xSt u k = 2 → xCt u ≤ xMk u k ∧ xMk u k - xCt u ≤ xSz u k) : MetI l y_X_had b_X_had 2 (some .int) 1 D (tX g) (wX a g) [.ref (a 0), .int j] u (fun r u' => u' = u ∧ r = qry (xJ u) j (fun k => nI (if xSt u k = 2 then xSz u k - (xMk u k - xCt u) else xWk u k))) := by
  refine MetI.of (by decide) (Nat.le_of_ble_eq_true rfl) ?_
  intro p e s m args below meth c A Q ls E hl B ret
  have E : CallFix p m c b_X_had 2 s args lw_ws R_X := E
  have hl : lv_has ls 2 [(0, .ref (a 0)), (1, .int j)] := hl
  refine lv_aload_n E.1 E.2.1 d_X_had_0 rfl (lv_at hl 0 rfl) ?_
  refine lv_iload_n E.1 E.2.1 d_X_had_1 rfl (lv_at hl 1 rfl) ?_
  refine k_calli (As := [.int j]) (rest := []) E (c_X_noJob l D a g u j) kc_X_77 ⟨Nat.le_of_ble_eq_true rfl, Nat.le_of_ble_eq_true rfl⟩ B (show classes[0]? = _ from rfl) rfl hl.1 rfl (Nat.le_of_ble_eq_true rfl) d_X_had_2 ⟨Nat.le_of_ble_eq_true rfl, Nat.le_of_ble_eq_true rfl⟩ (fun r u1 H locs hq B => ?_)
  obtain ⟨hu, hr⟩ := hq
  rw [hu] at B
  by_cases hj : j < 0 ∨ nI (xJ u) ≤ j
  · skip
    rw [if_pos hj] at hr
    refine lv_if_eq (tgt := 11) E.1 E.2.1 d_X_had_5 (by decide) (fun h1 => ?_) (fun h1 => ?_)
    · skip
      exact absurd (h1.symm.trans hr) (by decide)
    · skip
      refine lv_bipush (v := -4) E.1 E.2.1 d_X_had_8 rfl ?_
      exact ret _ _ _ _ _ _ ⟨rfl, (if_pos hj).symm⟩ rfl B d_X_had_10
  · skip
    rw [if_neg hj] at hr
    refine lv_if_eq (tgt := 11) E.1 E.2.1 d_X_had_5 (by decide) (fun h1 => ?_) (fun h1 => ?_)
    · skip
      obtain ⟨k, hk, rfl⟩ := qry_in (by omega) hj
      have hs5 := hst k hk
      have hz := hsz k hk
      refine lv_aload_n E.1 E.2.1 d_X_had_11 rfl (lv_at hl 0 rfl) ?_
      refine k_getX E B 4 (by decide) wf_X_16 rfl rfl d_X_had_12 ?_
      refine lv_iload_n E.1 E.2.1 d_X_had_15 rfl (lv_at hl 1 rfl) ?_
      refine k_ild E B 3 2 (aX_St rfl) rfl (by omega) (by decide) d_X_had_16 ?_
      refine k_iconst E 2 d_X_had_17 rfl ?_
      refine k_icmp_eq E 28 (by omega) (by omega) d_X_had_18 (by decide) (fun h2 => ?_) (fun h2 => ?_)
      · skip
        obtain ⟨m1, m2⟩ := hmk k hk h2
        refine lv_aload_n E.1 E.2.1 d_X_had_28 rfl (lv_at hl 0 rfl) ?_
        refine k_getX E B 2 (by decide) wf_X_7 rfl rfl d_X_had_29 ?_
        refine lv_iload_n E.1 E.2.1 d_X_had_32 rfl (lv_at hl 1 rfl) ?_
        refine k_ild E B 1 0 (aX_Sz rfl) rfl (by omega) (by decide) d_X_had_33 ?_
        refine k_i2l E (by omega) d_X_had_34 ?_
        refine lv_aload_n E.1 E.2.1 d_X_had_35 rfl (lv_at hl 0 rfl) ?_
        refine k_getX E B 9 (by decide) wf_X_28 rfl rfl d_X_had_36 ?_
        refine lv_iload_n E.1 E.2.1 d_X_had_39 rfl (lv_at hl 1 rfl) ?_
        refine k_lld E B 7 6 (aX_Mk rfl) rfl (by omega) (by decide) d_X_had_40 ?_
        refine lv_aload_n E.1 E.2.1 d_X_had_41 rfl (lv_at hl 0 rfl) ?_
        refine k_getX E B 8 (by decide) wf_X_66 rfl (fX_Ct rfl) d_X_had_42 ?_
        refine k_lsub E (by omega) d_X_had_45 ?_
        refine k_lsub E (by omega) d_X_had_46 ?_
        refine k_l2i E d_X_had_47 ?_
        exact ret _ _ _ _ _ _ ⟨rfl, by rw [qry_at hk (by omega), if_pos h2]⟩ rfl B d_X_had_48
      · skip
        refine lv_aload_n E.1 E.2.1 d_X_had_21 rfl (lv_at hl 0 rfl) ?_
        refine k_getX E B 7 (by decide) wf_X_25 rfl rfl d_X_had_22 ?_
        refine lv_iload_n E.1 E.2.1 d_X_had_25 rfl (lv_at hl 1 rfl) ?_
        refine k_ild E B 6 5 (aX_Wk rfl) rfl (by omega) (by decide) d_X_had_26 ?_
        exact ret _ _ _ _ _ _ ⟨rfl, by rw [qry_at hk (by omega), if_neg h2]⟩ rfl B d_X_had_27
    · skip
      exact absurd hr h1
set_option maxHeartbeats 4000000 in
set_option maxRecDepth 100000 in
/-- leaveComing -/
theorem c_X_leaveComing (l : Launch) (D : va_G) (a : Nat → Nat) (g : Nat → ClassId) (u : PX) (job cm pp : Nat) (cj : Nat → Nat) (eCm : xCm u = cm) (eCj : xCj u = cj) (hcm : cm ≤ 24) (hjob : job < 24) (hc : ∀ i, i < cm → cj i < 24) (hp : pp < cm) (hpj : cj pp = job) (hne : ∀ i, i < cm → i ≠ pp → cj i ≠ job) : MetV l y_X_leaveComing b_X_leaveComing 4 0 D (tX g) (wX a g) [.ref (a 0), .int (nI job)] u (fun u' => ∃ cj', u' = uCj (uCm u (cm - 1)) cj' ∧ ∀ i, i < cm - 1 → cj' i = if i < pp then cj i else cj (i + 1)) := by
  refine MetV.of (by decide) (Nat.le_of_ble_eq_true rfl) ?_
  intro p e s m args below meth c A Q ls E hl B ret
  have E : CallFix p m c b_X_leaveComing 4 s args lw_ws R_X := E
  have hl : lv_has ls 4 [(0, .ref (a 0)), (1, .int (nI job))] := hl
  have B : wB D (tX g) s A s.heap (wX a g (uCj (uCm u cm) cj)) s.heap [] := by
    have e9 : uCj (uCm u cm) cj = u := by
      rw [← eCm, ← eCj]
      rfl
    rw [e9]
    exact B
  have loop : ∀ (z i : Nat) (cj2 : Nat → Nat) (H : Heap) (locs : List Loc) (ls : Array Slot), cm - i ≤ z → i ≤ cm → (∀ k, k < (if i ≤ pp then i else i - 1) → cj2 k = if k < pp then cj k else cj (k + 1)) → (∀ k, i ≤ k → cj2 k = cj k) → lv_has ls 4 [(3, .int (nI i)), (2, .int (nI (if i ≤ pp then i else i - 1))), (0, .ref (a 0)), (1, .int (nI job))] → wB D (tX g) s A s.heap (wX a g (uCj (uCm u cm) cj2)) H locs → W p l e (rd 0) s m args below meth c H locs 0 0 Q (F0 m 4 ls []) := by
    intro z
    induction z with
    | zero =>
      intro i cj2 H locs ls hz hi k1 k2 hl B
      obtain ⟨kp, ekp⟩ : ∃ z, z = (if i ≤ pp then i else i - 1) := ⟨_, rfl⟩
      rw [← ekp] at k1 hl
      have hkp : kp ≤ i := by
        rw [ekp]
        split <;> omega
      refine lv_iload_n E.1 E.2.1 d_X_leaveComing_4 rfl (lv_at hl 0 rfl) ?_
      refine lv_aload_n E.1 E.2.1 d_X_leaveComing_5 rfl (lv_at hl 2 rfl) ?_
      refine k_getX E B 12 (by decide) wf_X_49 rfl (fX_Cm ((xCm_uCj _ _).trans (xCm_uCm _ _))) d_X_leaveComing_6 ?_
      refine k_icmp_ge E 43 (by omega) (by omega) d_X_leaveComing_9 (by decide) (fun h1 => ?_) (fun h1 => ?_)
      · skip
        have hkc : kp = cm - 1 := by
          rw [ekp]
          split <;> omega
        subst hkc
        refine lv_aload_n E.1 E.2.1 d_X_leaveComing_43 rfl (lv_at hl 2 rfl) ?_
        refine lv_iload_n E.1 E.2.1 d_X_leaveComing_44 rfl (lv_at hl 1 rfl) ?_
        refine k_putX (uCm (uCj (uCm u cm) cj2) (cm - 1)) E B 12 (by decide) wf_X_49 rfl rfl rfl rfl (wX_Cm _ _ _ _) d_X_leaveComing_45 (fun H locs B => ?_)
        rw [uCm_uCj, uCm_uCm] at B
        exact ret _ _ _ _ _ ⟨_, rfl, fun k hk => k1 k hk⟩ B d_X_leaveComing_48
      · skip
        exact absurd h1 (by omega)
    | succ z ih =>
      intro i cj2 H locs ls hz hi k1 k2 hl B
      obtain ⟨kp, ekp⟩ : ∃ z, z = (if i ≤ pp then i else i - 1) := ⟨_, rfl⟩
      rw [← ekp] at k1 hl
      have hkp : kp ≤ i := by
        rw [ekp]
        split <;> omega
      refine lv_iload_n E.1 E.2.1 d_X_leaveComing_4 rfl (lv_at hl 0 rfl) ?_
      refine lv_aload_n E.1 E.2.1 d_X_leaveComing_5 rfl (lv_at hl 2 rfl) ?_
      refine k_getX E B 12 (by decide) wf_X_49 rfl (fX_Cm ((xCm_uCj _ _).trans (xCm_uCm _ _))) d_X_leaveComing_6 ?_
      refine k_icmp_ge E 43 (by omega) (by omega) d_X_leaveComing_9 (by decide) (fun h1 => ?_) (fun h1 => ?_)
      · skip
        have hkc : kp = cm - 1 := by
          rw [ekp]
          split <;> omega
        subst hkc
        refine lv_aload_n E.1 E.2.1 d_X_leaveComing_43 rfl (lv_at hl 2 rfl) ?_
        refine lv_iload_n E.1 E.2.1 d_X_leaveComing_44 rfl (lv_at hl 1 rfl) ?_
        refine k_putX (uCm (uCj (uCm u cm) cj2) (cm - 1)) E B 12 (by decide) wf_X_49 rfl rfl rfl rfl (wX_Cm _ _ _ _) d_X_leaveComing_45 (fun H locs B => ?_)
        rw [uCm_uCj, uCm_uCm] at B
        exact ret _ _ _ _ _ ⟨_, rfl, fun k hk => k1 k hk⟩ B d_X_leaveComing_48
      · skip
        have hci := hc i h1
        have hce := k2 i (Nat.le_refl _)
        have hce2 : cj2 i < 24 := by omega
        refine lv_aload_n E.1 E.2.1 d_X_leaveComing_12 rfl (lv_at hl 2 rfl) ?_
        refine k_getX E B 13 (by decide) wf_X_35 rfl rfl d_X_leaveComing_13 ?_
        refine lv_iload_n E.1 E.2.1 d_X_leaveComing_16 rfl (lv_at hl 0 rfl) ?_
        refine k_ild E B 9 8 (aX_Cj (xCj_uCj _ _)) rfl (by omega) (by decide) d_X_leaveComing_17 ?_
        refine lv_iload_n E.1 E.2.1 d_X_leaveComing_18 rfl (lv_at hl 3 rfl) ?_
        refine k_icmp_eq E 37 (by omega) (by omega) d_X_leaveComing_19 (by decide) (fun h2 => ?_) (fun h2 => ?_)
        · skip
          have hip : i = pp := by
            rcases Nat.decEq i pp with q | q
            · exact absurd (hce.symm.trans h2) (hne i h1 q)
            · exact q
          have hk2 : kp = (if i + 1 ≤ pp then i + 1 else i + 1 - 1) := by
            rw [ekp, if_pos (by omega), if_neg (by omega)]
            omega
          refine lv_iinc (v := nI (i + 1)) (lv' := [(3, .int (nI (i + 1))), (2, .int (nI kp)), (0, .ref (a 0)), (1, .int (nI job))]) E.1 E.2.1 d_X_leaveComing_37 hl (k := 0) rfl (by rw [show Int32.ofInt 1 = nI 1 from rfl, nI_add]) (by decide) rfl (fun ls hl => ?_)
          refine lv_goto (tgt := 4) E.1 E.2.1 d_X_leaveComing_40 (by decide) ?_
          rw [hk2] at hl k1
          exact ih (i + 1) _ _ _ _ (by omega) (by omega) k1 (fun k hk => k2 k (by omega)) (lv_sub hl [0, 1, 2, 3] rfl) B
        · skip
          have hip : i ≠ pp := fun q => h2 (by rw [hce, q, hpj])
          have hk2 : kp + 1 = (if i + 1 ≤ pp then i + 1 else i + 1 - 1) := by
            rw [ekp]
            split <;> split <;> omega
          have hk3 : kp < 24 := by omega
          refine lv_aload_n E.1 E.2.1 d_X_leaveComing_22 rfl (lv_at hl 2 rfl) ?_
          refine k_getX E B 13 (by decide) wf_X_35 rfl rfl d_X_leaveComing_23 ?_
          refine lv_iload_n E.1 E.2.1 d_X_leaveComing_26 rfl (lv_at hl 1 rfl) ?_
          refine lv_aload_n E.1 E.2.1 d_X_leaveComing_27 rfl (lv_at hl 2 rfl) ?_
          refine k_getX E B 13 (by decide) wf_X_35 rfl rfl d_X_leaveComing_28 ?_
          refine lv_iload_n E.1 E.2.1 d_X_leaveComing_31 rfl (lv_at hl 0 rfl) ?_
          refine k_ild E B 9 8 (aX_Cj (xCj_uCj _ _)) rfl (by omega) (by decide) d_X_leaveComing_32 ?_
          refine k_ist E B 9 8 (ws' := wX a g (uCj (uCj (uCm u cm) cj2) (va_up cj2 kp (cj2 i)))) (aX_Cj (xCj_uCj _ _)) rfl (by omega) (by decide) (wX_Cj _ _ _ _) d_X_leaveComing_33 (fun H locs B => ?_)
          rw [uCj_uCj] at B
          refine lv_iinc (v := nI (kp + 1)) (lv' := [(2, .int (nI (kp + 1))), (3, .int (nI i)), (0, .ref (a 0)), (1, .int (nI job))]) E.1 E.2.1 d_X_leaveComing_34 hl (k := 1) rfl (by rw [show Int32.ofInt 1 = nI 1 from rfl, nI_add]) (by decide) rfl (fun ls hl => ?_)
          refine lv_iinc (v := nI (i + 1)) (lv' := [(3, .int (nI (i + 1))), (2, .int (nI (kp + 1))), (0, .ref (a 0)), (1, .int (nI job))]) E.1 E.2.1 d_X_leaveComing_37 hl (k := 1) rfl (by rw [show Int32.ofInt 1 = nI 1 from rfl, nI_add]) (by decide) rfl (fun ls hl => ?_)
          refine lv_goto (tgt := 4) E.1 E.2.1 d_X_leaveComing_40 (by decide) ?_
          rw [hk2] at hl
          refine ih (i + 1) _ _ _ _ (by omega) (by omega) (fun k hk => ?_) (fun k hk => ?_) (lv_sub hl [0, 1, 2, 3] rfl) B
          · rw [← hk2] at hk
            rcases (show k = kp ∨ k < kp by omega) with q | q
            · rw [q, va_up_s, hce, ekp]
              split
              · rw [if_pos (by omega)]
              · rw [if_neg (by omega)]
                congr 1
                omega
            · rw [va_up_n (by omega)]
              exact k1 k q
          · rw [va_up_n (by omega)]
            exact k2 k (by omega)
  refine k_iconst E 0 d_X_leaveComing_0 rfl ?_
  refine lv_istore_n (lv' := [(2, .int (nI 0)), (0, .ref (a 0)), (1, .int (nI job))]) E.1 E.2.1 d_X_leaveComing_1 rfl hl (by decide) rfl (fun ls hl => ?_)
  refine k_iconst E 0 d_X_leaveComing_2 rfl ?_
  refine lv_istore_n (lv' := [(3, .int (nI 0)), (2, .int (nI 0)), (0, .ref (a 0)), (1, .int (nI job))]) E.1 E.2.1 d_X_leaveComing_3 rfl hl (by decide) rfl (fun ls hl => ?_)
  exact loop cm 0 cj _ _ _ (by omega) (by omega) (fun k hk => by rw [if_pos (Nat.zero_le _)] at hk; omega) (fun k hk => rfl) (by rw [if_pos (Nat.zero_le _)]; exact lv_sub hl [0, 1, 2, 3] rfl) B
set_option maxHeartbeats 4000000 in
set_option maxRecDepth 100000 in
/-- leaveLine -/
theorem c_X_leaveLine (l : Launch) (D : va_G) (a : Nat → Nat) (g : Nat → ClassId) (u : PX) (job cm pp : Nat) (cj : Nat → Nat) (eIl : xIl u = cm) (eLj : xLj u = cj) (hcm : cm ≤ 24) (hjob : job < 24) (hc : ∀ i, i < cm → cj i < 24) (hp : pp < cm) (hpj : cj pp = job) (hne : ∀ i, i < cm → i ≠ pp → cj i ≠ job) : MetV l y_X_leaveLine b_X_leaveLine 4 0 D (tX g) (wX a g) [.ref (a 0), .int (nI job)] u (fun u' => ∃ cj', u' = uLj (uIl u (cm - 1)) cj' ∧ ∀ i, i < cm - 1 → cj' i = if i < pp then cj i else cj (i + 1)) := by
  refine MetV.of (by decide) (Nat.le_of_ble_eq_true rfl) ?_
  intro p e s m args below meth c A Q ls E hl B ret
  have E : CallFix p m c b_X_leaveLine 4 s args lw_ws R_X := E
  have hl : lv_has ls 4 [(0, .ref (a 0)), (1, .int (nI job))] := hl
  have B : wB D (tX g) s A s.heap (wX a g (uLj (uIl u cm) cj)) s.heap [] := by
    have e9 : uLj (uIl u cm) cj = u := by
      rw [← eIl, ← eLj]
      rfl
    rw [e9]
    exact B
  have loop : ∀ (z i : Nat) (cj2 : Nat → Nat) (H : Heap) (locs : List Loc) (ls : Array Slot), cm - i ≤ z → i ≤ cm → (∀ k, k < (if i ≤ pp then i else i - 1) → cj2 k = if k < pp then cj k else cj (k + 1)) → (∀ k, i ≤ k → cj2 k = cj k) → lv_has ls 4 [(3, .int (nI i)), (2, .int (nI (if i ≤ pp then i else i - 1))), (0, .ref (a 0)), (1, .int (nI job))] → wB D (tX g) s A s.heap (wX a g (uLj (uIl u cm) cj2)) H locs → W p l e (rd 0) s m args below meth c H locs 0 0 Q (F0 m 4 ls []) := by
    intro z
    induction z with
    | zero =>
      intro i cj2 H locs ls hz hi k1 k2 hl B
      obtain ⟨kp, ekp⟩ : ∃ z, z = (if i ≤ pp then i else i - 1) := ⟨_, rfl⟩
      rw [← ekp] at k1 hl
      have hkp : kp ≤ i := by
        rw [ekp]
        split <;> omega
      refine lv_iload_n E.1 E.2.1 d_X_leaveLine_4 rfl (lv_at hl 0 rfl) ?_
      refine lv_aload_n E.1 E.2.1 d_X_leaveLine_5 rfl (lv_at hl 2 rfl) ?_
      refine k_getX E B 14 (by decide) wf_X_63 rfl (fX_Il ((xIl_uLj _ _).trans (xIl_uIl _ _))) d_X_leaveLine_6 ?_
      refine k_icmp_ge E 43 (by omega) (by omega) d_X_leaveLine_9 (by decide) (fun h1 => ?_) (fun h1 => ?_)
      · skip
        have hkc : kp = cm - 1 := by
          rw [ekp]
          split <;> omega
        subst hkc
        refine lv_aload_n E.1 E.2.1 d_X_leaveLine_43 rfl (lv_at hl 2 rfl) ?_
        refine lv_iload_n E.1 E.2.1 d_X_leaveLine_44 rfl (lv_at hl 1 rfl) ?_
        refine k_putX (uIl (uLj (uIl u cm) cj2) (cm - 1)) E B 14 (by decide) wf_X_63 rfl rfl rfl rfl (wX_Il _ _ _ _) d_X_leaveLine_45 (fun H locs B => ?_)
        rw [uIl_uLj, uIl_uIl] at B
        exact ret _ _ _ _ _ ⟨_, rfl, fun k hk => k1 k hk⟩ B d_X_leaveLine_48
      · skip
        exact absurd h1 (by omega)
    | succ z ih =>
      intro i cj2 H locs ls hz hi k1 k2 hl B
      obtain ⟨kp, ekp⟩ : ∃ z, z = (if i ≤ pp then i else i - 1) := ⟨_, rfl⟩
      rw [← ekp] at k1 hl
      have hkp : kp ≤ i := by
        rw [ekp]
        split <;> omega
      refine lv_iload_n E.1 E.2.1 d_X_leaveLine_4 rfl (lv_at hl 0 rfl) ?_
      refine lv_aload_n E.1 E.2.1 d_X_leaveLine_5 rfl (lv_at hl 2 rfl) ?_
      refine k_getX E B 14 (by decide) wf_X_63 rfl (fX_Il ((xIl_uLj _ _).trans (xIl_uIl _ _))) d_X_leaveLine_6 ?_
      refine k_icmp_ge E 43 (by omega) (by omega) d_X_leaveLine_9 (by decide) (fun h1 => ?_) (fun h1 => ?_)
      · skip
        have hkc : kp = cm - 1 := by
          rw [ekp]
          split <;> omega
        subst hkc
        refine lv_aload_n E.1 E.2.1 d_X_leaveLine_43 rfl (lv_at hl 2 rfl) ?_
        refine lv_iload_n E.1 E.2.1 d_X_leaveLine_44 rfl (lv_at hl 1 rfl) ?_
        refine k_putX (uIl (uLj (uIl u cm) cj2) (cm - 1)) E B 14 (by decide) wf_X_63 rfl rfl rfl rfl (wX_Il _ _ _ _) d_X_leaveLine_45 (fun H locs B => ?_)
        rw [uIl_uLj, uIl_uIl] at B
        exact ret _ _ _ _ _ ⟨_, rfl, fun k hk => k1 k hk⟩ B d_X_leaveLine_48
      · skip
        have hci := hc i h1
        have hce := k2 i (Nat.le_refl _)
        have hce2 : cj2 i < 24 := by omega
        refine lv_aload_n E.1 E.2.1 d_X_leaveLine_12 rfl (lv_at hl 2 rfl) ?_
        refine k_getX E B 15 (by decide) wf_X_38 rfl rfl d_X_leaveLine_13 ?_
        refine lv_iload_n E.1 E.2.1 d_X_leaveLine_16 rfl (lv_at hl 0 rfl) ?_
        refine k_ild E B 10 9 (aX_Lj (xLj_uLj _ _)) rfl (by omega) (by decide) d_X_leaveLine_17 ?_
        refine lv_iload_n E.1 E.2.1 d_X_leaveLine_18 rfl (lv_at hl 3 rfl) ?_
        refine k_icmp_eq E 37 (by omega) (by omega) d_X_leaveLine_19 (by decide) (fun h2 => ?_) (fun h2 => ?_)
        · skip
          have hip : i = pp := by
            rcases Nat.decEq i pp with q | q
            · exact absurd (hce.symm.trans h2) (hne i h1 q)
            · exact q
          have hk2 : kp = (if i + 1 ≤ pp then i + 1 else i + 1 - 1) := by
            rw [ekp, if_pos (by omega), if_neg (by omega)]
            omega
          refine lv_iinc (v := nI (i + 1)) (lv' := [(3, .int (nI (i + 1))), (2, .int (nI kp)), (0, .ref (a 0)), (1, .int (nI job))]) E.1 E.2.1 d_X_leaveLine_37 hl (k := 0) rfl (by rw [show Int32.ofInt 1 = nI 1 from rfl, nI_add]) (by decide) rfl (fun ls hl => ?_)
          refine lv_goto (tgt := 4) E.1 E.2.1 d_X_leaveLine_40 (by decide) ?_
          rw [hk2] at hl k1
          exact ih (i + 1) _ _ _ _ (by omega) (by omega) k1 (fun k hk => k2 k (by omega)) (lv_sub hl [0, 1, 2, 3] rfl) B
        · skip
          have hip : i ≠ pp := fun q => h2 (by rw [hce, q, hpj])
          have hk2 : kp + 1 = (if i + 1 ≤ pp then i + 1 else i + 1 - 1) := by
            rw [ekp]
            split <;> split <;> omega
          have hk3 : kp < 24 := by omega
          refine lv_aload_n E.1 E.2.1 d_X_leaveLine_22 rfl (lv_at hl 2 rfl) ?_
          refine k_getX E B 15 (by decide) wf_X_38 rfl rfl d_X_leaveLine_23 ?_
          refine lv_iload_n E.1 E.2.1 d_X_leaveLine_26 rfl (lv_at hl 1 rfl) ?_
          refine lv_aload_n E.1 E.2.1 d_X_leaveLine_27 rfl (lv_at hl 2 rfl) ?_
          refine k_getX E B 15 (by decide) wf_X_38 rfl rfl d_X_leaveLine_28 ?_
          refine lv_iload_n E.1 E.2.1 d_X_leaveLine_31 rfl (lv_at hl 0 rfl) ?_
          refine k_ild E B 10 9 (aX_Lj (xLj_uLj _ _)) rfl (by omega) (by decide) d_X_leaveLine_32 ?_
          refine k_ist E B 10 9 (ws' := wX a g (uLj (uLj (uIl u cm) cj2) (va_up cj2 kp (cj2 i)))) (aX_Lj (xLj_uLj _ _)) rfl (by omega) (by decide) (wX_Lj _ _ _ _) d_X_leaveLine_33 (fun H locs B => ?_)
          rw [uLj_uLj] at B
          refine lv_iinc (v := nI (kp + 1)) (lv' := [(2, .int (nI (kp + 1))), (3, .int (nI i)), (0, .ref (a 0)), (1, .int (nI job))]) E.1 E.2.1 d_X_leaveLine_34 hl (k := 1) rfl (by rw [show Int32.ofInt 1 = nI 1 from rfl, nI_add]) (by decide) rfl (fun ls hl => ?_)
          refine lv_iinc (v := nI (i + 1)) (lv' := [(3, .int (nI (i + 1))), (2, .int (nI (kp + 1))), (0, .ref (a 0)), (1, .int (nI job))]) E.1 E.2.1 d_X_leaveLine_37 hl (k := 1) rfl (by rw [show Int32.ofInt 1 = nI 1 from rfl, nI_add]) (by decide) rfl (fun ls hl => ?_)
          refine lv_goto (tgt := 4) E.1 E.2.1 d_X_leaveLine_40 (by decide) ?_
          rw [hk2] at hl
          refine ih (i + 1) _ _ _ _ (by omega) (by omega) (fun k hk => ?_) (fun k hk => ?_) (lv_sub hl [0, 1, 2, 3] rfl) B
          · rw [← hk2] at hk
            rcases (show k = kp ∨ k < kp by omega) with q | q
            · rw [q, va_up_s, hce, ekp]
              split
              · rw [if_pos (by omega)]
              · rw [if_neg (by omega)]
                congr 1
                omega
            · rw [va_up_n (by omega)]
              exact k1 k q
          · rw [va_up_n (by omega)]
            exact k2 k (by omega)
  refine k_iconst E 0 d_X_leaveLine_0 rfl ?_
  refine lv_istore_n (lv' := [(2, .int (nI 0)), (0, .ref (a 0)), (1, .int (nI job))]) E.1 E.2.1 d_X_leaveLine_1 rfl hl (by decide) rfl (fun ls hl => ?_)
  refine k_iconst E 0 d_X_leaveLine_2 rfl ?_
  refine lv_istore_n (lv' := [(3, .int (nI 0)), (2, .int (nI 0)), (0, .ref (a 0)), (1, .int (nI job))]) E.1 E.2.1 d_X_leaveLine_3 rfl hl (by decide) rfl (fun ls hl => ?_)
  exact loop cm 0 cj _ _ _ (by omega) (by omega) (fun k hk => by rw [if_pos (Nat.zero_le _)] at hk; omega) (fun k hk => rfl) (by rw [if_pos (Nat.zero_le _)]; exact lv_sub hl [0, 1, 2, 3] rfl) B
end
section
theorem uAd_uAd (U : PX) (v w : Nat → Int32) : uAd (uAd U v) w = uAd U w := by
  simp only [uAd]
theorem uAd_uHj (U : PX) (v : Nat → Nat) (w : Nat → Int32) : uAd (uHj U v) w = uHj (uAd U w) v := by
  simp only [uAd, uHj]
theorem uAd_uHp (U : PX) (v : Nat) (w : Nat → Int32) : uAd (uHp U v) w = uHp (uAd U w) v := by
  simp only [uAd, uHp]
theorem uAd_uIl (U : PX) (v : Nat) (w : Nat → Int32) : uAd (uIl U v) w = uIl (uAd U w) v := by
  simp only [uAd, uIl]
theorem uAd_uLj (U : PX) (v : Nat → Nat) (w : Nat → Int32) : uAd (uLj U v) w = uLj (uAd U w) v := by
  simp only [uAd, uLj]
theorem uAd_uMk (U : PX) (v : Nat → Nat) (w : Nat → Int32) : uAd (uMk U v) w = uMk (uAd U w) v := by
  simp only [uAd, uMk]
theorem uFi_uFi (U : PX) (v w : Nat → Int32) : uFi (uFi U v) w = uFi U w := by
  simp only [uFi]
theorem uFi_uHj (U : PX) (v : Nat → Nat) (w : Nat → Int32) : uFi (uHj U v) w = uHj (uFi U w) v := by
  simp only [uFi, uHj]
theorem uFi_uHp (U : PX) (v : Nat) (w : Nat → Int32) : uFi (uHp U v) w = uHp (uFi U w) v := by
  simp only [uFi, uHp]
theorem uFi_uWk (U : PX) (v : Nat → Nat) (w : Nat → Int32) : uFi (uWk U v) w = uWk (uFi U w) v := by
  simp only [uFi, uWk]
theorem uMk_uHj (U : PX) (v : Nat → Nat) (w : Nat → Nat) : uMk (uHj U v) w = uHj (uMk U w) v := by
  simp only [uMk, uHj]
theorem uMk_uHp (U : PX) (v : Nat) (w : Nat → Nat) : uMk (uHp U v) w = uHp (uMk U w) v := by
  simp only [uMk, uHp]
theorem uMk_uIl (U : PX) (v : Nat) (w : Nat → Nat) : uMk (uIl U v) w = uIl (uMk U w) v := by
  simp only [uMk, uIl]
theorem uMk_uLj (U : PX) (v : Nat → Nat) (w : Nat → Nat) : uMk (uLj U v) w = uLj (uMk U w) v := by
  simp only [uMk, uLj]
theorem uMk_uMk (U : PX) (v w : Nat → Nat) : uMk (uMk U v) w = uMk U w := by
  simp only [uMk]
theorem uSt_uAd (U : PX) (v : Nat → Int32) (w : Nat → Nat) : uSt (uAd U v) w = uAd (uSt U w) v := by
  simp only [uSt, uAd]
theorem uSt_uFi (U : PX) (v : Nat → Int32) (w : Nat → Nat) : uSt (uFi U v) w = uFi (uSt U w) v := by
  simp only [uSt, uFi]
theorem uSt_uHj (U : PX) (v : Nat → Nat) (w : Nat → Nat) : uSt (uHj U v) w = uHj (uSt U w) v := by
  simp only [uSt, uHj]
theorem uSt_uHp (U : PX) (v : Nat) (w : Nat → Nat) : uSt (uHp U v) w = uHp (uSt U w) v := by
  simp only [uSt, uHp]
theorem uSt_uMk (U : PX) (v : Nat → Nat) (w : Nat → Nat) : uSt (uMk U v) w = uMk (uSt U w) v := by
  simp only [uSt, uMk]
theorem uSt_uWk (U : PX) (v : Nat → Nat) (w : Nat → Nat) : uSt (uWk U v) w = uWk (uSt U w) v := by
  simp only [uSt, uWk]
theorem uWk_uHj (U : PX) (v : Nat → Nat) (w : Nat → Nat) : uWk (uHj U v) w = uHj (uWk U w) v := by
  simp only [uWk, uHj]
theorem uWk_uHp (U : PX) (v : Nat) (w : Nat → Nat) : uWk (uHp U v) w = uHp (uWk U w) v := by
  simp only [uWk, uHp]
theorem uWk_uWk (U : PX) (v w : Nat → Nat) : uWk (uWk U v) w = uWk U w := by
  simp only [uWk]
set_option maxHeartbeats 4000000 in
set_option maxRecDepth 100000 in
/-- the first n of the line go to the heap -/
theorem c_X_admit (l : Launch) (D : va_G) (a : Nat → Nat) (g : Nat → ClassId) (u : PX) (T ct hp il : Nat) (sz st mk hj lj : Nat → Nat) (ad : Nat → Int32) (S : Nat → Prop) (eT : xT u = T) (eSz : xSz u = sz) (eSt : xSt u = st) (eAd : xAd u = ad) (eCt : xCt u = ct) (eMk : xMk u = mk) (eHp : xHp u = hp) (eHj : xHj u = hj) (eIl : xIl u = il) (eLj : xLj u = lj) (hS : ∀ j, S j → j < 24) (hm : ∀ k, k < 24 → mk k < 2 ^ 62) (hct : ct < 2 ^ 62) (hsz : ∀ i, i < il → sz (lj i) < 2 ^ 31) (h8 : hp ≤ 8) (h24 : il ≤ 24) (hlj : ∀ i, i < il → lj i < 24 ∧ ¬ S (lj i)) (hinj : ∀ i j, i < il → j < il → lj i = lj j → i = j) (hH : Hp (key mk) hj hp S) : MetV l y_X_admit b_X_admit 3 2 D (tX g) (wX a g) [.ref (a 0)] u (fun u' => ∃ n, n ≤ il ∧ hp + n ≤ 8 ∧ (n = il ∨ hp + n = 8) ∧ ∃ st2 ad2 mk2 hj2 lj2, u' = uLj (uIl (uHj (uHp (uMk (uAd (uSt u st2) ad2) mk2) (hp + n)) hj2) (il - n)) lj2 ∧ (∀ i, i < il - n → lj2 i = lj (i + n)) ∧ (∀ i, i < n → st2 (lj i) = 2 ∧ ad2 (lj i) = nI T ∧ mk2 (lj i) = ct + sz (lj i)) ∧ (∀ j, (∀ i, i < n → j ≠ lj i) → st2 j = st j ∧ ad2 j = ad j ∧ mk2 j = mk j) ∧ Hp (key mk2) hj2 (hp + n) (fun j => S j ∨ ∃ i, i < n ∧ j = lj i)) := by
  refine MetV.of (by decide +kernel) (Nat.le_of_ble_eq_true rfl) ?_
  intro p e s m args below meth c A Q ls E hl B ret
  have E : CallFix p m c b_X_admit 3 s args lw_ws R_X := E
  have hl : lv_has ls 3 [(0, .ref (a 0))] := hl
  have B : wB D (tX g) s A s.heap (wX a g (uLj (uIl (uHj (uHp (uMk (uAd (uSt u st) ad) mk) hp) hj) il) lj)) s.heap [] := by
    have e9 : uLj (uIl (uHj (uHp (uMk (uAd (uSt u st) ad) mk) hp) hj) il) lj = u := by
      rw [← eSt, ← eAd, ← eMk, ← eHp, ← eHj, ← eIl, ← eLj]
      rfl
    rw [e9]
    exact B
  have shift : ∀ (n : Nat) (st2 mk2 hj2 : Nat → Nat) (ad2 : Nat → Int32), n ≤ il → hp + n ≤ 8 → (n = il ∨ hp + n = 8) → (∀ i, i < n → st2 (lj i) = 2 ∧ ad2 (lj i) = nI T ∧ mk2 (lj i) = ct + sz (lj i)) → (∀ j, (∀ i, i < n → j ≠ lj i) → st2 j = st j ∧ ad2 j = ad j ∧ mk2 j = mk j) → Hp (key mk2) hj2 (hp + n) (fun j => S j ∨ ∃ i, i < n ∧ j = lj i) → ∀ (z i : Nat) (lj2 : Nat → Nat) (H : Heap) (locs : List Loc) (ls : Array Slot), il - n - i ≤ z → i ≤ il - n → (∀ k, k < i → lj2 k = lj (k + n)) → (∀ k, i ≤ k → lj2 k = lj k) → lv_has ls 3 [(2, .int (nI i)), (1, .int (nI n)), (0, .ref (a 0))] → wB D (tX g) s A s.heap (wX a g (uLj (uIl (uHj (uHp (uMk (uAd (uSt u st2) ad2) mk2) (hp + n)) hj2) (il - n)) lj2)) H locs → W p l e (rd 2) s m args below meth c H locs 0 0 Q (F0 m 84 ls []) := by
    intro n st2 mk2 hj2 ad2 hn hn8 hstop i1 i2 i3 z
    induction z with
    | zero =>
      intro i lj2 H locs ls hz hi k1 k2 hl B
      refine lv_iload_n E.1 E.2.1 d_X_admit_84 rfl (lv_at hl 0 rfl) ?_
      refine lv_aload_n E.1 E.2.1 d_X_admit_85 rfl (lv_at hl 2 rfl) ?_
      refine k_getX E B 14 (by decide) wf_X_63 rfl (fX_Il ((xIl_uLj _ _).trans (xIl_uIl _ _))) d_X_admit_86 ?_
      refine k_icmp_ge E 112 (by omega) (by omega) d_X_admit_89 (by decide) (fun h1 => ?_) (fun h1 => ?_)
      · skip
        exact ret _ _ _ _ _ ⟨n, hn, hn8, hstop, st2, ad2, mk2, hj2, lj2, rfl, fun k hk => k1 k (by omega), i1, i2, i3⟩ B d_X_admit_112
      · skip
        exact absurd h1 (by omega)
    | succ z ih =>
      intro i lj2 H locs ls hz hi k1 k2 hl B
      refine lv_iload_n E.1 E.2.1 d_X_admit_84 rfl (lv_at hl 0 rfl) ?_
      refine lv_aload_n E.1 E.2.1 d_X_admit_85 rfl (lv_at hl 2 rfl) ?_
      refine k_getX E B 14 (by decide) wf_X_63 rfl (fX_Il ((xIl_uLj _ _).trans (xIl_uIl _ _))) d_X_admit_86 ?_
      refine k_icmp_ge E 112 (by omega) (by omega) d_X_admit_89 (by decide) (fun h1 => ?_) (fun h1 => ?_)
      · skip
        exact ret _ _ _ _ _ ⟨n, hn, hn8, hstop, st2, ad2, mk2, hj2, lj2, rfl, fun k hk => k1 k (by omega), i1, i2, i3⟩ B d_X_admit_112
      · skip
        refine lv_aload_n E.1 E.2.1 d_X_admit_92 rfl (lv_at hl 2 rfl) ?_
        refine k_getX E B 15 (by decide) wf_X_38 rfl rfl d_X_admit_93 ?_
        refine lv_iload_n E.1 E.2.1 d_X_admit_96 rfl (lv_at hl 0 rfl) ?_
        refine lv_aload_n E.1 E.2.1 d_X_admit_97 rfl (lv_at hl 2 rfl) ?_
        refine k_getX E B 15 (by decide) wf_X_38 rfl rfl d_X_admit_98 ?_
        refine lv_iload_n E.1 E.2.1 d_X_admit_101 rfl (lv_at hl 0 rfl) ?_
        refine lv_iload_n E.1 E.2.1 d_X_admit_102 rfl (lv_at hl 1 rfl) ?_
        refine k_iadd E d_X_admit_103 ?_
        refine k_ild E B 10 9 (aX_Lj (xLj_uLj _ _)) rfl (by omega) (by decide) d_X_admit_104 ?_
        refine k_ist E B 10 9 (ws' := wX a g (uLj (uLj (uIl (uHj (uHp (uMk (uAd (uSt u st2) ad2) mk2) (hp + n)) hj2) (il - n)) lj2) (va_up lj2 i (lj2 (i + n))))) (aX_Lj (xLj_uLj _ _)) rfl (by omega) (by decide) (wX_Lj _ _ _ _) d_X_admit_105 (fun H locs B => ?_)
        rw [uLj_uLj] at B
        refine lv_iinc (v := nI (i + 1)) (lv' := [(2, .int (nI (i + 1))), (1, .int (nI n)), (0, .ref (a 0))]) E.1 E.2.1 d_X_admit_106 hl (k := 0) rfl (by rw [show Int32.ofInt 1 = nI 1 from rfl, nI_add]) (by decide) rfl (fun ls hl => ?_)
        refine lv_goto (tgt := 84) E.1 E.2.1 d_X_admit_109 (by decide) ?_
        refine ih (i + 1) _ _ _ _ (by omega) (by omega) (fun k hk => ?_) (fun k hk => ?_) (lv_sub hl [0, 1, 2] rfl) B
        · rcases (show k = i ∨ k < i by omega) with q | q
          · rw [q, va_up_s]
            exact k2 _ (by omega)
          · rw [va_up_n (by omega)]
            exact k1 k q
        · rw [va_up_n (by omega)]
          exact k2 k (by omega)
  have loop : ∀ (z n : Nat) (st2 mk2 hj2 : Nat → Nat) (ad2 : Nat → Int32) (H : Heap) (locs : List Loc) (ls : Array Slot), il - n ≤ z → n ≤ il → hp + n ≤ 8 → (∀ i, i < n → st2 (lj i) = 2 ∧ ad2 (lj i) = nI T ∧ mk2 (lj i) = ct + sz (lj i)) → (∀ j, (∀ i, i < n → j ≠ lj i) → st2 j = st j ∧ ad2 j = ad j ∧ mk2 j = mk j) → Hp (key mk2) hj2 (hp + n) (fun j => S j ∨ ∃ i, i < n ∧ j = lj i) → lv_has ls 3 [(1, .int (nI n)), (0, .ref (a 0))] → wB D (tX g) s A s.heap (wX a g (uLj (uIl (uHj (uHp (uMk (uAd (uSt u st2) ad2) mk2) (hp + n)) hj2) il) lj)) H locs → W p l e (rd 2) s m args below meth c H locs 0 0 Q (F0 m 2 ls []) := by
    intro z
    induction z with
    | zero =>
      intro n st2 mk2 hj2 ad2 H locs ls hz hn hn8 i1 i2 i3 hl B
      refine lv_iload_n E.1 E.2.1 d_X_admit_2 rfl (lv_at hl 0 rfl) ?_
      refine lv_aload_n E.1 E.2.1 d_X_admit_3 rfl (lv_at hl 1 rfl) ?_
      refine k_getX E B 14 (by decide) wf_X_63 rfl (fX_Il ((xIl_uLj _ _).trans (xIl_uIl _ _))) d_X_admit_4 ?_
      refine k_icmp_ge E 72 (by omega) (by omega) d_X_admit_7 (by decide) (fun h1 => ?_) (fun h1 => ?_)
      · skip
        refine lv_aload_n E.1 E.2.1 d_X_admit_72 rfl (lv_at hl 1 rfl) ?_
        refine k_dup E rfl d_X_admit_73 ?_
        refine k_getX E B 14 (by decide) wf_X_63 rfl (fX_Il ((xIl_uLj _ _).trans (xIl_uIl _ _))) d_X_admit_74 ?_
        refine lv_iload_n E.1 E.2.1 d_X_admit_77 rfl (lv_at hl 0 rfl) ?_
        refine k_isub E (by omega) d_X_admit_78 ?_
        refine k_putX (uIl (uLj (uIl (uHj (uHp (uMk (uAd (uSt u st2) ad2) mk2) (hp + n)) hj2) il) lj) (il - n)) E B 14 (by decide) wf_X_63 rfl rfl rfl rfl (wX_Il _ _ _ _) d_X_admit_79 (fun H locs B => ?_)
        rw [uIl_uLj, uIl_uIl] at B
        refine k_iconst E 0 d_X_admit_82 rfl ?_
        refine lv_istore_n (lv' := [(2, .int (nI 0)), (1, .int (nI n)), (0, .ref (a 0))]) E.1 E.2.1 d_X_admit_83 rfl hl (by decide) rfl (fun ls hl => ?_)
        exact shift n st2 mk2 hj2 ad2 hn hn8 (Or.inl (by omega)) i1 i2 i3 _ 0 lj _ _ _ (Nat.le_refl _) (by omega) (fun k hk => by omega) (fun k hk => rfl) (lv_sub hl [0, 1, 2] rfl) B
      · skip
        exact absurd h1 (by omega)
    | succ z ih =>
      intro n st2 mk2 hj2 ad2 H locs ls hz hn hn8 i1 i2 i3 hl B
      refine lv_iload_n E.1 E.2.1 d_X_admit_2 rfl (lv_at hl 0 rfl) ?_
      refine lv_aload_n E.1 E.2.1 d_X_admit_3 rfl (lv_at hl 1 rfl) ?_
      refine k_getX E B 14 (by decide) wf_X_63 rfl (fX_Il ((xIl_uLj _ _).trans (xIl_uIl _ _))) d_X_admit_4 ?_
      refine k_icmp_ge E 72 (by omega) (by omega) d_X_admit_7 (by decide) (fun h1 => ?_) (fun h1 => ?_)
      · skip
        refine lv_aload_n E.1 E.2.1 d_X_admit_72 rfl (lv_at hl 1 rfl) ?_
        refine k_dup E rfl d_X_admit_73 ?_
        refine k_getX E B 14 (by decide) wf_X_63 rfl (fX_Il ((xIl_uLj _ _).trans (xIl_uIl _ _))) d_X_admit_74 ?_
        refine lv_iload_n E.1 E.2.1 d_X_admit_77 rfl (lv_at hl 0 rfl) ?_
        refine k_isub E (by omega) d_X_admit_78 ?_
        refine k_putX (uIl (uLj (uIl (uHj (uHp (uMk (uAd (uSt u st2) ad2) mk2) (hp + n)) hj2) il) lj) (il - n)) E B 14 (by decide) wf_X_63 rfl rfl rfl rfl (wX_Il _ _ _ _) d_X_admit_79 (fun H locs B => ?_)
        rw [uIl_uLj, uIl_uIl] at B
        refine k_iconst E 0 d_X_admit_82 rfl ?_
        refine lv_istore_n (lv' := [(2, .int (nI 0)), (1, .int (nI n)), (0, .ref (a 0))]) E.1 E.2.1 d_X_admit_83 rfl hl (by decide) rfl (fun ls hl => ?_)
        exact shift n st2 mk2 hj2 ad2 hn hn8 (Or.inl (by omega)) i1 i2 i3 _ 0 lj _ _ _ (Nat.le_refl _) (by omega) (fun k hk => by omega) (fun k hk => rfl) (lv_sub hl [0, 1, 2] rfl) B
      · skip
        refine lv_aload_n E.1 E.2.1 d_X_admit_10 rfl (lv_at hl 1 rfl) ?_
        refine k_getX E B 10 (by decide) wf_X_52 rfl (fX_Hp ((xHp_uLj _ _).trans ((xHp_uIl _ _).trans ((xHp_uHj _ _).trans (xHp_uHp _ _))))) d_X_admit_11 ?_
        refine k_bipush E 8 d_X_admit_14 rfl ?_
        refine k_icmp_ge E 72 (by omega) (by omega) d_X_admit_16 (by decide) (fun h2 => ?_) (fun h2 => ?_)
        · skip
          refine lv_aload_n E.1 E.2.1 d_X_admit_72 rfl (lv_at hl 1 rfl) ?_
          refine k_dup E rfl d_X_admit_73 ?_
          refine k_getX E B 14 (by decide) wf_X_63 rfl (fX_Il ((xIl_uLj _ _).trans (xIl_uIl _ _))) d_X_admit_74 ?_
          refine lv_iload_n E.1 E.2.1 d_X_admit_77 rfl (lv_at hl 0 rfl) ?_
          refine k_isub E (by omega) d_X_admit_78 ?_
          refine k_putX (uIl (uLj (uIl (uHj (uHp (uMk (uAd (uSt u st2) ad2) mk2) (hp + n)) hj2) il) lj) (il - n)) E B 14 (by decide) wf_X_63 rfl rfl rfl rfl (wX_Il _ _ _ _) d_X_admit_79 (fun H locs B => ?_)
          rw [uIl_uLj, uIl_uIl] at B
          refine k_iconst E 0 d_X_admit_82 rfl ?_
          refine lv_istore_n (lv' := [(2, .int (nI 0)), (1, .int (nI n)), (0, .ref (a 0))]) E.1 E.2.1 d_X_admit_83 rfl hl (by decide) rfl (fun ls hl => ?_)
          exact shift n st2 mk2 hj2 ad2 hn hn8 (Or.inr (by omega)) i1 i2 i3 _ 0 lj _ _ _ (Nat.le_refl _) (by omega) (fun k hk => by omega) (fun k hk => rfl) (lv_sub hl [0, 1, 2] rfl) B
        · skip
          obtain ⟨hln, hlS⟩ := hlj n h1
          have hszn := hsz n h1
          rw [← eSz] at hszn
          refine lv_aload_n E.1 E.2.1 d_X_admit_19 rfl (lv_at hl 1 rfl) ?_
          refine k_getX E B 15 (by decide) wf_X_38 rfl rfl d_X_admit_20 ?_
          refine lv_iload_n E.1 E.2.1 d_X_admit_23 rfl (lv_at hl 0 rfl) ?_
          refine k_ild E B 10 9 (aX_Lj (xLj_uLj _ _)) rfl (by omega) (by decide) d_X_admit_24 ?_
          refine lv_istore_n (lv' := [(2, .int (nI (lj n))), (1, .int (nI n)), (0, .ref (a 0))]) E.1 E.2.1 d_X_admit_25 rfl hl (by decide) rfl (fun ls hl => ?_)
          refine lv_aload_n E.1 E.2.1 d_X_admit_26 rfl (lv_at hl 2 rfl) ?_
          refine k_getX E B 4 (by decide) wf_X_16 rfl rfl d_X_admit_27 ?_
          refine lv_iload_n E.1 E.2.1 d_X_admit_30 rfl (lv_at hl 0 rfl) ?_
          refine k_iconst E 2 d_X_admit_31 rfl ?_
          refine k_ist E B 3 2 (ws' := wX a g (uSt (uLj (uIl (uHj (uHp (uMk (uAd (uSt u st2) ad2) mk2) (hp + n)) hj2) il) lj) (va_up st2 (lj n) 2))) (aX_St ((xSt_uLj _ _).trans ((xSt_uIl _ _).trans ((xSt_uHj _ _).trans ((xSt_uHp _ _).trans ((xSt_uMk _ _).trans ((xSt_uAd _ _).trans (xSt_uSt _ _)))))))) rfl (by omega) (by decide) (wX_St _ _ _ _) d_X_admit_32 (fun H locs B => ?_)
          rw [uSt_uLj, uSt_uIl, uSt_uHj, uSt_uHp, uSt_uMk, uSt_uAd, uSt_uSt] at B
          refine lv_aload_n E.1 E.2.1 d_X_admit_33 rfl (lv_at hl 2 rfl) ?_
          refine k_getX E B 5 (by decide) wf_X_19 rfl rfl d_X_admit_34 ?_
          refine lv_iload_n E.1 E.2.1 d_X_admit_37 rfl (lv_at hl 0 rfl) ?_
          refine lv_aload_n E.1 E.2.1 d_X_admit_38 rfl (lv_at hl 2 rfl) ?_
          refine k_getX E B 0 (by decide) wf_X_41 rfl (fX_T ((xT_uLj _ _).trans ((xT_uIl _ _).trans ((xT_uHj _ _).trans ((xT_uHp _ _).trans ((xT_uMk _ _).trans ((xT_uAd _ _).trans (xT_uSt _ _)))))))) d_X_admit_39 ?_
          refine k_istR E B 4 3 (ws' := wX a g (uAd (uLj (uIl (uHj (uHp (uMk (uAd (uSt u (va_up st2 (lj n) 2)) ad2) mk2) (hp + n)) hj2) il) lj) (upd ad2 (lj n) (nI (xT u))))) (aX_Ad ((xAd_uLj _ _).trans ((xAd_uIl _ _).trans ((xAd_uHj _ _).trans ((xAd_uHp _ _).trans ((xAd_uMk _ _).trans (xAd_uAd _ _))))))) rfl (by omega) (by decide) (wX_Ad _ _ _ _) d_X_admit_42 (fun H locs B => ?_)
          rw [uAd_uLj, uAd_uIl, uAd_uHj, uAd_uHp, uAd_uMk, uAd_uAd] at B
          refine lv_aload_n E.1 E.2.1 d_X_admit_43 rfl (lv_at hl 2 rfl) ?_
          refine k_getX E B 9 (by decide) wf_X_28 rfl rfl d_X_admit_44 ?_
          refine lv_iload_n E.1 E.2.1 d_X_admit_47 rfl (lv_at hl 0 rfl) ?_
          refine lv_aload_n E.1 E.2.1 d_X_admit_48 rfl (lv_at hl 2 rfl) ?_
          refine k_getX E B 8 (by decide) wf_X_66 rfl (fX_Ct ((xCt_uLj _ _).trans ((xCt_uIl _ _).trans ((xCt_uHj _ _).trans ((xCt_uHp _ _).trans ((xCt_uMk _ _).trans ((xCt_uAd _ _).trans (xCt_uSt _ _)))))))) d_X_admit_49 ?_
          refine lv_aload_n E.1 E.2.1 d_X_admit_52 rfl (lv_at hl 2 rfl) ?_
          refine k_getX E B 2 (by decide) wf_X_7 rfl rfl d_X_admit_53 ?_
          refine lv_iload_n E.1 E.2.1 d_X_admit_56 rfl (lv_at hl 0 rfl) ?_
          refine k_ild E B 1 0 (aX_Sz ((xSz_uLj _ _).trans ((xSz_uIl _ _).trans ((xSz_uHj _ _).trans ((xSz_uHp _ _).trans ((xSz_uMk _ _).trans ((xSz_uAd _ _).trans (xSz_uSt _ _)))))))) rfl (by omega) (by decide) d_X_admit_57 ?_
          refine k_i2l E hszn d_X_admit_58 ?_
          refine k_ladd E d_X_admit_59 ?_
          refine k_lst E B 7 6 (ws' := wX a g (uMk (uLj (uIl (uHj (uHp (uMk (uAd (uSt u (va_up st2 (lj n) 2)) (upd ad2 (lj n) (nI (xT u)))) mk2) (hp + n)) hj2) il) lj) (va_up mk2 (lj n) ((xCt u) + (xSz u (lj n)))))) (aX_Mk ((xMk_uLj _ _).trans ((xMk_uIl _ _).trans ((xMk_uHj _ _).trans ((xMk_uHp _ _).trans (xMk_uMk _ _)))))) rfl (by omega) (by decide) (wX_Mk _ _ _ _) d_X_admit_60 (fun H locs B => ?_)
          rw [uMk_uLj, uMk_uIl, uMk_uHj, uMk_uHp, uMk_uMk] at B
          rw [eCt, eSz, eT] at B
          have hno : ¬ (S (lj n) ∨ ∃ i, i < n ∧ lj n = lj i) := by
            rintro (q | ⟨i, hi, q⟩)
            · exact hlS q
            · have := hinj n i h1 (by omega) q
              omega
          have hS2 : ∀ j, (S j ∨ ∃ i, i < n ∧ j = lj i) → j < 24 := by
            rintro j (q | ⟨i, hi, q⟩)
            · exact hS j q
            · rw [q]
              exact (hlj i (by omega)).1
          have hm2 : ∀ k, k < 24 → va_up mk2 (lj n) (ct + sz (lj n)) k < 2 ^ 63 := by
            intro k hk
            by_cases e : k = lj n
            · rw [e, va_up_s]
              rw [eSz] at hszn
              omega
            · rw [va_up_n e]
              rcases Classical.em (∃ i, i < n ∧ k = lj i) with ⟨i, hi, q⟩ | q
              · have := (i1 i hi).2.2
                have hz2 := hsz i (by omega)
                rw [q, this]
                omega
              · have := (i2 k (fun i hi e => q ⟨i, hi, e⟩)).2.2
                have := hm k hk
                omega
          have hH2 : Hp (key (va_up mk2 (lj n) (ct + sz (lj n)))) hj2 (hp + n) (fun j => S j ∨ ∃ i, i < n ∧ j = lj i) := i3.congr (fun _ => Iff.rfl) (fun j hj => by
            unfold key
            rw [va_up_n (fun e => hno (by rw [← e]; exact hj))])
          refine lv_aload_n E.1 E.2.1 d_X_admit_61 rfl (lv_at hl 2 rfl) ?_
          refine lv_iload_n E.1 E.2.1 d_X_admit_62 rfl (lv_at hl 0 rfl) ?_
          refine k_callv (As := [.int (nI (lj n))]) (rest := []) E (c_X_push l D a g (uLj (uIl (uHj (uHp (uMk (uAd (uSt u (va_up st2 (lj n) 2)) (upd ad2 (lj n) (nI T))) (va_up mk2 (lj n) (ct + sz (lj n)))) (hp + n)) hj2) il) lj) (lj n) (va_up mk2 (lj n) (ct + sz (lj n))) hj2 (hp + n) _ ((xMk_uLj _ _).trans ((xMk_uIl _ _).trans ((xMk_uHj _ _).trans ((xMk_uHp _ _).trans (xMk_uMk _ _))))) ((xHj_uLj _ _).trans ((xHj_uIl _ _).trans (xHj_uHj _ _))) ((xHp_uLj _ _).trans ((xHp_uIl _ _).trans ((xHp_uHj _ _).trans (xHp_uHp _ _)))) hS2 hm2 hln h2 hH2 hno) kc_X_70 ⟨Nat.le_of_ble_eq_true rfl, Nat.le_of_ble_eq_true rfl⟩ B (show classes[0]? = _ from rfl) rfl hl.1 rfl (Nat.le_of_ble_eq_true rfl) d_X_admit_63 ⟨Nat.le_of_ble_eq_true rfl, Nat.le_of_ble_eq_true rfl⟩ (fun u1 H locs hq B => ?_)
          obtain ⟨h', hu, hH'⟩ := hq
          rw [hu] at B
          have e9 : uHj (uHp (uLj (uIl (uHj (uHp (uMk (uAd (uSt u (va_up st2 (lj n) 2)) (upd ad2 (lj n) (nI T))) (va_up mk2 (lj n) (ct + sz (lj n)))) (hp + n)) hj2) il) lj) (hp + n + 1)) h' = uLj (uIl (uHj (uHp (uMk (uAd (uSt u (va_up st2 (lj n) 2)) (upd ad2 (lj n) (nI T))) (va_up mk2 (lj n) (ct + sz (lj n)))) (hp + n + 1)) h') il) lj := by simp only [uHj, uHp, uIl, uLj]
          rw [e9] at B
          refine lv_iinc (v := nI (n + 1)) (lv' := [(1, .int (nI (n + 1))), (2, .int (nI (lj n))), (0, .ref (a 0))]) E.1 E.2.1 d_X_admit_66 hl (k := 1) rfl (by rw [show Int32.ofInt 1 = nI 1 from rfl, nI_add]) (by decide) rfl (fun ls hl => ?_)
          refine lv_goto (tgt := 2) E.1 E.2.1 d_X_admit_69 (by decide) ?_
          refine ih (n + 1) _ _ _ _ _ _ _ (by omega) (by omega) (by omega) (fun i hi => ?_) (fun j hj => ?_) (hH'.congr (fun j => ?_) (fun _ _ => rfl)) (lv_sub hl [0, 2] rfl) B
          · rcases (show i < n ∨ i = n by omega) with q | q
            · have e : lj i ≠ lj n := fun e => by
                have := hinj i n (by omega) h1 e
                omega
              rw [va_up_n e, va_up_n e, pk_un e]
              exact i1 i q
            · rw [q, va_up_s, va_up_s, pk_us]
              exact ⟨rfl, rfl, rfl⟩
          · have e : j ≠ lj n := hj n (by omega)
            rw [va_up_n e, va_up_n e, pk_un e]
            exact i2 j (fun i hi => hj i (by omega))
          · constructor
            · rintro (q | q | ⟨i, hi, q⟩)
              · exact Or.inr ⟨n, by omega, q⟩
              · exact Or.inl q
              · exact Or.inr ⟨i, by omega, q⟩
            · rintro (q | ⟨i, hi, q⟩)
              · exact Or.inr (Or.inl q)
              · rcases (show i < n ∨ i = n by omega) with e | e
                · exact Or.inr (Or.inr ⟨i, e, q⟩)
                · exact Or.inl (by rw [q, e])
  refine k_iconst E 0 d_X_admit_0 rfl ?_
  refine lv_istore_n (lv' := [(1, .int (nI 0)), (0, .ref (a 0))]) E.1 E.2.1 d_X_admit_1 rfl hl (by decide) rfl (fun ls hl => ?_)
  exact loop il 0 st mk hj ad _ _ _ (by omega) (by omega) h8 (fun i hi => by omega) (fun j hj => ⟨rfl, rfl, rfl⟩) (hH.congr (fun j => ⟨Or.inl, fun q => q.elim id (fun ⟨i, hi, _⟩ => by omega)⟩) (fun _ _ => rfl)) hl B
set_option maxHeartbeats 4000000 in
set_option maxRecDepth 100000 in
/-- complete(): all that are done leave the heap -/
theorem c_X_complete (l : Launch) (D : va_G) (a : Nat → Nat) (g : Nat → ClassId) (u : PX) (T ct hp : Nat) (sz st wk mk hj : Nat → Nat) (fi : Nat → Int32) (S : Nat → Prop) (eT : xT u = T) (eSz : xSz u = sz) (eSt : xSt u = st) (eFi : xFi u = fi) (eWk : xWk u = wk) (eCt : xCt u = ct) (eMk : xMk u = mk) (eHp : xHp u = hp) (eHj : xHj u = hj) (hT : 1 ≤ T) (hS : ∀ j, S j → j < 24) (hm : ∀ k, k < 24 → mk k < 2 ^ 63) (hct : ct < 2 ^ 63) (h8 : hp ≤ 8) (hH : Hp (key mk) hj hp S) : MetI l y_X_complete b_X_complete 3 (some .int) 3 D (tX g) (wX a g) [.ref (a 0)] u (fun r u' => ∃ n k, n + k = hp ∧ r = nI n ∧ ∃ st2 fi2 wk2 hj2, u' = uHj (uHp (uWk (uFi (uSt u st2) fi2) wk2) k) hj2 ∧ (∀ j, S j → mk j ≤ ct → st2 j = 3 ∧ fi2 j = nI (T - 1) ∧ wk2 j = sz j) ∧ (∀ j, ¬ (S j ∧ mk j ≤ ct) → st2 j = st j ∧ fi2 j = fi j ∧ wk2 j = wk j) ∧ Hp (key mk) hj2 k (fun j => S j ∧ ct < mk j)) := by
  refine MetI.of (by decide) (Nat.le_of_ble_eq_true rfl) ?_
  intro p e s m args below meth c A Q ls E hl B ret
  have E : CallFix p m c b_X_complete 3 s args lw_ws R_X := E
  have hl : lv_has ls 3 [(0, .ref (a 0))] := hl
  have B : wB D (tX g) s A s.heap (wX a g (uHj (uHp (uWk (uFi (uSt u st) fi) wk) hp) hj)) s.heap [] := by
    have e9 : uHj (uHp (uWk (uFi (uSt u st) fi) wk) hp) hj = u := by
      rw [← eSt, ← eFi, ← eWk, ← eHp, ← eHj]
      rfl
    rw [e9]
    exact B
  have loop : ∀ (k n : Nat) (st2 wk2 hj2 : Nat → Nat) (fi2 : Nat → Int32) (S2 : Nat → Prop) (H : Heap) (locs : List Loc) (ls : Array Slot), n + k = hp → (∀ j, S2 j → S j) → (∀ j, S j → ¬ S2 j → mk j ≤ ct ∧ st2 j = 3 ∧ fi2 j = nI (T - 1) ∧ wk2 j = sz j) → (∀ j, ¬ (S j ∧ ¬ S2 j) → st2 j = st j ∧ fi2 j = fi j ∧ wk2 j = wk j) → Hp (key mk) hj2 k S2 → lv_has ls 3 [(1, .int (nI n)), (0, .ref (a 0))] → wB D (tX g) s A s.heap (wX a g (uHj (uHp (uWk (uFi (uSt u st2) fi2) wk2) k) hj2)) H locs → W p l e (rd 3) s m args below meth c H locs 0 0 Q (F0 m 2 ls []) := by
    intro k
    induction k with
    | zero =>
      intro n st2 wk2 hj2 fi2 S2 H locs ls hnk g1 g2 g3 g4 hl B
      have fin : (∀ j, S2 j → ct < mk j) → ∃ n1 k1, n1 + k1 = hp ∧ nI n = nI n1 ∧ ∃ st3 fi3 wk3 hj3, uHj (uHp (uWk (uFi (uSt u st2) fi2) wk2) 0) hj2 = uHj (uHp (uWk (uFi (uSt u st3) fi3) wk3) k1) hj3 ∧ ((∀ j, S j → mk j ≤ ct → st3 j = 3 ∧ fi3 j = nI (T - 1) ∧ wk3 j = sz j) ∧ (∀ j, ¬ (S j ∧ mk j ≤ ct) → st3 j = st j ∧ fi3 j = fi j ∧ wk3 j = wk j)) ∧ Hp (key mk) hj3 k1 (fun j => S j ∧ ct < mk j) := by
        intro hall
        refine ⟨n, _, hnk, rfl, st2, fi2, wk2, hj2, rfl, ⟨fun j hj hm2 => ?_, fun j hj => ?_⟩, g4.congr (fun j => ⟨fun q => ⟨g1 j q, hall j q⟩, fun q => ?_⟩) (fun _ _ => rfl)⟩
        · exact (g2 j hj (fun q => by have := hall j q; omega)).2
        · refine g3 j (fun q => hj ⟨q.1, ?_⟩)
          exact (g2 j q.1 q.2).1
        · rcases Classical.em (S2 j) with z | z
          · exact z
          · have := (g2 j q.1 z).1
            omega
      obtain ⟨n9, k9, f1, f2, f3⟩ : ∃ x y : Nat, True ∧ True ∧ True := ⟨0, 0, trivial, trivial, trivial⟩
      refine lv_iload_n E.1 E.2.1 d_X_complete_2 rfl (lv_at hl 0 rfl) ?_
      refine k_bipush E 8 d_X_complete_3 rfl ?_
      refine k_icmp_ge E 83 (by omega) (by omega) d_X_complete_5 (by decide) (fun h1 => ?_) (fun h1 => ?_)
      · skip
        obtain ⟨n1, k1, f1, f2, st3, fi3, wk3, hj3, f3, ⟨f4, f5⟩, f6⟩ := fin (fun j hj => by obtain ⟨q, hq, _⟩ := g4.1.2.1 j hj; omega)
        refine lv_iload_n E.1 E.2.1 d_X_complete_83 rfl (lv_at hl 0 rfl) ?_
        exact ret _ _ _ _ _ _ ⟨n1, k1, f1, f2, st3, fi3, wk3, hj3, f3, f4, f5, f6⟩ rfl B d_X_complete_84
      · skip
        refine lv_aload_n E.1 E.2.1 d_X_complete_8 rfl (lv_at hl 1 rfl) ?_
        refine k_getX E B 10 (by decide) wf_X_52 rfl (fX_Hp ((xHp_uHj _ _).trans (xHp_uHp _ _))) d_X_complete_9 ?_
        refine k_if_le E 83 (by omega) d_X_complete_12 (by decide) (fun h2 => ?_) (fun h2 => ?_)
        · skip
          obtain ⟨n1, k1, f1, f2, st3, fi3, wk3, hj3, f3, ⟨f4, f5⟩, f6⟩ := fin (fun j hj => by obtain ⟨q, hq, _⟩ := g4.1.2.1 j hj; omega)
          refine lv_iload_n E.1 E.2.1 d_X_complete_83 rfl (lv_at hl 0 rfl) ?_
          exact ret _ _ _ _ _ _ ⟨n1, k1, f1, f2, st3, fi3, wk3, hj3, f3, f4, f5, f6⟩ rfl B d_X_complete_84
        · skip
          exact absurd h2 (by omega)
    | succ k ih =>
      intro n st2 wk2 hj2 fi2 S2 H locs ls hnk g1 g2 g3 g4 hl B
      have fin : (∀ j, S2 j → ct < mk j) → ∃ n1 k1, n1 + k1 = hp ∧ nI n = nI n1 ∧ ∃ st3 fi3 wk3 hj3, uHj (uHp (uWk (uFi (uSt u st2) fi2) wk2) (k + 1)) hj2 = uHj (uHp (uWk (uFi (uSt u st3) fi3) wk3) k1) hj3 ∧ ((∀ j, S j → mk j ≤ ct → st3 j = 3 ∧ fi3 j = nI (T - 1) ∧ wk3 j = sz j) ∧ (∀ j, ¬ (S j ∧ mk j ≤ ct) → st3 j = st j ∧ fi3 j = fi j ∧ wk3 j = wk j)) ∧ Hp (key mk) hj3 k1 (fun j => S j ∧ ct < mk j) := by
        intro hall
        refine ⟨n, _, hnk, rfl, st2, fi2, wk2, hj2, rfl, ⟨fun j hj hm2 => ?_, fun j hj => ?_⟩, g4.congr (fun j => ⟨fun q => ⟨g1 j q, hall j q⟩, fun q => ?_⟩) (fun _ _ => rfl)⟩
        · exact (g2 j hj (fun q => by have := hall j q; omega)).2
        · refine g3 j (fun q => hj ⟨q.1, ?_⟩)
          exact (g2 j q.1 q.2).1
        · rcases Classical.em (S2 j) with z | z
          · exact z
          · have := (g2 j q.1 z).1
            omega
      obtain ⟨n9, k9, f1, f2, f3⟩ : ∃ x y : Nat, True ∧ True ∧ True := ⟨0, 0, trivial, trivial, trivial⟩
      refine lv_iload_n E.1 E.2.1 d_X_complete_2 rfl (lv_at hl 0 rfl) ?_
      refine k_bipush E 8 d_X_complete_3 rfl ?_
      refine k_icmp_ge E 83 (by omega) (by omega) d_X_complete_5 (by decide) (fun h1 => ?_) (fun h1 => ?_)
      · skip
        exact absurd h1 (by omega)
      · skip
        refine lv_aload_n E.1 E.2.1 d_X_complete_8 rfl (lv_at hl 1 rfl) ?_
        refine k_getX E B 10 (by decide) wf_X_52 rfl (fX_Hp ((xHp_uHj _ _).trans (xHp_uHp _ _))) d_X_complete_9 ?_
        refine k_if_le E 83 (by omega) d_X_complete_12 (by decide) (fun h2 => ?_) (fun h2 => ?_)
        · skip
          exact absurd h2 (by omega)
        · skip
          have hS2 : ∀ j, S2 j → j < 24 := fun j q => hS j (g1 j q)
          have ht0 := g4.1.1 0 (by omega)
          have hj0 := hS2 _ ht0
          have hm0 := hm _ hj0
          rw [← eMk] at hm0
          refine lv_aload_n E.1 E.2.1 d_X_complete_15 rfl (lv_at hl 1 rfl) ?_
          refine k_getX E B 9 (by decide) wf_X_28 rfl rfl d_X_complete_16 ?_
          refine lv_aload_n E.1 E.2.1 d_X_complete_19 rfl (lv_at hl 1 rfl) ?_
          refine k_getX E B 11 (by decide) wf_X_32 rfl rfl d_X_complete_20 ?_
          refine k_iconst E 0 d_X_complete_23 rfl ?_
          refine k_ild E B 8 7 (aX_Hj (xHj_uHj _ _)) rfl (by omega) (by decide) d_X_complete_24 ?_
          refine k_lld E B 7 6 (aX_Mk ((xMk_uHj _ _).trans ((xMk_uHp _ _).trans ((xMk_uWk _ _).trans ((xMk_uFi _ _).trans (xMk_uSt _ _)))))) rfl (by omega) (by decide) d_X_complete_25 ?_
          refine lv_aload_n E.1 E.2.1 d_X_complete_26 rfl (lv_at hl 1 rfl) ?_
          refine k_getX E B 8 (by decide) wf_X_66 rfl (fX_Ct ((xCt_uHj _ _).trans ((xCt_uHp _ _).trans ((xCt_uWk _ _).trans ((xCt_uFi _ _).trans (xCt_uSt _ _)))))) d_X_complete_27 ?_
          refine k_lcmp_gt E 83 hm0 (by rw [eCt]; exact hct) d_X_complete_30 d_X_complete_31 (by decide) (fun h3 => ?_) (fun h3 => ?_)
          · skip
            rw [eMk, eCt] at h3
            have hall : ∀ j, S2 j → ct < mk j := by
              intro j hj
              obtain ⟨q, hq, e⟩ := g4.1.2.1 j hj
              have h9 := key_mk hj0 (hS2 j hj) (by rw [← e]; exact g4.top q hq)
              omega
            obtain ⟨n1, k1, f1, f2, st3, fi3, wk3, hj3, f3, ⟨f4, f5⟩, f6⟩ := fin hall
            refine lv_iload_n E.1 E.2.1 d_X_complete_83 rfl (lv_at hl 0 rfl) ?_
            exact ret _ _ _ _ _ _ ⟨n1, k1, f1, f2, st3, fi3, wk3, hj3, f3, f4, f5, f6⟩ rfl B d_X_complete_84
          · skip
            rw [eMk, eCt] at h3
            refine lv_aload_n E.1 E.2.1 d_X_complete_34 rfl (lv_at hl 1 rfl) ?_
            refine k_getX E B 11 (by decide) wf_X_32 rfl rfl d_X_complete_35 ?_
            refine k_iconst E 0 d_X_complete_38 rfl ?_
            refine k_ild E B 8 7 (aX_Hj (xHj_uHj _ _)) rfl (by omega) (by decide) d_X_complete_39 ?_
            refine lv_istore_n (lv' := [(2, .int (nI (hj2 0))), (1, .int (nI n)), (0, .ref (a 0))]) E.1 E.2.1 d_X_complete_40 rfl hl (by decide) rfl (fun ls hl => ?_)
            refine lv_aload_n E.1 E.2.1 d_X_complete_41 rfl (lv_at hl 2 rfl) ?_
            refine k_getX E B 4 (by decide) wf_X_16 rfl rfl d_X_complete_42 ?_
            refine lv_iload_n E.1 E.2.1 d_X_complete_45 rfl (lv_at hl 0 rfl) ?_
            refine k_iconst E 3 d_X_complete_46 rfl ?_
            refine k_ist E B 3 2 (ws' := wX a g (uSt (uHj (uHp (uWk (uFi (uSt u st2) fi2) wk2) (k + 1)) hj2) (va_up st2 (hj2 0) 3))) (aX_St ((xSt_uHj _ _).trans ((xSt_uHp _ _).trans ((xSt_uWk _ _).trans ((xSt_uFi _ _).trans (xSt_uSt _ _)))))) rfl (by omega) (by decide) (wX_St _ _ _ _) d_X_complete_47 (fun H locs B => ?_)
            rw [uSt_uHj, uSt_uHp, uSt_uWk, uSt_uFi, uSt_uSt] at B
            refine lv_aload_n E.1 E.2.1 d_X_complete_48 rfl (lv_at hl 2 rfl) ?_
            refine k_getX E B 6 (by decide) wf_X_22 rfl rfl d_X_complete_49 ?_
            refine lv_iload_n E.1 E.2.1 d_X_complete_52 rfl (lv_at hl 0 rfl) ?_
            refine lv_aload_n E.1 E.2.1 d_X_complete_53 rfl (lv_at hl 2 rfl) ?_
            refine k_getX E B 0 (by decide) wf_X_41 rfl (fX_T ((xT_uHj _ _).trans ((xT_uHp _ _).trans ((xT_uWk _ _).trans ((xT_uFi _ _).trans (xT_uSt _ _)))))) d_X_complete_54 ?_
            refine k_iconst E 1 d_X_complete_57 rfl ?_
            refine k_isub E (by rw [eT]; exact hT) d_X_complete_58 ?_
            refine k_istR E B 5 4 (ws' := wX a g (uFi (uHj (uHp (uWk (uFi (uSt u (va_up st2 (hj2 0) 3)) fi2) wk2) (k + 1)) hj2) (upd fi2 (hj2 0) (nI ((xT u) - 1))))) (aX_Fi ((xFi_uHj _ _).trans ((xFi_uHp _ _).trans ((xFi_uWk _ _).trans (xFi_uFi _ _))))) rfl (by omega) (by decide) (wX_Fi _ _ _ _) d_X_complete_59 (fun H locs B => ?_)
            rw [uFi_uHj, uFi_uHp, uFi_uWk, uFi_uFi] at B
            refine lv_aload_n E.1 E.2.1 d_X_complete_60 rfl (lv_at hl 2 rfl) ?_
            refine k_getX E B 7 (by decide) wf_X_25 rfl rfl d_X_complete_61 ?_
            refine lv_iload_n E.1 E.2.1 d_X_complete_64 rfl (lv_at hl 0 rfl) ?_
            refine lv_aload_n E.1 E.2.1 d_X_complete_65 rfl (lv_at hl 2 rfl) ?_
            refine k_getX E B 2 (by decide) wf_X_7 rfl rfl d_X_complete_66 ?_
            refine lv_iload_n E.1 E.2.1 d_X_complete_69 rfl (lv_at hl 0 rfl) ?_
            refine k_ild E B 1 0 (aX_Sz ((xSz_uHj _ _).trans ((xSz_uHp _ _).trans ((xSz_uWk _ _).trans ((xSz_uFi _ _).trans (xSz_uSt _ _)))))) rfl (by omega) (by decide) d_X_complete_70 ?_
            refine k_ist E B 6 5 (ws' := wX a g (uWk (uHj (uHp (uWk (uFi (uSt u (va_up st2 (hj2 0) 3)) (upd fi2 (hj2 0) (nI ((xT u) - 1)))) wk2) (k + 1)) hj2) (va_up wk2 (hj2 0) (xSz u (hj2 0))))) (aX_Wk ((xWk_uHj _ _).trans ((xWk_uHp _ _).trans (xWk_uWk _ _)))) rfl (by omega) (by decide) (wX_Wk _ _ _ _) d_X_complete_71 (fun H locs B => ?_)
            rw [uWk_uHj, uWk_uHp, uWk_uWk] at B
            rw [eT, eSz] at B
            refine lv_aload_n E.1 E.2.1 d_X_complete_72 rfl (lv_at hl 2 rfl) ?_
            refine k_iconst E 0 d_X_complete_73 rfl ?_
            refine k_callv (As := [.int (nI 0)]) (rest := []) E (c_X_takeOut l D a g (uHj (uHp (uWk (uFi (uSt u (va_up st2 (hj2 0) 3)) (upd fi2 (hj2 0) (nI (T - 1)))) (va_up wk2 (hj2 0) (sz (hj2 0)))) (k + 1)) hj2) 0 mk hj2 (k + 1) S2 (((xMk_uHj _ _).trans ((xMk_uHp _ _).trans ((xMk_uWk _ _).trans ((xMk_uFi _ _).trans (xMk_uSt _ _))))).trans eMk) (xHj_uHj _ _) ((xHp_uHj _ _).trans (xHp_uHp _ _)) hS2 hm (by omega) (by omega) (by omega) g4) kc_X_74 ⟨Nat.le_of_ble_eq_true rfl, Nat.le_of_ble_eq_true rfl⟩ B (show classes[0]? = _ from rfl) rfl hl.1 rfl (Nat.le_of_ble_eq_true rfl) d_X_complete_74 ⟨Nat.le_of_ble_eq_true rfl, Nat.le_of_ble_eq_true rfl⟩ (fun u1 H locs hq B => ?_)
            obtain ⟨h', hu, hH'⟩ := hq
            rw [hu] at B
            have e9 : uHj (uHp (uHj (uHp (uWk (uFi (uSt u (va_up st2 (hj2 0) 3)) (upd fi2 (hj2 0) (nI (T - 1)))) (va_up wk2 (hj2 0) (sz (hj2 0)))) (k + 1)) hj2) (k + 1 - 1)) h' = uHj (uHp (uWk (uFi (uSt u (va_up st2 (hj2 0) 3)) (upd fi2 (hj2 0) (nI (T - 1)))) (va_up wk2 (hj2 0) (sz (hj2 0)))) k) h' := by simp only [uHj, uHp, Nat.add_sub_cancel]
            rw [e9] at B
            rw [Nat.add_sub_cancel] at hH'
            refine lv_iinc (v := nI (n + 1)) (lv' := [(1, .int (nI (n + 1))), (2, .int (nI (hj2 0))), (0, .ref (a 0))]) E.1 E.2.1 d_X_complete_77 hl (k := 1) rfl (by rw [show Int32.ofInt 1 = nI 1 from rfl, nI_add]) (by decide) rfl (fun ls hl => ?_)
            refine lv_goto (tgt := 2) E.1 E.2.1 d_X_complete_80 (by decide) ?_
            refine ih (n + 1) _ _ _ _ (fun j => S2 j ∧ j ≠ hj2 0) _ _ _ (by omega) (fun j hj => g1 j hj.1) (fun j hj hn2 => ?_) (fun j hj => ?_) hH' (lv_sub hl [0, 2] rfl) B
            · by_cases e : j = hj2 0
              · rw [e, va_up_s, va_up_s, pk_us]
                exact ⟨by rw [← e] at h3 ⊢; omega, rfl, rfl, rfl⟩
              · rw [va_up_n e, va_up_n e, pk_un e]
                exact g2 j hj (fun q => hn2 ⟨q, e⟩)
            · have e : j ≠ hj2 0 := fun e => hj ⟨by rw [e]; exact g1 _ ht0, fun q => q.2 e⟩
              rw [va_up_n e, va_up_n e, pk_un e]
              exact g3 j (fun q => hj ⟨q.1, fun z => q.2 z.1⟩)
  refine k_iconst E 0 d_X_complete_0 rfl ?_
  refine lv_istore_n (lv' := [(1, .int (nI 0)), (0, .ref (a 0))]) E.1 E.2.1 d_X_complete_1 rfl hl (by decide) rfl (fun ls hl => ?_)
  exact loop hp 0 st wk hj fi S _ _ _ (by omega) (fun _ q => q) (fun j q1 q2 => absurd q1 q2) (fun _ _ => ⟨rfl, rfl, rfl⟩) hH hl B
end
section
/-! the model as plain functions on its picture -/
def cnt (P : Nat → Bool) : Nat → Nat
  | 0 => 0
  | n + 1 => cnt P n + (if P n = true then 1 else 0)
/-- what the model's state(j) answers -/
def mst (v : PM) (j : Nat) : Nat := if mGn v j ≠ 0 then 4 else if 0 ≤ mFi v j then 3 else if 0 ≤ mAd v j then 2 else if mAr v j < mT v then 1 else 0
def cntS (v : PM) (w : Nat) : Nat := cnt (fun j => mst v j == w) (mJ v)
abbrev InL (v : PM) (j : Nat) : Prop := mGn v j = 0 ∧ mAd v j < 0 ∧ mAr v j ≤ mT v
def frontN (v : PM) : Nat → Option Nat
  | 0 => none
  | n + 1 => match frontN v n with
    | none => if InL v n then some n else none
    | some b => if InL v n ∧ mAr v n < mAr v b then some n else some b
def bI : Option Nat → Int32
  | none => -1
  | some b => nI b
def adm1 (v : PM) : PM := match frontN v (mJ v) with
  | none => v
  | some b => vAd v (upd (mAd v) b (nI (mT v)))
def admF : Nat → PM → PM
  | 0, v => v
  | k + 1, v => admF k (adm1 v)
abbrev shr (v : PM) (j : Nat) : Prop := mGn v j = 0 ∧ 0 ≤ mAd v j ∧ mFi v j < 0
def wkN (v : PM) (sh n : Nat) : Nat → Nat := fun j => if j < n ∧ shr v j then (if mSz v j - mWk v j ≤ sh then mSz v j else mWk v j + sh) else mWk v j
def fiN (v : PM) (sh n : Nat) : Nat → Int32 := fun j => if j < n ∧ shr v j ∧ mSz v j - mWk v j ≤ sh then nI (mT v) else mFi v j
def dnN (v : PM) (sh n : Nat) : Nat := cnt (fun j => decide (shr v j ∧ mSz v j - mWk v j ≤ sh)) n
def workF (v : PM) (sh : Nat) : PM := vFi (vWk v (wkN v sh (mJ v))) (fiN v sh (mJ v))
def oneTickF (v : PM) : PM × Nat :=
  if cntS (admF (8 - cntS v 2) v) 2 = 0 then (admF (8 - cntS v 2) v, 0)
  else (workF (admF (8 - cntS v 2) v) (840 / cntS (admF (8 - cntS v 2) v) 2), dnN (admF (8 - cntS v 2) v) (840 / cntS (admF (8 - cntS v 2) v) 2) (mJ (admF (8 - cntS v 2) v)))
def tickF (v : PM) : PM × Nat := (vT (oneTickF v).1 (mT v + 1), (oneTickF v).2)
def runF : Nat → PM → PM × Nat
  | 0, v => (v, 0)
  | k + 1, v => ((runF k (tickF v).1).1, (tickF v).2 + (runF k (tickF v).1).2)
/-- what the model's picture keeps -/
def MOK (v : PM) : Prop := mJ v ≤ 24 ∧ mT v < 2 ^ 30 ∧ ∀ j, j < mJ v → mSz v j ≤ 100000 ∧ mWk v j ≤ mSz v j ∧ mAr v j < 2 ^ 30 ∧ mGn v j < 2 ∧ (0 ≤ mFi v j → 0 ≤ mAd v j)
theorem cnt_le (P : Nat → Bool) : ∀ n, cnt P n ≤ n
  | 0 => Nat.le_refl _
  | n + 1 => by
    have := cnt_le P n
    unfold cnt
    split <;> omega
theorem cnt_congr {P P' : Nat → Bool} : ∀ {n : Nat}, (∀ j, j < n → P j = P' j) → cnt P n = cnt P' n
  | 0, _ => rfl
  | n + 1, h => by
    unfold cnt
    rw [cnt_congr (fun j hj => h j (by omega)), h n (by omega)]
theorem cnt_zero {P : Nat → Bool} : ∀ {n : Nat}, (∀ j, j < n → P j = false) → cnt P n = 0
  | 0, _ => rfl
  | n + 1, h => by
    unfold cnt
    rw [cnt_zero (fun j hj => h j (by omega)), h n (by omega)]
    rfl
theorem i32_nlt {x : Int32} (h : ¬ x < 0) : 0 ≤ x := Int32.not_lt.mp h
theorem i32_nle {x : Int32} (h : ¬ 0 ≤ x) : x < 0 := Int32.not_le.mp h
theorem i32_lt_nle {x : Int32} (h : x < 0) : ¬ 0 ≤ x := Int32.not_le.mpr h
theorem i32_le_nlt {x : Int32} (h : 0 ≤ x) : ¬ x < 0 := Int32.not_lt.mpr h
theorem mst_5 (v : PM) (j : Nat) : mst v j < 5 := by
  unfold mst
  split
  · decide
  · split
    · decide
    · split
      · decide
      · split <;> decide
theorem mst_2 {v : PM} {j : Nat} : mst v j = 2 ↔ shr v j := by
  unfold mst shr
  constructor
  · intro h
    split at h
    · exact absurd h (by decide)
    · rename_i h1
      split at h
      · exact absurd h (by decide)
      · rename_i h2
        split at h
        · rename_i h3
          exact ⟨Classical.not_not.mp h1, h3, i32_nle h2⟩
        · split at h <;> exact absurd h (by decide)
  · rintro ⟨h1, h2, h3⟩
    rw [if_neg (by omega), if_neg (i32_lt_nle h3), if_pos h2]
theorem frontN_spec {v : PM} : ∀ (n : Nat), (frontN v n = none ∧ ∀ j, j < n → ¬ InL v j) ∨ ∃ b, frontN v n = some b ∧ b < n ∧ InL v b ∧ ∀ j, j < n → InL v j → mAr v b < mAr v j ∨ (mAr v b = mAr v j ∧ b ≤ j)
  | 0 => Or.inl ⟨rfl, fun j hj => by omega⟩
  | n + 1 => by
    rcases frontN_spec (v := v) n with ⟨h1, h2⟩ | ⟨b, h1, h2, h3, h4⟩
    · by_cases hn : InL v n
      · right
        refine ⟨n, by simp only [frontN, h1]; rw [if_pos hn], by omega, hn, fun j hj hi => ?_⟩
        rcases (show j < n ∨ j = n by omega) with q | q
        · exact absurd hi (h2 j q)
        · rw [q]
          omega
      · left
        refine ⟨by simp only [frontN, h1]; rw [if_neg hn], fun j hj => ?_⟩
        rcases (show j < n ∨ j = n by omega) with q | q
        · exact h2 j q
        · rw [q]
          exact hn
    · right
      by_cases hn : InL v n ∧ mAr v n < mAr v b
      · refine ⟨n, by simp only [frontN, h1]; rw [if_pos hn], by omega, hn.1, fun j hj hi => ?_⟩
        rcases (show j < n ∨ j = n by omega) with q | q
        · have := h4 j q hi
          omega
        · rw [q]
          omega
      · refine ⟨b, by simp only [frontN, h1]; rw [if_neg hn], by omega, h3, fun j hj hi => ?_⟩
        rcases (show j < n ∨ j = n by omega) with q | q
        · exact h4 j q hi
        · rw [q] at hi ⊢
          have : ¬ mAr v n < mAr v b := fun z => hn ⟨hi, z⟩
          omega
/-- nobody is open: a tick does nothing -/
theorem tick_idle {v : PM} (hM : MOK v) (h : ∀ j, j < mJ v → ¬ (mGn v j = 0 ∧ mFi v j < 0)) : oneTickF v = (v, 0) := by
  have hc : cntS v 2 = 0 := cnt_zero (fun j hj => by
    rcases hb : (mst v j == 2) with _ | _
    · rfl
    · have := mst_2.mp (beq_iff_eq.mp hb)
      exact absurd ⟨this.1, this.2.2⟩ (h j hj))
  have hf : frontN v (mJ v) = none := by
    rcases frontN_spec (v := v) (mJ v) with q | ⟨b, h1, h2, h3, h4⟩
    · exact q.1
    · exfalso
      refine h b h2 ⟨h3.1, ?_⟩
      rcases Classical.em (mFi v b < 0) with z | z
      · exact z
      · exact absurd ((hM.2.2 b h2).2.2.2.2 (i32_nlt z)) (i32_lt_nle h3.2.1)
  have ha1 : adm1 v = v := by
    unfold adm1
    rw [hf]
  have ha : ∀ k, admF k v = v := by
    intro k
    induction k with
    | zero => rfl
    | succ k ih =>
      unfold admF
      rw [ha1, ih]
  unfold oneTickF
  rw [ha, if_pos hc]
theorem adm1_keep (v : PM) : mJ (adm1 v) = mJ v ∧ mT (adm1 v) = mT v ∧ mSz (adm1 v) = mSz v ∧ mAr (adm1 v) = mAr v ∧ mWk (adm1 v) = mWk v ∧ mFi (adm1 v) = mFi v ∧ mGn (adm1 v) = mGn v := by
  unfold adm1
  split <;> exact ⟨rfl, rfl, rfl, rfl, rfl, rfl, rfl⟩
theorem admF_keep : ∀ (k : Nat) (v : PM), mJ (admF k v) = mJ v ∧ mT (admF k v) = mT v ∧ mSz (admF k v) = mSz v ∧ mAr (admF k v) = mAr v ∧ mWk (admF k v) = mWk v ∧ mFi (admF k v) = mFi v ∧ mGn (admF k v) = mGn v
  | 0, v => ⟨rfl, rfl, rfl, rfl, rfl, rfl, rfl⟩
  | k + 1, v => by
    have h1 := admF_keep k (adm1 v)
    have h2 := adm1_keep v
    unfold admF
    exact ⟨h1.1.trans h2.1, h1.2.1.trans h2.2.1, h1.2.2.1.trans h2.2.2.1, h1.2.2.2.1.trans h2.2.2.2.1, h1.2.2.2.2.1.trans h2.2.2.2.2.1, h1.2.2.2.2.2.1.trans h2.2.2.2.2.2.1, h1.2.2.2.2.2.2.trans h2.2.2.2.2.2.2⟩
theorem adm1_ad {v : PM} (hT : mT v < 2 ^ 31) (j : Nat) (h : 0 ≤ mAd v j) : 0 ≤ mAd (adm1 v) j := by
  unfold adm1
  split
  · exact h
  · rename_i b _
    show 0 ≤ upd (mAd v) b (nI (mT v)) j
    unfold upd
    split
    · exact nI_pos' hT
    · exact h
theorem adm1_MOK {v : PM} (h : MOK v) : MOK (adm1 v) := by
  obtain ⟨e1, e2, e3, e4, e5, e6, e7⟩ := adm1_keep v
  refine ⟨by rw [e1]; exact h.1, by rw [e2]; exact h.2.1, fun j hj => ?_⟩
  rw [e1] at hj
  obtain ⟨q1, q2, q3, q4, q5⟩ := h.2.2 j hj
  rw [e3, e4, e5, e6, e7]
  have := h.2.1
  exact ⟨q1, q2, q3, q4, fun z => adm1_ad (by omega) j (q5 z)⟩
theorem admF_MOK : ∀ (k : Nat) {v : PM}, MOK v → MOK (admF k v)
  | 0, _, h => h
  | k + 1, _, h => by
    unfold admF
    exact admF_MOK k (adm1_MOK h)
theorem workF_MOK {v : PM} (h : MOK v) (sh : Nat) : MOK (workF v sh) := by
  refine ⟨h.1, h.2.1, fun j hj => ?_⟩
  obtain ⟨q1, q2, q3, q4, q5⟩ := h.2.2 j hj
  refine ⟨q1, ?_, q3, q4, ?_⟩
  · show wkN v sh (mJ v) j ≤ mSz v j
    unfold wkN
    split
    · split <;> omega
    · exact q2
  · show 0 ≤ fiN v sh (mJ v) j → 0 ≤ mAd v j
    unfold fiN
    split
    · rename_i z
      exact fun _ => z.2.1.2.1
    · exact q5
theorem oneTick_MOK {v : PM} (h : MOK v) : MOK (oneTickF v).1 ∧ mJ (oneTickF v).1 = mJ v ∧ mT (oneTickF v).1 = mT v := by
  have hk := admF_keep (8 - cntS v 2) v
  unfold oneTickF
  split
  · exact ⟨admF_MOK _ h, hk.1, hk.2.1⟩
  · exact ⟨workF_MOK (admF_MOK _ h) _, hk.1, hk.2.1⟩
theorem tick_MOK {v : PM} (h : MOK v) (hT : mT v + 1 < 2 ^ 30) : MOK (tickF v).1 := by
  obtain ⟨h1, h2, h3⟩ := oneTick_MOK h
  exact ⟨h1.1, hT, h1.2.2⟩
theorem tick_T {v : PM} : mT (tickF v).1 = mT v + 1 := rfl
theorem tick_J {v : PM} (h : MOK v) : mJ (tickF v).1 = mJ v := (oneTick_MOK h).2.1
end
section
theorem mst_fin {v : PM} {k : Nat} (h : 0 ≤ mFi v k) : 3 ≤ mst v k := by
  unfold mst
  by_cases h1 : mGn v k ≠ 0
  · rw [if_pos h1]
    decide
  · rw [if_neg h1, if_pos h]
    decide
theorem mst_gone {v : PM} {k : Nat} (h : mGn v k ≠ 0) : 3 ≤ mst v k := by
  unfold mst
  rw [if_pos h]
  decide
theorem mst_open {v : PM} {k : Nat} (h : mGn v k = 0) (h2 : ¬ 0 ≤ mFi v k) : mst v k < 3 := by
  unfold mst
  rw [if_neg (by omega), if_neg h2]
  split
  · decide
  · split <;> decide
/-- a submission that is refused, and what it answers -/
def subBad (J : Nat) (x y r : Int32) : Prop := ((x < 1 ∨ ¬ x ≤ 100000) ∧ r = -1) ∨ (¬ x < 1 ∧ x ≤ 100000 ∧ (y < 0 ∨ ¬ y ≤ 1000) ∧ r = -2) ∨ (¬ x < 1 ∧ x ≤ 100000 ∧ ¬ y < 0 ∧ y ≤ 1000 ∧ 24 ≤ J ∧ r = -3)
theorem sub_size {x : Int32} (h1 : ¬ x < 1) (h2 : x ≤ 100000) : ∃ sz, 1 ≤ sz ∧ sz ≤ 100000 ∧ x = nI sz := by
  have h0 : ¬ x < 0 := by
    intro q
    apply h1
    rw [Int32.lt_iff_toInt_lt] at q ⊢
    have e0 : (0 : Int32).toInt = 0 := by decide
    have e1 : (1 : Int32).toInt = 1 := by decide
    omega
  obtain ⟨j, hj, e⟩ := nI_of2 (M := 100000) (n := 100000) (by decide) h0 h2
  refine ⟨j, ?_, hj, e⟩
  rcases Nat.eq_zero_or_pos j with q | q
  · exact absurd (by rw [e, q]; decide) h1
  · exact q
theorem sub_after {y : Int32} (h1 : ¬ y < 0) (h2 : y ≤ 1000) : ∃ af, af ≤ 1000 ∧ y = nI af := nI_of2 (M := 1000) (n := 1000) (by decide) h1 h2
theorem front_no {v : PM} {i : Nat} (h : ¬ InL v i) : frontN v (i + 1) = frontN v i := by
  rcases hb : frontN v i with _ | b
  · simp only [frontN, hb]
    rw [if_neg h]
  · simp only [frontN, hb]
    rw [if_neg (fun q => h q.1)]
theorem front_first {v : PM} {i : Nat} (hb : frontN v i = none) (h : InL v i) : frontN v (i + 1) = some i := by
  simp only [frontN, hb]
  rw [if_pos h]
theorem front_old {v : PM} {i b : Nat} (hb : frontN v i = some b) (h : ¬ (InL v i ∧ mAr v i < mAr v b)) : frontN v (i + 1) = some b := by
  simp only [frontN, hb]
  rw [if_neg h]
theorem front_new {v : PM} {i b : Nat} (hb : frontN v i = some b) (h : InL v i ∧ mAr v i < mAr v b) : frontN v (i + 1) = some i := by
  simp only [frontN, hb]
  rw [if_pos h]
set_option maxHeartbeats 4000000 in
set_option maxRecDepth 100000 in
theorem c_M_known (l : Launch) (D : va_G) (a : Nat → Nat) (g : Nat → ClassId) (u : PM) (j : Int32) : MetI l y_M_known b_M_known 2 (some .boolean) 0 D (tM g) (wM a g) [.ref (a 0), .int j] u (fun r u' => u' = u ∧ r = if j < 0 ∨ nI (mJ u) ≤ j then 0 else 1) := by
  refine MetI.of (by decide) (Nat.le_of_ble_eq_true rfl) ?_
  intro p e s m args below meth c A Q ls E hl B ret
  have E : CallFix p m c b_M_known 2 s args lw_ws R_M := E
  have hl : lv_has ls 2 [(0, .ref (a 0)), (1, .int j)] := hl
  refine lv_iload_n E.1 E.2.1 d_M_known_0 rfl (lv_at hl 1 rfl) ?_
  refine lv_if_lt (tgt := 16) E.1 E.2.1 d_M_known_1 (by decide) (fun h1 => ?_) (fun h1 => ?_)
  · skip
    refine k_iconst E 0 d_M_known_16 rfl ?_
    exact ret _ _ _ _ _ _ ⟨rfl, (if_pos (Or.inl h1)).symm⟩ rfl B d_M_known_17
  · skip
    refine lv_iload_n E.1 E.2.1 d_M_known_4 rfl (lv_at hl 1 rfl) ?_
    refine lv_aload_n E.1 E.2.1 d_M_known_5 rfl (lv_at hl 0 rfl) ?_
    refine k_getM E B 6 (by decide) wf_M_30 rfl (fM_J rfl) d_M_known_6 ?_
    refine lv_icmp_ge (tgt := 16) E.1 E.2.1 d_M_known_9 (by decide) (fun h2 => ?_) (fun h2 => ?_)
    · skip
      refine k_iconst E 0 d_M_known_16 rfl ?_
      exact ret _ _ _ _ _ _ ⟨rfl, (if_pos (Or.inr h2)).symm⟩ rfl B d_M_known_17
    · skip
      refine k_iconst E 1 d_M_known_12 rfl ?_
      refine lv_goto (tgt := 17) E.1 E.2.1 d_M_known_13 (by decide) ?_
      exact ret _ _ _ _ _ _ ⟨rfl, (if_neg (fun q => q.elim h1 h2)).symm⟩ rfl B d_M_known_17
set_option maxHeartbeats 4000000 in
set_option maxRecDepth 100000 in
theorem c_M_now (l : Launch) (D : va_G) (a : Nat → Nat) (g : Nat → ClassId) (u : PM)  : MetI l y_M_now b_M_now 1 (some .int) 0 D (tM g) (wM a g) [.ref (a 0)] u (fun r u' => u' = u ∧ r = nI (mT u)) := by
  refine MetI.of (by decide) (Nat.le_of_ble_eq_true rfl) ?_
  intro p e s m args below meth c A Q ls E hl B ret
  have E : CallFix p m c b_M_now 1 s args lw_ws R_M := E
  have hl : lv_has ls 1 [(0, .ref (a 0))] := hl
  refine lv_aload_n E.1 E.2.1 d_M_now_0 rfl (lv_at hl 0 rfl) ?_
  refine k_getM E B 7 (by decide) wf_M_34 rfl (fM_T rfl) d_M_now_1 ?_
  exact ret _ _ _ _ _ _ ⟨rfl, rfl⟩ rfl B d_M_now_4
set_option maxHeartbeats 4000000 in
set_option maxRecDepth 100000 in
theorem c_M_clear (l : Launch) (D : va_G) (a : Nat → Nat) (g : Nat → ClassId) (u : PM)  : MetV l y_M_clear b_M_clear 1 0 D (tM g) (wM a g) [.ref (a 0)] u (fun u' => u' = vJ u 0) := by
  refine MetV.of (by decide) (Nat.le_of_ble_eq_true rfl) ?_
  intro p e s m args below meth c A Q ls E hl B ret
  have E : CallFix p m c b_M_clear 1 s args lw_ws R_M := E
  have hl : lv_has ls 1 [(0, .ref (a 0))] := hl
  refine lv_aload_n E.1 E.2.1 d_M_clear_0 rfl (lv_at hl 0 rfl) ?_
  refine k_iconst E 0 d_M_clear_1 rfl ?_
  refine k_putM (vJ u 0) E B 6 (by decide) wf_M_30 rfl rfl rfl rfl (wM_J _ _ _ _) d_M_clear_2 (fun H locs B => ?_)
  exact ret _ _ _ _ _ rfl B d_M_clear_5
set_option maxHeartbeats 4000000 in
set_option maxRecDepth 100000 in
theorem c_M_state (l : Launch) (D : va_G) (a : Nat → Nat) (g : Nat → ClassId) (u : PM) (j : Int32) (hM : MOK u) : MetI l y_M_state b_M_state 2 (some .int) 1 D (tM g) (wM a g) [.ref (a 0), .int j] u (fun r u' => u' = u ∧ r = qry (mJ u) j (fun k => nI (mst u k))) := by
  refine MetI.of (by decide) (Nat.le_of_ble_eq_true rfl) ?_
  intro p e s m args below meth c A Q ls E hl B ret
  have E : CallFix p m c b_M_state 2 s args lw_ws R_M := E
  have hJ24 := hM.1
  have hl : lv_has ls 2 [(0, .ref (a 0)), (1, .int j)] := hl
  refine lv_aload_n E.1 E.2.1 d_M_state_0 rfl (lv_at hl 0 rfl) ?_
  refine lv_iload_n E.1 E.2.1 d_M_state_1 rfl (lv_at hl 1 rfl) ?_
  refine k_calli (As := [.int j]) (rest := []) E (c_M_known l D a g u j) kc_M_37 ⟨Nat.le_of_ble_eq_true rfl, Nat.le_of_ble_eq_true rfl⟩ B (show classes[1]? = _ from rfl) rfl hl.1 rfl (Nat.le_of_ble_eq_true rfl) d_M_state_2 ⟨Nat.le_of_ble_eq_true rfl, Nat.le_of_ble_eq_true rfl⟩ (fun r u1 H locs hq B => ?_)
  obtain ⟨hu, hr⟩ := hq
  rw [hu] at B
  by_cases hj : j < 0 ∨ nI (mJ u) ≤ j
  · skip
    rw [if_pos hj] at hr
    refine lv_if_ne (tgt := 11) E.1 E.2.1 d_M_state_5 (by decide) (fun h1 => ?_) (fun h1 => ?_)
    · skip
      exact absurd hr h1
    · skip
      refine lv_bipush (v := -4) E.1 E.2.1 d_M_state_8 rfl ?_
      exact ret _ _ _ _ _ _ ⟨rfl, (if_pos hj).symm⟩ rfl B d_M_state_10
  · skip
    rw [if_neg hj] at hr
    refine lv_if_ne (tgt := 11) E.1 E.2.1 d_M_state_5 (by decide) (fun h1 => ?_) (fun h1 => ?_)
    · skip
      obtain ⟨k, hk, rfl⟩ := qry_in (by omega) hj
      obtain ⟨m1, m2, m3, m4, m5⟩ := hM.2.2 k hk
      have mT := hM.2.1
      refine lv_aload_n E.1 E.2.1 d_M_state_11 rfl (lv_at hl 0 rfl) ?_
      refine k_getM E B 5 (by decide) wf_M_25 rfl rfl d_M_state_12 ?_
      refine lv_iload_n E.1 E.2.1 d_M_state_15 rfl (lv_at hl 1 rfl) ?_
      refine k_zld E B 6 5 (aM_Gn rfl) rfl (by omega) (by decide) d_M_state_16 ?_
      refine k_if_eq E 22 (by omega) d_M_state_17 (by decide) (fun g1 => ?_) (fun g1 => ?_)
      · skip
        refine lv_aload_n E.1 E.2.1 d_M_state_22 rfl (lv_at hl 0 rfl) ?_
        refine k_getM E B 4 (by decide) wf_M_22 rfl rfl d_M_state_23 ?_
        refine lv_iload_n E.1 E.2.1 d_M_state_26 rfl (lv_at hl 1 rfl) ?_
        refine k_ildR E B 5 4 (aM_Fi rfl) rfl (by omega) (by decide) d_M_state_27 ?_
        refine lv_if_lt (tgt := 33) E.1 E.2.1 d_M_state_28 (by decide) (fun g2 => ?_) (fun g2 => ?_)
        · skip
          refine lv_aload_n E.1 E.2.1 d_M_state_33 rfl (lv_at hl 0 rfl) ?_
          refine k_getM E B 3 (by decide) wf_M_19 rfl rfl d_M_state_34 ?_
          refine lv_iload_n E.1 E.2.1 d_M_state_37 rfl (lv_at hl 1 rfl) ?_
          refine k_ildR E B 4 3 (aM_Ad rfl) rfl (by omega) (by decide) d_M_state_38 ?_
          refine lv_if_lt (tgt := 44) E.1 E.2.1 d_M_state_39 (by decide) (fun g3 => ?_) (fun g3 => ?_)
          · skip
            refine lv_aload_n E.1 E.2.1 d_M_state_44 rfl (lv_at hl 0 rfl) ?_
            refine k_getM E B 1 (by decide) wf_M_13 rfl rfl d_M_state_45 ?_
            refine lv_iload_n E.1 E.2.1 d_M_state_48 rfl (lv_at hl 1 rfl) ?_
            refine k_ild E B 2 1 (aM_Ar rfl) rfl (by omega) (by decide) d_M_state_49 ?_
            refine lv_aload_n E.1 E.2.1 d_M_state_50 rfl (lv_at hl 0 rfl) ?_
            refine k_getM E B 7 (by decide) wf_M_34 rfl (fM_T rfl) d_M_state_51 ?_
            refine k_icmp_ge E 61 (by omega) (by omega) d_M_state_54 (by decide) (fun g4 => ?_) (fun g4 => ?_)
            · skip
              refine k_iconst E 0 d_M_state_61 rfl ?_
              exact ret _ _ _ _ _ _ ⟨rfl, by rw [qry_at hk (by omega)]; unfold mst; rw [if_neg (by omega), if_neg (i32_lt_nle g2), if_neg (i32_lt_nle g3), if_neg (by omega)]⟩ rfl B d_M_state_62
            · skip
              refine k_iconst E 1 d_M_state_57 rfl ?_
              refine lv_goto (tgt := 62) E.1 E.2.1 d_M_state_58 (by decide) ?_
              exact ret _ _ _ _ _ _ ⟨rfl, by rw [qry_at hk (by omega)]; unfold mst; rw [if_neg (by omega), if_neg (i32_lt_nle g2), if_neg (i32_lt_nle g3), if_pos (by omega)]⟩ rfl B d_M_state_62
          · skip
            refine k_iconst E 2 d_M_state_42 rfl ?_
            exact ret _ _ _ _ _ _ ⟨rfl, by rw [qry_at hk (by omega)]; unfold mst; rw [if_neg (by omega), if_neg (i32_lt_nle g2), if_pos (i32_nlt g3)]⟩ rfl B d_M_state_43
        · skip
          refine k_iconst E 3 d_M_state_31 rfl ?_
          exact ret _ _ _ _ _ _ ⟨rfl, by rw [qry_at hk (by omega)]; unfold mst; rw [if_neg (by omega), if_pos (i32_nlt g2)]⟩ rfl B d_M_state_32
      · skip
        refine k_iconst E 4 d_M_state_20 rfl ?_
        exact ret _ _ _ _ _ _ ⟨rfl, by rw [qry_at hk (by omega)]; unfold mst; rw [if_pos g1]⟩ rfl B d_M_state_21
    · skip
      exact absurd (h1.symm.trans hr) (by decide)
set_option maxHeartbeats 4000000 in
set_option maxRecDepth 100000 in
theorem c_M_had (l : Launch) (D : va_G) (a : Nat → Nat) (g : Nat → ClassId) (u : PM) (j : Int32) (hM : MOK u) : MetI l y_M_had b_M_had 2 (some .int) 1 D (tM g) (wM a g) [.ref (a 0), .int j] u (fun r u' => u' = u ∧ r = qry (mJ u) j (fun k => nI (mWk u k))) := by
  refine MetI.of (by decide) (Nat.le_of_ble_eq_true rfl) ?_
  intro p e s m args below meth c A Q ls E hl B ret
  have E : CallFix p m c b_M_had 2 s args lw_ws R_M := E
  have hJ24 := hM.1
  have hl : lv_has ls 2 [(0, .ref (a 0)), (1, .int j)] := hl
  refine lv_aload_n E.1 E.2.1 d_M_had_0 rfl (lv_at hl 0 rfl) ?_
  refine lv_iload_n E.1 E.2.1 d_M_had_1 rfl (lv_at hl 1 rfl) ?_
  refine k_calli (As := [.int j]) (rest := []) E (c_M_known l D a g u j) kc_M_37 ⟨Nat.le_of_ble_eq_true rfl, Nat.le_of_ble_eq_true rfl⟩ B (show classes[1]? = _ from rfl) rfl hl.1 rfl (Nat.le_of_ble_eq_true rfl) d_M_had_2 ⟨Nat.le_of_ble_eq_true rfl, Nat.le_of_ble_eq_true rfl⟩ (fun r u1 H locs hq B => ?_)
  obtain ⟨hu, hr⟩ := hq
  rw [hu] at B
  by_cases hj : j < 0 ∨ nI (mJ u) ≤ j
  · skip
    rw [if_pos hj] at hr
    refine lv_if_eq (tgt := 17) E.1 E.2.1 d_M_had_5 (by decide) (fun h1 => ?_) (fun h1 => ?_)
    · skip
      refine lv_bipush (v := -4) E.1 E.2.1 d_M_had_17 rfl ?_
      exact ret _ _ _ _ _ _ ⟨rfl, (if_pos hj).symm⟩ rfl B d_M_had_19
    · skip
      exact absurd hr h1
  · skip
    rw [if_neg hj] at hr
    refine lv_if_eq (tgt := 17) E.1 E.2.1 d_M_had_5 (by decide) (fun h1 => ?_) (fun h1 => ?_)
    · skip
      exact absurd (h1.symm.trans hr) (by decide)
    · skip
      obtain ⟨k, hk, rfl⟩ := qry_in (by omega) hj
      refine lv_aload_n E.1 E.2.1 d_M_had_8 rfl (lv_at hl 0 rfl) ?_
      refine k_getM E B 2 (by decide) wf_M_16 rfl rfl d_M_had_9 ?_
      refine lv_iload_n E.1 E.2.1 d_M_had_12 rfl (lv_at hl 1 rfl) ?_
      refine k_ild E B 3 2 (aM_Wk rfl) rfl (by omega) (by decide) d_M_had_13 ?_
      refine lv_goto (tgt := 19) E.1 E.2.1 d_M_had_14 (by decide) ?_
      exact ret _ _ _ _ _ _ ⟨rfl, by rw [qry_at hk (by omega)]⟩ rfl B d_M_had_19
set_option maxHeartbeats 4000000 in
set_option maxRecDepth 100000 in
theorem c_M_admitted (l : Launch) (D : va_G) (a : Nat → Nat) (g : Nat → ClassId) (u : PM) (j : Int32) (hM : MOK u) : MetI l y_M_admitted b_M_admitted 2 (some .int) 1 D (tM g) (wM a g) [.ref (a 0), .int j] u (fun r u' => u' = u ∧ r = qry (mJ u) j (mAd u)) := by
  refine MetI.of (by decide) (Nat.le_of_ble_eq_true rfl) ?_
  intro p e s m args below meth c A Q ls E hl B ret
  have E : CallFix p m c b_M_admitted 2 s args lw_ws R_M := E
  have hJ24 := hM.1
  have hl : lv_has ls 2 [(0, .ref (a 0)), (1, .int j)] := hl
  refine lv_aload_n E.1 E.2.1 d_M_admitted_0 rfl (lv_at hl 0 rfl) ?_
  refine lv_iload_n E.1 E.2.1 d_M_admitted_1 rfl (lv_at hl 1 rfl) ?_
  refine k_calli (As := [.int j]) (rest := []) E (c_M_known l D a g u j) kc_M_37 ⟨Nat.le_of_ble_eq_true rfl, Nat.le_of_ble_eq_true rfl⟩ B (show classes[1]? = _ from rfl) rfl hl.1 rfl (Nat.le_of_ble_eq_true rfl) d_M_admitted_2 ⟨Nat.le_of_ble_eq_true rfl, Nat.le_of_ble_eq_true rfl⟩ (fun r u1 H locs hq B => ?_)
  obtain ⟨hu, hr⟩ := hq
  rw [hu] at B
  by_cases hj : j < 0 ∨ nI (mJ u) ≤ j
  · skip
    rw [if_pos hj] at hr
    refine lv_if_eq (tgt := 17) E.1 E.2.1 d_M_admitted_5 (by decide) (fun h1 => ?_) (fun h1 => ?_)
    · skip
      refine lv_bipush (v := -4) E.1 E.2.1 d_M_admitted_17 rfl ?_
      exact ret _ _ _ _ _ _ ⟨rfl, (if_pos hj).symm⟩ rfl B d_M_admitted_19
    · skip
      exact absurd hr h1
  · skip
    rw [if_neg hj] at hr
    refine lv_if_eq (tgt := 17) E.1 E.2.1 d_M_admitted_5 (by decide) (fun h1 => ?_) (fun h1 => ?_)
    · skip
      exact absurd (h1.symm.trans hr) (by decide)
    · skip
      obtain ⟨k, hk, rfl⟩ := qry_in (by omega) hj
      refine lv_aload_n E.1 E.2.1 d_M_admitted_8 rfl (lv_at hl 0 rfl) ?_
      refine k_getM E B 3 (by decide) wf_M_19 rfl rfl d_M_admitted_9 ?_
      refine lv_iload_n E.1 E.2.1 d_M_admitted_12 rfl (lv_at hl 1 rfl) ?_
      refine k_ildR E B 4 3 (aM_Ad rfl) rfl (by omega) (by decide) d_M_admitted_13 ?_
      refine lv_goto (tgt := 19) E.1 E.2.1 d_M_admitted_14 (by decide) ?_
      exact ret _ _ _ _ _ _ ⟨rfl, by rw [qry_at hk (by omega)]⟩ rfl B d_M_admitted_19
set_option maxHeartbeats 4000000 in
set_option maxRecDepth 100000 in
theorem c_M_finished (l : Launch) (D : va_G) (a : Nat → Nat) (g : Nat → ClassId) (u : PM) (j : Int32) (hM : MOK u) : MetI l y_M_finished b_M_finished 2 (some .int) 1 D (tM g) (wM a g) [.ref (a 0), .int j] u (fun r u' => u' = u ∧ r = qry (mJ u) j (mFi u)) := by
  refine MetI.of (by decide) (Nat.le_of_ble_eq_true rfl) ?_
  intro p e s m args below meth c A Q ls E hl B ret
  have E : CallFix p m c b_M_finished 2 s args lw_ws R_M := E
  have hJ24 := hM.1
  have hl : lv_has ls 2 [(0, .ref (a 0)), (1, .int j)] := hl
  refine lv_aload_n E.1 E.2.1 d_M_finished_0 rfl (lv_at hl 0 rfl) ?_
  refine lv_iload_n E.1 E.2.1 d_M_finished_1 rfl (lv_at hl 1 rfl) ?_
  refine k_calli (As := [.int j]) (rest := []) E (c_M_known l D a g u j) kc_M_37 ⟨Nat.le_of_ble_eq_true rfl, Nat.le_of_ble_eq_true rfl⟩ B (show classes[1]? = _ from rfl) rfl hl.1 rfl (Nat.le_of_ble_eq_true rfl) d_M_finished_2 ⟨Nat.le_of_ble_eq_true rfl, Nat.le_of_ble_eq_true rfl⟩ (fun r u1 H locs hq B => ?_)
  obtain ⟨hu, hr⟩ := hq
  rw [hu] at B
  by_cases hj : j < 0 ∨ nI (mJ u) ≤ j
  · skip
    rw [if_pos hj] at hr
    refine lv_if_eq (tgt := 17) E.1 E.2.1 d_M_finished_5 (by decide) (fun h1 => ?_) (fun h1 => ?_)
    · skip
      refine lv_bipush (v := -4) E.1 E.2.1 d_M_finished_17 rfl ?_
      exact ret _ _ _ _ _ _ ⟨rfl, (if_pos hj).symm⟩ rfl B d_M_finished_19
    · skip
      exact absurd hr h1
  · skip
    rw [if_neg hj] at hr
    refine lv_if_eq (tgt := 17) E.1 E.2.1 d_M_finished_5 (by decide) (fun h1 => ?_) (fun h1 => ?_)
    · skip
      exact absurd (h1.symm.trans hr) (by decide)
    · skip
      obtain ⟨k, hk, rfl⟩ := qry_in (by omega) hj
      refine lv_aload_n E.1 E.2.1 d_M_finished_8 rfl (lv_at hl 0 rfl) ?_
      refine k_getM E B 4 (by decide) wf_M_22 rfl rfl d_M_finished_9 ?_
      refine lv_iload_n E.1 E.2.1 d_M_finished_12 rfl (lv_at hl 1 rfl) ?_
      refine k_ildR E B 5 4 (aM_Fi rfl) rfl (by omega) (by decide) d_M_finished_13 ?_
      refine lv_goto (tgt := 19) E.1 E.2.1 d_M_finished_14 (by decide) ?_
      exact ret _ _ _ _ _ _ ⟨rfl, by rw [qry_at hk (by omega)]⟩ rfl B d_M_finished_19
set_option maxHeartbeats 4000000 in
set_option maxRecDepth 100000 in
theorem c_M_cancel (l : Launch) (D : va_G) (a : Nat → Nat) (g : Nat → ClassId) (u : PM) (j : Int32) (hM : MOK u) : MetI l y_M_cancel b_M_cancel 2 (some .int) 1 D (tM g) (wM a g) [.ref (a 0), .int j] u (fun r u' => ((j < 0 ∨ nI (mJ u) ≤ j) ∧ r = -4 ∧ u' = u) ∨ ∃ k, k < mJ u ∧ j = nI k ∧ ((3 ≤ mst u k ∧ r = -5 ∧ u' = u) ∨ (mst u k < 3 ∧ r = nI (mWk u k) ∧ u' = vGn u (va_up (mGn u) k 1)))) := by
  refine MetI.of (by decide) (Nat.le_of_ble_eq_true rfl) ?_
  intro p e s m args below meth c A Q ls E hl B ret
  have E : CallFix p m c b_M_cancel 2 s args lw_ws R_M := E
  have hJ24 := hM.1
  have hl : lv_has ls 2 [(0, .ref (a 0)), (1, .int j)] := hl
  refine lv_aload_n E.1 E.2.1 d_M_cancel_0 rfl (lv_at hl 0 rfl) ?_
  refine lv_iload_n E.1 E.2.1 d_M_cancel_1 rfl (lv_at hl 1 rfl) ?_
  refine k_calli (As := [.int j]) (rest := []) E (c_M_known l D a g u j) kc_M_37 ⟨Nat.le_of_ble_eq_true rfl, Nat.le_of_ble_eq_true rfl⟩ B (show classes[1]? = _ from rfl) rfl hl.1 rfl (Nat.le_of_ble_eq_true rfl) d_M_cancel_2 ⟨Nat.le_of_ble_eq_true rfl, Nat.le_of_ble_eq_true rfl⟩ (fun r u1 H locs hq B => ?_)
  obtain ⟨hu, hr⟩ := hq
  rw [hu] at B
  by_cases hj : j < 0 ∨ nI (mJ u) ≤ j
  · skip
    rw [if_pos hj] at hr
    refine lv_if_ne (tgt := 11) E.1 E.2.1 d_M_cancel_5 (by decide) (fun h1 => ?_) (fun h1 => ?_)
    · skip
      exact absurd hr h1
    · skip
      refine lv_bipush (v := -4) E.1 E.2.1 d_M_cancel_8 rfl ?_
      exact ret _ _ _ _ _ _ (Or.inl ⟨hj, rfl, rfl⟩) rfl B d_M_cancel_10
  · skip
    rw [if_neg hj] at hr
    refine lv_if_ne (tgt := 11) E.1 E.2.1 d_M_cancel_5 (by decide) (fun h1 => ?_) (fun h1 => ?_)
    · skip
      obtain ⟨k, hk, rfl⟩ := qry_in (by omega) hj
      obtain ⟨m1, m2, m3, m4, m5⟩ := hM.2.2 k hk
      refine lv_aload_n E.1 E.2.1 d_M_cancel_11 rfl (lv_at hl 0 rfl) ?_
      refine k_getM E B 4 (by decide) wf_M_22 rfl rfl d_M_cancel_12 ?_
      refine lv_iload_n E.1 E.2.1 d_M_cancel_15 rfl (lv_at hl 1 rfl) ?_
      refine k_ildR E B 5 4 (aM_Fi rfl) rfl (by omega) (by decide) d_M_cancel_16 ?_
      refine lv_if_ge (tgt := 29) E.1 E.2.1 d_M_cancel_17 (by decide) (fun g1 => ?_) (fun g1 => ?_)
      · skip
        refine lv_bipush (v := -5) E.1 E.2.1 d_M_cancel_29 rfl ?_
        exact ret _ _ _ _ _ _ (Or.inr ⟨k, hk, rfl, Or.inl ⟨mst_fin g1, rfl, rfl⟩⟩) rfl B d_M_cancel_31
      · skip
        refine lv_aload_n E.1 E.2.1 d_M_cancel_20 rfl (lv_at hl 0 rfl) ?_
        refine k_getM E B 5 (by decide) wf_M_25 rfl rfl d_M_cancel_21 ?_
        refine lv_iload_n E.1 E.2.1 d_M_cancel_24 rfl (lv_at hl 1 rfl) ?_
        refine k_zld E B 6 5 (aM_Gn rfl) rfl (by omega) (by decide) d_M_cancel_25 ?_
        refine k_if_eq E 32 (by omega) d_M_cancel_26 (by decide) (fun g2 => ?_) (fun g2 => ?_)
        · skip
          refine lv_aload_n E.1 E.2.1 d_M_cancel_32 rfl (lv_at hl 0 rfl) ?_
          refine k_getM E B 5 (by decide) wf_M_25 rfl rfl d_M_cancel_33 ?_
          refine lv_iload_n E.1 E.2.1 d_M_cancel_36 rfl (lv_at hl 1 rfl) ?_
          refine k_iconst E 1 d_M_cancel_37 rfl ?_
          refine k_zst E B 6 5 (ws' := wM a g (vGn u (va_up (mGn u) k 1))) (aM_Gn rfl) rfl (by omega) (by decide) rfl (wM_Gn _ _ _ _) d_M_cancel_38 (fun H locs B => ?_)
          refine lv_aload_n E.1 E.2.1 d_M_cancel_39 rfl (lv_at hl 0 rfl) ?_
          refine k_getM E B 2 (by decide) wf_M_16 rfl rfl d_M_cancel_40 ?_
          refine lv_iload_n E.1 E.2.1 d_M_cancel_43 rfl (lv_at hl 1 rfl) ?_
          refine k_ild E B 3 2 (aM_Wk (mWk_vGn _ _)) rfl (by omega) (by decide) d_M_cancel_44 ?_
          exact ret _ _ _ _ _ _ (Or.inr ⟨k, hk, rfl, Or.inr ⟨mst_open g2 g1, rfl, rfl⟩⟩) rfl B d_M_cancel_45
        · skip
          refine lv_bipush (v := -5) E.1 E.2.1 d_M_cancel_29 rfl ?_
          exact ret _ _ _ _ _ _ (Or.inr ⟨k, hk, rfl, Or.inl ⟨mst_gone g2, rfl, rfl⟩⟩) rfl B d_M_cancel_31
    · skip
      exact absurd (h1.symm.trans hr) (by decide)
set_option maxHeartbeats 4000000 in
set_option maxRecDepth 100000 in
theorem c_M_submit (l : Launch) (D : va_G) (a : Nat → Nat) (g : Nat → ClassId) (u : PM) (x y : Int32) (hM : MOK u) : MetI l y_M_submit b_M_submit 3 (some .int) 0 D (tM g) (wM a g) [.ref (a 0), .int x, .int y] u (fun r u' => (subBad (mJ u) x y r ∧ u' = u) ∨ ∃ sz af, 1 ≤ sz ∧ sz ≤ 100000 ∧ af ≤ 1000 ∧ x = nI sz ∧ y = nI af ∧ mJ u < 24 ∧ r = nI (mJ u) ∧ u' = vJ (vGn (vFi (vAd (vWk (vAr (vSz u (va_up (mSz u) (mJ u) sz)) (va_up (mAr u) (mJ u) (mT u + af))) (va_up (mWk u) (mJ u) 0)) (upd (mAd u) (mJ u) (-5))) (upd (mFi u) (mJ u) (-5))) (va_up (mGn u) (mJ u) 0)) (mJ u + 1)) := by
  refine MetI.of (by decide) (Nat.le_of_ble_eq_true rfl) ?_
  intro p e s m args below meth c A Q ls E hl B ret
  have E : CallFix p m c b_M_submit 3 s args lw_ws R_M := E
  have hJ24 := hM.1
  have hl : lv_has ls 3 [(0, .ref (a 0)), (1, .int x), (2, .int y)] := hl
  refine lv_iload_n E.1 E.2.1 d_M_submit_0 rfl (lv_at hl 1 rfl) ?_
  refine k_iconst E 1 d_M_submit_1 rfl ?_
  refine lv_icmp_lt (tgt := 11) E.1 E.2.1 d_M_submit_2 (by decide) (fun h1 => ?_) (fun h1 => ?_)
  · skip
    refine lv_iconst (v := -1) E.1 E.2.1 d_M_submit_11 rfl ?_
    exact ret _ _ _ _ _ _ (Or.inl ⟨Or.inl ⟨Or.inl h1, rfl⟩, rfl⟩) rfl B d_M_submit_12
  · skip
    refine lv_iload_n E.1 E.2.1 d_M_submit_5 rfl (lv_at hl 1 rfl) ?_
    refine lv_ldc E.1 E.2.1 E.2.2.2.1 (E.2.2.2.2 _ wv_M) d_M_submit_6 ?_
    refine lv_icmp_le (tgt := 13) E.1 E.2.1 d_M_submit_8 (by decide) (fun h2 => ?_) (fun h2 => ?_)
    · skip
      refine lv_iload_n E.1 E.2.1 d_M_submit_13 rfl (lv_at hl 2 rfl) ?_
      refine lv_if_lt (tgt := 24) E.1 E.2.1 d_M_submit_14 (by decide) (fun h3 => ?_) (fun h3 => ?_)
      · skip
        refine lv_bipush (v := -2) E.1 E.2.1 d_M_submit_24 rfl ?_
        exact ret _ _ _ _ _ _ (Or.inl ⟨Or.inr (Or.inl ⟨h1, h2, Or.inl h3, rfl⟩), rfl⟩) rfl B d_M_submit_26
      · skip
        refine lv_iload_n E.1 E.2.1 d_M_submit_17 rfl (lv_at hl 2 rfl) ?_
        refine k_sipush E 1000 d_M_submit_18 rfl ?_
        refine lv_icmp_le (tgt := 27) E.1 E.2.1 d_M_submit_21 (by decide) (fun h4 => ?_) (fun h4 => ?_)
        · skip
          refine lv_aload_n E.1 E.2.1 d_M_submit_27 rfl (lv_at hl 0 rfl) ?_
          refine k_getM E B 6 (by decide) wf_M_30 rfl (fM_J rfl) d_M_submit_28 ?_
          refine k_bipush E 24 d_M_submit_31 rfl ?_
          refine k_icmp_ne E 39 (by omega) (by omega) d_M_submit_33 (by decide) (fun h5 => ?_) (fun h5 => ?_)
          · skip
            have hlt : mJ u < 24 := by omega
            obtain ⟨sz, hz1, hz2, rfl⟩ := sub_size h1 h2
            obtain ⟨af, ha, rfl⟩ := sub_after h3 h4
            refine lv_aload_n E.1 E.2.1 d_M_submit_39 rfl (lv_at hl 0 rfl) ?_
            refine k_getM E B 0 (by decide) wf_M_7 rfl rfl d_M_submit_40 ?_
            refine lv_aload_n E.1 E.2.1 d_M_submit_43 rfl (lv_at hl 0 rfl) ?_
            refine k_getM E B 6 (by decide) wf_M_30 rfl (fM_J rfl) d_M_submit_44 ?_
            refine lv_iload_n E.1 E.2.1 d_M_submit_47 rfl (lv_at hl 1 rfl) ?_
            refine k_ist E B 1 0 (ws' := wM a g (vSz u (va_up (mSz u) (mJ u) sz))) (aM_Sz rfl) rfl (by omega) (by decide) (wM_Sz _ _ _ _) d_M_submit_48 (fun H locs B => ?_)
            refine lv_aload_n E.1 E.2.1 d_M_submit_49 rfl (lv_at hl 0 rfl) ?_
            refine k_getM E B 1 (by decide) wf_M_13 rfl rfl d_M_submit_50 ?_
            refine lv_aload_n E.1 E.2.1 d_M_submit_53 rfl (lv_at hl 0 rfl) ?_
            refine k_getM E B 6 (by decide) wf_M_30 rfl (fM_J (mJ_vSz _ _)) d_M_submit_54 ?_
            refine lv_aload_n E.1 E.2.1 d_M_submit_57 rfl (lv_at hl 0 rfl) ?_
            refine k_getM E B 7 (by decide) wf_M_34 rfl (fM_T (mT_vSz _ _)) d_M_submit_58 ?_
            refine lv_iload_n E.1 E.2.1 d_M_submit_61 rfl (lv_at hl 2 rfl) ?_
            refine k_iadd E d_M_submit_62 ?_
            refine k_ist E B 2 1 (ws' := wM a g (vAr (vSz u (va_up (mSz u) (mJ u) sz)) (va_up (mAr u) (mJ u) ((mT u) + af)))) (aM_Ar (mAr_vSz _ _)) rfl (by omega) (by decide) (wM_Ar _ _ _ _) d_M_submit_63 (fun H locs B => ?_)
            refine lv_aload_n E.1 E.2.1 d_M_submit_64 rfl (lv_at hl 0 rfl) ?_
            refine k_getM E B 2 (by decide) wf_M_16 rfl rfl d_M_submit_65 ?_
            refine lv_aload_n E.1 E.2.1 d_M_submit_68 rfl (lv_at hl 0 rfl) ?_
            refine k_getM E B 6 (by decide) wf_M_30 rfl (fM_J ((mJ_vAr _ _).trans (mJ_vSz _ _))) d_M_submit_69 ?_
            refine k_iconst E 0 d_M_submit_72 rfl ?_
            refine k_ist E B 3 2 (ws' := wM a g (vWk (vAr (vSz u (va_up (mSz u) (mJ u) sz)) (va_up (mAr u) (mJ u) ((mT u) + af))) (va_up (mWk u) (mJ u) 0))) (aM_Wk ((mWk_vAr _ _).trans (mWk_vSz _ _))) rfl (by omega) (by decide) (wM_Wk _ _ _ _) d_M_submit_73 (fun H locs B => ?_)
            refine lv_aload_n E.1 E.2.1 d_M_submit_74 rfl (lv_at hl 0 rfl) ?_
            refine k_getM E B 3 (by decide) wf_M_19 rfl rfl d_M_submit_75 ?_
            refine lv_aload_n E.1 E.2.1 d_M_submit_78 rfl (lv_at hl 0 rfl) ?_
            refine k_getM E B 6 (by decide) wf_M_30 rfl (fM_J ((mJ_vWk _ _).trans ((mJ_vAr _ _).trans (mJ_vSz _ _)))) d_M_submit_79 ?_
            refine lv_bipush (v := -5) E.1 E.2.1 d_M_submit_82 rfl ?_
            refine k_istR E B 4 3 (ws' := wM a g (vAd (vWk (vAr (vSz u (va_up (mSz u) (mJ u) sz)) (va_up (mAr u) (mJ u) ((mT u) + af))) (va_up (mWk u) (mJ u) 0)) (upd (mAd u) (mJ u) (-5)))) (aM_Ad ((mAd_vWk _ _).trans ((mAd_vAr _ _).trans (mAd_vSz _ _)))) rfl (by omega) (by decide) (wM_Ad _ _ _ _) d_M_submit_84 (fun H locs B => ?_)
            refine lv_aload_n E.1 E.2.1 d_M_submit_85 rfl (lv_at hl 0 rfl) ?_
            refine k_getM E B 4 (by decide) wf_M_22 rfl rfl d_M_submit_86 ?_
            refine lv_aload_n E.1 E.2.1 d_M_submit_89 rfl (lv_at hl 0 rfl) ?_
            refine k_getM E B 6 (by decide) wf_M_30 rfl (fM_J ((mJ_vAd _ _).trans ((mJ_vWk _ _).trans ((mJ_vAr _ _).trans (mJ_vSz _ _))))) d_M_submit_90 ?_
            refine lv_bipush (v := -5) E.1 E.2.1 d_M_submit_93 rfl ?_
            refine k_istR E B 5 4 (ws' := wM a g (vFi (vAd (vWk (vAr (vSz u (va_up (mSz u) (mJ u) sz)) (va_up (mAr u) (mJ u) ((mT u) + af))) (va_up (mWk u) (mJ u) 0)) (upd (mAd u) (mJ u) (-5))) (upd (mFi u) (mJ u) (-5)))) (aM_Fi ((mFi_vAd _ _).trans ((mFi_vWk _ _).trans ((mFi_vAr _ _).trans (mFi_vSz _ _))))) rfl (by omega) (by decide) (wM_Fi _ _ _ _) d_M_submit_95 (fun H locs B => ?_)
            refine lv_aload_n E.1 E.2.1 d_M_submit_96 rfl (lv_at hl 0 rfl) ?_
            refine k_getM E B 5 (by decide) wf_M_25 rfl rfl d_M_submit_97 ?_
            refine lv_aload_n E.1 E.2.1 d_M_submit_100 rfl (lv_at hl 0 rfl) ?_
            refine k_getM E B 6 (by decide) wf_M_30 rfl (fM_J ((mJ_vFi _ _).trans ((mJ_vAd _ _).trans ((mJ_vWk _ _).trans ((mJ_vAr _ _).trans (mJ_vSz _ _)))))) d_M_submit_101 ?_
            refine k_iconst E 0 d_M_submit_104 rfl ?_
            refine k_zst E B 6 5 (ws' := wM a g (vGn (vFi (vAd (vWk (vAr (vSz u (va_up (mSz u) (mJ u) sz)) (va_up (mAr u) (mJ u) ((mT u) + af))) (va_up (mWk u) (mJ u) 0)) (upd (mAd u) (mJ u) (-5))) (upd (mFi u) (mJ u) (-5))) (va_up (mGn u) (mJ u) 0))) (aM_Gn ((mGn_vFi _ _).trans ((mGn_vAd _ _).trans ((mGn_vWk _ _).trans ((mGn_vAr _ _).trans (mGn_vSz _ _)))))) rfl (by omega) (by decide) rfl (wM_Gn _ _ _ _) d_M_submit_105 (fun H locs B => ?_)
            refine lv_aload_n E.1 E.2.1 d_M_submit_106 rfl (lv_at hl 0 rfl) ?_
            refine k_dup E rfl d_M_submit_107 ?_
            refine k_getM E B 6 (by decide) wf_M_30 rfl (fM_J ((mJ_vGn _ _).trans ((mJ_vFi _ _).trans ((mJ_vAd _ _).trans ((mJ_vWk _ _).trans ((mJ_vAr _ _).trans (mJ_vSz _ _))))))) d_M_submit_108 ?_
            refine k_iconst E 1 d_M_submit_111 rfl ?_
            refine k_iadd E d_M_submit_112 ?_
            refine k_putM (vJ (vGn (vFi (vAd (vWk (vAr (vSz u (va_up (mSz u) (mJ u) sz)) (va_up (mAr u) (mJ u) ((mT u) + af))) (va_up (mWk u) (mJ u) 0)) (upd (mAd u) (mJ u) (-5))) (upd (mFi u) (mJ u) (-5))) (va_up (mGn u) (mJ u) 0)) ((mJ u) + 1)) E B 6 (by decide) wf_M_30 rfl rfl rfl rfl (wM_J _ _ _ _) d_M_submit_113 (fun H locs B => ?_)
            refine lv_aload_n E.1 E.2.1 d_M_submit_116 rfl (lv_at hl 0 rfl) ?_
            refine k_getM E B 6 (by decide) wf_M_30 rfl (fM_J (mJ_vJ _ _)) d_M_submit_117 ?_
            refine k_iconst E 1 d_M_submit_120 rfl ?_
            refine k_isub E (by omega) d_M_submit_121 ?_
            exact ret _ _ _ _ _ _ (Or.inr ⟨sz, af, hz1, hz2, ha, rfl, rfl, hlt, by rw [Nat.add_sub_cancel], rfl⟩) rfl B d_M_submit_122
          · skip
            refine lv_bipush (v := -3) E.1 E.2.1 d_M_submit_36 rfl ?_
            exact ret _ _ _ _ _ _ (Or.inl ⟨Or.inr (Or.inr ⟨h1, h2, h3, h4, by omega, rfl⟩), rfl⟩) rfl B d_M_submit_38
        · skip
          refine lv_bipush (v := -2) E.1 E.2.1 d_M_submit_24 rfl ?_
          exact ret _ _ _ _ _ _ (Or.inl ⟨Or.inr (Or.inl ⟨h1, h2, Or.inr h4, rfl⟩), rfl⟩) rfl B d_M_submit_26
    · skip
      refine lv_iconst (v := -1) E.1 E.2.1 d_M_submit_11 rfl ?_
      exact ret _ _ _ _ _ _ (Or.inl ⟨Or.inl ⟨Or.inr h2, rfl⟩, rfl⟩) rfl B d_M_submit_12
set_option maxHeartbeats 4000000 in
set_option maxRecDepth 100000 in
theorem c_M_inState (l : Launch) (D : va_G) (a : Nat → Nat) (g : Nat → ClassId) (u : PM) (wt : Nat) (hw : wt < 5) (hM : MOK u) : MetI l y_M_inState b_M_inState 4 (some .int) 2 D (tM g) (wM a g) [.ref (a 0), .int (nI wt)] u (fun r u' => u' = u ∧ r = nI (cntS u wt)) := by
  refine MetI.of (by decide) (Nat.le_of_ble_eq_true rfl) ?_
  intro p e s m args below meth c A Q ls E hl B ret
  have E : CallFix p m c b_M_inState 4 s args lw_ws R_M := E
  have hJ24 := hM.1
  have hl : lv_has ls 4 [(0, .ref (a 0)), (1, .int (nI wt))] := hl
  have loop : ∀ (z i : Nat) (H : Heap) (locs : List Loc) (ls : Array Slot), mJ u - i ≤ z → i ≤ mJ u → lv_has ls 4 [(3, .int (nI i)), (2, .int (nI (cnt (fun j => mst u j == wt) i))), (0, .ref (a 0)), (1, .int (nI wt))] → wB D (tM g) s A s.heap (wM a g (u)) H locs → W p l e (rd 2) s m args below meth c H locs 0 0 Q (F0 m 4 ls []) := by
    intro z
    induction z with
    | zero =>
      intro i H locs ls hz hi hl B
      have hci := cnt_le (fun j => mst u j == wt) i
      refine lv_iload_n E.1 E.2.1 d_M_inState_4 rfl (lv_at hl 0 rfl) ?_
      refine lv_aload_n E.1 E.2.1 d_M_inState_5 rfl (lv_at hl 2 rfl) ?_
      refine k_getM E B 6 (by decide) wf_M_30 rfl (fM_J rfl) d_M_inState_6 ?_
      refine k_icmp_ge E 30 (by omega) (by omega) d_M_inState_9 (by decide) (fun h1 => ?_) (fun h1 => ?_)
      · skip
        have hie : i = mJ u := by omega
        refine lv_iload_n E.1 E.2.1 d_M_inState_30 rfl (lv_at hl 1 rfl) ?_
        exact ret _ _ _ _ _ _ ⟨rfl, by rw [hie]; rfl⟩ rfl B d_M_inState_31
      · skip
        exact absurd h1 (by omega)
    | succ z ih =>
      intro i H locs ls hz hi hl B
      have hci := cnt_le (fun j => mst u j == wt) i
      refine lv_iload_n E.1 E.2.1 d_M_inState_4 rfl (lv_at hl 0 rfl) ?_
      refine lv_aload_n E.1 E.2.1 d_M_inState_5 rfl (lv_at hl 2 rfl) ?_
      refine k_getM E B 6 (by decide) wf_M_30 rfl (fM_J rfl) d_M_inState_6 ?_
      refine k_icmp_ge E 30 (by omega) (by omega) d_M_inState_9 (by decide) (fun h1 => ?_) (fun h1 => ?_)
      · skip
        have hie : i = mJ u := by omega
        refine lv_iload_n E.1 E.2.1 d_M_inState_30 rfl (lv_at hl 1 rfl) ?_
        exact ret _ _ _ _ _ _ ⟨rfl, by rw [hie]; rfl⟩ rfl B d_M_inState_31
      · skip
        refine lv_aload_n E.1 E.2.1 d_M_inState_12 rfl (lv_at hl 2 rfl) ?_
        refine lv_iload_n E.1 E.2.1 d_M_inState_13 rfl (lv_at hl 0 rfl) ?_
        refine k_calli (As := [.int (nI i)]) (rest := []) E (c_M_state l D a g u (nI i) hM) kc_M_53 ⟨Nat.le_of_ble_eq_true rfl, Nat.le_of_ble_eq_true rfl⟩ B (show classes[1]? = _ from rfl) rfl hl.1 rfl (Nat.le_of_ble_eq_true rfl) d_M_inState_14 ⟨Nat.le_of_ble_eq_true rfl, Nat.le_of_ble_eq_true rfl⟩ (fun r u1 H locs hq B => ?_)
        obtain ⟨hu, hr⟩ := hq
        rw [hu] at B
        rw [qry_at h1 (by omega)] at hr
        subst hr
        have h5 := mst_5 u i
        refine lv_iload_n E.1 E.2.1 d_M_inState_17 rfl (lv_at hl 3 rfl) ?_
        refine k_icmp_ne E 24 (by omega) (by omega) d_M_inState_18 (by decide) (fun h2 => ?_) (fun h2 => ?_)
        · skip
          have hc2 : cnt (fun j => mst u j == wt) (i + 1) = cnt (fun j => mst u j == wt) i := by
            show _ + (if (mst u i == wt) = true then 1 else 0) = _
            rw [if_neg (fun q => h2 (beq_iff_eq.mp q))]
            rfl
          refine lv_iinc (v := nI (i + 1)) (lv' := [(3, .int (nI (i + 1))), (2, .int (nI (cnt (fun j => mst u j == wt) i))), (0, .ref (a 0)), (1, .int (nI wt))]) E.1 E.2.1 d_M_inState_24 hl (k := 0) rfl (by rw [show Int32.ofInt 1 = nI 1 from rfl, nI_add]) (by decide) rfl (fun ls hl => ?_)
          refine lv_goto (tgt := 4) E.1 E.2.1 d_M_inState_27 (by decide) ?_
          rw [← hc2] at hl
          exact ih (i + 1) _ _ _ (by omega) (by omega) (lv_sub hl [0, 1, 2, 3] rfl) B
        · skip
          have hc2 : cnt (fun j => mst u j == wt) (i + 1) = cnt (fun j => mst u j == wt) i + 1 := by
            show _ + (if (mst u i == wt) = true then 1 else 0) = _
            rw [if_pos (beq_iff_eq.mpr h2)]
          refine lv_iinc (v := nI (cnt (fun j => mst u j == wt) i + 1)) (lv' := [(2, .int (nI (cnt (fun j => mst u j == wt) i + 1))), (3, .int (nI i)), (0, .ref (a 0)), (1, .int (nI wt))]) E.1 E.2.1 d_M_inState_21 hl (k := 1) rfl (by rw [show Int32.ofInt 1 = nI 1 from rfl, nI_add]) (by decide) rfl (fun ls hl => ?_)
          refine lv_iinc (v := nI (i + 1)) (lv' := [(3, .int (nI (i + 1))), (2, .int (nI (cnt (fun j => mst u j == wt) i + 1))), (0, .ref (a 0)), (1, .int (nI wt))]) E.1 E.2.1 d_M_inState_24 hl (k := 1) rfl (by rw [show Int32.ofInt 1 = nI 1 from rfl, nI_add]) (by decide) rfl (fun ls hl => ?_)
          refine lv_goto (tgt := 4) E.1 E.2.1 d_M_inState_27 (by decide) ?_
          rw [← hc2] at hl
          exact ih (i + 1) _ _ _ (by omega) (by omega) (lv_sub hl [0, 1, 2, 3] rfl) B
  refine k_iconst E 0 d_M_inState_0 rfl ?_
  refine lv_istore_n (lv' := [(2, .int (nI 0)), (0, .ref (a 0)), (1, .int (nI wt))]) E.1 E.2.1 d_M_inState_1 rfl hl (by decide) rfl (fun ls hl => ?_)
  refine k_iconst E 0 d_M_inState_2 rfl ?_
  refine lv_istore_n (lv' := [(3, .int (nI 0)), (2, .int (nI 0)), (0, .ref (a 0)), (1, .int (nI wt))]) E.1 E.2.1 d_M_inState_3 rfl hl (by decide) rfl (fun ls hl => ?_)
  exact loop (mJ u) 0 _ _ _ (by omega) (by omega) (lv_sub hl [0, 1, 2, 3] rfl) B
set_option maxHeartbeats 4000000 in
set_option maxRecDepth 100000 in
theorem c_M_served (l : Launch) (D : va_G) (a : Nat → Nat) (g : Nat → ClassId) (u : PM) (hM : MOK u) : MetI l y_M_served b_M_served 1 (some .int) 3 D (tM g) (wM a g) [.ref (a 0)] u (fun r u' => u' = u ∧ r = nI (cntS u 2)) := by
  refine MetI.of (by decide) (Nat.le_of_ble_eq_true rfl) ?_
  intro p e s m args below meth c A Q ls E hl B ret
  have E : CallFix p m c b_M_served 1 s args lw_ws R_M := E
  have hl : lv_has ls 1 [(0, .ref (a 0))] := hl
  refine lv_aload_n E.1 E.2.1 d_M_served_0 rfl (lv_at hl 0 rfl) ?_
  refine k_iconst E 2 d_M_served_1 rfl ?_
  refine k_calli (As := [.int (nI 2)]) (rest := []) E (c_M_inState l D a g u 2 (by decide) hM) kc_M_49 ⟨Nat.le_of_ble_eq_true rfl, Nat.le_of_ble_eq_true rfl⟩ B (show classes[1]? = _ from rfl) rfl hl.1 rfl (Nat.le_of_ble_eq_true rfl) d_M_served_2 ⟨Nat.le_of_ble_eq_true rfl, Nat.le_of_ble_eq_true rfl⟩ (fun r u1 H locs hq B => ?_)
  obtain ⟨hu, hr⟩ := hq
  rw [hu] at B
  exact ret _ _ _ _ _ _ ⟨rfl, hr⟩ rfl B d_M_served_5
set_option maxHeartbeats 4000000 in
set_option maxRecDepth 100000 in
theorem c_M_waiting (l : Launch) (D : va_G) (a : Nat → Nat) (g : Nat → ClassId) (u : PM) (hM : MOK u) : MetI l y_M_waiting b_M_waiting 1 (some .int) 3 D (tM g) (wM a g) [.ref (a 0)] u (fun r u' => u' = u ∧ r = nI (cntS u 1)) := by
  refine MetI.of (by decide) (Nat.le_of_ble_eq_true rfl) ?_
  intro p e s m args below meth c A Q ls E hl B ret
  have E : CallFix p m c b_M_waiting 1 s args lw_ws R_M := E
  have hl : lv_has ls 1 [(0, .ref (a 0))] := hl
  refine lv_aload_n E.1 E.2.1 d_M_waiting_0 rfl (lv_at hl 0 rfl) ?_
  refine k_iconst E 1 d_M_waiting_1 rfl ?_
  refine k_calli (As := [.int (nI 1)]) (rest := []) E (c_M_inState l D a g u 1 (by decide) hM) kc_M_49 ⟨Nat.le_of_ble_eq_true rfl, Nat.le_of_ble_eq_true rfl⟩ B (show classes[1]? = _ from rfl) rfl hl.1 rfl (Nat.le_of_ble_eq_true rfl) d_M_waiting_2 ⟨Nat.le_of_ble_eq_true rfl, Nat.le_of_ble_eq_true rfl⟩ (fun r u1 H locs hq B => ?_)
  obtain ⟨hu, hr⟩ := hq
  rw [hu] at B
  exact ret _ _ _ _ _ _ ⟨rfl, hr⟩ rfl B d_M_waiting_5
set_option maxHeartbeats 4000000 in
set_option maxRecDepth 100000 in
theorem c_M_anyOpen (l : Launch) (D : va_G) (a : Nat → Nat) (g : Nat → ClassId) (u : PM) (hM : MOK u) : MetI l y_M_anyOpen b_M_anyOpen 2 (some .boolean) 0 D (tM g) (wM a g) [.ref (a 0)] u (fun r u' => u' = u ∧ ((r = 1 ∧ ∃ j, j < mJ u ∧ mGn u j = 0 ∧ mFi u j < 0) ∨ (r = 0 ∧ ∀ j, j < mJ u → ¬ (mGn u j = 0 ∧ mFi u j < 0)))) := by
  refine MetI.of (by decide) (Nat.le_of_ble_eq_true rfl) ?_
  intro p e s m args below meth c A Q ls E hl B ret
  have E : CallFix p m c b_M_anyOpen 2 s args lw_ws R_M := E
  have hJ24 := hM.1
  have hl : lv_has ls 2 [(0, .ref (a 0))] := hl
  have loop : ∀ (z i : Nat) (ls : Array Slot), mJ u - i ≤ z → i ≤ mJ u → (∀ j, j < i → ¬ (mGn u j = 0 ∧ mFi u j < 0)) → lv_has ls 2 [(1, .int (nI i)), (0, .ref (a 0))] → W p l e (rd 0) s m args below meth c s.heap [] 0 0 Q (F0 m 2 ls []) := by
    intro z
    induction z with
    | zero =>
      intro i ls hz hi hno hl
      refine lv_iload_n E.1 E.2.1 d_M_anyOpen_2 rfl (lv_at hl 0 rfl) ?_
      refine lv_aload_n E.1 E.2.1 d_M_anyOpen_3 rfl (lv_at hl 1 rfl) ?_
      refine k_getM E B 6 (by decide) wf_M_30 rfl (fM_J rfl) d_M_anyOpen_4 ?_
      refine k_icmp_ge E 36 (by omega) (by omega) d_M_anyOpen_7 (by decide) (fun h1 => ?_) (fun h1 => ?_)
      · skip
        refine k_iconst E 0 d_M_anyOpen_36 rfl ?_
        exact ret _ _ _ _ _ _ ⟨rfl, Or.inr ⟨rfl, fun j hj => hno j (by omega)⟩⟩ rfl B d_M_anyOpen_37
      · skip
        exact absurd h1 (by omega)
    | succ z ih =>
      intro i ls hz hi hno hl
      refine lv_iload_n E.1 E.2.1 d_M_anyOpen_2 rfl (lv_at hl 0 rfl) ?_
      refine lv_aload_n E.1 E.2.1 d_M_anyOpen_3 rfl (lv_at hl 1 rfl) ?_
      refine k_getM E B 6 (by decide) wf_M_30 rfl (fM_J rfl) d_M_anyOpen_4 ?_
      refine k_icmp_ge E 36 (by omega) (by omega) d_M_anyOpen_7 (by decide) (fun h1 => ?_) (fun h1 => ?_)
      · skip
        refine k_iconst E 0 d_M_anyOpen_36 rfl ?_
        exact ret _ _ _ _ _ _ ⟨rfl, Or.inr ⟨rfl, fun j hj => hno j (by omega)⟩⟩ rfl B d_M_anyOpen_37
      · skip
        obtain ⟨m1, m2, m3, m4, m5⟩ := hM.2.2 i h1
        refine lv_aload_n E.1 E.2.1 d_M_anyOpen_10 rfl (lv_at hl 1 rfl) ?_
        refine k_getM E B 5 (by decide) wf_M_25 rfl rfl d_M_anyOpen_11 ?_
        refine lv_iload_n E.1 E.2.1 d_M_anyOpen_14 rfl (lv_at hl 0 rfl) ?_
        refine k_zld E B 6 5 (aM_Gn rfl) rfl (by omega) (by decide) d_M_anyOpen_15 ?_
        refine k_if_ne E 30 (by omega) d_M_anyOpen_16 (by decide) (fun h2 => ?_) (fun h2 => ?_)
        · skip
          refine lv_iinc (v := nI (i + 1)) (lv' := [(1, .int (nI (i + 1))), (0, .ref (a 0))]) E.1 E.2.1 d_M_anyOpen_30 hl (k := 0) rfl (by rw [show Int32.ofInt 1 = nI 1 from rfl, nI_add]) (by decide) rfl (fun ls hl => ?_)
          refine lv_goto (tgt := 2) E.1 E.2.1 d_M_anyOpen_33 (by decide) ?_
          refine ih (i + 1) _ (by omega) (by omega) (fun j hj => ?_) (lv_sub hl [0, 1] rfl)
          rcases (show j < i ∨ j = i by omega) with q | q
          · exact hno j q
          · rw [q]
            exact fun q => h2 q.1
        · skip
          refine lv_aload_n E.1 E.2.1 d_M_anyOpen_19 rfl (lv_at hl 1 rfl) ?_
          refine k_getM E B 4 (by decide) wf_M_22 rfl rfl d_M_anyOpen_20 ?_
          refine lv_iload_n E.1 E.2.1 d_M_anyOpen_23 rfl (lv_at hl 0 rfl) ?_
          refine k_ildR E B 5 4 (aM_Fi rfl) rfl (by omega) (by decide) d_M_anyOpen_24 ?_
          refine lv_if_ge (tgt := 30) E.1 E.2.1 d_M_anyOpen_25 (by decide) (fun h3 => ?_) (fun h3 => ?_)
          · skip
            refine lv_iinc (v := nI (i + 1)) (lv' := [(1, .int (nI (i + 1))), (0, .ref (a 0))]) E.1 E.2.1 d_M_anyOpen_30 hl (k := 0) rfl (by rw [show Int32.ofInt 1 = nI 1 from rfl, nI_add]) (by decide) rfl (fun ls hl => ?_)
            refine lv_goto (tgt := 2) E.1 E.2.1 d_M_anyOpen_33 (by decide) ?_
            refine ih (i + 1) _ (by omega) (by omega) (fun j hj => ?_) (lv_sub hl [0, 1] rfl)
            rcases (show j < i ∨ j = i by omega) with q | q
            · exact hno j q
            · rw [q]
              exact fun q => i32_le_nlt h3 q.2
          · skip
            refine k_iconst E 1 d_M_anyOpen_28 rfl ?_
            exact ret _ _ _ _ _ _ ⟨rfl, Or.inl ⟨rfl, i, h1, h2, i32_nle h3⟩⟩ rfl B d_M_anyOpen_29
  refine k_iconst E 0 d_M_anyOpen_0 rfl ?_
  refine lv_istore_n (lv' := [(1, .int (nI 0)), (0, .ref (a 0))]) E.1 E.2.1 d_M_anyOpen_1 rfl hl (by decide) rfl (fun ls hl => ?_)
  exact loop (mJ u) 0 _ (by omega) (by omega) (fun j hj => by omega) hl
set_option maxHeartbeats 4000000 in
set_option maxRecDepth 100000 in
theorem c_M_front (l : Launch) (D : va_G) (a : Nat → Nat) (g : Nat → ClassId) (u : PM) (hM : MOK u) : MetI l y_M_front b_M_front 4 (some .int) 0 D (tM g) (wM a g) [.ref (a 0)] u (fun r u' => u' = u ∧ r = bI (frontN u (mJ u))) := by
  refine MetI.of (by decide) (Nat.le_of_ble_eq_true rfl) ?_
  intro p e s m args below meth c A Q ls E hl B ret
  have E : CallFix p m c b_M_front 4 s args lw_ws R_M := E
  have hJ24 := hM.1
  have hl : lv_has ls 4 [(0, .ref (a 0))] := hl
  have loop : ∀ (z i : Nat) (ls : Array Slot), mJ u - i ≤ z → i ≤ mJ u → lv_has ls 4 [(2, .int (nI i)), (1, .int (bI (frontN u i))), (0, .ref (a 0))] → W p l e (rd 0) s m args below meth c s.heap [] 0 0 Q (F0 m 4 ls []) := by
    intro z
    induction z with
    | zero =>
      intro i ls hz hi hl
      refine lv_iload_n E.1 E.2.1 d_M_front_4 rfl (lv_at hl 0 rfl) ?_
      refine lv_aload_n E.1 E.2.1 d_M_front_5 rfl (lv_at hl 2 rfl) ?_
      refine k_getM E B 6 (by decide) wf_M_30 rfl (fM_J rfl) d_M_front_6 ?_
      refine k_icmp_ge E 80 (by omega) (by omega) d_M_front_9 (by decide) (fun h1 => ?_) (fun h1 => ?_)
      · skip
        have hie : i = mJ u := by omega
        refine lv_iload_n E.1 E.2.1 d_M_front_80 rfl (lv_at hl 1 rfl) ?_
        exact ret _ _ _ _ _ _ ⟨rfl, by rw [hie]⟩ rfl B d_M_front_81
      · skip
        exact absurd h1 (by omega)
    | succ z ih =>
      intro i ls hz hi hl
      refine lv_iload_n E.1 E.2.1 d_M_front_4 rfl (lv_at hl 0 rfl) ?_
      refine lv_aload_n E.1 E.2.1 d_M_front_5 rfl (lv_at hl 2 rfl) ?_
      refine k_getM E B 6 (by decide) wf_M_30 rfl (fM_J rfl) d_M_front_6 ?_
      refine k_icmp_ge E 80 (by omega) (by omega) d_M_front_9 (by decide) (fun h1 => ?_) (fun h1 => ?_)
      · skip
        have hie : i = mJ u := by omega
        refine lv_iload_n E.1 E.2.1 d_M_front_80 rfl (lv_at hl 1 rfl) ?_
        exact ret _ _ _ _ _ _ ⟨rfl, by rw [hie]⟩ rfl B d_M_front_81
      · skip
        obtain ⟨m1, m2, m3, m4, m5⟩ := hM.2.2 i h1
        have mT0 := hM.2.1
        refine lv_aload_n E.1 E.2.1 d_M_front_12 rfl (lv_at hl 2 rfl) ?_
        refine k_getM E B 5 (by decide) wf_M_25 rfl rfl d_M_front_13 ?_
        refine lv_iload_n E.1 E.2.1 d_M_front_16 rfl (lv_at hl 0 rfl) ?_
        refine k_zld E B 6 5 (aM_Gn rfl) rfl (by omega) (by decide) d_M_front_17 ?_
        refine k_if_ne E 47 (by omega) d_M_front_18 (by decide) (fun h2 => ?_) (fun h2 => ?_)
        · skip
          have hni : ¬ InL u i := fun q => h2 q.1
          refine k_iconst E 0 d_M_front_47 rfl ?_
          refine lv_istore_n (lv' := [(3, .int (nI 0)), (2, .int (nI i)), (1, .int (bI (frontN u i))), (0, .ref (a 0))]) E.1 E.2.1 d_M_front_48 rfl hl (by decide) rfl (fun ls hl => ?_)
          refine lv_iload_n E.1 E.2.1 d_M_front_49 rfl (lv_at hl 0 rfl) ?_
          refine k_if_eq E 74 (by omega) d_M_front_50 (by decide) (fun e1 => ?_) (fun e1 => ?_)
          · skip
            have hf : frontN u (i + 1) = frontN u i := front_no hni
            refine lv_iinc (v := nI (i + 1)) (lv' := [(2, .int (nI (i + 1))), (3, .int (nI 0)), (1, .int (bI (frontN u i))), (0, .ref (a 0))]) E.1 E.2.1 d_M_front_74 hl (k := 1) rfl (by rw [show Int32.ofInt 1 = nI 1 from rfl, nI_add]) (by decide) rfl (fun ls hl => ?_)
            refine lv_goto (tgt := 4) E.1 E.2.1 d_M_front_77 (by decide) ?_
            rw [← hf] at hl
            exact ih (i + 1) _ (by omega) (by omega) (lv_sub hl [0, 2, 3] rfl)
          · skip
            exact absurd rfl e1
        · skip
          refine lv_aload_n E.1 E.2.1 d_M_front_21 rfl (lv_at hl 2 rfl) ?_
          refine k_getM E B 3 (by decide) wf_M_19 rfl rfl d_M_front_22 ?_
          refine lv_iload_n E.1 E.2.1 d_M_front_25 rfl (lv_at hl 0 rfl) ?_
          refine k_ildR E B 4 3 (aM_Ad rfl) rfl (by omega) (by decide) d_M_front_26 ?_
          refine lv_if_ge (tgt := 47) E.1 E.2.1 d_M_front_27 (by decide) (fun h3 => ?_) (fun h3 => ?_)
          · skip
            have hni : ¬ InL u i := fun q => i32_le_nlt h3 q.2.1
            refine k_iconst E 0 d_M_front_47 rfl ?_
            refine lv_istore_n (lv' := [(3, .int (nI 0)), (2, .int (nI i)), (1, .int (bI (frontN u i))), (0, .ref (a 0))]) E.1 E.2.1 d_M_front_48 rfl hl (by decide) rfl (fun ls hl => ?_)
            refine lv_iload_n E.1 E.2.1 d_M_front_49 rfl (lv_at hl 0 rfl) ?_
            refine k_if_eq E 74 (by omega) d_M_front_50 (by decide) (fun e1 => ?_) (fun e1 => ?_)
            · skip
              have hf : frontN u (i + 1) = frontN u i := front_no hni
              refine lv_iinc (v := nI (i + 1)) (lv' := [(2, .int (nI (i + 1))), (3, .int (nI 0)), (1, .int (bI (frontN u i))), (0, .ref (a 0))]) E.1 E.2.1 d_M_front_74 hl (k := 1) rfl (by rw [show Int32.ofInt 1 = nI 1 from rfl, nI_add]) (by decide) rfl (fun ls hl => ?_)
              refine lv_goto (tgt := 4) E.1 E.2.1 d_M_front_77 (by decide) ?_
              rw [← hf] at hl
              exact ih (i + 1) _ (by omega) (by omega) (lv_sub hl [0, 2, 3] rfl)
            · skip
              exact absurd rfl e1
          · skip
            refine lv_aload_n E.1 E.2.1 d_M_front_30 rfl (lv_at hl 2 rfl) ?_
            refine k_getM E B 1 (by decide) wf_M_13 rfl rfl d_M_front_31 ?_
            refine lv_iload_n E.1 E.2.1 d_M_front_34 rfl (lv_at hl 0 rfl) ?_
            refine k_ild E B 2 1 (aM_Ar rfl) rfl (by omega) (by decide) d_M_front_35 ?_
            refine lv_aload_n E.1 E.2.1 d_M_front_36 rfl (lv_at hl 2 rfl) ?_
            refine k_getM E B 7 (by decide) wf_M_34 rfl (fM_T rfl) d_M_front_37 ?_
            refine k_icmp_gt E 47 (by omega) (by omega) d_M_front_40 (by decide) (fun h4 => ?_) (fun h4 => ?_)
            · skip
              have hni : ¬ InL u i := fun q => by have := q.2.2; omega
              refine k_iconst E 0 d_M_front_47 rfl ?_
              refine lv_istore_n (lv' := [(3, .int (nI 0)), (2, .int (nI i)), (1, .int (bI (frontN u i))), (0, .ref (a 0))]) E.1 E.2.1 d_M_front_48 rfl hl (by decide) rfl (fun ls hl => ?_)
              refine lv_iload_n E.1 E.2.1 d_M_front_49 rfl (lv_at hl 0 rfl) ?_
              refine k_if_eq E 74 (by omega) d_M_front_50 (by decide) (fun e1 => ?_) (fun e1 => ?_)
              · skip
                have hf : frontN u (i + 1) = frontN u i := front_no hni
                refine lv_iinc (v := nI (i + 1)) (lv' := [(2, .int (nI (i + 1))), (3, .int (nI 0)), (1, .int (bI (frontN u i))), (0, .ref (a 0))]) E.1 E.2.1 d_M_front_74 hl (k := 1) rfl (by rw [show Int32.ofInt 1 = nI 1 from rfl, nI_add]) (by decide) rfl (fun ls hl => ?_)
                refine lv_goto (tgt := 4) E.1 E.2.1 d_M_front_77 (by decide) ?_
                rw [← hf] at hl
                exact ih (i + 1) _ (by omega) (by omega) (lv_sub hl [0, 2, 3] rfl)
              · skip
                exact absurd rfl e1
            · skip
              have hin : InL u i := ⟨h2, i32_nle h3, h4⟩
              refine k_iconst E 1 d_M_front_43 rfl ?_
              refine lv_goto (tgt := 48) E.1 E.2.1 d_M_front_44 (by decide) ?_
              refine lv_istore_n (lv' := [(3, .int (nI 1)), (2, .int (nI i)), (1, .int (bI (frontN u i))), (0, .ref (a 0))]) E.1 E.2.1 d_M_front_48 rfl hl (by decide) rfl (fun ls hl => ?_)
              refine lv_iload_n E.1 E.2.1 d_M_front_49 rfl (lv_at hl 0 rfl) ?_
              refine k_if_eq E 74 (by omega) d_M_front_50 (by decide) (fun e1 => ?_) (fun e1 => ?_)
              · skip
                exact absurd e1 (by decide)
              · skip
                rcases hb : frontN u i with _ | b
                · skip
                  rw [hb] at hl
                  refine lv_iload_n E.1 E.2.1 d_M_front_53 rfl (lv_at hl 2 rfl) ?_
                  refine lv_if_lt (tgt := 72) E.1 E.2.1 d_M_front_54 (by decide) (fun e2 => ?_) (fun e2 => ?_)
                  · skip
                    have hf : frontN u (i + 1) = some i := front_first hb hin
                    refine lv_iload_n E.1 E.2.1 d_M_front_72 rfl (lv_at hl 1 rfl) ?_
                    refine lv_istore_n (lv' := [(1, .int (nI i)), (3, .int (nI 1)), (2, .int (nI i)), (0, .ref (a 0))]) E.1 E.2.1 d_M_front_73 rfl hl (by decide) rfl (fun ls hl => ?_)
                    refine lv_iinc (v := nI (i + 1)) (lv' := [(2, .int (nI (i + 1))), (1, .int (nI i)), (3, .int (nI 1)), (0, .ref (a 0))]) E.1 E.2.1 d_M_front_74 hl (k := 2) rfl (by rw [show Int32.ofInt 1 = nI 1 from rfl, nI_add]) (by decide) rfl (fun ls hl => ?_)
                    refine lv_goto (tgt := 4) E.1 E.2.1 d_M_front_77 (by decide) ?_
                    exact ih (i + 1) _ (by omega) (by omega) (by rw [hf]; exact lv_sub hl [0, 1, 3] rfl)
                  · skip
                    exact absurd (show (-1 : Int32) < 0 by decide) e2
                · skip
                  rw [hb] at hl
                  have hbi : b < i := by
                    rcases frontN_spec (v := u) i with ⟨z1, _⟩ | ⟨b2, z1, z2, _⟩
                    · rw [hb] at z1
                      cases z1
                    · rw [hb] at z1
                      cases z1
                      exact z2
                  obtain ⟨b1, b2, b3, b4, b5⟩ := hM.2.2 b (by omega)
                  have hl : lv_has ls 4 [(3, .int (nI 1)), (2, .int (nI i)), (1, .int (nI b)), (0, .ref (a 0))] := hl
                  refine lv_iload_n E.1 E.2.1 d_M_front_53 rfl (lv_at hl 2 rfl) ?_
                  refine k_if_lt E 72 (by omega) d_M_front_54 (by decide) ?_
                  refine lv_aload_n E.1 E.2.1 d_M_front_57 rfl (lv_at hl 3 rfl) ?_
                  refine k_getM E B 1 (by decide) wf_M_13 rfl rfl d_M_front_58 ?_
                  refine lv_iload_n E.1 E.2.1 d_M_front_61 rfl (lv_at hl 1 rfl) ?_
                  refine k_ild E B 2 1 (aM_Ar rfl) rfl (by omega) (by decide) d_M_front_62 ?_
                  refine lv_aload_n E.1 E.2.1 d_M_front_63 rfl (lv_at hl 3 rfl) ?_
                  refine k_getM E B 1 (by decide) wf_M_13 rfl rfl d_M_front_64 ?_
                  refine lv_iload_n E.1 E.2.1 d_M_front_67 rfl (lv_at hl 2 rfl) ?_
                  refine k_ild E B 2 1 (aM_Ar rfl) rfl (by omega) (by decide) d_M_front_68 ?_
                  refine k_icmp_ge E 74 (by omega) (by omega) d_M_front_69 (by decide) (fun e2 => ?_) (fun e2 => ?_)
                  · skip
                    have hf : frontN u (i + 1) = some b := front_old hb (fun q => by have := q.2; omega)
                    refine lv_iinc (v := nI (i + 1)) (lv' := [(2, .int (nI (i + 1))), (3, .int (nI 1)), (1, .int (nI b)), (0, .ref (a 0))]) E.1 E.2.1 d_M_front_74 hl (k := 1) rfl (by rw [show Int32.ofInt 1 = nI 1 from rfl, nI_add]) (by decide) rfl (fun ls hl => ?_)
                    refine lv_goto (tgt := 4) E.1 E.2.1 d_M_front_77 (by decide) ?_
                    exact ih (i + 1) _ (by omega) (by omega) (by rw [hf]; exact lv_sub hl [0, 2, 3] rfl)
                  · skip
                    have hf : frontN u (i + 1) = some i := front_new hb ⟨hin, e2⟩
                    refine lv_iload_n E.1 E.2.1 d_M_front_72 rfl (lv_at hl 1 rfl) ?_
                    refine lv_istore_n (lv' := [(1, .int (nI i)), (3, .int (nI 1)), (2, .int (nI i)), (0, .ref (a 0))]) E.1 E.2.1 d_M_front_73 rfl hl (by decide) rfl (fun ls hl => ?_)
                    refine lv_iinc (v := nI (i + 1)) (lv' := [(2, .int (nI (i + 1))), (1, .int (nI i)), (3, .int (nI 1)), (0, .ref (a 0))]) E.1 E.2.1 d_M_front_74 hl (k := 2) rfl (by rw [show Int32.ofInt 1 = nI 1 from rfl, nI_add]) (by decide) rfl (fun ls hl => ?_)
                    refine lv_goto (tgt := 4) E.1 E.2.1 d_M_front_77 (by decide) ?_
                    exact ih (i + 1) _ (by omega) (by omega) (by rw [hf]; exact lv_sub hl [0, 1, 3] rfl)
  refine lv_iconst (v := -1) E.1 E.2.1 d_M_front_0 rfl ?_
  refine lv_istore_n (lv' := [(1, .int (-1)), (0, .ref (a 0))]) E.1 E.2.1 d_M_front_1 rfl hl (by decide) rfl (fun ls hl => ?_)
  refine k_iconst E 0 d_M_front_2 rfl ?_
  refine lv_istore_n (lv' := [(2, .int (nI 0)), (1, .int (-1)), (0, .ref (a 0))]) E.1 E.2.1 d_M_front_3 rfl hl (by decide) rfl (fun ls hl => ?_)
  exact loop (mJ u) 0 _ (by omega) (by omega) (lv_sub hl [0, 1, 2] rfl)
end
section
theorem vFi_vFi (U : PM) (v w : Nat → Int32) : vFi (vFi U v) w = vFi U w := by
  simp only [vFi]
theorem vWk_vFi (U : PM) (v : Nat → Int32) (w : Nat → Nat) : vWk (vFi U v) w = vFi (vWk U w) v := by
  simp only [vWk, vFi]
theorem vWk_vWk (U : PM) (v w : Nat → Nat) : vWk (vWk U v) w = vWk U w := by
  simp only [vWk]
theorem wkN_at (v : PM) (sh i : Nat) : wkN v sh i i = mWk v i := by
  unfold wkN
  rw [if_neg (fun q => Nat.lt_irrefl _ q.1)]
theorem fiN_at (v : PM) (sh i : Nat) : fiN v sh i i = mFi v i := by
  unfold fiN
  rw [if_neg (fun q => Nat.lt_irrefl _ q.1)]
theorem wkN_fin {v : PM} {sh i : Nat} (h : shr v i) (h2 : mSz v i - mWk v i ≤ sh) : va_up (wkN v sh i) i (mSz v i) = wkN v sh (i + 1) := by
  funext j
  by_cases e : j = i
  · subst e
    rw [va_up_s]
    unfold wkN
    rw [if_pos ⟨Nat.lt_succ_self _, h⟩, if_pos h2]
  · rw [va_up_n e]
    unfold wkN
    by_cases q : j < i ∧ shr v j
    · rw [if_pos q, if_pos (show j < i + 1 ∧ shr v j from ⟨by omega, q.2⟩)]
    · rw [if_neg q, if_neg (fun z => q ⟨by omega, z.2⟩)]
theorem wkN_add {v : PM} {sh i : Nat} (h : shr v i) (h2 : ¬ mSz v i - mWk v i ≤ sh) : va_up (wkN v sh i) i (mWk v i + sh) = wkN v sh (i + 1) := by
  funext j
  by_cases e : j = i
  · subst e
    rw [va_up_s]
    unfold wkN
    rw [if_pos ⟨Nat.lt_succ_self _, h⟩, if_neg h2]
  · rw [va_up_n e]
    unfold wkN
    by_cases q : j < i ∧ shr v j
    · rw [if_pos q, if_pos (show j < i + 1 ∧ shr v j from ⟨by omega, q.2⟩)]
    · rw [if_neg q, if_neg (fun z => q ⟨by omega, z.2⟩)]
theorem wkN_no {v : PM} {sh i : Nat} (h : ¬ shr v i) : wkN v sh (i + 1) = wkN v sh i := by
  funext j
  unfold wkN
  by_cases e : j = i
  · subst e
    rw [if_neg (fun q => h q.2), if_neg (fun q => h q.2)]
  · by_cases q : j < i ∧ shr v j
    · rw [if_pos q, if_pos ⟨by omega, q.2⟩]
    · rw [if_neg q, if_neg (fun z => q ⟨by omega, z.2⟩)]
theorem fiN_fin {v : PM} {sh i : Nat} (h : shr v i) (h2 : mSz v i - mWk v i ≤ sh) : upd (fiN v sh i) i (nI (mT v)) = fiN v sh (i + 1) := by
  funext j
  by_cases e : j = i
  · subst e
    rw [pk_us]
    unfold fiN
    rw [if_pos ⟨Nat.lt_succ_self _, h, h2⟩]
  · rw [pk_un e]
    unfold fiN
    by_cases q : j < i ∧ shr v j ∧ mSz v j - mWk v j ≤ sh
    · rw [if_pos q, if_pos ⟨by omega, q.2⟩]
    · rw [if_neg q, if_neg (fun z => q ⟨by omega, z.2⟩)]
theorem fiN_no {v : PM} {sh i : Nat} (h : ¬ (shr v i ∧ mSz v i - mWk v i ≤ sh)) : fiN v sh (i + 1) = fiN v sh i := by
  funext j
  unfold fiN
  by_cases e : j = i
  · subst e
    rw [if_neg (fun q => h q.2), if_neg (fun q => h q.2)]
  · by_cases q : j < i ∧ shr v j ∧ mSz v j - mWk v j ≤ sh
    · rw [if_pos q, if_pos ⟨by omega, q.2⟩]
    · rw [if_neg q, if_neg (fun z => q ⟨by omega, z.2⟩)]
theorem dnN_fin {v : PM} {sh i : Nat} (h : shr v i) (h2 : mSz v i - mWk v i ≤ sh) : dnN v sh (i + 1) = dnN v sh i + 1 := by
  show _ + (if decide (shr v i ∧ mSz v i - mWk v i ≤ sh) = true then 1 else 0) = _
  rw [if_pos (decide_eq_true ⟨h, h2⟩)]
  rfl
theorem dnN_no {v : PM} {sh i : Nat} (h : ¬ (shr v i ∧ mSz v i - mWk v i ≤ sh)) : dnN v sh (i + 1) = dnN v sh i := by
  show _ + (if decide (shr v i ∧ mSz v i - mWk v i ≤ sh) = true then 1 else 0) = _
  rw [if_neg (fun q => h (of_decide_eq_true q))]
  rfl
/-- the ticks that run(n) makes -/
def clampN (n : Int32) : Nat := if n < 0 then 0 else if n ≤ 5000 then n.toNatClampNeg else 5000
theorem clampN_le (n : Int32) : clampN n ≤ 5000 := by
  unfold clampN
  split
  · omega
  · split
    · rename_i h1 h2
      obtain ⟨j, hj, e⟩ := nI_of2 (M := 5000) (n := 5000) (by decide) h1 h2
      rw [e, nI_clamp (by omega)]
      exact hj
    · omega
theorem clampN_mid {n : Int32} (h1 : ¬ n < 0) (h2 : n ≤ 5000) : n = nI (clampN n) := by
  obtain ⟨j, hj, e⟩ := nI_of2 (M := 5000) (n := 5000) (by decide) h1 h2
  unfold clampN
  rw [if_neg h1, if_pos h2, e, nI_clamp (by omega)]
set_option maxHeartbeats 4000000 in
set_option maxRecDepth 100000 in
/-- oneTick() -/
theorem c_M_oneTick (l : Launch) (D : va_G) (a : Nat → Nat) (g : Nat → ClassId) (u : PM) (hM : MOK u) : MetI l y_M_oneTick b_M_oneTick 6 (some .int) 4 D (tM g) (wM a g) [.ref (a 0)] u (fun r u' => u' = (oneTickF u).1 ∧ r = nI (oneTickF u).2) := by
  refine MetI.of (by decide) (Nat.le_of_ble_eq_true rfl) ?_
  intro p e s m args below meth c A Q ls E hl B ret
  have E : CallFix p m c b_M_oneTick 6 s args lw_ws R_M := E
  have hl : lv_has ls 6 [(0, .ref (a 0))] := hl
  obtain ⟨V1, eV1⟩ : ∃ z, z = admF (8 - cntS u 2) u := ⟨_, rfl⟩
  have hV : MOK V1 := by
    rw [eV1]
    exact admF_MOK _ hM
  have hJ24 := hV.1
  have half : ∀ (px : Nat) (H : Heap) (locs : List Loc) (ls : Array Slot), lv_has ls 6 [(1, .int (nI px)), (0, .ref (a 0))] → wB D (tM g) s A s.heap (wM a g (V1)) H locs → W p l e (rd 4) s m args below meth c H locs 0 0 Q (F0 m 36 ls []) := by
    intro px H locs ls hl B
    refine lv_aload_n E.1 E.2.1 d_M_oneTick_36 rfl (lv_at hl 1 rfl) ?_
    refine k_calli (As := []) (rest := []) E (c_M_served l D a g V1 hV) kc_M_56 ⟨Nat.le_of_ble_eq_true rfl, Nat.le_of_ble_eq_true rfl⟩ B (show classes[1]? = _ from rfl) rfl hl.1 rfl (Nat.le_of_ble_eq_true rfl) d_M_oneTick_37 ⟨Nat.le_of_ble_eq_true rfl, Nat.le_of_ble_eq_true rfl⟩ (fun r u1 H locs hq B => ?_)
    obtain ⟨hu, hr⟩ := hq
    rw [hu] at B
    subst hr
    obtain ⟨mm, emm⟩ : ∃ z, z = cntS V1 2 := ⟨_, rfl⟩
    rw [← emm]
    have hmm : mm ≤ 24 := by
      rw [emm]
      exact Nat.le_trans (cnt_le _ _) hV.1
    refine lv_istore_n (lv' := [(1, .int (nI mm)), (0, .ref (a 0))]) E.1 E.2.1 d_M_oneTick_40 rfl hl (by decide) rfl (fun ls hl => ?_)
    refine lv_iload_n E.1 E.2.1 d_M_oneTick_41 rfl (lv_at hl 0 rfl) ?_
    refine k_if_gt E 47 (by omega) d_M_oneTick_42 (by decide) (fun h1 => ?_) (fun h1 => ?_)
    · skip
      obtain ⟨sh, esh⟩ : ∃ z, z = 840 / mm := ⟨_, rfl⟩
      have hsh : sh ≤ 840 := by
        rw [esh]
        exact Nat.div_le_self _ _
      have hot : oneTickF u = (workF V1 sh, dnN V1 sh (mJ V1)) := by
        unfold oneTickF
        rw [← eV1, ← emm, if_neg (by omega), esh]
      have loop : ∀ (z i : Nat) (H : Heap) (locs : List Loc) (ls : Array Slot), mJ V1 - i ≤ z → i ≤ mJ V1 → lv_has ls 6 [(4, .int (nI i)), (3, .int (nI (dnN V1 sh i))), (2, .int (nI sh)), (0, .ref (a 0))] → wB D (tM g) s A s.heap (wM a g (vFi (vWk V1 (wkN V1 sh i)) (fiN V1 sh i))) H locs → W p l e (rd 4) s m args below meth c H locs 0 0 Q (F0 m 58 ls []) := by
        intro z
        induction z with
        | zero =>
          intro i H locs ls hz hi hl B
          refine lv_iload E.1 E.2.1 d_M_oneTick_58 (lv_at hl 0 rfl) ?_
          refine lv_aload_n E.1 E.2.1 d_M_oneTick_60 rfl (lv_at hl 3 rfl) ?_
          refine k_getM E B 6 (by decide) wf_M_30 rfl (fM_J ((mJ_vFi _ _).trans (mJ_vWk _ _))) d_M_oneTick_61 ?_
          refine k_icmp_ge E 181 (by omega) (by omega) d_M_oneTick_64 (by decide) (fun g1 => ?_) (fun g1 => ?_)
          · skip
            have hie : i = mJ V1 := by omega
            subst hie
            refine lv_iload_n E.1 E.2.1 d_M_oneTick_181 rfl (lv_at hl 1 rfl) ?_
            exact ret _ _ _ _ _ _ ⟨by rw [hot]; rfl, by rw [hot]⟩ rfl B d_M_oneTick_182
          · skip
            exact absurd g1 (by omega)
        | succ z ih =>
          intro i H locs ls hz hi hl B
          refine lv_iload E.1 E.2.1 d_M_oneTick_58 (lv_at hl 0 rfl) ?_
          refine lv_aload_n E.1 E.2.1 d_M_oneTick_60 rfl (lv_at hl 3 rfl) ?_
          refine k_getM E B 6 (by decide) wf_M_30 rfl (fM_J ((mJ_vFi _ _).trans (mJ_vWk _ _))) d_M_oneTick_61 ?_
          refine k_icmp_ge E 181 (by omega) (by omega) d_M_oneTick_64 (by decide) (fun g1 => ?_) (fun g1 => ?_)
          · skip
            have hie : i = mJ V1 := by omega
            subst hie
            refine lv_iload_n E.1 E.2.1 d_M_oneTick_181 rfl (lv_at hl 1 rfl) ?_
            exact ret _ _ _ _ _ _ ⟨by rw [hot]; rfl, by rw [hot]⟩ rfl B d_M_oneTick_182
          · skip
            obtain ⟨m1, m2, m3, m4, m5⟩ := hV.2.2 i g1
            have hwa := wkN_at V1 sh i
            have hfa := fiN_at V1 sh i
            refine lv_aload_n E.1 E.2.1 d_M_oneTick_67 rfl (lv_at hl 3 rfl) ?_
            refine k_getM E B 5 (by decide) wf_M_25 rfl rfl d_M_oneTick_68 ?_
            refine lv_iload E.1 E.2.1 d_M_oneTick_71 (lv_at hl 0 rfl) ?_
            refine k_zld E B 6 5 (aM_Gn ((mGn_vFi _ _).trans (mGn_vWk _ _))) rfl (by omega) (by decide) d_M_oneTick_73 ?_
            refine k_if_ne E 101 (by omega) d_M_oneTick_74 (by decide) (fun g2 => ?_) (fun g2 => ?_)
            · skip
              have hns : ¬ shr V1 i := fun q => g2 q.1
              refine k_iconst E 0 d_M_oneTick_101 rfl ?_
              refine lv_istore (lv' := [(5, .int (nI 0)), (4, .int (nI i)), (3, .int (nI (dnN V1 sh i))), (2, .int (nI sh)), (0, .ref (a 0))]) E.1 E.2.1 d_M_oneTick_102 hl (by decide) rfl (fun ls hl => ?_)
              refine lv_iload E.1 E.2.1 d_M_oneTick_104 (lv_at hl 0 rfl) ?_
              refine k_if_eq E 159 (by omega) d_M_oneTick_106 (by decide) (fun e1 => ?_) (fun e1 => ?_)
              · skip
                refine lv_iload E.1 E.2.1 d_M_oneTick_159 (lv_at hl 0 rfl) ?_
                refine k_if_eq E 175 (by omega) d_M_oneTick_161 (by decide) (fun e2 => ?_) (fun e2 => ?_)
                · skip
                  refine lv_iinc (v := nI (i + 1)) (lv' := [(4, .int (nI (i + 1))), (5, .int (nI 0)), (3, .int (nI (dnN V1 sh i))), (2, .int (nI sh)), (0, .ref (a 0))]) E.1 E.2.1 d_M_oneTick_175 hl (k := 1) rfl (by rw [show Int32.ofInt 1 = nI 1 from rfl, nI_add]) (by decide) rfl (fun ls hl => ?_)
                  refine lv_goto (tgt := 58) E.1 E.2.1 d_M_oneTick_178 (by decide) ?_
                  rw [← wkN_no hns, ← fiN_no (fun q => hns q.1)] at B
                  rw [← dnN_no (fun q => hns q.1)] at hl
                  exact ih (i + 1) _ _ _ (by omega) (by omega) (lv_sub hl [0, 2, 3, 4] rfl) B
                · skip
                  exact absurd rfl e2
              · skip
                exact absurd rfl e1
            · skip
              refine lv_aload_n E.1 E.2.1 d_M_oneTick_77 rfl (lv_at hl 3 rfl) ?_
              refine k_getM E B 3 (by decide) wf_M_19 rfl rfl d_M_oneTick_78 ?_
              refine lv_iload E.1 E.2.1 d_M_oneTick_81 (lv_at hl 0 rfl) ?_
              refine k_ildR E B 4 3 (aM_Ad ((mAd_vFi _ _).trans (mAd_vWk _ _))) rfl (by omega) (by decide) d_M_oneTick_83 ?_
              refine lv_if_lt (tgt := 101) E.1 E.2.1 d_M_oneTick_84 (by decide) (fun g3 => ?_) (fun g3 => ?_)
              · skip
                have hns : ¬ shr V1 i := fun q => i32_le_nlt q.2.1 g3
                refine k_iconst E 0 d_M_oneTick_101 rfl ?_
                refine lv_istore (lv' := [(5, .int (nI 0)), (4, .int (nI i)), (3, .int (nI (dnN V1 sh i))), (2, .int (nI sh)), (0, .ref (a 0))]) E.1 E.2.1 d_M_oneTick_102 hl (by decide) rfl (fun ls hl => ?_)
                refine lv_iload E.1 E.2.1 d_M_oneTick_104 (lv_at hl 0 rfl) ?_
                refine k_if_eq E 159 (by omega) d_M_oneTick_106 (by decide) (fun e1 => ?_) (fun e1 => ?_)
                · skip
                  refine lv_iload E.1 E.2.1 d_M_oneTick_159 (lv_at hl 0 rfl) ?_
                  refine k_if_eq E 175 (by omega) d_M_oneTick_161 (by decide) (fun e2 => ?_) (fun e2 => ?_)
                  · skip
                    refine lv_iinc (v := nI (i + 1)) (lv' := [(4, .int (nI (i + 1))), (5, .int (nI 0)), (3, .int (nI (dnN V1 sh i))), (2, .int (nI sh)), (0, .ref (a 0))]) E.1 E.2.1 d_M_oneTick_175 hl (k := 1) rfl (by rw [show Int32.ofInt 1 = nI 1 from rfl, nI_add]) (by decide) rfl (fun ls hl => ?_)
                    refine lv_goto (tgt := 58) E.1 E.2.1 d_M_oneTick_178 (by decide) ?_
                    rw [← wkN_no hns, ← fiN_no (fun q => hns q.1)] at B
                    rw [← dnN_no (fun q => hns q.1)] at hl
                    exact ih (i + 1) _ _ _ (by omega) (by omega) (lv_sub hl [0, 2, 3, 4] rfl) B
                  · skip
                    exact absurd rfl e2
                · skip
                  exact absurd rfl e1
              · skip
                refine lv_aload_n E.1 E.2.1 d_M_oneTick_87 rfl (lv_at hl 3 rfl) ?_
                refine k_getM E B 4 (by decide) wf_M_22 rfl rfl d_M_oneTick_88 ?_
                refine lv_iload E.1 E.2.1 d_M_oneTick_91 (lv_at hl 0 rfl) ?_
                refine k_ildR E B 5 4 (aM_Fi (mFi_vFi _ _)) rfl (by omega) (by decide) d_M_oneTick_93 ?_
                refine lv_if_ge (tgt := 101) E.1 E.2.1 d_M_oneTick_94 (by decide) (fun g4 => ?_) (fun g4 => ?_)
                · skip
                  have hns : ¬ shr V1 i := fun q => i32_le_nlt (by rw [← hfa]; exact g4) q.2.2
                  refine k_iconst E 0 d_M_oneTick_101 rfl ?_
                  refine lv_istore (lv' := [(5, .int (nI 0)), (4, .int (nI i)), (3, .int (nI (dnN V1 sh i))), (2, .int (nI sh)), (0, .ref (a 0))]) E.1 E.2.1 d_M_oneTick_102 hl (by decide) rfl (fun ls hl => ?_)
                  refine lv_iload E.1 E.2.1 d_M_oneTick_104 (lv_at hl 0 rfl) ?_
                  refine k_if_eq E 159 (by omega) d_M_oneTick_106 (by decide) (fun e1 => ?_) (fun e1 => ?_)
                  · skip
                    refine lv_iload E.1 E.2.1 d_M_oneTick_159 (lv_at hl 0 rfl) ?_
                    refine k_if_eq E 175 (by omega) d_M_oneTick_161 (by decide) (fun e2 => ?_) (fun e2 => ?_)
                    · skip
                      refine lv_iinc (v := nI (i + 1)) (lv' := [(4, .int (nI (i + 1))), (5, .int (nI 0)), (3, .int (nI (dnN V1 sh i))), (2, .int (nI sh)), (0, .ref (a 0))]) E.1 E.2.1 d_M_oneTick_175 hl (k := 1) rfl (by rw [show Int32.ofInt 1 = nI 1 from rfl, nI_add]) (by decide) rfl (fun ls hl => ?_)
                      refine lv_goto (tgt := 58) E.1 E.2.1 d_M_oneTick_178 (by decide) ?_
                      rw [← wkN_no hns, ← fiN_no (fun q => hns q.1)] at B
                      rw [← dnN_no (fun q => hns q.1)] at hl
                      exact ih (i + 1) _ _ _ (by omega) (by omega) (lv_sub hl [0, 2, 3, 4] rfl) B
                    · skip
                      exact absurd rfl e2
                  · skip
                    exact absurd rfl e1
                · skip
                  have hs : shr V1 i := ⟨g2, i32_nlt g3, by rw [← hfa]; exact i32_nle g4⟩
                  refine k_iconst E 1 d_M_oneTick_97 rfl ?_
                  refine lv_goto (tgt := 102) E.1 E.2.1 d_M_oneTick_98 (by decide) ?_
                  refine lv_istore (lv' := [(5, .int (nI 1)), (4, .int (nI i)), (3, .int (nI (dnN V1 sh i))), (2, .int (nI sh)), (0, .ref (a 0))]) E.1 E.2.1 d_M_oneTick_102 hl (by decide) rfl (fun ls hl => ?_)
                  refine lv_iload E.1 E.2.1 d_M_oneTick_104 (lv_at hl 0 rfl) ?_
                  refine k_if_eq E 159 (by omega) d_M_oneTick_106 (by decide) (fun e1 => ?_) (fun e1 => ?_)
                  · skip
                    exact absurd e1 (by decide)
                  · skip
                    refine lv_aload_n E.1 E.2.1 d_M_oneTick_109 rfl (lv_at hl 4 rfl) ?_
                    refine k_getM E B 0 (by decide) wf_M_7 rfl rfl d_M_oneTick_110 ?_
                    refine lv_iload E.1 E.2.1 d_M_oneTick_113 (lv_at hl 1 rfl) ?_
                    refine k_ild E B 1 0 (aM_Sz ((mSz_vFi _ _).trans (mSz_vWk _ _))) rfl (by omega) (by decide) d_M_oneTick_115 ?_
                    refine lv_aload_n E.1 E.2.1 d_M_oneTick_116 rfl (lv_at hl 4 rfl) ?_
                    refine k_getM E B 2 (by decide) wf_M_16 rfl rfl d_M_oneTick_117 ?_
                    refine lv_iload E.1 E.2.1 d_M_oneTick_120 (lv_at hl 1 rfl) ?_
                    refine k_ild E B 3 2 (aM_Wk ((mWk_vFi _ _).trans (mWk_vWk _ _))) rfl (by omega) (by decide) d_M_oneTick_122 ?_
                    refine k_isub E (by omega) d_M_oneTick_123 ?_
                    refine lv_iload_n E.1 E.2.1 d_M_oneTick_124 rfl (lv_at hl 3 rfl) ?_
                    refine k_icmp_gt E 159 (by omega) (by omega) d_M_oneTick_125 (by decide) (fun e2 => ?_) (fun e2 => ?_)
                    · skip
                      rw [hwa] at e2
                      refine lv_iload E.1 E.2.1 d_M_oneTick_159 (lv_at hl 0 rfl) ?_
                      refine k_if_eq E 175 (by omega) d_M_oneTick_161 (by decide) (fun e3 => ?_) (fun e3 => ?_)
                      · skip
                        exact absurd e3 (by decide)
                      · skip
                        refine lv_aload_n E.1 E.2.1 d_M_oneTick_164 rfl (lv_at hl 4 rfl) ?_
                        refine k_getM E B 2 (by decide) wf_M_16 rfl rfl d_M_oneTick_165 ?_
                        refine lv_iload E.1 E.2.1 d_M_oneTick_168 (lv_at hl 1 rfl) ?_
                        refine lv_dup2_11 E.1 E.2.1 d_M_oneTick_170 rfl rfl ?_
                        refine k_ild E B 3 2 (aM_Wk ((mWk_vFi _ _).trans (mWk_vWk _ _))) rfl (by omega) (by decide) d_M_oneTick_171 ?_
                        refine lv_iload_n E.1 E.2.1 d_M_oneTick_172 rfl (lv_at hl 3 rfl) ?_
                        refine k_iadd E d_M_oneTick_173 ?_
                        refine k_ist E B 3 2 (ws' := wM a g (vWk (vFi (vWk V1 (wkN V1 sh i)) (fiN V1 sh i)) (va_up (wkN V1 sh i) i (((wkN V1 sh i) i) + sh)))) (aM_Wk ((mWk_vFi _ _).trans (mWk_vWk _ _))) rfl (by omega) (by decide) (wM_Wk _ _ _ _) d_M_oneTick_174 (fun H locs B => ?_)
                        rw [vWk_vFi, vWk_vWk] at B
                        rw [hwa, wkN_add hs (by omega), ← fiN_no (fun q => by have := q.2; omega)] at B
                        refine lv_iinc (v := nI (i + 1)) (lv' := [(4, .int (nI (i + 1))), (5, .int (nI 1)), (3, .int (nI (dnN V1 sh i))), (2, .int (nI sh)), (0, .ref (a 0))]) E.1 E.2.1 d_M_oneTick_175 hl (k := 1) rfl (by rw [show Int32.ofInt 1 = nI 1 from rfl, nI_add]) (by decide) rfl (fun ls hl => ?_)
                        refine lv_goto (tgt := 58) E.1 E.2.1 d_M_oneTick_178 (by decide) ?_
                        rw [← dnN_no (fun q => by have := q.2; omega)] at hl
                        exact ih (i + 1) _ _ _ (by omega) (by omega) (lv_sub hl [0, 2, 3, 4] rfl) B
                    · skip
                      rw [hwa] at e2
                      refine lv_aload_n E.1 E.2.1 d_M_oneTick_128 rfl (lv_at hl 4 rfl) ?_
                      refine k_getM E B 2 (by decide) wf_M_16 rfl rfl d_M_oneTick_129 ?_
                      refine lv_iload E.1 E.2.1 d_M_oneTick_132 (lv_at hl 1 rfl) ?_
                      refine lv_aload_n E.1 E.2.1 d_M_oneTick_134 rfl (lv_at hl 4 rfl) ?_
                      refine k_getM E B 0 (by decide) wf_M_7 rfl rfl d_M_oneTick_135 ?_
                      refine lv_iload E.1 E.2.1 d_M_oneTick_138 (lv_at hl 1 rfl) ?_
                      refine k_ild E B 1 0 (aM_Sz ((mSz_vFi _ _).trans (mSz_vWk _ _))) rfl (by omega) (by decide) d_M_oneTick_140 ?_
                      refine k_ist E B 3 2 (ws' := wM a g (vWk (vFi (vWk V1 (wkN V1 sh i)) (fiN V1 sh i)) (va_up (wkN V1 sh i) i (mSz V1 i)))) (aM_Wk ((mWk_vFi _ _).trans (mWk_vWk _ _))) rfl (by omega) (by decide) (wM_Wk _ _ _ _) d_M_oneTick_141 (fun H locs B => ?_)
                      rw [vWk_vFi, vWk_vWk] at B
                      refine lv_aload_n E.1 E.2.1 d_M_oneTick_142 rfl (lv_at hl 4 rfl) ?_
                      refine k_getM E B 4 (by decide) wf_M_22 rfl rfl d_M_oneTick_143 ?_
                      refine lv_iload E.1 E.2.1 d_M_oneTick_146 (lv_at hl 1 rfl) ?_
                      refine lv_aload_n E.1 E.2.1 d_M_oneTick_148 rfl (lv_at hl 4 rfl) ?_
                      refine k_getM E B 7 (by decide) wf_M_34 rfl (fM_T ((mT_vFi _ _).trans (mT_vWk _ _))) d_M_oneTick_149 ?_
                      refine k_istR E B 5 4 (ws' := wM a g (vFi (vFi (vWk V1 (va_up (wkN V1 sh i) i (mSz V1 i))) (fiN V1 sh i)) (upd (fiN V1 sh i) i (nI (mT V1))))) (aM_Fi (mFi_vFi _ _)) rfl (by omega) (by decide) (wM_Fi _ _ _ _) d_M_oneTick_152 (fun H locs B => ?_)
                      rw [vFi_vFi] at B
                      refine lv_iinc (v := nI (dnN V1 sh i + 1)) (lv' := [(3, .int (nI (dnN V1 sh i + 1))), (5, .int (nI 1)), (4, .int (nI i)), (2, .int (nI sh)), (0, .ref (a 0))]) E.1 E.2.1 d_M_oneTick_153 hl (k := 2) rfl (by rw [show Int32.ofInt 1 = nI 1 from rfl, nI_add]) (by decide) rfl (fun ls hl => ?_)
                      refine lv_goto (tgt := 175) E.1 E.2.1 d_M_oneTick_156 (by decide) ?_
                      rw [wkN_fin hs e2, fiN_fin hs e2] at B
                      refine lv_iinc (v := nI (i + 1)) (lv' := [(4, .int (nI (i + 1))), (3, .int (nI (dnN V1 sh i + 1))), (5, .int (nI 1)), (2, .int (nI sh)), (0, .ref (a 0))]) E.1 E.2.1 d_M_oneTick_175 hl (k := 2) rfl (by rw [show Int32.ofInt 1 = nI 1 from rfl, nI_add]) (by decide) rfl (fun ls hl => ?_)
                      refine lv_goto (tgt := 58) E.1 E.2.1 d_M_oneTick_178 (by decide) ?_
                      rw [← dnN_fin hs e2] at hl
                      exact ih (i + 1) _ _ _ (by omega) (by omega) (lv_sub hl [0, 1, 3, 4] rfl) B
      refine k_sipush E 840 d_M_oneTick_47 rfl ?_
      refine lv_iload_n E.1 E.2.1 d_M_oneTick_50 rfl (lv_at hl 0 rfl) ?_
      refine k_idiv E (by omega) (by omega) (by omega) d_M_oneTick_51 ?_
      refine lv_istore_n (lv' := [(2, .int (nI (840 / mm))), (1, .int (nI mm)), (0, .ref (a 0))]) E.1 E.2.1 d_M_oneTick_52 rfl hl (by decide) rfl (fun ls hl => ?_)
      refine k_iconst E 0 d_M_oneTick_53 rfl ?_
      refine lv_istore_n (lv' := [(3, .int (nI 0)), (2, .int (nI (840 / mm))), (1, .int (nI mm)), (0, .ref (a 0))]) E.1 E.2.1 d_M_oneTick_54 rfl hl (by decide) rfl (fun ls hl => ?_)
      refine k_iconst E 0 d_M_oneTick_55 rfl ?_
      refine lv_istore (lv' := [(4, .int (nI 0)), (3, .int (nI 0)), (2, .int (nI (840 / mm))), (1, .int (nI mm)), (0, .ref (a 0))]) E.1 E.2.1 d_M_oneTick_56 hl (by decide) rfl (fun ls hl => ?_)
      rw [← esh] at hl
      have B : wB D (tM g) s A s.heap (wM a g (vFi (vWk V1 (wkN V1 sh 0)) (fiN V1 sh 0))) H locs := by
        have e1 : wkN V1 sh 0 = mWk V1 := by
          funext j
          unfold wkN
          rw [if_neg (fun q => Nat.not_lt_zero _ q.1)]
        have e2 : fiN V1 sh 0 = mFi V1 := by
          funext j
          unfold fiN
          rw [if_neg (fun q => Nat.not_lt_zero _ q.1)]
        rw [e1, e2]
        exact B
      exact loop (mJ V1) 0 _ _ _ (by omega) (by omega) (lv_sub hl [0, 1, 2, 4] rfl) B
    · skip
      have hot : oneTickF u = (V1, 0) := by
        unfold oneTickF
        rw [← eV1, ← emm, if_pos h1]
      refine k_iconst E 0 d_M_oneTick_45 rfl ?_
      exact ret _ _ _ _ _ _ ⟨by rw [hot], by rw [hot]⟩ rfl B d_M_oneTick_46
  have loop : ∀ (z px : Nat) (v : PM) (H : Heap) (locs : List Loc) (ls : Array Slot), 8 - px ≤ z → px ≤ 24 → MOK v → admF (8 - px) v = V1 → lv_has ls 6 [(1, .int (nI px)), (0, .ref (a 0))] → wB D (tM g) s A s.heap (wM a g (v)) H locs → W p l e (rd 4) s m args below meth c H locs 0 0 Q (F0 m 5 ls []) := by
    intro z
    induction z with
    | zero =>
      intro px v H locs ls hz hp24 hv hadm hl B
      refine lv_iload_n E.1 E.2.1 d_M_oneTick_5 rfl (lv_at hl 0 rfl) ?_
      refine k_bipush E 8 d_M_oneTick_6 rfl ?_
      refine k_icmp_ge E 36 (by omega) (by omega) d_M_oneTick_8 (by decide) (fun h1 => ?_) (fun h1 => ?_)
      · skip
        rw [show 8 - px = 0 by omega] at hadm
        have hadm : v = V1 := hadm
        rw [hadm] at B
        exact half px _ _ _ hl B
      · skip
        exact absurd h1 (by omega)
    | succ z ih =>
      intro px v H locs ls hz hp24 hv hadm hl B
      refine lv_iload_n E.1 E.2.1 d_M_oneTick_5 rfl (lv_at hl 0 rfl) ?_
      refine k_bipush E 8 d_M_oneTick_6 rfl ?_
      refine k_icmp_ge E 36 (by omega) (by omega) d_M_oneTick_8 (by decide) (fun h1 => ?_) (fun h1 => ?_)
      · skip
        rw [show 8 - px = 0 by omega] at hadm
        have hadm : v = V1 := hadm
        rw [hadm] at B
        exact half px _ _ _ hl B
      · skip
        rw [show 8 - px = (8 - (px + 1)) + 1 by omega] at hadm
        have hadm : admF (8 - (px + 1)) (adm1 v) = V1 := hadm
        refine lv_aload_n E.1 E.2.1 d_M_oneTick_11 rfl (lv_at hl 1 rfl) ?_
        refine k_calli (As := []) (rest := []) E (c_M_front l D a g v hv) kc_M_59 ⟨Nat.le_of_ble_eq_true rfl, Nat.le_of_ble_eq_true rfl⟩ B (show classes[1]? = _ from rfl) rfl hl.1 rfl (Nat.le_of_ble_eq_true rfl) d_M_oneTick_12 ⟨Nat.le_of_ble_eq_true rfl, Nat.le_of_ble_eq_true rfl⟩ (fun r u1 H locs hq B => ?_)
        obtain ⟨hu, hr⟩ := hq
        rw [hu] at B
        subst hr
        rcases hb : frontN v (mJ v) with _ | b
        · skip
          have ha1 : adm1 v = v := by
            unfold adm1
            rw [hb]
          rw [ha1] at hadm
          refine lv_istore_n (lv' := [(2, .int (bI none)), (1, .int (nI px)), (0, .ref (a 0))]) E.1 E.2.1 d_M_oneTick_15 rfl hl (by decide) rfl (fun ls hl => ?_)
          refine lv_iload_n E.1 E.2.1 d_M_oneTick_16 rfl (lv_at hl 0 rfl) ?_
          refine lv_if_lt (tgt := 30) E.1 E.2.1 d_M_oneTick_17 (by decide) (fun e1 => ?_) (fun e1 => ?_)
          · skip
            refine lv_iinc (v := nI (px + 1)) (lv' := [(1, .int (nI (px + 1))), (2, .int (bI none)), (0, .ref (a 0))]) E.1 E.2.1 d_M_oneTick_30 hl (k := 1) rfl (by rw [show Int32.ofInt 1 = nI 1 from rfl, nI_add]) (by decide) rfl (fun ls hl => ?_)
            refine lv_goto (tgt := 5) E.1 E.2.1 d_M_oneTick_33 (by decide) ?_
            exact ih (px + 1) v _ _ _ (by omega) (by omega) hv hadm (lv_sub hl [0, 2] rfl) B
          · skip
            exact absurd (show (-1 : Int32) < 0 by decide) e1
        · skip
          have hbJ : b < mJ v := by
            rcases frontN_spec (v := v) (mJ v) with ⟨z1, _⟩ | ⟨b2, z1, z2, _⟩
            · rw [hb] at z1
              cases z1
            · rw [hb] at z1
              cases z1
              exact z2
          have hvJ := hv.1
          have ha1 : adm1 v = vAd v (upd (mAd v) b (nI (mT v))) := by
            unfold adm1
            rw [hb]
          rw [ha1] at hadm
          have hv2 := adm1_MOK hv
          rw [ha1] at hv2
          show W p l e (rd 4) s m args below meth c H locs 0 0 Q (F0 m 15 ls [.int (nI b)])
          refine lv_istore_n (lv' := [(2, .int (nI b)), (1, .int (nI px)), (0, .ref (a 0))]) E.1 E.2.1 d_M_oneTick_15 rfl hl (by decide) rfl (fun ls hl => ?_)
          refine lv_iload_n E.1 E.2.1 d_M_oneTick_16 rfl (lv_at hl 0 rfl) ?_
          refine k_if_lt E 30 (by omega) d_M_oneTick_17 (by decide) ?_
          refine lv_aload_n E.1 E.2.1 d_M_oneTick_20 rfl (lv_at hl 2 rfl) ?_
          refine k_getM E B 3 (by decide) wf_M_19 rfl rfl d_M_oneTick_21 ?_
          refine lv_iload_n E.1 E.2.1 d_M_oneTick_24 rfl (lv_at hl 0 rfl) ?_
          refine lv_aload_n E.1 E.2.1 d_M_oneTick_25 rfl (lv_at hl 2 rfl) ?_
          refine k_getM E B 7 (by decide) wf_M_34 rfl (fM_T rfl) d_M_oneTick_26 ?_
          refine k_istR E B 4 3 (ws' := wM a g (vAd v (upd (mAd v) b (nI (mT v))))) (aM_Ad rfl) rfl (by omega) (by decide) (wM_Ad _ _ _ _) d_M_oneTick_29 (fun H locs B => ?_)
          refine lv_iinc (v := nI (px + 1)) (lv' := [(1, .int (nI (px + 1))), (2, .int (nI b)), (0, .ref (a 0))]) E.1 E.2.1 d_M_oneTick_30 hl (k := 1) rfl (by rw [show Int32.ofInt 1 = nI 1 from rfl, nI_add]) (by decide) rfl (fun ls hl => ?_)
          refine lv_goto (tgt := 5) E.1 E.2.1 d_M_oneTick_33 (by decide) ?_
          exact ih (px + 1) _ _ _ _ (by omega) (by omega) hv2 hadm (lv_sub hl [0, 2] rfl) B
  refine lv_aload_n E.1 E.2.1 d_M_oneTick_0 rfl (lv_at hl 0 rfl) ?_
  refine k_calli (As := []) (rest := []) E (c_M_served l D a g u hM) kc_M_56 ⟨Nat.le_of_ble_eq_true rfl, Nat.le_of_ble_eq_true rfl⟩ B (show classes[1]? = _ from rfl) rfl hl.1 rfl (Nat.le_of_ble_eq_true rfl) d_M_oneTick_1 ⟨Nat.le_of_ble_eq_true rfl, Nat.le_of_ble_eq_true rfl⟩ (fun r u1 H locs hq B => ?_)
  obtain ⟨hu, hr⟩ := hq
  rw [hu] at B
  subst hr
  have hc24 : cntS u 2 ≤ 24 := Nat.le_trans (cnt_le _ _) hM.1
  refine lv_istore_n (lv' := [(1, .int (nI (cntS u 2))), (0, .ref (a 0))]) E.1 E.2.1 d_M_oneTick_4 rfl hl (by decide) rfl (fun ls hl => ?_)
  exact loop 8 (cntS u 2) u _ _ _ (by omega) hc24 hM eV1.symm (lv_sub hl [0, 1] rfl) B
set_option maxHeartbeats 4000000 in
set_option maxRecDepth 100000 in
/-- run(n) -/
theorem c_M_run (l : Launch) (D : va_G) (a : Nat → Nat) (g : Nat → ClassId) (u : PM) (n : Int32) (hM : MOK u) (hT : mT u + 5000 < 2 ^ 30) : MetI l y_M_run b_M_run 5 (some .int) 5 D (tM g) (wM a g) [.ref (a 0), .int n] u (fun r u' => u' = (runF (clampN n) u).1 ∧ r = nI (runF (clampN n) u).2) := by
  refine MetI.of (by decide) (Nat.le_of_ble_eq_true rfl) ?_
  intro p e s m args below meth c A Q ls E hl B ret
  have E : CallFix p m c b_M_run 5 s args lw_ws R_M := E
  have hl : lv_has ls 5 [(0, .ref (a 0)), (1, .int n)] := hl
  obtain ⟨k, ek⟩ : ∃ z, z = clampN n := ⟨_, rfl⟩
  have hk5 : k ≤ 5000 := by
    rw [ek]
    exact clampN_le n
  have loop : ∀ (z i dn : Nat) (v : PM) (H : Heap) (locs : List Loc) (ls : Array Slot), k - i ≤ z → i ≤ k → MOK v → mT v + (k - i) < 2 ^ 30 → (runF k u).1 = (runF (k - i) v).1 → (runF k u).2 = dn + (runF (k - i) v).2 → lv_has ls 5 [(4, .int (nI i)), (3, .int (nI dn)), (2, .int (nI k)), (0, .ref (a 0))] → wB D (tM g) s A s.heap (wM a g (v)) H locs → W p l e (rd 5) s m args below meth c H locs 0 0 Q (F0 m 28 ls []) := by
    intro z
    induction z with
    | zero =>
      intro i dn v H locs ls hz hi hv hTv r1 r2 hl B
      refine lv_iload E.1 E.2.1 d_M_run_28 (lv_at hl 0 rfl) ?_
      refine lv_iload_n E.1 E.2.1 d_M_run_30 rfl (lv_at hl 2 rfl) ?_
      refine k_icmp_ge E 64 (by omega) (by omega) d_M_run_31 (by decide) (fun h1 => ?_) (fun h1 => ?_)
      · skip
        rw [show k - i = 0 by omega] at r1 r2
        refine lv_iload_n E.1 E.2.1 d_M_run_64 rfl (lv_at hl 1 rfl) ?_
        exact ret _ _ _ _ _ _ ⟨by rw [← ek]; exact r1.symm, by rw [← ek, r2]; rfl⟩ rfl B d_M_run_65
      · skip
        exact absurd h1 (by omega)
    | succ z ih =>
      intro i dn v H locs ls hz hi hv hTv r1 r2 hl B
      refine lv_iload E.1 E.2.1 d_M_run_28 (lv_at hl 0 rfl) ?_
      refine lv_iload_n E.1 E.2.1 d_M_run_30 rfl (lv_at hl 2 rfl) ?_
      refine k_icmp_ge E 64 (by omega) (by omega) d_M_run_31 (by decide) (fun h1 => ?_) (fun h1 => ?_)
      · skip
        rw [show k - i = 0 by omega] at r1 r2
        refine lv_iload_n E.1 E.2.1 d_M_run_64 rfl (lv_at hl 1 rfl) ?_
        exact ret _ _ _ _ _ _ ⟨by rw [← ek]; exact r1.symm, by rw [← ek, r2]; rfl⟩ rfl B d_M_run_65
      · skip
        rw [show k - i = (k - (i + 1)) + 1 by omega] at r1 r2 hTv
        have r1 : (runF k u).1 = (runF (k - (i + 1)) (tickF v).1).1 := r1
        have r2 : (runF k u).2 = dn + ((tickF v).2 + (runF (k - (i + 1)) (tickF v).1).2) := r2
        have ht := tick_MOK hv (by omega)
        have hTt : mT (tickF v).1 + (k - (i + 1)) < 2 ^ 30 := by
          rw [tick_T]
          omega
        refine lv_aload_n E.1 E.2.1 d_M_run_34 rfl (lv_at hl 3 rfl) ?_
        refine k_calli (As := []) (rest := []) E (c_M_anyOpen l D a g v hv) kc_M_41 ⟨Nat.le_of_ble_eq_true rfl, Nat.le_of_ble_eq_true rfl⟩ B (show classes[1]? = _ from rfl) rfl hl.1 rfl (Nat.le_of_ble_eq_true rfl) d_M_run_35 ⟨Nat.le_of_ble_eq_true rfl, Nat.le_of_ble_eq_true rfl⟩ (fun r u1 H locs hq B => ?_)
        obtain ⟨hu, hr⟩ := hq
        rw [hu] at B
        refine lv_if_eq (tgt := 48) E.1 E.2.1 d_M_run_38 (by decide) (fun e1 => ?_) (fun e1 => ?_)
        · skip
          have hno : ∀ j, j < mJ v → ¬ (mGn v j = 0 ∧ mFi v j < 0) := by
            rcases hr with ⟨q, _⟩ | ⟨_, q⟩
            · exact absurd (e1.symm.trans q) (by decide)
            · exact q
          have hid := tick_idle hv hno
          have ht1 : (tickF v).1 = vT v (mT v + 1) := by
            unfold tickF
            rw [hid]
          have ht2 : (tickF v).2 = 0 := by
            unfold tickF
            rw [hid]
          refine lv_aload_n E.1 E.2.1 d_M_run_48 rfl (lv_at hl 3 rfl) ?_
          refine k_dup E rfl d_M_run_49 ?_
          refine k_getM E B 7 (by decide) wf_M_34 rfl (fM_T rfl) d_M_run_50 ?_
          refine k_iconst E 1 d_M_run_53 rfl ?_
          refine k_iadd E d_M_run_54 ?_
          refine k_putM (vT v ((mT v) + 1)) E B 7 (by decide) wf_M_34 rfl rfl rfl rfl (wM_T _ _ _ _) d_M_run_55 (fun H locs B => ?_)
          refine lv_iinc (v := nI (i + 1)) (lv' := [(4, .int (nI (i + 1))), (3, .int (nI dn)), (2, .int (nI k)), (0, .ref (a 0))]) E.1 E.2.1 d_M_run_58 hl (k := 0) rfl (by rw [show Int32.ofInt 1 = nI 1 from rfl, nI_add]) (by decide) rfl (fun ls hl => ?_)
          refine lv_goto (tgt := 28) E.1 E.2.1 d_M_run_61 (by decide) ?_
          rw [← ht1] at B
          exact ih (i + 1) dn _ _ _ _ (by omega) (by omega) ht hTt r1 (by rw [r2, ht2]; omega) (lv_sub hl [0, 1, 2, 3] rfl) B
        · skip
          refine lv_iload_n E.1 E.2.1 d_M_run_41 rfl (lv_at hl 1 rfl) ?_
          refine lv_aload_n E.1 E.2.1 d_M_run_42 rfl (lv_at hl 3 rfl) ?_
          refine k_calli (As := []) (rest := [.int (nI dn)]) E (c_M_oneTick l D a g v hv) kc_M_45 ⟨Nat.le_of_ble_eq_true rfl, Nat.le_of_ble_eq_true rfl⟩ B (show classes[1]? = _ from rfl) rfl hl.1 rfl (Nat.le_of_ble_eq_true rfl) d_M_run_43 ⟨Nat.le_of_ble_eq_true rfl, Nat.le_of_ble_eq_true rfl⟩ (fun r u1 H locs hq B => ?_)
          obtain ⟨hu, hr2⟩ := hq
          obtain ⟨v1, ev1⟩ : ∃ z, z = (oneTickF v).1 := ⟨_, rfl⟩
          rw [hu, ← ev1] at B
          subst hr2
          have hT1 : mT v1 = mT v := by
            rw [ev1]
            exact (oneTick_MOK hv).2.2
          have ht1 : (tickF v).1 = vT v1 (mT v1 + 1) := by
            unfold tickF
            rw [ev1]
            show vT _ _ = vT _ (mT (oneTickF v).1 + 1)
            rw [← ev1, hT1]
          refine k_iadd E d_M_run_46 ?_
          refine lv_istore_n (lv' := [(3, .int (nI (dn + ((oneTickF v).2)))), (4, .int (nI i)), (2, .int (nI k)), (0, .ref (a 0))]) E.1 E.2.1 d_M_run_47 rfl hl (by decide) rfl (fun ls hl => ?_)
          refine lv_aload_n E.1 E.2.1 d_M_run_48 rfl (lv_at hl 3 rfl) ?_
          refine k_dup E rfl d_M_run_49 ?_
          refine k_getM E B 7 (by decide) wf_M_34 rfl (fM_T rfl) d_M_run_50 ?_
          refine k_iconst E 1 d_M_run_53 rfl ?_
          refine k_iadd E d_M_run_54 ?_
          refine k_putM (vT v1 ((mT v1) + 1)) E B 7 (by decide) wf_M_34 rfl rfl rfl rfl (wM_T _ _ _ _) d_M_run_55 (fun H locs B => ?_)
          refine lv_iinc (v := nI (i + 1)) (lv' := [(4, .int (nI (i + 1))), (3, .int (nI (dn + ((oneTickF v).2)))), (2, .int (nI k)), (0, .ref (a 0))]) E.1 E.2.1 d_M_run_58 hl (k := 1) rfl (by rw [show Int32.ofInt 1 = nI 1 from rfl, nI_add]) (by decide) rfl (fun ls hl => ?_)
          refine lv_goto (tgt := 28) E.1 E.2.1 d_M_run_61 (by decide) ?_
          rw [← ht1] at B
          exact ih (i + 1) (dn + (oneTickF v).2) _ _ _ _ (by omega) (by omega) ht hTt r1 (by rw [r2]; show dn + ((oneTickF v).2 + _) = _; omega) (lv_sub hl [0, 1, 2, 3] rfl) B
  have j22 : ∀ (ls : Array Slot), lv_has ls 5 [(0, .ref (a 0))] → W p l e (rd 5) s m args below meth c s.heap [] 0 0 Q (F0 m 22 ls [.int (nI k)]) := by
    intro ls hl
    refine lv_istore_n (lv' := [(2, .int (nI k)), (0, .ref (a 0))]) E.1 E.2.1 d_M_run_22 rfl hl (by decide) rfl (fun ls hl => ?_)
    refine k_iconst E 0 d_M_run_23 rfl ?_
    refine lv_istore_n (lv' := [(3, .int (nI 0)), (2, .int (nI k)), (0, .ref (a 0))]) E.1 E.2.1 d_M_run_24 rfl hl (by decide) rfl (fun ls hl => ?_)
    refine k_iconst E 0 d_M_run_25 rfl ?_
    refine lv_istore (lv' := [(4, .int (nI 0)), (3, .int (nI 0)), (2, .int (nI k)), (0, .ref (a 0))]) E.1 E.2.1 d_M_run_26 hl (by decide) rfl (fun ls hl => ?_)
    exact loop k 0 0 u _ _ _ (by omega) (by omega) hM (by omega) rfl (by rw [Nat.zero_add]; rfl) (lv_sub hl [0, 1, 2, 3] rfl) B
  refine lv_iload_n E.1 E.2.1 d_M_run_0 rfl (lv_at hl 1 rfl) ?_
  refine lv_if_ge (tgt := 8) E.1 E.2.1 d_M_run_1 (by decide) (fun h1 => ?_) (fun h1 => ?_)
  · skip
    refine lv_iload_n E.1 E.2.1 d_M_run_8 rfl (lv_at hl 1 rfl) ?_
    refine k_sipush E 5000 d_M_run_9 rfl ?_
    refine lv_icmp_le (tgt := 21) E.1 E.2.1 d_M_run_12 (by decide) (fun h2 => ?_) (fun h2 => ?_)
    · skip
      refine lv_iload_n E.1 E.2.1 d_M_run_21 rfl (lv_at hl 1 rfl) ?_
      have hn := clampN_mid (i32_le_nlt h1) h2
      rw [← ek] at hn
      rw [hn]
      exact j22 _ (lv_sub hl [0] rfl)
    · skip
      have hk : k = 5000 := by
        rw [ek]
        unfold clampN
        rw [if_neg (i32_le_nlt h1), if_neg (show ¬ n ≤ 5000 from h2)]
      refine k_sipush E 5000 d_M_run_15 rfl ?_
      refine lv_goto (tgt := 22) E.1 E.2.1 d_M_run_18 (by decide) ?_
      rw [← hk]
      exact j22 _ (lv_sub hl [0] rfl)
  · skip
    have hk : k = 0 := by
      rw [ek]
      unfold clampN
      rw [if_pos (i32_nle h1)]
    refine k_iconst E 0 d_M_run_4 rfl ?_
    refine lv_goto (tgt := 22) E.1 E.2.1 d_M_run_5 (by decide) ?_
    have h9 := j22 _ (lv_sub hl [0] rfl)
    rw [hk] at h9
    exact h9
end
section
/-! counting, queues: no program in sight -/
theorem bij_cnt : ∀ {J n : Nat} {h : Nat → Nat} {P : Nat → Bool}, (∀ k, k < n → h k < J ∧ P (h k) = true) → (∀ j, j < J → P j = true → ∃ k, k < n ∧ h k = j) → (∀ k k', k < n → k' < n → h k = h k' → k = k') → cnt P J = n
  | 0, n, h, P, h1, _, _ => by
    rcases Nat.eq_zero_or_pos n with q | q
    · rw [q]
      rfl
    · have := (h1 0 q).1
      omega
  | J + 1, n, h, P, h1, h2, h3 => by
    show cnt P J + (if P J = true then 1 else 0) = n
    rcases hP : P J with _ | _
    · rw [if_neg (by decide)]
      refine bij_cnt (h := h) (fun k hk => ?_) (fun j hj hp => h2 j (by omega) hp) h3
      obtain ⟨q1, q2⟩ := h1 k hk
      refine ⟨?_, q2⟩
      rcases (show h k < J ∨ h k = J by omega) with q | q
      · exact q
      · rw [q, hP] at q2
        cases q2
    · rw [if_pos rfl]
      obtain ⟨k0, hk0, e0⟩ := h2 J (by omega) hP
      obtain ⟨n', rfl⟩ : ∃ n', n = n' + 1 := ⟨n - 1, by omega⟩
      congr 1
      refine bij_cnt (h := fun k => if k < k0 then h k else h (k + 1)) (fun k hk => ?_) (fun j hj hp => ?_) (fun k k' hk hk' he => ?_)
      · show (if k < k0 then h k else h (k + 1)) < J ∧ P (if k < k0 then h k else h (k + 1)) = true
        by_cases c : k < k0
        · rw [if_pos c]
          obtain ⟨q1, q2⟩ := h1 k (by omega)
          refine ⟨?_, q2⟩
          rcases (show h k < J ∨ h k = J by omega) with q | q
          · exact q
          · have := h3 k k0 (by omega) hk0 (q.trans e0.symm)
            omega
        · rw [if_neg c]
          obtain ⟨q1, q2⟩ := h1 (k + 1) (by omega)
          refine ⟨?_, q2⟩
          rcases (show h (k + 1) < J ∨ h (k + 1) = J by omega) with q | q
          · exact q
          · have := h3 (k + 1) k0 (by omega) hk0 (q.trans e0.symm)
            omega
      · obtain ⟨k, hk, e⟩ := h2 j (by omega) hp
        have hne : k ≠ k0 := fun q => by
          rw [q, e0] at e
          omega
        rcases (show k < k0 ∨ k0 < k by omega) with q | q
        · exact ⟨k, by omega, by show (if k < k0 then h k else h (k + 1)) = j; rw [if_pos q]; exact e⟩
        · refine ⟨k - 1, by omega, ?_⟩
          show (if k - 1 < k0 then h (k - 1) else h (k - 1 + 1)) = j
          rw [if_neg (by omega), show k - 1 + 1 = k by omega]
          exact e
      · have he : (if k < k0 then h k else h (k + 1)) = (if k' < k0 then h k' else h (k' + 1)) := he
        by_cases c : k < k0 <;> by_cases c' : k' < k0
        · rw [if_pos c, if_pos c'] at he
          exact h3 k k' (by omega) (by omega) he
        · rw [if_pos c, if_neg c'] at he
          have := h3 k (k' + 1) (by omega) (by omega) he
          omega
        · rw [if_neg c, if_pos c'] at he
          have := h3 (k + 1) k' (by omega) (by omega) he
          omega
        · rw [if_neg c, if_neg c'] at he
          have := h3 (k + 1) (k' + 1) (by omega) (by omega) he
          omega
theorem Bij.count {h : Nat → Nat} {n J : Nat} {S : Nat → Prop} {P : Nat → Bool} (H : Bij h n S) (hS : ∀ j, S j ↔ (j < J ∧ P j = true)) : cnt P J = n :=
  bij_cnt (fun k hk => (hS _).mp (H.1 k hk)) (fun j hj hp => H.2.1 j ((hS j).mpr ⟨hj, hp⟩)) H.2.2
theorem cnt_split {P Q R : Nat → Bool} : ∀ {n : Nat}, (∀ j, j < n → (P j = true ↔ (Q j = true ∨ R j = true)) ∧ ¬ (Q j = true ∧ R j = true)) → cnt P n = cnt Q n + cnt R n
  | 0, _ => rfl
  | n + 1, h => by
    have ih := cnt_split (n := n) (fun j hj => h j (by omega))
    obtain ⟨h1, h2⟩ := h n (by omega)
    show cnt P n + (if P n = true then 1 else 0) = cnt Q n + (if Q n = true then 1 else 0) + (cnt R n + (if R n = true then 1 else 0))
    rw [ih]
    by_cases q : Q n = true
    · rw [if_pos q, if_pos (h1.mpr (Or.inl q)), if_neg (fun z => h2 ⟨q, z⟩)]
      omega
    · by_cases r : R n = true
      · rw [if_neg q, if_pos (h1.mpr (Or.inr r)), if_pos r]
        omega
      · rw [if_neg q, if_neg (fun z => (h1.mp z).elim q r), if_neg r]
        omega
theorem cnt_disj {P Q : Nat → Bool} : ∀ {n : Nat}, (∀ j, j < n → ¬ (P j = true ∧ Q j = true)) → cnt P n + cnt Q n ≤ n
  | 0, _ => Nat.le_refl _
  | n + 1, h => by
    have ih := cnt_disj (n := n) (fun j hj => h j (by omega))
    have h2 := h n (by omega)
    show cnt P n + (if P n = true then 1 else 0) + (cnt Q n + (if Q n = true then 1 else 0)) ≤ n + 1
    by_cases q : P n = true
    · rw [if_pos q, if_neg (fun z => h2 ⟨q, z⟩)]
      omega
    · rw [if_neg q]
      split <;> omega
/-- a queue: S in the order of κ -/
def Que (κ : Nat → Nat) (q : Nat → Nat) (n : Nat) (S : Nat → Prop) : Prop := Bij q n S ∧ ∀ i j, i < j → j < n → κ (q i) < κ (q j)
theorem Que.congr {κ q : Nat → Nat} {n : Nat} {S S' : Nat → Prop} (H : Que κ q n S) (hS : ∀ j, S j ↔ S' j) : Que κ q n S' := ⟨H.1.congr hS, H.2⟩
/-- a queue of other keys, alike on S -/
theorem Que.keys {κ κ' q : Nat → Nat} {n : Nat} {S : Nat → Prop} (H : Que κ q n S) (hκ : ∀ j, S j → κ j = κ' j) : Que κ' q n S :=
  ⟨H.1, fun i j hij hj => by rw [← hκ _ (H.1.1 i (by omega)), ← hκ _ (H.1.1 j hj)]; exact H.2 i j hij hj⟩
theorem Que.of {κ q : Nat → Nat} {n : Nat} {S : Nat → Prop} (h1 : ∀ k, k < n → S (q k)) (h2 : ∀ j, S j → ∃ k, k < n ∧ q k = j) (h3 : ∀ i j, i < j → j < n → κ (q i) < κ (q j)) : Que κ q n S := by
  refine ⟨⟨h1, h2, fun k k' hk hk' he => ?_⟩, h3⟩
  rcases Nat.lt_trichotomy k k' with c | c | c
  · have := h3 k k' c hk'
    rw [he] at this
    omega
  · exact c
  · have := h3 k' k c hk
    rw [he] at this
    omega
/-- the first n of a queue leave -/
theorem Que.drop {κ q q' : Nat → Nat} {c n : Nat} {S S' : Nat → Prop} (H : Que κ q c S) (hn : n ≤ c) (hq : ∀ i, i < c - n → q' i = q (i + n)) (hS : ∀ j, S' j ↔ (S j ∧ ∀ i, i < n → j ≠ q i)) : Que κ q' (c - n) S' := by
  refine Que.of (fun k hk => ?_) (fun j hj => ?_) (fun i j hij hj => ?_)
  · rw [hq k hk, hS]
    refine ⟨H.1.1 _ (by omega), fun i hi he => ?_⟩
    have := H.1.2.2 (k + n) i (by omega) (by omega) he
    omega
  · obtain ⟨s1, s2⟩ := (hS j).mp hj
    obtain ⟨k, hk, e⟩ := H.1.2.1 j s1
    have hkn : n ≤ k := by
      rcases Nat.lt_or_ge k n with z | z
      · exact absurd e.symm (s2 k z)
      · exact z
    exact ⟨k - n, by omega, by rw [hq _ (by omega), show k - n + n = k by omega]; exact e⟩
  · rw [hq i (by omega), hq j hj]
    exact H.2 _ _ (by omega) (by omega)
/-- the one at place pp leaves -/
theorem Que.cut {κ q q' : Nat → Nat} {c pp : Nat} {S : Nat → Prop} (H : Que κ q c S) (hp : pp < c) (hq : ∀ i, i < c - 1 → q' i = if i < pp then q i else q (i + 1)) : Que κ q' (c - 1) (fun j => S j ∧ j ≠ q pp) := by
  refine Que.of (fun k hk => ?_) (fun j hj => ?_) (fun i j hij hj => ?_)
  · rw [hq k hk]
    split
    · refine ⟨H.1.1 _ (by omega), fun he => ?_⟩
      have := H.1.2.2 k pp (by omega) hp he
      omega
    · refine ⟨H.1.1 _ (by omega), fun he => ?_⟩
      have := H.1.2.2 (k + 1) pp (by omega) hp he
      omega
  · obtain ⟨k, hk, e⟩ := H.1.2.1 j hj.1
    have hne : k ≠ pp := fun z => hj.2 (by rw [← e, z])
    rcases (show k < pp ∨ pp < k by omega) with z | z
    · exact ⟨k, by omega, by rw [hq k (by omega), if_pos z]; exact e⟩
    · exact ⟨k - 1, by omega, by rw [hq _ (by omega), if_neg (by omega), show k - 1 + 1 = k by omega]; exact e⟩
  · rw [hq i (by omega), hq j hj]
    split <;> split <;> exact H.2 _ _ (by omega) (by omega)
/-- one more comes in at place pp -/
theorem Que.ins {κ q q' : Nat → Nat} {c pp x : Nat} {S : Nat → Prop} (H : Que κ q c S) (hp : pp ≤ c) (q1 : ∀ i, i < pp → q' i = q i) (q2 : q' pp = x) (q3 : ∀ i, pp ≤ i → i < c → q' (i + 1) = q i) (k1 : ∀ i, i < pp → κ (q i) < κ x) (k2 : ∀ i, pp ≤ i → i < c → κ x < κ (q i)) : Que κ q' (c + 1) (fun j => j = x ∨ S j) := by
  have hc : ∀ k, k < c + 1 → (k < pp ∧ q' k = q k) ∨ (k = pp ∧ q' k = x) ∨ (pp < k ∧ q' k = q (k - 1)) := by
    intro k hk
    rcases Nat.lt_trichotomy k pp with z | z | z
    · exact Or.inl ⟨z, q1 k z⟩
    · exact Or.inr (Or.inl ⟨z, by rw [z]; exact q2⟩)
    · refine Or.inr (Or.inr ⟨z, ?_⟩)
      have := q3 (k - 1) (by omega) (by omega)
      rw [show k - 1 + 1 = k by omega] at this
      exact this
  refine Que.of (fun k hk => ?_) (fun j hj => ?_) (fun i j hij hj => ?_)
  · rcases hc k hk with ⟨z, e⟩ | ⟨z, e⟩ | ⟨z, e⟩
    · rw [e]
      exact Or.inr (H.1.1 k (by omega))
    · rw [e]
      exact Or.inl rfl
    · rw [e]
      exact Or.inr (H.1.1 (k - 1) (by omega))
  · rcases hj with rfl | hj
    · exact ⟨pp, by omega, q2⟩
    · obtain ⟨k, hk, e⟩ := H.1.2.1 j hj
      rcases Nat.lt_or_ge k pp with z | z
      · exact ⟨k, by omega, by rw [q1 k z]; exact e⟩
      · exact ⟨k + 1, by omega, by rw [q3 k z hk]; exact e⟩
  · rcases hc i (by omega) with ⟨z, e⟩ | ⟨z, e⟩ | ⟨z, e⟩ <;> rcases hc j hj with ⟨z', e'⟩ | ⟨z', e'⟩ | ⟨z', e'⟩ <;> rw [e, e']
    · exact H.2 i j hij (by omega)
    · exact k1 i z
    · exact H.2 i (j - 1) (by omega) (by omega)
    · omega
    · omega
    · exact k2 _ (by omega) (by omega)
    · omega
    · omega
    · exact H.2 _ _ (by omega) (by omega)
/-- two queues, all of the first ahead of all of the second -/
theorem Que.cat {κ q r q' : Nat → Nat} {c n : Nat} {S S' S2 : Nat → Prop} (H : Que κ q c S) (h1 : ∀ i, i < c → q' i = q i) (h2 : ∀ i, i < n → q' (c + i) = r i) (hr : ∀ i, i < n → S2 (r i)) (hr2 : ∀ j, S2 j → ∃ i, i < n ∧ r i = j) (ho : ∀ i j, i < j → j < n → κ (r i) < κ (r j)) (hx : ∀ i j, S i → S2 j → κ i < κ j) (hS : ∀ j, S' j ↔ (S j ∨ S2 j)) : Que κ q' (c + n) S' := by
  refine Que.of (fun k hk => ?_) (fun j hj => ?_) (fun i j hij hj => ?_)
  · rw [hS]
    rcases Nat.lt_or_ge k c with z | z
    · rw [h1 k z]
      exact Or.inl (H.1.1 k z)
    · have := h2 (k - c) (by omega)
      rw [show c + (k - c) = k by omega] at this
      rw [this]
      exact Or.inr (hr _ (by omega))
  · rcases (hS j).mp hj with z | z
    · obtain ⟨k, hk, e⟩ := H.1.2.1 j z
      exact ⟨k, by omega, by rw [h1 k hk]; exact e⟩
    · obtain ⟨k, hk, e⟩ := hr2 j z
      exact ⟨c + k, by omega, by rw [h2 k hk]; exact e⟩
  · rcases Nat.lt_or_ge j c with z | z
    · rw [h1 i (by omega), h1 j z]
      exact H.2 i j hij z
    · have e2 := h2 (j - c) (by omega)
      rw [show c + (j - c) = j by omega] at e2
      rcases Nat.lt_or_ge i c with y | y
      · rw [h1 i y, e2]
        exact hx _ _ (H.1.1 i y) (hr _ (by omega))
      · have e1 := h2 (i - c) (by omega)
        rw [show c + (i - c) = i by omega] at e1
        rw [e1, e2]
        exact ho _ _ (by omega) (by omega)
theorem key_lt_of {ar : Nat → Nat} {i j : Nat} (hi : i < 24) (h : ar i < ar j) : key ar i < key ar j := by
  unfold key
  omega
theorem key_le_ar {ar : Nat → Nat} {i j : Nat} (hi : i < 24) (hj : j < 24) (h : key ar i < key ar j) : ar i ≤ ar j := by
  unfold key at h
  omega
end
section
/-! the link of the class's picture with the model's: no program in sight -/
def mstB (v : PM) (b j : Nat) : Nat := if mGn v j ≠ 0 then 4 else if 0 ≤ mFi v j then 3 else if 0 ≤ mAd v j then 2 else if mAr v j < b then 1 else 0
theorem mst_B (v : PM) (j : Nat) : mst v j = mstB v (mT v) j := rfl
abbrev Wt (v : PM) (j : Nat) : Prop := mGn v j = 0 ∧ mFi v j < 0 ∧ mAd v j < 0
theorem mstB_cases (v : PM) (b j : Nat) : (mGn v j ≠ 0 ∧ mstB v b j = 4) ∨ (mGn v j = 0 ∧ 0 ≤ mFi v j ∧ mstB v b j = 3) ∨ (shr v j ∧ mstB v b j = 2) ∨ (Wt v j ∧ mAr v j < b ∧ mstB v b j = 1) ∨ (Wt v j ∧ b ≤ mAr v j ∧ mstB v b j = 0) := by
  unfold mstB
  by_cases h1 : mGn v j ≠ 0
  · left
    rw [if_pos h1]
    exact ⟨h1, rfl⟩
  · have h1' : mGn v j = 0 := Classical.not_not.mp h1
    rw [if_neg h1]
    by_cases h2 : 0 ≤ mFi v j
    · right; left
      rw [if_pos h2]
      exact ⟨h1', h2, rfl⟩
    · rw [if_neg h2]
      by_cases h3 : 0 ≤ mAd v j
      · right; right; left
        rw [if_pos h3]
        exact ⟨⟨h1', h3, i32_nle h2⟩, rfl⟩
      · rw [if_neg h3]
        by_cases h4 : mAr v j < b
        · right; right; right; left
          rw [if_pos h4]
          exact ⟨⟨h1', i32_nle h2, i32_nle h3⟩, h4, rfl⟩
        · right; right; right; right
          rw [if_neg h4]
          exact ⟨⟨h1', i32_nle h2, i32_nle h3⟩, by omega, rfl⟩
theorem shr_Wt {v : PM} {j : Nat} (h : shr v j) (w : Wt v j) : False := i32_le_nlt h.2.1 w.2.2
theorem mstB_2 {v : PM} {b j : Nat} : mstB v b j = 2 ↔ shr v j := by
  rcases mstB_cases v b j with ⟨h, e⟩ | ⟨h, h', e⟩ | ⟨h, e⟩ | ⟨h, h', e⟩ | ⟨h, h', e⟩ <;> rw [e]
  · exact ⟨fun q => by omega, fun q => absurd q.1 h⟩
  · exact ⟨fun q => by omega, fun q => absurd h' (i32_lt_nle q.2.2)⟩
  · exact ⟨fun _ => h, fun _ => rfl⟩
  · exact ⟨fun q => by omega, fun q => (shr_Wt q h).elim⟩
  · exact ⟨fun q => by omega, fun q => (shr_Wt q h).elim⟩
theorem mstB_1 {v : PM} {b j : Nat} : mstB v b j = 1 ↔ (Wt v j ∧ mAr v j < b) := by
  rcases mstB_cases v b j with ⟨h, e⟩ | ⟨h, h', e⟩ | ⟨h, e⟩ | ⟨h, h', e⟩ | ⟨h, h', e⟩ <;> rw [e]
  · exact ⟨fun q => by omega, fun q => absurd q.1.1 h⟩
  · exact ⟨fun q => by omega, fun q => absurd h' (i32_lt_nle q.1.2.1)⟩
  · exact ⟨fun q => by omega, fun q => (shr_Wt h q.1).elim⟩
  · exact ⟨fun _ => ⟨h, h'⟩, fun _ => rfl⟩
  · exact ⟨fun q => by omega, fun q => by have := q.2; omega⟩
theorem mstB_0 {v : PM} {b j : Nat} : mstB v b j = 0 ↔ (Wt v j ∧ b ≤ mAr v j) := by
  rcases mstB_cases v b j with ⟨h, e⟩ | ⟨h, h', e⟩ | ⟨h, e⟩ | ⟨h, h', e⟩ | ⟨h, h', e⟩ <;> rw [e]
  · exact ⟨fun q => by omega, fun q => absurd q.1.1 h⟩
  · exact ⟨fun q => by omega, fun q => absurd h' (i32_lt_nle q.1.2.1)⟩
  · exact ⟨fun q => by omega, fun q => (shr_Wt h q.1).elim⟩
  · exact ⟨fun q => by omega, fun q => by have := q.2; omega⟩
  · exact ⟨fun _ => ⟨h, h'⟩, fun _ => rfl⟩
theorem mstB_step {v : PM} {b j : Nat} (h : ¬ (Wt v j ∧ mAr v j = b)) : mstB v (b + 1) j = mstB v b j := by
  rcases mstB_cases v b j with ⟨h1, e⟩ | ⟨h1, h', e⟩ | ⟨h1, e⟩ | ⟨h1, h', e⟩ | ⟨h1, h', e⟩
  · rw [e]
    unfold mstB
    rw [if_pos h1]
  · rw [e]
    unfold mstB
    rw [if_neg (by omega), if_pos h']
  · rw [e]
    exact mstB_2.mpr h1
  · rw [e]
    exact mstB_1.mpr ⟨h1, by omega⟩
  · rw [e]
    refine mstB_0.mpr ⟨h1, ?_⟩
    rcases Nat.lt_or_ge b (mAr v j) with q | q
    · exact q
    · exact absurd ⟨h1, by omega⟩ h
def LkC (b T J : Nat) (sz ar st : Nat → Nat) (ad fi : Nat → Int32) (wk : Nat → Nat) (ct : Nat) (mk : Nat → Nat) (hp : Nat) (hj : Nat → Nat) (cm : Nat) (cj : Nat → Nat) (il : Nat) (lj : Nat → Nat) (v : PM) : Prop :=
  (T = mT v ∧ J = mJ v ∧ MOK v) ∧
  (∀ j, j < mJ v → sz j = mSz v j ∧ ar j = mAr v j ∧ ad j = mAd v j ∧ fi j = mFi v j ∧ st j = mstB v b j ∧ 1 ≤ mSz v j) ∧
  (∀ j, j < mJ v → (mstB v b j = 2 → mk j + mWk v j = ct + mSz v j ∧ mWk v j < mSz v j) ∧ (mstB v b j ≠ 2 → wk j = mWk v j) ∧ (mstB v b j < 2 → mWk v j = 0)) ∧
  (hp ≤ 8 ∧ Hp (key mk) hj hp (fun j => j < mJ v ∧ mstB v b j = 2)) ∧
  Que (key (mAr v)) cj cm (fun j => j < mJ v ∧ mstB v b j = 0) ∧
  Que (key (mAr v)) lj il (fun j => j < mJ v ∧ mstB v b j = 1) ∧
  ((∀ k, k < 24 → mk k ≤ ct + 100000) ∧ ct ≤ 840 * T)
theorem LkC.room {b T J : Nat} {sz ar st : Nat → Nat} {ad fi : Nat → Int32} {wk : Nat → Nat} {ct : Nat} {mk : Nat → Nat} {hp : Nat} {hj : Nat → Nat} {cm : Nat} {cj : Nat → Nat} {il : Nat} {lj : Nat → Nat} {v : PM} (L : LkC b T J sz ar st ad fi wk ct mk hp hj cm cj il lj v) : il + cm ≤ 24 ∧ cntS v 2 = hp := by
  obtain ⟨⟨eT, eJ, hM⟩, -, -, ⟨-, hH⟩, hC, hL, -⟩ := L
  have h0 : cnt (fun j => mstB v b j == 0) (mJ v) = cm := hC.1.count (fun j => by rw [beq_iff_eq])
  have h1 : cnt (fun j => mstB v b j == 1) (mJ v) = il := hL.1.count (fun j => by rw [beq_iff_eq])
  have h2 : cntS v 2 = hp := hH.1.count (fun j => by rw [beq_iff_eq, mst_2, mstB_2])
  have hd := cnt_disj (P := fun j => mstB v b j == 1) (Q := fun j => mstB v b j == 0) (n := mJ v) (fun j _ q => by
    have q1 := beq_iff_eq.mp q.1
    have q2 := beq_iff_eq.mp q.2
    omega)
  have := hM.1
  exact ⟨by omega, h2⟩
set_option maxHeartbeats 1000000 in
theorem arrive_C {T J : Nat} {sz ar st : Nat → Nat} {ad fi : Nat → Int32} {wk : Nat → Nat} {ct : Nat} {mk : Nat → Nat} {hp : Nat} {hj : Nat → Nat} {cm : Nat} {cj : Nat → Nat} {il : Nat} {lj : Nat → Nat} {v : PM} (L : LkC T T J sz ar st ad fi wk ct mk hp hj cm cj il lj v) {n : Nat} {st' cj' lj' : Nat → Nat} (hn : n ≤ cm) (h1 : ∀ i, i < n → ar (cj i) ≤ T) (h2 : n < cm → T < ar (cj n)) (h3 : ∀ i, i < cm - n → cj' i = cj (i + n)) (h4 : ∀ i, i < il → lj' i = lj i) (h5 : ∀ i, i < n → lj' (il + i) = cj i) (h6 : ∀ i, i < n → st' (cj i) = 1) (h7 : ∀ j, (∀ i, i < n → j ≠ cj i) → st' j = st j) :
    LkC (T + 1) T J sz ar st' ad fi wk ct mk hp hj (cm - n) cj' (il + n) lj' v ∧ ∀ i, i < cm - n → T < mAr v (cj' i) := by
  obtain ⟨⟨eT, eJ, hM⟩, hv, hw, ⟨h8, hH⟩, hC, hL, hb⟩ := L
  have hJ := hM.1
  have c0 : ∀ i, i < cm → cj i < mJ v ∧ Wt v (cj i) ∧ T ≤ mAr v (cj i) ∧ ar (cj i) = mAr v (cj i) := fun i hi => by
    obtain ⟨q1, q2⟩ := hC.1.1 i hi
    exact ⟨q1, (mstB_0.mp q2).1, (mstB_0.mp q2).2, (hv _ q1).2.1⟩
  have cA : ∀ i, i < n → mAr v (cj i) = T := fun i hi => by
    have q1 := h1 i hi
    obtain ⟨z1, z2, z3, z4⟩ := c0 i (by omega)
    omega
  have cB : ∀ i, n ≤ i → i < cm → T < mAr v (cj i) := fun i hi hc => by
    have q1 := h2 (by omega)
    obtain ⟨z1, z2, z3, z4⟩ := c0 n (by omega)
    obtain ⟨y1, y2, y3, y4⟩ := c0 i hc
    rcases (show i = n ∨ n < i by omega) with e | e
    · rw [e]
      omega
    · have := key_le_ar (by omega) (by omega) (hC.2 n i e hc)
      omega
  have hmv : ∀ j, j < mJ v → ((∃ i, i < n ∧ j = cj i) ↔ (Wt v j ∧ mAr v j = T)) := fun j hj => by
    constructor
    · rintro ⟨i, hi, rfl⟩
      exact ⟨(c0 i (by omega)).2.1, cA i hi⟩
    · rintro ⟨q1, q2⟩
      obtain ⟨k, hk, e⟩ := hC.1.2.1 j ⟨hj, mstB_0.mpr ⟨q1, by omega⟩⟩
      rcases Nat.lt_or_ge k n with z | z
      · exact ⟨k, z, e.symm⟩
      · have := cB k z hk
        rw [e] at this
        omega
  have hst : ∀ j, j < mJ v → st' j = mstB v (T + 1) j := fun j hj => by
    rcases Classical.em (∃ i, i < n ∧ j = cj i) with q | q
    · have q2 := (hmv j hj).mp q
      rw [mstB_1.mpr ⟨q2.1, by omega⟩]
      obtain ⟨i, hi, rfl⟩ := q
      exact h6 i hi
    · rw [h7 j (fun i hi e => q ⟨i, hi, e⟩), mstB_step (fun z => q ((hmv j hj).mpr z))]
      exact (hv j hj).2.2.2.2.1
  have h22 : ∀ j, mstB v (T + 1) j = 2 ↔ mstB v T j = 2 := fun j => by rw [mstB_2, mstB_2]
  refine ⟨⟨⟨eT, eJ, hM⟩, fun j hj => ?_, fun j hj => ?_, ⟨h8, hH.congr (fun j => by rw [h22]) (fun _ _ => rfl)⟩, ?_, ?_, hb⟩, ?_⟩
  · obtain ⟨q1, q2, q3, q4, q5, q6⟩ := hv j hj
    exact ⟨q1, q2, q3, q4, hst j hj, q6⟩
  · obtain ⟨q1, q2, q3⟩ := hw j hj
    refine ⟨fun z => q1 ((h22 j).mp z), fun z => q2 (fun y => z ((h22 j).mpr y)), fun z => ?_⟩
    rcases mstB_cases v (T + 1) j with ⟨_, e⟩ | ⟨_, _, e⟩ | ⟨_, e⟩ | ⟨hW, _, e⟩ | ⟨hW, _, e⟩
    · omega
    · omega
    · omega
    · rcases mstB_cases v T j with ⟨y, e'⟩ | ⟨_, y, e'⟩ | ⟨y, e'⟩ | ⟨_, _, e'⟩ | ⟨_, _, e'⟩
      · exact absurd hW.1 y
      · exact absurd y (i32_lt_nle hW.2.1)
      · exact (shr_Wt y hW).elim
      · exact q3 (by omega)
      · exact q3 (by omega)
    · rcases mstB_cases v T j with ⟨y, e'⟩ | ⟨_, y, e'⟩ | ⟨y, e'⟩ | ⟨_, _, e'⟩ | ⟨_, _, e'⟩
      · exact absurd hW.1 y
      · exact absurd y (i32_lt_nle hW.2.1)
      · exact (shr_Wt y hW).elim
      · exact q3 (by omega)
      · exact q3 (by omega)
  · refine hC.drop hn h3 (fun j => ?_)
    constructor
    · rintro ⟨q1, q2⟩
      have q3 := mstB_0.mp q2
      refine ⟨⟨q1, mstB_0.mpr ⟨q3.1, by omega⟩⟩, fun i hi e => ?_⟩
      have := ((hmv j q1).mp ⟨i, hi, e⟩).2
      omega
    · rintro ⟨⟨q1, q2⟩, q3⟩
      have q4 := mstB_0.mp q2
      refine ⟨q1, mstB_0.mpr ⟨q4.1, ?_⟩⟩
      rcases (show mAr v j = T ∨ T < mAr v j by omega) with z | z
      · obtain ⟨i, hi, e⟩ := (hmv j q1).mpr ⟨q4.1, z⟩
        exact absurd e (q3 i hi)
      · exact z
  · refine hL.cat (r := cj) (S2 := fun j => j < mJ v ∧ Wt v j ∧ mAr v j = T) h4 h5 (fun i hi => ⟨(c0 i (by omega)).1, (c0 i (by omega)).2.1, cA i hi⟩) (fun j hj => ?_) (fun i j hij hj => hC.2 i j hij (by omega)) (fun i j hi hj => ?_) (fun j => ?_)
    · obtain ⟨i, hi, e⟩ := (hmv j hj.1).mpr hj.2
      exact ⟨i, hi, e.symm⟩
    · refine key_lt_of (by have := hi.1; omega) ?_
      have q1 := (mstB_1.mp hi.2).2
      have q2 := hj.2.2
      omega
    · constructor
      · rintro ⟨q1, q2⟩
        have q3 := mstB_1.mp q2
        rcases (show mAr v j = T ∨ mAr v j < T by omega) with z | z
        · exact Or.inr ⟨q1, q3.1, z⟩
        · exact Or.inl ⟨q1, mstB_1.mpr ⟨q3.1, z⟩⟩
      · rintro (⟨q1, q2⟩ | ⟨q1, q2, q3⟩)
        · have q3 := mstB_1.mp q2
          exact ⟨q1, mstB_1.mpr ⟨q3.1, by omega⟩⟩
        · exact ⟨q1, mstB_1.mpr ⟨q2, by omega⟩⟩
  · intro i hi
    rw [h3 i hi]
    exact cB _ (by omega) (by omega)
theorem InL_iff {v : PM} (hM : MOK v) {j : Nat} (hj : j < mJ v) : InL v j ↔ mstB v (mT v + 1) j = 1 := by
  rw [mstB_1]
  constructor
  · rintro ⟨q1, q2, q3⟩
    refine ⟨⟨q1, ?_, q2⟩, by omega⟩
    rcases Classical.em (mFi v j < 0) with z | z
    · exact z
    · exact absurd ((hM.2.2 j hj).2.2.2.2 (i32_nlt z)) (i32_lt_nle q2)
  · rintro ⟨⟨q1, q2, q3⟩, q4⟩
    exact ⟨q1, q3, by omega⟩
def Line (v : PM) (q : Nat → Nat) (n : Nat) : Prop := Que (key (mAr v)) q n (fun j => j < mJ v ∧ InL v j)
theorem adm1_nil {v : PM} {q : Nat → Nat} (h : Line v q 0) : adm1 v = v := by
  unfold adm1
  rcases frontN_spec (v := v) (mJ v) with ⟨e, _⟩ | ⟨b, e, h2, h3, _⟩
  · rw [e]
  · obtain ⟨k, hk, _⟩ := h.1.2.1 b ⟨h2, h3⟩
    omega
theorem admF_nil {v : PM} {q : Nat → Nat} (h : Line v q 0) : ∀ k, admF k v = v
  | 0 => rfl
  | k + 1 => by
    unfold admF
    rw [adm1_nil h]
    exact admF_nil h k
theorem adm1_line {v : PM} {q : Nat → Nat} {n : Nat} (hM : MOK v) (h : Line v q (n + 1)) : adm1 v = vAd v (upd (mAd v) (q 0) (nI (mT v))) ∧ Line (adm1 v) (fun i => q (i + 1)) n := by
  have hT := hM.2.1
  have hJ := hM.1
  have q0 := h.1.1 0 (by omega)
  have ea : adm1 v = vAd v (upd (mAd v) (q 0) (nI (mT v))) := by
    unfold adm1
    rcases frontN_spec (v := v) (mJ v) with ⟨e, hno⟩ | ⟨b, e, h2, h3, h4⟩
    · exact absurd q0.2 (hno _ q0.1)
    · rw [e]
      obtain ⟨k, hk, ek⟩ := h.1.2.1 b ⟨h2, h3⟩
      have hb : b = q 0 := by
        rcases Nat.eq_zero_or_pos k with z | z
        · rw [← ek, z]
        · have z1 := h.2 0 k z hk
          have z2 := h4 (q 0) q0.1 q0.2
          rw [ek] at z1
          unfold key at z1
          omega
      rw [hb]
  refine ⟨ea, ?_⟩
  have hd := Que.drop (n := 1) (q' := fun i => q (i + 1)) (S' := fun j => j < mJ v ∧ InL v j ∧ j ≠ q 0) h (by omega) (fun i hi => rfl) (fun j => ?_)
  · rw [Nat.add_sub_cancel] at hd
    rw [ea]
    refine hd.congr (fun j => ?_)
    show (j < mJ v ∧ InL v j ∧ j ≠ q 0) ↔ (j < mJ v ∧ mGn v j = 0 ∧ upd (mAd v) (q 0) (nI (mT v)) j < 0 ∧ mAr v j ≤ mT v)
    by_cases e : j = q 0
    · rw [e, pk_us]
      exact ⟨fun z => absurd rfl z.2.2, fun z => absurd z.2.2.1 (nI_pos (by omega))⟩
    · rw [pk_un e]
      exact ⟨fun z => ⟨z.1, z.2.1⟩, fun z => ⟨z.1, z.2, e⟩⟩
  · constructor
    · rintro ⟨z1, z2, z3⟩
      exact ⟨⟨z1, z2⟩, fun i hi => by rw [show i = 0 by omega]; exact z3⟩
    · rintro ⟨⟨z1, z2⟩, z3⟩
      exact ⟨z1, z2, z3 0 (by omega)⟩
theorem admF_line : ∀ (k : Nat) {n : Nat} {q : Nat → Nat} {v : PM}, MOK v → Line v q n → (∀ j, (∀ i, i < k → i < n → j ≠ q i) → mAd (admF k v) j = mAd v j) ∧ ∀ i, i < k → i < n → mAd (admF k v) (q i) = nI (mT v)
  | 0, _, _, _, _, _ => ⟨fun _ _ => rfl, fun i hi => by omega⟩
  | k + 1, 0, q, v, hM, h => by
    rw [admF_nil h]
    exact ⟨fun _ _ => rfl, fun i _ hi => by omega⟩
  | k + 1, n + 1, q, v, hM, h => by
    obtain ⟨ea, hl⟩ := adm1_line hM h
    obtain ⟨i1, i2⟩ := admF_line k (adm1_MOK hM) hl
    have hT : mT (adm1 v) = mT v := (adm1_keep v).2.1
    have hA : mAd (adm1 v) = upd (mAd v) (q 0) (nI (mT v)) := by rw [ea]; rfl
    show (∀ j, _ → mAd (admF k (adm1 v)) j = mAd v j) ∧ ∀ i, i < k + 1 → i < n + 1 → mAd (admF k (adm1 v)) (q i) = nI (mT v)
    refine ⟨fun j hj => ?_, fun i hi hi2 => ?_⟩
    · rw [i1 j (fun i a b => hj (i + 1) (by omega) (by omega)), hA, pk_un (hj 0 (by omega) (by omega))]
    · rcases Nat.eq_zero_or_pos i with z | z
      · rw [z, i1 (q 0) (fun i a b e => by
          have := h.1.2.2 0 (i + 1) (by omega) (by omega) e
          omega), hA, pk_us]
      · have := i2 (i - 1) (by omega) (by omega)
        rw [show i - 1 + 1 = i by omega, hT] at this
        exact this
set_option maxHeartbeats 1000000 in
theorem admit_C {T J : Nat} {sz ar st : Nat → Nat} {ad fi : Nat → Int32} {wk : Nat → Nat} {ct : Nat} {mk : Nat → Nat} {hp : Nat} {hj : Nat → Nat} {cm : Nat} {cj : Nat → Nat} {il : Nat} {lj : Nat → Nat} {v : PM} (L : LkC (T + 1) T J sz ar st ad fi wk ct mk hp hj cm cj il lj v) {n : Nat} {st2 mk2 hj2 lj2 : Nat → Nat} {ad2 : Nat → Int32} (hn : n ≤ il) (h8 : hp + n ≤ 8) (hs : n = il ∨ hp + n = 8) (h1 : ∀ i, i < il - n → lj2 i = lj (i + n)) (h2 : ∀ i, i < n → st2 (lj i) = 2 ∧ ad2 (lj i) = nI T ∧ mk2 (lj i) = ct + sz (lj i)) (h3 : ∀ j, (∀ i, i < n → j ≠ lj i) → st2 j = st j ∧ ad2 j = ad j ∧ mk2 j = mk j) (h4 : Hp (key mk2) hj2 (hp + n) (fun j => (j < mJ v ∧ mstB v (T + 1) j = 2) ∨ ∃ i, i < n ∧ j = lj i)) :
    LkC (T + 1) T J sz ar st2 ad2 fi wk ct mk2 (hp + n) hj2 cm cj (il - n) lj2 (admF (8 - cntS v 2) v) := by
  have hcn := L.room.2
  obtain ⟨⟨eT, eJ, hM⟩, hv, hw, ⟨h80, hH⟩, hC, hL, hb⟩ := L
  have hJ := hM.1
  have hTb := hM.2.1
  rw [hcn]
  have hli : Line v lj il := hL.congr (fun j => ⟨fun q => ⟨q.1, (InL_iff hM q.1).mpr (by rw [← eT]; exact q.2)⟩, fun q => ⟨q.1, by rw [eT]; exact (InL_iff hM q.1).mp q.2⟩⟩)
  obtain ⟨a1, a2⟩ := admF_line (8 - hp) hM hli
  obtain ⟨k1, k2, k3, k4, k5, k6, k7⟩ := admF_keep (8 - hp) v
  have hM1 := admF_MOK (8 - hp) hM
  generalize admF (8 - hp) v = w at a1 a2 k1 k2 k3 k4 k5 k6 k7 hM1 ⊢
  have l0 : ∀ i, i < il → lj i < mJ v ∧ Wt v (lj i) ∧ mAr v (lj i) < T + 1 := fun i hi => by
    obtain ⟨q1, q2⟩ := hL.1.1 i hi
    exact ⟨q1, (mstB_1.mp q2).1, (mstB_1.mp q2).2⟩
  have am : ∀ i, i < n → mAd w (lj i) = nI T := fun i hi => by
    rw [eT]
    exact a2 i (by omega) (by omega)
  have an : ∀ j, (∀ i, i < n → j ≠ lj i) → mAd w j = mAd v j := fun j hj => a1 j (fun i z1 z2 => hj i (by omega))
  -- the state of a job in w
  have sm : ∀ i, i < n → mstB w (T + 1) (lj i) = 2 := fun i hi => by
    obtain ⟨z1, z2, z3⟩ := l0 i (by omega)
    refine mstB_2.mpr ⟨by rw [k7]; exact z2.1, by rw [am i hi]; exact nI_pos' (by omega), by rw [k6]; exact z2.2.1⟩
  have sn : ∀ j, (∀ i, i < n → j ≠ lj i) → mstB w (T + 1) j = mstB v (T + 1) j := fun j hj => by
    unfold mstB
    rw [k7, k6, k4, an j hj]
  have em : ∀ j, (∃ i, i < n ∧ j = lj i) ∨ ∀ i, i < n → j ≠ lj i := fun j => by
    rcases Classical.em (∃ i, i < n ∧ j = lj i) with q | q
    · exact Or.inl q
    · exact Or.inr (fun i hi e => q ⟨i, hi, e⟩)
  refine ⟨⟨by rw [k2]; exact eT, by rw [k1]; exact eJ, hM1⟩, fun j hj => ?_, fun j hj => ?_, ⟨h8, h4.congr (fun j => ?_) (fun _ _ => rfl)⟩, ?_, ?_, fun k hk => ?_, hb.2⟩
  · rw [k1] at hj
    obtain ⟨q1, q2, q3, q4, q5, q6⟩ := hv j hj
    rw [k3, k4, k6]
    rcases em j with ⟨i, hi, rfl⟩ | z
    · obtain ⟨y1, y2, y3⟩ := h2 i hi
      exact ⟨q1, q2, by rw [y2, am i hi], q4, by rw [y1, sm i hi], q6⟩
    · obtain ⟨y1, y2, y3⟩ := h3 j z
      exact ⟨q1, q2, by rw [y2, q3, an j z], q4, by rw [y1, q5, sn j z], q6⟩
  · rw [k1] at hj
    obtain ⟨q1, q2, q3⟩ := hw j hj
    rw [k3, k5]
    rcases em j with ⟨i, hi, rfl⟩ | z
    · obtain ⟨y1, y2, y3⟩ := h2 i hi
      obtain ⟨z1, z2, z3⟩ := l0 i (by omega)
      have hs1 : mstB v (T + 1) (lj i) = 1 := mstB_1.mpr ⟨z2, z3⟩
      have hw0 := q3 (by omega)
      obtain ⟨p1, p2, p3, p4, p5, p6⟩ := hv _ hj
      rw [sm i hi, y3, p1, hw0]
      exact ⟨fun _ => ⟨rfl, by omega⟩, fun q => absurd rfl q, fun q => by omega⟩
    · obtain ⟨y1, y2, y3⟩ := h3 j z
      rw [sn j z, y3]
      exact ⟨q1, q2, q3⟩
  · rw [k1]
    constructor
    · rintro (⟨z1, z2⟩ | ⟨i, hi, rfl⟩)
      · rcases em j with ⟨i, hi, rfl⟩ | z
        · exact ⟨z1, sm i hi⟩
        · exact ⟨z1, by rw [sn j z]; exact z2⟩
      · exact ⟨(l0 i (by omega)).1, sm i hi⟩
    · rintro ⟨z1, z2⟩
      rcases em j with y | z
      · exact Or.inr y
      · exact Or.inl ⟨z1, by rw [← sn j z]; exact z2⟩
  · rw [k4]
    refine hC.congr (fun j => ?_)
    rw [k1]
    rcases em j with ⟨i, hi, rfl⟩ | z
    · have y := (l0 i (by omega)).2
      have y1 : mstB v (T + 1) (lj i) = 1 := mstB_1.mpr y
      rw [sm i hi, y1]
      constructor <;> (intro q; omega)
    · rw [sn j z]
  · rw [k4]
    refine hL.drop hn h1 (fun j => ?_)
    rw [k1]
    constructor
    · rintro ⟨z1, z2⟩
      rcases em j with ⟨i, hi, rfl⟩ | z
      · rw [sm i hi] at z2
        omega
      · exact ⟨⟨z1, by rw [← sn j z]; exact z2⟩, z⟩
    · rintro ⟨⟨z1, z2⟩, z3⟩
      exact ⟨z1, by rw [sn j z3]; exact z2⟩
  · rcases em k with ⟨i, hi, rfl⟩ | z
    · obtain ⟨y1, y2, y3⟩ := h2 i hi
      obtain ⟨z1, z2, z3⟩ := l0 i (by omega)
      rw [y3, (hv _ z1).1]
      have := (hM.2.2 _ z1).1
      omega
    · rw [(h3 k z).2.2]
      exact hb.1 k hk
end
section
/-! the link through a tick's work, and through ticks that complete nothing -/
def stepF (v : PM) : PM × Nat := if cntS v 2 = 0 then (v, 0) else (workF v (840 / cntS v 2), dnN v (840 / cntS v 2) (mJ v))
theorem oneTick_step (v : PM) : oneTickF v = stepF (admF (8 - cntS v 2) v) := rfl
/-- behind the work of a tick -/
def afterW (v : PM) : PM := vT (stepF v).1 (mT v + 1)
/-- r more ticks behind the one whose admissions have been made -/
def RS (r : Nat) (v : PM) : PM × Nat := ((runF r (afterW v)).1, (stepF v).2 + (runF r (afterW v)).2)
theorem run_RS (r : Nat) (v : PM) : runF (r + 1) v = RS r (admF (8 - cntS v 2) v) := by
  have hT : mT (admF (8 - cntS v 2) v) = mT v := (admF_keep _ v).2.1
  show ((runF r (tickF v).1).1, (tickF v).2 + (runF r (tickF v).1).2) = _
  unfold RS afterW tickF
  rw [oneTick_step, hT]
def rt (hp : Nat) : Nat := if hp = 0 then 0 else 840 / hp
theorem step_0 {v : PM} (h : cntS v 2 = 0) : stepF v = (v, 0) := by
  unfold stepF
  rw [if_pos h]
theorem step_s {v : PM} {hp : Nat} (h : cntS v 2 = hp) (h0 : 0 < hp) : stepF v = (workF v (rt hp), dnN v (rt hp) (mJ v)) := by
  unfold stepF rt
  rw [h, if_neg (by omega), if_neg (by omega)]
set_option maxHeartbeats 2000000 in
theorem work_C {T J : Nat} {sz ar st : Nat → Nat} {ad fi : Nat → Int32} {wk : Nat → Nat} {ct : Nat} {mk : Nat → Nat} {hp : Nat} {hj : Nat → Nat} {cm : Nat} {cj : Nat → Nat} {il : Nat} {lj : Nat → Nat} {v : PM} (L : LkC (T + 1) T J sz ar st ad fi wk ct mk hp hj cm cj il lj v) (hTb : T + 1 < 2 ^ 30) {n k : Nat} {st2 wk2 hj2 : Nat → Nat} {fi2 : Nat → Int32} (hnk : n + k = hp)
    (h1 : ∀ j, (j < mJ v ∧ mstB v (T + 1) j = 2) → mk j ≤ ct + rt hp → st2 j = 3 ∧ fi2 j = nI T ∧ wk2 j = sz j)
    (h2 : ∀ j, ¬ ((j < mJ v ∧ mstB v (T + 1) j = 2) ∧ mk j ≤ ct + rt hp) → st2 j = st j ∧ fi2 j = fi j ∧ wk2 j = wk j)
    (h3 : Hp (key mk) hj2 k (fun j => (j < mJ v ∧ mstB v (T + 1) j = 2) ∧ ct + rt hp < mk j)) :
    LkC (T + 1) (T + 1) J sz ar st2 ad fi2 wk2 (ct + rt hp) mk k hj2 cm cj il lj (afterW v) ∧ (stepF v).2 = n := by
  have hcn := L.room.2
  obtain ⟨⟨eT, eJ, hM⟩, hv, hw, ⟨h8, hH⟩, hC, hL, hb⟩ := L
  have hJ := hM.1
  rcases Nat.eq_zero_or_pos hp with z0 | z0
  · -- nobody is served
    have hS := step_0 (v := v) (by omega)
    have hno : ∀ j, ¬ (j < mJ v ∧ mstB v (T + 1) j = 2) := fun j q => by
      obtain ⟨i, hi, _⟩ := hH.1.2.1 j q
      omega
    have e9 : afterW v = vT v (T + 1) := by
      unfold afterW
      rw [hS, eT]
    have er : rt hp = 0 := by
      unfold rt
      rw [if_pos z0]
    have kz : k = 0 := by omega
    rw [er, Nat.add_zero] at h3 ⊢
    rw [hS, e9]
    refine ⟨⟨⟨rfl, eJ, ⟨hM.1, hTb, hM.2.2⟩⟩, fun j hj => ?_, fun j hj => ?_, ⟨by omega, h3.congr (fun j => ⟨fun q => absurd q.1 (hno j), fun q => absurd q (hno j)⟩) (fun _ _ => rfl)⟩, hC, hL, hb.1, by have := hb.2; omega⟩, by show 0 = n; omega⟩
    · obtain ⟨q1, q2, q3, q4, q5, q6⟩ := hv j hj
      obtain ⟨y1, y2, y3⟩ := h2 j (fun q => hno j q.1)
      exact ⟨q1, q2, q3, by rw [y2]; exact q4, by rw [y1]; exact q5, q6⟩
    · obtain ⟨q1, q2, q3⟩ := hw j hj
      obtain ⟨y1, y2, y3⟩ := h2 j (fun q => hno j q.1)
      exact ⟨fun q => absurd ⟨hj, q⟩ (hno j), fun q => by rw [y3]; exact q2 q, q3⟩
  · have hS := step_s hcn z0
    have hsh : rt hp ≤ 840 := by
      unfold rt
      rw [if_neg (by omega)]
      exact Nat.div_le_self _ _
    generalize rt hp = sh at h1 h2 h3 hS hsh ⊢
    have e9 : afterW v = vT (workF v sh) (T + 1) := by
      unfold afterW
      rw [hS, eT]
    have hMw := workF_MOK hM sh
    -- the marks say who is done
    have hd : ∀ j, j < mJ v → shr v j → (mk j ≤ ct + sh ↔ mSz v j - mWk v j ≤ sh) := fun j hj hs => by
      obtain ⟨q1, q2⟩ := (hw j hj).1 (mstB_2.mpr hs)
      omega
    have fW : ∀ j, mWk (vT (workF v sh) (T + 1)) j = wkN v sh (mJ v) j := fun _ => rfl
    have fF : ∀ j, mFi (vT (workF v sh) (T + 1)) j = fiN v sh (mJ v) j := fun _ => rfl
    -- not done: the state stays
    have sN : ∀ j, j < mJ v → ¬ (shr v j ∧ mSz v j - mWk v j ≤ sh) → mstB (vT (workF v sh) (T + 1)) (T + 1) j = mstB v (T + 1) j := fun j hj hn => by
      show (if mGn v j ≠ 0 then 4 else if 0 ≤ fiN v sh (mJ v) j then 3 else if 0 ≤ mAd v j then 2 else if mAr v j < T + 1 then 1 else 0) = mstB v (T + 1) j
      have : fiN v sh (mJ v) j = mFi v j := by
        unfold fiN
        rw [if_neg (fun q => hn q.2)]
      rw [this]
      rfl
    have sD : ∀ j, j < mJ v → (shr v j ∧ mSz v j - mWk v j ≤ sh) → fiN v sh (mJ v) j = nI T ∧ mstB (vT (workF v sh) (T + 1)) (T + 1) j = 3 := fun j hj hn => by
      have : fiN v sh (mJ v) j = nI T := by
        unfold fiN
        rw [if_pos ⟨hj, hn⟩, ← eT]
      refine ⟨this, ?_⟩
      show (if mGn v j ≠ 0 then 4 else if 0 ≤ fiN v sh (mJ v) j then 3 else if 0 ≤ mAd v j then 2 else if mAr v j < T + 1 then 1 else 0) = 3
      rw [this, if_neg (by have := hn.1.1; omega), if_pos (nI_pos' (by omega))]
    have hset : ∀ j, j < mJ v → (mstB (vT (workF v sh) (T + 1)) (T + 1) j = 2 ↔ (mstB v (T + 1) j = 2 ∧ ct + sh < mk j)) := fun j hj => by
      rcases Classical.em (shr v j ∧ mSz v j - mWk v j ≤ sh) with q | q
      · rw [(sD j hj q).2]
        have := (hd j hj q.1).mpr q.2
        exact ⟨fun z => by omega, fun z => by omega⟩
      · rw [sN j hj q]
        constructor
        · intro z
          refine ⟨z, ?_⟩
          have hs := mstB_2.mp z
          have := hd j hj hs
          have q2 : ¬ mSz v j - mWk v j ≤ sh := fun y => q ⟨hs, y⟩
          omega
        · exact fun z => z.1
    rw [hS, e9]
    refine ⟨⟨⟨rfl, eJ, ⟨hM.1, hTb, hMw.2.2⟩⟩, fun j hj => ?_, fun j hj => ?_, ⟨by omega, h3.congr (fun j => ?_) (fun _ _ => rfl)⟩, hC.congr (fun j => ?_), hL.congr (fun j => ?_), fun i hi => by have := hb.1 i hi; omega, by have := hb.2; omega⟩, ?_⟩
    · have hj : j < mJ v := hj
      obtain ⟨q1, q2, q3, q4, q5, q6⟩ := hv j hj
      rw [fF]
      rcases Classical.em (shr v j ∧ mSz v j - mWk v j ≤ sh) with q | q
      · obtain ⟨y1, y2, y3⟩ := h1 j ⟨hj, mstB_2.mpr q.1⟩ ((hd j hj q.1).mpr q.2)
        obtain ⟨x1, x2⟩ := sD j hj q
        exact ⟨q1, q2, q3, by rw [y2, x1], by rw [y1, x2], q6⟩
      · obtain ⟨y1, y2, y3⟩ := h2 j (fun z => q ⟨mstB_2.mp z.1.2, (hd j hj (mstB_2.mp z.1.2)).mp z.2⟩)
        refine ⟨q1, q2, q3, ?_, by rw [y1, sN j hj q]; exact q5, q6⟩
        rw [y2, q4]
        unfold fiN
        rw [if_neg (fun z => q z.2)]
    · have hj : j < mJ v := hj
      obtain ⟨q1, q2, q3⟩ := hw j hj
      rw [fW]
      show (_ → mk j + wkN v sh (mJ v) j = ct + sh + mSz v j ∧ wkN v sh (mJ v) j < mSz v j) ∧ _ ∧ _
      rcases Classical.em (shr v j ∧ mSz v j - mWk v j ≤ sh) with q | q
      · obtain ⟨y1, y2, y3⟩ := h1 j ⟨hj, mstB_2.mpr q.1⟩ ((hd j hj q.1).mpr q.2)
        obtain ⟨x1, x2⟩ := sD j hj q
        have : wkN v sh (mJ v) j = mSz v j := by
          unfold wkN
          rw [if_pos ⟨hj, q.1⟩, if_pos q.2]
        rw [x2, this, y3, (hv j hj).1]
        exact ⟨fun z => by omega, fun _ => rfl, fun z => by omega⟩
      · obtain ⟨y1, y2, y3⟩ := h2 j (fun z => q ⟨mstB_2.mp z.1.2, (hd j hj (mstB_2.mp z.1.2)).mp z.2⟩)
        rw [sN j hj q, y3]
        rcases Classical.em (shr v j) with z | z
        · have hn : ¬ mSz v j - mWk v j ≤ sh := fun y => q ⟨z, y⟩
          have : wkN v sh (mJ v) j = mWk v j + sh := by
            unfold wkN
            rw [if_pos ⟨hj, z⟩, if_neg hn]
          have z2 : mstB v (T + 1) j = 2 := mstB_2.mpr z
          obtain ⟨p1, p2⟩ := q1 z2
          rw [this, z2]
          exact ⟨fun _ => by omega, fun y => absurd rfl y, fun y => by omega⟩
        · have : wkN v sh (mJ v) j = mWk v j := by
            unfold wkN
            rw [if_neg (fun y => z y.2)]
          rw [this]
          exact ⟨fun y => absurd (mstB_2.mp y) z, q2, q3⟩
    · constructor
      · rintro ⟨⟨z1, z2⟩, z3⟩
        exact ⟨z1, (hset j z1).mpr ⟨z2, z3⟩⟩
      · rintro ⟨z1, z2⟩
        have := (hset j z1).mp z2
        exact ⟨⟨z1, this.1⟩, this.2⟩
    · refine and_congr_right (fun hj => ?_)
      rcases Classical.em (shr v j ∧ mSz v j - mWk v j ≤ sh) with q | q
      · have z2 : mstB v (T + 1) j = 2 := mstB_2.mpr q.1
        rw [(sD j hj q).2, z2]
        omega
      · rw [sN j hj q]
    · refine and_congr_right (fun hj => ?_)
      rcases Classical.em (shr v j ∧ mSz v j - mWk v j ≤ sh) with q | q
      · have z2 : mstB v (T + 1) j = 2 := mstB_2.mpr q.1
        rw [(sD j hj q).2, z2]
        omega
      · rw [sN j hj q]
    · -- the number of those that are done
      show dnN v sh (mJ v) = n
      have c1 : cnt (fun j => mst v j == 2) (mJ v) = hp := hcn
      have c2 : cnt (fun j => decide (shr v j ∧ ct + sh < mk j)) (mJ v) = k := h3.1.count (fun j => by
        rw [decide_eq_true_iff, mstB_2]
        exact and_assoc)
      have c3 := cnt_split (P := fun j => mst v j == 2) (Q := fun j => decide (shr v j ∧ mSz v j - mWk v j ≤ sh)) (R := fun j => decide (shr v j ∧ ct + sh < mk j)) (n := mJ v) (fun j hj => by
        rw [beq_iff_eq, mst_2, decide_eq_true_iff, decide_eq_true_iff]
        constructor
        · constructor
          · intro z
            have := hd j hj z
            rcases Nat.lt_or_ge (ct + sh) (mk j) with y | y
            · exact Or.inr ⟨z, y⟩
            · exact Or.inl ⟨z, this.mp y⟩
          · rintro (z | z)
            · exact z.1
            · exact z.1
        · rintro ⟨z1, z2⟩
          have := (hd j hj z1.1).mpr z1.2
          omega)
      have c4 : dnN v sh (mJ v) = cnt (fun j => decide (shr v j ∧ mSz v j - mWk v j ≤ sh)) (mJ v) := rfl
      omega
/-- r ticks in which nothing comes and nothing is done -/
theorem quiet_C : ∀ (r : Nat) {T J : Nat} {sz ar st : Nat → Nat} {ad fi : Nat → Int32} {wk : Nat → Nat} {ct : Nat} {mk : Nat → Nat} {hp : Nat} {hj : Nat → Nat} {cm : Nat} {cj : Nat → Nat} {il : Nat} {lj : Nat → Nat} {v : PM}, LkC (T + 1) T J sz ar st ad fi wk ct mk hp hj cm cj il lj v → T + r + 1 < 2 ^ 30 → (hp = 8 ∨ il = 0) → (∀ i, i < cm → T + r < mAr v (cj i)) → (∀ j, j < mJ v → mstB v (T + 1) j = 2 → ct + rt hp * r < mk j) →
    ∃ w, LkC (T + r + 1) (T + r) J sz ar st ad fi wk (ct + rt hp * r) mk hp hj cm cj il lj w ∧ RS r v = (afterW w, (stepF w).2)
  | 0, T, J, sz, ar, st, ad, fi, wk, ct, mq, hp, hj, cm, cj, il, lj, v, L, _, _, _, _ => ⟨v, by rw [Nat.mul_zero]; exact L, rfl⟩
  | r + 1, T, J, sz, ar, st, ad, fi, wk, ct, mq, hp, hj, cm, cj, il, lj, v, L, hT, hs, hc, hm => by
    have hmul : rt hp * (r + 1) = rt hp + rt hp * r := by rw [Nat.mul_succ, Nat.add_comm]
    rw [hmul] at hm ⊢
    have hH := L.2.2.2.1.2
    have hge : rt hp ≤ rt hp + rt hp * r := Nat.le_add_right _ _
    obtain ⟨L1, d1⟩ := work_C (n := 0) (k := hp) (st2 := st) (fi2 := fi) (wk2 := wk) (hj2 := hj) L (by omega) (by omega) (fun j z1 z2 => by
      have := hm j z1.1 z1.2
      omega) (fun j _ => ⟨rfl, rfl, rfl⟩) (hH.congr (fun j => ⟨fun z => ⟨z, by have := hm j z.1 z.2; omega⟩, fun z => z.1⟩) (fun _ _ => rfl))
    have keepAr : mAr (afterW v) = mAr v := by
      unfold afterW stepF
      split <;> rfl
    have har : ∀ i, i < cm → ar (cj i) = mAr v (cj i) := fun i hi => (L.2.1 _ (L.2.2.2.2.1.1.1 i hi).1).2.1
    obtain ⟨L2, _⟩ := arrive_C (n := 0) (st' := st) (cj' := cj) (lj' := lj) L1 (Nat.zero_le _) (fun i hi => by omega) (fun hi => by
      rw [har 0 hi]
      have := hc 0 hi
      omega) (fun i _ => rfl) (fun i _ => rfl) (fun i hi => by omega) (fun i hi => by omega) (fun j _ => rfl)
    have L2 : LkC (T + 1 + 1) (T + 1) J sz ar st ad fi wk (ct + rt hp) mq hp hj cm cj il lj (afterW v) := L2
    have hcn := L2.room.2
    have hadm : admF (8 - cntS (afterW v) 2) (afterW v) = afterW v := by
      rcases hs with e | e
      · rw [hcn, e]
        rfl
      · refine admF_nil (q := lj) ?_ _
        have hT1 := L2.1.1
        have hM1 := L2.1.2.2
        have hL := L2.2.2.2.2.2.1
        rw [e] at hL
        exact hL.congr (fun j => ⟨fun q => ⟨q.1, (InL_iff hM1 q.1).mpr (by rw [← hT1]; exact q.2)⟩, fun q => ⟨q.1, by have h9 := (InL_iff hM1 q.1).mp q.2; rw [← hT1] at h9; exact h9⟩⟩)
    have hJ1 : mJ (afterW v) = mJ v := by
      have e1 := L.1.2.1
      have e2 := L2.1.2.1
      omega
    have hm2 : ∀ j, j < mJ (afterW v) → mstB (afterW v) (T + 1 + 1) j = 2 → ct + rt hp + rt hp * r < mq j := by
      intro j hj hj2
      rw [hJ1] at hj
      have hs2 : mstB (afterW v) (T + 1) j = 2 := by
        rw [mstB_2] at hj2 ⊢
        exact hj2
      have e1 := (L1.2.1 j (by rw [hJ1]; exact hj)).2.2.2.2.1
      have e2 := (L.2.1 j hj).2.2.2.2.1
      have := hm j hj (by rw [← e2, e1]; exact hs2)
      omega
    obtain ⟨w, Lw, ew⟩ := quiet_C r L2 (by omega) hs (fun i hi => by
      rw [keepAr]
      have := hc i hi
      omega) hm2
    refine ⟨w, ?_, ?_⟩
    · rw [show T + (r + 1) = T + 1 + r by omega, ← Nat.add_assoc ct]
      exact Lw
    · unfold RS
      rw [run_RS, hadm, d1, ew, Nat.zero_add]
end
section
/-! the link through submit, cancel and clear; what both sides answer there -/
def Lk (b : Nat) (u : PX) (v : PM) : Prop := LkC b (xT u) (xJ u) (xSz u) (xAr u) (xSt u) (xAd u) (xFi u) (xWk u) (xCt u) (xMk u) (xHp u) (xHj u) (xCm u) (xCj u) (xIl u) (xLj u) v
theorem runF_add : ∀ (x y : Nat) (v : PM), runF (x + y) v = ((runF y (runF x v).1).1, (runF x v).2 + (runF y (runF x v).1).2)
  | 0, y, v => by
    rw [Nat.zero_add]
    show runF y v = ((runF y v).1, 0 + (runF y v).2)
    rw [Nat.zero_add]
  | x + 1, y, v => by
    rw [show x + 1 + y = (x + y) + 1 by omega]
    show ((runF (x + y) (tickF v).1).1, (tickF v).2 + (runF (x + y) (tickF v).1).2) = ((runF y (runF x (tickF v).1).1).1, (tickF v).2 + (runF x (tickF v).1).2 + (runF y (runF x (tickF v).1).1).2)
    rw [runF_add x y, Nat.add_assoc]
def SubR (v : PM) (x y : Int32) (v' : PM) (r : Int32) : Prop := (subBad (mJ v) x y r ∧ v' = v) ∨ ∃ sz af, 1 ≤ sz ∧ sz ≤ 100000 ∧ af ≤ 1000 ∧ x = nI sz ∧ y = nI af ∧ mJ v < 24 ∧ r = nI (mJ v) ∧ v' = vJ (vGn (vFi (vAd (vWk (vAr (vSz v (va_up (mSz v) (mJ v) sz)) (va_up (mAr v) (mJ v) (mT v + af))) (va_up (mWk v) (mJ v) 0)) (upd (mAd v) (mJ v) (-5))) (upd (mFi v) (mJ v) (-5))) (va_up (mGn v) (mJ v) 0)) (mJ v + 1)
theorem nI_1' {s : Nat} (h : 1 ≤ s) (h2 : s ≤ 100000) : ¬ nI s < 1 ∧ nI s ≤ 100000 := by
  have e1 : (1 : Int32) = nI 1 := by decide
  have e2 : (100000 : Int32) = nI 100000 := by decide
  rw [e1, e2, nI_ltI (by omega) (by omega), nI_leI (by omega) (by omega)]
  omega
theorem nI_2' {s : Nat} (h : s ≤ 1000) : ¬ nI s < 0 ∧ nI s ≤ 1000 := by
  have e2 : (1000 : Int32) = nI 1000 := by decide
  refine ⟨nI_pos (by omega), ?_⟩
  rw [e2, nI_leI (by omega) (by omega)]
  omega
theorem bad_good {J sz af : Nat} {r : Int32} (h1 : 1 ≤ sz) (h2 : sz ≤ 100000) (h3 : af ≤ 1000) (h4 : J < 24) : ¬ subBad J (nI sz) (nI af) r := by
  obtain ⟨a1, a2⟩ := nI_1' h1 h2
  obtain ⟨b1, b2⟩ := nI_2' h3
  rintro (⟨q | q, _⟩ | ⟨_, _, q | q, _⟩ | ⟨_, _, _, _, q, _⟩)
  · exact a1 q
  · exact q a2
  · exact b1 q
  · exact q b2
  · omega
theorem bad_one {J : Nat} {x y r r' : Int32} (h : subBad J x y r) (h' : subBad J x y r') : r = r' := by
  rcases h with ⟨a, e⟩ | ⟨a1, a2, a3, e⟩ | ⟨a1, a2, a3, a4, a5, e⟩ <;> rcases h' with ⟨b, e'⟩ | ⟨b1, b2, b3, e'⟩ | ⟨b1, b2, b3, b4, b5, e'⟩
  · rw [e, e']
  · exact (a.elim b1 (fun q => q b2)).elim
  · exact (a.elim b1 (fun q => q b2)).elim
  · exact (b.elim a1 (fun q => q a2)).elim
  · rw [e, e']
  · exact (a3.elim b3 (fun q => q b4)).elim
  · exact (b.elim a1 (fun q => q a2)).elim
  · exact (b3.elim a3 (fun q => q a4)).elim
  · rw [e, e']
theorem SubR.one {v v1 v2 : PM} {x y r1 r2 : Int32} (h1 : SubR v x y v1 r1) (h2 : SubR v x y v2 r2) : v1 = v2 ∧ r1 = r2 := by
  rcases h1 with ⟨b1, e1⟩ | ⟨s1, f1, p1, p2, p3, p4, p5, p6, p7, p8⟩ <;> rcases h2 with ⟨b2, e2⟩ | ⟨s2, f2, q1, q2, q3, q4, q5, q6, q7, q8⟩
  · exact ⟨e1.trans e2.symm, bad_one b1 b2⟩
  · rw [q4, q5] at b1
    exact (bad_good q1 q2 q3 q6 b1).elim
  · rw [p4, p5] at b2
    exact (bad_good p1 p2 p3 p6 b2).elim
  · have e1 : s1 = s2 := (nI_eq (by omega) (by omega)).mp (p4.symm.trans q4)
    have e2 : f1 = f2 := (nI_eq (by omega) (by omega)).mp (p5.symm.trans q5)
    subst e1 e2
    exact ⟨p8.trans q8.symm, p7.trans q7.symm⟩
def CanR (v : PM) (j : Int32) (v' : PM) (r : Int32) : Prop := ((j < 0 ∨ nI (mJ v) ≤ j) ∧ r = -4 ∧ v' = v) ∨ ∃ k, k < mJ v ∧ j = nI k ∧ ((3 ≤ mst v k ∧ r = -5 ∧ v' = v) ∨ (mst v k < 3 ∧ r = nI (mWk v k) ∧ v' = vGn v (va_up (mGn v) k 1)))
theorem job_no {J k : Nat} (hJ : J ≤ 24) (hk : k < J) : ¬ (nI k < 0 ∨ nI J ≤ nI k) := by
  rintro (q | q)
  · exact nI_pos (by omega) q
  · have := (nI_leI (by omega) (by omega)).mp q
    omega
theorem CanR.one {v v1 v2 : PM} {j r1 r2 : Int32} (hJ : mJ v ≤ 24) (h1 : CanR v j v1 r1) (h2 : CanR v j v2 r2) : v1 = v2 ∧ r1 = r2 := by
  rcases h1 with ⟨a1, a2, a3⟩ | ⟨k, hk, ek, h⟩ <;> rcases h2 with ⟨b1, b2, b3⟩ | ⟨k', hk', ek', h'⟩
  · exact ⟨a3.trans b3.symm, a2.trans b2.symm⟩
  · rw [ek'] at a1
    exact (job_no hJ hk' a1).elim
  · rw [ek] at b1
    exact (job_no hJ hk b1).elim
  · have e : k = k' := (nI_eq (by omega) (by omega)).mp (ek.symm.trans ek')
    subst e
    rcases h with ⟨p1, p2, p3⟩ | ⟨p1, p2, p3⟩ <;> rcases h' with ⟨q1, q2, q3⟩ | ⟨q1, q2, q3⟩
    · exact ⟨p3.trans q3.symm, p2.trans q2.symm⟩
    · omega
    · omega
    · exact ⟨p3.trans q3.symm, p2.trans q2.symm⟩
set_option maxHeartbeats 1000000 in
theorem cancel_C {T J : Nat} {sz ar st : Nat → Nat} {ad fi : Nat → Int32} {wk : Nat → Nat} {ct : Nat} {mk : Nat → Nat} {hp : Nat} {hj : Nat → Nat} {cm : Nat} {cj : Nat → Nat} {il : Nat} {lj : Nat → Nat} {v : PM} (L : LkC T T J sz ar st ad fi wk ct mk hp hj cm cj il lj v) {k : Nat} (hk : k < mJ v) {st2 wk2 hj2 cj2 lj2 : Nat → Nat} {hp2 cm2 il2 : Nat} (hs : st2 = va_up st k 4) (hwk : wk2 = va_up wk k (mWk v k)) (h8 : hp2 ≤ 8) (hH : Hp (key mk) hj2 hp2 (fun j => (j < mJ v ∧ mstB v T j = 2) ∧ j ≠ k)) (hC : Que (key (mAr v)) cj2 cm2 (fun j => (j < mJ v ∧ mstB v T j = 0) ∧ j ≠ k)) (hL : Que (key (mAr v)) lj2 il2 (fun j => (j < mJ v ∧ mstB v T j = 1) ∧ j ≠ k)) :
    LkC T T J sz ar st2 ad fi wk2 ct mk hp2 hj2 cm2 cj2 il2 lj2 (vGn v (va_up (mGn v) k 1)) := by
  obtain ⟨⟨eT, eJ, hM⟩, hv, hw, -, -, -, hb⟩ := L
  have sk : mstB (vGn v (va_up (mGn v) k 1)) T k = 4 := by
    show (if va_up (mGn v) k 1 k ≠ 0 then 4 else _) = 4
    rw [va_up_s, if_pos (by decide)]
  have sn : ∀ j, j ≠ k → mstB (vGn v (va_up (mGn v) k 1)) T j = mstB v T j := fun j hj => by
    show (if va_up (mGn v) k 1 j ≠ 0 then 4 else if 0 ≤ mFi v j then 3 else if 0 ≤ mAd v j then 2 else if mAr v j < T then 1 else 0) = mstB v T j
    rw [va_up_n hj]
    rfl
  have cg : ∀ (n j : Nat), n < 4 → (((j < mJ v ∧ mstB v T j = n) ∧ j ≠ k) ↔ (j < mJ v ∧ mstB (vGn v (va_up (mGn v) k 1)) T j = n)) := fun n j hn => by
    by_cases e : j = k
    · rw [e, sk]
      exact ⟨fun q => absurd rfl q.2, fun q => by omega⟩
    · rw [sn j e]
      exact ⟨fun q => q.1, fun q => ⟨q, e⟩⟩
  refine ⟨⟨eT, eJ, hM.1, hM.2.1, fun j hj => ?_⟩, fun j hj => ?_, fun j hj => ?_, ⟨h8, hH.congr (fun j => cg 2 j (by decide)) (fun _ _ => rfl)⟩, hC.congr (fun j => cg 0 j (by decide)), hL.congr (fun j => cg 1 j (by decide)), hb⟩
  · obtain ⟨q1, q2, q3, q4, q5⟩ := hM.2.2 j hj
    refine ⟨q1, q2, q3, ?_, q5⟩
    show va_up (mGn v) k 1 j < 2
    by_cases e : j = k
    · rw [e, va_up_s]
      decide
    · rw [va_up_n e]
      exact q4
  · obtain ⟨q1, q2, q3, q4, q5, q6⟩ := hv j hj
    refine ⟨q1, q2, q3, q4, ?_, q6⟩
    by_cases e : j = k
    · rw [e, sk, hs, va_up_s]
    · rw [sn j e, hs, va_up_n e]
      exact q5
  · obtain ⟨q1, q2, q3⟩ := hw j hj
    by_cases e : j = k
    · rw [e, sk, hwk, va_up_s]
      exact ⟨fun z => by omega, fun _ => rfl, fun z => by omega⟩
    · rw [sn j e, hwk, va_up_n e]
      exact ⟨q1, q2, q3⟩
set_option maxHeartbeats 1000000 in
theorem submit_C {T J : Nat} {sz ar st : Nat → Nat} {ad fi : Nat → Int32} {wk : Nat → Nat} {ct : Nat} {mk : Nat → Nat} {hp : Nat} {hj : Nat → Nat} {cm : Nat} {cj : Nat → Nat} {il : Nat} {lj : Nat → Nat} {v : PM} (L : LkC T T J sz ar st ad fi wk ct mk hp hj cm cj il lj v) {s af pp : Nat} (hs1 : 1 ≤ s) (hs2 : s ≤ 100000) (haf : T + af < 2 ^ 30) (hJ : J < 24) {cj2 : Nat → Nat} (hpp : pp ≤ cm) (q1 : ∀ i, i < pp → cj2 i = cj i) (q2 : cj2 pp = J) (q3 : ∀ i, pp ≤ i → i < cm → cj2 (i + 1) = cj i) (k1 : 0 < pp → ar (cj (pp - 1)) ≤ T + af) (k2 : ∀ i, pp ≤ i → i < cm → T + af < ar (cj i)) :
    LkC T T (J + 1) (va_up sz J s) (va_up ar J (T + af)) (va_up st J 0) (upd ad J (-5)) (upd fi J (-5)) (va_up wk J 0) ct mk hp hj (cm + 1) cj2 il lj (vJ (vGn (vFi (vAd (vWk (vAr (vSz v (va_up (mSz v) (mJ v) s)) (va_up (mAr v) (mJ v) (mT v + af))) (va_up (mWk v) (mJ v) 0)) (upd (mAd v) (mJ v) (-5))) (upd (mFi v) (mJ v) (-5))) (va_up (mGn v) (mJ v) 0)) (mJ v + 1)) := by
  obtain ⟨⟨eT, eJ, hM⟩, hv, hw, ⟨h8, hH⟩, hC, hL, hb⟩ := L
  subst eT eJ
  obtain ⟨w, ew⟩ : ∃ w, w = (vJ (vGn (vFi (vAd (vWk (vAr (vSz v (va_up (mSz v) (mJ v) s)) (va_up (mAr v) (mJ v) (mT v + af))) (va_up (mWk v) (mJ v) 0)) (upd (mAd v) (mJ v) (-5))) (upd (mFi v) (mJ v) (-5))) (va_up (mGn v) (mJ v) 0)) (mJ v + 1)) := ⟨_, rfl⟩
  have gT : mT w = mT v := by rw [ew]; rfl
  have gJ : mJ w = mJ v + 1 := by rw [ew]; rfl
  have gS : mSz w = va_up (mSz v) (mJ v) s := by rw [ew]; rfl
  have gA : mAr w = va_up (mAr v) (mJ v) (mT v + af) := by rw [ew]; rfl
  have gW : mWk w = va_up (mWk v) (mJ v) 0 := by rw [ew]; rfl
  have gD : mAd w = upd (mAd v) (mJ v) (-5) := by rw [ew]; rfl
  have gF : mFi w = upd (mFi v) (mJ v) (-5) := by rw [ew]; rfl
  have gG : mGn w = va_up (mGn v) (mJ v) 0 := by rw [ew]; rfl
  rw [← ew]
  clear ew
  have m5 : (-5 : Int32) < 0 := by decide
  have sJ : mstB w (mT v) (mJ v) = 0 := mstB_0.mpr ⟨⟨by rw [gG, va_up_s], by rw [gF, pk_us]; exact m5, by rw [gD, pk_us]; exact m5⟩, by rw [gA, va_up_s]; omega⟩
  have sn : ∀ j, j < mJ v → mstB w (mT v) j = mstB v (mT v) j := fun j hj => by
    have e : j ≠ mJ v := by omega
    unfold mstB
    rw [gG, gF, gD, gA, va_up_n e, pk_un e, pk_un e, va_up_n e]
  have cg : ∀ (n j : Nat), n ≠ 0 → ((j < mJ v ∧ mstB v (mT v) j = n) ↔ (j < mJ w ∧ mstB w (mT v) j = n)) := fun n j hn => by
    rw [gJ]
    rcases Nat.lt_trichotomy j (mJ v) with e | e | e
    · rw [sn j e]
      exact ⟨fun q => ⟨by omega, q.2⟩, fun q => ⟨e, q.2⟩⟩
    · rw [e, sJ]
      exact ⟨fun q => by omega, fun q => absurd q.2.symm hn⟩
    · exact ⟨fun q => by omega, fun q => by omega⟩
  have ky : ∀ j, j < mJ v → key (mAr v) j = key (mAr w) j := fun j hj => by
    unfold key
    rw [gA, va_up_n (by omega)]
  have arc : ∀ i, i < cm → cj i < mJ v ∧ ar (cj i) = mAr v (cj i) := fun i hi => by
    have := (hC.1.1 i hi).1
    exact ⟨this, (hv _ this).2.1⟩
  have kJ : key (mAr w) (mJ v) = (mT v + af) * 32 + mJ v := by
    unfold key
    rw [gA, va_up_s]
  have kc : ∀ i, i < cm → key (mAr w) (cj i) = ar (cj i) * 32 + cj i := fun i hi => by
    obtain ⟨z1, z2⟩ := arc i hi
    rw [← ky _ z1, z2]
    rfl
  refine ⟨⟨gT.symm, gJ.symm, by rw [gJ]; omega, by rw [gT]; exact hM.2.1, fun j hj => ?_⟩, fun j hj => ?_, fun j hj => ?_, ⟨h8, hH.congr (fun j => cg 2 j (by decide)) (fun _ _ => rfl)⟩, ?_, (hL.keys (fun j hj => ky j hj.1)).congr (fun j => cg 1 j (by decide)), hb⟩
  · rw [gJ] at hj
    rw [gS, gW, gA, gG, gF, gD]
    by_cases e : j = mJ v
    · rw [e, va_up_s, va_up_s, va_up_s, va_up_s, pk_us, pk_us]
      exact ⟨hs2, Nat.zero_le _, haf, by decide, fun z => absurd z (by decide)⟩
    · rw [va_up_n e, va_up_n e, va_up_n e, va_up_n e, pk_un e, pk_un e]
      exact hM.2.2 j (by omega)
  · rw [gJ] at hj
    rw [gS, gA, gD, gF]
    by_cases e : j = mJ v
    · rw [e, va_up_s, va_up_s, va_up_s, va_up_s, va_up_s, pk_us, pk_us, pk_us, pk_us, sJ]
      exact ⟨rfl, rfl, rfl, rfl, rfl, hs1⟩
    · rw [va_up_n e, va_up_n e, va_up_n e, va_up_n e, va_up_n e, pk_un e, pk_un e, pk_un e, pk_un e, sn j (by omega)]
      exact hv j (by omega)
  · rw [gJ] at hj
    rw [gS, gW]
    by_cases e : j = mJ v
    · rw [e, va_up_s, va_up_s, va_up_s, sJ]
      exact ⟨fun z => by omega, fun _ => rfl, fun _ => rfl⟩
    · rw [va_up_n e, va_up_n e, va_up_n e, sn j (by omega)]
      exact hw j (by omega)
  · refine Que.congr (S := fun j => j = mJ v ∨ (j < mJ v ∧ mstB v (mT v) j = 0)) (Que.ins (hC.keys (fun j hj => ky j hj.1)) hpp q1 q2 q3 (fun i hi => ?_) (fun i hi hc => ?_)) (fun j => ?_)
    · rw [kJ, kc i (by omega)]
      obtain ⟨z1, z2⟩ := arc i (by omega)
      obtain ⟨y1, y2⟩ := arc (pp - 1) (by omega)
      have z3 := k1 (by omega)
      have : ar (cj i) ≤ ar (cj (pp - 1)) := by
        rcases (show i = pp - 1 ∨ i < pp - 1 by omega) with e | e
        · rw [e]
          exact Nat.le_refl _
        · have := key_le_ar (by omega) (by omega) (hC.2 i (pp - 1) e (by omega))
          omega
      omega
    · rw [kJ, kc i hc]
      have := k2 i hi hc
      obtain ⟨z1, z2⟩ := arc i hc
      omega
    · rw [gJ]
      rcases Nat.lt_trichotomy j (mJ v) with e | e | e
      · rw [sn j e]
        exact ⟨fun q => ⟨by omega, (q.resolve_left (by omega)).2⟩, fun q => Or.inr ⟨e, q.2⟩⟩
      · rw [e, sJ]
        exact ⟨fun _ => ⟨by omega, rfl⟩, fun _ => Or.inl rfl⟩
      · exact ⟨fun q => by omega, fun q => by omega⟩
theorem clear_C {T J : Nat} {sz ar st : Nat → Nat} {ad fi : Nat → Int32} {wk : Nat → Nat} {ct : Nat} {mk : Nat → Nat} {hp : Nat} {hj : Nat → Nat} {cm : Nat} {cj : Nat → Nat} {il : Nat} {lj : Nat → Nat} {v : PM} (L : LkC T T J sz ar st ad fi wk ct mk hp hj cm cj il lj v) : LkC T T 0 sz ar st ad fi wk ct mk 0 hj 0 cj 0 lj (vJ v 0) := by
  obtain ⟨⟨eT, eJ, hM⟩, hv, hw, ⟨h8, hH⟩, hC, hL, hb⟩ := L
  have bj : ∀ (h : Nat → Nat) (n : Nat), Bij h 0 (fun j => j < mJ (vJ v 0) ∧ mstB (vJ v 0) T j = n) := fun h n => ⟨fun k hk => by omega, fun j hj => absurd hj.1 (Nat.not_lt_zero _), fun k k' hk => by omega⟩
  exact ⟨⟨eT, rfl, Nat.zero_le _, hM.2.1, fun j hj => absurd hj (Nat.not_lt_zero _)⟩, fun j hj => absurd hj (Nat.not_lt_zero _), fun j hj => absurd hj (Nat.not_lt_zero _), ⟨Nat.zero_le _, bj _ _, fun k _ hk => by omega⟩, ⟨bj _ _, fun i j _ hj => by omega⟩, ⟨bj _ _, fun i j _ hj => by omega⟩, hb⟩
end
section
theorem uT_uCt (U : PX) (v : Nat) (w : Nat) : uT (uCt U v) w = uCt (uT U w) v := by
  simp only [uT, uCt]
theorem lt840 (x : Nat) : 840 / x < 2 ^ 31 := Nat.lt_of_le_of_lt (Nat.div_le_self _ _) (by decide)
set_option maxHeartbeats 4000000 in
set_option maxRecDepth 100000 in
/-- run(n): the class runs as the model does -/
theorem c_X_run (l : Launch) (D : va_G) (a : Nat → Nat) (g : Nat → ClassId) (u : PX) (n : Int32) (v : PM) (hL : Lk (xT u) u v) (hT : xT u + 5000 < 2 ^ 30) : MetI l y_X_run b_X_run 5 (some .int) 4 D (tX g) (wX a g) [.ref (a 0), .int n] u (fun r u' => Lk (xT u') u' (runF (clampN n) v).1 ∧ r = nI (runF (clampN n) v).2) := by
  refine MetI.of (by decide) (Nat.le_of_ble_eq_true rfl) ?_
  intro p e s m args below meth c A Q ls E hl B ret
  have E : CallFix p m c b_X_run 5 s args lw_ws R_X := E
  have hl : lv_has ls 5 [(0, .ref (a 0)), (1, .int n)] := hl
  obtain ⟨k, ek⟩ : ∃ z, z = clampN n := ⟨_, rfl⟩
  have hk5 : k ≤ 5000 := by
    rw [ek]
    exact clampN_le n
  have loop : ∀ (z left dn : Nat) (u1 : PX) (v1 : PM) (H : Heap) (locs : List Loc) (ls : Array Slot), left ≤ z → left ≤ 5000 → Lk (xT u1) u1 v1 → xT u1 + left < 2 ^ 30 → (runF k v).1 = (runF left v1).1 → (runF k v).2 = dn + (runF left v1).2 → lv_has ls 5 [(2, .int (nI left)), (3, .int (nI dn)), (0, .ref (a 0))] → wB D (tX g) s A s.heap (wX a g (u1)) H locs → W p l e (rd 4) s m args below meth c H locs 0 0 Q (F0 m 21 ls []) := by
    intro z
    induction z with
    | zero =>
      intro left dn u1 v1 H locs ls hz h5 L1 hT1 r1 r2 hl B
      refine lv_iload_n E.1 E.2.1 d_X_run_21 rfl (lv_at hl 0 rfl) ?_
      refine k_if_le E 95 (by omega) d_X_run_22 (by decide) (fun h1 => ?_) (fun h1 => ?_)
      · skip
        subst h1
        refine lv_iload_n E.1 E.2.1 d_X_run_95 rfl (lv_at hl 1 rfl) ?_
        exact ret _ _ _ _ _ _ ⟨by rw [← ek, r1]; exact L1, by rw [← ek, r2]; rfl⟩ rfl B d_X_run_96
      · skip
        exact absurd h1 (by omega)
    | succ z ih =>
      intro left dn u1 v1 H locs ls hz h5 L1 hT1 r1 r2 hl B
      refine lv_iload_n E.1 E.2.1 d_X_run_21 rfl (lv_at hl 0 rfl) ?_
      refine k_if_le E 95 (by omega) d_X_run_22 (by decide) (fun h1 => ?_) (fun h1 => ?_)
      · skip
        subst h1
        refine lv_iload_n E.1 E.2.1 d_X_run_95 rfl (lv_at hl 1 rfl) ?_
        exact ret _ _ _ _ _ _ ⟨by rw [← ek, r1]; exact L1, by rw [← ek, r2]; rfl⟩ rfl B d_X_run_96
      · skip
        obtain ⟨⟨eT, eJ, hM⟩, hv, hw, ⟨h8, hH⟩, hC, hLi, hb⟩ := id L1
        have hrm := LkC.room L1
        have hJ := hM.1
        have hTM := hM.2.1
        have hcl : ∀ i, i < xCm u1 → xCj u1 i < mJ v1 := fun i hi => (hC.1.1 i hi).1
        refine lv_aload_n E.1 E.2.1 d_X_run_25 rfl (lv_at hl 2 rfl) ?_
        refine k_callv (As := []) (rest := []) E (c_X_arrive l D a g u1 (xT u1) (xCm u1) (xIl u1) (xAr u1) (xSt u1) (xCj u1) (xLj u1) rfl rfl rfl rfl rfl rfl rfl (by omega) (fun i hi => by rw [(hv _ (hcl i hi)).2.1]; have := (hM.2.2 _ (hcl i hi)).2.2.1; omega) hrm.1 (fun i hi => by have := hcl i hi; omega)) kc_X_94 ⟨Nat.le_of_ble_eq_true rfl, Nat.le_of_ble_eq_true rfl⟩ B (show classes[0]? = _ from rfl) rfl hl.1 rfl (Nat.le_of_ble_eq_true rfl) d_X_run_26 ⟨Nat.le_of_ble_eq_true rfl, Nat.le_of_ble_eq_true rfl⟩ (fun u2 H locs hq B => ?_)
        obtain ⟨n2, a1, a2, a3, st', cj', lj', hu, a4, a5, a6, a7, a8⟩ := hq
        obtain ⟨LC2, cc2⟩ := arrive_C L1 a1 a2 a3 a4 a5 a6 a7 a8
        have L2 : Lk (xT u1 + 1) u2 v1 := by
          rw [hu]
          unfold Lk
          simp only [xT_uSt, xT_uCm, xT_uCj, xT_uIl, xT_uLj, xJ_uSt, xJ_uCm, xJ_uCj, xJ_uIl, xJ_uLj, xSz_uSt, xSz_uCm, xSz_uCj, xSz_uIl, xSz_uLj, xAr_uSt, xAr_uCm, xAr_uCj, xAr_uIl, xAr_uLj, xSt_uSt, xSt_uCm, xSt_uCj, xSt_uIl, xSt_uLj, xAd_uSt, xAd_uCm, xAd_uCj, xAd_uIl, xAd_uLj, xFi_uSt, xFi_uCm, xFi_uCj, xFi_uIl, xFi_uLj, xWk_uSt, xWk_uCm, xWk_uCj, xWk_uIl, xWk_uLj, xCt_uSt, xCt_uCm, xCt_uCj, xCt_uIl, xCt_uLj, xMk_uSt, xMk_uCm, xMk_uCj, xMk_uIl, xMk_uLj, xHp_uSt, xHp_uCm, xHp_uCj, xHp_uIl, xHp_uLj, xHj_uSt, xHj_uCm, xHj_uCj, xHj_uIl, xHj_uLj, xCm_uSt, xCm_uCm, xCm_uCj, xCm_uIl, xCm_uLj, xCj_uSt, xCj_uCm, xCj_uCj, xCj_uIl, xCj_uLj, xIl_uSt, xIl_uCm, xIl_uCj, xIl_uIl, xIl_uLj, xLj_uSt, xLj_uCm, xLj_uCj, xLj_uIl, xLj_uLj]
          exact LC2
        have hT2 : xT u2 = (xT u1) := by
          rw [hu]
          exact ((xT_uLj _ _).trans ((xT_uIl _ _).trans ((xT_uCj _ _).trans ((xT_uCm _ _).trans (xT_uSt _ _)))))
        have hCm2 : xCm u2 = (xCm u1 - n2) := by
          rw [hu]
          exact ((xCm_uLj _ _).trans ((xCm_uIl _ _).trans ((xCm_uCj _ _).trans (xCm_uCm _ _))))
        have hCj2 : xCj u2 = cj' := by
          rw [hu]
          exact ((xCj_uLj _ _).trans ((xCj_uIl _ _).trans (xCj_uCj _ _)))
        rw [← hT2] at L2 cc2 hT1
        rw [← hCm2, ← hCj2] at cc2
        clear hu a1 a2 a3 a4 a5 a6 a7 a8 LC2 hv hw hH hC hLi hb hrm hcl eT eJ hCm2 hCj2
        obtain ⟨⟨eT, eJ, -⟩, hv, hw, ⟨h8, hH⟩, hC, hLi, hb⟩ := id L2
        have hrm := LkC.room L2
        have hll : ∀ i, i < xIl u2 → xLj u2 i < mJ v1 ∧ mstB v1 (xT u2 + 1) (xLj u2 i) = 1 := fun i hi => hLi.1.1 i hi
        have hctb : xCt u2 < 2 ^ 50 := by have := hb.2; omega
        refine lv_aload_n E.1 E.2.1 d_X_run_29 rfl (lv_at hl 2 rfl) ?_
        refine k_callv (As := []) (rest := []) E (c_X_admit l D a g u2 (xT u2) (xCt u2) (xHp u2) (xIl u2) (xSz u2) (xSt u2) (xMk u2) (xHj u2) (xLj u2) (xAd u2) (fun j => j < mJ v1 ∧ mstB v1 (xT u2 + 1) j = 2) rfl rfl rfl rfl rfl rfl rfl rfl rfl rfl (fun j hj => by have := hj.1; omega) (fun i hi => by have := hb.1 i hi; omega) (by omega) (fun i hi => by rw [(hv _ (hll i hi).1).1]; have := (hM.2.2 _ (hll i hi).1).1; omega) h8 (by omega) (fun i hi => ⟨by have := (hll i hi).1; omega, fun q => by have := (hll i hi).2; have := q.2; omega⟩) (fun i j hi hj e => hLi.1.2.2 i j hi hj e) hH) kc_X_97 ⟨Nat.le_of_ble_eq_true rfl, Nat.le_of_ble_eq_true rfl⟩ B (show classes[0]? = _ from rfl) rfl hl.1 rfl (Nat.le_of_ble_eq_true rfl) d_X_run_30 ⟨Nat.le_of_ble_eq_true rfl, Nat.le_of_ble_eq_true rfl⟩ (fun u3 H locs hq B => ?_)
        obtain ⟨n3, a1, a2, a3, st3, ad3, mk3, hj3, lj3, hu, a4, a5, a6, a7⟩ := hq
        obtain ⟨v2, ev2⟩ : ∃ z, z = admF (8 - cntS v1 2) v1 := ⟨_, rfl⟩
        have LC3 := admit_C L2 a1 a2 a3 a4 a5 a6 a7
        rw [← ev2] at LC3
        have L3 : Lk (xT u2 + 1) u3 v2 := by
          rw [hu]
          unfold Lk
          simp only [xT_uSt, xT_uAd, xT_uMk, xT_uHp, xT_uHj, xT_uIl, xT_uLj, xJ_uSt, xJ_uAd, xJ_uMk, xJ_uHp, xJ_uHj, xJ_uIl, xJ_uLj, xSz_uSt, xSz_uAd, xSz_uMk, xSz_uHp, xSz_uHj, xSz_uIl, xSz_uLj, xAr_uSt, xAr_uAd, xAr_uMk, xAr_uHp, xAr_uHj, xAr_uIl, xAr_uLj, xSt_uSt, xSt_uAd, xSt_uMk, xSt_uHp, xSt_uHj, xSt_uIl, xSt_uLj, xAd_uSt, xAd_uAd, xAd_uMk, xAd_uHp, xAd_uHj, xAd_uIl, xAd_uLj, xFi_uSt, xFi_uAd, xFi_uMk, xFi_uHp, xFi_uHj, xFi_uIl, xFi_uLj, xWk_uSt, xWk_uAd, xWk_uMk, xWk_uHp, xWk_uHj, xWk_uIl, xWk_uLj, xCt_uSt, xCt_uAd, xCt_uMk, xCt_uHp, xCt_uHj, xCt_uIl, xCt_uLj, xMk_uSt, xMk_uAd, xMk_uMk, xMk_uHp, xMk_uHj, xMk_uIl, xMk_uLj, xHp_uSt, xHp_uAd, xHp_uMk, xHp_uHp, xHp_uHj, xHp_uIl, xHp_uLj, xHj_uSt, xHj_uAd, xHj_uMk, xHj_uHp, xHj_uHj, xHj_uIl, xHj_uLj, xCm_uSt, xCm_uAd, xCm_uMk, xCm_uHp, xCm_uHj, xCm_uIl, xCm_uLj, xCj_uSt, xCj_uAd, xCj_uMk, xCj_uHp, xCj_uHj, xCj_uIl, xCj_uLj, xIl_uSt, xIl_uAd, xIl_uMk, xIl_uHp, xIl_uHj, xIl_uIl, xIl_uLj, xLj_uSt, xLj_uAd, xLj_uMk, xLj_uHp, xLj_uHj, xLj_uIl, xLj_uLj]
          exact LC3
        have hT3 : xT u3 = (xT u2) := by
          rw [hu]
          exact ((xT_uLj _ _).trans ((xT_uIl _ _).trans ((xT_uHj _ _).trans ((xT_uHp _ _).trans ((xT_uMk _ _).trans ((xT_uAd _ _).trans (xT_uSt _ _)))))))
        have hCm3 : xCm u3 = (xCm u2) := by
          rw [hu]
          exact ((xCm_uLj _ _).trans ((xCm_uIl _ _).trans ((xCm_uHj _ _).trans ((xCm_uHp _ _).trans ((xCm_uMk _ _).trans ((xCm_uAd _ _).trans (xCm_uSt _ _)))))))
        have hCj3 : xCj u3 = (xCj u2) := by
          rw [hu]
          exact ((xCj_uLj _ _).trans ((xCj_uIl _ _).trans ((xCj_uHj _ _).trans ((xCj_uHp _ _).trans ((xCj_uMk _ _).trans ((xCj_uAd _ _).trans (xCj_uSt _ _)))))))
        have hHp3 : xHp u3 = (xHp u2 + n3) := by
          rw [hu]
          exact ((xHp_uLj _ _).trans ((xHp_uIl _ _).trans ((xHp_uHj _ _).trans (xHp_uHp _ _))))
        have hIl3 : xIl u3 = (xIl u2 - n3) := by
          rw [hu]
          exact ((xIl_uLj _ _).trans (xIl_uIl _ _))
        have hs3 : xHp u3 = 8 ∨ xIl u3 = 0 := by
          rw [hHp3, hIl3]
          omega
        have hAr2 : mAr v2 = mAr v1 := by
          rw [ev2]
          exact (admF_keep _ v1).2.2.2.1
        rw [← hT3] at L3 cc2 hT1
        rw [← hCm3, ← hCj3, ← hAr2] at cc2
        have hrs : ∀ q, runF (q + 1) v1 = RS q v2 := fun q => by
          rw [run_RS, ev2]
        clear hu a1 a2 a3 a4 a5 a6 a7 LC3 hv hw hH hC hLi hb hrm hll eT eJ hctb hM hJ hTM hCm3 hCj3 hHp3 hIl3 h8
        obtain ⟨⟨eT, eJ, hM⟩, hv, hw, ⟨h8, hH⟩, hC, hLi, hb⟩ := id L3
        have hrm := LkC.room L3
        have hJ := hM.1
        have hcl : ∀ i, i < xCm u3 → xCj u3 i < mJ v2 ∧ xAr u3 (xCj u3 i) = mAr v2 (xCj u3 i) ∧ mAr v2 (xCj u3 i) < 2 ^ 30 := fun i hi => by
          have h9 := (hC.1.1 i hi).1
          exact ⟨h9, (hv _ h9).2.1, (hM.2.2 _ h9).2.2.1⟩
        have hhl : ∀ i, i < xHp u3 → xHj u3 i < mJ v2 ∧ xCt u3 < xMk u3 (xHj u3 i) := fun i hi => by
          obtain ⟨h9, h10⟩ := hH.1.1 i hi
          obtain ⟨q1, q2⟩ := (hw _ h9).1 h10
          exact ⟨h9, by omega⟩
        have hctb : xCt u3 < 2 ^ 50 := by have := hb.2; omega
        refine lv_aload_n E.1 E.2.1 d_X_run_33 rfl (lv_at hl 2 rfl) ?_
        refine lv_iload_n E.1 E.2.1 d_X_run_34 rfl (lv_at hl 0 rfl) ?_
        refine k_calli (As := [.int (nI left)]) (rest := []) E (c_X_stretch l D a g u3 left (xT u3) (xCm u3) (xCt u3) (xHp u3) (xAr u3) (xCj u3) (xMk u3) (xHj u3) rfl rfl rfl rfl rfl rfl rfl rfl (by omega) h5 (by omega) (by omega) (fun hc => by have h9 := hcl 0 hc; have h10 := cc2 0 hc; omega) h8 (fun hh => by have h9 := hhl 0 hh; have h10 := hb.1 (xHj u3 0) (by omega); omega)) kc_X_100 ⟨Nat.le_of_ble_eq_true rfl, Nat.le_of_ble_eq_true rfl⟩ B (show classes[0]? = _ from rfl) rfl hl.1 rfl (Nat.le_of_ble_eq_true rfl) d_X_run_35 ⟨Nat.le_of_ble_eq_true rfl, Nat.le_of_ble_eq_true rfl⟩ (fun r u9 H locs hq B => ?_)
        obtain ⟨hu, kk, hr, g1, g2, g3, g4⟩ := hq
        rw [hu] at B
        subst hr
        have hrt : xHp u3 = 0 → rt (xHp u3) = 0 := fun e => by
          unfold rt
          rw [if_pos e]
        have hrt2 : 0 < xHp u3 → rt (xHp u3) = 840 / xHp u3 := fun e => by
          unfold rt
          rw [if_neg (by omega)]
        obtain ⟨w, Lw, ew⟩ := quiet_C (kk - 1) L3 (by omega) hs3 (fun i hi => by
          have h9 := g3 (by omega)
          obtain ⟨p1, p2, p3⟩ := hcl 0 (by omega)
          obtain ⟨q1, q2, q3⟩ := hcl i hi
          have h10 := cc2 0 (by omega)
          have : mAr v2 (xCj u3 0) ≤ mAr v2 (xCj u3 i) := by
            rcases Nat.eq_zero_or_pos i with e | e
            · rw [e]
              exact Nat.le_refl _
            · exact key_le_ar (by omega) (by omega) (hC.2 0 i e hi)
          omega) (fun j hj hj2 => by
          obtain ⟨i, hi, e⟩ := hH.1.2.1 j ⟨hj, hj2⟩
          have h9 := g4 (by omega)
          rw [hrt2 (by omega), Nat.mul_comm]
          have h10 := key_mk (mk := xMk u3) (by have := (hhl 0 (by omega)).1; omega) (by have := (hhl i hi).1; omega) (hH.top i hi)
          rw [e] at h10
          have := (hhl 0 (by omega)).2
          omega)
        have ekk : xT u3 + (kk - 1) + 1 = xT u3 + kk := by omega
        have emul : xCt u3 + rt (xHp u3) * (kk - 1) + rt (xHp u3) = xCt u3 + rt (xHp u3) * kk := by
          rw [Nat.add_assoc, ← Nat.mul_succ, show (kk - 1).succ = kk by omega]
        have hmulb : rt (xHp u3) * kk ≤ 840 * 5000 := Nat.mul_le_mul (by unfold rt; split; exact Nat.zero_le _; exact Nat.div_le_self _ _) (by omega)
        have j69 : ∀ (H : Heap) (locs : List Loc) (ls : Array Slot), lv_has ls 5 [(4, .int (nI kk)), (2, .int (nI left)), (3, .int (nI dn)), (0, .ref (a 0))] → wB D (tX g) s A s.heap (wX a g (uCt u3 (xCt u3 + rt (xHp u3) * kk))) H locs → W p l e (rd 4) s m args below meth c H locs 0 0 Q (F0 m 69 ls []) := by
          intro H locs ls hl B
          refine lv_aload_n E.1 E.2.1 d_X_run_69 rfl (lv_at hl 3 rfl) ?_
          refine k_dup E rfl d_X_run_70 ?_
          refine k_getX E B 0 (by decide) wf_X_41 rfl (fX_T (xT_uCt _ _)) d_X_run_71 ?_
          refine lv_iload E.1 E.2.1 d_X_run_74 (lv_at hl 0 rfl) ?_
          refine k_iadd E d_X_run_76 ?_
          refine k_putX (uT (uCt u3 (xCt u3 + rt (xHp u3) * kk)) ((xT u3) + kk)) E B 0 (by decide) wf_X_41 rfl rfl rfl rfl (wX_T _ _ _ _) d_X_run_77 (fun H locs B => ?_)
          rw [uT_uCt] at B
          refine lv_iload_n E.1 E.2.1 d_X_run_80 rfl (lv_at hl 1 rfl) ?_
          refine lv_iload E.1 E.2.1 d_X_run_81 (lv_at hl 0 rfl) ?_
          refine k_isub E (by omega) d_X_run_83 ?_
          refine lv_istore_n (lv' := [(2, .int (nI (left - kk))), (4, .int (nI kk)), (3, .int (nI dn)), (0, .ref (a 0))]) E.1 E.2.1 d_X_run_84 rfl hl (by decide) rfl (fun ls hl => ?_)
          refine lv_iload_n E.1 E.2.1 d_X_run_85 rfl (lv_at hl 2 rfl) ?_
          refine lv_aload_n E.1 E.2.1 d_X_run_86 rfl (lv_at hl 3 rfl) ?_
          obtain ⟨⟨eTw, eJw, hMw⟩, -, -, ⟨h8w, hHw⟩, -, -, hbw⟩ := id Lw
          have hJw := hMw.1
          refine k_calli (As := []) (rest := [.int (nI dn)]) E (c_X_complete l D a g (uCt (uT u3 ((xT u3) + kk)) (xCt u3 + rt (xHp u3) * kk)) (xT u3 + kk) (xCt u3 + rt (xHp u3) * kk) (xHp u3) (xSz u3) (xSt u3) (xWk u3) (xMk u3) (xHj u3) (xFi u3) (fun j => j < mJ w ∧ mstB w (xT u3 + (kk - 1) + 1) j = 2) ((xT_uCt _ _).trans (xT_uT _ _)) ((xSz_uCt _ _).trans (xSz_uT _ _)) ((xSt_uCt _ _).trans (xSt_uT _ _)) ((xFi_uCt _ _).trans (xFi_uT _ _)) ((xWk_uCt _ _).trans (xWk_uT _ _)) (xCt_uCt _ _) ((xMk_uCt _ _).trans (xMk_uT _ _)) ((xHp_uCt _ _).trans (xHp_uT _ _)) ((xHj_uCt _ _).trans (xHj_uT _ _)) (by omega) (fun j hj => by have := hj.1; omega) (fun i hi => by have := hb.1 i hi; omega) (by omega) h8 hHw) kc_X_103 ⟨Nat.le_of_ble_eq_true rfl, Nat.le_of_ble_eq_true rfl⟩ B (show classes[0]? = _ from rfl) rfl hl.1 rfl (Nat.le_of_ble_eq_true rfl) d_X_run_87 ⟨Nat.le_of_ble_eq_true rfl, Nat.le_of_ble_eq_true rfl⟩ (fun r u5 H locs hq B => ?_)
          obtain ⟨nd, k5, b1, b2, st5, fi5, wk5, hj5, hu, b3, b4, b5⟩ := hq
          subst b2
          rw [← emul] at b3 b4 b5
          rw [show xT u3 + kk - 1 = xT u3 + (kk - 1) by omega] at b3
          obtain ⟨L5, ed⟩ := work_C Lw (by omega) b1 (fun j q1 q2 => b3 j q1 q2) (fun j q => b4 j q) b5
          rw [emul] at L5
          have e9 : uHj (uHp (uWk (uFi (uSt (uCt (uT u3 ((xT u3) + kk)) (xCt u3 + rt (xHp u3) * kk)) st5) fi5) wk5) k5) hj5 = uHj (uHp (uCt (uWk (uFi (uSt (uT u3 ((xT u3) + kk)) st5) fi5) wk5) (xCt u3 + rt (xHp u3) * kk)) k5) hj5 := by simp only [uT, uSt, uFi, uWk, uCt, uHp, uHj]
          rw [e9] at hu
          rw [ekk] at L5
          have L6 : Lk (xT u3 + kk) u5 (afterW w) := by
            rw [hu]
            unfold Lk
            simp only [xT_uT, xT_uSt, xT_uFi, xT_uWk, xT_uCt, xT_uHp, xT_uHj, xJ_uT, xJ_uSt, xJ_uFi, xJ_uWk, xJ_uCt, xJ_uHp, xJ_uHj, xSz_uT, xSz_uSt, xSz_uFi, xSz_uWk, xSz_uCt, xSz_uHp, xSz_uHj, xAr_uT, xAr_uSt, xAr_uFi, xAr_uWk, xAr_uCt, xAr_uHp, xAr_uHj, xSt_uT, xSt_uSt, xSt_uFi, xSt_uWk, xSt_uCt, xSt_uHp, xSt_uHj, xAd_uT, xAd_uSt, xAd_uFi, xAd_uWk, xAd_uCt, xAd_uHp, xAd_uHj, xFi_uT, xFi_uSt, xFi_uFi, xFi_uWk, xFi_uCt, xFi_uHp, xFi_uHj, xWk_uT, xWk_uSt, xWk_uFi, xWk_uWk, xWk_uCt, xWk_uHp, xWk_uHj, xCt_uT, xCt_uSt, xCt_uFi, xCt_uWk, xCt_uCt, xCt_uHp, xCt_uHj, xMk_uT, xMk_uSt, xMk_uFi, xMk_uWk, xMk_uCt, xMk_uHp, xMk_uHj, xHp_uT, xHp_uSt, xHp_uFi, xHp_uWk, xHp_uCt, xHp_uHp, xHp_uHj, xHj_uT, xHj_uSt, xHj_uFi, xHj_uWk, xHj_uCt, xHj_uHp, xHj_uHj, xCm_uT, xCm_uSt, xCm_uFi, xCm_uWk, xCm_uCt, xCm_uHp, xCm_uHj, xCj_uT, xCj_uSt, xCj_uFi, xCj_uWk, xCj_uCt, xCj_uHp, xCj_uHj, xIl_uT, xIl_uSt, xIl_uFi, xIl_uWk, xIl_uCt, xIl_uHp, xIl_uHj, xLj_uT, xLj_uSt, xLj_uFi, xLj_uWk, xLj_uCt, xLj_uHp, xLj_uHj]
            exact L5
          have hT5 : xT u5 = xT u3 + kk := by
            rw [hu]
            exact ((xT_uHj _ _).trans ((xT_uHp _ _).trans ((xT_uCt _ _).trans ((xT_uWk _ _).trans ((xT_uFi _ _).trans ((xT_uSt _ _).trans (xT_uT _ _)))))))
          rw [← hT5] at L6
          have hrun : runF kk v1 = (afterW w, nd) := by
            rw [show kk = (kk - 1) + 1 by omega, hrs, ew, ed]
          have hsp : runF left v1 = ((runF (left - kk) (afterW w)).1, nd + (runF (left - kk) (afterW w)).2) := by
            have h9 := runF_add kk (left - kk) v1
            rw [show kk + (left - kk) = left by omega, hrun] at h9
            exact h9
          refine k_iadd E d_X_run_90 ?_
          refine lv_istore_n (lv' := [(3, .int (nI (dn + nd))), (2, .int (nI (left - kk))), (4, .int (nI kk)), (0, .ref (a 0))]) E.1 E.2.1 d_X_run_91 rfl hl (by decide) rfl (fun ls hl => ?_)
          refine lv_goto (tgt := 21) E.1 E.2.1 d_X_run_92 (by decide) ?_
          exact ih (left - kk) (dn + nd) u5 (afterW w) _ _ _ (by omega) (by omega) L6 (by omega) (by rw [r1, hsp]) (by rw [r2, hsp]; omega) (lv_sub hl [1, 0, 3] rfl) B
        refine lv_istore (lv' := [(4, .int (nI kk)), (2, .int (nI left)), (3, .int (nI dn)), (0, .ref (a 0))]) E.1 E.2.1 d_X_run_38 hl (by decide) rfl (fun ls hl => ?_)
        refine lv_aload_n E.1 E.2.1 d_X_run_40 rfl (lv_at hl 3 rfl) ?_
        refine k_getX E B 10 (by decide) wf_X_52 rfl (fX_Hp rfl) d_X_run_41 ?_
        refine k_if_le E 69 (by omega) d_X_run_44 (by decide) (fun h6 => ?_) (fun h6 => ?_)
        · skip
          have e9 : uCt u3 (xCt u3 + rt (xHp u3) * kk) = u3 := by
            rw [hrt h6, Nat.zero_mul, Nat.add_zero]
            rfl
          exact j69 _ _ _ (lv_sub hl [0, 1, 2, 3] rfl) (by rw [e9]; exact B)
        · skip
          refine lv_aload_n E.1 E.2.1 d_X_run_47 rfl (lv_at hl 3 rfl) ?_
          refine k_dup E rfl d_X_run_48 ?_
          refine k_getX E B 8 (by decide) wf_X_66 rfl (fX_Ct rfl) d_X_run_49 ?_
          refine k_sipush E 840 d_X_run_52 rfl ?_
          refine lv_aload_n E.1 E.2.1 d_X_run_55 rfl (lv_at hl 3 rfl) ?_
          refine k_getX E B 10 (by decide) wf_X_52 rfl (fX_Hp rfl) d_X_run_56 ?_
          refine k_idiv E (by omega) (by omega) (by omega) d_X_run_59 ?_
          refine k_i2l E (lt840 _) d_X_run_60 ?_
          refine lv_iload E.1 E.2.1 d_X_run_61 (lv_at hl 0 rfl) ?_
          refine k_i2l E (by omega) d_X_run_63 ?_
          refine k_lmul E d_X_run_64 ?_
          refine k_ladd E d_X_run_65 ?_
          refine k_putX (uCt u3 ((xCt u3) + ((840 / (xHp u3)) * kk))) E B 8 (by decide) wf_X_66 rfl rfl rfl rfl (wX_Ct _ _ _ _) d_X_run_66 (fun H locs B => ?_)
          rw [← hrt2 h6] at B
          exact j69 _ _ _ (lv_sub hl [0, 1, 2, 3] rfl) B
  have j19 : ∀ (ls : Array Slot), lv_has ls 5 [(2, .int (nI k)), (0, .ref (a 0))] → W p l e (rd 4) s m args below meth c s.heap [] 0 0 Q (F0 m 19 ls []) := by
    intro ls hl
    refine k_iconst E 0 d_X_run_19 rfl ?_
    refine lv_istore_n (lv' := [(3, .int (nI 0)), (2, .int (nI k)), (0, .ref (a 0))]) E.1 E.2.1 d_X_run_20 rfl hl (by decide) rfl (fun ls hl => ?_)
    exact loop k k 0 u v _ _ _ (by omega) hk5 hL (by omega) rfl (by rw [Nat.zero_add]) (lv_sub hl [1, 0, 2] rfl) B
  refine lv_iload_n E.1 E.2.1 d_X_run_0 rfl (lv_at hl 1 rfl) ?_
  refine lv_istore_n (lv' := [(2, .int n), (0, .ref (a 0)), (1, .int n)]) E.1 E.2.1 d_X_run_1 rfl hl (by decide) rfl (fun ls hl => ?_)
  refine lv_iload_n E.1 E.2.1 d_X_run_2 rfl (lv_at hl 0 rfl) ?_
  refine lv_if_ge (tgt := 8) E.1 E.2.1 d_X_run_3 (by decide) (fun h1 => ?_) (fun h1 => ?_)
  · skip
    refine lv_iload_n E.1 E.2.1 d_X_run_8 rfl (lv_at hl 0 rfl) ?_
    refine k_sipush E 5000 d_X_run_9 rfl ?_
    refine lv_icmp_le (tgt := 19) E.1 E.2.1 d_X_run_12 (by decide) (fun h2 => ?_) (fun h2 => ?_)
    · skip
      have hn := clampN_mid (i32_le_nlt h1) h2
      rw [← ek] at hn
      rw [hn] at hl
      exact j19 _ (lv_sub hl [0, 1] rfl)
    · skip
      have hk : k = 5000 := by
        rw [ek]
        unfold clampN
        rw [if_neg (i32_le_nlt h1), if_neg (show ¬ n ≤ 5000 from h2)]
      refine k_sipush E 5000 d_X_run_15 rfl ?_
      refine lv_istore_n (lv' := [(2, .int (nI 5000)), (0, .ref (a 0)), (1, .int n)]) E.1 E.2.1 d_X_run_18 rfl hl (by decide) rfl (fun ls hl => ?_)
      rw [← hk] at hl
      exact j19 _ (lv_sub hl [0, 1] rfl)
  · skip
    have hk : k = 0 := by
      rw [ek]
      unfold clampN
      rw [if_pos (i32_nle h1)]
    refine k_iconst E 0 d_X_run_6 rfl ?_
    refine lv_istore_n (lv' := [(2, .int (nI 0)), (0, .ref (a 0)), (1, .int n)]) E.1 E.2.1 d_X_run_7 rfl hl (by decide) rfl (fun ls hl => ?_)
    refine lv_iload_n E.1 E.2.1 d_X_run_8 rfl (lv_at hl 0 rfl) ?_
    refine k_sipush E 5000 d_X_run_9 rfl ?_
    refine k_icmp_le E 19 (by omega) (by omega) d_X_run_12 (by decide) (fun h2 => ?_) (fun h2 => ?_)
    · skip
      have h9 := j19 ls
      rw [hk] at h9
      exact h9 (lv_sub hl [0, 1] rfl)
    · skip
      exact absurd h2 (by omega)
end
section
theorem uWk_uCj (U : PX) (v : Nat → Nat) (w : Nat → Nat) : uWk (uCj U v) w = uCj (uWk U w) v := by
  simp only [uWk, uCj]
theorem uWk_uCm (U : PX) (v : Nat) (w : Nat → Nat) : uWk (uCm U v) w = uCm (uWk U w) v := by
  simp only [uWk, uCm]
theorem uWk_uIl (U : PX) (v : Nat) (w : Nat → Nat) : uWk (uIl U v) w = uIl (uWk U w) v := by
  simp only [uWk, uIl]
theorem uWk_uLj (U : PX) (v : Nat → Nat) (w : Nat → Nat) : uWk (uLj U v) w = uLj (uWk U w) v := by
  simp only [uWk, uLj]
theorem LkC.room3 {b T J : Nat} {sz ar st : Nat → Nat} {ad fi : Nat → Int32} {wk : Nat → Nat} {ct : Nat} {mk : Nat → Nat} {hp : Nat} {hj : Nat → Nat} {cm : Nat} {cj : Nat → Nat} {il : Nat} {lj : Nat → Nat} {v : PM} (L : LkC b T J sz ar st ad fi wk ct mk hp hj cm cj il lj v) : il + cm ≤ mJ v := by
  obtain ⟨⟨eT, eJ, hM⟩, -, -, ⟨-, hH⟩, hC, hL, -⟩ := L
  have h0 : cnt (fun j => mstB v b j == 0) (mJ v) = cm := hC.1.count (fun j => by rw [beq_iff_eq])
  have h1 : cnt (fun j => mstB v b j == 1) (mJ v) = il := hL.1.count (fun j => by rw [beq_iff_eq])
  have hd := cnt_disj (P := fun j => mstB v b j == 1) (Q := fun j => mstB v b j == 0) (n := mJ v) (fun j _ q => by
    have q1 := beq_iff_eq.mp q.1
    have q2 := beq_iff_eq.mp q.2
    omega)
  omega
set_option maxHeartbeats 4000000 in
set_option maxRecDepth 100000 in
/-- cancel(job) -/
theorem c_X_cancel (l : Launch) (D : va_G) (a : Nat → Nat) (g : Nat → ClassId) (u : PX) (j : Int32) (v : PM) (hL : Lk (xT u) u v) : MetI l y_X_cancel b_X_cancel 3 (some .int) 4 D (tX g) (wX a g) [.ref (a 0), .int j] u (fun r u' => ∃ v', CanR v j v' r ∧ Lk (xT u') u' v') := by
  refine MetI.of (by decide) (Nat.le_of_ble_eq_true rfl) ?_
  intro p e s m args below meth c A Q ls E hl B ret
  have E : CallFix p m c b_X_cancel 3 s args lw_ws R_X := E
  have hl : lv_has ls 3 [(0, .ref (a 0)), (1, .int j)] := hl
  obtain ⟨⟨eT, eJ, hM⟩, hv, hw, ⟨h8, hH⟩, hC, hLi, hb⟩ := id hL
  have hrm := LkC.room hL
  have hJ := hM.1
  have hTM := hM.2.1
  have hctb : xCt u < 2 ^ 50 := by have := hb.2; omega
  refine lv_aload_n E.1 E.2.1 d_X_cancel_0 rfl (lv_at hl 0 rfl) ?_
  refine lv_iload_n E.1 E.2.1 d_X_cancel_1 rfl (lv_at hl 1 rfl) ?_
  refine k_calli (As := [.int j]) (rest := []) E (c_X_noJob l D a g u j) kc_X_77 ⟨Nat.le_of_ble_eq_true rfl, Nat.le_of_ble_eq_true rfl⟩ B (show classes[0]? = _ from rfl) rfl hl.1 rfl (Nat.le_of_ble_eq_true rfl) d_X_cancel_2 ⟨Nat.le_of_ble_eq_true rfl, Nat.le_of_ble_eq_true rfl⟩ (fun r u1 H locs hq B => ?_)
  obtain ⟨hu, hr⟩ := hq
  rw [hu] at B
  by_cases hj : j < 0 ∨ nI (xJ u) ≤ j
  · skip
    rw [if_pos hj] at hr
    refine lv_if_eq (tgt := 11) E.1 E.2.1 d_X_cancel_5 (by decide) (fun h1 => ?_) (fun h1 => ?_)
    · skip
      exact absurd (h1.symm.trans hr) (by decide)
    · skip
      refine lv_bipush (v := -4) E.1 E.2.1 d_X_cancel_8 rfl ?_
      exact ret _ _ _ _ _ _ ⟨v, Or.inl ⟨by rw [← eJ]; exact hj, rfl, rfl⟩, hL⟩ rfl B d_X_cancel_10
  · skip
    rw [if_neg hj] at hr
    refine lv_if_eq (tgt := 11) E.1 E.2.1 d_X_cancel_5 (by decide) (fun h1 => ?_) (fun h1 => ?_)
    · skip
      obtain ⟨k, hk, rfl⟩ := qry_in (by omega) hj
      rw [eJ] at hk
      obtain ⟨p1, p2, p3, p4, p5, p6⟩ := hv k hk
      obtain ⟨w1, w2, w3⟩ := hw k hk
      have m5 := mst_5 v k
      have hms : mst v k = mstB v (xT u) k := by rw [eT]; rfl
      have hst : xSt u k < 5 := by omega
      refine lv_aload_n E.1 E.2.1 d_X_cancel_11 rfl (lv_at hl 0 rfl) ?_
      refine k_getX E B 4 (by decide) wf_X_16 rfl rfl d_X_cancel_12 ?_
      refine lv_iload_n E.1 E.2.1 d_X_cancel_15 rfl (lv_at hl 1 rfl) ?_
      refine k_ild E B 3 2 (aX_St rfl) rfl (by omega) (by decide) d_X_cancel_16 ?_
      refine k_iconst E 3 d_X_cancel_17 rfl ?_
      refine k_icmp_lt E 24 (by omega) (by omega) d_X_cancel_18 (by decide) (fun h2 => ?_) (fun h2 => ?_)
      · skip
        refine lv_aload_n E.1 E.2.1 d_X_cancel_24 rfl (lv_at hl 0 rfl) ?_
        refine lv_iload_n E.1 E.2.1 d_X_cancel_25 rfl (lv_at hl 1 rfl) ?_
        refine k_calli (As := [.int (nI k)]) (rest := []) E (c_X_had l D a g u (nI k) (by omega) (fun i hi => by rw [(hv i (by omega)).2.2.2.2.1]; have := mst_5 v i; rw [mst_B, ← eT] at this; exact this) (fun i hi => by rw [(hv i (by omega)).1]; have := (hM.2.2 i (by omega)).1; omega) (fun i hi hi2 => by
          obtain ⟨q1, q2, q3, q4, q5, q6⟩ := hv i (by omega)
          obtain ⟨z1, z2⟩ := (hw i (by omega)).1 (by rw [← q5]; exact hi2)
          rw [q1]
          omega)) kc_X_81 ⟨Nat.le_of_ble_eq_true rfl, Nat.le_of_ble_eq_true rfl⟩ B (show classes[0]? = _ from rfl) rfl hl.1 rfl (Nat.le_of_ble_eq_true rfl) d_X_cancel_26 ⟨Nat.le_of_ble_eq_true rfl, Nat.le_of_ble_eq_true rfl⟩ (fun r u1 H locs hq B => ?_)
        obtain ⟨hu, hr2⟩ := hq
        rw [hu] at B
        have hwk : r = nI (mWk v k) := by
          rw [hr2, qry_at (by omega) (by omega)]
          congr 1
          split
          · rename_i z
            obtain ⟨z1, z2⟩ := w1 (by rw [← p5]; exact z)
            rw [p1]
            omega
          · rename_i z
            exact w2 (fun y => z (by rw [p5]; exact y))
        subst hwk
        have j70 : ∀ (hp2 cm2 il2 : Nat) (hj2 cj2 lj2 : Nat → Nat) (H : Heap) (locs : List Loc) (ls : Array Slot), hp2 ≤ 8 → Hp (key (xMk u)) hj2 hp2 (fun j => (j < mJ v ∧ mstB v (xT u) j = 2) ∧ j ≠ k) → Que (key (mAr v)) cj2 cm2 (fun j => (j < mJ v ∧ mstB v (xT u) j = 0) ∧ j ≠ k) → Que (key (mAr v)) lj2 il2 (fun j => (j < mJ v ∧ mstB v (xT u) j = 1) ∧ j ≠ k) → lv_has ls 3 [(2, .int (nI (mWk v k))), (0, .ref (a 0)), (1, .int (nI k))] → wB D (tX g) s A s.heap (wX a g (uLj (uIl (uCj (uCm (uHj (uHp u hp2) hj2) cm2) cj2) il2) lj2)) H locs → W p l e (rd 4) s m args below meth c H locs 0 0 Q (F0 m 70 ls []) := by
          intro hp2 cm2 il2 hj2 cj2 lj2 H locs ls c1 c2 c3 c4 hl B
          refine lv_aload_n E.1 E.2.1 d_X_cancel_70 rfl (lv_at hl 1 rfl) ?_
          refine k_getX E B 4 (by decide) wf_X_16 rfl rfl d_X_cancel_71 ?_
          refine lv_iload_n E.1 E.2.1 d_X_cancel_74 rfl (lv_at hl 2 rfl) ?_
          refine k_iconst E 4 d_X_cancel_75 rfl ?_
          refine k_ist E B 3 2 (ws' := wX a g (uSt (uLj (uIl (uCj (uCm (uHj (uHp u hp2) hj2) cm2) cj2) il2) lj2) (va_up (xSt u) k 4))) (aX_St ((xSt_uLj _ _).trans ((xSt_uIl _ _).trans ((xSt_uCj _ _).trans ((xSt_uCm _ _).trans ((xSt_uHj _ _).trans (xSt_uHp _ _))))))) rfl (by omega) (by decide) (wX_St _ _ _ _) d_X_cancel_76 (fun H locs B => ?_)
          rw [uSt_uLj, uSt_uIl, uSt_uCj, uSt_uCm, uSt_uHj, uSt_uHp] at B
          refine lv_aload_n E.1 E.2.1 d_X_cancel_77 rfl (lv_at hl 1 rfl) ?_
          refine k_getX E B 7 (by decide) wf_X_25 rfl rfl d_X_cancel_78 ?_
          refine lv_iload_n E.1 E.2.1 d_X_cancel_81 rfl (lv_at hl 2 rfl) ?_
          refine lv_iload_n E.1 E.2.1 d_X_cancel_82 rfl (lv_at hl 0 rfl) ?_
          refine k_ist E B 6 5 (ws' := wX a g (uWk (uLj (uIl (uCj (uCm (uHj (uHp (uSt u (va_up (xSt u) k 4)) hp2) hj2) cm2) cj2) il2) lj2) (va_up (xWk u) k (mWk v k)))) (aX_Wk ((xWk_uLj _ _).trans ((xWk_uIl _ _).trans ((xWk_uCj _ _).trans ((xWk_uCm _ _).trans ((xWk_uHj _ _).trans ((xWk_uHp _ _).trans (xWk_uSt _ _)))))))) rfl (by omega) (by decide) (wX_Wk _ _ _ _) d_X_cancel_83 (fun H locs B => ?_)
          rw [uWk_uLj, uWk_uIl, uWk_uCj, uWk_uCm, uWk_uHj, uWk_uHp] at B
          refine lv_iload_n E.1 E.2.1 d_X_cancel_84 rfl (lv_at hl 0 rfl) ?_
          refine ret _ _ _ _ _ _ ⟨vGn v (va_up (mGn v) k 1), Or.inr ⟨k, hk, rfl, Or.inr ⟨by omega, rfl, rfl⟩⟩, ?_⟩ rfl B d_X_cancel_85
          unfold Lk
          simp only [xT_uSt, xT_uWk, xT_uHp, xT_uHj, xT_uCm, xT_uCj, xT_uIl, xT_uLj, xJ_uSt, xJ_uWk, xJ_uHp, xJ_uHj, xJ_uCm, xJ_uCj, xJ_uIl, xJ_uLj, xSz_uSt, xSz_uWk, xSz_uHp, xSz_uHj, xSz_uCm, xSz_uCj, xSz_uIl, xSz_uLj, xAr_uSt, xAr_uWk, xAr_uHp, xAr_uHj, xAr_uCm, xAr_uCj, xAr_uIl, xAr_uLj, xSt_uSt, xSt_uWk, xSt_uHp, xSt_uHj, xSt_uCm, xSt_uCj, xSt_uIl, xSt_uLj, xAd_uSt, xAd_uWk, xAd_uHp, xAd_uHj, xAd_uCm, xAd_uCj, xAd_uIl, xAd_uLj, xFi_uSt, xFi_uWk, xFi_uHp, xFi_uHj, xFi_uCm, xFi_uCj, xFi_uIl, xFi_uLj, xWk_uSt, xWk_uWk, xWk_uHp, xWk_uHj, xWk_uCm, xWk_uCj, xWk_uIl, xWk_uLj, xCt_uSt, xCt_uWk, xCt_uHp, xCt_uHj, xCt_uCm, xCt_uCj, xCt_uIl, xCt_uLj, xMk_uSt, xMk_uWk, xMk_uHp, xMk_uHj, xMk_uCm, xMk_uCj, xMk_uIl, xMk_uLj, xHp_uSt, xHp_uWk, xHp_uHp, xHp_uHj, xHp_uCm, xHp_uCj, xHp_uIl, xHp_uLj, xHj_uSt, xHj_uWk, xHj_uHp, xHj_uHj, xHj_uCm, xHj_uCj, xHj_uIl, xHj_uLj, xCm_uSt, xCm_uWk, xCm_uHp, xCm_uHj, xCm_uCm, xCm_uCj, xCm_uIl, xCm_uLj, xCj_uSt, xCj_uWk, xCj_uHp, xCj_uHj, xCj_uCm, xCj_uCj, xCj_uIl, xCj_uLj, xIl_uSt, xIl_uWk, xIl_uHp, xIl_uHj, xIl_uCm, xIl_uCj, xIl_uIl, xIl_uLj, xLj_uSt, xLj_uWk, xLj_uHp, xLj_uHj, xLj_uCm, xLj_uCj, xLj_uIl, xLj_uLj]
          exact cancel_C hL hk rfl rfl c1 c2 c3 c4
        have hnk : ∀ (n : Nat), mstB v (xT u) k ≠ n → ∀ j, (j < mJ v ∧ mstB v (xT u) j = n) ↔ ((j < mJ v ∧ mstB v (xT u) j = n) ∧ j ≠ k) := fun n hn j => ⟨fun q => ⟨q, fun e => hn (by rw [← e]; exact q.2)⟩, fun q => q.1⟩
        refine lv_istore_n (lv' := [(2, .int (nI (mWk v k))), (0, .ref (a 0)), (1, .int (nI k))]) E.1 E.2.1 d_X_cancel_29 rfl hl (by decide) rfl (fun ls hl => ?_)
        refine lv_aload_n E.1 E.2.1 d_X_cancel_30 rfl (lv_at hl 1 rfl) ?_
        refine k_getX E B 4 (by decide) wf_X_16 rfl rfl d_X_cancel_31 ?_
        refine lv_iload_n E.1 E.2.1 d_X_cancel_34 rfl (lv_at hl 2 rfl) ?_
        refine k_ild E B 3 2 (aX_St rfl) rfl (by omega) (by decide) d_X_cancel_35 ?_
        refine k_if_ne E 47 (by omega) d_X_cancel_36 (by decide) (fun h3 => ?_) (fun h3 => ?_)
        · skip
          refine lv_aload_n E.1 E.2.1 d_X_cancel_47 rfl (lv_at hl 1 rfl) ?_
          refine k_getX E B 4 (by decide) wf_X_16 rfl rfl d_X_cancel_48 ?_
          refine lv_iload_n E.1 E.2.1 d_X_cancel_51 rfl (lv_at hl 2 rfl) ?_
          refine k_ild E B 3 2 (aX_St rfl) rfl (by omega) (by decide) d_X_cancel_52 ?_
          refine k_iconst E 1 d_X_cancel_53 rfl ?_
          refine k_icmp_ne E 65 (by omega) (by omega) d_X_cancel_54 (by decide) (fun h4 => ?_) (fun h4 => ?_)
          · skip
            have hs2 : mstB v (xT u) k = 2 := by omega
            refine lv_aload_n E.1 E.2.1 d_X_cancel_65 rfl (lv_at hl 1 rfl) ?_
            refine lv_iload_n E.1 E.2.1 d_X_cancel_66 rfl (lv_at hl 2 rfl) ?_
            refine k_callv (As := [.int (nI k)]) (rest := []) E (c_X_leaveHeap l D a g u k (xMk u) (xHj u) (xHp u) (fun j => j < mJ v ∧ mstB v (xT u) j = 2) rfl rfl rfl (fun j hj => by have := hj.1; omega) (fun i hi => by have := hb.1 i hi; omega) h8 ⟨hk, hs2⟩ hH) kc_X_91 ⟨Nat.le_of_ble_eq_true rfl, Nat.le_of_ble_eq_true rfl⟩ B (show classes[0]? = _ from rfl) rfl hl.1 rfl (Nat.le_of_ble_eq_true rfl) d_X_cancel_67 ⟨Nat.le_of_ble_eq_true rfl, Nat.le_of_ble_eq_true rfl⟩ (fun u1 H locs hq B => ?_)
            obtain ⟨h', hu, hH'⟩ := hq
            rw [hu] at B
            have B : wB D (tX g) s A s.heap (wX a g (uLj (uIl (uCj (uCm (uHj (uHp u (xHp u - 1)) h') (xCm u)) (xCj u)) (xIl u)) (xLj u))) H locs := by
              have e9 : uLj (uIl (uCj (uCm (uHj (uHp u (xHp u - 1)) h') (xCm u)) (xCj u)) (xIl u)) (xLj u) = uHj (uHp u (xHp u - 1)) h' := by first | rfl | simp only [uCj, uCm, uHj, uHp, uIl, uLj, xCj, xCm, xHp, xIl, xLj, Prod.mk.eta]
              rw [e9]
              exact B
            exact j70 _ _ _ _ _ _ _ _ _ (by omega) hH' (hC.congr (hnk 0 (by omega))) (hLi.congr (hnk 1 (by omega))) (lv_sub hl [0, 1, 2] rfl) B
          · skip
            have hs1 : mstB v (xT u) k = 1 := by omega
            obtain ⟨pp, hpp, epp⟩ := hLi.1.2.1 k ⟨hk, hs1⟩
            refine lv_aload_n E.1 E.2.1 d_X_cancel_57 rfl (lv_at hl 1 rfl) ?_
            refine lv_iload_n E.1 E.2.1 d_X_cancel_58 rfl (lv_at hl 2 rfl) ?_
            refine k_callv (As := [.int (nI k)]) (rest := []) E (c_X_leaveLine l D a g u k (xIl u) pp (xLj u) rfl rfl (by omega) (by omega) (fun i hi => by have := (hLi.1.1 i hi).1; omega) hpp epp (fun i hi hne e => hne (hLi.1.2.2 i pp hi hpp (e.trans epp.symm)))) kc_X_88 ⟨Nat.le_of_ble_eq_true rfl, Nat.le_of_ble_eq_true rfl⟩ B (show classes[0]? = _ from rfl) rfl hl.1 rfl (Nat.le_of_ble_eq_true rfl) d_X_cancel_59 ⟨Nat.le_of_ble_eq_true rfl, Nat.le_of_ble_eq_true rfl⟩ (fun u1 H locs hq B => ?_)
            obtain ⟨cj', hu, hcut⟩ := hq
            rw [hu] at B
            have hQ := hLi.cut hpp hcut
            rw [epp] at hQ
            have B : wB D (tX g) s A s.heap (wX a g (uLj (uIl (uCj (uCm (uHj (uHp u (xHp u)) (xHj u)) (xCm u)) (xCj u)) (xIl u - 1)) cj')) H locs := by
              have e9 : uLj (uIl (uCj (uCm (uHj (uHp u (xHp u)) (xHj u)) (xCm u)) (xCj u)) (xIl u - 1)) cj' = uLj (uIl u (xIl u - 1)) cj' := by first | rfl | simp only [uCj, uCm, uHj, uHp, uIl, uLj, xCj, xCm, xHj, xHp, xIl, Prod.mk.eta]
              rw [e9]
              exact B
            refine lv_goto (tgt := 70) E.1 E.2.1 d_X_cancel_62 (by decide) ?_
            exact j70 _ _ _ _ _ _ _ _ _ h8 (hH.congr (hnk 2 (by omega)) (fun _ _ => rfl)) (hC.congr (hnk 0 (by omega))) (hQ) (lv_sub hl [0, 1, 2] rfl) B
        · skip
          have hs0 : mstB v (xT u) k = 0 := by omega
          obtain ⟨pp, hpp, epp⟩ := hC.1.2.1 k ⟨hk, hs0⟩
          refine lv_aload_n E.1 E.2.1 d_X_cancel_39 rfl (lv_at hl 1 rfl) ?_
          refine lv_iload_n E.1 E.2.1 d_X_cancel_40 rfl (lv_at hl 2 rfl) ?_
          refine k_callv (As := [.int (nI k)]) (rest := []) E (c_X_leaveComing l D a g u k (xCm u) pp (xCj u) rfl rfl (by omega) (by omega) (fun i hi => by have := (hC.1.1 i hi).1; omega) hpp epp (fun i hi hne e => hne (hC.1.2.2 i pp hi hpp (e.trans epp.symm)))) kc_X_85 ⟨Nat.le_of_ble_eq_true rfl, Nat.le_of_ble_eq_true rfl⟩ B (show classes[0]? = _ from rfl) rfl hl.1 rfl (Nat.le_of_ble_eq_true rfl) d_X_cancel_41 ⟨Nat.le_of_ble_eq_true rfl, Nat.le_of_ble_eq_true rfl⟩ (fun u1 H locs hq B => ?_)
          obtain ⟨cj', hu, hcut⟩ := hq
          rw [hu] at B
          have hQ := hC.cut hpp hcut
          rw [epp] at hQ
          have B : wB D (tX g) s A s.heap (wX a g (uLj (uIl (uCj (uCm (uHj (uHp u (xHp u)) (xHj u)) (xCm u - 1)) cj') (xIl u)) (xLj u))) H locs := by
            have e9 : uLj (uIl (uCj (uCm (uHj (uHp u (xHp u)) (xHj u)) (xCm u - 1)) cj') (xIl u)) (xLj u) = uCj (uCm u (xCm u - 1)) cj' := by first | rfl | simp only [uCj, uCm, uHj, uHp, uIl, uLj, xCm, xHj, xHp, xIl, xLj, Prod.mk.eta]
            rw [e9]
            exact B
          refine lv_goto (tgt := 70) E.1 E.2.1 d_X_cancel_44 (by decide) ?_
          exact j70 _ _ _ _ _ _ _ _ _ h8 (hH.congr (hnk 2 (by omega)) (fun _ _ => rfl)) (hQ) (hLi.congr (hnk 1 (by omega))) (lv_sub hl [0, 1, 2] rfl) B
      · skip
        refine lv_bipush (v := -5) E.1 E.2.1 d_X_cancel_21 rfl ?_
        exact ret _ _ _ _ _ _ ⟨v, Or.inr ⟨k, hk, rfl, Or.inl ⟨by omega, rfl, rfl⟩⟩, hL⟩ rfl B d_X_cancel_23
    · skip
      exact absurd hr h1
set_option maxHeartbeats 4000000 in
set_option maxRecDepth 100000 in
/-- submit(size, after) -/
theorem c_X_submit (l : Launch) (D : va_G) (a : Nat → Nat) (g : Nat → ClassId) (u : PX) (x y : Int32) (v : PM) (hL : Lk (xT u) u v) (hTb : xT u + 1000 < 2 ^ 30) : MetI l y_X_submit b_X_submit 5 (some .int) 0 D (tX g) (wX a g) [.ref (a 0), .int x, .int y] u (fun r u' => ∃ v', SubR v x y v' r ∧ Lk (xT u') u' v') := by
  refine MetI.of (by decide) (Nat.le_of_ble_eq_true rfl) ?_
  intro p e s m args below meth c A Q ls E hl B ret
  have E : CallFix p m c b_X_submit 5 s args lw_ws R_X := E
  have hl : lv_has ls 5 [(0, .ref (a 0)), (1, .int x), (2, .int y)] := hl
  obtain ⟨⟨eT, eJ, hM⟩, hv, hw, ⟨h8, hH⟩, hC, hLi, hb⟩ := id hL
  have hrm := LkC.room hL
  have hJ := hM.1
  have hTM := hM.2.1
  have hr3 := LkC.room3 hL
  refine lv_iload_n E.1 E.2.1 d_X_submit_0 rfl (lv_at hl 1 rfl) ?_
  refine k_iconst E 1 d_X_submit_1 rfl ?_
  refine lv_icmp_lt (tgt := 11) E.1 E.2.1 d_X_submit_2 (by decide) (fun h1 => ?_) (fun h1 => ?_)
  · skip
    refine lv_iconst (v := -1) E.1 E.2.1 d_X_submit_11 rfl ?_
    exact ret _ _ _ _ _ _ ⟨v, Or.inl ⟨Or.inl ⟨Or.inl h1, rfl⟩, rfl⟩, hL⟩ rfl B d_X_submit_12
  · skip
    refine lv_iload_n E.1 E.2.1 d_X_submit_5 rfl (lv_at hl 1 rfl) ?_
    refine lv_ldc E.1 E.2.1 E.2.2.2.1 (E.2.2.2.2 _ wv_X) d_X_submit_6 ?_
    refine lv_icmp_le (tgt := 13) E.1 E.2.1 d_X_submit_8 (by decide) (fun h2 => ?_) (fun h2 => ?_)
    · skip
      refine lv_iload_n E.1 E.2.1 d_X_submit_13 rfl (lv_at hl 2 rfl) ?_
      refine lv_if_lt (tgt := 24) E.1 E.2.1 d_X_submit_14 (by decide) (fun h3 => ?_) (fun h3 => ?_)
      · skip
        refine lv_bipush (v := -2) E.1 E.2.1 d_X_submit_24 rfl ?_
        exact ret _ _ _ _ _ _ ⟨v, Or.inl ⟨Or.inr (Or.inl ⟨h1, h2, Or.inl h3, rfl⟩), rfl⟩, hL⟩ rfl B d_X_submit_26
      · skip
        refine lv_iload_n E.1 E.2.1 d_X_submit_17 rfl (lv_at hl 2 rfl) ?_
        refine k_sipush E 1000 d_X_submit_18 rfl ?_
        refine lv_icmp_le (tgt := 27) E.1 E.2.1 d_X_submit_21 (by decide) (fun h4 => ?_) (fun h4 => ?_)
        · skip
          refine lv_aload_n E.1 E.2.1 d_X_submit_27 rfl (lv_at hl 0 rfl) ?_
          refine k_getX E B 1 (by decide) wf_X_45 rfl (fX_J rfl) d_X_submit_28 ?_
          refine k_bipush E 24 d_X_submit_31 rfl ?_
          refine k_icmp_lt E 39 (by omega) (by omega) d_X_submit_33 (by decide) (fun h5 => ?_) (fun h5 => ?_)
          · skip
            obtain ⟨sz, hz1, hz2, rfl⟩ := sub_size h1 h2
            obtain ⟨af, ha, rfl⟩ := sub_after h3 h4
            have hlt : xJ u < 24 := h5
            refine lv_aload_n E.1 E.2.1 d_X_submit_39 rfl (lv_at hl 0 rfl) ?_
            refine k_getX E B 1 (by decide) wf_X_45 rfl (fX_J rfl) d_X_submit_40 ?_
            refine lv_istore_n (lv' := [(3, .int (nI (xJ u))), (0, .ref (a 0)), (1, .int (nI sz)), (2, .int (nI af))]) E.1 E.2.1 d_X_submit_43 rfl hl (by decide) rfl (fun ls hl => ?_)
            refine lv_aload_n E.1 E.2.1 d_X_submit_44 rfl (lv_at hl 1 rfl) ?_
            refine k_dup E rfl d_X_submit_45 ?_
            refine k_getX E B 1 (by decide) wf_X_45 rfl (fX_J rfl) d_X_submit_46 ?_
            refine k_iconst E 1 d_X_submit_49 rfl ?_
            refine k_iadd E d_X_submit_50 ?_
            refine k_putX (uJ u ((xJ u) + 1)) E B 1 (by decide) wf_X_45 rfl rfl rfl rfl (wX_J _ _ _ _) d_X_submit_51 (fun H locs B => ?_)
            refine lv_aload_n E.1 E.2.1 d_X_submit_54 rfl (lv_at hl 1 rfl) ?_
            refine k_getX E B 2 (by decide) wf_X_7 rfl rfl d_X_submit_55 ?_
            refine lv_iload_n E.1 E.2.1 d_X_submit_58 rfl (lv_at hl 0 rfl) ?_
            refine lv_iload_n E.1 E.2.1 d_X_submit_59 rfl (lv_at hl 2 rfl) ?_
            refine k_ist E B 1 0 (ws' := wX a g (uSz (uJ u ((xJ u) + 1)) (va_up (xSz u) (xJ u) sz))) (aX_Sz (xSz_uJ _ _)) rfl (by omega) (by decide) (wX_Sz _ _ _ _) d_X_submit_60 (fun H locs B => ?_)
            refine lv_aload_n E.1 E.2.1 d_X_submit_61 rfl (lv_at hl 1 rfl) ?_
            refine k_getX E B 3 (by decide) wf_X_13 rfl rfl d_X_submit_62 ?_
            refine lv_iload_n E.1 E.2.1 d_X_submit_65 rfl (lv_at hl 0 rfl) ?_
            refine lv_aload_n E.1 E.2.1 d_X_submit_66 rfl (lv_at hl 1 rfl) ?_
            refine k_getX E B 0 (by decide) wf_X_41 rfl (fX_T ((xT_uSz _ _).trans (xT_uJ _ _))) d_X_submit_67 ?_
            refine lv_iload_n E.1 E.2.1 d_X_submit_70 rfl (lv_at hl 3 rfl) ?_
            refine k_iadd E d_X_submit_71 ?_
            refine k_ist E B 2 1 (ws' := wX a g (uAr (uSz (uJ u ((xJ u) + 1)) (va_up (xSz u) (xJ u) sz)) (va_up (xAr u) (xJ u) ((xT u) + af)))) (aX_Ar ((xAr_uSz _ _).trans (xAr_uJ _ _))) rfl (by omega) (by decide) (wX_Ar _ _ _ _) d_X_submit_72 (fun H locs B => ?_)
            refine lv_aload_n E.1 E.2.1 d_X_submit_73 rfl (lv_at hl 1 rfl) ?_
            refine k_getX E B 4 (by decide) wf_X_16 rfl rfl d_X_submit_74 ?_
            refine lv_iload_n E.1 E.2.1 d_X_submit_77 rfl (lv_at hl 0 rfl) ?_
            refine k_iconst E 0 d_X_submit_78 rfl ?_
            refine k_ist E B 3 2 (ws' := wX a g (uSt (uAr (uSz (uJ u ((xJ u) + 1)) (va_up (xSz u) (xJ u) sz)) (va_up (xAr u) (xJ u) ((xT u) + af))) (va_up (xSt u) (xJ u) 0))) (aX_St ((xSt_uAr _ _).trans ((xSt_uSz _ _).trans (xSt_uJ _ _)))) rfl (by omega) (by decide) (wX_St _ _ _ _) d_X_submit_79 (fun H locs B => ?_)
            refine lv_aload_n E.1 E.2.1 d_X_submit_80 rfl (lv_at hl 1 rfl) ?_
            refine k_getX E B 5 (by decide) wf_X_19 rfl rfl d_X_submit_81 ?_
            refine lv_iload_n E.1 E.2.1 d_X_submit_84 rfl (lv_at hl 0 rfl) ?_
            refine lv_bipush (v := -5) E.1 E.2.1 d_X_submit_85 rfl ?_
            refine k_istR E B 4 3 (ws' := wX a g (uAd (uSt (uAr (uSz (uJ u ((xJ u) + 1)) (va_up (xSz u) (xJ u) sz)) (va_up (xAr u) (xJ u) ((xT u) + af))) (va_up (xSt u) (xJ u) 0)) (upd (xAd u) (xJ u) (-5)))) (aX_Ad ((xAd_uSt _ _).trans ((xAd_uAr _ _).trans ((xAd_uSz _ _).trans (xAd_uJ _ _))))) rfl (by omega) (by decide) (wX_Ad _ _ _ _) d_X_submit_87 (fun H locs B => ?_)
            refine lv_aload_n E.1 E.2.1 d_X_submit_88 rfl (lv_at hl 1 rfl) ?_
            refine k_getX E B 6 (by decide) wf_X_22 rfl rfl d_X_submit_89 ?_
            refine lv_iload_n E.1 E.2.1 d_X_submit_92 rfl (lv_at hl 0 rfl) ?_
            refine lv_bipush (v := -5) E.1 E.2.1 d_X_submit_93 rfl ?_
            refine k_istR E B 5 4 (ws' := wX a g (uFi (uAd (uSt (uAr (uSz (uJ u ((xJ u) + 1)) (va_up (xSz u) (xJ u) sz)) (va_up (xAr u) (xJ u) ((xT u) + af))) (va_up (xSt u) (xJ u) 0)) (upd (xAd u) (xJ u) (-5))) (upd (xFi u) (xJ u) (-5)))) (aX_Fi ((xFi_uAd _ _).trans ((xFi_uSt _ _).trans ((xFi_uAr _ _).trans ((xFi_uSz _ _).trans (xFi_uJ _ _)))))) rfl (by omega) (by decide) (wX_Fi _ _ _ _) d_X_submit_95 (fun H locs B => ?_)
            refine lv_aload_n E.1 E.2.1 d_X_submit_96 rfl (lv_at hl 1 rfl) ?_
            refine k_getX E B 7 (by decide) wf_X_25 rfl rfl d_X_submit_97 ?_
            refine lv_iload_n E.1 E.2.1 d_X_submit_100 rfl (lv_at hl 0 rfl) ?_
            refine k_iconst E 0 d_X_submit_101 rfl ?_
            refine k_ist E B 6 5 (ws' := wX a g (uWk (uFi (uAd (uSt (uAr (uSz (uJ u ((xJ u) + 1)) (va_up (xSz u) (xJ u) sz)) (va_up (xAr u) (xJ u) ((xT u) + af))) (va_up (xSt u) (xJ u) 0)) (upd (xAd u) (xJ u) (-5))) (upd (xFi u) (xJ u) (-5))) (va_up (xWk u) (xJ u) 0))) (aX_Wk ((xWk_uFi _ _).trans ((xWk_uAd _ _).trans ((xWk_uSt _ _).trans ((xWk_uAr _ _).trans ((xWk_uSz _ _).trans (xWk_uJ _ _))))))) rfl (by omega) (by decide) (wX_Wk _ _ _ _) d_X_submit_102 (fun H locs B => ?_)
            refine lv_aload_n E.1 E.2.1 d_X_submit_103 rfl (lv_at hl 1 rfl) ?_
            refine k_getX E B 12 (by decide) wf_X_49 rfl (fX_Cm ((xCm_uWk _ _).trans ((xCm_uFi _ _).trans ((xCm_uAd _ _).trans ((xCm_uSt _ _).trans ((xCm_uAr _ _).trans ((xCm_uSz _ _).trans (xCm_uJ _ _)))))))) d_X_submit_104 ?_
            refine lv_istore (lv' := [(4, .int (nI (xCm u))), (3, .int (nI (xJ u))), (0, .ref (a 0)), (1, .int (nI sz)), (2, .int (nI af))]) E.1 E.2.1 d_X_submit_107 hl (by decide) rfl (fun ls hl => ?_)
            have hcl : ∀ i, i < xCm u → xCj u i < xJ u ∧ xAr u (xCj u i) < 2 ^ 30 := fun i hi => by
              have h9 := (hC.1.1 i hi).1
              rw [(hv _ h9).2.1]
              exact ⟨by omega, (hM.2.2 _ h9).2.2.1⟩
            have loop : ∀ (at4 : Nat) (cj2 : Nat → Nat) (H : Heap) (locs : List Loc) (ls : Array Slot), at4 ≤ xCm u → (∀ i, i < at4 → cj2 i = xCj u i) → (∀ i, at4 ≤ i → i < xCm u → cj2 (i + 1) = xCj u i ∧ xT u + af < xAr u (xCj u i)) → lv_has ls 5 [(4, .int (nI at4)), (3, .int (nI (xJ u))), (0, .ref (a 0)), (1, .int (nI sz)), (2, .int (nI af))] → wB D (tX g) s A s.heap (wX a g (uCj (uCm (uWk (uFi (uAd (uSt (uAr (uSz (uJ u ((xJ u) + 1)) (va_up (xSz u) (xJ u) sz)) (va_up (xAr u) (xJ u) ((xT u) + af))) (va_up (xSt u) (xJ u) 0)) (upd (xAd u) (xJ u) (-5))) (upd (xFi u) (xJ u) (-5))) (va_up (xWk u) (xJ u) 0)) (xCm u)) cj2)) H locs → W p l e (rd 0) s m args below meth c H locs 0 0 Q (F0 m 109 ls []) := by
              intro at4
              induction at4 with
              | zero =>
                intro cj2 H locs ls hat c1 c2 hl B
                refine lv_iload E.1 E.2.1 d_X_submit_109 (lv_at hl 0 rfl) ?_
                refine k_if_le E 159 (by omega) d_X_submit_111 (by decide) (fun e1 => ?_) (fun e1 => ?_)
                · skip
                  refine lv_aload_n E.1 E.2.1 d_X_submit_159 rfl (lv_at hl 2 rfl) ?_
                  refine k_getX E B 13 (by decide) wf_X_35 rfl rfl d_X_submit_160 ?_
                  refine lv_iload E.1 E.2.1 d_X_submit_163 (lv_at hl 0 rfl) ?_
                  refine lv_iload_n E.1 E.2.1 d_X_submit_165 rfl (lv_at hl 1 rfl) ?_
                  refine k_ist E B 9 8 (ws' := wX a g (uCj (uCj (uCm (uWk (uFi (uAd (uSt (uAr (uSz (uJ u ((xJ u) + 1)) (va_up (xSz u) (xJ u) sz)) (va_up (xAr u) (xJ u) ((xT u) + af))) (va_up (xSt u) (xJ u) 0)) (upd (xAd u) (xJ u) (-5))) (upd (xFi u) (xJ u) (-5))) (va_up (xWk u) (xJ u) 0)) (xCm u)) cj2) (va_up cj2 0 (xJ u)))) (aX_Cj (xCj_uCj _ _)) rfl (by omega) (by decide) (wX_Cj _ _ _ _) d_X_submit_166 (fun H locs B => ?_)
                  rw [uCj_uCj] at B
                  refine lv_aload_n E.1 E.2.1 d_X_submit_167 rfl (lv_at hl 2 rfl) ?_
                  refine k_dup E rfl d_X_submit_168 ?_
                  refine k_getX E B 12 (by decide) wf_X_49 rfl (fX_Cm ((xCm_uCj _ _).trans (xCm_uCm _ _))) d_X_submit_169 ?_
                  refine k_iconst E 1 d_X_submit_172 rfl ?_
                  refine k_iadd E d_X_submit_173 ?_
                  refine k_putX (uCm (uCj (uCm (uWk (uFi (uAd (uSt (uAr (uSz (uJ u ((xJ u) + 1)) (va_up (xSz u) (xJ u) sz)) (va_up (xAr u) (xJ u) ((xT u) + af))) (va_up (xSt u) (xJ u) 0)) (upd (xAd u) (xJ u) (-5))) (upd (xFi u) (xJ u) (-5))) (va_up (xWk u) (xJ u) 0)) (xCm u)) (va_up cj2 0 (xJ u))) ((xCm u) + 1)) E B 12 (by decide) wf_X_49 rfl rfl rfl rfl (wX_Cm _ _ _ _) d_X_submit_174 (fun H locs B => ?_)
                  rw [uCm_uCj, uCm_uCm] at B
                  refine lv_iload_n E.1 E.2.1 d_X_submit_177 rfl (lv_at hl 1 rfl) ?_
                  refine ret _ _ _ _ _ _ ⟨_, Or.inr ⟨sz, af, hz1, hz2, ha, rfl, rfl, by omega, by rw [eJ], rfl⟩, ?_⟩ rfl B d_X_submit_178
                  unfold Lk
                  simp only [xT_uJ, xT_uSz, xT_uAr, xT_uSt, xT_uAd, xT_uFi, xT_uWk, xT_uCm, xT_uCj, xJ_uJ, xJ_uSz, xJ_uAr, xJ_uSt, xJ_uAd, xJ_uFi, xJ_uWk, xJ_uCm, xJ_uCj, xSz_uJ, xSz_uSz, xSz_uAr, xSz_uSt, xSz_uAd, xSz_uFi, xSz_uWk, xSz_uCm, xSz_uCj, xAr_uJ, xAr_uSz, xAr_uAr, xAr_uSt, xAr_uAd, xAr_uFi, xAr_uWk, xAr_uCm, xAr_uCj, xSt_uJ, xSt_uSz, xSt_uAr, xSt_uSt, xSt_uAd, xSt_uFi, xSt_uWk, xSt_uCm, xSt_uCj, xAd_uJ, xAd_uSz, xAd_uAr, xAd_uSt, xAd_uAd, xAd_uFi, xAd_uWk, xAd_uCm, xAd_uCj, xFi_uJ, xFi_uSz, xFi_uAr, xFi_uSt, xFi_uAd, xFi_uFi, xFi_uWk, xFi_uCm, xFi_uCj, xWk_uJ, xWk_uSz, xWk_uAr, xWk_uSt, xWk_uAd, xWk_uFi, xWk_uWk, xWk_uCm, xWk_uCj, xCt_uJ, xCt_uSz, xCt_uAr, xCt_uSt, xCt_uAd, xCt_uFi, xCt_uWk, xCt_uCm, xCt_uCj, xMk_uJ, xMk_uSz, xMk_uAr, xMk_uSt, xMk_uAd, xMk_uFi, xMk_uWk, xMk_uCm, xMk_uCj, xHp_uJ, xHp_uSz, xHp_uAr, xHp_uSt, xHp_uAd, xHp_uFi, xHp_uWk, xHp_uCm, xHp_uCj, xHj_uJ, xHj_uSz, xHj_uAr, xHj_uSt, xHj_uAd, xHj_uFi, xHj_uWk, xHj_uCm, xHj_uCj, xCm_uJ, xCm_uSz, xCm_uAr, xCm_uSt, xCm_uAd, xCm_uFi, xCm_uWk, xCm_uCm, xCm_uCj, xCj_uJ, xCj_uSz, xCj_uAr, xCj_uSt, xCj_uAd, xCj_uFi, xCj_uWk, xCj_uCm, xCj_uCj, xIl_uJ, xIl_uSz, xIl_uAr, xIl_uSt, xIl_uAd, xIl_uFi, xIl_uWk, xIl_uCm, xIl_uCj, xLj_uJ, xLj_uSz, xLj_uAr, xLj_uSt, xLj_uAd, xLj_uFi, xLj_uWk, xLj_uCm, xLj_uCj]
                  refine submit_C hL hz1 hz2 (by omega) hlt (pp := 0) hat (fun i hi => ?_) va_up_s (fun i hi hc => ?_) (fun q => by omega) (fun i hi hc => (c2 i hi hc).2)
                  · rw [va_up_n (by omega)]
                    exact c1 i hi
                  · rw [va_up_n (by omega)]
                    exact (c2 i hi hc).1
                · skip
                  exact absurd e1 (by omega)
              | succ at4 ih =>
                intro cj2 H locs ls hat c1 c2 hl B
                refine lv_iload E.1 E.2.1 d_X_submit_109 (lv_at hl 0 rfl) ?_
                refine k_if_le E 159 (by omega) d_X_submit_111 (by decide) (fun e1 => ?_) (fun e1 => ?_)
                · skip
                  exact absurd e1 (by omega)
                · skip
                  have hc0 := c1 at4 (by omega)
                  obtain ⟨z1, z2⟩ := hcl at4 (by omega)
                  have hne : xCj u at4 ≠ xJ u := by omega
                  have har1 : va_up (xAr u) (xJ u) (xT u + af) (cj2 (at4 + 1 - 1)) = xAr u (xCj u at4) := by
                    rw [Nat.add_sub_cancel, hc0, va_up_n hne]
                  have har2 : va_up (xAr u) (xJ u) (xT u + af) (xJ u) = xT u + af := va_up_s
                  have hcj : cj2 (at4 + 1 - 1) < 24 := by
                    rw [Nat.add_sub_cancel, hc0]
                    omega
                  refine lv_aload_n E.1 E.2.1 d_X_submit_114 rfl (lv_at hl 2 rfl) ?_
                  refine k_getX E B 3 (by decide) wf_X_13 rfl rfl d_X_submit_115 ?_
                  refine lv_aload_n E.1 E.2.1 d_X_submit_118 rfl (lv_at hl 2 rfl) ?_
                  refine k_getX E B 13 (by decide) wf_X_35 rfl rfl d_X_submit_119 ?_
                  refine lv_iload E.1 E.2.1 d_X_submit_122 (lv_at hl 0 rfl) ?_
                  refine k_iconst E 1 d_X_submit_124 rfl ?_
                  refine k_isub E (by omega) d_X_submit_125 ?_
                  refine k_ild E B 9 8 (aX_Cj (xCj_uCj _ _)) rfl (by omega) (by decide) d_X_submit_126 ?_
                  refine k_ild E B 2 1 (aX_Ar ((xAr_uCj _ _).trans ((xAr_uCm _ _).trans ((xAr_uWk _ _).trans ((xAr_uFi _ _).trans ((xAr_uAd _ _).trans ((xAr_uSt _ _).trans (xAr_uAr _ _)))))))) rfl (by omega) (by decide) d_X_submit_127 ?_
                  refine lv_aload_n E.1 E.2.1 d_X_submit_128 rfl (lv_at hl 2 rfl) ?_
                  refine k_getX E B 3 (by decide) wf_X_13 rfl rfl d_X_submit_129 ?_
                  refine lv_iload_n E.1 E.2.1 d_X_submit_132 rfl (lv_at hl 1 rfl) ?_
                  refine k_ild E B 2 1 (aX_Ar ((xAr_uCj _ _).trans ((xAr_uCm _ _).trans ((xAr_uWk _ _).trans ((xAr_uFi _ _).trans ((xAr_uAd _ _).trans ((xAr_uSt _ _).trans (xAr_uAr _ _)))))))) rfl (by omega) (by decide) d_X_submit_133 ?_
                  refine k_icmp_le E 159 (by omega) (by omega) d_X_submit_134 (by decide) (fun e2 => ?_) (fun e2 => ?_)
                  · skip
                    rw [har1, har2] at e2
                    refine lv_aload_n E.1 E.2.1 d_X_submit_159 rfl (lv_at hl 2 rfl) ?_
                    refine k_getX E B 13 (by decide) wf_X_35 rfl rfl d_X_submit_160 ?_
                    refine lv_iload E.1 E.2.1 d_X_submit_163 (lv_at hl 0 rfl) ?_
                    refine lv_iload_n E.1 E.2.1 d_X_submit_165 rfl (lv_at hl 1 rfl) ?_
                    refine k_ist E B 9 8 (ws' := wX a g (uCj (uCj (uCm (uWk (uFi (uAd (uSt (uAr (uSz (uJ u ((xJ u) + 1)) (va_up (xSz u) (xJ u) sz)) (va_up (xAr u) (xJ u) ((xT u) + af))) (va_up (xSt u) (xJ u) 0)) (upd (xAd u) (xJ u) (-5))) (upd (xFi u) (xJ u) (-5))) (va_up (xWk u) (xJ u) 0)) (xCm u)) cj2) (va_up cj2 (at4 + 1) (xJ u)))) (aX_Cj (xCj_uCj _ _)) rfl (by omega) (by decide) (wX_Cj _ _ _ _) d_X_submit_166 (fun H locs B => ?_)
                    rw [uCj_uCj] at B
                    refine lv_aload_n E.1 E.2.1 d_X_submit_167 rfl (lv_at hl 2 rfl) ?_
                    refine k_dup E rfl d_X_submit_168 ?_
                    refine k_getX E B 12 (by decide) wf_X_49 rfl (fX_Cm ((xCm_uCj _ _).trans (xCm_uCm _ _))) d_X_submit_169 ?_
                    refine k_iconst E 1 d_X_submit_172 rfl ?_
                    refine k_iadd E d_X_submit_173 ?_
                    refine k_putX (uCm (uCj (uCm (uWk (uFi (uAd (uSt (uAr (uSz (uJ u ((xJ u) + 1)) (va_up (xSz u) (xJ u) sz)) (va_up (xAr u) (xJ u) ((xT u) + af))) (va_up (xSt u) (xJ u) 0)) (upd (xAd u) (xJ u) (-5))) (upd (xFi u) (xJ u) (-5))) (va_up (xWk u) (xJ u) 0)) (xCm u)) (va_up cj2 (at4 + 1) (xJ u))) ((xCm u) + 1)) E B 12 (by decide) wf_X_49 rfl rfl rfl rfl (wX_Cm _ _ _ _) d_X_submit_174 (fun H locs B => ?_)
                    rw [uCm_uCj, uCm_uCm] at B
                    refine lv_iload_n E.1 E.2.1 d_X_submit_177 rfl (lv_at hl 1 rfl) ?_
                    refine ret _ _ _ _ _ _ ⟨_, Or.inr ⟨sz, af, hz1, hz2, ha, rfl, rfl, by omega, by rw [eJ], rfl⟩, ?_⟩ rfl B d_X_submit_178
                    unfold Lk
                    simp only [xT_uJ, xT_uSz, xT_uAr, xT_uSt, xT_uAd, xT_uFi, xT_uWk, xT_uCm, xT_uCj, xJ_uJ, xJ_uSz, xJ_uAr, xJ_uSt, xJ_uAd, xJ_uFi, xJ_uWk, xJ_uCm, xJ_uCj, xSz_uJ, xSz_uSz, xSz_uAr, xSz_uSt, xSz_uAd, xSz_uFi, xSz_uWk, xSz_uCm, xSz_uCj, xAr_uJ, xAr_uSz, xAr_uAr, xAr_uSt, xAr_uAd, xAr_uFi, xAr_uWk, xAr_uCm, xAr_uCj, xSt_uJ, xSt_uSz, xSt_uAr, xSt_uSt, xSt_uAd, xSt_uFi, xSt_uWk, xSt_uCm, xSt_uCj, xAd_uJ, xAd_uSz, xAd_uAr, xAd_uSt, xAd_uAd, xAd_uFi, xAd_uWk, xAd_uCm, xAd_uCj, xFi_uJ, xFi_uSz, xFi_uAr, xFi_uSt, xFi_uAd, xFi_uFi, xFi_uWk, xFi_uCm, xFi_uCj, xWk_uJ, xWk_uSz, xWk_uAr, xWk_uSt, xWk_uAd, xWk_uFi, xWk_uWk, xWk_uCm, xWk_uCj, xCt_uJ, xCt_uSz, xCt_uAr, xCt_uSt, xCt_uAd, xCt_uFi, xCt_uWk, xCt_uCm, xCt_uCj, xMk_uJ, xMk_uSz, xMk_uAr, xMk_uSt, xMk_uAd, xMk_uFi, xMk_uWk, xMk_uCm, xMk_uCj, xHp_uJ, xHp_uSz, xHp_uAr, xHp_uSt, xHp_uAd, xHp_uFi, xHp_uWk, xHp_uCm, xHp_uCj, xHj_uJ, xHj_uSz, xHj_uAr, xHj_uSt, xHj_uAd, xHj_uFi, xHj_uWk, xHj_uCm, xHj_uCj, xCm_uJ, xCm_uSz, xCm_uAr, xCm_uSt, xCm_uAd, xCm_uFi, xCm_uWk, xCm_uCm, xCm_uCj, xCj_uJ, xCj_uSz, xCj_uAr, xCj_uSt, xCj_uAd, xCj_uFi, xCj_uWk, xCj_uCm, xCj_uCj, xIl_uJ, xIl_uSz, xIl_uAr, xIl_uSt, xIl_uAd, xIl_uFi, xIl_uWk, xIl_uCm, xIl_uCj, xLj_uJ, xLj_uSz, xLj_uAr, xLj_uSt, xLj_uAd, xLj_uFi, xLj_uWk, xLj_uCm, xLj_uCj]
                    refine submit_C hL hz1 hz2 (by omega) hlt (pp := at4 + 1) hat (fun i hi => ?_) va_up_s (fun i hi hc => ?_) (fun _ => by rw [Nat.add_sub_cancel]; exact e2) (fun i hi hc => (c2 i hi hc).2)
                    · rw [va_up_n (by omega)]
                      exact c1 i hi
                    · rw [va_up_n (by omega)]
                      exact (c2 i hi hc).1
                  · skip
                    rw [har1, har2] at e2
                    refine lv_aload_n E.1 E.2.1 d_X_submit_137 rfl (lv_at hl 2 rfl) ?_
                    refine k_getX E B 13 (by decide) wf_X_35 rfl rfl d_X_submit_138 ?_
                    refine lv_iload E.1 E.2.1 d_X_submit_141 (lv_at hl 0 rfl) ?_
                    refine lv_aload_n E.1 E.2.1 d_X_submit_143 rfl (lv_at hl 2 rfl) ?_
                    refine k_getX E B 13 (by decide) wf_X_35 rfl rfl d_X_submit_144 ?_
                    refine lv_iload E.1 E.2.1 d_X_submit_147 (lv_at hl 0 rfl) ?_
                    refine k_iconst E 1 d_X_submit_149 rfl ?_
                    refine k_isub E (by omega) d_X_submit_150 ?_
                    refine k_ild E B 9 8 (aX_Cj (xCj_uCj _ _)) rfl (by omega) (by decide) d_X_submit_151 ?_
                    refine k_ist E B 9 8 (ws' := wX a g (uCj (uCj (uCm (uWk (uFi (uAd (uSt (uAr (uSz (uJ u ((xJ u) + 1)) (va_up (xSz u) (xJ u) sz)) (va_up (xAr u) (xJ u) ((xT u) + af))) (va_up (xSt u) (xJ u) 0)) (upd (xAd u) (xJ u) (-5))) (upd (xFi u) (xJ u) (-5))) (va_up (xWk u) (xJ u) 0)) (xCm u)) cj2) (va_up cj2 (at4 + 1) (cj2 ((at4 + 1) - 1))))) (aX_Cj (xCj_uCj _ _)) rfl (by omega) (by decide) (wX_Cj _ _ _ _) d_X_submit_152 (fun H locs B => ?_)
                    rw [uCj_uCj] at B
                    refine lv_iinc (v := nI (at4 + 1 - 1)) (lv' := [(4, .int (nI (at4 + 1 - 1))), (3, .int (nI (xJ u))), (0, .ref (a 0)), (1, .int (nI sz)), (2, .int (nI af))]) E.1 E.2.1 d_X_submit_153 hl (k := 0) rfl (by rw [show Int32.ofInt (-1) = -1 from rfl]; exact sb_m1 (by omega)) (by decide) rfl (fun ls hl => ?_)
                    refine lv_goto (tgt := 109) E.1 E.2.1 d_X_submit_156 (by decide) ?_
                    rw [Nat.add_sub_cancel] at B hl
                    refine ih _ _ _ _ (by omega) (fun i hi => ?_) (fun i hi hc => ?_) (lv_sub hl [0, 1, 2, 3, 4] rfl) B
                    · rw [va_up_n (by omega)]
                      exact c1 i (by omega)
                    · rcases (show i = at4 ∨ at4 + 1 ≤ i by omega) with e | e
                      · rw [e, va_up_s, hc0]
                        exact ⟨rfl, e2⟩
                      · rw [va_up_n (by omega)]
                        exact c2 i e hc
            have B : wB D (tX g) s A s.heap (wX a g (uCj (uCm (uWk (uFi (uAd (uSt (uAr (uSz (uJ u ((xJ u) + 1)) (va_up (xSz u) (xJ u) sz)) (va_up (xAr u) (xJ u) ((xT u) + af))) (va_up (xSt u) (xJ u) 0)) (upd (xAd u) (xJ u) (-5))) (upd (xFi u) (xJ u) (-5))) (va_up (xWk u) (xJ u) 0)) (xCm u)) (xCj u))) H locs := by
              have e9 : uCj (uCm (uWk (uFi (uAd (uSt (uAr (uSz (uJ u ((xJ u) + 1)) (va_up (xSz u) (xJ u) sz)) (va_up (xAr u) (xJ u) ((xT u) + af))) (va_up (xSt u) (xJ u) 0)) (upd (xAd u) (xJ u) (-5))) (upd (xFi u) (xJ u) (-5))) (va_up (xWk u) (xJ u) 0)) (xCm u)) (xCj u) = uWk (uFi (uAd (uSt (uAr (uSz (uJ u ((xJ u) + 1)) (va_up (xSz u) (xJ u) sz)) (va_up (xAr u) (xJ u) ((xT u) + af))) (va_up (xSt u) (xJ u) 0)) (upd (xAd u) (xJ u) (-5))) (upd (xFi u) (xJ u) (-5))) (va_up (xWk u) (xJ u) 0) := by first | rfl | simp only [uAd, uAr, uCj, uCm, uFi, uJ, uSt, uSz, uWk, xAd, xAr, xCj, xCm, xFi, xJ, xSt, xSz, xT, xWk, Prod.mk.eta]
              rw [e9]
              exact B
            exact loop (xCm u) (xCj u) _ _ _ (Nat.le_refl _) (fun i hi => rfl) (fun i hi hc => by omega) (lv_sub hl [0, 1, 2, 3, 4] rfl) B
          · skip
            refine lv_bipush (v := -3) E.1 E.2.1 d_X_submit_36 rfl ?_
            exact ret _ _ _ _ _ _ ⟨v, Or.inl ⟨Or.inr (Or.inr ⟨h1, h2, h3, h4, by omega, rfl⟩), rfl⟩, hL⟩ rfl B d_X_submit_38
        · skip
          refine lv_bipush (v := -2) E.1 E.2.1 d_X_submit_24 rfl ?_
          exact ret _ _ _ _ _ _ ⟨v, Or.inl ⟨Or.inr (Or.inl ⟨h1, h2, Or.inr h4, rfl⟩), rfl⟩, hL⟩ rfl B d_X_submit_26
    · skip
      refine lv_iconst (v := -1) E.1 E.2.1 d_X_submit_11 rfl ?_
      exact ret _ _ _ _ _ _ ⟨v, Or.inl ⟨Or.inl ⟨Or.inr h2, rfl⟩, rfl⟩, hL⟩ rfl B d_X_submit_12
end
section
/-! the two constructors -/
def X0 : PX := (0, 0, fun _ => 0, fun _ => 0, fun _ => 0, fun _ => 0, fun _ => 0, fun _ => 0, 0, fun _ => 0, 0, fun _ => 0, 0, fun _ => 0, 0, fun _ => 0)
def M0 : PM := (fun _ => 0, fun _ => 0, fun _ => 0, fun _ => 0, fun _ => 0, fun _ => 0, 0, 0)
def nf : Nat → List Nat → Nat := fun k l => l.getD k 0
abbrev iX_ : List Value := [.int (nI 0), .int (nI 0), .null, .null, .null, .null, .null, .null, .long (lN 0), .null, .int (nI 0), .null, .int (nI 0), .null, .int (nI 0), .null]
set_option maxHeartbeats 4000000 in
set_option maxRecDepth 100000 in
/-- the constructor of X: its arrays, all zero -/
theorem c_X_init (l : Launch) (D : va_G) (h0 : Nat) (sz : Nat) : Met l y_X_init (Cond.code y_X_init b_X_init 1 none :: lw_ws) ({ frames := 1, cells := 10, slots := 224, locals := 30 }) (va_Pc [.ref h0] (fun U => U.heap.size = sz ∧ va_P D classes [(h0, .inr (0, iX_))] U.heap ∧ va_K D classes [] U ∧ va_D (fun _ => True) [(h0, .inr (0, iX_))])) (va_Qv (fun u : (Nat → Nat) × (Nat → ClassId) => u.1 0 = h0) (fun u t => va_P D classes (wX u.1 u.2 X0) t.heap ∧ va_K D classes (tX u.2) t ∧ va_D (va_A [(h0, .inr (0, iX_))] sz) (wX u.1 u.2 X0)) (va_A [(h0, .inr (0, iX_))] sz)) 10 224 (va_A [(h0, .inr (0, iX_))] sz) := by
  refine Met.ofW (cc := b_X_init) (maxL := 1) (ret := none) (by decide) rfl ?_
  intro p e s m args below meth c s₁ B hml hv
  obtain ⟨rfl, hsz, hP, hK, hD0⟩ := hv
  have hx := B.exec
  have hb := B.bytes
  have hr := B.returns
  have hts0 := atoms_spec (ws := Cond.code y_X_init b_X_init 1 none :: lw_ws) B.pre
  have hts : ∀ w ∈ lw_ws, w.before #[Value.ref h0] s = true := fun w h => hts0 w (List.mem_cons_of_mem _ h)
  have hown : s.vm.findClass R_X = some m.cls := findClass_of_methodNamed B.named
  have hlocks := B.notSynchronized
  have hin : meth.name = "<init>" := (name_of_methodNamed B.named B.method).1
  subst hsz
  have hD := hD0.self (sz := s.heap.size)
  generalize hAe : va_A [(h0, .inr (0, iX_))] s.heap.size = A at hD ⊢
  have hA : ∀ q : Nat, s.heap.size ≤ q → A q := fun q h => by rw [← hAe]; exact Or.inr h
  have hS : va_S A s.heap s.heap [] := va_S.rf
  have hl := lv_entry ([.ref h0]) (n := 1) (Nat.le_of_ble_eq_true rfl)
  rw [lg_entry_eq]
  generalize (lg_sl ([.ref h0]) ++ List.replicate (1 - (lg_sl ([.ref h0])).length) Slot.unset).toArray = ls at hl ⊢
  have hl : lv_has ls 1 [(0, .ref h0)] := hl
  refine lv_aload_n hx hb d_X_init_0 rfl (lv_at hl 0 rfl) ?_
  refine W.objInit hx hb hown (hts _ wl_X_1) (hts _ wm_obj) (hts _ wk_obj) rfl (by rw [hml]; exact hl.1) rfl d_X_init_1 (Nat.le_of_ble_eq_true rfl) (Nat.le_of_ble_eq_true rfl) ?_
  refine W.eq (g2 := F0 m 4 ls []) rfl ?_
  refine lv_aload_n hx hb d_X_init_4 rfl (lv_at hl 0 rfl) ?_
  refine lv_bipush (v := nI 24) hx hb d_X_init_5 rfl ?_
  refine va_newa (atype := .int) (ty := .int) (a0 := (24, .inl (fun _ => nI 0))) (N' := 24) hx hb (hts _ wa_int) rfl hK hP hD hS hA (fun _ => rfl) (by decide) (by decide) (by decide) (Nat.le_of_ble_eq_true rfl) (Nat.le_of_ble_eq_true rfl) d_X_init_7 (fun q1 c1 H hK hP hD hS => ?_)
  have hP : va_P D classes [(h0, .inr (0, [.int (nI 0), .int (nI 0), .null, .null, .null, .null, .null, .null, .long (lN 0), .null, .int (nI 0), .null, .int (nI 0), .null, .int (nI 0), .null])), (q1, .inl (c1, 24, .inl (fun _ => nI 0)))] H := hP
  have hD : va_D A [(h0, .inr (0, [.int (nI 0), .int (nI 0), .null, .null, .null, .null, .null, .null, .long (lN 0), .null, .int (nI 0), .null, .int (nI 0), .null, .int (nI 0), .null])), (q1, .inl (c1, 24, .inl (fun _ => nI 0)))] := hD
  have hK : va_K D classes [(c1, .int)] s := hK
  refine W.widen (k := 1) (n := 24) (by omega) (by omega) ?_
  refine va_putF (D := D) (ci := 0) (v := .ref q1) (ty := .array .int) (C := R_X) (T := F_X) (N := 16) hx hb hts i_X t_X t_X_ok n_X hown hK hP hD hS 0 rfl rfl 2 (by decide) (hts _ wf_X_7) (fun _ h9 => h9) rfl hin rfl (by decide +kernel) rfl rfl (Nat.le_of_ble_eq_true rfl) d_X_init_9 (fun H locs hP hD hS => ?_)
  have hP : va_P D classes [(h0, .inr (0, [.int (nI 0), .int (nI 0), .ref q1, .null, .null, .null, .null, .null, .long (lN 0), .null, .int (nI 0), .null, .int (nI 0), .null, .int (nI 0), .null])), (q1, .inl (c1, 24, .inl (fun _ => nI 0)))] H := hP
  have hD : va_D A [(h0, .inr (0, [.int (nI 0), .int (nI 0), .ref q1, .null, .null, .null, .null, .null, .long (lN 0), .null, .int (nI 0), .null, .int (nI 0), .null, .int (nI 0), .null])), (q1, .inl (c1, 24, .inl (fun _ => nI 0)))] := hD
  refine lv_aload_n hx hb d_X_init_12 rfl (lv_at hl 0 rfl) ?_
  refine lv_bipush (v := nI 24) hx hb d_X_init_13 rfl ?_
  refine va_newa (atype := .int) (ty := .int) (a0 := (24, .inl (fun _ => nI 0))) (N' := 24) hx hb (hts _ wa_int) rfl hK hP hD hS hA (fun _ => rfl) (by decide) (by decide) (by decide) (Nat.le_of_ble_eq_true rfl) (Nat.le_of_ble_eq_true rfl) d_X_init_15 (fun q2 c2 H hK hP hD hS => ?_)
  have hP : va_P D classes [(h0, .inr (0, [.int (nI 0), .int (nI 0), .ref q1, .null, .null, .null, .null, .null, .long (lN 0), .null, .int (nI 0), .null, .int (nI 0), .null, .int (nI 0), .null])), (q1, .inl (c1, 24, .inl (fun _ => nI 0))), (q2, .inl (c2, 24, .inl (fun _ => nI 0)))] H := hP
  have hD : va_D A [(h0, .inr (0, [.int (nI 0), .int (nI 0), .ref q1, .null, .null, .null, .null, .null, .long (lN 0), .null, .int (nI 0), .null, .int (nI 0), .null, .int (nI 0), .null])), (q1, .inl (c1, 24, .inl (fun _ => nI 0))), (q2, .inl (c2, 24, .inl (fun _ => nI 0)))] := hD
  have hK : va_K D classes [(c1, .int), (c2, .int)] s := hK
  refine W.widen (k := 2) (n := 48) (by omega) (by omega) ?_
  refine va_putF (D := D) (ci := 0) (v := .ref q2) (ty := .array .int) (C := R_X) (T := F_X) (N := 16) hx hb hts i_X t_X t_X_ok n_X hown hK hP hD hS 0 rfl rfl 3 (by decide) (hts _ wf_X_13) (fun _ h9 => h9) rfl hin rfl (by decide +kernel) rfl rfl (Nat.le_of_ble_eq_true rfl) d_X_init_17 (fun H locs hP hD hS => ?_)
  have hP : va_P D classes [(h0, .inr (0, [.int (nI 0), .int (nI 0), .ref q1, .ref q2, .null, .null, .null, .null, .long (lN 0), .null, .int (nI 0), .null, .int (nI 0), .null, .int (nI 0), .null])), (q1, .inl (c1, 24, .inl (fun _ => nI 0))), (q2, .inl (c2, 24, .inl (fun _ => nI 0)))] H := hP
  have hD : va_D A [(h0, .inr (0, [.int (nI 0), .int (nI 0), .ref q1, .ref q2, .null, .null, .null, .null, .long (lN 0), .null, .int (nI 0), .null, .int (nI 0), .null, .int (nI 0), .null])), (q1, .inl (c1, 24, .inl (fun _ => nI 0))), (q2, .inl (c2, 24, .inl (fun _ => nI 0)))] := hD
  refine lv_aload_n hx hb d_X_init_20 rfl (lv_at hl 0 rfl) ?_
  refine lv_bipush (v := nI 24) hx hb d_X_init_21 rfl ?_
  refine va_newa (atype := .int) (ty := .int) (a0 := (24, .inl (fun _ => nI 0))) (N' := 24) hx hb (hts _ wa_int) rfl hK hP hD hS hA (fun _ => rfl) (by decide) (by decide) (by decide) (Nat.le_of_ble_eq_true rfl) (Nat.le_of_ble_eq_true rfl) d_X_init_23 (fun q3 c3 H hK hP hD hS => ?_)
  have hP : va_P D classes [(h0, .inr (0, [.int (nI 0), .int (nI 0), .ref q1, .ref q2, .null, .null, .null, .null, .long (lN 0), .null, .int (nI 0), .null, .int (nI 0), .null, .int (nI 0), .null])), (q1, .inl (c1, 24, .inl (fun _ => nI 0))), (q2, .inl (c2, 24, .inl (fun _ => nI 0))), (q3, .inl (c3, 24, .inl (fun _ => nI 0)))] H := hP
  have hD : va_D A [(h0, .inr (0, [.int (nI 0), .int (nI 0), .ref q1, .ref q2, .null, .null, .null, .null, .long (lN 0), .null, .int (nI 0), .null, .int (nI 0), .null, .int (nI 0), .null])), (q1, .inl (c1, 24, .inl (fun _ => nI 0))), (q2, .inl (c2, 24, .inl (fun _ => nI 0))), (q3, .inl (c3, 24, .inl (fun _ => nI 0)))] := hD
  have hK : va_K D classes [(c1, .int), (c2, .int), (c3, .int)] s := hK
  refine W.widen (k := 3) (n := 72) (by omega) (by omega) ?_
  refine va_putF (D := D) (ci := 0) (v := .ref q3) (ty := .array .int) (C := R_X) (T := F_X) (N := 16) hx hb hts i_X t_X t_X_ok n_X hown hK hP hD hS 0 rfl rfl 4 (by decide) (hts _ wf_X_16) (fun _ h9 => h9) rfl hin rfl (by decide +kernel) rfl rfl (Nat.le_of_ble_eq_true rfl) d_X_init_25 (fun H locs hP hD hS => ?_)
  have hP : va_P D classes [(h0, .inr (0, [.int (nI 0), .int (nI 0), .ref q1, .ref q2, .ref q3, .null, .null, .null, .long (lN 0), .null, .int (nI 0), .null, .int (nI 0), .null, .int (nI 0), .null])), (q1, .inl (c1, 24, .inl (fun _ => nI 0))), (q2, .inl (c2, 24, .inl (fun _ => nI 0))), (q3, .inl (c3, 24, .inl (fun _ => nI 0)))] H := hP
  have hD : va_D A [(h0, .inr (0, [.int (nI 0), .int (nI 0), .ref q1, .ref q2, .ref q3, .null, .null, .null, .long (lN 0), .null, .int (nI 0), .null, .int (nI 0), .null, .int (nI 0), .null])), (q1, .inl (c1, 24, .inl (fun _ => nI 0))), (q2, .inl (c2, 24, .inl (fun _ => nI 0))), (q3, .inl (c3, 24, .inl (fun _ => nI 0)))] := hD
  refine lv_aload_n hx hb d_X_init_28 rfl (lv_at hl 0 rfl) ?_
  refine lv_bipush (v := nI 24) hx hb d_X_init_29 rfl ?_
  refine va_newa (atype := .int) (ty := .int) (a0 := (24, .inl (fun _ => 0))) (N' := 24) hx hb (hts _ wa_int) rfl hK hP hD hS hA (fun _ => rfl) (by decide) (by decide) (by decide) (Nat.le_of_ble_eq_true rfl) (Nat.le_of_ble_eq_true rfl) d_X_init_31 (fun q4 c4 H hK hP hD hS => ?_)
  have hP : va_P D classes [(h0, .inr (0, [.int (nI 0), .int (nI 0), .ref q1, .ref q2, .ref q3, .null, .null, .null, .long (lN 0), .null, .int (nI 0), .null, .int (nI 0), .null, .int (nI 0), .null])), (q1, .inl (c1, 24, .inl (fun _ => nI 0))), (q2, .inl (c2, 24, .inl (fun _ => nI 0))), (q3, .inl (c3, 24, .inl (fun _ => nI 0))), (q4, .inl (c4, 24, .inl (fun _ => 0)))] H := hP
  have hD : va_D A [(h0, .inr (0, [.int (nI 0), .int (nI 0), .ref q1, .ref q2, .ref q3, .null, .null, .null, .long (lN 0), .null, .int (nI 0), .null, .int (nI 0), .null, .int (nI 0), .null])), (q1, .inl (c1, 24, .inl (fun _ => nI 0))), (q2, .inl (c2, 24, .inl (fun _ => nI 0))), (q3, .inl (c3, 24, .inl (fun _ => nI 0))), (q4, .inl (c4, 24, .inl (fun _ => 0)))] := hD
  have hK : va_K D classes [(c1, .int), (c2, .int), (c3, .int), (c4, .int)] s := hK
  refine W.widen (k := 4) (n := 96) (by omega) (by omega) ?_
  refine va_putF (D := D) (ci := 0) (v := .ref q4) (ty := .array .int) (C := R_X) (T := F_X) (N := 16) hx hb hts i_X t_X t_X_ok n_X hown hK hP hD hS 0 rfl rfl 5 (by decide) (hts _ wf_X_19) (fun _ h9 => h9) rfl hin rfl (by decide +kernel) rfl rfl (Nat.le_of_ble_eq_true rfl) d_X_init_33 (fun H locs hP hD hS => ?_)
  have hP : va_P D classes [(h0, .inr (0, [.int (nI 0), .int (nI 0), .ref q1, .ref q2, .ref q3, .ref q4, .null, .null, .long (lN 0), .null, .int (nI 0), .null, .int (nI 0), .null, .int (nI 0), .null])), (q1, .inl (c1, 24, .inl (fun _ => nI 0))), (q2, .inl (c2, 24, .inl (fun _ => nI 0))), (q3, .inl (c3, 24, .inl (fun _ => nI 0))), (q4, .inl (c4, 24, .inl (fun _ => 0)))] H := hP
  have hD : va_D A [(h0, .inr (0, [.int (nI 0), .int (nI 0), .ref q1, .ref q2, .ref q3, .ref q4, .null, .null, .long (lN 0), .null, .int (nI 0), .null, .int (nI 0), .null, .int (nI 0), .null])), (q1, .inl (c1, 24, .inl (fun _ => nI 0))), (q2, .inl (c2, 24, .inl (fun _ => nI 0))), (q3, .inl (c3, 24, .inl (fun _ => nI 0))), (q4, .inl (c4, 24, .inl (fun _ => 0)))] := hD
  refine lv_aload_n hx hb d_X_init_36 rfl (lv_at hl 0 rfl) ?_
  refine lv_bipush (v := nI 24) hx hb d_X_init_37 rfl ?_
  refine va_newa (atype := .int) (ty := .int) (a0 := (24, .inl (fun _ => 0))) (N' := 24) hx hb (hts _ wa_int) rfl hK hP hD hS hA (fun _ => rfl) (by decide) (by decide) (by decide) (Nat.le_of_ble_eq_true rfl) (Nat.le_of_ble_eq_true rfl) d_X_init_39 (fun q5 c5 H hK hP hD hS => ?_)
  have hP : va_P D classes [(h0, .inr (0, [.int (nI 0), .int (nI 0), .ref q1, .ref q2, .ref q3, .ref q4, .null, .null, .long (lN 0), .null, .int (nI 0), .null, .int (nI 0), .null, .int (nI 0), .null])), (q1, .inl (c1, 24, .inl (fun _ => nI 0))), (q2, .inl (c2, 24, .inl (fun _ => nI 0))), (q3, .inl (c3, 24, .inl (fun _ => nI 0))), (q4, .inl (c4, 24, .inl (fun _ => 0))), (q5, .inl (c5, 24, .inl (fun _ => 0)))] H := hP
  have hD : va_D A [(h0, .inr (0, [.int (nI 0), .int (nI 0), .ref q1, .ref q2, .ref q3, .ref q4, .null, .null, .long (lN 0), .null, .int (nI 0), .null, .int (nI 0), .null, .int (nI 0), .null])), (q1, .inl (c1, 24, .inl (fun _ => nI 0))), (q2, .inl (c2, 24, .inl (fun _ => nI 0))), (q3, .inl (c3, 24, .inl (fun _ => nI 0))), (q4, .inl (c4, 24, .inl (fun _ => 0))), (q5, .inl (c5, 24, .inl (fun _ => 0)))] := hD
  have hK : va_K D classes [(c1, .int), (c2, .int), (c3, .int), (c4, .int), (c5, .int)] s := hK
  refine W.widen (k := 5) (n := 120) (by omega) (by omega) ?_
  refine va_putF (D := D) (ci := 0) (v := .ref q5) (ty := .array .int) (C := R_X) (T := F_X) (N := 16) hx hb hts i_X t_X t_X_ok n_X hown hK hP hD hS 0 rfl rfl 6 (by decide) (hts _ wf_X_22) (fun _ h9 => h9) rfl hin rfl (by decide +kernel) rfl rfl (Nat.le_of_ble_eq_true rfl) d_X_init_41 (fun H locs hP hD hS => ?_)
  have hP : va_P D classes [(h0, .inr (0, [.int (nI 0), .int (nI 0), .ref q1, .ref q2, .ref q3, .ref q4, .ref q5, .null, .long (lN 0), .null, .int (nI 0), .null, .int (nI 0), .null, .int (nI 0), .null])), (q1, .inl (c1, 24, .inl (fun _ => nI 0))), (q2, .inl (c2, 24, .inl (fun _ => nI 0))), (q3, .inl (c3, 24, .inl (fun _ => nI 0))), (q4, .inl (c4, 24, .inl (fun _ => 0))), (q5, .inl (c5, 24, .inl (fun _ => 0)))] H := hP
  have hD : va_D A [(h0, .inr (0, [.int (nI 0), .int (nI 0), .ref q1, .ref q2, .ref q3, .ref q4, .ref q5, .null, .long (lN 0), .null, .int (nI 0), .null, .int (nI 0), .null, .int (nI 0), .null])), (q1, .inl (c1, 24, .inl (fun _ => nI 0))), (q2, .inl (c2, 24, .inl (fun _ => nI 0))), (q3, .inl (c3, 24, .inl (fun _ => nI 0))), (q4, .inl (c4, 24, .inl (fun _ => 0))), (q5, .inl (c5, 24, .inl (fun _ => 0)))] := hD
  refine lv_aload_n hx hb d_X_init_44 rfl (lv_at hl 0 rfl) ?_
  refine lv_bipush (v := nI 24) hx hb d_X_init_45 rfl ?_
  refine va_newa (atype := .int) (ty := .int) (a0 := (24, .inl (fun _ => nI 0))) (N' := 24) hx hb (hts _ wa_int) rfl hK hP hD hS hA (fun _ => rfl) (by decide) (by decide) (by decide) (Nat.le_of_ble_eq_true rfl) (Nat.le_of_ble_eq_true rfl) d_X_init_47 (fun q6 c6 H hK hP hD hS => ?_)
  have hP : va_P D classes [(h0, .inr (0, [.int (nI 0), .int (nI 0), .ref q1, .ref q2, .ref q3, .ref q4, .ref q5, .null, .long (lN 0), .null, .int (nI 0), .null, .int (nI 0), .null, .int (nI 0), .null])), (q1, .inl (c1, 24, .inl (fun _ => nI 0))), (q2, .inl (c2, 24, .inl (fun _ => nI 0))), (q3, .inl (c3, 24, .inl (fun _ => nI 0))), (q4, .inl (c4, 24, .inl (fun _ => 0))), (q5, .inl (c5, 24, .inl (fun _ => 0))), (q6, .inl (c6, 24, .inl (fun _ => nI 0)))] H := hP
  have hD : va_D A [(h0, .inr (0, [.int (nI 0), .int (nI 0), .ref q1, .ref q2, .ref q3, .ref q4, .ref q5, .null, .long (lN 0), .null, .int (nI 0), .null, .int (nI 0), .null, .int (nI 0), .null])), (q1, .inl (c1, 24, .inl (fun _ => nI 0))), (q2, .inl (c2, 24, .inl (fun _ => nI 0))), (q3, .inl (c3, 24, .inl (fun _ => nI 0))), (q4, .inl (c4, 24, .inl (fun _ => 0))), (q5, .inl (c5, 24, .inl (fun _ => 0))), (q6, .inl (c6, 24, .inl (fun _ => nI 0)))] := hD
  have hK : va_K D classes [(c1, .int), (c2, .int), (c3, .int), (c4, .int), (c5, .int), (c6, .int)] s := hK
  refine W.widen (k := 6) (n := 144) (by omega) (by omega) ?_
  refine va_putF (D := D) (ci := 0) (v := .ref q6) (ty := .array .int) (C := R_X) (T := F_X) (N := 16) hx hb hts i_X t_X t_X_ok n_X hown hK hP hD hS 0 rfl rfl 7 (by decide) (hts _ wf_X_25) (fun _ h9 => h9) rfl hin rfl (by decide +kernel) rfl rfl (Nat.le_of_ble_eq_true rfl) d_X_init_49 (fun H locs hP hD hS => ?_)
  have hP : va_P D classes [(h0, .inr (0, [.int (nI 0), .int (nI 0), .ref q1, .ref q2, .ref q3, .ref q4, .ref q5, .ref q6, .long (lN 0), .null, .int (nI 0), .null, .int (nI 0), .null, .int (nI 0), .null])), (q1, .inl (c1, 24, .inl (fun _ => nI 0))), (q2, .inl (c2, 24, .inl (fun _ => nI 0))), (q3, .inl (c3, 24, .inl (fun _ => nI 0))), (q4, .inl (c4, 24, .inl (fun _ => 0))), (q5, .inl (c5, 24, .inl (fun _ => 0))), (q6, .inl (c6, 24, .inl (fun _ => nI 0)))] H := hP
  have hD : va_D A [(h0, .inr (0, [.int (nI 0), .int (nI 0), .ref q1, .ref q2, .ref q3, .ref q4, .ref q5, .ref q6, .long (lN 0), .null, .int (nI 0), .null, .int (nI 0), .null, .int (nI 0), .null])), (q1, .inl (c1, 24, .inl (fun _ => nI 0))), (q2, .inl (c2, 24, .inl (fun _ => nI 0))), (q3, .inl (c3, 24, .inl (fun _ => nI 0))), (q4, .inl (c4, 24, .inl (fun _ => 0))), (q5, .inl (c5, 24, .inl (fun _ => 0))), (q6, .inl (c6, 24, .inl (fun _ => nI 0)))] := hD
  refine lv_aload_n hx hb d_X_init_52 rfl (lv_at hl 0 rfl) ?_
  refine lv_bipush (v := nI 24) hx hb d_X_init_53 rfl ?_
  refine va_newa (atype := .long) (ty := .long) (a0 := (24, .inr (.inl (fun _ => lN 0)))) (N' := 24) hx hb (hts _ wa_long) rfl hK hP hD hS hA (fun _ => rfl) (by decide) (by decide) (by decide) (Nat.le_of_ble_eq_true rfl) (Nat.le_of_ble_eq_true rfl) d_X_init_55 (fun q7 c7 H hK hP hD hS => ?_)
  have hP : va_P D classes [(h0, .inr (0, [.int (nI 0), .int (nI 0), .ref q1, .ref q2, .ref q3, .ref q4, .ref q5, .ref q6, .long (lN 0), .null, .int (nI 0), .null, .int (nI 0), .null, .int (nI 0), .null])), (q1, .inl (c1, 24, .inl (fun _ => nI 0))), (q2, .inl (c2, 24, .inl (fun _ => nI 0))), (q3, .inl (c3, 24, .inl (fun _ => nI 0))), (q4, .inl (c4, 24, .inl (fun _ => 0))), (q5, .inl (c5, 24, .inl (fun _ => 0))), (q6, .inl (c6, 24, .inl (fun _ => nI 0))), (q7, .inl (c7, 24, .inr (.inl (fun _ => lN 0))))] H := hP
  have hD : va_D A [(h0, .inr (0, [.int (nI 0), .int (nI 0), .ref q1, .ref q2, .ref q3, .ref q4, .ref q5, .ref q6, .long (lN 0), .null, .int (nI 0), .null, .int (nI 0), .null, .int (nI 0), .null])), (q1, .inl (c1, 24, .inl (fun _ => nI 0))), (q2, .inl (c2, 24, .inl (fun _ => nI 0))), (q3, .inl (c3, 24, .inl (fun _ => nI 0))), (q4, .inl (c4, 24, .inl (fun _ => 0))), (q5, .inl (c5, 24, .inl (fun _ => 0))), (q6, .inl (c6, 24, .inl (fun _ => nI 0))), (q7, .inl (c7, 24, .inr (.inl (fun _ => lN 0))))] := hD
  have hK : va_K D classes [(c1, .int), (c2, .int), (c3, .int), (c4, .int), (c5, .int), (c6, .int), (c7, .long)] s := hK
  refine W.widen (k := 7) (n := 168) (by omega) (by omega) ?_
  refine va_putF (D := D) (ci := 0) (v := .ref q7) (ty := .array .long) (C := R_X) (T := F_X) (N := 16) hx hb hts i_X t_X t_X_ok n_X hown hK hP hD hS 0 rfl rfl 9 (by decide) (hts _ wf_X_28) (fun _ h9 => h9) rfl hin rfl (by decide +kernel) rfl rfl (Nat.le_of_ble_eq_true rfl) d_X_init_57 (fun H locs hP hD hS => ?_)
  have hP : va_P D classes [(h0, .inr (0, [.int (nI 0), .int (nI 0), .ref q1, .ref q2, .ref q3, .ref q4, .ref q5, .ref q6, .long (lN 0), .ref q7, .int (nI 0), .null, .int (nI 0), .null, .int (nI 0), .null])), (q1, .inl (c1, 24, .inl (fun _ => nI 0))), (q2, .inl (c2, 24, .inl (fun _ => nI 0))), (q3, .inl (c3, 24, .inl (fun _ => nI 0))), (q4, .inl (c4, 24, .inl (fun _ => 0))), (q5, .inl (c5, 24, .inl (fun _ => 0))), (q6, .inl (c6, 24, .inl (fun _ => nI 0))), (q7, .inl (c7, 24, .inr (.inl (fun _ => lN 0))))] H := hP
  have hD : va_D A [(h0, .inr (0, [.int (nI 0), .int (nI 0), .ref q1, .ref q2, .ref q3, .ref q4, .ref q5, .ref q6, .long (lN 0), .ref q7, .int (nI 0), .null, .int (nI 0), .null, .int (nI 0), .null])), (q1, .inl (c1, 24, .inl (fun _ => nI 0))), (q2, .inl (c2, 24, .inl (fun _ => nI 0))), (q3, .inl (c3, 24, .inl (fun _ => nI 0))), (q4, .inl (c4, 24, .inl (fun _ => 0))), (q5, .inl (c5, 24, .inl (fun _ => 0))), (q6, .inl (c6, 24, .inl (fun _ => nI 0))), (q7, .inl (c7, 24, .inr (.inl (fun _ => lN 0))))] := hD
  refine lv_aload_n hx hb d_X_init_60 rfl (lv_at hl 0 rfl) ?_
  refine lv_bipush (v := nI 8) hx hb d_X_init_61 rfl ?_
  refine va_newa (atype := .int) (ty := .int) (a0 := (8, .inl (fun _ => nI 0))) (N' := 8) hx hb (hts _ wa_int) rfl hK hP hD hS hA (fun _ => rfl) (by decide) (by decide) (by decide) (Nat.le_of_ble_eq_true rfl) (Nat.le_of_ble_eq_true rfl) d_X_init_63 (fun q8 c8 H hK hP hD hS => ?_)
  have hP : va_P D classes [(h0, .inr (0, [.int (nI 0), .int (nI 0), .ref q1, .ref q2, .ref q3, .ref q4, .ref q5, .ref q6, .long (lN 0), .ref q7, .int (nI 0), .null, .int (nI 0), .null, .int (nI 0), .null])), (q1, .inl (c1, 24, .inl (fun _ => nI 0))), (q2, .inl (c2, 24, .inl (fun _ => nI 0))), (q3, .inl (c3, 24, .inl (fun _ => nI 0))), (q4, .inl (c4, 24, .inl (fun _ => 0))), (q5, .inl (c5, 24, .inl (fun _ => 0))), (q6, .inl (c6, 24, .inl (fun _ => nI 0))), (q7, .inl (c7, 24, .inr (.inl (fun _ => lN 0)))), (q8, .inl (c8, 8, .inl (fun _ => nI 0)))] H := hP
  have hD : va_D A [(h0, .inr (0, [.int (nI 0), .int (nI 0), .ref q1, .ref q2, .ref q3, .ref q4, .ref q5, .ref q6, .long (lN 0), .ref q7, .int (nI 0), .null, .int (nI 0), .null, .int (nI 0), .null])), (q1, .inl (c1, 24, .inl (fun _ => nI 0))), (q2, .inl (c2, 24, .inl (fun _ => nI 0))), (q3, .inl (c3, 24, .inl (fun _ => nI 0))), (q4, .inl (c4, 24, .inl (fun _ => 0))), (q5, .inl (c5, 24, .inl (fun _ => 0))), (q6, .inl (c6, 24, .inl (fun _ => nI 0))), (q7, .inl (c7, 24, .inr (.inl (fun _ => lN 0)))), (q8, .inl (c8, 8, .inl (fun _ => nI 0)))] := hD
  have hK : va_K D classes [(c1, .int), (c2, .int), (c3, .int), (c4, .int), (c5, .int), (c6, .int), (c7, .long), (c8, .int)] s := hK
  refine W.widen (k := 8) (n := 176) (by omega) (by omega) ?_
  refine va_putF (D := D) (ci := 0) (v := .ref q8) (ty := .array .int) (C := R_X) (T := F_X) (N := 16) hx hb hts i_X t_X t_X_ok n_X hown hK hP hD hS 0 rfl rfl 11 (by decide) (hts _ wf_X_32) (fun _ h9 => h9) rfl hin rfl (by decide +kernel) rfl rfl (Nat.le_of_ble_eq_true rfl) d_X_init_65 (fun H locs hP hD hS => ?_)
  have hP : va_P D classes [(h0, .inr (0, [.int (nI 0), .int (nI 0), .ref q1, .ref q2, .ref q3, .ref q4, .ref q5, .ref q6, .long (lN 0), .ref q7, .int (nI 0), .ref q8, .int (nI 0), .null, .int (nI 0), .null])), (q1, .inl (c1, 24, .inl (fun _ => nI 0))), (q2, .inl (c2, 24, .inl (fun _ => nI 0))), (q3, .inl (c3, 24, .inl (fun _ => nI 0))), (q4, .inl (c4, 24, .inl (fun _ => 0))), (q5, .inl (c5, 24, .inl (fun _ => 0))), (q6, .inl (c6, 24, .inl (fun _ => nI 0))), (q7, .inl (c7, 24, .inr (.inl (fun _ => lN 0)))), (q8, .inl (c8, 8, .inl (fun _ => nI 0)))] H := hP
  have hD : va_D A [(h0, .inr (0, [.int (nI 0), .int (nI 0), .ref q1, .ref q2, .ref q3, .ref q4, .ref q5, .ref q6, .long (lN 0), .ref q7, .int (nI 0), .ref q8, .int (nI 0), .null, .int (nI 0), .null])), (q1, .inl (c1, 24, .inl (fun _ => nI 0))), (q2, .inl (c2, 24, .inl (fun _ => nI 0))), (q3, .inl (c3, 24, .inl (fun _ => nI 0))), (q4, .inl (c4, 24, .inl (fun _ => 0))), (q5, .inl (c5, 24, .inl (fun _ => 0))), (q6, .inl (c6, 24, .inl (fun _ => nI 0))), (q7, .inl (c7, 24, .inr (.inl (fun _ => lN 0)))), (q8, .inl (c8, 8, .inl (fun _ => nI 0)))] := hD
  refine lv_aload_n hx hb d_X_init_68 rfl (lv_at hl 0 rfl) ?_
  refine lv_bipush (v := nI 24) hx hb d_X_init_69 rfl ?_
  refine va_newa (atype := .int) (ty := .int) (a0 := (24, .inl (fun _ => nI 0))) (N' := 24) hx hb (hts _ wa_int) rfl hK hP hD hS hA (fun _ => rfl) (by decide) (by decide) (by decide) (Nat.le_of_ble_eq_true rfl) (Nat.le_of_ble_eq_true rfl) d_X_init_71 (fun q9 c9 H hK hP hD hS => ?_)
  have hP : va_P D classes [(h0, .inr (0, [.int (nI 0), .int (nI 0), .ref q1, .ref q2, .ref q3, .ref q4, .ref q5, .ref q6, .long (lN 0), .ref q7, .int (nI 0), .ref q8, .int (nI 0), .null, .int (nI 0), .null])), (q1, .inl (c1, 24, .inl (fun _ => nI 0))), (q2, .inl (c2, 24, .inl (fun _ => nI 0))), (q3, .inl (c3, 24, .inl (fun _ => nI 0))), (q4, .inl (c4, 24, .inl (fun _ => 0))), (q5, .inl (c5, 24, .inl (fun _ => 0))), (q6, .inl (c6, 24, .inl (fun _ => nI 0))), (q7, .inl (c7, 24, .inr (.inl (fun _ => lN 0)))), (q8, .inl (c8, 8, .inl (fun _ => nI 0))), (q9, .inl (c9, 24, .inl (fun _ => nI 0)))] H := hP
  have hD : va_D A [(h0, .inr (0, [.int (nI 0), .int (nI 0), .ref q1, .ref q2, .ref q3, .ref q4, .ref q5, .ref q6, .long (lN 0), .ref q7, .int (nI 0), .ref q8, .int (nI 0), .null, .int (nI 0), .null])), (q1, .inl (c1, 24, .inl (fun _ => nI 0))), (q2, .inl (c2, 24, .inl (fun _ => nI 0))), (q3, .inl (c3, 24, .inl (fun _ => nI 0))), (q4, .inl (c4, 24, .inl (fun _ => 0))), (q5, .inl (c5, 24, .inl (fun _ => 0))), (q6, .inl (c6, 24, .inl (fun _ => nI 0))), (q7, .inl (c7, 24, .inr (.inl (fun _ => lN 0)))), (q8, .inl (c8, 8, .inl (fun _ => nI 0))), (q9, .inl (c9, 24, .inl (fun _ => nI 0)))] := hD
  have hK : va_K D classes [(c1, .int), (c2, .int), (c3, .int), (c4, .int), (c5, .int), (c6, .int), (c7, .long), (c8, .int), (c9, .int)] s := hK
  refine W.widen (k := 9) (n := 200) (by omega) (by omega) ?_
  refine va_putF (D := D) (ci := 0) (v := .ref q9) (ty := .array .int) (C := R_X) (T := F_X) (N := 16) hx hb hts i_X t_X t_X_ok n_X hown hK hP hD hS 0 rfl rfl 13 (by decide) (hts _ wf_X_35) (fun _ h9 => h9) rfl hin rfl (by decide +kernel) rfl rfl (Nat.le_of_ble_eq_true rfl) d_X_init_73 (fun H locs hP hD hS => ?_)
  have hP : va_P D classes [(h0, .inr (0, [.int (nI 0), .int (nI 0), .ref q1, .ref q2, .ref q3, .ref q4, .ref q5, .ref q6, .long (lN 0), .ref q7, .int (nI 0), .ref q8, .int (nI 0), .ref q9, .int (nI 0), .null])), (q1, .inl (c1, 24, .inl (fun _ => nI 0))), (q2, .inl (c2, 24, .inl (fun _ => nI 0))), (q3, .inl (c3, 24, .inl (fun _ => nI 0))), (q4, .inl (c4, 24, .inl (fun _ => 0))), (q5, .inl (c5, 24, .inl (fun _ => 0))), (q6, .inl (c6, 24, .inl (fun _ => nI 0))), (q7, .inl (c7, 24, .inr (.inl (fun _ => lN 0)))), (q8, .inl (c8, 8, .inl (fun _ => nI 0))), (q9, .inl (c9, 24, .inl (fun _ => nI 0)))] H := hP
  have hD : va_D A [(h0, .inr (0, [.int (nI 0), .int (nI 0), .ref q1, .ref q2, .ref q3, .ref q4, .ref q5, .ref q6, .long (lN 0), .ref q7, .int (nI 0), .ref q8, .int (nI 0), .ref q9, .int (nI 0), .null])), (q1, .inl (c1, 24, .inl (fun _ => nI 0))), (q2, .inl (c2, 24, .inl (fun _ => nI 0))), (q3, .inl (c3, 24, .inl (fun _ => nI 0))), (q4, .inl (c4, 24, .inl (fun _ => 0))), (q5, .inl (c5, 24, .inl (fun _ => 0))), (q6, .inl (c6, 24, .inl (fun _ => nI 0))), (q7, .inl (c7, 24, .inr (.inl (fun _ => lN 0)))), (q8, .inl (c8, 8, .inl (fun _ => nI 0))), (q9, .inl (c9, 24, .inl (fun _ => nI 0)))] := hD
  refine lv_aload_n hx hb d_X_init_76 rfl (lv_at hl 0 rfl) ?_
  refine lv_bipush (v := nI 24) hx hb d_X_init_77 rfl ?_
  refine va_newa (atype := .int) (ty := .int) (a0 := (24, .inl (fun _ => nI 0))) (N' := 24) hx hb (hts _ wa_int) rfl hK hP hD hS hA (fun _ => rfl) (by decide) (by decide) (by decide) (Nat.le_of_ble_eq_true rfl) (Nat.le_of_ble_eq_true rfl) d_X_init_79 (fun q10 c10 H hK hP hD hS => ?_)
  have hP : va_P D classes [(h0, .inr (0, [.int (nI 0), .int (nI 0), .ref q1, .ref q2, .ref q3, .ref q4, .ref q5, .ref q6, .long (lN 0), .ref q7, .int (nI 0), .ref q8, .int (nI 0), .ref q9, .int (nI 0), .null])), (q1, .inl (c1, 24, .inl (fun _ => nI 0))), (q2, .inl (c2, 24, .inl (fun _ => nI 0))), (q3, .inl (c3, 24, .inl (fun _ => nI 0))), (q4, .inl (c4, 24, .inl (fun _ => 0))), (q5, .inl (c5, 24, .inl (fun _ => 0))), (q6, .inl (c6, 24, .inl (fun _ => nI 0))), (q7, .inl (c7, 24, .inr (.inl (fun _ => lN 0)))), (q8, .inl (c8, 8, .inl (fun _ => nI 0))), (q9, .inl (c9, 24, .inl (fun _ => nI 0))), (q10, .inl (c10, 24, .inl (fun _ => nI 0)))] H := hP
  have hD : va_D A [(h0, .inr (0, [.int (nI 0), .int (nI 0), .ref q1, .ref q2, .ref q3, .ref q4, .ref q5, .ref q6, .long (lN 0), .ref q7, .int (nI 0), .ref q8, .int (nI 0), .ref q9, .int (nI 0), .null])), (q1, .inl (c1, 24, .inl (fun _ => nI 0))), (q2, .inl (c2, 24, .inl (fun _ => nI 0))), (q3, .inl (c3, 24, .inl (fun _ => nI 0))), (q4, .inl (c4, 24, .inl (fun _ => 0))), (q5, .inl (c5, 24, .inl (fun _ => 0))), (q6, .inl (c6, 24, .inl (fun _ => nI 0))), (q7, .inl (c7, 24, .inr (.inl (fun _ => lN 0)))), (q8, .inl (c8, 8, .inl (fun _ => nI 0))), (q9, .inl (c9, 24, .inl (fun _ => nI 0))), (q10, .inl (c10, 24, .inl (fun _ => nI 0)))] := hD
  have hK : va_K D classes [(c1, .int), (c2, .int), (c3, .int), (c4, .int), (c5, .int), (c6, .int), (c7, .long), (c8, .int), (c9, .int), (c10, .int)] s := hK
  refine W.widen (k := 10) (n := 224) (by omega) (by omega) ?_
  refine va_putF (D := D) (ci := 0) (v := .ref q10) (ty := .array .int) (C := R_X) (T := F_X) (N := 16) hx hb hts i_X t_X t_X_ok n_X hown hK hP hD hS 0 rfl rfl 15 (by decide) (hts _ wf_X_38) (fun _ h9 => h9) rfl hin rfl (by decide +kernel) rfl rfl (Nat.le_of_ble_eq_true rfl) d_X_init_81 (fun H locs hP hD hS => ?_)
  have hP : va_P D classes [(h0, .inr (0, [.int (nI 0), .int (nI 0), .ref q1, .ref q2, .ref q3, .ref q4, .ref q5, .ref q6, .long (lN 0), .ref q7, .int (nI 0), .ref q8, .int (nI 0), .ref q9, .int (nI 0), .ref q10])), (q1, .inl (c1, 24, .inl (fun _ => nI 0))), (q2, .inl (c2, 24, .inl (fun _ => nI 0))), (q3, .inl (c3, 24, .inl (fun _ => nI 0))), (q4, .inl (c4, 24, .inl (fun _ => 0))), (q5, .inl (c5, 24, .inl (fun _ => 0))), (q6, .inl (c6, 24, .inl (fun _ => nI 0))), (q7, .inl (c7, 24, .inr (.inl (fun _ => lN 0)))), (q8, .inl (c8, 8, .inl (fun _ => nI 0))), (q9, .inl (c9, 24, .inl (fun _ => nI 0))), (q10, .inl (c10, 24, .inl (fun _ => nI 0)))] H := hP
  have hD : va_D A [(h0, .inr (0, [.int (nI 0), .int (nI 0), .ref q1, .ref q2, .ref q3, .ref q4, .ref q5, .ref q6, .long (lN 0), .ref q7, .int (nI 0), .ref q8, .int (nI 0), .ref q9, .int (nI 0), .ref q10])), (q1, .inl (c1, 24, .inl (fun _ => nI 0))), (q2, .inl (c2, 24, .inl (fun _ => nI 0))), (q3, .inl (c3, 24, .inl (fun _ => nI 0))), (q4, .inl (c4, 24, .inl (fun _ => 0))), (q5, .inl (c5, 24, .inl (fun _ => 0))), (q6, .inl (c6, 24, .inl (fun _ => nI 0))), (q7, .inl (c7, 24, .inr (.inl (fun _ => lN 0)))), (q8, .inl (c8, 8, .inl (fun _ => nI 0))), (q9, .inl (c9, 24, .inl (fun _ => nI 0))), (q10, .inl (c10, 24, .inl (fun _ => nI 0)))] := hD
  refine lv_aload_n hx hb d_X_init_84 rfl (lv_at hl 0 rfl) ?_
  refine lv_iconst (v := nI 0) hx hb d_X_init_85 rfl ?_
  refine va_put (D := D) (ci := 0) (v := .int (nI 0)) (ty := .int) (C := R_X) (T := F_X) (N := 16) hx hb hts i_X t_X t_X_ok n_X hown hK hP hD hS 0 rfl rfl 0 (by decide) (hts _ wf_X_41) (fun _ h9 => h9) rfl (by decide +kernel) rfl rfl (Nat.le_of_ble_eq_true rfl) d_X_init_86 (fun H locs hP hD hS => ?_)
  have hP : va_P D classes [(h0, .inr (0, [.int (nI 0), .int (nI 0), .ref q1, .ref q2, .ref q3, .ref q4, .ref q5, .ref q6, .long (lN 0), .ref q7, .int (nI 0), .ref q8, .int (nI 0), .ref q9, .int (nI 0), .ref q10])), (q1, .inl (c1, 24, .inl (fun _ => nI 0))), (q2, .inl (c2, 24, .inl (fun _ => nI 0))), (q3, .inl (c3, 24, .inl (fun _ => nI 0))), (q4, .inl (c4, 24, .inl (fun _ => 0))), (q5, .inl (c5, 24, .inl (fun _ => 0))), (q6, .inl (c6, 24, .inl (fun _ => nI 0))), (q7, .inl (c7, 24, .inr (.inl (fun _ => lN 0)))), (q8, .inl (c8, 8, .inl (fun _ => nI 0))), (q9, .inl (c9, 24, .inl (fun _ => nI 0))), (q10, .inl (c10, 24, .inl (fun _ => nI 0)))] H := hP
  have hD : va_D A [(h0, .inr (0, [.int (nI 0), .int (nI 0), .ref q1, .ref q2, .ref q3, .ref q4, .ref q5, .ref q6, .long (lN 0), .ref q7, .int (nI 0), .ref q8, .int (nI 0), .ref q9, .int (nI 0), .ref q10])), (q1, .inl (c1, 24, .inl (fun _ => nI 0))), (q2, .inl (c2, 24, .inl (fun _ => nI 0))), (q3, .inl (c3, 24, .inl (fun _ => nI 0))), (q4, .inl (c4, 24, .inl (fun _ => 0))), (q5, .inl (c5, 24, .inl (fun _ => 0))), (q6, .inl (c6, 24, .inl (fun _ => nI 0))), (q7, .inl (c7, 24, .inr (.inl (fun _ => lN 0)))), (q8, .inl (c8, 8, .inl (fun _ => nI 0))), (q9, .inl (c9, 24, .inl (fun _ => nI 0))), (q10, .inl (c10, 24, .inl (fun _ => nI 0)))] := hD
  have hP : va_P D classes (wX (fun k => [h0, q1, q2, q3, q4, q5, q6, q7, q8, q9, q10].getD k 0) (fun k => [c1, c1, c2, c3, c4, c5, c6, c7, c8, c9, c10].getD k c1) X0) H := hP
  have hD : va_D A (wX (fun k => [h0, q1, q2, q3, q4, q5, q6, q7, q8, q9, q10].getD k 0) (fun k => [c1, c1, c2, c3, c4, c5, c6, c7, c8, c9, c10].getD k c1) X0) := hD
  have hK : va_K D classes (tX (fun k => [c1, c1, c2, c3, c4, c5, c6, c7, c8, c9, c10].getD k c1)) s := hK
  exact W.vret hx hb hr (fun t ht hW => ⟨⟨(fun k => [h0, q1, q2, q3, q4, q5, q6, q7, q8, q9, q10].getD k 0, fun k => [c1, c1, c2, c3, c4, c5, c6, c7, c8, c9, c10].getD k c1), rfl, rfl, by rw [ht]; exact hP, va_K.moved hW.alike hK, hD⟩, hS.F ht⟩) hS.2.2 d_X_init_89
abbrev iM_ : List Value := [.null, .null, .null, .null, .null, .null, .int (nI 0), .int (nI 0)]
set_option maxHeartbeats 4000000 in
set_option maxRecDepth 100000 in
/-- the constructor of M: its arrays, all zero -/
theorem c_M_init (l : Launch) (D : va_G) (h0 : Nat) (sz : Nat) : Met l y_M_init (Cond.code y_M_init b_M_init 1 none :: lw_ws) ({ frames := 1, cells := 6, slots := 144, locals := 30 }) (va_Pc [.ref h0] (fun U => U.heap.size = sz ∧ va_P D classes [(h0, .inr (1, iM_))] U.heap ∧ va_K D classes [] U ∧ va_D (fun _ => True) [(h0, .inr (1, iM_))])) (va_Qv (fun u : (Nat → Nat) × (Nat → ClassId) => u.1 0 = h0) (fun u t => va_P D classes (wM u.1 u.2 M0) t.heap ∧ va_K D classes (tM u.2) t ∧ va_D (va_A [(h0, .inr (1, iM_))] sz) (wM u.1 u.2 M0)) (va_A [(h0, .inr (1, iM_))] sz)) 6 144 (va_A [(h0, .inr (1, iM_))] sz) := by
  refine Met.ofW (cc := b_M_init) (maxL := 1) (ret := none) (by decide) rfl ?_
  intro p e s m args below meth c s₁ B hml hv
  obtain ⟨rfl, hsz, hP, hK, hD0⟩ := hv
  have hx := B.exec
  have hb := B.bytes
  have hr := B.returns
  have hts0 := atoms_spec (ws := Cond.code y_M_init b_M_init 1 none :: lw_ws) B.pre
  have hts : ∀ w ∈ lw_ws, w.before #[Value.ref h0] s = true := fun w h => hts0 w (List.mem_cons_of_mem _ h)
  have hown : s.vm.findClass R_M = some m.cls := findClass_of_methodNamed B.named
  have hlocks := B.notSynchronized
  have hin : meth.name = "<init>" := (name_of_methodNamed B.named B.method).1
  subst hsz
  have hD := hD0.self (sz := s.heap.size)
  generalize hAe : va_A [(h0, .inr (1, iM_))] s.heap.size = A at hD ⊢
  have hA : ∀ q : Nat, s.heap.size ≤ q → A q := fun q h => by rw [← hAe]; exact Or.inr h
  have hS : va_S A s.heap s.heap [] := va_S.rf
  have hl := lv_entry ([.ref h0]) (n := 1) (Nat.le_of_ble_eq_true rfl)
  rw [lg_entry_eq]
  generalize (lg_sl ([.ref h0]) ++ List.replicate (1 - (lg_sl ([.ref h0])).length) Slot.unset).toArray = ls at hl ⊢
  have hl : lv_has ls 1 [(0, .ref h0)] := hl
  refine lv_aload_n hx hb d_M_init_0 rfl (lv_at hl 0 rfl) ?_
  refine W.objInit hx hb hown (hts _ wl_M_1) (hts _ wm_obj) (hts _ wk_obj) rfl (by rw [hml]; exact hl.1) rfl d_M_init_1 (Nat.le_of_ble_eq_true rfl) (Nat.le_of_ble_eq_true rfl) ?_
  refine W.eq (g2 := F0 m 4 ls []) rfl ?_
  refine lv_aload_n hx hb d_M_init_4 rfl (lv_at hl 0 rfl) ?_
  refine lv_bipush (v := nI 24) hx hb d_M_init_5 rfl ?_
  refine va_newa (atype := .int) (ty := .int) (a0 := (24, .inl (fun _ => nI 0))) (N' := 24) hx hb (hts _ wa_int) rfl hK hP hD hS hA (fun _ => rfl) (by decide) (by decide) (by decide) (Nat.le_of_ble_eq_true rfl) (Nat.le_of_ble_eq_true rfl) d_M_init_7 (fun q1 c1 H hK hP hD hS => ?_)
  have hP : va_P D classes [(h0, .inr (1, [.null, .null, .null, .null, .null, .null, .int (nI 0), .int (nI 0)])), (q1, .inl (c1, 24, .inl (fun _ => nI 0)))] H := hP
  have hD : va_D A [(h0, .inr (1, [.null, .null, .null, .null, .null, .null, .int (nI 0), .int (nI 0)])), (q1, .inl (c1, 24, .inl (fun _ => nI 0)))] := hD
  have hK : va_K D classes [(c1, .int)] s := hK
  refine W.widen (k := 1) (n := 24) (by omega) (by omega) ?_
  refine va_putF (D := D) (ci := 1) (v := .ref q1) (ty := .array .int) (C := R_M) (T := F_M) (N := 8) hx hb hts i_M t_M t_M_ok n_M hown hK hP hD hS 0 rfl rfl 0 (by decide) (hts _ wf_M_7) (fun _ h9 => h9) rfl hin rfl (by decide +kernel) rfl rfl (Nat.le_of_ble_eq_true rfl) d_M_init_9 (fun H locs hP hD hS => ?_)
  have hP : va_P D classes [(h0, .inr (1, [.ref q1, .null, .null, .null, .null, .null, .int (nI 0), .int (nI 0)])), (q1, .inl (c1, 24, .inl (fun _ => nI 0)))] H := hP
  have hD : va_D A [(h0, .inr (1, [.ref q1, .null, .null, .null, .null, .null, .int (nI 0), .int (nI 0)])), (q1, .inl (c1, 24, .inl (fun _ => nI 0)))] := hD
  refine lv_aload_n hx hb d_M_init_12 rfl (lv_at hl 0 rfl) ?_
  refine lv_bipush (v := nI 24) hx hb d_M_init_13 rfl ?_
  refine va_newa (atype := .int) (ty := .int) (a0 := (24, .inl (fun _ => nI 0))) (N' := 24) hx hb (hts _ wa_int) rfl hK hP hD hS hA (fun _ => rfl) (by decide) (by decide) (by decide) (Nat.le_of_ble_eq_true rfl) (Nat.le_of_ble_eq_true rfl) d_M_init_15 (fun q2 c2 H hK hP hD hS => ?_)
  have hP : va_P D classes [(h0, .inr (1, [.ref q1, .null, .null, .null, .null, .null, .int (nI 0), .int (nI 0)])), (q1, .inl (c1, 24, .inl (fun _ => nI 0))), (q2, .inl (c2, 24, .inl (fun _ => nI 0)))] H := hP
  have hD : va_D A [(h0, .inr (1, [.ref q1, .null, .null, .null, .null, .null, .int (nI 0), .int (nI 0)])), (q1, .inl (c1, 24, .inl (fun _ => nI 0))), (q2, .inl (c2, 24, .inl (fun _ => nI 0)))] := hD
  have hK : va_K D classes [(c1, .int), (c2, .int)] s := hK
  refine W.widen (k := 2) (n := 48) (by omega) (by omega) ?_
  refine va_putF (D := D) (ci := 1) (v := .ref q2) (ty := .array .int) (C := R_M) (T := F_M) (N := 8) hx hb hts i_M t_M t_M_ok n_M hown hK hP hD hS 0 rfl rfl 1 (by decide) (hts _ wf_M_13) (fun _ h9 => h9) rfl hin rfl (by decide +kernel) rfl rfl (Nat.le_of_ble_eq_true rfl) d_M_init_17 (fun H locs hP hD hS => ?_)
  have hP : va_P D classes [(h0, .inr (1, [.ref q1, .ref q2, .null, .null, .null, .null, .int (nI 0), .int (nI 0)])), (q1, .inl (c1, 24, .inl (fun _ => nI 0))), (q2, .inl (c2, 24, .inl (fun _ => nI 0)))] H := hP
  have hD : va_D A [(h0, .inr (1, [.ref q1, .ref q2, .null, .null, .null, .null, .int (nI 0), .int (nI 0)])), (q1, .inl (c1, 24, .inl (fun _ => nI 0))), (q2, .inl (c2, 24, .inl (fun _ => nI 0)))] := hD
  refine lv_aload_n hx hb d_M_init_20 rfl (lv_at hl 0 rfl) ?_
  refine lv_bipush (v := nI 24) hx hb d_M_init_21 rfl ?_
  refine va_newa (atype := .int) (ty := .int) (a0 := (24, .inl (fun _ => nI 0))) (N' := 24) hx hb (hts _ wa_int) rfl hK hP hD hS hA (fun _ => rfl) (by decide) (by decide) (by decide) (Nat.le_of_ble_eq_true rfl) (Nat.le_of_ble_eq_true rfl) d_M_init_23 (fun q3 c3 H hK hP hD hS => ?_)
  have hP : va_P D classes [(h0, .inr (1, [.ref q1, .ref q2, .null, .null, .null, .null, .int (nI 0), .int (nI 0)])), (q1, .inl (c1, 24, .inl (fun _ => nI 0))), (q2, .inl (c2, 24, .inl (fun _ => nI 0))), (q3, .inl (c3, 24, .inl (fun _ => nI 0)))] H := hP
  have hD : va_D A [(h0, .inr (1, [.ref q1, .ref q2, .null, .null, .null, .null, .int (nI 0), .int (nI 0)])), (q1, .inl (c1, 24, .inl (fun _ => nI 0))), (q2, .inl (c2, 24, .inl (fun _ => nI 0))), (q3, .inl (c3, 24, .inl (fun _ => nI 0)))] := hD
  have hK : va_K D classes [(c1, .int), (c2, .int), (c3, .int)] s := hK
  refine W.widen (k := 3) (n := 72) (by omega) (by omega) ?_
  refine va_putF (D := D) (ci := 1) (v := .ref q3) (ty := .array .int) (C := R_M) (T := F_M) (N := 8) hx hb hts i_M t_M t_M_ok n_M hown hK hP hD hS 0 rfl rfl 2 (by decide) (hts _ wf_M_16) (fun _ h9 => h9) rfl hin rfl (by decide +kernel) rfl rfl (Nat.le_of_ble_eq_true rfl) d_M_init_25 (fun H locs hP hD hS => ?_)
  have hP : va_P D classes [(h0, .inr (1, [.ref q1, .ref q2, .ref q3, .null, .null, .null, .int (nI 0), .int (nI 0)])), (q1, .inl (c1, 24, .inl (fun _ => nI 0))), (q2, .inl (c2, 24, .inl (fun _ => nI 0))), (q3, .inl (c3, 24, .inl (fun _ => nI 0)))] H := hP
  have hD : va_D A [(h0, .inr (1, [.ref q1, .ref q2, .ref q3, .null, .null, .null, .int (nI 0), .int (nI 0)])), (q1, .inl (c1, 24, .inl (fun _ => nI 0))), (q2, .inl (c2, 24, .inl (fun _ => nI 0))), (q3, .inl (c3, 24, .inl (fun _ => nI 0)))] := hD
  refine lv_aload_n hx hb d_M_init_28 rfl (lv_at hl 0 rfl) ?_
  refine lv_bipush (v := nI 24) hx hb d_M_init_29 rfl ?_
  refine va_newa (atype := .int) (ty := .int) (a0 := (24, .inl (fun _ => 0))) (N' := 24) hx hb (hts _ wa_int) rfl hK hP hD hS hA (fun _ => rfl) (by decide) (by decide) (by decide) (Nat.le_of_ble_eq_true rfl) (Nat.le_of_ble_eq_true rfl) d_M_init_31 (fun q4 c4 H hK hP hD hS => ?_)
  have hP : va_P D classes [(h0, .inr (1, [.ref q1, .ref q2, .ref q3, .null, .null, .null, .int (nI 0), .int (nI 0)])), (q1, .inl (c1, 24, .inl (fun _ => nI 0))), (q2, .inl (c2, 24, .inl (fun _ => nI 0))), (q3, .inl (c3, 24, .inl (fun _ => nI 0))), (q4, .inl (c4, 24, .inl (fun _ => 0)))] H := hP
  have hD : va_D A [(h0, .inr (1, [.ref q1, .ref q2, .ref q3, .null, .null, .null, .int (nI 0), .int (nI 0)])), (q1, .inl (c1, 24, .inl (fun _ => nI 0))), (q2, .inl (c2, 24, .inl (fun _ => nI 0))), (q3, .inl (c3, 24, .inl (fun _ => nI 0))), (q4, .inl (c4, 24, .inl (fun _ => 0)))] := hD
  have hK : va_K D classes [(c1, .int), (c2, .int), (c3, .int), (c4, .int)] s := hK
  refine W.widen (k := 4) (n := 96) (by omega) (by omega) ?_
  refine va_putF (D := D) (ci := 1) (v := .ref q4) (ty := .array .int) (C := R_M) (T := F_M) (N := 8) hx hb hts i_M t_M t_M_ok n_M hown hK hP hD hS 0 rfl rfl 3 (by decide) (hts _ wf_M_19) (fun _ h9 => h9) rfl hin rfl (by decide +kernel) rfl rfl (Nat.le_of_ble_eq_true rfl) d_M_init_33 (fun H locs hP hD hS => ?_)
  have hP : va_P D classes [(h0, .inr (1, [.ref q1, .ref q2, .ref q3, .ref q4, .null, .null, .int (nI 0), .int (nI 0)])), (q1, .inl (c1, 24, .inl (fun _ => nI 0))), (q2, .inl (c2, 24, .inl (fun _ => nI 0))), (q3, .inl (c3, 24, .inl (fun _ => nI 0))), (q4, .inl (c4, 24, .inl (fun _ => 0)))] H := hP
  have hD : va_D A [(h0, .inr (1, [.ref q1, .ref q2, .ref q3, .ref q4, .null, .null, .int (nI 0), .int (nI 0)])), (q1, .inl (c1, 24, .inl (fun _ => nI 0))), (q2, .inl (c2, 24, .inl (fun _ => nI 0))), (q3, .inl (c3, 24, .inl (fun _ => nI 0))), (q4, .inl (c4, 24, .inl (fun _ => 0)))] := hD
  refine lv_aload_n hx hb d_M_init_36 rfl (lv_at hl 0 rfl) ?_
  refine lv_bipush (v := nI 24) hx hb d_M_init_37 rfl ?_
  refine va_newa (atype := .int) (ty := .int) (a0 := (24, .inl (fun _ => 0))) (N' := 24) hx hb (hts _ wa_int) rfl hK hP hD hS hA (fun _ => rfl) (by decide) (by decide) (by decide) (Nat.le_of_ble_eq_true rfl) (Nat.le_of_ble_eq_true rfl) d_M_init_39 (fun q5 c5 H hK hP hD hS => ?_)
  have hP : va_P D classes [(h0, .inr (1, [.ref q1, .ref q2, .ref q3, .ref q4, .null, .null, .int (nI 0), .int (nI 0)])), (q1, .inl (c1, 24, .inl (fun _ => nI 0))), (q2, .inl (c2, 24, .inl (fun _ => nI 0))), (q3, .inl (c3, 24, .inl (fun _ => nI 0))), (q4, .inl (c4, 24, .inl (fun _ => 0))), (q5, .inl (c5, 24, .inl (fun _ => 0)))] H := hP
  have hD : va_D A [(h0, .inr (1, [.ref q1, .ref q2, .ref q3, .ref q4, .null, .null, .int (nI 0), .int (nI 0)])), (q1, .inl (c1, 24, .inl (fun _ => nI 0))), (q2, .inl (c2, 24, .inl (fun _ => nI 0))), (q3, .inl (c3, 24, .inl (fun _ => nI 0))), (q4, .inl (c4, 24, .inl (fun _ => 0))), (q5, .inl (c5, 24, .inl (fun _ => 0)))] := hD
  have hK : va_K D classes [(c1, .int), (c2, .int), (c3, .int), (c4, .int), (c5, .int)] s := hK
  refine W.widen (k := 5) (n := 120) (by omega) (by omega) ?_
  refine va_putF (D := D) (ci := 1) (v := .ref q5) (ty := .array .int) (C := R_M) (T := F_M) (N := 8) hx hb hts i_M t_M t_M_ok n_M hown hK hP hD hS 0 rfl rfl 4 (by decide) (hts _ wf_M_22) (fun _ h9 => h9) rfl hin rfl (by decide +kernel) rfl rfl (Nat.le_of_ble_eq_true rfl) d_M_init_41 (fun H locs hP hD hS => ?_)
  have hP : va_P D classes [(h0, .inr (1, [.ref q1, .ref q2, .ref q3, .ref q4, .ref q5, .null, .int (nI 0), .int (nI 0)])), (q1, .inl (c1, 24, .inl (fun _ => nI 0))), (q2, .inl (c2, 24, .inl (fun _ => nI 0))), (q3, .inl (c3, 24, .inl (fun _ => nI 0))), (q4, .inl (c4, 24, .inl (fun _ => 0))), (q5, .inl (c5, 24, .inl (fun _ => 0)))] H := hP
  have hD : va_D A [(h0, .inr (1, [.ref q1, .ref q2, .ref q3, .ref q4, .ref q5, .null, .int (nI 0), .int (nI 0)])), (q1, .inl (c1, 24, .inl (fun _ => nI 0))), (q2, .inl (c2, 24, .inl (fun _ => nI 0))), (q3, .inl (c3, 24, .inl (fun _ => nI 0))), (q4, .inl (c4, 24, .inl (fun _ => 0))), (q5, .inl (c5, 24, .inl (fun _ => 0)))] := hD
  refine lv_aload_n hx hb d_M_init_44 rfl (lv_at hl 0 rfl) ?_
  refine lv_bipush (v := nI 24) hx hb d_M_init_45 rfl ?_
  refine va_newa (atype := .boolean) (ty := .boolean) (a0 := (24, .inl (fun _ => nI 0))) (N' := 24) hx hb (hts _ wa_boolean) rfl hK hP hD hS hA (fun _ => rfl) (by decide) (by decide) (by decide) (Nat.le_of_ble_eq_true rfl) (Nat.le_of_ble_eq_true rfl) d_M_init_47 (fun q6 c6 H hK hP hD hS => ?_)
  have hP : va_P D classes [(h0, .inr (1, [.ref q1, .ref q2, .ref q3, .ref q4, .ref q5, .null, .int (nI 0), .int (nI 0)])), (q1, .inl (c1, 24, .inl (fun _ => nI 0))), (q2, .inl (c2, 24, .inl (fun _ => nI 0))), (q3, .inl (c3, 24, .inl (fun _ => nI 0))), (q4, .inl (c4, 24, .inl (fun _ => 0))), (q5, .inl (c5, 24, .inl (fun _ => 0))), (q6, .inl (c6, 24, .inl (fun _ => nI 0)))] H := hP
  have hD : va_D A [(h0, .inr (1, [.ref q1, .ref q2, .ref q3, .ref q4, .ref q5, .null, .int (nI 0), .int (nI 0)])), (q1, .inl (c1, 24, .inl (fun _ => nI 0))), (q2, .inl (c2, 24, .inl (fun _ => nI 0))), (q3, .inl (c3, 24, .inl (fun _ => nI 0))), (q4, .inl (c4, 24, .inl (fun _ => 0))), (q5, .inl (c5, 24, .inl (fun _ => 0))), (q6, .inl (c6, 24, .inl (fun _ => nI 0)))] := hD
  have hK : va_K D classes [(c1, .int), (c2, .int), (c3, .int), (c4, .int), (c5, .int), (c6, .boolean)] s := hK
  refine W.widen (k := 6) (n := 144) (by omega) (by omega) ?_
  refine va_putF (D := D) (ci := 1) (v := .ref q6) (ty := .array .boolean) (C := R_M) (T := F_M) (N := 8) hx hb hts i_M t_M t_M_ok n_M hown hK hP hD hS 0 rfl rfl 5 (by decide) (hts _ wf_M_25) (fun _ h9 => h9) rfl hin rfl (by decide +kernel) rfl rfl (Nat.le_of_ble_eq_true rfl) d_M_init_49 (fun H locs hP hD hS => ?_)
  have hP : va_P D classes [(h0, .inr (1, [.ref q1, .ref q2, .ref q3, .ref q4, .ref q5, .ref q6, .int (nI 0), .int (nI 0)])), (q1, .inl (c1, 24, .inl (fun _ => nI 0))), (q2, .inl (c2, 24, .inl (fun _ => nI 0))), (q3, .inl (c3, 24, .inl (fun _ => nI 0))), (q4, .inl (c4, 24, .inl (fun _ => 0))), (q5, .inl (c5, 24, .inl (fun _ => 0))), (q6, .inl (c6, 24, .inl (fun _ => nI 0)))] H := hP
  have hD : va_D A [(h0, .inr (1, [.ref q1, .ref q2, .ref q3, .ref q4, .ref q5, .ref q6, .int (nI 0), .int (nI 0)])), (q1, .inl (c1, 24, .inl (fun _ => nI 0))), (q2, .inl (c2, 24, .inl (fun _ => nI 0))), (q3, .inl (c3, 24, .inl (fun _ => nI 0))), (q4, .inl (c4, 24, .inl (fun _ => 0))), (q5, .inl (c5, 24, .inl (fun _ => 0))), (q6, .inl (c6, 24, .inl (fun _ => nI 0)))] := hD
  have hP : va_P D classes (wM (fun k => [h0, q1, q2, q3, q4, q5, q6].getD k 0) (fun k => [c1, c1, c2, c3, c4, c5, c6].getD k c1) M0) H := hP
  have hD : va_D A (wM (fun k => [h0, q1, q2, q3, q4, q5, q6].getD k 0) (fun k => [c1, c1, c2, c3, c4, c5, c6].getD k c1) M0) := hD
  have hK : va_K D classes (tM (fun k => [c1, c1, c2, c3, c4, c5, c6].getD k c1)) s := hK
  exact W.vret hx hb hr (fun t ht hW => ⟨⟨(fun k => [h0, q1, q2, q3, q4, q5, q6].getD k 0, fun k => [c1, c1, c2, c3, c4, c5, c6].getD k c1), rfl, rfl, by rw [ht]; exact hP, va_K.moved hW.alike hK, hD⟩, hS.F ht⟩) hS.2.2 d_M_init_52
end
section
/-! the law's own words: calls from a world of both objects; what the link says of the questions -/
theorem runF_T : ∀ (k : Nat) (v : PM), mT (runF k v).1 = mT v + k
  | 0, _ => rfl
  | k + 1, v => by
    show mT (runF k (tickF v).1).1 = _
    rw [runF_T k, tick_T]
    omega
theorem qry_congr {J J' : Nat} {j : Int32} {f f' : Nat → Int32} (hJ : J = J') (hb : J < 2 ^ 31) (h : ∀ k, k < J → f k = f' k) : qry J j f = qry J' j f' := by
  subst hJ
  by_cases hj : j < 0 ∨ nI J ≤ j
  · rw [qry_no hj, qry_no hj]
  · obtain ⟨k, hk, rfl⟩ := qry_in hb hj
    rw [qry_at hk hb, qry_at hk hb, h k hk]
theorem Lk.J {u : PX} {v : PM} {b : Nat} (L : Lk b u v) : xJ u = mJ v ∧ xJ u ≤ 24 ∧ MOK v ∧ xT u = mT v := by
  have h := L.1
  have := h.2.2.1
  exact ⟨h.2.1, by rw [h.2.1]; exact this, h.2.2, h.1⟩
theorem Lk.state {u : PX} {v : PM} (L : Lk (xT u) u v) (j : Int32) : qry (xJ u) j (fun k => nI (xSt u k)) = qry (mJ v) j (fun k => nI (mst v k)) := by
  obtain ⟨e1, e2, e3, e4⟩ := L.J
  refine qry_congr e1 (by omega) (fun k hk => ?_)
  have := (L.2.1 k (by omega)).2.2.2.2.1
  rw [this, mst_B, ← e4]
theorem Lk.admitted {u : PX} {v : PM} (L : Lk (xT u) u v) (j : Int32) : qry (xJ u) j (xAd u) = qry (mJ v) j (mAd v) := by
  obtain ⟨e1, e2, e3, e4⟩ := L.J
  exact qry_congr e1 (by omega) (fun k hk => (L.2.1 k (by omega)).2.2.1)
theorem Lk.finished {u : PX} {v : PM} (L : Lk (xT u) u v) (j : Int32) : qry (xJ u) j (xFi u) = qry (mJ v) j (mFi v) := by
  obtain ⟨e1, e2, e3, e4⟩ := L.J
  exact qry_congr e1 (by omega) (fun k hk => (L.2.1 k (by omega)).2.2.2.1)
theorem Lk.had {u : PX} {v : PM} (L : Lk (xT u) u v) (j : Int32) : qry (xJ u) j (fun k => nI (if xSt u k = 2 then xSz u k - (xMk u k - xCt u) else xWk u k)) = qry (mJ v) j (fun k => nI (mWk v k)) := by
  obtain ⟨e1, e2, e3, e4⟩ := L.J
  refine qry_congr e1 (by omega) (fun k hk => ?_)
  obtain ⟨p1, p2, p3, p4, p5, p6⟩ := L.2.1 k (by omega)
  obtain ⟨w1, w2, w3⟩ := L.2.2.1 k (by omega)
  congr 1
  split
  · rename_i z
    obtain ⟨z1, z2⟩ := w1 (by rw [← p5]; exact z)
    rw [p1]
    omega
  · rename_i z
    exact w2 (fun y => z (by rw [p5]; exact y))
theorem Lk.hadPre {u : PX} {v : PM} (L : Lk (xT u) u v) : (∀ k, k < xJ u → xSt u k < 5) ∧ (∀ k, k < xJ u → xSz u k < 2 ^ 31) ∧ ∀ k, k < xJ u → xSt u k = 2 → xCt u ≤ xMk u k ∧ xMk u k - xCt u ≤ xSz u k := by
  obtain ⟨e1, e2, e3, e4⟩ := L.J
  refine ⟨fun k hk => ?_, fun k hk => ?_, fun k hk h2 => ?_⟩
  · rw [(L.2.1 k (by omega)).2.2.2.2.1]
    have := mst_5 v k
    rw [mst_B, ← e4] at this
    exact this
  · rw [(L.2.1 k (by omega)).1]
    have := (e3.2.2 k (by omega)).1
    omega
  · obtain ⟨p1, p2, p3, p4, p5, p6⟩ := L.2.1 k (by omega)
    obtain ⟨z1, z2⟩ := (L.2.2.1 k (by omega)).1 (by rw [← p5]; exact h2)
    rw [p1]
    omega
theorem Lk.served {u : PX} {v : PM} (L : Lk (xT u) u v) : xHp u = cntS v 2 := (LkC.room L).2.symm
theorem Lk.waiting {u : PX} {v : PM} (L : Lk (xT u) u v) : xIl u = cntS v 1 := by
  obtain ⟨e1, e2, e3, e4⟩ := L.J
  have h1 : cnt (fun j => mstB v (xT u) j == 1) (mJ v) = xIl u := L.2.2.2.2.2.1.1.count (fun j => by rw [beq_iff_eq])
  rw [← h1, e4]
  rfl
theorem Lk.clear {u : PX} {v : PM} (L : Lk (xT u) u v) : Lk (xT (uIl (uCm (uHp (uJ u 0) 0) 0) 0)) (uIl (uCm (uHp (uJ u 0) 0) 0) 0) (vJ v 0) := by
  unfold Lk
  simp only [xT_uIl, xT_uCm, xT_uHp, xT_uJ, xJ_uIl, xJ_uCm, xJ_uHp, xJ_uJ, xSz_uIl, xSz_uCm, xSz_uHp, xSz_uJ, xAr_uIl, xAr_uCm, xAr_uHp, xAr_uJ, xSt_uIl, xSt_uCm, xSt_uHp, xSt_uJ, xAd_uIl, xAd_uCm, xAd_uHp, xAd_uJ, xFi_uIl, xFi_uCm, xFi_uHp, xFi_uJ, xWk_uIl, xWk_uCm, xWk_uHp, xWk_uJ, xCt_uIl, xCt_uCm, xCt_uHp, xCt_uJ, xMk_uIl, xMk_uCm, xMk_uHp, xMk_uJ, xHp_uIl, xHp_uCm, xHp_uHp, xHj_uIl, xHj_uCm, xHj_uHp, xHj_uJ, xCm_uIl, xCm_uCm, xCj_uIl, xCj_uCm, xCj_uHp, xCj_uJ, xIl_uIl, xLj_uIl, xLj_uCm, xLj_uHp, xLj_uJ]
  exact clear_C L
theorem Lk_0 : Lk (xT X0) X0 M0 := by
  have bj : ∀ (h : Nat → Nat) (n : Nat), Bij h 0 (fun j => j < mJ M0 ∧ mstB M0 (xT X0) j = n) := fun h n => ⟨fun k hk => by omega, fun j hj => absurd hj.1 (Nat.not_lt_zero _), fun k k' hk => by omega⟩
  exact ⟨⟨rfl, rfl, Nat.zero_le _, by decide, fun j hj => absurd hj (Nat.not_lt_zero _)⟩, fun j hj => absurd hj (Nat.not_lt_zero _), fun j hj => absurd hj (Nat.not_lt_zero _), ⟨Nat.zero_le _, bj _ _, fun k _ hk => absurd hk (Nat.not_lt_zero _)⟩, ⟨bj _ _, fun i j _ hj => absurd hj (Nat.not_lt_zero _)⟩, ⟨bj _ _, fun i j _ hj => absurd hj (Nat.not_lt_zero _)⟩, fun k _ => Nat.zero_le _, Nat.zero_le _⟩
section KL
variable {p : Program} {l : Launch} {e : Env} {R : Room} {s : State} {m : MethodId} {args : Array Value} {below : List Frame} {meth : Method} {c : Code} {H : Heap} {locs : List Loc} {cells slots : Nat} {Q : State → Prop}
variable {cc : ByteArray} {nL pc : Nat} {ls : Array Slot} {rest st : List Value} {own : String} {D : va_G} {A : Nat → Prop} {H0 : Heap}
variable {y : MethodName} {b : ByteArray} {n d index : Nat} {As : List Value} {a a2 : Nat → Nat} {g g2 : Nat → ClassId} {u : PX} {v : PM}
set_option maxHeartbeats 2000000 in
theorem l_Xi {r : Option FieldType} {post : Int32 → PX → Prop} (E : CallFix p m c cc nL s args lw_ws own) (hM : MetI l y b n r d D (tX g) (wX a g) (.ref (a 0) :: As) u post) (hk : kCall own R_X index y b n r As.length) (hroom : d + 1 ≤ R.frames ∧ 8 + (n + 11) + 30 * d ≤ R.locals) (B : wB D (tX g ++ tM g2) s A H0 (wX a g u ++ wM a2 g2 v) H locs) (hsz : ls.size = nL) (hs : st = As.reverse ++ .ref (a 0) :: rest) (hcat : (rest.map fun v => v.category).sum ≤ 8) (hdg : decode cc pc = .ok (.invokevirtual index, 3)) (hf : cells + 0 ≤ R.cells ∧ slots + 0 ≤ R.slots) (kk : ∀ (rr : Int32) (w' : PX) (H : Heap) (locs : List Loc), post rr w' → wB D (tX g ++ tM g2) s A H0 (wX a g w' ++ wM a2 g2 v) H locs → W p l e R s m args below meth c H locs cells slots Q (F0 m (pc + 3) ls (.int rr :: rest))) : W p l e R s m args below meth c H locs cells slots Q (F0 m pc ls st) := by
  obtain ⟨hP, hD, hS, hK, hA⟩ := B
  have hPc := hP.sub (ws' := wX a g u) [0, 1, 2, 3, 4, 5, 6, 7, 8, 9, 10] rfl
  have hDc := hD.sub (ws' := wX a g u) [0, 1, 2, 3, 4, 5, 6, 7, 8, 9, 10] (by decide) rfl
  have hKc := hK.sub (tys' := tX g) [0, 1, 2, 3, 4, 5, 6, 7, 8, 9] rfl
  have hFc := va_free (wc := wX a g u) hD hS hA [0, 1, 2, 3, 4, 5, 6, 7, 8, 9, 10] rfl
  refine va_calli (va_runV (As := As) (rest := rest) E (hM H.size) (hk.cw E.2.2.2.2 hroom) ⟨wPc_blind, va_recv hKc hPc (ci := 0) (q0 := 0) rfl rfl, fun U hU hW => ⟨rfl, by rw [hU], by rw [hU]; exact hPc, va_K.moved hW.alike hKc, hDc.weaken (fun _ _ _ _ => trivial)⟩⟩ rfl rfl hsz hs (lv_room hcat) hdg hf) hS (fun q _ h => hFc q h) hFc (fun rr w' t H1 locs ht hvm hw hB hz1 hk1 hS => ?_)
  obtain ⟨hP1, hK1, hD1⟩ := hB
  rw [ht] at hP1
  obtain ⟨hP2, hD2⟩ := va_join (wr := wM a2 g2 v) (w1 := wX a g w') hP hD [0, 1, 2, 3, 4, 5, 6, 7, 8, 9, 10] [11, 12, 13, 14, 15, 16, 17] rfl rfl (by decide) (by decide) hk1 hFc hP1 hD1
  have hP3 := hP2.sub (ws' := wX a g w' ++ wM a2 g2 v) [7, 8, 9, 10, 11, 12, 13, 14, 15, 16, 17, 0, 1, 2, 3, 4, 5, 6] rfl
  have hD3 := hD2.sub (ws' := wX a g w' ++ wM a2 g2 v) [7, 8, 9, 10, 11, 12, 13, 14, 15, 16, 17, 0, 1, 2, 3, 4, 5, 6] (by decide) rfl
  exact kk rr w' H1 locs hw ⟨hP3, hD3, hS, hK, hA⟩
set_option maxHeartbeats 2000000 in
theorem l_Xv {post : PX → Prop} (E : CallFix p m c cc nL s args lw_ws own) (hM : MetV l y b n d D (tX g) (wX a g) (.ref (a 0) :: As) u post) (hk : kCall own R_X index y b n none As.length) (hroom : d + 1 ≤ R.frames ∧ 8 + (n + 11) + 30 * d ≤ R.locals) (B : wB D (tX g ++ tM g2) s A H0 (wX a g u ++ wM a2 g2 v) H locs) (hsz : ls.size = nL) (hs : st = As.reverse ++ .ref (a 0) :: rest) (hcat : (rest.map fun v => v.category).sum ≤ 8) (hdg : decode cc pc = .ok (.invokevirtual index, 3)) (hf : cells + 0 ≤ R.cells ∧ slots + 0 ≤ R.slots) (kk : ∀ (w' : PX) (H : Heap) (locs : List Loc), post w' → wB D (tX g ++ tM g2) s A H0 (wX a g w' ++ wM a2 g2 v) H locs → W p l e R s m args below meth c H locs cells slots Q (F0 m (pc + 3) ls rest)) : W p l e R s m args below meth c H locs cells slots Q (F0 m pc ls st) := by
  obtain ⟨hP, hD, hS, hK, hA⟩ := B
  have hPc := hP.sub (ws' := wX a g u) [0, 1, 2, 3, 4, 5, 6, 7, 8, 9, 10] rfl
  have hDc := hD.sub (ws' := wX a g u) [0, 1, 2, 3, 4, 5, 6, 7, 8, 9, 10] (by decide) rfl
  have hKc := hK.sub (tys' := tX g) [0, 1, 2, 3, 4, 5, 6, 7, 8, 9] rfl
  have hFc := va_free (wc := wX a g u) hD hS hA [0, 1, 2, 3, 4, 5, 6, 7, 8, 9, 10] rfl
  refine va_callv (va_runV (As := As) (rest := rest) E (hM H.size) (hk.cw E.2.2.2.2 hroom) ⟨wPc_blind, va_recv hKc hPc (ci := 0) (q0 := 0) rfl rfl, fun U hU hW => ⟨rfl, by rw [hU], by rw [hU]; exact hPc, va_K.moved hW.alike hKc, hDc.weaken (fun _ _ _ _ => trivial)⟩⟩ rfl rfl hsz hs (lv_room hcat) hdg hf) hS (fun q _ h => hFc q h) hFc (fun w' t H1 locs ht hvm hw hB hz1 hk1 hS => ?_)
  obtain ⟨hP1, hK1, hD1⟩ := hB
  rw [ht] at hP1
  obtain ⟨hP2, hD2⟩ := va_join (wr := wM a2 g2 v) (w1 := wX a g w') hP hD [0, 1, 2, 3, 4, 5, 6, 7, 8, 9, 10] [11, 12, 13, 14, 15, 16, 17] rfl rfl (by decide) (by decide) hk1 hFc hP1 hD1
  have hP3 := hP2.sub (ws' := wX a g w' ++ wM a2 g2 v) [7, 8, 9, 10, 11, 12, 13, 14, 15, 16, 17, 0, 1, 2, 3, 4, 5, 6] rfl
  have hD3 := hD2.sub (ws' := wX a g w' ++ wM a2 g2 v) [7, 8, 9, 10, 11, 12, 13, 14, 15, 16, 17, 0, 1, 2, 3, 4, 5, 6] (by decide) rfl
  exact kk w' H1 locs hw ⟨hP3, hD3, hS, hK, hA⟩
set_option maxHeartbeats 2000000 in
theorem l_Mi {r : Option FieldType} {post : Int32 → PM → Prop} (E : CallFix p m c cc nL s args lw_ws own) (hM : MetI l y b n r d D (tM g2) (wM a2 g2) (.ref (a2 0) :: As) v post) (hk : kCall own R_M index y b n r As.length) (hroom : d + 1 ≤ R.frames ∧ 8 + (n + 11) + 30 * d ≤ R.locals) (B : wB D (tX g ++ tM g2) s A H0 (wX a g u ++ wM a2 g2 v) H locs) (hsz : ls.size = nL) (hs : st = As.reverse ++ .ref (a2 0) :: rest) (hcat : (rest.map fun v => v.category).sum ≤ 8) (hdg : decode cc pc = .ok (.invokevirtual index, 3)) (hf : cells + 0 ≤ R.cells ∧ slots + 0 ≤ R.slots) (kk : ∀ (rr : Int32) (w' : PM) (H : Heap) (locs : List Loc), post rr w' → wB D (tX g ++ tM g2) s A H0 (wX a g u ++ wM a2 g2 w') H locs → W p l e R s m args below meth c H locs cells slots Q (F0 m (pc + 3) ls (.int rr :: rest))) : W p l e R s m args below meth c H locs cells slots Q (F0 m pc ls st) := by
  obtain ⟨hP, hD, hS, hK, hA⟩ := B
  have hPc := hP.sub (ws' := wM a2 g2 v) [11, 12, 13, 14, 15, 16, 17] rfl
  have hDc := hD.sub (ws' := wM a2 g2 v) [11, 12, 13, 14, 15, 16, 17] (by decide) rfl
  have hKc := hK.sub (tys' := tM g2) [10, 11, 12, 13, 14, 15] rfl
  have hFc := va_free (wc := wM a2 g2 v) hD hS hA [11, 12, 13, 14, 15, 16, 17] rfl
  refine va_calli (va_runV (As := As) (rest := rest) E (hM H.size) (hk.cw E.2.2.2.2 hroom) ⟨wPc_blind, va_recv hKc hPc (ci := 1) (q0 := 0) rfl rfl, fun U hU hW => ⟨rfl, by rw [hU], by rw [hU]; exact hPc, va_K.moved hW.alike hKc, hDc.weaken (fun _ _ _ _ => trivial)⟩⟩ rfl rfl hsz hs (lv_room hcat) hdg hf) hS (fun q _ h => hFc q h) hFc (fun rr w' t H1 locs ht hvm hw hB hz1 hk1 hS => ?_)
  obtain ⟨hP1, hK1, hD1⟩ := hB
  rw [ht] at hP1
  obtain ⟨hP2, hD2⟩ := va_join (wr := wX a g u) (w1 := wM a2 g2 w') hP hD [11, 12, 13, 14, 15, 16, 17] [0, 1, 2, 3, 4, 5, 6, 7, 8, 9, 10] rfl rfl (by decide) (by decide) hk1 hFc hP1 hD1
  have hP3 := hP2
  have hD3 := hD2
  exact kk rr w' H1 locs hw ⟨hP3, hD3, hS, hK, hA⟩
set_option maxHeartbeats 2000000 in
theorem l_Mv {post : PM → Prop} (E : CallFix p m c cc nL s args lw_ws own) (hM : MetV l y b n d D (tM g2) (wM a2 g2) (.ref (a2 0) :: As) v post) (hk : kCall own R_M index y b n none As.length) (hroom : d + 1 ≤ R.frames ∧ 8 + (n + 11) + 30 * d ≤ R.locals) (B : wB D (tX g ++ tM g2) s A H0 (wX a g u ++ wM a2 g2 v) H locs) (hsz : ls.size = nL) (hs : st = As.reverse ++ .ref (a2 0) :: rest) (hcat : (rest.map fun v => v.category).sum ≤ 8) (hdg : decode cc pc = .ok (.invokevirtual index, 3)) (hf : cells + 0 ≤ R.cells ∧ slots + 0 ≤ R.slots) (kk : ∀ (w' : PM) (H : Heap) (locs : List Loc), post w' → wB D (tX g ++ tM g2) s A H0 (wX a g u ++ wM a2 g2 w') H locs → W p l e R s m args below meth c H locs cells slots Q (F0 m (pc + 3) ls rest)) : W p l e R s m args below meth c H locs cells slots Q (F0 m pc ls st) := by
  obtain ⟨hP, hD, hS, hK, hA⟩ := B
  have hPc := hP.sub (ws' := wM a2 g2 v) [11, 12, 13, 14, 15, 16, 17] rfl
  have hDc := hD.sub (ws' := wM a2 g2 v) [11, 12, 13, 14, 15, 16, 17] (by decide) rfl
  have hKc := hK.sub (tys' := tM g2) [10, 11, 12, 13, 14, 15] rfl
  have hFc := va_free (wc := wM a2 g2 v) hD hS hA [11, 12, 13, 14, 15, 16, 17] rfl
  refine va_callv (va_runV (As := As) (rest := rest) E (hM H.size) (hk.cw E.2.2.2.2 hroom) ⟨wPc_blind, va_recv hKc hPc (ci := 1) (q0 := 0) rfl rfl, fun U hU hW => ⟨rfl, by rw [hU], by rw [hU]; exact hPc, va_K.moved hW.alike hKc, hDc.weaken (fun _ _ _ _ => trivial)⟩⟩ rfl rfl hsz hs (lv_room hcat) hdg hf) hS (fun q _ h => hFc q h) hFc (fun w' t H1 locs ht hvm hw hB hz1 hk1 hS => ?_)
  obtain ⟨hP1, hK1, hD1⟩ := hB
  rw [ht] at hP1
  obtain ⟨hP2, hD2⟩ := va_join (wr := wX a g u) (w1 := wM a2 g2 w') hP hD [11, 12, 13, 14, 15, 16, 17] [0, 1, 2, 3, 4, 5, 6, 7, 8, 9, 10] rfl rfl (by decide) (by decide) hk1 hFc hP1 hD1
  have hP3 := hP2
  have hD3 := hD2
  exact kk w' H1 locs hw ⟨hP3, hD3, hS, hK, hA⟩
theorem l_sld {bb L i : Nat} {xs : Nat → Int32} (E : CallFix p m c cc nL s args lw_ws own) (hX : va_X bb L xs s H0) (hbl : bb < H0.size) (hbA : ¬ A bb) (hS : va_S A H0 H locs) (hi : i < L) (hL : L < 2 ^ 31) (hdg : decode cc pc = .ok (.iaload, 1)) (kk : W p l e R s m args below meth c H locs cells slots Q (F0 m (pc + 1) ls (.int (xs i) :: rest))) : W p l e R s m args below meth c H locs cells slots Q (F0 m pc ls (.int (nI i) :: .ref bb :: rest)) := by
  refine va_sld E.1 E.2.1 hX hbl hbA hS (vp_in_nI hi hL) hdg ?_
  rw [nI_clamp (Nat.lt_trans hi hL)]
  exact kk
end KL
end
section
/-! THE CLAIM OUT OF ONE WALK OF THE LAW'S BODY. Your part is whole_start (and what it stands on); all else here is the same for every law, but numbers. -/
def lw_P (b : Addr) (xs : List Int32) (args : Array Value) (s : State) : Prop := args = #[.ref b] ∧ s.IntsAt b xs ∧ xs.length ≤ 1536 ∧ (Jvm.Cond.and given_1 narrow_1).before args s = true
def lw_Q (_ : Array Value) (s : State) (o : Outcome) (t : State) : Prop := o = .returned (some (.int 1)) ∧ Framed s o t [] 18 392
def lw_Z (below : List Frame) (a : Array Value) (s : State) : State → Prop := fun t => ∃ o, t.status = .running ∧ Ended t below o ∧ lw_Q a s o t
/-- the law's own end, with 1 on the stack, nothing written that was there before, its room as the claim has it -/
theorem lw_ret {p : Program} {l : Launch} {e : Env} {s : State} {m : MethodId} {below : List Frame} {meth : Method} {c : Code} {b : Nat} (hx : p.tables.exec = Jvm.exec) (hb : c.code = code) (hr : meth.sig.returnType = ret) (hlocks : meth.locks = false) {pc : Nat} {H : Heap} {ls : Array Slot} (hdg : decode code pc = .ok (.ireturn, 1)) : W p l e room_1 s m #[Value.ref b] below meth c H [] 18 392 (lw_Z below #[Value.ref b] s) (F0 m pc ls [.int 1]) := by
  intro T hT X
  obtain ⟨fs, hret, hrun, hended, hW, hframe⟩ := X.leave (v := some (.int 1)) (hlocks := hlocks) (fun h => by rw [hr] at h; cases h)
  have hmeth' : T.vm.method? m = some meth := X.method'
  refine ⟨T.setFrames fs, ?_, .returned (some (.int 1)), hrun, hended, rfl, ⟨_, rfl⟩, hW, hframe⟩
  jvm_step X.here [X.here.top, hx, hb, hdg, hmeth', hr, ret, narrow_b1]
  (try refine ⟨rfl, ?_⟩); (try refine ⟨rfl, ?_⟩)
  first | (intro acts; rw [hret _ acts rfl rfl rfl]) | rw [hret _ _ rfl rfl rfl]
  exact Steps.refl _
/-- what holds at the law's entry: the machine, the code, the tables' words (any of lw_tbl by 'hts w (by decide +kernel)'), the script of L ints xs at the cell b, what the Statement gives of the start (any of its parts by flat_of_before) -/
def lw_At (p : Program) (s : State) (m : MethodId) (meth : Method) (c : Code) (b L : Nat) (xs : Nat → Int32) : Prop :=
  p.tables.exec = Jvm.exec ∧ c.code = code ∧ meth.sig.returnType = ret ∧ c.maxLocals = 4 ∧ s.vm.findClass R_law = some m.cls ∧ (∀ w ∈ lw_tbl, w.before #[Value.ref b] s = true) ∧ va_X b L xs s s.heap ∧ b < s.heap.size ∧ meth.locks = false ∧ (Jvm.Cond.and given_1 narrow_1).before #[Value.ref b] s = true
set_option maxHeartbeats 4000000 in
set_option maxRecDepth 100000 in
/-- the law's loop: the link holds at its head -/
theorem law_loop {p : Program} {e : Env} {s : State} {m : MethodId} {below : List Frame} {meth : Method} {c : Code} (l : Launch) {b L : Nat} {xs : Nat → Int32} (hL : L ≤ 1536) (C0 : lw_At p s m meth c b L xs) (D : va_G) (a a2 : Nat → Nat) (g g2 : Nat → ClassId) : ∀ (z i : Nat) (u : PX) (v : PM) (H : Heap) (locs : List Loc) (ls : Array Slot), L - i ≤ z → i ≤ L → Lk (xT u) u v → mT v ≤ 5000 * i → lv_has ls 4 [(3, .int (nI i)), (2, .ref (a2 0)), (1, .ref (a 0)), (0, .ref b)] → wB D (tX g ++ tM g2) s (fun q : Nat => s.heap.size ≤ q) s.heap (wX a g u ++ wM a2 g2 v) H locs → W p l e room_1 s m #[Value.ref b] below meth c H locs 18 392 (lw_Z below #[Value.ref b] s) (F0 m 18 ls []) := by
  obtain ⟨hx, hb, hr, hml, hown, hts, hX, hbl, hlocks, hgv⟩ := id C0
  have hbA : ¬ (fun q : Nat => s.heap.size ≤ q) b := Nat.not_le.mpr hbl
  have E : CallFix p m c code 4 s #[Value.ref b] lw_ws R_law := ⟨hx, hb, hml, hown, fun w h => hts w (gw_tbl h)⟩
  intro z
  induction z with
  | zero =>
    intro i u v H locs ls hz hiL hLk hTv hl B
    have h15 : ∀ q, q ≤ L → 5000 * q ≤ 7680000 := fun q hq => by omega
    have h15i := h15 i hiL
    refine lv_iload_n E.1 E.2.1 d_law_18 rfl (lv_at hl 0 rfl) ?_
    refine lv_aload_n E.1 E.2.1 d_law_19 rfl (lv_at hl 3 rfl) ?_
    refine va_slen E.1 E.2.1 hX hbl hbA B.2.2.1 d_law_20 ?_
    refine k_iconst E 3 d_law_21 rfl ?_
    refine lv_isub E.1 E.2.1 d_law_22 ?_
    refine lv_icmp_gt (tgt := 319) E.1 E.2.1 d_law_23 (by decide) (fun h1 => ?_) (fun h1 => ?_)
    · skip
      refine lv_iconst (v := 1) E.1 E.2.1 d_law_319 rfl ?_
      refine va_forget (fun q hq => B.2.2.1.2.2 q hq) ?_
      exact lw_ret hx hb hr hlocks d_law_320
    · skip
      have hi3 : i + 3 ≤ L := by
        rcases Nat.lt_or_ge L 3 with q | q
        · refine absurd (Int32.lt_of_lt_of_le (pk_sneg (a := L) (b := 3) (by omega) q) (nI_pos' (by omega))) h1
        · have h9 : ¬ nI L - nI 3 < nI i := h1
          rw [pk_sub q, nI_ltI (by omega) (by omega)] at h9
          omega
      exact absurd hi3 (by omega)
  | succ z ih =>
    intro i u v H locs ls hz hiL hLk hTv hl B
    have h15 : ∀ q, q ≤ L → 5000 * q ≤ 7680000 := fun q hq => by omega
    have h15i := h15 i hiL
    refine lv_iload_n E.1 E.2.1 d_law_18 rfl (lv_at hl 0 rfl) ?_
    refine lv_aload_n E.1 E.2.1 d_law_19 rfl (lv_at hl 3 rfl) ?_
    refine va_slen E.1 E.2.1 hX hbl hbA B.2.2.1 d_law_20 ?_
    refine k_iconst E 3 d_law_21 rfl ?_
    refine lv_isub E.1 E.2.1 d_law_22 ?_
    refine lv_icmp_gt (tgt := 319) E.1 E.2.1 d_law_23 (by decide) (fun h1 => ?_) (fun h1 => ?_)
    · skip
      refine lv_iconst (v := 1) E.1 E.2.1 d_law_319 rfl ?_
      refine va_forget (fun q hq => B.2.2.1.2.2 q hq) ?_
      exact lw_ret hx hb hr hlocks d_law_320
    · skip
      have hi3 : i + 3 ≤ L := by
        rcases Nat.lt_or_ge L 3 with q | q
        · refine absurd (Int32.lt_of_lt_of_le (pk_sneg (a := L) (b := 3) (by omega) q) (nI_pos' (by omega))) h1
        · have h9 : ¬ nI L - nI 3 < nI i := h1
          rw [pk_sub q, nI_ltI (by omega) (by omega)] at h9
          omega
      obtain ⟨eJ, hJ24, hMv, eT⟩ := hLk.J
      have j313 : ∀ (u : PX) (v : PM) (H : Heap) (locs : List Loc) (ls : Array Slot), Lk (xT u) u v → mT v ≤ 5000 * (i + 3) → lv_has ls 4 [(3, .int (nI i)), (2, .ref (a2 0)), (1, .ref (a 0)), (0, .ref b)] → wB D (tX g ++ tM g2) s (fun q : Nat => s.heap.size ≤ q) s.heap (wX a g u ++ wM a2 g2 v) H locs → W p l e room_1 s m #[Value.ref b] below meth c H locs 18 392 (lw_Z below #[Value.ref b] s) (F0 m 313 ls []) := by
        intro u v H locs ls hLk hTv hl B
        refine lv_iinc (v := nI (i + 3)) (lv' := [(3, .int (nI (i + 3))), (2, .ref (a2 0)), (1, .ref (a 0)), (0, .ref b)]) E.1 E.2.1 d_law_313 hl (k := 0) rfl (by rw [show Int32.ofInt 3 = nI 3 from rfl, nI_add]) (by decide) rfl (fun ls hl => ?_)
        refine lv_goto (tgt := 18) E.1 E.2.1 d_law_316 (by decide) ?_
        exact ih (i + 3) u v _ _ _ (by omega) (by omega) hLk hTv (lv_sub hl [0, 1, 2, 3] rfl) B
      refine lv_aload_n E.1 E.2.1 d_law_26 rfl (lv_at hl 3 rfl) ?_
      refine lv_iload_n E.1 E.2.1 d_law_27 rfl (lv_at hl 0 rfl) ?_
      refine l_sld E hX hbl hbA B.2.2.1 (by omega) (by omega) d_law_28 ?_
      refine k_bipush E 15 d_law_29 rfl ?_
      refine lv_iand E.1 E.2.1 d_law_31 ?_
      obtain ⟨j, hj, ej⟩ := pk_andE (xs i) (m := nI 15) 4 (by decide)
      rw [ej]
      rcases (show j = 0 ∨ j = 1 ∨ j = 2 ∨ j = 3 ∨ j = 4 ∨ j = 5 ∨ j = 6 ∨ j = 7 ∨ j = 8 ∨ j = 9 ∨ j = 10 ∨ 11 ≤ j by omega) with rfl | rfl | rfl | rfl | rfl | rfl | rfl | rfl | rfl | rfl | rfl | hj11
      · skip
        refine lv_tableIn (tgt := 92) (off := 60) E.1 E.2.1 d_law_32 (by decide) (by decide) (by rfl) (by decide) ?_
        refine lv_aload_n E.1 E.2.1 d_law_92 rfl (lv_at hl 2 rfl) ?_
        refine lv_aload_n E.1 E.2.1 d_law_93 rfl (lv_at hl 3 rfl) ?_
        refine lv_iload_n E.1 E.2.1 d_law_94 rfl (lv_at hl 0 rfl) ?_
        refine k_iconst E 1 d_law_95 rfl ?_
        refine k_iadd E d_law_96 ?_
        refine l_sld E hX hbl hbA B.2.2.1 (by omega) (by omega) d_law_97 ?_
        refine lv_aload_n E.1 E.2.1 d_law_98 rfl (lv_at hl 3 rfl) ?_
        refine lv_iload_n E.1 E.2.1 d_law_99 rfl (lv_at hl 0 rfl) ?_
        refine k_iconst E 2 d_law_100 rfl ?_
        refine k_iadd E d_law_101 ?_
        refine l_sld E hX hbl hbA B.2.2.1 (by omega) (by omega) d_law_102 ?_
        refine l_Xi (As := [.int (xs (i + 1)), .int (xs (i + 2))]) (rest := []) E (c_X_submit l D a g u (xs (i + 1)) (xs (i + 2)) v hLk (by omega)) kc_law_13 ⟨Nat.le_of_ble_eq_true rfl, Nat.le_of_ble_eq_true rfl⟩ B hl.1 rfl (Nat.le_of_ble_eq_true rfl) d_law_103 ⟨Nat.le_of_ble_eq_true rfl, Nat.le_of_ble_eq_true rfl⟩ (fun r1 u1 H locs hq1 B => ?_)
        obtain ⟨v1, hs1, L1⟩ := hq1
        refine lv_aload_n E.1 E.2.1 d_law_106 rfl (lv_at hl 1 rfl) ?_
        refine lv_aload_n E.1 E.2.1 d_law_107 rfl (lv_at hl 3 rfl) ?_
        refine lv_iload_n E.1 E.2.1 d_law_108 rfl (lv_at hl 0 rfl) ?_
        refine k_iconst E 1 d_law_109 rfl ?_
        refine k_iadd E d_law_110 ?_
        refine l_sld E hX hbl hbA B.2.2.1 (by omega) (by omega) d_law_111 ?_
        refine lv_aload_n E.1 E.2.1 d_law_112 rfl (lv_at hl 3 rfl) ?_
        refine lv_iload_n E.1 E.2.1 d_law_113 rfl (lv_at hl 0 rfl) ?_
        refine k_iconst E 2 d_law_114 rfl ?_
        refine k_iadd E d_law_115 ?_
        refine l_sld E hX hbl hbA B.2.2.1 (by omega) (by omega) d_law_116 ?_
        refine l_Mi (As := [.int (xs (i + 1)), .int (xs (i + 2))]) (rest := [.int r1]) E (c_M_submit l D a2 g2 v (xs (i + 1)) (xs (i + 2)) hMv) kc_law_17 ⟨Nat.le_of_ble_eq_true rfl, Nat.le_of_ble_eq_true rfl⟩ B hl.1 rfl (Nat.le_of_ble_eq_true rfl) d_law_117 ⟨Nat.le_of_ble_eq_true rfl, Nat.le_of_ble_eq_true rfl⟩ (fun r2 v2 H locs hq2 B => ?_)
        have hs2 : SubR v (xs (i + 1)) (xs (i + 2)) v2 r2 := hq2
        obtain ⟨e1, e2⟩ := hs1.one hs2
        subst e1
        have hT1 : mT v1 = mT v := by
          rcases hs1 with ⟨_, q⟩ | ⟨_, _, _, _, _, _, _, _, _, q⟩ <;> rw [q] <;> rfl
        refine lv_icmp_eq (tgt := 313) E.1 E.2.1 d_law_120 (by decide) (fun h2 => ?_) (fun h2 => ?_)
        · exact j313 u1 v1 _ _ _ L1 (by omega) hl B
        · exact absurd (e2) h2
      · skip
        refine lv_tableIn (tgt := 125) (off := 93) E.1 E.2.1 d_law_32 (by decide) (by decide) (by rfl) (by decide) ?_
        refine lv_aload_n E.1 E.2.1 d_law_125 rfl (lv_at hl 2 rfl) ?_
        refine lv_aload_n E.1 E.2.1 d_law_126 rfl (lv_at hl 3 rfl) ?_
        refine lv_iload_n E.1 E.2.1 d_law_127 rfl (lv_at hl 0 rfl) ?_
        refine k_iconst E 1 d_law_128 rfl ?_
        refine k_iadd E d_law_129 ?_
        refine l_sld E hX hbl hbA B.2.2.1 (by omega) (by omega) d_law_130 ?_
        refine l_Xi (As := [.int (xs (i + 1))]) (rest := []) E (c_X_cancel l D a g u (xs (i + 1)) v hLk) kc_law_18 ⟨Nat.le_of_ble_eq_true rfl, Nat.le_of_ble_eq_true rfl⟩ B hl.1 rfl (Nat.le_of_ble_eq_true rfl) d_law_131 ⟨Nat.le_of_ble_eq_true rfl, Nat.le_of_ble_eq_true rfl⟩ (fun r1 u1 H locs hq1 B => ?_)
        obtain ⟨v1, hs1, L1⟩ := hq1
        refine lv_aload_n E.1 E.2.1 d_law_134 rfl (lv_at hl 1 rfl) ?_
        refine lv_aload_n E.1 E.2.1 d_law_135 rfl (lv_at hl 3 rfl) ?_
        refine lv_iload_n E.1 E.2.1 d_law_136 rfl (lv_at hl 0 rfl) ?_
        refine k_iconst E 1 d_law_137 rfl ?_
        refine k_iadd E d_law_138 ?_
        refine l_sld E hX hbl hbA B.2.2.1 (by omega) (by omega) d_law_139 ?_
        refine l_Mi (As := [.int (xs (i + 1))]) (rest := [.int r1]) E (c_M_cancel l D a2 g2 v (xs (i + 1)) hMv) kc_law_22 ⟨Nat.le_of_ble_eq_true rfl, Nat.le_of_ble_eq_true rfl⟩ B hl.1 rfl (Nat.le_of_ble_eq_true rfl) d_law_140 ⟨Nat.le_of_ble_eq_true rfl, Nat.le_of_ble_eq_true rfl⟩ (fun r2 v2 H locs hq2 B => ?_)
        have hs2 : CanR v (xs (i + 1)) v2 r2 := hq2
        obtain ⟨e1, e2⟩ := hs1.one hMv.1 hs2
        subst e1
        have hT1 : mT v1 = mT v := by
          rcases hs1 with ⟨_, _, q⟩ | ⟨_, _, _, ⟨_, _, q⟩ | ⟨_, _, q⟩⟩ <;> rw [q] <;> rfl
        refine lv_icmp_eq (tgt := 313) E.1 E.2.1 d_law_143 (by decide) (fun h2 => ?_) (fun h2 => ?_)
        · exact j313 u1 v1 _ _ _ L1 (by omega) hl B
        · exact absurd (e2) h2
      · skip
        refine lv_tableIn (tgt := 148) (off := 116) E.1 E.2.1 d_law_32 (by decide) (by decide) (by rfl) (by decide) ?_
        refine lv_aload_n E.1 E.2.1 d_law_148 rfl (lv_at hl 2 rfl) ?_
        refine lv_aload_n E.1 E.2.1 d_law_149 rfl (lv_at hl 3 rfl) ?_
        refine lv_iload_n E.1 E.2.1 d_law_150 rfl (lv_at hl 0 rfl) ?_
        refine k_iconst E 1 d_law_151 rfl ?_
        refine k_iadd E d_law_152 ?_
        refine l_sld E hX hbl hbA B.2.2.1 (by omega) (by omega) d_law_153 ?_
        refine l_Xi (As := [.int (xs (i + 1))]) (rest := []) E (c_X_run l D a g u (xs (i + 1)) v hLk (by omega)) kc_law_23 ⟨Nat.le_of_ble_eq_true rfl, Nat.le_of_ble_eq_true rfl⟩ B hl.1 rfl (Nat.le_of_ble_eq_true rfl) d_law_154 ⟨Nat.le_of_ble_eq_true rfl, Nat.le_of_ble_eq_true rfl⟩ (fun r1 u1 H locs hq1 B => ?_)
        obtain ⟨L1, hr1⟩ := hq1
        refine lv_aload_n E.1 E.2.1 d_law_157 rfl (lv_at hl 1 rfl) ?_
        refine lv_aload_n E.1 E.2.1 d_law_158 rfl (lv_at hl 3 rfl) ?_
        refine lv_iload_n E.1 E.2.1 d_law_159 rfl (lv_at hl 0 rfl) ?_
        refine k_iconst E 1 d_law_160 rfl ?_
        refine k_iadd E d_law_161 ?_
        refine l_sld E hX hbl hbA B.2.2.1 (by omega) (by omega) d_law_162 ?_
        refine l_Mi (As := [.int (xs (i + 1))]) (rest := [.int r1]) E (c_M_run l D a2 g2 v (xs (i + 1)) hMv (by omega)) kc_law_26 ⟨Nat.le_of_ble_eq_true rfl, Nat.le_of_ble_eq_true rfl⟩ B hl.1 rfl (Nat.le_of_ble_eq_true rfl) d_law_163 ⟨Nat.le_of_ble_eq_true rfl, Nat.le_of_ble_eq_true rfl⟩ (fun r2 v2 H locs hq2 B => ?_)
        obtain ⟨e1, hr2⟩ := hq2
        have hT1 := runF_T (clampN (xs (i + 1))) v
        have hc5 := clampN_le (xs (i + 1))
        rw [← e1] at L1 hT1
        refine lv_icmp_eq (tgt := 313) E.1 E.2.1 d_law_166 (by decide) (fun h2 => ?_) (fun h2 => ?_)
        · exact j313 u1 v2 _ _ _ L1 (by omega) hl B
        · exact absurd (hr1.trans hr2.symm) h2
      · skip
        refine lv_tableIn (tgt := 171) (off := 139) E.1 E.2.1 d_law_32 (by decide) (by decide) (by rfl) (by decide) ?_
        refine lv_aload_n E.1 E.2.1 d_law_171 rfl (lv_at hl 2 rfl) ?_
        refine l_Xv (As := []) (rest := []) E (c_X_clear l D a g u) kc_law_27 ⟨Nat.le_of_ble_eq_true rfl, Nat.le_of_ble_eq_true rfl⟩ B hl.1 rfl (Nat.le_of_ble_eq_true rfl) d_law_172 ⟨Nat.le_of_ble_eq_true rfl, Nat.le_of_ble_eq_true rfl⟩ (fun u1 H locs hq1 B => ?_)
        have e1 : u1 = _ := hq1
        subst e1
        refine lv_aload_n E.1 E.2.1 d_law_175 rfl (lv_at hl 1 rfl) ?_
        refine l_Mv (As := []) (rest := []) E (c_M_clear l D a2 g2 v) kc_law_30 ⟨Nat.le_of_ble_eq_true rfl, Nat.le_of_ble_eq_true rfl⟩ B hl.1 rfl (Nat.le_of_ble_eq_true rfl) d_law_176 ⟨Nat.le_of_ble_eq_true rfl, Nat.le_of_ble_eq_true rfl⟩ (fun v2 H locs hq2 B => ?_)
        have e2 : v2 = _ := hq2
        subst e2
        refine lv_goto (tgt := 313) E.1 E.2.1 d_law_179 (by decide) ?_
        exact j313 _ _ _ _ _ hLk.clear (by show mT v ≤ _; omega) hl B
      · skip
        refine lv_tableIn (tgt := 182) (off := 150) E.1 E.2.1 d_law_32 (by decide) (by decide) (by rfl) (by decide) ?_
        refine lv_aload_n E.1 E.2.1 d_law_182 rfl (lv_at hl 2 rfl) ?_
        refine l_Xi (As := []) (rest := []) E (c_X_now l D a g u) kc_law_31 ⟨Nat.le_of_ble_eq_true rfl, Nat.le_of_ble_eq_true rfl⟩ B hl.1 rfl (Nat.le_of_ble_eq_true rfl) d_law_183 ⟨Nat.le_of_ble_eq_true rfl, Nat.le_of_ble_eq_true rfl⟩ (fun r1 u1 H locs hq1 B => ?_)
        obtain ⟨hu1, hr1⟩ := hq1
        rw [hu1] at B
        refine lv_aload_n E.1 E.2.1 d_law_186 rfl (lv_at hl 1 rfl) ?_
        refine l_Mi (As := []) (rest := [.int r1]) E (c_M_now l D a2 g2 v) kc_law_35 ⟨Nat.le_of_ble_eq_true rfl, Nat.le_of_ble_eq_true rfl⟩ B hl.1 rfl (Nat.le_of_ble_eq_true rfl) d_law_187 ⟨Nat.le_of_ble_eq_true rfl, Nat.le_of_ble_eq_true rfl⟩ (fun r2 v2 H locs hq2 B => ?_)
        obtain ⟨hv2, hr2⟩ := hq2
        rw [hv2] at B
        refine lv_icmp_eq (tgt := 313) E.1 E.2.1 d_law_190 (by decide) (fun h2 => ?_) (fun h2 => ?_)
        · exact j313 u v _ _ _ hLk (by omega) hl B
        · exact absurd (by rw [hr1, hr2, eT]) h2
      · skip
        refine lv_tableIn (tgt := 195) (off := 163) E.1 E.2.1 d_law_32 (by decide) (by decide) (by rfl) (by decide) ?_
        refine lv_aload_n E.1 E.2.1 d_law_195 rfl (lv_at hl 2 rfl) ?_
        refine lv_aload_n E.1 E.2.1 d_law_196 rfl (lv_at hl 3 rfl) ?_
        refine lv_iload_n E.1 E.2.1 d_law_197 rfl (lv_at hl 0 rfl) ?_
        refine k_iconst E 1 d_law_198 rfl ?_
        refine k_iadd E d_law_199 ?_
        refine l_sld E hX hbl hbA B.2.2.1 (by omega) (by omega) d_law_200 ?_
        refine l_Xi (As := [.int (xs (i + 1))]) (rest := []) E (c_X_state l D a g u (xs (i + 1)) hJ24) kc_law_36 ⟨Nat.le_of_ble_eq_true rfl, Nat.le_of_ble_eq_true rfl⟩ B hl.1 rfl (Nat.le_of_ble_eq_true rfl) d_law_201 ⟨Nat.le_of_ble_eq_true rfl, Nat.le_of_ble_eq_true rfl⟩ (fun r1 u1 H locs hq1 B => ?_)
        obtain ⟨hu1, hr1⟩ := hq1
        rw [hu1] at B
        refine lv_aload_n E.1 E.2.1 d_law_204 rfl (lv_at hl 1 rfl) ?_
        refine lv_aload_n E.1 E.2.1 d_law_205 rfl (lv_at hl 3 rfl) ?_
        refine lv_iload_n E.1 E.2.1 d_law_206 rfl (lv_at hl 0 rfl) ?_
        refine k_iconst E 1 d_law_207 rfl ?_
        refine k_iadd E d_law_208 ?_
        refine l_sld E hX hbl hbA B.2.2.1 (by omega) (by omega) d_law_209 ?_
        refine l_Mi (As := [.int (xs (i + 1))]) (rest := [.int r1]) E (c_M_state l D a2 g2 v (xs (i + 1)) hMv) kc_law_39 ⟨Nat.le_of_ble_eq_true rfl, Nat.le_of_ble_eq_true rfl⟩ B hl.1 rfl (Nat.le_of_ble_eq_true rfl) d_law_210 ⟨Nat.le_of_ble_eq_true rfl, Nat.le_of_ble_eq_true rfl⟩ (fun r2 v2 H locs hq2 B => ?_)
        obtain ⟨hv2, hr2⟩ := hq2
        rw [hv2] at B
        refine lv_icmp_eq (tgt := 313) E.1 E.2.1 d_law_213 (by decide) (fun h2 => ?_) (fun h2 => ?_)
        · exact j313 u v _ _ _ hLk (by omega) hl B
        · exact absurd (hr1.trans ((hLk.state _).trans hr2.symm)) h2
      · skip
        refine lv_tableIn (tgt := 218) (off := 186) E.1 E.2.1 d_law_32 (by decide) (by decide) (by rfl) (by decide) ?_
        refine lv_aload_n E.1 E.2.1 d_law_218 rfl (lv_at hl 2 rfl) ?_
        refine lv_aload_n E.1 E.2.1 d_law_219 rfl (lv_at hl 3 rfl) ?_
        refine lv_iload_n E.1 E.2.1 d_law_220 rfl (lv_at hl 0 rfl) ?_
        refine k_iconst E 1 d_law_221 rfl ?_
        refine k_iadd E d_law_222 ?_
        refine l_sld E hX hbl hbA B.2.2.1 (by omega) (by omega) d_law_223 ?_
        refine l_Xi (As := [.int (xs (i + 1))]) (rest := []) E (c_X_had l D a g u (xs (i + 1)) hJ24 hLk.hadPre.1 hLk.hadPre.2.1 hLk.hadPre.2.2) kc_law_40 ⟨Nat.le_of_ble_eq_true rfl, Nat.le_of_ble_eq_true rfl⟩ B hl.1 rfl (Nat.le_of_ble_eq_true rfl) d_law_224 ⟨Nat.le_of_ble_eq_true rfl, Nat.le_of_ble_eq_true rfl⟩ (fun r1 u1 H locs hq1 B => ?_)
        obtain ⟨hu1, hr1⟩ := hq1
        rw [hu1] at B
        refine lv_aload_n E.1 E.2.1 d_law_227 rfl (lv_at hl 1 rfl) ?_
        refine lv_aload_n E.1 E.2.1 d_law_228 rfl (lv_at hl 3 rfl) ?_
        refine lv_iload_n E.1 E.2.1 d_law_229 rfl (lv_at hl 0 rfl) ?_
        refine k_iconst E 1 d_law_230 rfl ?_
        refine k_iadd E d_law_231 ?_
        refine l_sld E hX hbl hbA B.2.2.1 (by omega) (by omega) d_law_232 ?_
        refine l_Mi (As := [.int (xs (i + 1))]) (rest := [.int r1]) E (c_M_had l D a2 g2 v (xs (i + 1)) hMv) kc_law_43 ⟨Nat.le_of_ble_eq_true rfl, Nat.le_of_ble_eq_true rfl⟩ B hl.1 rfl (Nat.le_of_ble_eq_true rfl) d_law_233 ⟨Nat.le_of_ble_eq_true rfl, Nat.le_of_ble_eq_true rfl⟩ (fun r2 v2 H locs hq2 B => ?_)
        obtain ⟨hv2, hr2⟩ := hq2
        rw [hv2] at B
        refine lv_icmp_eq (tgt := 313) E.1 E.2.1 d_law_236 (by decide) (fun h2 => ?_) (fun h2 => ?_)
        · exact j313 u v _ _ _ hLk (by omega) hl B
        · exact absurd (hr1.trans ((hLk.had _).trans hr2.symm)) h2
      · skip
        refine lv_tableIn (tgt := 241) (off := 209) E.1 E.2.1 d_law_32 (by decide) (by decide) (by rfl) (by decide) ?_
        refine lv_aload_n E.1 E.2.1 d_law_241 rfl (lv_at hl 2 rfl) ?_
        refine lv_aload_n E.1 E.2.1 d_law_242 rfl (lv_at hl 3 rfl) ?_
        refine lv_iload_n E.1 E.2.1 d_law_243 rfl (lv_at hl 0 rfl) ?_
        refine k_iconst E 1 d_law_244 rfl ?_
        refine k_iadd E d_law_245 ?_
        refine l_sld E hX hbl hbA B.2.2.1 (by omega) (by omega) d_law_246 ?_
        refine l_Xi (As := [.int (xs (i + 1))]) (rest := []) E (c_X_admitted l D a g u (xs (i + 1)) hJ24) kc_law_44 ⟨Nat.le_of_ble_eq_true rfl, Nat.le_of_ble_eq_true rfl⟩ B hl.1 rfl (Nat.le_of_ble_eq_true rfl) d_law_247 ⟨Nat.le_of_ble_eq_true rfl, Nat.le_of_ble_eq_true rfl⟩ (fun r1 u1 H locs hq1 B => ?_)
        obtain ⟨hu1, hr1⟩ := hq1
        rw [hu1] at B
        refine lv_aload_n E.1 E.2.1 d_law_250 rfl (lv_at hl 1 rfl) ?_
        refine lv_aload_n E.1 E.2.1 d_law_251 rfl (lv_at hl 3 rfl) ?_
        refine lv_iload_n E.1 E.2.1 d_law_252 rfl (lv_at hl 0 rfl) ?_
        refine k_iconst E 1 d_law_253 rfl ?_
        refine k_iadd E d_law_254 ?_
        refine l_sld E hX hbl hbA B.2.2.1 (by omega) (by omega) d_law_255 ?_
        refine l_Mi (As := [.int (xs (i + 1))]) (rest := [.int r1]) E (c_M_admitted l D a2 g2 v (xs (i + 1)) hMv) kc_law_47 ⟨Nat.le_of_ble_eq_true rfl, Nat.le_of_ble_eq_true rfl⟩ B hl.1 rfl (Nat.le_of_ble_eq_true rfl) d_law_256 ⟨Nat.le_of_ble_eq_true rfl, Nat.le_of_ble_eq_true rfl⟩ (fun r2 v2 H locs hq2 B => ?_)
        obtain ⟨hv2, hr2⟩ := hq2
        rw [hv2] at B
        refine lv_icmp_eq (tgt := 313) E.1 E.2.1 d_law_259 (by decide) (fun h2 => ?_) (fun h2 => ?_)
        · exact j313 u v _ _ _ hLk (by omega) hl B
        · exact absurd (hr1.trans ((hLk.admitted _).trans hr2.symm)) h2
      · skip
        refine lv_tableIn (tgt := 264) (off := 232) E.1 E.2.1 d_law_32 (by decide) (by decide) (by rfl) (by decide) ?_
        refine lv_aload_n E.1 E.2.1 d_law_264 rfl (lv_at hl 2 rfl) ?_
        refine lv_aload_n E.1 E.2.1 d_law_265 rfl (lv_at hl 3 rfl) ?_
        refine lv_iload_n E.1 E.2.1 d_law_266 rfl (lv_at hl 0 rfl) ?_
        refine k_iconst E 1 d_law_267 rfl ?_
        refine k_iadd E d_law_268 ?_
        refine l_sld E hX hbl hbA B.2.2.1 (by omega) (by omega) d_law_269 ?_
        refine l_Xi (As := [.int (xs (i + 1))]) (rest := []) E (c_X_finished l D a g u (xs (i + 1)) hJ24) kc_law_48 ⟨Nat.le_of_ble_eq_true rfl, Nat.le_of_ble_eq_true rfl⟩ B hl.1 rfl (Nat.le_of_ble_eq_true rfl) d_law_270 ⟨Nat.le_of_ble_eq_true rfl, Nat.le_of_ble_eq_true rfl⟩ (fun r1 u1 H locs hq1 B => ?_)
        obtain ⟨hu1, hr1⟩ := hq1
        rw [hu1] at B
        refine lv_aload_n E.1 E.2.1 d_law_273 rfl (lv_at hl 1 rfl) ?_
        refine lv_aload_n E.1 E.2.1 d_law_274 rfl (lv_at hl 3 rfl) ?_
        refine lv_iload_n E.1 E.2.1 d_law_275 rfl (lv_at hl 0 rfl) ?_
        refine k_iconst E 1 d_law_276 rfl ?_
        refine k_iadd E d_law_277 ?_
        refine l_sld E hX hbl hbA B.2.2.1 (by omega) (by omega) d_law_278 ?_
        refine l_Mi (As := [.int (xs (i + 1))]) (rest := [.int r1]) E (c_M_finished l D a2 g2 v (xs (i + 1)) hMv) kc_law_51 ⟨Nat.le_of_ble_eq_true rfl, Nat.le_of_ble_eq_true rfl⟩ B hl.1 rfl (Nat.le_of_ble_eq_true rfl) d_law_279 ⟨Nat.le_of_ble_eq_true rfl, Nat.le_of_ble_eq_true rfl⟩ (fun r2 v2 H locs hq2 B => ?_)
        obtain ⟨hv2, hr2⟩ := hq2
        rw [hv2] at B
        refine lv_icmp_eq (tgt := 313) E.1 E.2.1 d_law_282 (by decide) (fun h2 => ?_) (fun h2 => ?_)
        · exact j313 u v _ _ _ hLk (by omega) hl B
        · exact absurd (hr1.trans ((hLk.finished _).trans hr2.symm)) h2
      · skip
        refine lv_tableIn (tgt := 287) (off := 255) E.1 E.2.1 d_law_32 (by decide) (by decide) (by rfl) (by decide) ?_
        refine lv_aload_n E.1 E.2.1 d_law_287 rfl (lv_at hl 2 rfl) ?_
        refine l_Xi (As := []) (rest := []) E (c_X_served l D a g u) kc_law_52 ⟨Nat.le_of_ble_eq_true rfl, Nat.le_of_ble_eq_true rfl⟩ B hl.1 rfl (Nat.le_of_ble_eq_true rfl) d_law_288 ⟨Nat.le_of_ble_eq_true rfl, Nat.le_of_ble_eq_true rfl⟩ (fun r1 u1 H locs hq1 B => ?_)
        obtain ⟨hu1, hr1⟩ := hq1
        rw [hu1] at B
        refine lv_aload_n E.1 E.2.1 d_law_291 rfl (lv_at hl 1 rfl) ?_
        refine l_Mi (As := []) (rest := [.int r1]) E (c_M_served l D a2 g2 v hMv) kc_law_55 ⟨Nat.le_of_ble_eq_true rfl, Nat.le_of_ble_eq_true rfl⟩ B hl.1 rfl (Nat.le_of_ble_eq_true rfl) d_law_292 ⟨Nat.le_of_ble_eq_true rfl, Nat.le_of_ble_eq_true rfl⟩ (fun r2 v2 H locs hq2 B => ?_)
        obtain ⟨hv2, hr2⟩ := hq2
        rw [hv2] at B
        refine lv_icmp_eq (tgt := 313) E.1 E.2.1 d_law_295 (by decide) (fun h2 => ?_) (fun h2 => ?_)
        · exact j313 u v _ _ _ hLk (by omega) hl B
        · exact absurd (by rw [hr1, hr2, hLk.served]) h2
      · skip
        refine lv_tableIn (tgt := 300) (off := 268) E.1 E.2.1 d_law_32 (by decide) (by decide) (by rfl) (by decide) ?_
        refine lv_aload_n E.1 E.2.1 d_law_300 rfl (lv_at hl 2 rfl) ?_
        refine l_Xi (As := []) (rest := []) E (c_X_waiting l D a g u) kc_law_56 ⟨Nat.le_of_ble_eq_true rfl, Nat.le_of_ble_eq_true rfl⟩ B hl.1 rfl (Nat.le_of_ble_eq_true rfl) d_law_301 ⟨Nat.le_of_ble_eq_true rfl, Nat.le_of_ble_eq_true rfl⟩ (fun r1 u1 H locs hq1 B => ?_)
        obtain ⟨hu1, hr1⟩ := hq1
        rw [hu1] at B
        refine lv_aload_n E.1 E.2.1 d_law_304 rfl (lv_at hl 1 rfl) ?_
        refine l_Mi (As := []) (rest := [.int r1]) E (c_M_waiting l D a2 g2 v hMv) kc_law_59 ⟨Nat.le_of_ble_eq_true rfl, Nat.le_of_ble_eq_true rfl⟩ B hl.1 rfl (Nat.le_of_ble_eq_true rfl) d_law_305 ⟨Nat.le_of_ble_eq_true rfl, Nat.le_of_ble_eq_true rfl⟩ (fun r2 v2 H locs hq2 B => ?_)
        obtain ⟨hv2, hr2⟩ := hq2
        rw [hv2] at B
        refine lv_icmp_eq (tgt := 313) E.1 E.2.1 d_law_308 (by decide) (fun h2 => ?_) (fun h2 => ?_)
        · exact j313 u v _ _ _ hLk (by omega) hl B
        · exact absurd (by rw [hr1, hr2, hLk.waiting]) h2
      · skip
        refine lv_tableOut (tgt := 313) E.1 E.2.1 d_law_32 (Or.inr (by rw [nI_toInt (by omega)]; omega)) (by decide) ?_
        exact j313 u v _ _ _ hLk (by omega) hl B
set_option maxHeartbeats 4000000 in
set_option maxRecDepth 100000 in
/-- THE LAW, from its entry -/
theorem whole_start {p : Program} {e : Env} {s : State} {m : MethodId} {below : List Frame} {meth : Method} {c : Code} (l : Launch) {b L : Nat} {xs : Nat → Int32} (hL : L ≤ 1536) (C0 : lw_At p s m meth c b L xs) : W p l e room_1 s m #[Value.ref b] below meth c s.heap [] 0 0 (lw_Z below #[Value.ref b] s) (entryFrame m ([Value.ref b] : List Value).toArray 4) := by
  obtain ⟨hx, hb, hr, hml, hown, hts1, hX, hbl, hlocks, hgv⟩ := id C0
  have hts : ∀ w ∈ lw_ws, w.before #[Value.ref b] s = true := fun w h => hts1 w (gw_tbl h)
  have hA : ∀ q : Nat, s.heap.size ≤ q → (fun q : Nat => s.heap.size ≤ q) q := fun _ h => h
  obtain ⟨c0, iS0, hKn0⟩ := u_known (C := R_X) (T := F_X) (N := 16) (n := 16) hts i_X (hts _ wn_X)
  obtain ⟨c1, iS1, hKn1⟩ := u_known (C := R_M) (T := F_M) (N := 8) (n := 8) hts i_M (hts _ wn_M)
  obtain ⟨D, hKc⟩ : ∃ D : va_G, ∀ (k : Nat) (q : vw_C), classes[k]? = some q → u_Kn s q.1 q.2.1 q.2.2 (D.1 k) (D.2 k) := by
    refine ⟨(fun k => if k = 0 then c0 else c1, fun k => if k = 0 then iS0 else iS1), ?_⟩
    intro k q hq
    match k, hq with
    | 0, hq => cases hq; exact hKn0
    | 1, hq => cases hq; exact hKn1
    | k + 2, hq => simp [classes] at hq
  have hS : va_S (fun q : Nat => s.heap.size ≤ q) s.heap s.heap [] := va_S.rf
  have hK : va_K D classes [] s := ⟨hKc, fun k q h => by simp at h⟩
  have hP : va_P D classes [] s.heap := fun k q h => by simp at h
  have hD : va_D (fun q : Nat => s.heap.size ≤ q) [] := ⟨fun i j p q h => by simp at h, fun k q h => by simp at h⟩
  have hl := lv_entry ([.ref b]) (n := 4) (Nat.le_of_ble_eq_true rfl)
  rw [lg_entry_eq]
  generalize (lg_sl ([.ref b]) ++ List.replicate (4 - (lg_sl ([.ref b])).length) Slot.unset).toArray = ls at hl ⊢
  have hl : lv_has ls 4 [(0, .ref b)] := hl
  refine va_new (ci := 0) (fs := iX_) (C := R_X) (T := F_X) (N := 16) hx hb hts i_X t_X t_X_ok hown (hts _ wc_X) (hts _ wn_X) (hts _ wi_X) hK hP hD hS hA rfl (fun j hj => by rcases (show j = 0 ∨ j = 1 ∨ j = 2 ∨ j = 3 ∨ j = 4 ∨ j = 5 ∨ j = 6 ∨ j = 7 ∨ j = 8 ∨ j = 9 ∨ j = 10 ∨ j = 11 ∨ j = 12 ∨ j = 13 ∨ j = 14 ∨ j = 15 by omega) with rfl | rfl | rfl | rfl | rfl | rfl | rfl | rfl | rfl | rfl | rfl | rfl | rfl | rfl | rfl | rfl <;> rfl) (Nat.le_of_ble_eq_true rfl) (Nat.le_of_ble_eq_true rfl) d_law_0 (fun qx H hP hD hS => ?_)
  have hP : va_P D classes [(qx, .inr (0, iX_))] H := hP
  have hD : va_D (fun q : Nat => s.heap.size ≤ q) [(qx, .inr (0, iX_))] := hD
  refine W.widen (k := 1) (n := 16) (by omega) (by omega) ?_
  refine lv_dup hx hb d_law_3 rfl ?_
  have hFc := va_free (wc := [(qx, .inr (0, iX_))]) hD hS hA [0] rfl
  refine va_callv (va_runI (As := []) (rest := [.ref qx]) ⟨hx, hb, hml, hown, hts⟩ (c_X_init l D qx H.size) (cwI 0 hts (gin_ws wk_X_init) rfl rfl rfl (hts _ wi_X) (hts _ wl_law_9) (hts _ wm_X_init) rfl (by decide +kernel) ⟨Nat.le_of_ble_eq_true rfl, Nat.le_of_ble_eq_true rfl⟩) ⟨fun a U g mk q => by obtain ⟨q0, q1, qP, qK, qD⟩ := q; exact ⟨q0, q1, qP, va_K.moved (u := U) (U := U.calling g mk a) (Vm.Alike.refl U.vm) qK, qD⟩, fun U hU hW => ⟨rfl, by rw [hU], by rw [hU]; exact hP, va_K.moved hW.alike hK, hD.weaken (fun _ _ _ _ => trivial)⟩⟩ rfl rfl hl.1 rfl (lv_room (Nat.le_of_ble_eq_true rfl)) d_law_4 ⟨Nat.le_of_ble_eq_true rfl, Nat.le_of_ble_eq_true rfl⟩) hS (fun q _ h => hFc q h) hFc (fun uu t H1 locs ht hvm hw hB hz1 hk1 hS => ?_)
  obtain ⟨a, g⟩ := uu
  have hw : a 0 = qx := hw
  obtain ⟨hP1, hK1, hD1⟩ := hB
  rw [ht] at hP1
  have hK1 : va_K D classes (tX g) s := va_K.moved hvm.symm hK1
  obtain ⟨hP2, hD2⟩ := va_join (wr := []) (w1 := wX a g X0) hP hD [0] [] rfl rfl (by decide) (by decide) hk1 hFc hP1 hD1
  subst hw
  have hP : va_P D classes (wX a g X0) H1 := hP2
  have hD : va_D (fun q : Nat => s.heap.size ≤ q) (wX a g X0) := hD2
  have hK : va_K D classes (tX g) s := hK1
  refine W.widen (k := 11) (n := 240) (by omega) (by omega) ?_
  refine lv_astore_n (lv' := [(1, .ref (a 0)), (0, .ref b)]) hx hb d_law_7 rfl hl (by decide) rfl (fun ls hl => ?_)
  refine va_new (ci := 1) (fs := iM_) (C := R_M) (T := F_M) (N := 8) hx hb hts i_M t_M t_M_ok hown (hts _ wc_M) (hts _ wn_M) (hts _ wi_M) hK hP hD hS hA rfl (fun j hj => by rcases (show j = 0 ∨ j = 1 ∨ j = 2 ∨ j = 3 ∨ j = 4 ∨ j = 5 ∨ j = 6 ∨ j = 7 by omega) with rfl | rfl | rfl | rfl | rfl | rfl | rfl | rfl <;> rfl) (Nat.le_of_ble_eq_true rfl) (Nat.le_of_ble_eq_true rfl) d_law_8 (fun qm H hP hD hS => ?_)
  refine W.widen (k := 12) (n := 248) (by omega) (by omega) ?_
  refine lv_dup hx hb d_law_11 rfl ?_
  have hPc := hP.sub (ws' := [(qm, .inr (1, iM_))]) [11] rfl
  have hDc := hD.sub (ws' := [(qm, .inr (1, iM_))]) [11] (by decide) rfl
  have hKc := hK.sub (tys' := []) [] rfl
  have hFc := va_free (wc := [(qm, .inr (1, iM_))]) hD hS hA [11] rfl
  refine va_callv (va_runI (As := []) (rest := [.ref qm]) ⟨hx, hb, hml, hown, hts⟩ (c_M_init l D qm H.size) (cwI 0 hts (gin_ws wk_M_init) rfl rfl rfl (hts _ wi_M) (hts _ wl_law_12) (hts _ wm_M_init) rfl (by decide +kernel) ⟨Nat.le_of_ble_eq_true rfl, Nat.le_of_ble_eq_true rfl⟩) ⟨fun a U g mk q => by obtain ⟨q0, q1, qP, qK, qD⟩ := q; exact ⟨q0, q1, qP, va_K.moved (u := U) (U := U.calling g mk a) (Vm.Alike.refl U.vm) qK, qD⟩, fun U hU hW => ⟨rfl, by rw [hU], by rw [hU]; exact hPc, va_K.moved hW.alike hKc, hDc.weaken (fun _ _ _ _ => trivial)⟩⟩ rfl rfl hl.1 rfl (lv_room (Nat.le_of_ble_eq_true rfl)) d_law_12 ⟨Nat.le_of_ble_eq_true rfl, Nat.le_of_ble_eq_true rfl⟩) hS (fun q _ h => hFc q h) hFc (fun uu t H1 locs ht hvm hw hB hz1 hk1 hS => ?_)
  obtain ⟨a2, g2⟩ := uu
  have hw : a2 0 = qm := hw
  obtain ⟨hP1, hK1, hD1⟩ := hB
  rw [ht] at hP1
  have hK1 : va_K D classes (tM g2) s := va_K.moved hvm.symm hK1
  obtain ⟨hP2, hD2⟩ := va_join (wr := wX a g X0) (w1 := wM a2 g2 M0) hP hD [11] [0, 1, 2, 3, 4, 5, 6, 7, 8, 9, 10] rfl rfl (by decide) (by decide) hk1 hFc hP1 hD1
  subst hw
  have hK := hK.app hK1
  refine W.widen (k := 18) (n := 392) (by omega) (by omega) ?_
  refine lv_astore_n (lv' := [(2, .ref (a2 0)), (1, .ref (a 0)), (0, .ref b)]) hx hb d_law_15 rfl hl (by decide) rfl (fun ls hl => ?_)
  refine lv_iconst (v := nI 0) hx hb d_law_16 rfl ?_
  refine lv_istore_n (lv' := [(3, .int (nI 0)), (2, .ref (a2 0)), (1, .ref (a 0)), (0, .ref b)]) hx hb d_law_17 rfl hl (by decide) rfl (fun ls hl => ?_)
  exact law_loop l hL C0 D a a2 g g2 L 0 X0 M0 _ _ _ (by omega) (Nat.zero_le _) Lk_0 (Nat.zero_le _) hl ⟨hP2, hD2, hS, hK, hA⟩
end
section
-- ===== YOUR PART ENDS =====
set_option maxHeartbeats 4000000 in
theorem lw_walk (l : Launch) (b : Addr) (xs : List Int32) : MetFree l x (headSpec (Jvm.Cond.code x code maxLocals ret :: tables_1) room_1) (lw_P b xs) (fun _ _ _ _ _ => True) lw_Q := by
  refine MetFree.of_bodyS (code := code) (maxLocals := maxLocals) (ret := ret) (by decide) ?_ ?_
  · intro args s m h hn
    obtain ⟨meth, c, h1, h2, h3, h4, h5, h6, -, -⟩ := Cond.code_spec hn (atoms_spec (ws := Jvm.Cond.code x code maxLocals ret :: tables_1) h _ List.mem_cons_self)
    exact ⟨meth, c, h1, h2, h3, h4, h5, h6⟩
  · intro p e s m args below meth c s₁ B hml0 hP _
    obtain ⟨rfl, hx, hbd, hgv⟩ := hP
    obtain ⟨scr, harrAt, hlist, hof, hsmall⟩ := hx
    obtain ⟨hcb, hkn, -, -⟩ := State.arrayAt?_spec harrAt
    have hown : s.vm.findClass R_law = some m.cls := findClass_of_methodNamed B.named
    have hts0 : ∀ c ∈ (Jvm.Cond.code x code maxLocals ret :: tables_1), c.before #[Value.ref b] s = true := atoms_spec (ws := Jvm.Cond.code x code maxLocals ret :: tables_1) B.pre
    have hts : ∀ w ∈ lw_tbl, w.before #[Value.ref b] s = true := k2_hts_sels lw_privs (fun w hw => hts0 w (List.mem_cons_of_mem _ hw)) lw_privs_ok
    have hml : c.maxLocals = 4 := B.maxLocals_eq (hts0 _ List.mem_cons_self)
    have X₀ : Stand p l e room_1 s m #[Value.ref b] below meth c s₁ [] 0 0 := Stand.of_body B
    have hh0 : s₁.heap = s.heap := by rw [B.state]; rfl
    have hsz : scr.slots.size = xs.length := by rw [← Array.length_toList, hlist, List.length_map]
    have hval : ∀ j : Nat, j < xs.length → scr.slots[j]? = some (.int (xs.getD j 0)) := fun j hj => by
      rw [← Array.getElem?_toList, hlist]
      simp [hj]
    have hbl : b < s.heap.size := (Array.getElem?_eq_some_iff.mp hcb).1
    have hX : va_X b xs.length (fun j => xs.getD j 0) s s.heap := ⟨scr, hcb, hof, hkn, hsz, hval⟩
    have K : W p l e room_1 s m #[Value.ref b] below meth c s₁.heap [] 0 0 (lw_Z below #[Value.ref b] s) (entryFrame m ([Value.ref b] : List Value).toArray 4) := by
      rw [hh0]
      exact whole_start l hbd ⟨B.exec, B.bytes, B.returns, hml, hown, hts, hX, hbl, B.notSynchronized, hgv⟩
    obtain ⟨t, a1, o, b1, b2, b3⟩ := K s₁ rfl X₀
    exact ⟨t, o, a1, b1, b2, b3⟩
theorem lw_pre_spec {args : Array Value} {s : State} (h : (Jvm.Cond.and given_1 narrow_1).before args s = true) (hr : rest_1_c.before args s = true) : ∃ (b : Addr) (xs : List Int32), lw_P b xs args s := by
  have hs := flat_of_before _ h
  have hq := flat_of_before _ hr
  have hc : (Cond.count 1).before args s = true := hs _ (by decide +kernel)
  have harr : (Cond.arrayOf (.arg 0) .int).before args s = true := hs _ (by decide +kernel)
  have hle : (Cond.le (.length (.arg 0)) (.int 1536)).before args s = true := hs _ (by decide +kernel)
  have hlen : (Cond.isInt (.length (.arg 0))).before args s = true := hq _ (by decide +kernel)
  have hall : (Cond.all (.arg 0) (.isInt (.elem (.arg 0) (.index 0)))).before args s = true := hq _ (by decide +kernel)
  obtain ⟨b, xs, hb, hx⟩ := State.ints_of_pre rfl harr hlen hall
  have hsm : xs.length < 2 ^ 31 := hx.choose_spec.2.2.2
  have hev : (Term.length (.arg 0)).eval args s none [] s = some (.int xs.length.toInt32) := hx.length_eval hb
  have hv := Cond.le_ints hev (show (Term.int 1536).eval args s none [] s = some (.int 1536) from rfl)
  have hd : xs.length.toInt32 ≤ 1536 := by
    simpa [Cond.before, Cond.holds, hv] using hle
  have hN : xs.length ≤ 1536 := (Int32.ofNat_le_ofNat hsm (by decide)).mp (show Int32.ofNat xs.length ≤ Int32.ofNat 1536 from hd)
  exact ⟨b, xs, Cond.one_arg hc (show args[0]? = some (.ref b) from hb), hx, hN, h⟩
theorem lw_comes (l : Launch) : Comes l x (Jvm.Cond.code x code maxLocals ret :: tables_1) room_1 (fun tb e args s => Calls_1 tb e args s ∧ rest_1 tb e args s ∧ Pre_1 tb e args s)
    (fun _ _ args s o t => lw_Q args s o t) := by
  intro p e ha hc hk s m args below hf hfit hheap happ hpre
  obtain ⟨b, xs, hP⟩ := lw_pre_spec hpre.2.2 hpre.2.1
  obtain ⟨k, o, h1, h2, h3, hQ⟩ := lw_walk l b xs p e ha hc hk s m args below hf ((Spec.applies_iff_loose hf).mp happ).1 hP trivial
  exact ⟨k, o, h1, h2, h3, hQ⟩
theorem lw_frame {s t : State} {o : Outcome} {args : Array Value} (h : Framed s o t [] 18 392) :
    Framed s o t (fieldLocs frame_1_writes args s ++ arrayLocs frame_1_arrays args s ++ staticLocs frame_1_statics s) 18 392 := h
theorem lw_limb (L : Cond) (hL : ∀ (args : Array Value) (s t : State), L.after args s (.returned (some (.int 1))) t = true) :
    ArmFor flags0 classFile x code maxLocals ret World_1 tables_1 room_1 Calls_1 rest_1 Pre_1
      (fun tb e a s o t => postC L tb e a s o t ∧ Framed s o t (fieldLocs frame_1_writes a s ++ arrayLocs frame_1_arrays a s ++ staticLocs frame_1_statics s) 18 392) := by
  intro l _ _ _ p e ha hc hk s m args below hf hfit hheap happ hpre
  obtain ⟨k, o, h1, h2, h3, rfl, hF⟩ := lw_comes l p e ha hc hk s m args below hf hfit hheap happ hpre
  exact ⟨k, _, h1, h2, h3, hL args s _, lw_frame hF⟩
theorem i_vc : Claimed_1_1 ∧ Claimed_1_2 := ⟨lw_limb limb_1_1 (fun args s t => by simp [limb_1_1, Cond.after, Cond.holds, Cond.value]), lw_limb limb_1_2 (fun args s t => Cond.after_iff.mpr (by
  first | (rw [show limb_1_2 = Cond.eq .result (.int 1) from rfl, Cond.eq_ints (x := 1) (y := 1) rfl rfl]; simp; done) | (simp [limb_1_2, Cond.value, Term.eval]; done)))⟩
end
