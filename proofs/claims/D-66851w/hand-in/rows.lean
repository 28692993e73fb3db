section
-- ===== PART A: goes FIRST, ahead of the names: the tables' words, and 'selects' of the private methods out of them =====
/-- a private method of a class that the tables say can be made, by its rows of tables_1 -/
def lw_okq (q : MethodName × Nat) : Prop := (q.1.cls ≠ "java/lang/invoke/MethodHandle" ∧ q.1.cls ≠ "java/lang/invoke/VarHandle") ∧ Cond.instantiable q.1.cls q.2 ∈ tables_1 ∧ Cond.privateMethod q.1 ∈ tables_1 ∧ Cond.instanceMethod q.1 ∈ tables_1
theorem lw_p0 : lw_okq (⟨"GuidePlans", "plan", "()Z"⟩, 16) := ⟨⟨by decide +kernel, by decide +kernel⟩, List.mem_of_getElem? (i := 14) (by decide +kernel), List.mem_of_getElem? (i := 80) (by decide +kernel), List.mem_of_getElem? (i := 81) (by decide +kernel)⟩
theorem lw_p1 : lw_okq (⟨"GuidePlans", "seek", "(IZ)Z"⟩, 16) := ⟨⟨by decide +kernel, by decide +kernel⟩, List.mem_of_getElem? (i := 14) (by decide +kernel), List.mem_of_getElem? (i := 84) (by decide +kernel), List.mem_of_getElem? (i := 85) (by decide +kernel)⟩
theorem lw_p2 : lw_okq (⟨"GuidePlans", "begin", "()Z"⟩, 16) := ⟨⟨by decide +kernel, by decide +kernel⟩, List.mem_of_getElem? (i := 14) (by decide +kernel), List.mem_of_getElem? (i := 89) (by decide +kernel), List.mem_of_getElem? (i := 90) (by decide +kernel)⟩
theorem lw_p3 : lw_okq (⟨"GuidePlans", "kept", "(LGuidePlans$Task;)Z"⟩, 16) := ⟨⟨by decide +kernel, by decide +kernel⟩, List.mem_of_getElem? (i := 14) (by decide +kernel), List.mem_of_getElem? (i := 97) (by decide +kernel), List.mem_of_getElem? (i := 98) (by decide +kernel)⟩
theorem lw_p4 : lw_okq (⟨"GuidePlans", "base", "()I"⟩, 16) := ⟨⟨by decide +kernel, by decide +kernel⟩, List.mem_of_getElem? (i := 14) (by decide +kernel), List.mem_of_getElem? (i := 118) (by decide +kernel), List.mem_of_getElem? (i := 119) (by decide +kernel)⟩
theorem lw_p5 : lw_okq (⟨"GuidePlans", "place", "(II)V"⟩, 16) := ⟨⟨by decide +kernel, by decide +kernel⟩, List.mem_of_getElem? (i := 14) (by decide +kernel), List.mem_of_getElem? (i := 122) (by decide +kernel), List.mem_of_getElem? (i := 123) (by decide +kernel)⟩
theorem lw_p6 : lw_okq (⟨"GuidePlans", "change", "(LGuidePlans$Task;LGuidePlans$Person;)I"⟩, 16) := ⟨⟨by decide +kernel, by decide +kernel⟩, List.mem_of_getElem? (i := 14) (by decide +kernel), List.mem_of_getElem? (i := 134) (by decide +kernel), List.mem_of_getElem? (i := 135) (by decide +kernel)⟩
theorem lw_p7 : lw_okq (⟨"GuidePlans", "hour", "()I"⟩, 16) := ⟨⟨by decide +kernel, by decide +kernel⟩, List.mem_of_getElem? (i := 14) (by decide +kernel), List.mem_of_getElem? (i := 143) (by decide +kernel), List.mem_of_getElem? (i := 144) (by decide +kernel)⟩
theorem lw_p8 : lw_okq (⟨"GuidePlans", "adopt", "()V"⟩, 16) := ⟨⟨by decide +kernel, by decide +kernel⟩, List.mem_of_getElem? (i := 14) (by decide +kernel), List.mem_of_getElem? (i := 147) (by decide +kernel), List.mem_of_getElem? (i := 148) (by decide +kernel)⟩
theorem lw_p9 : lw_okq (⟨"GuidePlans", "tasksOf", "(LGuidePlans$Person;)I"⟩, 16) := ⟨⟨by decide +kernel, by decide +kernel⟩, List.mem_of_getElem? (i := 14) (by decide +kernel), List.mem_of_getElem? (i := 159) (by decide +kernel), List.mem_of_getElem? (i := 160) (by decide +kernel)⟩
theorem lw_p10 : lw_okq (⟨"java/lang/Throwable", "fillInStackTrace", "(I)Ljava/lang/Throwable;"⟩, 6) := ⟨⟨by decide +kernel, by decide +kernel⟩, List.mem_of_getElem? (i := 222) (by decide +kernel), List.mem_of_getElem? (i := 220) (by decide +kernel), List.mem_of_getElem? (i := 221) (by decide +kernel)⟩
theorem lw_p11 : lw_okq (⟨"GuidePlans", "who", "(I)LGuidePlans$Person;"⟩, 16) := ⟨⟨by decide +kernel, by decide +kernel⟩, List.mem_of_getElem? (i := 14) (by decide +kernel), List.mem_of_getElem? (i := 302) (by decide +kernel), List.mem_of_getElem? (i := 303) (by decide +kernel)⟩
theorem lw_p12 : lw_okq (⟨"GuidePlans", "the", "(I)LGuidePlans$Task;"⟩, 16) := ⟨⟨by decide +kernel, by decide +kernel⟩, List.mem_of_getElem? (i := 14) (by decide +kernel), List.mem_of_getElem? (i := 416) (by decide +kernel), List.mem_of_getElem? (i := 417) (by decide +kernel)⟩
theorem lw_p13 : lw_okq (⟨"GuidePlans", "why", "(LGuidePlans$Task;LGuidePlans$Task;)I"⟩, 16) := ⟨⟨by decide +kernel, by decide +kernel⟩, List.mem_of_getElem? (i := 14) (by decide +kernel), List.mem_of_getElem? (i := 451) (by decide +kernel), List.mem_of_getElem? (i := 452) (by decide +kernel)⟩
theorem lw_p14 : lw_okq (⟨"GuidePlans", "lieClear", "(LGuidePlans$Person;)Z"⟩, 16) := ⟨⟨by decide +kernel, by decide +kernel⟩, List.mem_of_getElem? (i := 14) (by decide +kernel), List.mem_of_getElem? (i := 455) (by decide +kernel), List.mem_of_getElem? (i := 456) (by decide +kernel)⟩
theorem lw_p15 : lw_okq (⟨"GuidePlans", "quartersOf", "(LGuidePlans$Person;)I"⟩, 16) := ⟨⟨by decide +kernel, by decide +kernel⟩, List.mem_of_getElem? (i := 14) (by decide +kernel), List.mem_of_getElem? (i := 460) (by decide +kernel), List.mem_of_getElem? (i := 461) (by decide +kernel)⟩
def lw_privs_1 : List (MethodName × Nat) := [(⟨"GuidePlans", "plan", "()Z"⟩, 16), (⟨"GuidePlans", "seek", "(IZ)Z"⟩, 16), (⟨"GuidePlans", "begin", "()Z"⟩, 16), (⟨"GuidePlans", "kept", "(LGuidePlans$Task;)Z"⟩, 16), (⟨"GuidePlans", "base", "()I"⟩, 16), (⟨"GuidePlans", "place", "(II)V"⟩, 16), (⟨"GuidePlans", "change", "(LGuidePlans$Task;LGuidePlans$Person;)I"⟩, 16), (⟨"GuidePlans", "hour", "()I"⟩, 16), (⟨"GuidePlans", "adopt", "()V"⟩, 16), (⟨"GuidePlans", "tasksOf", "(LGuidePlans$Person;)I"⟩, 16), (⟨"java/lang/Throwable", "fillInStackTrace", "(I)Ljava/lang/Throwable;"⟩, 6), (⟨"GuidePlans", "who", "(I)LGuidePlans$Person;"⟩, 16), (⟨"GuidePlans", "the", "(I)LGuidePlans$Task;"⟩, 16), (⟨"GuidePlans", "why", "(LGuidePlans$Task;LGuidePlans$Task;)I"⟩, 16), (⟨"GuidePlans", "lieClear", "(LGuidePlans$Person;)Z"⟩, 16), (⟨"GuidePlans", "quartersOf", "(LGuidePlans$Person;)I"⟩, 16)]
theorem lw_r1 : ∀ q ∈ lw_privs_1, lw_okq q := List.forall_mem_cons.mpr ⟨lw_p0, List.forall_mem_cons.mpr ⟨lw_p1, List.forall_mem_cons.mpr ⟨lw_p2, List.forall_mem_cons.mpr ⟨lw_p3, List.forall_mem_cons.mpr ⟨lw_p4, List.forall_mem_cons.mpr ⟨lw_p5, List.forall_mem_cons.mpr ⟨lw_p6, List.forall_mem_cons.mpr ⟨lw_p7, List.forall_mem_cons.mpr ⟨lw_p8, List.forall_mem_cons.mpr ⟨lw_p9, List.forall_mem_cons.mpr ⟨lw_p10, List.forall_mem_cons.mpr ⟨lw_p11, List.forall_mem_cons.mpr ⟨lw_p12, List.forall_mem_cons.mpr ⟨lw_p13, List.forall_mem_cons.mpr ⟨lw_p14, List.forall_mem_cons.mpr ⟨lw_p15, fun _ h => absurd h List.not_mem_nil⟩⟩⟩⟩⟩⟩⟩⟩⟩⟩⟩⟩⟩⟩⟩⟩
theorem lw_p16 : lw_okq (⟨"GuidePlansModel", "goes", "(ZZZ)Z"⟩, 27) := ⟨⟨by decide +kernel, by decide +kernel⟩, List.mem_of_getElem? (i := 478) (by decide +kernel), List.mem_of_getElem? (i := 578) (by decide +kernel), List.mem_of_getElem? (i := 579) (by decide +kernel)⟩
theorem lw_p17 : lw_okq (⟨"GuidePlansModel", "isPerson", "(I)Z"⟩, 27) := ⟨⟨by decide +kernel, by decide +kernel⟩, List.mem_of_getElem? (i := 478) (by decide +kernel), List.mem_of_getElem? (i := 586) (by decide +kernel), List.mem_of_getElem? (i := 587) (by decide +kernel)⟩
theorem lw_p18 : lw_okq (⟨"GuidePlansModel", "leave", "(III)V"⟩, 27) := ⟨⟨by decide +kernel, by decide +kernel⟩, List.mem_of_getElem? (i := 478) (by decide +kernel), List.mem_of_getElem? (i := 593) (by decide +kernel), List.mem_of_getElem? (i := 594) (by decide +kernel)⟩
theorem lw_p19 : lw_okq (⟨"GuidePlansModel", "seek", "(Z)V"⟩, 27) := ⟨⟨by decide +kernel, by decide +kernel⟩, List.mem_of_getElem? (i := 478) (by decide +kernel), List.mem_of_getElem? (i := 617) (by decide +kernel), List.mem_of_getElem? (i := 618) (by decide +kernel)⟩
theorem lw_p20 : lw_okq (⟨"GuidePlansModel", "may", "()Z"⟩, 27) := ⟨⟨by decide +kernel, by decide +kernel⟩, List.mem_of_getElem? (i := 478) (by decide +kernel), List.mem_of_getElem? (i := 621) (by decide +kernel), List.mem_of_getElem? (i := 622) (by decide +kernel)⟩
theorem lw_p21 : lw_okq (⟨"GuidePlansModel", "suits", "(II)Z"⟩, 27) := ⟨⟨by decide +kernel, by decide +kernel⟩, List.mem_of_getElem? (i := 478) (by decide +kernel), List.mem_of_getElem? (i := 625) (by decide +kernel), List.mem_of_getElem? (i := 626) (by decide +kernel)⟩
theorem lw_p22 : lw_okq (⟨"GuidePlansModel", "quarters", "(I)I"⟩, 27) := ⟨⟨by decide +kernel, by decide +kernel⟩, List.mem_of_getElem? (i := 478) (by decide +kernel), List.mem_of_getElem? (i := 629) (by decide +kernel), List.mem_of_getElem? (i := 630) (by decide +kernel)⟩
theorem lw_p23 : lw_okq (⟨"GuidePlansModel", "hasNear", "(I)Z"⟩, 27) := ⟨⟨by decide +kernel, by decide +kernel⟩, List.mem_of_getElem? (i := 478) (by decide +kernel), List.mem_of_getElem? (i := 633) (by decide +kernel), List.mem_of_getElem? (i := 634) (by decide +kernel)⟩
theorem lw_p24 : lw_okq (⟨"GuidePlansModel", "isNear", "(II)Z"⟩, 27) := ⟨⟨by decide +kernel, by decide +kernel⟩, List.mem_of_getElem? (i := 478) (by decide +kernel), List.mem_of_getElem? (i := 637) (by decide +kernel), List.mem_of_getElem? (i := 638) (by decide +kernel)⟩
theorem lw_p25 : lw_okq (⟨"GuidePlansModel", "full", "()I"⟩, 27) := ⟨⟨by decide +kernel, by decide +kernel⟩, List.mem_of_getElem? (i := 478) (by decide +kernel), List.mem_of_getElem? (i := 641) (by decide +kernel), List.mem_of_getElem? (i := 642) (by decide +kernel)⟩
theorem lw_p26 : lw_okq (⟨"GuidePlansModel", "differences", "()I"⟩, 27) := ⟨⟨by decide +kernel, by decide +kernel⟩, List.mem_of_getElem? (i := 478) (by decide +kernel), List.mem_of_getElem? (i := 645) (by decide +kernel), List.mem_of_getElem? (i := 646) (by decide +kernel)⟩
theorem lw_p27 : lw_okq (⟨"GuidePlansModel", "costOf", "()I"⟩, 27) := ⟨⟨by decide +kernel, by decide +kernel⟩, List.mem_of_getElem? (i := 478) (by decide +kernel), List.mem_of_getElem? (i := 649) (by decide +kernel), List.mem_of_getElem? (i := 650) (by decide +kernel)⟩
theorem lw_p28 : lw_okq (⟨"GuidePlansModel", "keep", "(I)V"⟩, 27) := ⟨⟨by decide +kernel, by decide +kernel⟩, List.mem_of_getElem? (i := 478) (by decide +kernel), List.mem_of_getElem? (i := 653) (by decide +kernel), List.mem_of_getElem? (i := 654) (by decide +kernel)⟩
theorem lw_p29 : lw_okq (⟨"GuidePlansModel", "tell", "()V"⟩, 27) := ⟨⟨by decide +kernel, by decide +kernel⟩, List.mem_of_getElem? (i := 478) (by decide +kernel), List.mem_of_getElem? (i := 657) (by decide +kernel), List.mem_of_getElem? (i := 658) (by decide +kernel)⟩
theorem lw_p30 : lw_okq (⟨"GuidePlansModel", "isTask", "(I)Z"⟩, 27) := ⟨⟨by decide +kernel, by decide +kernel⟩, List.mem_of_getElem? (i := 478) (by decide +kernel), List.mem_of_getElem? (i := 669) (by decide +kernel), List.mem_of_getElem? (i := 670) (by decide +kernel)⟩
theorem lw_p31 : lw_okq (⟨"GuidePlansModel", "tryPlan", "()V"⟩, 27) := ⟨⟨by decide +kernel, by decide +kernel⟩, List.mem_of_getElem? (i := 478) (by decide +kernel), List.mem_of_getElem? (i := 677) (by decide +kernel), List.mem_of_getElem? (i := 678) (by decide +kernel)⟩
def lw_privs_2 : List (MethodName × Nat) := [(⟨"GuidePlansModel", "goes", "(ZZZ)Z"⟩, 27), (⟨"GuidePlansModel", "isPerson", "(I)Z"⟩, 27), (⟨"GuidePlansModel", "leave", "(III)V"⟩, 27), (⟨"GuidePlansModel", "seek", "(Z)V"⟩, 27), (⟨"GuidePlansModel", "may", "()Z"⟩, 27), (⟨"GuidePlansModel", "suits", "(II)Z"⟩, 27), (⟨"GuidePlansModel", "quarters", "(I)I"⟩, 27), (⟨"GuidePlansModel", "hasNear", "(I)Z"⟩, 27), (⟨"GuidePlansModel", "isNear", "(II)Z"⟩, 27), (⟨"GuidePlansModel", "full", "()I"⟩, 27), (⟨"GuidePlansModel", "differences", "()I"⟩, 27), (⟨"GuidePlansModel", "costOf", "()I"⟩, 27), (⟨"GuidePlansModel", "keep", "(I)V"⟩, 27), (⟨"GuidePlansModel", "tell", "()V"⟩, 27), (⟨"GuidePlansModel", "isTask", "(I)Z"⟩, 27), (⟨"GuidePlansModel", "tryPlan", "()V"⟩, 27)]
theorem lw_r2 : ∀ q ∈ lw_privs_2, lw_okq q := List.forall_mem_cons.mpr ⟨lw_p16, List.forall_mem_cons.mpr ⟨lw_p17, List.forall_mem_cons.mpr ⟨lw_p18, List.forall_mem_cons.mpr ⟨lw_p19, List.forall_mem_cons.mpr ⟨lw_p20, List.forall_mem_cons.mpr ⟨lw_p21, List.forall_mem_cons.mpr ⟨lw_p22, List.forall_mem_cons.mpr ⟨lw_p23, List.forall_mem_cons.mpr ⟨lw_p24, List.forall_mem_cons.mpr ⟨lw_p25, List.forall_mem_cons.mpr ⟨lw_p26, List.forall_mem_cons.mpr ⟨lw_p27, List.forall_mem_cons.mpr ⟨lw_p28, List.forall_mem_cons.mpr ⟨lw_p29, List.forall_mem_cons.mpr ⟨lw_p30, List.forall_mem_cons.mpr ⟨lw_p31, fun _ h => absurd h List.not_mem_nil⟩⟩⟩⟩⟩⟩⟩⟩⟩⟩⟩⟩⟩⟩⟩⟩
theorem lw_p32 : lw_okq (⟨"GuidePlansModel", "isEmptied", "(II)Z"⟩, 27) := ⟨⟨by decide +kernel, by decide +kernel⟩, List.mem_of_getElem? (i := 478) (by decide +kernel), List.mem_of_getElem? (i := 693) (by decide +kernel), List.mem_of_getElem? (i := 694) (by decide +kernel)⟩
theorem lw_p33 : lw_okq (⟨"GuidePlansModel", "isUnfit", "(II)Z"⟩, 27) := ⟨⟨by decide +kernel, by decide +kernel⟩, List.mem_of_getElem? (i := 478) (by decide +kernel), List.mem_of_getElem? (i := 697) (by decide +kernel), List.mem_of_getElem? (i := 698) (by decide +kernel)⟩
def lw_privs_3 : List (MethodName × Nat) := [(⟨"GuidePlansModel", "isEmptied", "(II)Z"⟩, 27), (⟨"GuidePlansModel", "isUnfit", "(II)Z"⟩, 27)]
theorem lw_r3 : ∀ q ∈ lw_privs_3, lw_okq q := List.forall_mem_cons.mpr ⟨lw_p32, List.forall_mem_cons.mpr ⟨lw_p33, fun _ h => absurd h List.not_mem_nil⟩⟩
def lw_privs : List (MethodName × Nat) := lw_privs_1 ++ (lw_privs_2 ++ (lw_privs_3))
def lw_tbl : List Cond := k2_sels lw_privs ++ tables_1
theorem lw_privs_ok : ∀ q ∈ lw_privs, lw_okq q := by
  show ∀ q ∈ lw_privs_1 ++ (lw_privs_2 ++ (lw_privs_3)), lw_okq q
  exact List.forall_mem_append.mpr ⟨lw_r1, List.forall_mem_append.mpr ⟨lw_r2, lw_r3⟩⟩
end
section
-- THE ABSTRACT MACHINE. Values: an int, a long, a reference (none: null) by its name (kind, number). Kinds: 0 GuidePlans, 1 Person, 2 Task, 3 Span, 4 GuidePlansModel,
-- 5 Person[4], 6 Task[6], 7 int[4], 8 int[6], 9 int[20], 10 boolean[6], 11 long[1], 12 IllegalArgument, 13 IllegalState, 14 NoSuchElement, 15 the script (its length: the count of kind 16).
abbrev AV : Type := Int32 ⊕ (Int64 ⊕ Option (Nat × Nat))
abbrev AL : Type := List (Option AV)
-- the heap: ints, references, longs (kind, number, place); how many of a kind; the machine's addresses; its size; slots used
abbrev AH : Type := (Nat → Nat → Nat → Int32) × (Nat → Nat → Nat → Option (Nat × Nat)) × (Nat → Nat → Nat → Int64) × (Nat → Nat) × (Nat × Nat → Nat) × Nat × Nat
abbrev Oc : Type := Option AV ⊕ (Nat × Nat)
-- an instruction: operation, two numbers, a constant, the pc behind it
abbrev Ins : Type := Nat × Nat × Nat × Int32 × Nat
abbrev Nx : Type := Nat × AL × List AV × AH
def hI (h : AH) : Nat → Nat → Nat → Int32 := h.1
def hA (h : AH) : Nat → Nat → Nat → Option (Nat × Nat) := h.2.1
def hJ (h : AH) : Nat → Nat → Nat → Int64 := h.2.2.1
def hC (h : AH) : Nat → Nat := h.2.2.2.1
def hR (h : AH) : Nat × Nat → Nat := h.2.2.2.2.1
def hZ (h : AH) : Nat := h.2.2.2.2.2.1
def hS (h : AH) : Nat := h.2.2.2.2.2.2
def sI (h : AH) (k i s : Nat) (x : Int32) : AH := (fun k' i' s' => if k' = k ∧ i' = i ∧ s' = s then x else hI h k' i' s', hA h, hJ h, hC h, hR h, hZ h, hS h)
def sA (h : AH) (k i s : Nat) (x : Option (Nat × Nat)) : AH := (hI h, fun k' i' s' => if k' = k ∧ i' = i ∧ s' = s then x else hA h k' i' s', hJ h, hC h, hR h, hZ h, hS h)
def sJ (h : AH) (k i s : Nat) (x : Int64) : AH := (hI h, hA h, fun k' i' s' => if k' = k ∧ i' = i ∧ s' = s then x else hJ h k' i' s', hC h, hR h, hZ h, hS h)
def al (h : AH) (k n : Nat) : AH := (fun k' i' s' => if k' = k ∧ i' = hC h k then 0 else hI h k' i' s', fun k' i' s' => if k' = k ∧ i' = hC h k then none else hA h k' i' s', fun k' i' s' => if k' = k ∧ i' = hC h k then 0 else hJ h k' i' s', fun k' => if k' = k then hC h k + 1 else hC h k', fun q => if q = (k, hC h k) then hZ h else hR h q, hZ h + 1, hS h + n)
def lget : AL → Nat → Option AV
  | [], _ => none
  | x :: _, 0 => x
  | _ :: t, n + 1 => lget t n
def lset : AL → Nat → Option AV → AL
  | [], _, _ => []
  | _ :: t, 0, v => v :: t
  | x :: t, n + 1, v => x :: lset t n v
def lnone : Nat → AL
  | 0 => []
  | n + 1 => none :: lnone n
def entL : Nat → List AV → AL
  | n, [] => lnone n
  | 0, _ :: _ => []
  | n + 1, v :: t => some v :: entL n t
/-- n values off the stack, the deepest first -/
def popn : Nat → List AV → List AV → Option (List AV × List AV)
  | 0, acc, st => some (acc, st)
  | _ + 1, _, [] => none
  | n + 1, acc, v :: st => popn n (v :: acc) st
def catA : AV → Nat
  | .inl _ => 1
  | .inr (.inl _) => 2
  | .inr (.inr _) => 1
def catS : List AV → Nat
  | [] => 0
  | v :: t => catA v + catS t
/-- how many fields an object of a kind has -/
def kN : Nat → Nat
  | 0 => 16 | 1 => 6 | 2 => 7 | 3 => 3 | 4 => 27 | _ => 0
def kL (h : AH) : Nat → Nat
  | 5 => 4 | 6 => 6 | 7 => 4 | 8 => 6 | 9 => 20 | 10 => 6 | 11 => 1 | 15 => hC h 16 | _ => 0
/-- how long an array of a kind is made -/
def kM : Nat → Nat
  | 5 => 4 | 6 => 6 | 7 => 4 | 8 => 6 | 9 => 20 | 10 => 6 | 11 => 1 | _ => 0
/-- the kind of the elements of an array of references -/
def kE : Nat → Nat
  | 5 => 1 | 6 => 2 | _ => 99
def isInts : Nat → Bool
  | 7 => true | 8 => true | 9 => true | 15 => true | _ => false
def cnd (b : Nat) (x y : Int32) : Bool := match b with
  | 0 => decide (x = y) | 1 => decide (¬ x = y) | 2 => decide (x < y) | 3 => decide (y ≤ x) | 4 => decide (y < x) | _ => decide (x ≤ y)
def swt : Nat → List Nat × Nat
  | 0 => ([32, 37, 42, 47], 52)
  | _ => ([116, 172, 252, 360, 416, 472, 528, 541, 554, 610, 654, 722, 778, 846, 902, 915], 971)
def lnat : List Nat → Nat → Nat → Nat
  | [], _, d => d
  | a :: _, 0, _ => a
  | _ :: t, n + 1, d => lnat t n d
-- one step each
def x_const (c : Int32) (nx : Nat) (ls : AL) (st : List AV) (h : AH) : Option Nx := some (nx, ls, .inl c :: st, h)
def x_iload (a nx : Nat) (ls : AL) (st : List AV) (h : AH) : Option Nx := match lget ls a with
  | some (.inl x) => some (nx, ls, .inl x :: st, h)
  | _ => none
def x_aload (a nx : Nat) (ls : AL) (st : List AV) (h : AH) : Option Nx := match lget ls a with
  | some (.inr (.inr x)) => some (nx, ls, .inr (.inr x) :: st, h)
  | _ => none
def x_istore (a nx : Nat) (ls : AL) (st : List AV) (h : AH) : Option Nx := match st with
  | .inl x :: st => some (nx, lset ls a (some (.inl x)), st, h)
  | _ => none
def x_astore (a nx : Nat) (ls : AL) (st : List AV) (h : AH) : Option Nx := match st with
  | .inr (.inr x) :: st => some (nx, lset ls a (some (.inr (.inr x))), st, h)
  | _ => none
def x_dup (nx : Nat) (ls : AL) (st : List AV) (h : AH) : Option Nx := match st with
  | .inl x :: st => some (nx, ls, .inl x :: .inl x :: st, h)
  | .inr (.inr x) :: st => some (nx, ls, .inr (.inr x) :: .inr (.inr x) :: st, h)
  | _ => none
def x_dupx (nx : Nat) (ls : AL) (st : List AV) (h : AH) : Option Nx := match st with
  | .inl x :: .inr (.inr y) :: st => some (nx, ls, .inl x :: .inr (.inr y) :: .inl x :: st, h)
  | _ => none
def x_add (nx : Nat) (ls : AL) (st : List AV) (h : AH) : Option Nx := match st with
  | .inl y :: .inl x :: st => some (nx, ls, .inl (x + y) :: st, h)
  | _ => none
def x_sub (nx : Nat) (ls : AL) (st : List AV) (h : AH) : Option Nx := match st with
  | .inl y :: .inl x :: st => some (nx, ls, .inl (x - y) :: st, h)
  | _ => none
def x_mul (nx : Nat) (ls : AL) (st : List AV) (h : AH) : Option Nx := match st with
  | .inl y :: .inl x :: st => some (nx, ls, .inl (x * y) :: st, h)
  | _ => none
def x_and (nx : Nat) (ls : AL) (st : List AV) (h : AH) : Option Nx := match st with
  | .inl y :: .inl x :: st => some (nx, ls, .inl (x &&& y) :: st, h)
  | _ => none
def x_shr (nx : Nat) (ls : AL) (st : List AV) (h : AH) : Option Nx := match st with
  | .inl y :: .inl x :: st => some (nx, ls, .inl (x >>> (y &&& 31)) :: st, h)
  | _ => none
def x_div (nx : Nat) (ls : AL) (st : List AV) (h : AH) : Option Nx := match st with
  | .inl y :: .inl x :: st => if y = 0 then none else some (nx, ls, .inl (x / y) :: st, h)
  | _ => none
def x_rem (nx : Nat) (ls : AL) (st : List AV) (h : AH) : Option Nx := match st with
  | .inl y :: .inl x :: st => if y = 0 then none else some (nx, ls, .inl (x - x / y * y) :: st, h)
  | _ => none
def x_iinc (a : Nat) (c : Int32) (nx : Nat) (ls : AL) (st : List AV) (h : AH) : Option Nx := match lget ls a with
  | some (.inl x) => some (nx, lset ls a (some (.inl (x + c))), st, h)
  | _ => none
def x_i2l (nx : Nat) (ls : AL) (st : List AV) (h : AH) : Option Nx := match st with
  | .inl x :: st => some (nx, ls, .inr (.inl x.toInt64) :: st, h)
  | _ => none
def x_lcmp (nx : Nat) (ls : AL) (st : List AV) (h : AH) : Option Nx := match st with
  | .inr (.inl y) :: .inr (.inl x) :: st => some (nx, ls, .inl (lg_cmp x y) :: st, h)
  | _ => none
def x_if (b a nx : Nat) (ls : AL) (st : List AV) (h : AH) : Option Nx := match st with
  | .inl x :: st => some (bif cnd b x 0 then a else nx, ls, st, h)
  | _ => none
def x_icmp (b a nx : Nat) (ls : AL) (st : List AV) (h : AH) : Option Nx := match st with
  | .inl y :: .inl x :: st => some (bif cnd b x y then a else nx, ls, st, h)
  | _ => none
def x_acmp (b a nx : Nat) (ls : AL) (st : List AV) (h : AH) : Option Nx := match b, st with
  | 0, .inr (.inr y) :: .inr (.inr x) :: st => some (if x = y then a else nx, ls, st, h)
  | 1, .inr (.inr y) :: .inr (.inr x) :: st => some (if x = y then nx else a, ls, st, h)
  | _, _ => none
def x_null (a nx : Nat) (ls : AL) (st : List AV) (h : AH) : Option Nx := match st with
  | .inr (.inr none) :: st => some (a, ls, st, h)
  | .inr (.inr (some _)) :: st => some (nx, ls, st, h)
  | _ => none
def x_nnull (a nx : Nat) (ls : AL) (st : List AV) (h : AH) : Option Nx := match st with
  | .inr (.inr none) :: st => some (nx, ls, st, h)
  | .inr (.inr (some _)) :: st => some (a, ls, st, h)
  | _ => none
def x_sw (a : Nat) (ls : AL) (st : List AV) (h : AH) : Option Nx := match st with
  | .inl x :: st => some (if x < 0 then (swt a).2 else lnat (swt a).1 x.toNatClampNeg (swt a).2, ls, st, h)
  | _ => none
def x_getI (k s nx : Nat) (ls : AL) (st : List AV) (h : AH) : Option Nx := match st with
  | .inr (.inr (some (k', i))) :: st => bif Nat.beq k' k then some (nx, ls, .inl (hI h k i s) :: st, h) else none
  | _ => none
def x_getA (k s nx : Nat) (ls : AL) (st : List AV) (h : AH) : Option Nx := match st with
  | .inr (.inr (some (k', i))) :: st => bif Nat.beq k' k then some (nx, ls, .inr (.inr (hA h k i s)) :: st, h) else none
  | _ => none
def x_putI (k s nx : Nat) (ls : AL) (st : List AV) (h : AH) : Option Nx := match st with
  | .inl x :: .inr (.inr (some (k', i))) :: st => bif Nat.beq k' k then some (nx, ls, st, sI h k i s x) else none
  | _ => none
def x_putZ (k s nx : Nat) (ls : AL) (st : List AV) (h : AH) : Option Nx := match st with
  | .inl x :: .inr (.inr (some (k', i))) :: st => bif Nat.beq k' k then (if x = 0 ∨ x = 1 then some (nx, ls, st, sI h k i s x) else none) else none
  | _ => none
def x_putA (k s nx : Nat) (ls : AL) (st : List AV) (h : AH) : Option Nx := match st with
  | .inr (.inr x) :: .inr (.inr (some (k', i))) :: st => bif Nat.beq k' k then some (nx, ls, st, sA h k i s x) else none
  | _ => none
def x_new (k nx : Nat) (ls : AL) (st : List AV) (h : AH) : Option Nx := some (nx, ls, .inr (.inr (some (k, hC h k))) :: st, al h k (kN k))
def x_newa (k nx : Nat) (ls : AL) (st : List AV) (h : AH) : Option Nx := match st with
  | .inl x :: st => if x = Int32.ofNat (kM k) then some (nx, ls, .inr (.inr (some (k, hC h k))) :: st, al h k (kM k)) else none
  | _ => none
def x_iald (nx : Nat) (ls : AL) (st : List AV) (h : AH) : Option Nx := match st with
  | .inl j :: .inr (.inr (some (k, i))) :: st => bif isInts k then (if j < 0 ∨ kL h k ≤ j.toNatClampNeg then none else some (nx, ls, .inl (hI h k i j.toNatClampNeg) :: st, h)) else none
  | _ => none
def x_zald (nx : Nat) (ls : AL) (st : List AV) (h : AH) : Option Nx := match st with
  | .inl j :: .inr (.inr (some (k, i))) :: st => bif Nat.beq k 10 then (if j < 0 ∨ kL h k ≤ j.toNatClampNeg then none else some (nx, ls, .inl (hI h k i j.toNatClampNeg) :: st, h)) else none
  | _ => none
def x_iast (nx : Nat) (ls : AL) (st : List AV) (h : AH) : Option Nx := match st with
  | .inl x :: .inl j :: .inr (.inr (some (k, i))) :: st => bif (isInts k && !Nat.beq k 15) then (if j < 0 ∨ kL h k ≤ j.toNatClampNeg then none else some (nx, ls, st, sI h k i j.toNatClampNeg x)) else none
  | _ => none
def x_zast (nx : Nat) (ls : AL) (st : List AV) (h : AH) : Option Nx := match st with
  | .inl x :: .inl j :: .inr (.inr (some (k, i))) :: st => bif Nat.beq k 10 then (if (j < 0 ∨ kL h k ≤ j.toNatClampNeg) ∨ ¬ (x = 0 ∨ x = 1) then none else some (nx, ls, st, sI h k i j.toNatClampNeg x)) else none
  | _ => none
def x_aald (nx : Nat) (ls : AL) (st : List AV) (h : AH) : Option Nx := match st with
  | .inl j :: .inr (.inr (some (k, i))) :: st => bif (Nat.beq k 5 || Nat.beq k 6) then (if j < 0 ∨ kL h k ≤ j.toNatClampNeg then none else some (nx, ls, .inr (.inr (hA h k i j.toNatClampNeg)) :: st, h)) else none
  | _ => none
def x_aast (nx : Nat) (ls : AL) (st : List AV) (h : AH) : Option Nx := match st with
  | .inr (.inr (some (k2, i2))) :: .inl j :: .inr (.inr (some (k, i))) :: st => bif Nat.beq k2 (kE k) then (if j < 0 ∨ kL h k ≤ j.toNatClampNeg then none else some (nx, ls, st, sA h k i j.toNatClampNeg (some (k2, i2)))) else none
  | _ => none
def x_lald (nx : Nat) (ls : AL) (st : List AV) (h : AH) : Option Nx := match st with
  | .inl j :: .inr (.inr (some (k, i))) :: st => bif Nat.beq k 11 then (if j < 0 ∨ kL h k ≤ j.toNatClampNeg then none else some (nx, ls, .inr (.inl (hJ h k i j.toNatClampNeg)) :: st, h)) else none
  | _ => none
def x_last (nx : Nat) (ls : AL) (st : List AV) (h : AH) : Option Nx := match st with
  | .inr (.inl x) :: .inl j :: .inr (.inr (some (k, i))) :: st => bif Nat.beq k 11 then (if j < 0 ∨ kL h k ≤ j.toNatClampNeg then none else some (nx, ls, st, sJ h k i j.toNatClampNeg x)) else none
  | _ => none
def x_alen (nx : Nat) (ls : AL) (st : List AV) (h : AH) : Option Nx := match st with
  | .inr (.inr (some (k, _))) :: st => bif Nat.beq k 15 then some (nx, ls, .inl (nI (hC h 16)) :: st, h) else none
  | _ => none
def x_oinit (nx : Nat) (ls : AL) (st : List AV) (h : AH) : Option Nx := match st with
  | .inr (.inr (some _)) :: st => bif Nat.ble (catS st) 8 then some (nx, ls, st, h) else none
  | _ => none
def x_max (nx : Nat) (ls : AL) (st : List AV) (h : AH) : Option Nx := match st with
  | .inl y :: .inl x :: st => bif Nat.ble (catS st) 8 then some (nx, ls, .inl (if x < y then y else x) :: st, h) else none
  | _ => none
def x_min (nx : Nat) (ls : AL) (st : List AV) (h : AH) : Option Nx := match st with
  | .inl y :: .inl x :: st => bif Nat.ble (catS st) 8 then some (nx, ls, .inl (if y < x then y else x) :: st, h) else none
  | _ => none
def stepI (i : Ins) (ls : AL) (st : List AV) (h : AH) : Option Nx := match i with
  | (op, a, b, c, nx) =>
  bif Nat.beq op 49 then x_aload a nx ls st h else
  bif Nat.beq op 2 then x_iload a nx ls st h else
  bif Nat.beq op 24 then x_getI a b nx ls st h else
  bif Nat.beq op 25 then x_getA a b nx ls st h else
  bif Nat.beq op 1 then x_const c nx ls st h else
  bif Nat.beq op 17 then some (a, ls, st, h) else
  bif Nat.beq op 26 then x_putI a b nx ls st h else
  bif Nat.beq op 31 then x_iald nx ls st h else
  bif Nat.beq op 7 then x_add nx ls st h else
  bif Nat.beq op 19 then x_icmp b a nx ls st h else
  bif Nat.beq op 18 then x_if b a nx ls st h else
  bif Nat.beq op 3 then x_istore a nx ls st h else
  bif Nat.beq op 14 then x_iinc a c nx ls st h else
  bif Nat.beq op 35 then x_aald nx ls st h else
  bif Nat.beq op 50 then x_astore a nx ls st h else
  bif Nat.beq op 5 then x_dup nx ls st h else
  bif Nat.beq op 27 then x_putZ a b nx ls st h else
  bif Nat.beq op 28 then x_putA a b nx ls st h else
  bif Nat.beq op 32 then x_iast nx ls st h else
  bif Nat.beq op 8 then x_sub nx ls st h else
  bif Nat.beq op 9 then x_mul nx ls st h else
  bif Nat.beq op 12 then x_and nx ls st h else
  bif Nat.beq op 13 then x_shr nx ls st h else
  bif Nat.beq op 10 then x_div nx ls st h else
  bif Nat.beq op 11 then x_rem nx ls st h else
  bif Nat.beq op 4 then some (nx, ls, .inr (.inr none) :: st, h) else
  bif Nat.beq op 6 then x_dupx nx ls st h else
  bif Nat.beq op 15 then x_i2l nx ls st h else
  bif Nat.beq op 16 then x_lcmp nx ls st h else
  bif Nat.beq op 20 then x_acmp b a nx ls st h else
  bif Nat.beq op 21 then x_null a nx ls st h else
  bif Nat.beq op 22 then x_nnull a nx ls st h else
  bif Nat.beq op 23 then x_sw a ls st h else
  bif Nat.beq op 29 then x_new a nx ls st h else
  bif Nat.beq op 30 then x_newa a nx ls st h else
  bif Nat.beq op 33 then x_zald nx ls st h else
  bif Nat.beq op 34 then x_zast nx ls st h else
  bif Nat.beq op 36 then x_aast nx ls st h else
  bif Nat.beq op 37 then x_lald nx ls st h else
  bif Nat.beq op 38 then x_last nx ls st h else
  bif Nat.beq op 39 then x_alen nx ls st h else
  bif Nat.beq op 41 then x_oinit nx ls st h else
  bif Nat.beq op 42 then x_max nx ls st h else
  bif Nat.beq op 43 then x_min nx ls st h else none
/-- the ends: a return, a throw -/
def x_end (op a : Nat) (st : List AV) (h : AH) : Option (Oc × AH) :=
  bif Nat.beq op 44 then (match st with | [.inl x] => some (.inl (some (.inl x)), h) | _ => none) else
  bif Nat.beq op 45 then (match st with | [.inl x] => (if x = 0 ∨ x = 1 then some (.inl (some (.inl x)), h) else none) | _ => none) else
  bif Nat.beq op 46 then (match st with | [.inr (.inr (some x))] => some (.inl (some (.inr (.inr (some x)))), h) | _ => none) else
  bif Nat.beq op 47 then (match st with | [] => some (.inl none, h) | _ => none) else
  bif Nat.beq op 48 then (match st with | [] => some (.inr (a, hC h a), al h a 6) | _ => none) else none
/-- the methods' code -/
def look : List (Nat × Ins) → Nat → Option Ins
  | [], _ => none
  | (k, v) :: t, pc => bif Nat.beq k pc then some v else look t pc
end
section
-- GuidePlans.<init>()V
def c_0 : List (Nat × Ins) := [(0, (49, 0, 0, 0, 1)), (1, (41, 1, 0, 0, 4)), (4, (49, 0, 0, 0, 5)), (5, (1, 0, 0, 4, 6)), (6, (30, 5, 7, 0, 9)), (9, (28, 0, 0, 9, 12)), (12, (49, 0, 0, 0, 13)), (13, (1, 0, 0, 6, 15)), (15, (30, 6, 15, 0, 18)), (18, (28, 0, 1, 17, 21)), (21, (49, 0, 0, 0, 22)), (22, (1, 0, 0, 6, 24)), (24, (30, 8, 0, 0, 26)), (26, (28, 0, 2, 21, 29)), (29, (49, 0, 0, 0, 30)), (30, (1, 0, 0, 96, 32)), (32, (26, 0, 9, 25, 35)), (35, (49, 0, 0, 0, 36)), (36, (1, 0, 0, (-1), 37)), (37, (26, 0, 10, 29, 40)), (40, (47, 0, 0, 0, 0))]
-- GuidePlans.exists(Z)V
def c_1 : List (Nat × Ins) := [(0, (2, 0, 0, 0, 1)), (1, (18, 12, 1, 0, 4)), (4, (48, 14, 32, 34, 7)), (12, (47, 0, 0, 0, 0))]
-- GuidePlans.allow(Z)V
def c_2 : List (Nat × Ins) := [(0, (2, 0, 0, 0, 1)), (1, (18, 12, 1, 0, 4)), (4, (48, 12, 35, 37, 7)), (12, (47, 0, 0, 0, 0))]
-- GuidePlans.must(Z)V
def c_3 : List (Nat × Ins) := [(0, (2, 0, 0, 0, 1)), (1, (18, 12, 1, 0, 4)), (4, (48, 13, 38, 40, 7)), (12, (47, 0, 0, 0, 0))]
-- GuidePlans.below(II)Z
def c_4 : List (Nat × Ins) := [(0, (2, 0, 0, 0, 1)), (1, (18, 13, 2, 0, 4)), (4, (2, 0, 0, 0, 5)), (5, (2, 1, 0, 0, 6)), (6, (19, 13, 3, 0, 9)), (9, (1, 0, 0, 1, 10)), (10, (17, 14, 0, 0, 13)), (13, (1, 0, 0, 0, 14)), (14, (45, 0, 0, 0, 0))]
-- GuidePlans.isSpan(II)Z
def c_5 : List (Nat × Ins) := [(0, (2, 0, 0, 0, 1)), (1, (18, 19, 2, 0, 4)), (4, (2, 0, 0, 0, 5)), (5, (2, 1, 0, 0, 6)), (6, (19, 19, 3, 0, 9)), (9, (2, 1, 0, 0, 10)), (10, (1, 0, 0, 96, 12)), (12, (19, 19, 4, 0, 15)), (15, (1, 0, 0, 1, 16)), (16, (17, 20, 0, 0, 19)), (19, (1, 0, 0, 0, 20)), (20, (45, 0, 0, 0, 0))]
-- GuidePlans.who(I)LGuidePlans$Person;
def c_6 : List (Nat × Ins) := [(0, (2, 1, 0, 0, 1)), (1, (49, 0, 0, 0, 2)), (2, (24, 0, 3, 41, 5)), (5, (40, 4, 2, 44, 8)), (8, (40, 1, 1, 48, 11)), (11, (49, 0, 0, 0, 12)), (12, (25, 0, 0, 9, 15)), (15, (2, 1, 0, 0, 16)), (16, (35, 0, 0, 0, 17)), (17, (46, 0, 0, 0, 0))]
-- GuidePlans.the(I)LGuidePlans$Task;
def c_7 : List (Nat × Ins) := [(0, (2, 1, 0, 0, 1)), (1, (49, 0, 0, 0, 2)), (2, (24, 0, 4, 52, 5)), (5, (40, 4, 2, 44, 8)), (8, (40, 1, 1, 48, 11)), (11, (49, 0, 0, 0, 12)), (12, (25, 0, 1, 17, 15)), (15, (2, 1, 0, 0, 16)), (16, (35, 0, 0, 0, 17)), (17, (46, 0, 0, 0, 0))]
-- GuidePlans.person(I)I
def c_8 : List (Nat × Ins) := [(0, (2, 1, 0, 0, 1)), (1, (1, 0, 0, 256, 4)), (4, (40, 4, 2, 44, 7)), (7, (40, 2, 1, 55, 10)), (10, (49, 0, 0, 0, 11)), (11, (24, 0, 3, 41, 14)), (14, (1, 0, 0, 4, 15)), (15, (19, 22, 3, 0, 18)), (18, (1, 0, 0, 1, 19)), (19, (17, 23, 0, 0, 22)), (22, (1, 0, 0, 0, 23)), (23, (40, 3, 1, 58, 26)), (26, (49, 0, 0, 0, 27)), (27, (25, 0, 0, 9, 30)), (30, (49, 0, 0, 0, 31)), (31, (24, 0, 3, 41, 34)), (34, (29, 1, 7, 0, 37)), (37, (5, 0, 0, 0, 38)), (38, (49, 0, 0, 0, 39)), (39, (24, 0, 3, 41, 42)), (42, (2, 1, 0, 0, 43)), (43, (40, 77, 3, 61, 46)), (46, (36, 0, 0, 0, 47)), (47, (49, 0, 0, 0, 48)), (48, (5, 0, 0, 0, 49)), (49, (24, 0, 3, 41, 52)), (52, (6, 0, 0, 0, 53)), (53, (1, 0, 0, 1, 54)), (54, (7, 0, 0, 0, 55)), (55, (26, 0, 3, 41, 58)), (58, (44, 0, 0, 0, 0))]
-- GuidePlans.off(III)I
def c_9 : List (Nat × Ins) := [(0, (49, 0, 0, 0, 1)), (1, (2, 1, 0, 0, 2)), (2, (40, 6, 2, 64, 5)), (5, (50, 4, 0, 0, 7)), (7, (2, 2, 0, 0, 8)), (8, (2, 3, 0, 0, 9)), (9, (40, 5, 2, 68, 12)), (12, (40, 2, 1, 55, 15)), (15, (49, 0, 0, 0, 16)), (16, (24, 0, 5, 71, 19)), (19, (1, 0, 0, 20, 21)), (21, (19, 28, 3, 0, 24)), (24, (1, 0, 0, 1, 25)), (25, (17, 29, 0, 0, 28)), (28, (1, 0, 0, 0, 29)), (29, (40, 3, 1, 58, 32)), (32, (49, 4, 0, 0, 34)), (34, (29, 3, 74, 0, 37)), (37, (5, 0, 0, 0, 38)), (38, (2, 2, 0, 0, 39)), (39, (2, 3, 0, 0, 40)), (40, (49, 4, 0, 0, 42)), (42, (25, 1, 2, 76, 45)), (45, (40, 84, 4, 80, 48)), (48, (28, 1, 2, 76, 51)), (51, (49, 0, 0, 0, 52)), (52, (5, 0, 0, 0, 53)), (53, (24, 0, 5, 71, 56)), (56, (1, 0, 0, 1, 57)), (57, (7, 0, 0, 0, 58)), (58, (6, 0, 0, 0, 59)), (59, (26, 0, 5, 71, 62)), (62, (44, 0, 0, 0, 0))]
-- GuidePlans.task(IIIZ)I
def c_10 : List (Nat × Ins) := [(0, (2, 1, 0, 0, 1)), (1, (1, 0, 0, 8, 3)), (3, (40, 4, 2, 44, 6)), (6, (40, 1, 1, 48, 9)), (9, (2, 2, 0, 0, 10)), (10, (2, 3, 0, 0, 11)), (11, (40, 5, 2, 68, 14)), (14, (40, 2, 1, 55, 17)), (17, (49, 0, 0, 0, 18)), (18, (24, 0, 4, 52, 21)), (21, (1, 0, 0, 6, 23)), (23, (19, 30, 3, 0, 26)), (26, (1, 0, 0, 1, 27)), (27, (17, 31, 0, 0, 30)), (30, (1, 0, 0, 0, 31)), (31, (40, 3, 1, 58, 34)), (34, (49, 0, 0, 0, 35)), (35, (25, 0, 1, 17, 38)), (38, (49, 0, 0, 0, 39)), (39, (24, 0, 4, 52, 42)), (42, (29, 2, 15, 0, 45)), (45, (5, 0, 0, 0, 46)), (46, (2, 1, 0, 0, 47)), (47, (2, 2, 0, 0, 48)), (48, (2, 3, 0, 0, 49)), (49, (2, 4, 0, 0, 51)), (51, (40, 85, 5, 83, 54)), (54, (36, 0, 0, 0, 55)), (55, (49, 0, 0, 0, 56)), (56, (5, 0, 0, 0, 57)), (57, (24, 0, 4, 52, 60)), (60, (6, 0, 0, 0, 61)), (61, (1, 0, 0, 1, 62)), (62, (7, 0, 0, 0, 63)), (63, (26, 0, 4, 52, 66)), (66, (44, 0, 0, 0, 0))]
-- GuidePlans.isLong(I)Z
def c_11 : List (Nat × Ins) := [(0, (2, 0, 0, 0, 1)), (1, (18, 14, 2, 0, 4)), (4, (2, 0, 0, 0, 5)), (5, (1, 0, 0, 96, 7)), (7, (19, 14, 4, 0, 10)), (10, (1, 0, 0, 1, 11)), (11, (17, 15, 0, 0, 14)), (14, (1, 0, 0, 0, 15)), (15, (45, 0, 0, 0, 0))]
-- GuidePlans.rest(I)I
def c_12 : List (Nat × Ins) := [(0, (2, 1, 0, 0, 1)), (1, (40, 11, 1, 86, 4)), (4, (40, 2, 1, 55, 7)), (7, (49, 0, 0, 0, 8)), (8, (24, 0, 7, 90, 11)), (11, (3, 2, 0, 0, 12)), (12, (49, 0, 0, 0, 13)), (13, (2, 1, 0, 0, 14)), (14, (26, 0, 7, 90, 17)), (17, (2, 2, 0, 0, 18)), (18, (44, 0, 0, 0, 0))]
-- GuidePlans.limit(I)I
def c_13 : List (Nat × Ins) := [(0, (2, 1, 0, 0, 1)), (1, (40, 11, 1, 86, 4)), (4, (40, 2, 1, 55, 7)), (7, (49, 0, 0, 0, 8)), (8, (24, 0, 9, 25, 11)), (11, (3, 2, 0, 0, 12)), (12, (49, 0, 0, 0, 13)), (13, (2, 1, 0, 0, 14)), (14, (26, 0, 9, 25, 17)), (17, (2, 2, 0, 0, 18)), (18, (44, 0, 0, 0, 0))]
-- GuidePlans.freeze(I)I
def c_14 : List (Nat × Ins) := [(0, (2, 1, 0, 0, 1)), (1, (40, 11, 1, 86, 4)), (4, (40, 2, 1, 55, 7)), (7, (49, 0, 0, 0, 8)), (8, (24, 0, 8, 93, 11)), (11, (3, 2, 0, 0, 12)), (12, (49, 0, 0, 0, 13)), (13, (2, 1, 0, 0, 14)), (14, (26, 0, 8, 93, 17)), (17, (2, 2, 0, 0, 18)), (18, (44, 0, 0, 0, 0))]
-- GuidePlans.kept(LGuidePlans$Task;)Z
def c_15 : List (Nat × Ins) := [(0, (49, 0, 0, 0, 1)), (1, (24, 0, 15, 96, 4)), (4, (18, 22, 0, 0, 7)), (7, (49, 1, 0, 0, 8)), (8, (24, 2, 1, 100, 11)), (11, (49, 0, 0, 0, 12)), (12, (24, 0, 8, 93, 15)), (15, (19, 22, 3, 0, 18)), (18, (1, 0, 0, 1, 19)), (19, (17, 23, 0, 0, 22)), (22, (1, 0, 0, 0, 23)), (23, (45, 0, 0, 0, 0))]
-- GuidePlans.begin()Z
def c_16 : List (Nat × Ins) := [(0, (1, 0, 0, 0, 1)), (1, (3, 1, 0, 0, 2)), (2, (2, 1, 0, 0, 3)), (3, (49, 0, 0, 0, 4)), (4, (24, 0, 3, 41, 7)), (7, (19, 25, 3, 0, 10)), (10, (49, 0, 0, 0, 11)), (11, (25, 0, 0, 9, 14)), (14, (2, 1, 0, 0, 15)), (15, (35, 0, 0, 0, 16)), (16, (40, 83, 1, 103, 19)), (19, (14, 1, 0, 1, 22)), (22, (17, 2, 0, 0, 25)), (25, (1, 0, 0, 1, 26)), (26, (3, 1, 0, 0, 27)), (27, (1, 0, 0, 0, 28)), (28, (3, 2, 0, 0, 29)), (29, (2, 2, 0, 0, 30)), (30, (49, 0, 0, 0, 31)), (31, (24, 0, 4, 52, 34)), (34, (19, 134, 3, 0, 37)), (37, (49, 0, 0, 0, 38)), (38, (25, 0, 1, 17, 41)), (41, (2, 2, 0, 0, 42)), (42, (35, 0, 0, 0, 43)), (43, (50, 3, 0, 0, 44)), (44, (49, 3, 0, 0, 45)), (45, (4, 0, 0, 0, 46)), (46, (28, 2, 5, 106, 49)), (49, (49, 0, 0, 0, 50)), (50, (49, 3, 0, 0, 51)), (51, (40, 15, 2, 110, 54)), (54, (18, 60, 1, 0, 57)), (57, (17, 128, 0, 0, 60)), (60, (49, 3, 0, 0, 61)), (61, (49, 3, 0, 0, 62)), (62, (25, 2, 4, 114, 65)), (65, (28, 2, 5, 106, 68)), (68, (49, 3, 0, 0, 69)), (69, (25, 2, 4, 114, 72)), (72, (22, 78, 0, 0, 75)), (75, (17, 128, 0, 0, 78)), (78, (2, 1, 0, 0, 79)), (79, (49, 3, 0, 0, 80)), (80, (25, 2, 4, 114, 83)), (83, (49, 3, 0, 0, 84)), (84, (49, 0, 0, 0, 85)), (85, (24, 0, 7, 90, 88)), (88, (40, 79, 3, 116, 91)), (91, (18, 117, 0, 0, 94)), (94, (49, 3, 0, 0, 95)), (95, (25, 2, 4, 114, 98)), (98, (24, 1, 5, 120, 101)), (101, (49, 3, 0, 0, 102)), (102, (40, 87, 1, 123, 105)), (105, (7, 0, 0, 0, 106)), (106, (49, 0, 0, 0, 107)), (107, (24, 0, 9, 25, 110)), (110, (19, 117, 4, 0, 113)), (113, (1, 0, 0, 1, 114)), (114, (17, 118, 0, 0, 117)), (117, (1, 0, 0, 0, 118)), (118, (12, 0, 0, 0, 119)), (119, (3, 1, 0, 0, 120)), (120, (49, 3, 0, 0, 121)), (121, (25, 2, 4, 114, 124)), (124, (49, 3, 0, 0, 125)), (125, (40, 80, 2, 127, 128)), (128, (14, 2, 0, 1, 131)), (131, (17, 29, 0, 0, 134)), (134, (2, 1, 0, 0, 135)), (135, (45, 0, 0, 0, 0))]
-- GuidePlans.change(LGuidePlans$Task;LGuidePlans$Person;)I
def c_17 : List (Nat × Ins) := [(0, (49, 0, 0, 0, 1)), (1, (24, 0, 15, 96, 4)), (4, (18, 20, 0, 0, 7)), (7, (49, 1, 0, 0, 8)), (8, (25, 2, 4, 114, 11)), (11, (49, 2, 0, 0, 12)), (12, (20, 20, 0, 0, 15)), (15, (1, 131, 1, 100000, 17)), (17, (17, 21, 0, 0, 20)), (20, (1, 0, 0, 0, 21)), (21, (44, 0, 0, 0, 0))]
-- GuidePlans.place(II)V
def c_18 : List (Nat × Ins) := [(0, (2, 2, 0, 0, 1)), (1, (49, 0, 0, 0, 2)), (2, (24, 0, 13, 132, 5)), (5, (19, 9, 2, 0, 8)), (8, (47, 0, 0, 0, 9)), (9, (2, 1, 0, 0, 10)), (10, (49, 0, 0, 0, 11)), (11, (24, 0, 12, 135, 14)), (14, (19, 57, 1, 0, 17)), (17, (49, 0, 0, 0, 18)), (18, (2, 2, 0, 0, 19)), (19, (26, 0, 13, 132, 22)), (22, (1, 0, 0, 0, 23)), (23, (3, 3, 0, 0, 24)), (24, (2, 3, 0, 0, 25)), (25, (49, 0, 0, 0, 26)), (26, (24, 0, 4, 52, 29)), (29, (19, 56, 3, 0, 32)), (32, (49, 0, 0, 0, 33)), (33, (25, 0, 1, 17, 36)), (36, (2, 3, 0, 0, 37)), (37, (35, 0, 0, 0, 38)), (38, (49, 0, 0, 0, 39)), (39, (25, 0, 1, 17, 42)), (42, (2, 3, 0, 0, 43)), (43, (35, 0, 0, 0, 44)), (44, (25, 2, 5, 106, 47)), (47, (28, 2, 6, 138, 50)), (50, (14, 3, 0, 1, 53)), (53, (17, 24, 0, 0, 56)), (56, (47, 0, 0, 0, 57)), (57, (49, 0, 0, 0, 58)), (58, (25, 0, 1, 17, 61)), (61, (2, 1, 0, 0, 62)), (62, (35, 0, 0, 0, 63)), (63, (50, 3, 0, 0, 64)), (64, (49, 0, 0, 0, 65)), (65, (49, 3, 0, 0, 66)), (66, (40, 15, 2, 110, 69)), (69, (18, 86, 1, 0, 72)), (72, (49, 0, 0, 0, 73)), (73, (24, 0, 14, 141, 76)), (76, (18, 117, 0, 0, 79)), (79, (49, 3, 0, 0, 80)), (80, (24, 2, 3, 144, 83)), (83, (18, 117, 1, 0, 86)), (86, (49, 0, 0, 0, 87)), (87, (49, 3, 0, 0, 88)), (88, (40, 15, 2, 110, 91)), (91, (18, 108, 0, 0, 94)), (94, (49, 3, 0, 0, 95)), (95, (24, 2, 3, 144, 98)), (98, (18, 108, 0, 0, 101)), (101, (49, 3, 0, 0, 102)), (102, (25, 2, 4, 114, 105)), (105, (21, 116, 0, 0, 108)), (108, (49, 0, 0, 0, 109)), (109, (2, 1, 0, 0, 110)), (110, (1, 0, 0, 1, 111)), (111, (7, 0, 0, 0, 112)), (112, (2, 2, 0, 0, 113)), (113, (40, 18, 3, 147, 116)), (116, (47, 0, 0, 0, 117)), (117, (1, 0, 0, 0, 118)), (118, (3, 4, 0, 0, 120)), (120, (2, 4, 0, 0, 122)), (122, (49, 0, 0, 0, 123)), (123, (24, 0, 3, 41, 126)), (126, (19, 234, 3, 0, 129)), (129, (49, 0, 0, 0, 130)), (130, (25, 0, 0, 9, 133)), (133, (2, 4, 0, 0, 135)), (135, (35, 0, 0, 0, 136)), (136, (50, 5, 0, 0, 138)), (138, (49, 5, 0, 0, 140)), (140, (49, 3, 0, 0, 141)), (141, (40, 78, 2, 150, 144)), (144, (18, 228, 0, 0, 147)), (147, (49, 5, 0, 0, 149)), (149, (24, 1, 5, 120, 152)), (152, (49, 3, 0, 0, 153)), (153, (40, 87, 1, 123, 156)), (156, (7, 0, 0, 0, 157)), (157, (49, 0, 0, 0, 158)), (158, (24, 0, 9, 25, 161)), (161, (19, 228, 4, 0, 164)), (164, (49, 5, 0, 0, 166)), (166, (49, 3, 0, 0, 167)), (167, (49, 0, 0, 0, 168)), (168, (24, 0, 7, 90, 171)), (171, (40, 79, 3, 116, 174)), (174, (18, 180, 1, 0, 177)), (177, (17, 228, 0, 0, 180)), (180, (49, 5, 0, 0, 182)), (182, (40, 82, 1, 153, 185)), (185, (49, 0, 0, 0, 186)), (186, (49, 3, 0, 0, 187)), (187, (49, 5, 0, 0, 189)), (189, (40, 17, 3, 156, 192)), (192, (7, 0, 0, 0, 193)), (193, (3, 6, 0, 0, 195)), (195, (49, 5, 0, 0, 197)), (197, (49, 3, 0, 0, 198)), (198, (40, 80, 2, 127, 201)), (201, (49, 3, 0, 0, 202)), (202, (49, 5, 0, 0, 204)), (204, (28, 2, 5, 106, 207)), (207, (49, 0, 0, 0, 208)), (208, (2, 1, 0, 0, 209)), (209, (1, 0, 0, 1, 210)), (210, (7, 0, 0, 0, 211)), (211, (2, 2, 0, 0, 212)), (212, (2, 6, 0, 0, 214)), (214, (7, 0, 0, 0, 215)), (215, (40, 18, 3, 147, 218)), (218, (49, 5, 0, 0, 220)), (220, (40, 81, 1, 160, 223)), (223, (49, 3, 0, 0, 224)), (224, (4, 0, 0, 0, 225)), (225, (28, 2, 5, 106, 228)), (228, (14, 4, 0, 1, 231)), (231, (17, 120, 0, 0, 234)), (234, (49, 3, 0, 0, 235)), (235, (24, 2, 3, 144, 238)), (238, (18, 259, 1, 0, 241)), (241, (49, 0, 0, 0, 242)), (242, (2, 1, 0, 0, 243)), (243, (1, 0, 0, 1, 244)), (244, (7, 0, 0, 0, 245)), (245, (2, 2, 0, 0, 246)), (246, (1, 0, 0, 100, 248)), (248, (7, 0, 0, 0, 249)), (249, (49, 0, 0, 0, 250)), (250, (49, 3, 0, 0, 251)), (251, (4, 0, 0, 0, 252)), (252, (40, 17, 3, 156, 255)), (255, (7, 0, 0, 0, 256)), (256, (40, 18, 3, 147, 259)), (259, (47, 0, 0, 0, 0))]
-- GuidePlans.base()I
def c_19 : List (Nat × Ins) := [(0, (1, 0, 0, 0, 1)), (1, (3, 1, 0, 0, 2)), (2, (1, 0, 0, 0, 3)), (3, (3, 2, 0, 0, 4)), (4, (2, 2, 0, 0, 5)), (5, (49, 0, 0, 0, 6)), (6, (24, 0, 3, 41, 9)), (9, (19, 40, 3, 0, 12)), (12, (2, 1, 0, 0, 13)), (13, (49, 0, 0, 0, 14)), (14, (25, 0, 0, 9, 17)), (17, (2, 2, 0, 0, 18)), (18, (35, 0, 0, 0, 19)), (19, (24, 1, 4, 163, 22)), (22, (49, 0, 0, 0, 23)), (23, (25, 0, 0, 9, 26)), (26, (2, 2, 0, 0, 27)), (27, (35, 0, 0, 0, 28)), (28, (24, 1, 4, 163, 31)), (31, (9, 0, 0, 0, 32)), (32, (7, 0, 0, 0, 33)), (33, (3, 1, 0, 0, 34)), (34, (14, 2, 0, 1, 37)), (37, (17, 4, 0, 0, 40)), (40, (1, 0, 0, 0, 41)), (41, (3, 2, 0, 0, 42)), (42, (2, 2, 0, 0, 43)), (43, (49, 0, 0, 0, 44)), (44, (24, 0, 4, 52, 47)), (47, (19, 84, 3, 0, 50)), (50, (49, 0, 0, 0, 51)), (51, (49, 0, 0, 0, 52)), (52, (25, 0, 1, 17, 55)), (55, (2, 2, 0, 0, 56)), (56, (35, 0, 0, 0, 57)), (57, (40, 15, 2, 110, 60)), (60, (18, 78, 0, 0, 63)), (63, (49, 0, 0, 0, 64)), (64, (25, 0, 1, 17, 67)), (67, (2, 2, 0, 0, 68)), (68, (35, 0, 0, 0, 69)), (69, (25, 2, 4, 114, 72)), (72, (22, 78, 0, 0, 75)), (75, (14, 1, 0, 100, 78)), (78, (14, 2, 0, 1, 81)), (81, (17, 42, 0, 0, 84)), (84, (2, 1, 0, 0, 85)), (85, (44, 0, 0, 0, 0))]
-- GuidePlans.seek(IZ)Z
def c_20 : List (Nat × Ins) := [(0, (49, 0, 0, 0, 1)), (1, (2, 1, 0, 0, 2)), (2, (26, 0, 12, 135, 5)), (5, (49, 0, 0, 0, 6)), (6, (2, 2, 0, 0, 7)), (7, (27, 0, 14, 141, 10)), (10, (49, 0, 0, 0, 11)), (11, (1, 168, 1, 2147483647, 13)), (13, (26, 0, 13, 132, 16)), (16, (49, 0, 0, 0, 17)), (17, (40, 16, 1, 169, 20)), (20, (18, 32, 0, 0, 23)), (23, (49, 0, 0, 0, 24)), (24, (1, 0, 0, 0, 25)), (25, (49, 0, 0, 0, 26)), (26, (40, 19, 1, 173, 29)), (29, (40, 18, 3, 147, 32)), (32, (49, 0, 0, 0, 33)), (33, (24, 0, 13, 132, 36)), (36, (1, 168, 1, 2147483647, 38)), (38, (19, 45, 3, 0, 41)), (41, (1, 0, 0, 1, 42)), (42, (17, 46, 0, 0, 45)), (45, (1, 0, 0, 0, 46)), (46, (45, 0, 0, 0, 0))]
-- GuidePlans.hour()I
def c_21 : List (Nat × Ins) := [(0, (1, 0, 0, 0, 1)), (1, (3, 1, 0, 0, 2)), (2, (2, 1, 0, 0, 3)), (3, (49, 0, 0, 0, 4)), (4, (24, 0, 4, 52, 7)), (7, (19, 39, 3, 0, 10)), (10, (49, 0, 0, 0, 11)), (11, (25, 0, 1, 17, 14)), (14, (2, 1, 0, 0, 15)), (15, (35, 0, 0, 0, 16)), (16, (24, 2, 3, 144, 19)), (19, (18, 33, 0, 0, 22)), (22, (49, 0, 0, 0, 23)), (23, (2, 1, 0, 0, 24)), (24, (1, 0, 0, 1, 25)), (25, (7, 0, 0, 0, 26)), (26, (1, 0, 0, 1, 27)), (27, (40, 20, 3, 176, 30)), (30, (18, 39, 0, 0, 33)), (33, (14, 1, 0, 1, 36)), (36, (17, 2, 0, 0, 39)), (39, (2, 1, 0, 0, 40)), (40, (49, 0, 0, 0, 41)), (41, (24, 0, 4, 52, 44)), (44, (19, 59, 3, 0, 47)), (47, (49, 0, 0, 0, 48)), (48, (25, 0, 1, 17, 51)), (51, (2, 1, 0, 0, 52)), (52, (35, 0, 0, 0, 53)), (53, (24, 2, 1, 100, 56)), (56, (17, 60, 0, 0, 59)), (59, (1, 0, 0, (-1), 60)), (60, (44, 0, 0, 0, 0))]
-- GuidePlans.plan()Z
def c_22 : List (Nat × Ins) := [(0, (49, 0, 0, 0, 1)), (1, (1, 0, 0, (-1), 2)), (2, (26, 0, 10, 29, 5)), (5, (49, 0, 0, 0, 6)), (6, (49, 0, 0, 0, 7)), (7, (24, 0, 4, 52, 10)), (10, (1, 0, 0, 0, 11)), (11, (40, 20, 3, 176, 14)), (14, (18, 27, 1, 0, 17)), (17, (49, 0, 0, 0, 18)), (18, (49, 0, 0, 0, 19)), (19, (40, 21, 1, 180, 22)), (22, (26, 0, 10, 29, 25)), (25, (1, 0, 0, 0, 26)), (26, (45, 0, 0, 0, 27)), (27, (1, 0, 0, 1, 28)), (28, (45, 0, 0, 0, 0))]
-- GuidePlans.adopt()V
def c_23 : List (Nat × Ins) := [(0, (1, 0, 0, 0, 1)), (1, (3, 1, 0, 0, 2)), (2, (2, 1, 0, 0, 3)), (3, (49, 0, 0, 0, 4)), (4, (24, 0, 4, 52, 7)), (7, (19, 34, 3, 0, 10)), (10, (49, 0, 0, 0, 11)), (11, (25, 0, 1, 17, 14)), (14, (2, 1, 0, 0, 15)), (15, (35, 0, 0, 0, 16)), (16, (49, 0, 0, 0, 17)), (17, (25, 0, 1, 17, 20)), (20, (2, 1, 0, 0, 21)), (21, (35, 0, 0, 0, 22)), (22, (25, 2, 6, 138, 25)), (25, (28, 2, 4, 114, 28)), (28, (14, 1, 0, 1, 31)), (31, (17, 2, 0, 0, 34)), (34, (49, 0, 0, 0, 35)), (35, (1, 0, 0, 1, 36)), (36, (27, 0, 11, 183, 39)), (39, (47, 0, 0, 0, 0))]
-- GuidePlans.run()I
def c_24 : List (Nat × Ins) := [(0, (49, 0, 0, 0, 1)), (1, (1, 0, 0, 0, 2)), (2, (27, 0, 15, 96, 5)), (5, (49, 0, 0, 0, 6)), (6, (40, 22, 1, 186, 9)), (9, (18, 14, 1, 0, 12)), (12, (1, 0, 0, (-1), 13)), (13, (44, 0, 0, 0, 14)), (14, (49, 0, 0, 0, 15)), (15, (40, 23, 1, 189, 18)), (18, (49, 0, 0, 0, 19)), (19, (24, 0, 13, 132, 22)), (22, (44, 0, 0, 0, 0))]
-- GuidePlans.told()I
def c_25 : List (Nat × Ins) := [(0, (49, 0, 0, 0, 1)), (1, (24, 0, 10, 29, 4)), (4, (44, 0, 0, 0, 0))]
-- GuidePlans.of(I)I
def c_26 : List (Nat × Ins) := [(0, (49, 0, 0, 0, 1)), (1, (2, 1, 0, 0, 2)), (2, (40, 7, 2, 192, 5)), (5, (25, 2, 4, 114, 8)), (8, (50, 2, 0, 0, 9)), (9, (49, 2, 0, 0, 10)), (10, (22, 17, 0, 0, 13)), (13, (1, 0, 0, (-1), 14)), (14, (17, 21, 0, 0, 17)), (17, (49, 2, 0, 0, 18)), (18, (24, 1, 0, 196, 21)), (21, (44, 0, 0, 0, 0))]
-- GuidePlans.tasksOf(LGuidePlans$Person;)I
def c_27 : List (Nat × Ins) := [(0, (1, 0, 0, 0, 1)), (1, (3, 2, 0, 0, 2)), (2, (1, 0, 0, 0, 3)), (3, (3, 3, 0, 0, 4)), (4, (2, 3, 0, 0, 5)), (5, (49, 0, 0, 0, 6)), (6, (24, 0, 4, 52, 9)), (9, (19, 34, 3, 0, 12)), (12, (49, 0, 0, 0, 13)), (13, (25, 0, 1, 17, 16)), (16, (2, 3, 0, 0, 17)), (17, (35, 0, 0, 0, 18)), (18, (25, 2, 4, 114, 21)), (21, (49, 1, 0, 0, 22)), (22, (20, 28, 1, 0, 25)), (25, (14, 2, 0, 1, 28)), (28, (14, 3, 0, 1, 31)), (31, (17, 4, 0, 0, 34)), (34, (2, 2, 0, 0, 35)), (35, (44, 0, 0, 0, 0))]
-- GuidePlans.cost()I
def c_28 : List (Nat × Ins) := [(0, (49, 0, 0, 0, 1)), (1, (24, 0, 11, 183, 4)), (4, (40, 3, 1, 58, 7)), (7, (1, 0, 0, 100, 9)), (9, (49, 0, 0, 0, 10)), (10, (4, 0, 0, 0, 11)), (11, (40, 27, 2, 199, 14)), (14, (9, 0, 0, 0, 15)), (15, (3, 1, 0, 0, 16)), (16, (1, 0, 0, 0, 17)), (17, (3, 2, 0, 0, 18)), (18, (2, 2, 0, 0, 19)), (19, (49, 0, 0, 0, 20)), (20, (24, 0, 3, 41, 23)), (23, (19, 56, 3, 0, 26)), (26, (2, 1, 0, 0, 27)), (27, (49, 0, 0, 0, 28)), (28, (49, 0, 0, 0, 29)), (29, (25, 0, 0, 9, 32)), (32, (2, 2, 0, 0, 33)), (33, (35, 0, 0, 0, 34)), (34, (40, 27, 2, 199, 37)), (37, (49, 0, 0, 0, 38)), (38, (49, 0, 0, 0, 39)), (39, (25, 0, 0, 9, 42)), (42, (2, 2, 0, 0, 43)), (43, (35, 0, 0, 0, 44)), (44, (40, 27, 2, 199, 47)), (47, (9, 0, 0, 0, 48)), (48, (7, 0, 0, 0, 49)), (49, (3, 1, 0, 0, 50)), (50, (14, 2, 0, 1, 53)), (53, (17, 18, 0, 0, 56)), (56, (2, 1, 0, 0, 57)), (57, (44, 0, 0, 0, 0))]
-- GuidePlans.absent(II)I
def c_29 : List (Nat × Ins) := [(0, (49, 0, 0, 0, 1)), (1, (2, 1, 0, 0, 2)), (2, (40, 6, 2, 64, 5)), (5, (50, 3, 0, 0, 6)), (6, (2, 2, 0, 0, 7)), (7, (1, 0, 0, 96, 9)), (9, (40, 4, 2, 44, 12)), (12, (40, 2, 1, 55, 15)), (15, (49, 0, 0, 0, 16)), (16, (24, 0, 11, 183, 19)), (19, (18, 35, 0, 0, 22)), (22, (49, 0, 0, 0, 23)), (23, (24, 0, 5, 71, 26)), (26, (1, 0, 0, 20, 28)), (28, (19, 35, 3, 0, 31)), (31, (1, 0, 0, 1, 32)), (32, (17, 36, 0, 0, 35)), (35, (1, 0, 0, 0, 36)), (36, (40, 3, 1, 58, 39)), (39, (49, 3, 0, 0, 40)), (40, (25, 1, 2, 76, 43)), (43, (50, 4, 0, 0, 45)), (45, (49, 3, 0, 0, 46)), (46, (29, 3, 74, 0, 49)), (49, (5, 0, 0, 0, 50)), (50, (2, 2, 0, 0, 51)), (51, (1, 0, 0, 96, 53)), (53, (49, 4, 0, 0, 55)), (55, (40, 84, 4, 80, 58)), (58, (28, 1, 2, 76, 61)), (61, (49, 0, 0, 0, 62)), (62, (1, 0, 0, 1, 63)), (63, (27, 0, 15, 96, 66)), (66, (49, 0, 0, 0, 67)), (67, (40, 22, 1, 186, 70)), (70, (18, 81, 1, 0, 73)), (73, (49, 3, 0, 0, 74)), (74, (49, 4, 0, 0, 76)), (76, (28, 1, 2, 76, 79)), (79, (1, 0, 0, (-1), 80)), (80, (44, 0, 0, 0, 81)), (81, (49, 0, 0, 0, 82)), (82, (5, 0, 0, 0, 83)), (83, (24, 0, 5, 71, 86)), (86, (1, 0, 0, 1, 87)), (87, (7, 0, 0, 0, 88)), (88, (26, 0, 5, 71, 91)), (91, (49, 0, 0, 0, 92)), (92, (1, 0, 0, 0, 93)), (93, (26, 0, 6, 203, 96)), (96, (1, 0, 0, 0, 97)), (97, (3, 5, 0, 0, 99)), (99, (2, 5, 0, 0, 101)), (101, (49, 0, 0, 0, 102)), (102, (24, 0, 4, 52, 105)), (105, (19, 155, 3, 0, 108)), (108, (49, 0, 0, 0, 109)), (109, (25, 0, 1, 17, 112)), (112, (2, 5, 0, 0, 114)), (114, (35, 0, 0, 0, 115)), (115, (25, 2, 4, 114, 118)), (118, (49, 0, 0, 0, 119)), (119, (25, 0, 1, 17, 122)), (122, (2, 5, 0, 0, 124)), (124, (35, 0, 0, 0, 125)), (125, (25, 2, 6, 138, 128)), (128, (20, 149, 0, 0, 131)), (131, (49, 0, 0, 0, 132)), (132, (25, 0, 2, 21, 135)), (135, (49, 0, 0, 0, 136)), (136, (5, 0, 0, 0, 137)), (137, (24, 0, 6, 203, 140)), (140, (6, 0, 0, 0, 141)), (141, (1, 0, 0, 1, 142)), (142, (7, 0, 0, 0, 143)), (143, (26, 0, 6, 203, 146)), (146, (2, 5, 0, 0, 148)), (148, (32, 0, 0, 0, 149)), (149, (14, 5, 0, 1, 152)), (152, (17, 99, 0, 0, 155)), (155, (49, 0, 0, 0, 156)), (156, (40, 23, 1, 189, 159)), (159, (49, 0, 0, 0, 160)), (160, (24, 0, 6, 203, 163)), (163, (44, 0, 0, 0, 0))]
-- GuidePlans.changed(I)I
def c_30 : List (Nat × Ins) := [(0, (2, 1, 0, 0, 1)), (1, (49, 0, 0, 0, 2)), (2, (24, 0, 6, 203, 5)), (5, (40, 4, 2, 44, 8)), (8, (40, 1, 1, 48, 11)), (11, (49, 0, 0, 0, 12)), (12, (25, 0, 2, 21, 15)), (15, (2, 1, 0, 0, 16)), (16, (31, 0, 0, 0, 17)), (17, (44, 0, 0, 0, 0))]
-- GuidePlans.lieClear(LGuidePlans$Person;)Z
def c_31 : List (Nat × Ins) := [(0, (1, 0, 0, 0, 1)), (1, (3, 2, 0, 0, 2)), (2, (2, 2, 0, 0, 3)), (3, (49, 0, 0, 0, 4)), (4, (24, 0, 4, 52, 7)), (7, (19, 79, 3, 0, 10)), (10, (1, 0, 0, 0, 11)), (11, (3, 3, 0, 0, 12)), (12, (2, 3, 0, 0, 13)), (13, (2, 2, 0, 0, 14)), (14, (19, 73, 3, 0, 17)), (17, (49, 0, 0, 0, 18)), (18, (25, 0, 1, 17, 21)), (21, (2, 2, 0, 0, 22)), (22, (35, 0, 0, 0, 23)), (23, (25, 2, 4, 114, 26)), (26, (49, 1, 0, 0, 27)), (27, (20, 67, 1, 0, 30)), (30, (49, 0, 0, 0, 31)), (31, (25, 0, 1, 17, 34)), (34, (2, 3, 0, 0, 35)), (35, (35, 0, 0, 0, 36)), (36, (25, 2, 4, 114, 39)), (39, (49, 1, 0, 0, 40)), (40, (20, 67, 1, 0, 43)), (43, (49, 0, 0, 0, 44)), (44, (25, 0, 1, 17, 47)), (47, (2, 2, 0, 0, 48)), (48, (35, 0, 0, 0, 49)), (49, (49, 0, 0, 0, 50)), (50, (25, 0, 1, 17, 53)), (53, (2, 3, 0, 0, 54)), (54, (35, 0, 0, 0, 55)), (55, (49, 0, 0, 0, 56)), (56, (24, 0, 7, 90, 59)), (59, (40, 86, 3, 206, 62)), (62, (18, 67, 1, 0, 65)), (65, (1, 0, 0, 0, 66)), (66, (45, 0, 0, 0, 67)), (67, (14, 3, 0, 1, 70)), (70, (17, 12, 0, 0, 73)), (73, (14, 2, 0, 1, 76)), (76, (17, 2, 0, 0, 79)), (79, (1, 0, 0, 1, 80)), (80, (45, 0, 0, 0, 0))]
-- GuidePlans.quartersOf(LGuidePlans$Person;)I
def c_32 : List (Nat × Ins) := [(0, (1, 0, 0, 0, 1)), (1, (3, 2, 0, 0, 2)), (2, (1, 0, 0, 0, 3)), (3, (3, 3, 0, 0, 4)), (4, (2, 3, 0, 0, 5)), (5, (49, 0, 0, 0, 6)), (6, (24, 0, 4, 52, 9)), (9, (19, 43, 3, 0, 12)), (12, (49, 0, 0, 0, 13)), (13, (25, 0, 1, 17, 16)), (16, (2, 3, 0, 0, 17)), (17, (35, 0, 0, 0, 18)), (18, (25, 2, 4, 114, 21)), (21, (49, 1, 0, 0, 22)), (22, (20, 37, 1, 0, 25)), (25, (2, 2, 0, 0, 26)), (26, (49, 0, 0, 0, 27)), (27, (25, 0, 1, 17, 30)), (30, (2, 3, 0, 0, 31)), (31, (35, 0, 0, 0, 32)), (32, (40, 87, 1, 123, 35)), (35, (7, 0, 0, 0, 36)), (36, (3, 2, 0, 0, 37)), (37, (14, 3, 0, 1, 40)), (40, (17, 4, 0, 0, 43)), (43, (2, 2, 0, 0, 44)), (44, (44, 0, 0, 0, 0))]
-- GuidePlans.why(LGuidePlans$Task;LGuidePlans$Task;)I
def c_33 : List (Nat × Ins) := [(0, (49, 1, 0, 0, 1)), (1, (24, 2, 3, 144, 4)), (4, (18, 14, 0, 0, 7)), (7, (49, 1, 0, 0, 8)), (8, (25, 2, 4, 114, 11)), (11, (21, 28, 0, 0, 14)), (14, (49, 2, 0, 0, 15)), (15, (24, 2, 3, 144, 18)), (18, (18, 30, 0, 0, 21)), (21, (49, 2, 0, 0, 22)), (22, (25, 2, 4, 114, 25)), (25, (22, 30, 0, 0, 28)), (28, (1, 0, 0, 2, 29)), (29, (44, 0, 0, 0, 30)), (30, (49, 1, 0, 0, 31)), (31, (25, 2, 4, 114, 34)), (34, (21, 48, 0, 0, 37)), (37, (49, 1, 0, 0, 38)), (38, (25, 2, 4, 114, 41)), (41, (49, 1, 0, 0, 42)), (42, (40, 78, 2, 150, 45)), (45, (18, 66, 0, 0, 48)), (48, (49, 2, 0, 0, 49)), (49, (25, 2, 4, 114, 52)), (52, (21, 68, 0, 0, 55)), (55, (49, 2, 0, 0, 56)), (56, (25, 2, 4, 114, 59)), (59, (49, 2, 0, 0, 60)), (60, (40, 78, 2, 150, 63)), (63, (18, 68, 1, 0, 66)), (66, (1, 0, 0, 3, 67)), (67, (44, 0, 0, 0, 68)), (68, (49, 1, 0, 0, 69)), (69, (25, 2, 4, 114, 72)), (72, (21, 86, 0, 0, 75)), (75, (49, 0, 0, 0, 76)), (76, (49, 1, 0, 0, 77)), (77, (25, 2, 4, 114, 80)), (80, (40, 31, 2, 207, 83)), (83, (18, 104, 0, 0, 86)), (86, (49, 2, 0, 0, 87)), (87, (25, 2, 4, 114, 90)), (90, (21, 106, 0, 0, 93)), (93, (49, 0, 0, 0, 94)), (94, (49, 2, 0, 0, 95)), (95, (25, 2, 4, 114, 98)), (98, (40, 31, 2, 207, 101)), (101, (18, 106, 1, 0, 104)), (104, (1, 0, 0, 4, 105)), (105, (44, 0, 0, 0, 106)), (106, (49, 1, 0, 0, 107)), (107, (25, 2, 4, 114, 110)), (110, (21, 128, 0, 0, 113)), (113, (49, 0, 0, 0, 114)), (114, (49, 1, 0, 0, 115)), (115, (25, 2, 4, 114, 118)), (118, (40, 32, 2, 211, 121)), (121, (49, 0, 0, 0, 122)), (122, (24, 0, 9, 25, 125)), (125, (19, 150, 4, 0, 128)), (128, (49, 2, 0, 0, 129)), (129, (25, 2, 4, 114, 132)), (132, (21, 154, 0, 0, 135)), (135, (49, 0, 0, 0, 136)), (136, (49, 2, 0, 0, 137)), (137, (25, 2, 4, 114, 140)), (140, (40, 32, 2, 211, 143)), (143, (49, 0, 0, 0, 144)), (144, (24, 0, 9, 25, 147)), (147, (19, 154, 5, 0, 150)), (150, (1, 0, 0, 5, 151)), (151, (17, 155, 0, 0, 154)), (154, (1, 0, 0, 0, 155)), (155, (44, 0, 0, 0, 0))]
-- GuidePlans.exchange(LGuidePlans$Task;LGuidePlans$Task;)V
def c_34 : List (Nat × Ins) := [(0, (49, 0, 0, 0, 1)), (1, (25, 2, 4, 114, 4)), (4, (50, 2, 0, 0, 5)), (5, (49, 0, 0, 0, 6)), (6, (49, 1, 0, 0, 7)), (7, (25, 2, 4, 114, 10)), (10, (28, 2, 4, 114, 13)), (13, (49, 1, 0, 0, 14)), (14, (49, 2, 0, 0, 15)), (15, (28, 2, 4, 114, 18)), (18, (47, 0, 0, 0, 0))]
-- GuidePlans.swap(II)I
def c_35 : List (Nat × Ins) := [(0, (49, 0, 0, 0, 1)), (1, (2, 1, 0, 0, 2)), (2, (40, 7, 2, 192, 5)), (5, (50, 3, 0, 0, 6)), (6, (49, 0, 0, 0, 7)), (7, (2, 2, 0, 0, 8)), (8, (40, 7, 2, 192, 11)), (11, (50, 4, 0, 0, 13)), (13, (49, 0, 0, 0, 14)), (14, (24, 0, 11, 183, 17)), (17, (40, 3, 1, 58, 20)), (20, (49, 3, 0, 0, 21)), (21, (24, 2, 1, 100, 24)), (24, (49, 0, 0, 0, 25)), (25, (24, 0, 8, 93, 28)), (28, (19, 43, 2, 0, 31)), (31, (49, 4, 0, 0, 33)), (33, (24, 2, 1, 100, 36)), (36, (49, 0, 0, 0, 37)), (37, (24, 0, 8, 93, 40)), (40, (19, 45, 3, 0, 43)), (43, (1, 0, 0, 1, 44)), (44, (44, 0, 0, 0, 45)), (45, (49, 3, 0, 0, 46)), (46, (49, 4, 0, 0, 48)), (48, (40, 34, 2, 214, 51)), (51, (49, 0, 0, 0, 52)), (52, (49, 3, 0, 0, 53)), (53, (49, 4, 0, 0, 55)), (55, (40, 33, 3, 218, 58)), (58, (3, 5, 0, 0, 60)), (60, (2, 5, 0, 0, 62)), (62, (18, 71, 5, 0, 65)), (65, (49, 3, 0, 0, 66)), (66, (49, 4, 0, 0, 68)), (68, (40, 34, 2, 214, 71)), (71, (2, 5, 0, 0, 73)), (73, (44, 0, 0, 0, 0))]
-- GuidePlans.work(I)I
def c_36 : List (Nat × Ins) := [(0, (49, 0, 0, 0, 1)), (1, (49, 0, 0, 0, 2)), (2, (2, 1, 0, 0, 3)), (3, (40, 6, 2, 64, 6)), (6, (40, 32, 2, 211, 9)), (9, (44, 0, 0, 0, 0))]
-- GuidePlans.fair()I
def c_37 : List (Nat × Ins) := [(0, (1, 0, 0, 0, 1)), (1, (3, 1, 0, 0, 2)), (2, (1, 0, 0, 6, 4)), (4, (3, 2, 0, 0, 5)), (5, (1, 0, 0, 0, 6)), (6, (3, 3, 0, 0, 7)), (7, (2, 3, 0, 0, 8)), (8, (49, 0, 0, 0, 9)), (9, (24, 0, 3, 41, 12)), (12, (19, 47, 3, 0, 15)), (15, (49, 0, 0, 0, 16)), (16, (49, 0, 0, 0, 17)), (17, (25, 0, 0, 9, 20)), (20, (2, 3, 0, 0, 21)), (21, (35, 0, 0, 0, 22)), (22, (40, 27, 2, 199, 25)), (25, (3, 4, 0, 0, 27)), (27, (2, 1, 0, 0, 28)), (28, (2, 4, 0, 0, 30)), (30, (42, 222, 0, 0, 33)), (33, (3, 1, 0, 0, 34)), (34, (2, 2, 0, 0, 35)), (35, (2, 4, 0, 0, 37)), (37, (43, 228, 0, 0, 40)), (40, (3, 2, 0, 0, 41)), (41, (14, 3, 0, 1, 44)), (44, (17, 7, 0, 0, 47)), (47, (49, 0, 0, 0, 48)), (48, (24, 0, 3, 41, 51)), (51, (18, 58, 1, 0, 54)), (54, (1, 0, 0, 0, 55)), (55, (17, 61, 0, 0, 58)), (58, (2, 1, 0, 0, 59)), (59, (2, 2, 0, 0, 60)), (60, (8, 0, 0, 0, 61)), (61, (44, 0, 0, 0, 0))]
-- GuidePlans.count(I)I
def c_38 : List (Nat × Ins) := [(0, (2, 1, 0, 0, 1)), (1, (23, 0, 0, 0, 32)), (32, (49, 0, 0, 0, 33)), (33, (24, 0, 3, 41, 36)), (36, (44, 0, 0, 0, 37)), (37, (49, 0, 0, 0, 38)), (38, (24, 0, 4, 52, 41)), (41, (44, 0, 0, 0, 42)), (42, (49, 0, 0, 0, 43)), (43, (24, 0, 5, 71, 46)), (46, (44, 0, 0, 0, 47)), (47, (49, 0, 0, 0, 48)), (48, (24, 0, 6, 203, 51)), (51, (44, 0, 0, 0, 52)), (52, (48, 14, 32, 34, 55))]
-- GuidePlansModel.<init>()V
def c_39 : List (Nat × Ins) := [(0, (49, 0, 0, 0, 1)), (1, (41, 1, 0, 0, 4)), (4, (49, 0, 0, 0, 5)), (5, (1, 0, 0, 4, 6)), (6, (30, 7, 0, 0, 8)), (8, (28, 4, 2, 7, 11)), (11, (49, 0, 0, 0, 12)), (12, (1, 0, 0, 20, 14)), (14, (30, 9, 0, 0, 16)), (16, (28, 4, 4, 13, 19)), (19, (49, 0, 0, 0, 20)), (20, (1, 0, 0, 20, 22)), (22, (30, 9, 0, 0, 24)), (24, (28, 4, 5, 16, 27)), (27, (49, 0, 0, 0, 28)), (28, (1, 0, 0, 20, 30)), (30, (30, 9, 0, 0, 32)), (32, (28, 4, 6, 19, 35)), (35, (49, 0, 0, 0, 36)), (36, (1, 0, 0, 6, 38)), (38, (30, 8, 0, 0, 40)), (40, (28, 4, 8, 22, 43)), (43, (49, 0, 0, 0, 44)), (44, (1, 0, 0, 6, 46)), (46, (30, 8, 0, 0, 48)), (48, (28, 4, 9, 25, 51)), (51, (49, 0, 0, 0, 52)), (52, (1, 0, 0, 6, 54)), (54, (30, 8, 0, 0, 56)), (56, (28, 4, 10, 28, 59)), (59, (49, 0, 0, 0, 60)), (60, (1, 0, 0, 6, 62)), (62, (30, 10, 0, 0, 64)), (64, (28, 4, 11, 31, 67)), (67, (49, 0, 0, 0, 68)), (68, (1, 0, 0, 6, 70)), (70, (30, 8, 0, 0, 72)), (72, (28, 4, 12, 35, 75)), (75, (49, 0, 0, 0, 76)), (76, (1, 0, 0, 6, 78)), (78, (30, 8, 0, 0, 80)), (80, (28, 4, 13, 38, 83)), (83, (49, 0, 0, 0, 84)), (84, (1, 0, 0, 6, 86)), (86, (30, 8, 0, 0, 88)), (88, (28, 4, 14, 41, 91)), (91, (49, 0, 0, 0, 92)), (92, (1, 0, 0, 6, 94)), (94, (30, 10, 0, 0, 96)), (96, (28, 4, 15, 44, 99)), (99, (49, 0, 0, 0, 100)), (100, (1, 0, 0, 96, 102)), (102, (26, 4, 18, 47, 105)), (105, (49, 0, 0, 0, 106)), (106, (1, 0, 0, (-1), 107)), (107, (26, 4, 20, 51, 110)), (110, (49, 0, 0, 0, 111)), (111, (1, 0, 0, 6, 113)), (113, (30, 8, 0, 0, 115)), (115, (28, 4, 22, 54, 118)), (118, (1, 0, 0, 0, 119)), (119, (3, 1, 0, 0, 120)), (120, (2, 1, 0, 0, 121)), (121, (1, 0, 0, 6, 123)), (123, (19, 139, 3, 0, 126)), (126, (49, 0, 0, 0, 127)), (127, (25, 4, 12, 35, 130)), (130, (2, 1, 0, 0, 131)), (131, (1, 0, 0, (-1), 132)), (132, (32, 0, 0, 0, 133)), (133, (14, 1, 0, 1, 136)), (136, (17, 120, 0, 0, 139)), (139, (47, 0, 0, 0, 0))]
-- GuidePlansModel.thrown()I
def c_40 : List (Nat × Ins) := [(0, (49, 0, 0, 0, 1)), (1, (24, 4, 0, 57, 4)), (4, (44, 0, 0, 0, 0))]
-- GuidePlansModel.goes(ZZZ)Z
def c_41 : List (Nat × Ins) := [(0, (49, 0, 0, 0, 1)), (1, (2, 1, 0, 0, 2)), (2, (18, 9, 1, 0, 5)), (5, (1, 0, 0, 1, 6)), (6, (17, 26, 0, 0, 9)), (9, (2, 2, 0, 0, 10)), (10, (18, 17, 1, 0, 13)), (13, (1, 0, 0, 2, 14)), (14, (17, 26, 0, 0, 17)), (17, (2, 3, 0, 0, 18)), (18, (18, 25, 1, 0, 21)), (21, (1, 0, 0, 3, 22)), (22, (17, 26, 0, 0, 25)), (25, (1, 0, 0, 0, 26)), (26, (26, 4, 0, 57, 29)), (29, (49, 0, 0, 0, 30)), (30, (24, 4, 0, 57, 33)), (33, (18, 40, 1, 0, 36)), (36, (1, 0, 0, 1, 37)), (37, (17, 41, 0, 0, 40)), (40, (1, 0, 0, 0, 41)), (41, (45, 0, 0, 0, 0))]
-- GuidePlansModel.within(III)Z
def c_42 : List (Nat × Ins) := [(0, (2, 0, 0, 0, 1)), (1, (2, 1, 0, 0, 2)), (2, (19, 14, 2, 0, 5)), (5, (2, 0, 0, 0, 6)), (6, (2, 2, 0, 0, 7)), (7, (19, 14, 4, 0, 10)), (10, (1, 0, 0, 1, 11)), (11, (17, 15, 0, 0, 14)), (14, (1, 0, 0, 0, 15)), (15, (45, 0, 0, 0, 0))]
-- GuidePlansModel.isSpan(II)Z
def c_43 : List (Nat × Ins) := [(0, (2, 0, 0, 0, 1)), (1, (18, 19, 2, 0, 4)), (4, (2, 0, 0, 0, 5)), (5, (2, 1, 0, 0, 6)), (6, (19, 19, 3, 0, 9)), (9, (2, 1, 0, 0, 10)), (10, (1, 0, 0, 96, 12)), (12, (19, 19, 4, 0, 15)), (15, (1, 0, 0, 1, 16)), (16, (17, 20, 0, 0, 19)), (19, (1, 0, 0, 0, 20)), (20, (45, 0, 0, 0, 0))]
-- GuidePlansModel.isPerson(I)Z
def c_44 : List (Nat × Ins) := [(0, (2, 1, 0, 0, 1)), (1, (18, 16, 2, 0, 4)), (4, (2, 1, 0, 0, 5)), (5, (49, 0, 0, 0, 6)), (6, (24, 4, 1, 60, 9)), (9, (19, 16, 3, 0, 12)), (12, (1, 0, 0, 1, 13)), (13, (17, 17, 0, 0, 16)), (16, (1, 0, 0, 0, 17)), (17, (45, 0, 0, 0, 0))]
-- GuidePlansModel.isTask(I)Z
def c_45 : List (Nat × Ins) := [(0, (2, 1, 0, 0, 1)), (1, (18, 16, 2, 0, 4)), (4, (2, 1, 0, 0, 5)), (5, (49, 0, 0, 0, 6)), (6, (24, 4, 7, 63, 9)), (9, (19, 16, 3, 0, 12)), (12, (1, 0, 0, 1, 13)), (13, (17, 17, 0, 0, 16)), (16, (1, 0, 0, 0, 17)), (17, (45, 0, 0, 0, 0))]
-- GuidePlansModel.person(I)I
def c_46 : List (Nat × Ins) := [(0, (49, 0, 0, 0, 1)), (1, (2, 1, 0, 0, 2)), (2, (1, 0, 0, 0, 3)), (3, (1, 0, 0, 255, 6)), (6, (40, 42, 3, 66, 9)), (9, (49, 0, 0, 0, 10)), (10, (24, 4, 1, 60, 13)), (13, (1, 0, 0, 4, 14)), (14, (19, 21, 3, 0, 17)), (17, (1, 0, 0, 1, 18)), (18, (17, 22, 0, 0, 21)), (21, (1, 0, 0, 0, 22)), (22, (1, 0, 0, 1, 23)), (23, (40, 41, 4, 70, 26)), (26, (18, 31, 1, 0, 29)), (29, (1, 0, 0, 0, 30)), (30, (44, 0, 0, 0, 31)), (31, (49, 0, 0, 0, 32)), (32, (25, 4, 2, 7, 35)), (35, (49, 0, 0, 0, 36)), (36, (24, 4, 1, 60, 39)), (39, (2, 1, 0, 0, 40)), (40, (32, 0, 0, 0, 41)), (41, (49, 0, 0, 0, 42)), (42, (5, 0, 0, 0, 43)), (43, (24, 4, 1, 60, 46)), (46, (1, 0, 0, 1, 47)), (47, (7, 0, 0, 0, 48)), (48, (26, 4, 1, 60, 51)), (51, (49, 0, 0, 0, 52)), (52, (24, 4, 1, 60, 55)), (55, (1, 0, 0, 1, 56)), (56, (8, 0, 0, 0, 57)), (57, (44, 0, 0, 0, 0))]
-- GuidePlansModel.leave(III)V
def c_47 : List (Nat × Ins) := [(0, (49, 0, 0, 0, 1)), (1, (25, 4, 4, 13, 4)), (4, (49, 0, 0, 0, 5)), (5, (24, 4, 3, 74, 8)), (8, (2, 1, 0, 0, 9)), (9, (32, 0, 0, 0, 10)), (10, (49, 0, 0, 0, 11)), (11, (25, 4, 5, 16, 14)), (14, (49, 0, 0, 0, 15)), (15, (24, 4, 3, 74, 18)), (18, (2, 2, 0, 0, 19)), (19, (32, 0, 0, 0, 20)), (20, (49, 0, 0, 0, 21)), (21, (25, 4, 6, 19, 24)), (24, (49, 0, 0, 0, 25)), (25, (24, 4, 3, 74, 28)), (28, (2, 3, 0, 0, 29)), (29, (32, 0, 0, 0, 30)), (30, (49, 0, 0, 0, 31)), (31, (5, 0, 0, 0, 32)), (32, (24, 4, 3, 74, 35)), (35, (1, 0, 0, 1, 36)), (36, (7, 0, 0, 0, 37)), (37, (26, 4, 3, 74, 40)), (40, (47, 0, 0, 0, 0))]
-- GuidePlansModel.off(III)I
def c_48 : List (Nat × Ins) := [(0, (49, 0, 0, 0, 1)), (1, (49, 0, 0, 0, 2)), (2, (2, 1, 0, 0, 3)), (3, (40, 44, 2, 77, 6)), (6, (2, 2, 0, 0, 7)), (7, (2, 3, 0, 0, 8)), (8, (40, 43, 2, 81, 11)), (11, (49, 0, 0, 0, 12)), (12, (24, 4, 3, 74, 15)), (15, (1, 0, 0, 20, 17)), (17, (19, 24, 3, 0, 20)), (20, (1, 0, 0, 1, 21)), (21, (17, 25, 0, 0, 24)), (24, (1, 0, 0, 0, 25)), (25, (40, 41, 4, 70, 28)), (28, (18, 33, 1, 0, 31)), (31, (1, 0, 0, 0, 32)), (32, (44, 0, 0, 0, 33)), (33, (49, 0, 0, 0, 34)), (34, (2, 1, 0, 0, 35)), (35, (2, 2, 0, 0, 36)), (36, (2, 3, 0, 0, 37)), (37, (40, 47, 4, 85, 40)), (40, (49, 0, 0, 0, 41)), (41, (24, 4, 3, 74, 44)), (44, (44, 0, 0, 0, 0))]
-- GuidePlansModel.task(IIIZ)I
def c_49 : List (Nat × Ins) := [(0, (49, 0, 0, 0, 1)), (1, (2, 1, 0, 0, 2)), (2, (1, 0, 0, 0, 3)), (3, (1, 0, 0, 7, 5)), (5, (40, 42, 3, 66, 8)), (8, (2, 2, 0, 0, 9)), (9, (2, 3, 0, 0, 10)), (10, (40, 43, 2, 81, 13)), (13, (49, 0, 0, 0, 14)), (14, (24, 4, 7, 63, 17)), (17, (1, 0, 0, 6, 19)), (19, (19, 26, 3, 0, 22)), (22, (1, 0, 0, 1, 23)), (23, (17, 27, 0, 0, 26)), (26, (1, 0, 0, 0, 27)), (27, (40, 41, 4, 70, 30)), (30, (18, 35, 1, 0, 33)), (33, (1, 0, 0, 0, 34)), (34, (44, 0, 0, 0, 35)), (35, (49, 0, 0, 0, 36)), (36, (25, 4, 8, 22, 39)), (39, (49, 0, 0, 0, 40)), (40, (24, 4, 7, 63, 43)), (43, (2, 1, 0, 0, 44)), (44, (32, 0, 0, 0, 45)), (45, (49, 0, 0, 0, 46)), (46, (25, 4, 9, 25, 49)), (49, (49, 0, 0, 0, 50)), (50, (24, 4, 7, 63, 53)), (53, (2, 2, 0, 0, 54)), (54, (32, 0, 0, 0, 55)), (55, (49, 0, 0, 0, 56)), (56, (25, 4, 10, 28, 59)), (59, (49, 0, 0, 0, 60)), (60, (24, 4, 7, 63, 63)), (63, (2, 3, 0, 0, 64)), (64, (32, 0, 0, 0, 65)), (65, (49, 0, 0, 0, 66)), (66, (25, 4, 11, 31, 69)), (69, (49, 0, 0, 0, 70)), (70, (24, 4, 7, 63, 73)), (73, (2, 4, 0, 0, 75)), (75, (34, 0, 0, 0, 76)), (76, (49, 0, 0, 0, 77)), (77, (25, 4, 12, 35, 80)), (80, (49, 0, 0, 0, 81)), (81, (24, 4, 7, 63, 84)), (84, (1, 0, 0, (-1), 85)), (85, (32, 0, 0, 0, 86)), (86, (49, 0, 0, 0, 87)), (87, (5, 0, 0, 0, 88)), (88, (24, 4, 7, 63, 91)), (91, (1, 0, 0, 1, 92)), (92, (7, 0, 0, 0, 93)), (93, (26, 4, 7, 63, 96)), (96, (49, 0, 0, 0, 97)), (97, (24, 4, 7, 63, 100)), (100, (1, 0, 0, 1, 101)), (101, (8, 0, 0, 0, 102)), (102, (44, 0, 0, 0, 0))]
-- GuidePlansModel.rest(I)I
def c_50 : List (Nat × Ins) := [(0, (49, 0, 0, 0, 1)), (1, (2, 1, 0, 0, 2)), (2, (1, 0, 0, 0, 3)), (3, (1, 0, 0, 96, 5)), (5, (40, 42, 3, 66, 8)), (8, (1, 0, 0, 1, 9)), (9, (1, 0, 0, 1, 10)), (10, (40, 41, 4, 70, 13)), (13, (18, 18, 1, 0, 16)), (16, (1, 0, 0, 0, 17)), (17, (44, 0, 0, 0, 18)), (18, (49, 0, 0, 0, 19)), (19, (24, 4, 17, 89, 22)), (22, (3, 2, 0, 0, 23)), (23, (49, 0, 0, 0, 24)), (24, (2, 1, 0, 0, 25)), (25, (26, 4, 17, 89, 28)), (28, (2, 2, 0, 0, 29)), (29, (44, 0, 0, 0, 0))]
-- GuidePlansModel.limit(I)I
def c_51 : List (Nat × Ins) := [(0, (49, 0, 0, 0, 1)), (1, (2, 1, 0, 0, 2)), (2, (1, 0, 0, 0, 3)), (3, (1, 0, 0, 96, 5)), (5, (40, 42, 3, 66, 8)), (8, (1, 0, 0, 1, 9)), (9, (1, 0, 0, 1, 10)), (10, (40, 41, 4, 70, 13)), (13, (18, 18, 1, 0, 16)), (16, (1, 0, 0, 0, 17)), (17, (44, 0, 0, 0, 18)), (18, (49, 0, 0, 0, 19)), (19, (24, 4, 18, 47, 22)), (22, (3, 2, 0, 0, 23)), (23, (49, 0, 0, 0, 24)), (24, (2, 1, 0, 0, 25)), (25, (26, 4, 18, 47, 28)), (28, (2, 2, 0, 0, 29)), (29, (44, 0, 0, 0, 0))]
-- GuidePlansModel.freeze(I)I
def c_52 : List (Nat × Ins) := [(0, (49, 0, 0, 0, 1)), (1, (2, 1, 0, 0, 2)), (2, (1, 0, 0, 0, 3)), (3, (1, 0, 0, 96, 5)), (5, (40, 42, 3, 66, 8)), (8, (1, 0, 0, 1, 9)), (9, (1, 0, 0, 1, 10)), (10, (40, 41, 4, 70, 13)), (13, (18, 18, 1, 0, 16)), (16, (1, 0, 0, 0, 17)), (17, (44, 0, 0, 0, 18)), (18, (49, 0, 0, 0, 19)), (19, (24, 4, 19, 92, 22)), (22, (3, 2, 0, 0, 23)), (23, (49, 0, 0, 0, 24)), (24, (2, 1, 0, 0, 25)), (25, (26, 4, 19, 92, 28)), (28, (2, 2, 0, 0, 29)), (29, (44, 0, 0, 0, 0))]
-- GuidePlansModel.suits(II)Z
def c_53 : List (Nat × Ins) := [(0, (49, 0, 0, 0, 1)), (1, (25, 4, 2, 7, 4)), (4, (2, 1, 0, 0, 5)), (5, (31, 0, 0, 0, 6)), (6, (49, 0, 0, 0, 7)), (7, (25, 4, 8, 22, 10)), (10, (2, 2, 0, 0, 11)), (11, (31, 0, 0, 0, 12)), (12, (13, 0, 0, 0, 13)), (13, (1, 0, 0, 1, 14)), (14, (12, 0, 0, 0, 15)), (15, (1, 0, 0, 1, 16)), (16, (19, 23, 1, 0, 19)), (19, (1, 0, 0, 1, 20)), (20, (17, 24, 0, 0, 23)), (23, (1, 0, 0, 0, 24)), (24, (3, 3, 0, 0, 25)), (25, (1, 0, 0, 0, 26)), (26, (3, 4, 0, 0, 28)), (28, (2, 4, 0, 0, 30)), (30, (49, 0, 0, 0, 31)), (31, (24, 4, 3, 74, 34)), (34, (19, 96, 3, 0, 37)), (37, (2, 3, 0, 0, 38)), (38, (18, 88, 0, 0, 41)), (41, (49, 0, 0, 0, 42)), (42, (25, 4, 4, 13, 45)), (45, (2, 4, 0, 0, 47)), (47, (31, 0, 0, 0, 48)), (48, (2, 1, 0, 0, 49)), (49, (19, 84, 1, 0, 52)), (52, (49, 0, 0, 0, 53)), (53, (25, 4, 5, 16, 56)), (56, (2, 4, 0, 0, 58)), (58, (31, 0, 0, 0, 59)), (59, (49, 0, 0, 0, 60)), (60, (25, 4, 10, 28, 63)), (63, (2, 2, 0, 0, 64)), (64, (31, 0, 0, 0, 65)), (65, (19, 84, 3, 0, 68)), (68, (49, 0, 0, 0, 69)), (69, (25, 4, 9, 25, 72)), (72, (2, 2, 0, 0, 73)), (73, (31, 0, 0, 0, 74)), (74, (49, 0, 0, 0, 75)), (75, (25, 4, 6, 19, 78)), (78, (2, 4, 0, 0, 80)), (80, (31, 0, 0, 0, 81)), (81, (19, 88, 2, 0, 84)), (84, (1, 0, 0, 1, 85)), (85, (17, 89, 0, 0, 88)), (88, (1, 0, 0, 0, 89)), (89, (3, 3, 0, 0, 90)), (90, (14, 4, 0, 1, 93)), (93, (17, 28, 0, 0, 96)), (96, (2, 3, 0, 0, 97)), (97, (45, 0, 0, 0, 0))]
-- GuidePlansModel.isNear(II)Z
def c_54 : List (Nat × Ins) := [(0, (49, 0, 0, 0, 1)), (1, (25, 4, 9, 25, 4)), (4, (2, 2, 0, 0, 5)), (5, (31, 0, 0, 0, 6)), (6, (49, 0, 0, 0, 7)), (7, (25, 4, 10, 28, 10)), (10, (2, 1, 0, 0, 11)), (11, (31, 0, 0, 0, 12)), (12, (49, 0, 0, 0, 13)), (13, (24, 4, 17, 89, 16)), (16, (7, 0, 0, 0, 17)), (17, (19, 44, 3, 0, 20)), (20, (49, 0, 0, 0, 21)), (21, (25, 4, 9, 25, 24)), (24, (2, 1, 0, 0, 25)), (25, (31, 0, 0, 0, 26)), (26, (49, 0, 0, 0, 27)), (27, (25, 4, 10, 28, 30)), (30, (2, 2, 0, 0, 31)), (31, (31, 0, 0, 0, 32)), (32, (49, 0, 0, 0, 33)), (33, (24, 4, 17, 89, 36)), (36, (7, 0, 0, 0, 37)), (37, (19, 44, 3, 0, 40)), (40, (1, 0, 0, 1, 41)), (41, (17, 45, 0, 0, 44)), (44, (1, 0, 0, 0, 45)), (45, (45, 0, 0, 0, 0))]
-- GuidePlansModel.hasNear(I)Z
def c_55 : List (Nat × Ins) := [(0, (1, 0, 0, 0, 1)), (1, (3, 2, 0, 0, 2)), (2, (1, 0, 0, 0, 3)), (3, (3, 3, 0, 0, 4)), (4, (2, 3, 0, 0, 5)), (5, (49, 0, 0, 0, 6)), (6, (24, 4, 7, 63, 9)), (9, (19, 74, 3, 0, 12)), (12, (1, 0, 0, 0, 13)), (13, (3, 4, 0, 0, 15)), (15, (2, 4, 0, 0, 17)), (17, (2, 3, 0, 0, 18)), (18, (19, 68, 3, 0, 21)), (21, (2, 2, 0, 0, 22)), (22, (18, 56, 1, 0, 25)), (25, (49, 0, 0, 0, 26)), (26, (25, 4, 13, 38, 29)), (29, (2, 3, 0, 0, 30)), (30, (31, 0, 0, 0, 31)), (31, (2, 1, 0, 0, 32)), (32, (19, 60, 1, 0, 35)), (35, (49, 0, 0, 0, 36)), (36, (25, 4, 13, 38, 39)), (39, (2, 4, 0, 0, 41)), (41, (31, 0, 0, 0, 42)), (42, (2, 1, 0, 0, 43)), (43, (19, 60, 1, 0, 46)), (46, (49, 0, 0, 0, 47)), (47, (2, 3, 0, 0, 48)), (48, (2, 4, 0, 0, 50)), (50, (40, 54, 3, 95, 53)), (53, (18, 60, 0, 0, 56)), (56, (1, 0, 0, 1, 57)), (57, (17, 61, 0, 0, 60)), (60, (1, 0, 0, 0, 61)), (61, (3, 2, 0, 0, 62)), (62, (14, 4, 0, 1, 65)), (65, (17, 15, 0, 0, 68)), (68, (14, 3, 0, 1, 71)), (71, (17, 4, 0, 0, 74)), (74, (2, 2, 0, 0, 75)), (75, (45, 0, 0, 0, 0))]
-- GuidePlansModel.quarters(I)I
def c_56 : List (Nat × Ins) := [(0, (1, 0, 0, 0, 1)), (1, (3, 2, 0, 0, 2)), (2, (1, 0, 0, 0, 3)), (3, (3, 3, 0, 0, 4)), (4, (2, 3, 0, 0, 5)), (5, (49, 0, 0, 0, 6)), (6, (24, 4, 7, 63, 9)), (9, (19, 48, 3, 0, 12)), (12, (49, 0, 0, 0, 13)), (13, (25, 4, 13, 38, 16)), (16, (2, 3, 0, 0, 17)), (17, (31, 0, 0, 0, 18)), (18, (2, 1, 0, 0, 19)), (19, (19, 40, 1, 0, 22)), (22, (2, 2, 0, 0, 23)), (23, (49, 0, 0, 0, 24)), (24, (25, 4, 10, 28, 27)), (27, (2, 3, 0, 0, 28)), (28, (31, 0, 0, 0, 29)), (29, (7, 0, 0, 0, 30)), (30, (49, 0, 0, 0, 31)), (31, (25, 4, 9, 25, 34)), (34, (2, 3, 0, 0, 35)), (35, (31, 0, 0, 0, 36)), (36, (8, 0, 0, 0, 37)), (37, (17, 41, 0, 0, 40)), (40, (2, 2, 0, 0, 41)), (41, (3, 2, 0, 0, 42)), (42, (14, 3, 0, 1, 45)), (45, (17, 4, 0, 0, 48)), (48, (2, 2, 0, 0, 49)), (49, (44, 0, 0, 0, 0))]
-- GuidePlansModel.costOf()I
def c_57 : List (Nat × Ins) := [(0, (1, 0, 0, 0, 1)), (1, (3, 1, 0, 0, 2)), (2, (1, 0, 0, (-1), 3)), (3, (3, 2, 0, 0, 4)), (4, (2, 2, 0, 0, 5)), (5, (49, 0, 0, 0, 6)), (6, (24, 4, 1, 60, 9)), (9, (19, 75, 3, 0, 12)), (12, (1, 0, 0, 0, 13)), (13, (3, 3, 0, 0, 14)), (14, (1, 0, 0, 0, 15)), (15, (3, 4, 0, 0, 17)), (17, (2, 4, 0, 0, 19)), (19, (49, 0, 0, 0, 20)), (20, (24, 4, 7, 63, 23)), (23, (19, 51, 3, 0, 26)), (26, (49, 0, 0, 0, 27)), (27, (25, 4, 13, 38, 30)), (30, (2, 4, 0, 0, 32)), (32, (31, 0, 0, 0, 33)), (33, (2, 2, 0, 0, 34)), (34, (19, 43, 1, 0, 37)), (37, (2, 3, 0, 0, 38)), (38, (1, 0, 0, 1, 39)), (39, (7, 0, 0, 0, 40)), (40, (17, 44, 0, 0, 43)), (43, (2, 3, 0, 0, 44)), (44, (3, 3, 0, 0, 45)), (45, (14, 4, 0, 1, 48)), (48, (17, 17, 0, 0, 51)), (51, (2, 1, 0, 0, 52)), (52, (2, 2, 0, 0, 53)), (53, (1, 0, 0, (-1), 54)), (54, (19, 64, 1, 0, 57)), (57, (1, 0, 0, 100, 59)), (59, (2, 3, 0, 0, 60)), (60, (9, 0, 0, 0, 61)), (61, (17, 67, 0, 0, 64)), (64, (2, 3, 0, 0, 65)), (65, (2, 3, 0, 0, 66)), (66, (9, 0, 0, 0, 67)), (67, (7, 0, 0, 0, 68)), (68, (3, 1, 0, 0, 69)), (69, (14, 2, 0, 1, 72)), (72, (17, 4, 0, 0, 75)), (75, (2, 1, 0, 0, 76)), (76, (44, 0, 0, 0, 0))]
-- GuidePlansModel.may()Z
def c_58 : List (Nat × Ins) := [(0, (1, 0, 0, 1, 1)), (1, (3, 1, 0, 0, 2)), (2, (1, 0, 0, 0, 3)), (3, (3, 2, 0, 0, 4)), (4, (2, 2, 0, 0, 5)), (5, (49, 0, 0, 0, 6)), (6, (24, 4, 7, 63, 9)), (9, (19, 84, 3, 0, 12)), (12, (2, 1, 0, 0, 13)), (13, (18, 84, 0, 0, 16)), (16, (49, 0, 0, 0, 17)), (17, (25, 4, 15, 44, 20)), (20, (2, 2, 0, 0, 21)), (21, (33, 0, 0, 0, 22)), (22, (18, 48, 0, 0, 25)), (25, (49, 0, 0, 0, 26)), (26, (25, 4, 13, 38, 29)), (29, (2, 2, 0, 0, 30)), (30, (31, 0, 0, 0, 31)), (31, (49, 0, 0, 0, 32)), (32, (25, 4, 12, 35, 35)), (35, (2, 2, 0, 0, 36)), (36, (31, 0, 0, 0, 37)), (37, (19, 44, 1, 0, 40)), (40, (1, 0, 0, 1, 41)), (41, (17, 77, 0, 0, 44)), (44, (1, 0, 0, 0, 45)), (45, (17, 77, 0, 0, 48)), (48, (49, 0, 0, 0, 49)), (49, (25, 4, 13, 38, 52)), (52, (2, 2, 0, 0, 53)), (53, (31, 0, 0, 0, 54)), (54, (1, 0, 0, (-1), 55)), (55, (19, 72, 0, 0, 58)), (58, (49, 0, 0, 0, 59)), (59, (49, 0, 0, 0, 60)), (60, (25, 4, 13, 38, 63)), (63, (2, 2, 0, 0, 64)), (64, (31, 0, 0, 0, 65)), (65, (2, 2, 0, 0, 66)), (66, (40, 53, 3, 98, 69)), (69, (18, 76, 0, 0, 72)), (72, (1, 0, 0, 1, 73)), (73, (17, 77, 0, 0, 76)), (76, (1, 0, 0, 0, 77)), (77, (3, 1, 0, 0, 78)), (78, (14, 2, 0, 1, 81)), (81, (17, 4, 0, 0, 84)), (84, (1, 0, 0, 0, 85)), (85, (3, 2, 0, 0, 86)), (86, (2, 2, 0, 0, 87)), (87, (49, 0, 0, 0, 88)), (88, (24, 4, 1, 60, 91)), (91, (19, 130, 3, 0, 94)), (94, (2, 1, 0, 0, 95)), (95, (18, 130, 0, 0, 98)), (98, (49, 0, 0, 0, 99)), (99, (2, 2, 0, 0, 100)), (100, (40, 56, 2, 101, 103)), (103, (49, 0, 0, 0, 104)), (104, (24, 4, 18, 47, 107)), (107, (19, 122, 4, 0, 110)), (110, (49, 0, 0, 0, 111)), (111, (2, 2, 0, 0, 112)), (112, (40, 55, 2, 105, 115)), (115, (18, 122, 1, 0, 118)), (118, (1, 0, 0, 1, 119)), (119, (17, 123, 0, 0, 122)), (122, (1, 0, 0, 0, 123)), (123, (3, 1, 0, 0, 124)), (124, (14, 2, 0, 1, 127)), (127, (17, 86, 0, 0, 130)), (130, (2, 1, 0, 0, 131)), (131, (45, 0, 0, 0, 0))]
-- GuidePlansModel.full()I
def c_59 : List (Nat × Ins) := [(0, (1, 0, 0, 0, 1)), (1, (3, 1, 0, 0, 2)), (2, (2, 1, 0, 0, 3)), (3, (49, 0, 0, 0, 4)), (4, (24, 4, 7, 63, 7)), (7, (19, 35, 3, 0, 10)), (10, (49, 0, 0, 0, 11)), (11, (25, 4, 11, 31, 14)), (14, (2, 1, 0, 0, 15)), (15, (33, 0, 0, 0, 16)), (16, (18, 29, 0, 0, 19)), (19, (49, 0, 0, 0, 20)), (20, (25, 4, 13, 38, 23)), (23, (2, 1, 0, 0, 24)), (24, (31, 0, 0, 0, 25)), (25, (1, 0, 0, (-1), 26)), (26, (19, 35, 0, 0, 29)), (29, (14, 1, 0, 1, 32)), (32, (17, 2, 0, 0, 35)), (35, (2, 1, 0, 0, 36)), (36, (44, 0, 0, 0, 0))]
-- GuidePlansModel.differences()I
def c_60 : List (Nat × Ins) := [(0, (1, 0, 0, 0, 1)), (1, (3, 1, 0, 0, 2)), (2, (1, 0, 0, 0, 3)), (3, (3, 2, 0, 0, 4)), (4, (2, 2, 0, 0, 5)), (5, (49, 0, 0, 0, 6)), (6, (24, 4, 7, 63, 9)), (9, (19, 41, 3, 0, 12)), (12, (49, 0, 0, 0, 13)), (13, (25, 4, 13, 38, 16)), (16, (2, 2, 0, 0, 17)), (17, (31, 0, 0, 0, 18)), (18, (49, 0, 0, 0, 19)), (19, (25, 4, 12, 35, 22)), (22, (2, 2, 0, 0, 23)), (23, (31, 0, 0, 0, 24)), (24, (19, 33, 0, 0, 27)), (27, (2, 1, 0, 0, 28)), (28, (1, 0, 0, 1, 29)), (29, (7, 0, 0, 0, 30)), (30, (17, 34, 0, 0, 33)), (33, (2, 1, 0, 0, 34)), (34, (3, 1, 0, 0, 35)), (35, (14, 2, 0, 1, 38)), (38, (17, 4, 0, 0, 41)), (41, (2, 1, 0, 0, 42)), (42, (44, 0, 0, 0, 0))]
-- GuidePlansModel.seek(Z)V
def c_61 : List (Nat × Ins) := [(0, (49, 0, 0, 0, 1)), (1, (24, 4, 1, 60, 4)), (4, (1, 0, 0, 1, 5)), (5, (7, 0, 0, 0, 6)), (6, (3, 2, 0, 0, 7)), (7, (1, 0, 0, 1, 8)), (8, (3, 3, 0, 0, 9)), (9, (1, 0, 0, 0, 10)), (10, (3, 4, 0, 0, 12)), (12, (2, 4, 0, 0, 14)), (14, (49, 0, 0, 0, 15)), (15, (24, 4, 7, 63, 18)), (18, (19, 31, 3, 0, 21)), (21, (2, 3, 0, 0, 22)), (22, (2, 2, 0, 0, 23)), (23, (9, 0, 0, 0, 24)), (24, (3, 3, 0, 0, 25)), (25, (14, 4, 0, 1, 28)), (28, (17, 12, 0, 0, 31)), (31, (49, 0, 0, 0, 32)), (32, (1, 0, 0, 0, 33)), (33, (27, 4, 23, 108, 36)), (36, (49, 0, 0, 0, 37)), (37, (1, 0, 0, (-1), 38)), (38, (26, 4, 26, 112, 41)), (41, (1, 0, 0, 0, 42)), (42, (3, 4, 0, 0, 44)), (44, (2, 4, 0, 0, 46)), (46, (2, 3, 0, 0, 47)), (47, (19, 223, 3, 0, 50)), (50, (2, 4, 0, 0, 52)), (52, (3, 5, 0, 0, 54)), (54, (49, 0, 0, 0, 55)), (55, (24, 4, 7, 63, 58)), (58, (1, 0, 0, 1, 59)), (59, (8, 0, 0, 0, 60)), (60, (3, 6, 0, 0, 62)), (62, (2, 6, 0, 0, 64)), (64, (18, 105, 2, 0, 67)), (67, (49, 0, 0, 0, 68)), (68, (25, 4, 13, 38, 71)), (71, (2, 6, 0, 0, 73)), (73, (2, 5, 0, 0, 75)), (75, (2, 2, 0, 0, 76)), (76, (11, 0, 0, 0, 77)), (77, (49, 0, 0, 0, 78)), (78, (24, 4, 1, 60, 81)), (81, (19, 88, 1, 0, 84)), (84, (1, 0, 0, (-1), 85)), (85, (17, 92, 0, 0, 88)), (88, (2, 5, 0, 0, 90)), (90, (2, 2, 0, 0, 91)), (91, (11, 0, 0, 0, 92)), (92, (32, 0, 0, 0, 93)), (93, (2, 5, 0, 0, 95)), (95, (2, 2, 0, 0, 96)), (96, (10, 0, 0, 0, 97)), (97, (3, 5, 0, 0, 99)), (99, (14, 6, 0, (-1), 102)), (102, (17, 62, 0, 0, 105)), (105, (49, 0, 0, 0, 106)), (106, (40, 58, 1, 115, 109)), (109, (18, 217, 0, 0, 112)), (112, (49, 0, 0, 0, 113)), (113, (49, 0, 0, 0, 114)), (114, (40, 59, 1, 119, 117)), (117, (49, 0, 0, 0, 118)), (118, (24, 4, 26, 112, 121)), (121, (19, 131, 5, 0, 124)), (124, (49, 0, 0, 0, 125)), (125, (40, 59, 1, 119, 128)), (128, (17, 135, 0, 0, 131)), (131, (49, 0, 0, 0, 132)), (132, (24, 4, 26, 112, 135)), (135, (26, 4, 26, 112, 138)), (138, (2, 1, 0, 0, 139)), (139, (18, 149, 0, 0, 142)), (142, (49, 0, 0, 0, 143)), (143, (40, 60, 1, 123, 146)), (146, (17, 150, 0, 0, 149)), (149, (1, 0, 0, 0, 150)), (150, (3, 6, 0, 0, 152)), (152, (49, 0, 0, 0, 153)), (153, (40, 59, 1, 119, 156)), (156, (49, 0, 0, 0, 157)), (157, (24, 4, 7, 63, 160)), (160, (19, 203, 1, 0, 163)), (163, (49, 0, 0, 0, 164)), (164, (24, 4, 23, 108, 167)), (167, (18, 199, 0, 0, 170)), (170, (2, 6, 0, 0, 172)), (172, (49, 0, 0, 0, 173)), (173, (24, 4, 24, 126, 176)), (176, (19, 199, 2, 0, 179)), (179, (2, 6, 0, 0, 181)), (181, (49, 0, 0, 0, 182)), (182, (24, 4, 24, 126, 185)), (185, (19, 203, 1, 0, 188)), (188, (49, 0, 0, 0, 189)), (189, (40, 57, 1, 129, 192)), (192, (49, 0, 0, 0, 193)), (193, (24, 4, 25, 132, 196)), (196, (19, 203, 3, 0, 199)), (199, (1, 0, 0, 1, 200)), (200, (17, 204, 0, 0, 203)), (203, (1, 0, 0, 0, 204)), (204, (3, 7, 0, 0, 206)), (206, (2, 7, 0, 0, 208)), (208, (18, 217, 0, 0, 211)), (211, (49, 0, 0, 0, 212)), (212, (2, 6, 0, 0, 214)), (214, (40, 62, 2, 135, 217)), (217, (14, 4, 0, 1, 220)), (220, (17, 44, 0, 0, 223)), (223, (47, 0, 0, 0, 0))]
-- GuidePlansModel.keep(I)V
def c_62 : List (Nat × Ins) := [(0, (49, 0, 0, 0, 1)), (1, (1, 0, 0, 1, 2)), (2, (27, 4, 23, 108, 5)), (5, (49, 0, 0, 0, 6)), (6, (2, 1, 0, 0, 7)), (7, (26, 4, 24, 126, 10)), (10, (49, 0, 0, 0, 11)), (11, (49, 0, 0, 0, 12)), (12, (40, 57, 1, 129, 15)), (15, (26, 4, 25, 132, 18)), (18, (1, 0, 0, 0, 19)), (19, (3, 2, 0, 0, 20)), (20, (2, 2, 0, 0, 21)), (21, (49, 0, 0, 0, 22)), (22, (24, 4, 7, 63, 25)), (25, (19, 46, 3, 0, 28)), (28, (49, 0, 0, 0, 29)), (29, (25, 4, 14, 41, 32)), (32, (2, 2, 0, 0, 33)), (33, (49, 0, 0, 0, 34)), (34, (25, 4, 13, 38, 37)), (37, (2, 2, 0, 0, 38)), (38, (31, 0, 0, 0, 39)), (39, (32, 0, 0, 0, 40)), (40, (14, 2, 0, 1, 43)), (43, (17, 20, 0, 0, 46)), (46, (47, 0, 0, 0, 0))]
-- GuidePlansModel.tell()V
def c_63 : List (Nat × Ins) := [(0, (49, 0, 0, 0, 1)), (1, (1, 0, 0, (-1), 2)), (2, (26, 4, 20, 51, 5)), (5, (49, 0, 0, 0, 6)), (6, (24, 4, 23, 108, 9)), (9, (18, 13, 0, 0, 12)), (12, (47, 0, 0, 0, 13)), (13, (49, 0, 0, 0, 14)), (14, (24, 4, 7, 63, 17)), (17, (1, 0, 0, 1, 18)), (18, (8, 0, 0, 0, 19)), (19, (3, 1, 0, 0, 20)), (20, (2, 1, 0, 0, 21)), (21, (18, 64, 2, 0, 24)), (24, (2, 1, 0, 0, 25)), (25, (49, 0, 0, 0, 26)), (26, (24, 4, 26, 112, 29)), (29, (19, 64, 2, 0, 32)), (32, (49, 0, 0, 0, 33)), (33, (49, 0, 0, 0, 34)), (34, (25, 4, 11, 31, 37)), (37, (2, 1, 0, 0, 38)), (38, (33, 0, 0, 0, 39)), (39, (18, 51, 0, 0, 42)), (42, (49, 0, 0, 0, 43)), (43, (25, 4, 9, 25, 46)), (46, (2, 1, 0, 0, 47)), (47, (31, 0, 0, 0, 48)), (48, (17, 55, 0, 0, 51)), (51, (49, 0, 0, 0, 52)), (52, (24, 4, 20, 51, 55)), (55, (26, 4, 20, 51, 58)), (58, (14, 1, 0, (-1), 61)), (61, (17, 20, 0, 0, 64)), (64, (47, 0, 0, 0, 0))]
-- GuidePlansModel.run()I
def c_64 : List (Nat × Ins) := [(0, (49, 0, 0, 0, 1)), (1, (1, 0, 0, 0, 2)), (2, (26, 4, 0, 57, 5)), (5, (1, 0, 0, 0, 6)), (6, (3, 1, 0, 0, 7)), (7, (2, 1, 0, 0, 8)), (8, (1, 0, 0, 6, 10)), (10, (19, 26, 3, 0, 13)), (13, (49, 0, 0, 0, 14)), (14, (25, 4, 15, 44, 17)), (17, (2, 1, 0, 0, 18)), (18, (1, 0, 0, 0, 19)), (19, (34, 0, 0, 0, 20)), (20, (14, 1, 0, 1, 23)), (23, (17, 7, 0, 0, 26)), (26, (49, 0, 0, 0, 27)), (27, (1, 0, 0, 0, 28)), (28, (40, 61, 2, 139, 31)), (31, (49, 0, 0, 0, 32)), (32, (40, 63, 1, 143, 35)), (35, (49, 0, 0, 0, 36)), (36, (24, 4, 23, 108, 39)), (39, (18, 44, 1, 0, 42)), (42, (1, 0, 0, (-1), 43)), (43, (44, 0, 0, 0, 44)), (44, (1, 0, 0, 0, 45)), (45, (3, 1, 0, 0, 46)), (46, (2, 1, 0, 0, 47)), (47, (49, 0, 0, 0, 48)), (48, (24, 4, 7, 63, 51)), (51, (19, 72, 3, 0, 54)), (54, (49, 0, 0, 0, 55)), (55, (25, 4, 12, 35, 58)), (58, (2, 1, 0, 0, 59)), (59, (49, 0, 0, 0, 60)), (60, (25, 4, 14, 41, 63)), (63, (2, 1, 0, 0, 64)), (64, (31, 0, 0, 0, 65)), (65, (32, 0, 0, 0, 66)), (66, (14, 1, 0, 1, 69)), (69, (17, 46, 0, 0, 72)), (72, (49, 0, 0, 0, 73)), (73, (1, 0, 0, 1, 74)), (74, (27, 4, 16, 146, 77)), (77, (49, 0, 0, 0, 78)), (78, (24, 4, 25, 132, 81)), (81, (44, 0, 0, 0, 0))]
-- GuidePlansModel.told()I
def c_65 : List (Nat × Ins) := [(0, (49, 0, 0, 0, 1)), (1, (1, 0, 0, 0, 2)), (2, (26, 4, 0, 57, 5)), (5, (49, 0, 0, 0, 6)), (6, (24, 4, 20, 51, 9)), (9, (44, 0, 0, 0, 0))]
-- GuidePlansModel.of(I)I
def c_66 : List (Nat × Ins) := [(0, (49, 0, 0, 0, 1)), (1, (49, 0, 0, 0, 2)), (2, (2, 1, 0, 0, 3)), (3, (40, 45, 2, 149, 6)), (6, (1, 0, 0, 1, 7)), (7, (1, 0, 0, 1, 8)), (8, (40, 41, 4, 70, 11)), (11, (18, 23, 0, 0, 14)), (14, (49, 0, 0, 0, 15)), (15, (25, 4, 12, 35, 18)), (18, (2, 1, 0, 0, 19)), (19, (31, 0, 0, 0, 20)), (20, (17, 24, 0, 0, 23)), (23, (1, 0, 0, 0, 24)), (24, (44, 0, 0, 0, 0))]
-- GuidePlansModel.tryPlan()V
def c_67 : List (Nat × Ins) := [(0, (1, 0, 0, 0, 1)), (1, (3, 1, 0, 0, 2)), (2, (2, 1, 0, 0, 3)), (3, (49, 0, 0, 0, 4)), (4, (24, 4, 7, 63, 7)), (7, (19, 28, 3, 0, 10)), (10, (49, 0, 0, 0, 11)), (11, (25, 4, 13, 38, 14)), (14, (2, 1, 0, 0, 15)), (15, (49, 0, 0, 0, 16)), (16, (25, 4, 12, 35, 19)), (19, (2, 1, 0, 0, 20)), (20, (31, 0, 0, 0, 21)), (21, (32, 0, 0, 0, 22)), (22, (14, 1, 0, 1, 25)), (25, (17, 2, 0, 0, 28)), (28, (47, 0, 0, 0, 0))]
-- GuidePlansModel.cost()I
def c_68 : List (Nat × Ins) := [(0, (49, 0, 0, 0, 1)), (1, (49, 0, 0, 0, 2)), (2, (24, 4, 16, 146, 5)), (5, (1, 0, 0, 1, 6)), (6, (1, 0, 0, 1, 7)), (7, (40, 41, 4, 70, 10)), (10, (18, 15, 1, 0, 13)), (13, (1, 0, 0, 0, 14)), (14, (44, 0, 0, 0, 15)), (15, (49, 0, 0, 0, 16)), (16, (40, 67, 1, 152, 19)), (19, (49, 0, 0, 0, 20)), (20, (40, 57, 1, 129, 23)), (23, (44, 0, 0, 0, 0))]
-- GuidePlansModel.absent(II)I
def c_69 : List (Nat × Ins) := [(0, (49, 0, 0, 0, 1)), (1, (49, 0, 0, 0, 2)), (2, (2, 1, 0, 0, 3)), (3, (40, 44, 2, 77, 6)), (6, (2, 2, 0, 0, 7)), (7, (1, 0, 0, 0, 8)), (8, (1, 0, 0, 95, 10)), (10, (40, 42, 3, 66, 13)), (13, (49, 0, 0, 0, 14)), (14, (24, 4, 16, 146, 17)), (17, (18, 33, 0, 0, 20)), (20, (49, 0, 0, 0, 21)), (21, (24, 4, 3, 74, 24)), (24, (1, 0, 0, 20, 26)), (26, (19, 33, 3, 0, 29)), (29, (1, 0, 0, 1, 30)), (30, (17, 34, 0, 0, 33)), (33, (1, 0, 0, 0, 34)), (34, (40, 41, 4, 70, 37)), (37, (18, 42, 1, 0, 40)), (40, (1, 0, 0, 0, 41)), (41, (44, 0, 0, 0, 42)), (42, (49, 0, 0, 0, 43)), (43, (2, 1, 0, 0, 44)), (44, (2, 2, 0, 0, 45)), (45, (1, 0, 0, 96, 47)), (47, (40, 47, 4, 85, 50)), (50, (1, 0, 0, 0, 51)), (51, (3, 3, 0, 0, 52)), (52, (2, 3, 0, 0, 53)), (53, (49, 0, 0, 0, 54)), (54, (24, 4, 7, 63, 57)), (57, (19, 90, 3, 0, 60)), (60, (49, 0, 0, 0, 61)), (61, (25, 4, 15, 44, 64)), (64, (2, 3, 0, 0, 65)), (65, (49, 0, 0, 0, 66)), (66, (25, 4, 9, 25, 69)), (69, (2, 3, 0, 0, 70)), (70, (31, 0, 0, 0, 71)), (71, (49, 0, 0, 0, 72)), (72, (24, 4, 19, 92, 75)), (75, (19, 82, 3, 0, 78)), (78, (1, 0, 0, 1, 79)), (79, (17, 83, 0, 0, 82)), (82, (1, 0, 0, 0, 83)), (83, (34, 0, 0, 0, 84)), (84, (14, 3, 0, 1, 87)), (87, (17, 52, 0, 0, 90)), (90, (49, 0, 0, 0, 91)), (91, (1, 0, 0, 1, 92)), (92, (40, 61, 2, 139, 95)), (95, (49, 0, 0, 0, 96)), (96, (40, 63, 1, 143, 99)), (99, (49, 0, 0, 0, 100)), (100, (24, 4, 23, 108, 103)), (103, (18, 118, 1, 0, 106)), (106, (49, 0, 0, 0, 107)), (107, (5, 0, 0, 0, 108)), (108, (24, 4, 3, 74, 111)), (111, (1, 0, 0, 1, 112)), (112, (8, 0, 0, 0, 113)), (113, (26, 4, 3, 74, 116)), (116, (1, 0, 0, (-1), 117)), (117, (44, 0, 0, 0, 118)), (118, (49, 0, 0, 0, 119)), (119, (1, 0, 0, 0, 120)), (120, (26, 4, 21, 155, 123)), (123, (1, 0, 0, 0, 124)), (124, (3, 3, 0, 0, 125)), (125, (2, 3, 0, 0, 126)), (126, (49, 0, 0, 0, 127)), (127, (24, 4, 7, 63, 130)), (130, (19, 186, 3, 0, 133)), (133, (49, 0, 0, 0, 134)), (134, (25, 4, 14, 41, 137)), (137, (2, 3, 0, 0, 138)), (138, (31, 0, 0, 0, 139)), (139, (49, 0, 0, 0, 140)), (140, (25, 4, 12, 35, 143)), (143, (2, 3, 0, 0, 144)), (144, (31, 0, 0, 0, 145)), (145, (19, 168, 0, 0, 148)), (148, (49, 0, 0, 0, 149)), (149, (25, 4, 22, 54, 152)), (152, (49, 0, 0, 0, 153)), (153, (24, 4, 21, 155, 156)), (156, (2, 3, 0, 0, 157)), (157, (32, 0, 0, 0, 158)), (158, (49, 0, 0, 0, 159)), (159, (5, 0, 0, 0, 160)), (160, (24, 4, 21, 155, 163)), (163, (1, 0, 0, 1, 164)), (164, (7, 0, 0, 0, 165)), (165, (26, 4, 21, 155, 168)), (168, (49, 0, 0, 0, 169)), (169, (25, 4, 12, 35, 172)), (172, (2, 3, 0, 0, 173)), (173, (49, 0, 0, 0, 174)), (174, (25, 4, 14, 41, 177)), (177, (2, 3, 0, 0, 178)), (178, (31, 0, 0, 0, 179)), (179, (32, 0, 0, 0, 180)), (180, (14, 3, 0, 1, 183)), (183, (17, 125, 0, 0, 186)), (186, (49, 0, 0, 0, 187)), (187, (24, 4, 21, 155, 190)), (190, (44, 0, 0, 0, 0))]
-- GuidePlansModel.changed(I)I
def c_70 : List (Nat × Ins) := [(0, (49, 0, 0, 0, 1)), (1, (2, 1, 0, 0, 2)), (2, (18, 17, 2, 0, 5)), (5, (2, 1, 0, 0, 6)), (6, (49, 0, 0, 0, 7)), (7, (24, 4, 21, 155, 10)), (10, (19, 17, 3, 0, 13)), (13, (1, 0, 0, 1, 14)), (14, (17, 18, 0, 0, 17)), (17, (1, 0, 0, 0, 18)), (18, (1, 0, 0, 1, 19)), (19, (1, 0, 0, 1, 20)), (20, (40, 41, 4, 70, 23)), (23, (18, 35, 0, 0, 26)), (26, (49, 0, 0, 0, 27)), (27, (25, 4, 22, 54, 30)), (30, (2, 1, 0, 0, 31)), (31, (31, 0, 0, 0, 32)), (32, (17, 36, 0, 0, 35)), (35, (1, 0, 0, 0, 36)), (36, (44, 0, 0, 0, 0))]
-- GuidePlansModel.isEmptied(II)Z
def c_71 : List (Nat × Ins) := [(0, (49, 0, 0, 0, 1)), (1, (25, 4, 11, 31, 4)), (4, (2, 1, 0, 0, 5)), (5, (33, 0, 0, 0, 6)), (6, (18, 18, 0, 0, 9)), (9, (2, 2, 0, 0, 10)), (10, (1, 0, 0, (-1), 11)), (11, (19, 18, 1, 0, 14)), (14, (1, 0, 0, 1, 15)), (15, (17, 19, 0, 0, 18)), (18, (1, 0, 0, 0, 19)), (19, (45, 0, 0, 0, 0))]
-- GuidePlansModel.isUnfit(II)Z
def c_72 : List (Nat × Ins) := [(0, (2, 2, 0, 0, 1)), (1, (1, 0, 0, (-1), 2)), (2, (19, 18, 0, 0, 5)), (5, (49, 0, 0, 0, 6)), (6, (2, 2, 0, 0, 7)), (7, (2, 1, 0, 0, 8)), (8, (40, 53, 3, 98, 11)), (11, (18, 18, 1, 0, 14)), (14, (1, 0, 0, 1, 15)), (15, (17, 19, 0, 0, 18)), (18, (1, 0, 0, 0, 19)), (19, (45, 0, 0, 0, 0))]
-- GuidePlansModel.swap(II)I
def c_73 : List (Nat × Ins) := [(0, (49, 0, 0, 0, 1)), (1, (49, 0, 0, 0, 2)), (2, (2, 1, 0, 0, 3)), (3, (40, 45, 2, 149, 6)), (6, (18, 21, 0, 0, 9)), (9, (49, 0, 0, 0, 10)), (10, (2, 2, 0, 0, 11)), (11, (40, 45, 2, 149, 14)), (14, (18, 21, 0, 0, 17)), (17, (1, 0, 0, 1, 18)), (18, (17, 22, 0, 0, 21)), (21, (1, 0, 0, 0, 22)), (22, (49, 0, 0, 0, 23)), (23, (24, 4, 16, 146, 26)), (26, (1, 0, 0, 1, 27)), (27, (40, 41, 4, 70, 30)), (30, (18, 35, 1, 0, 33)), (33, (1, 0, 0, 0, 34)), (34, (44, 0, 0, 0, 35)), (35, (49, 0, 0, 0, 36)), (36, (40, 67, 1, 152, 39)), (39, (49, 0, 0, 0, 40)), (40, (25, 4, 13, 38, 43)), (43, (2, 1, 0, 0, 44)), (44, (49, 0, 0, 0, 45)), (45, (25, 4, 12, 35, 48)), (48, (2, 2, 0, 0, 49)), (49, (31, 0, 0, 0, 50)), (50, (32, 0, 0, 0, 51)), (51, (49, 0, 0, 0, 52)), (52, (25, 4, 13, 38, 55)), (55, (2, 2, 0, 0, 56)), (56, (49, 0, 0, 0, 57)), (57, (25, 4, 12, 35, 60)), (60, (2, 1, 0, 0, 61)), (61, (31, 0, 0, 0, 62)), (62, (32, 0, 0, 0, 63)), (63, (49, 0, 0, 0, 64)), (64, (25, 4, 12, 35, 67)), (67, (2, 1, 0, 0, 68)), (68, (31, 0, 0, 0, 69)), (69, (3, 3, 0, 0, 70)), (70, (49, 0, 0, 0, 71)), (71, (25, 4, 12, 35, 74)), (74, (2, 2, 0, 0, 75)), (75, (31, 0, 0, 0, 76)), (76, (3, 4, 0, 0, 78)), (78, (49, 0, 0, 0, 79)), (79, (25, 4, 9, 25, 82)), (82, (2, 1, 0, 0, 83)), (83, (31, 0, 0, 0, 84)), (84, (49, 0, 0, 0, 85)), (85, (24, 4, 19, 92, 88)), (88, (19, 104, 2, 0, 91)), (91, (49, 0, 0, 0, 92)), (92, (25, 4, 9, 25, 95)), (95, (2, 2, 0, 0, 96)), (96, (31, 0, 0, 0, 97)), (97, (49, 0, 0, 0, 98)), (98, (24, 4, 19, 92, 101)), (101, (19, 106, 3, 0, 104)), (104, (1, 0, 0, 1, 105)), (105, (44, 0, 0, 0, 106)), (106, (49, 0, 0, 0, 107)), (107, (2, 1, 0, 0, 108)), (108, (2, 4, 0, 0, 110)), (110, (40, 71, 3, 158, 113)), (113, (18, 125, 1, 0, 116)), (116, (49, 0, 0, 0, 117)), (117, (2, 2, 0, 0, 118)), (118, (2, 3, 0, 0, 119)), (119, (40, 71, 3, 158, 122)), (122, (18, 127, 0, 0, 125)), (125, (1, 0, 0, 2, 126)), (126, (44, 0, 0, 0, 127)), (127, (49, 0, 0, 0, 128)), (128, (2, 1, 0, 0, 129)), (129, (2, 4, 0, 0, 131)), (131, (40, 72, 3, 161, 134)), (134, (18, 146, 1, 0, 137)), (137, (49, 0, 0, 0, 138)), (138, (2, 2, 0, 0, 139)), (139, (2, 3, 0, 0, 140)), (140, (40, 72, 3, 161, 143)), (143, (18, 148, 0, 0, 146)), (146, (1, 0, 0, 3, 147)), (147, (44, 0, 0, 0, 148)), (148, (2, 3, 0, 0, 149)), (149, (1, 0, 0, (-1), 150)), (150, (19, 161, 0, 0, 153)), (153, (49, 0, 0, 0, 154)), (154, (2, 3, 0, 0, 155)), (155, (40, 55, 2, 105, 158)), (158, (18, 176, 1, 0, 161)), (161, (2, 4, 0, 0, 163)), (163, (1, 0, 0, (-1), 164)), (164, (19, 178, 0, 0, 167)), (167, (49, 0, 0, 0, 168)), (168, (2, 4, 0, 0, 170)), (170, (40, 55, 2, 105, 173)), (173, (18, 178, 0, 0, 176)), (176, (1, 0, 0, 4, 177)), (177, (44, 0, 0, 0, 178)), (178, (2, 3, 0, 0, 179)), (179, (1, 0, 0, (-1), 180)), (180, (19, 195, 0, 0, 183)), (183, (49, 0, 0, 0, 184)), (184, (2, 3, 0, 0, 185)), (185, (40, 56, 2, 101, 188)), (188, (49, 0, 0, 0, 189)), (189, (24, 4, 18, 47, 192)), (192, (19, 214, 4, 0, 195)), (195, (2, 4, 0, 0, 197)), (197, (1, 0, 0, (-1), 198)), (198, (19, 216, 0, 0, 201)), (201, (49, 0, 0, 0, 202)), (202, (2, 4, 0, 0, 204)), (204, (40, 56, 2, 101, 207)), (207, (49, 0, 0, 0, 208)), (208, (24, 4, 18, 47, 211)), (211, (19, 216, 5, 0, 214)), (214, (1, 0, 0, 5, 215)), (215, (44, 0, 0, 0, 216)), (216, (49, 0, 0, 0, 217)), (217, (25, 4, 12, 35, 220)), (220, (2, 1, 0, 0, 221)), (221, (2, 4, 0, 0, 223)), (223, (32, 0, 0, 0, 224)), (224, (49, 0, 0, 0, 225)), (225, (25, 4, 12, 35, 228)), (228, (2, 2, 0, 0, 229)), (229, (2, 3, 0, 0, 230)), (230, (32, 0, 0, 0, 231)), (231, (1, 0, 0, 0, 232)), (232, (44, 0, 0, 0, 0))]
-- GuidePlansModel.work(I)I
def c_74 : List (Nat × Ins) := [(0, (49, 0, 0, 0, 1)), (1, (49, 0, 0, 0, 2)), (2, (2, 1, 0, 0, 3)), (3, (40, 44, 2, 77, 6)), (6, (1, 0, 0, 1, 7)), (7, (1, 0, 0, 1, 8)), (8, (40, 41, 4, 70, 11)), (11, (18, 16, 1, 0, 14)), (14, (1, 0, 0, 0, 15)), (15, (44, 0, 0, 0, 16)), (16, (49, 0, 0, 0, 17)), (17, (40, 67, 1, 152, 20)), (20, (49, 0, 0, 0, 21)), (21, (2, 1, 0, 0, 22)), (22, (40, 56, 2, 101, 25)), (25, (44, 0, 0, 0, 0))]
-- GuidePlansModel.fair()I
def c_75 : List (Nat × Ins) := [(0, (49, 0, 0, 0, 1)), (1, (1, 0, 0, 0, 2)), (2, (26, 4, 0, 57, 5)), (5, (1, 0, 0, 0, 6)), (6, (3, 1, 0, 0, 7)), (7, (1, 0, 0, 99, 9)), (9, (3, 2, 0, 0, 10)), (10, (1, 0, 0, 0, 11)), (11, (3, 3, 0, 0, 12)), (12, (2, 3, 0, 0, 13)), (13, (49, 0, 0, 0, 14)), (14, (24, 4, 1, 60, 17)), (17, (19, 95, 3, 0, 20)), (20, (1, 0, 0, 0, 21)), (21, (3, 4, 0, 0, 23)), (23, (1, 0, 0, 0, 24)), (24, (3, 5, 0, 0, 26)), (26, (2, 5, 0, 0, 28)), (28, (49, 0, 0, 0, 29)), (29, (24, 4, 7, 63, 32)), (32, (19, 63, 3, 0, 35)), (35, (49, 0, 0, 0, 36)), (36, (25, 4, 12, 35, 39)), (39, (2, 5, 0, 0, 41)), (41, (31, 0, 0, 0, 42)), (42, (2, 3, 0, 0, 43)), (43, (19, 53, 1, 0, 46)), (46, (2, 4, 0, 0, 48)), (48, (1, 0, 0, 1, 49)), (49, (7, 0, 0, 0, 50)), (50, (17, 55, 0, 0, 53)), (53, (2, 4, 0, 0, 55)), (55, (3, 4, 0, 0, 57)), (57, (14, 5, 0, 1, 60)), (60, (17, 26, 0, 0, 63)), (63, (2, 4, 0, 0, 65)), (65, (2, 1, 0, 0, 66)), (66, (19, 74, 5, 0, 69)), (69, (2, 4, 0, 0, 71)), (71, (17, 75, 0, 0, 74)), (74, (2, 1, 0, 0, 75)), (75, (3, 1, 0, 0, 76)), (76, (2, 4, 0, 0, 78)), (78, (2, 2, 0, 0, 79)), (79, (19, 87, 3, 0, 82)), (82, (2, 4, 0, 0, 84)), (84, (17, 88, 0, 0, 87)), (87, (2, 2, 0, 0, 88)), (88, (3, 2, 0, 0, 89)), (89, (14, 3, 0, 1, 92)), (92, (17, 12, 0, 0, 95)), (95, (49, 0, 0, 0, 96)), (96, (24, 4, 1, 60, 99)), (99, (18, 106, 1, 0, 102)), (102, (1, 0, 0, 0, 103)), (103, (17, 109, 0, 0, 106)), (106, (2, 1, 0, 0, 107)), (107, (2, 2, 0, 0, 108)), (108, (8, 0, 0, 0, 109)), (109, (44, 0, 0, 0, 0))]
-- GuidePlansModel.count(I)I
def c_76 : List (Nat × Ins) := [(0, (49, 0, 0, 0, 1)), (1, (2, 1, 0, 0, 2)), (2, (1, 0, 0, 0, 3)), (3, (1, 0, 0, 3, 4)), (4, (40, 42, 3, 66, 7)), (7, (1, 0, 0, 1, 8)), (8, (1, 0, 0, 1, 9)), (9, (40, 41, 4, 70, 12)), (12, (18, 17, 1, 0, 15)), (15, (1, 0, 0, 0, 16)), (16, (44, 0, 0, 0, 17)), (17, (2, 1, 0, 0, 18)), (18, (18, 28, 1, 0, 21)), (21, (49, 0, 0, 0, 22)), (22, (24, 4, 1, 60, 25)), (25, (17, 56, 0, 0, 28)), (28, (2, 1, 0, 0, 29)), (29, (1, 0, 0, 1, 30)), (30, (19, 40, 1, 0, 33)), (33, (49, 0, 0, 0, 34)), (34, (24, 4, 7, 63, 37)), (37, (17, 56, 0, 0, 40)), (40, (2, 1, 0, 0, 41)), (41, (1, 0, 0, 2, 42)), (42, (19, 52, 1, 0, 45)), (45, (49, 0, 0, 0, 46)), (46, (24, 4, 3, 74, 49)), (49, (17, 56, 0, 0, 52)), (52, (49, 0, 0, 0, 53)), (53, (24, 4, 21, 155, 56)), (56, (44, 0, 0, 0, 0))]
-- GuidePlans$Person.<init>(II)V
def c_77 : List (Nat × Ins) := [(0, (49, 0, 0, 0, 1)), (1, (41, 1, 0, 0, 4)), (4, (49, 0, 0, 0, 5)), (5, (1, 0, 0, 6, 7)), (7, (30, 6, 7, 0, 10)), (10, (28, 1, 3, 9, 13)), (13, (49, 0, 0, 0, 14)), (14, (2, 1, 0, 0, 15)), (15, (26, 1, 0, 15, 18)), (18, (49, 0, 0, 0, 19)), (19, (2, 2, 0, 0, 20)), (20, (26, 1, 1, 19, 23)), (23, (47, 0, 0, 0, 0))]
-- GuidePlans$Person.suits(LGuidePlans$Task;)Z
def c_78 : List (Nat × Ins) := [(0, (49, 0, 0, 0, 1)), (1, (24, 1, 1, 19, 4)), (4, (49, 1, 0, 0, 5)), (5, (24, 2, 0, 22, 8)), (8, (13, 0, 0, 0, 9)), (9, (1, 0, 0, 1, 10)), (10, (12, 0, 0, 0, 11)), (11, (18, 16, 1, 0, 14)), (14, (1, 0, 0, 0, 15)), (15, (45, 0, 0, 0, 16)), (16, (49, 0, 0, 0, 17)), (17, (25, 1, 2, 25, 20)), (20, (50, 2, 0, 0, 21)), (21, (49, 2, 0, 0, 22)), (22, (21, 57, 0, 0, 25)), (25, (49, 2, 0, 0, 26)), (26, (24, 3, 0, 29, 29)), (29, (49, 1, 0, 0, 30)), (30, (24, 2, 2, 34, 33)), (33, (19, 49, 3, 0, 36)), (36, (49, 1, 0, 0, 37)), (37, (24, 2, 1, 37, 40)), (40, (49, 2, 0, 0, 41)), (41, (24, 3, 1, 38, 44)), (44, (19, 49, 3, 0, 47)), (47, (1, 0, 0, 0, 48)), (48, (45, 0, 0, 0, 49)), (49, (49, 2, 0, 0, 50)), (50, (25, 3, 2, 39, 53)), (53, (50, 2, 0, 0, 54)), (54, (17, 21, 0, 0, 57)), (57, (1, 0, 0, 1, 58)), (58, (45, 0, 0, 0, 0))]
-- GuidePlans$Person.clear(LGuidePlans$Task;I)Z
def c_79 : List (Nat × Ins) := [(0, (1, 0, 0, 0, 1)), (1, (3, 3, 0, 0, 2)), (2, (2, 3, 0, 0, 3)), (3, (49, 0, 0, 0, 4)), (4, (24, 1, 4, 42, 7)), (7, (19, 32, 3, 0, 10)), (10, (49, 0, 0, 0, 11)), (11, (25, 1, 3, 9, 14)), (14, (2, 3, 0, 0, 15)), (15, (35, 0, 0, 0, 16)), (16, (49, 1, 0, 0, 17)), (17, (2, 2, 0, 0, 18)), (18, (40, 86, 3, 45, 21)), (21, (18, 26, 1, 0, 24)), (24, (1, 0, 0, 0, 25)), (25, (45, 0, 0, 0, 26)), (26, (14, 3, 0, 1, 29)), (29, (17, 2, 0, 0, 32)), (32, (1, 0, 0, 1, 33)), (33, (45, 0, 0, 0, 0))]
-- GuidePlans$Person.take(LGuidePlans$Task;)V
def c_80 : List (Nat × Ins) := [(0, (49, 0, 0, 0, 1)), (1, (25, 1, 3, 9, 4)), (4, (49, 0, 0, 0, 5)), (5, (5, 0, 0, 0, 6)), (6, (24, 1, 4, 42, 9)), (9, (6, 0, 0, 0, 10)), (10, (1, 0, 0, 1, 11)), (11, (7, 0, 0, 0, 12)), (12, (26, 1, 4, 42, 15)), (15, (49, 1, 0, 0, 16)), (16, (36, 0, 0, 0, 17)), (17, (49, 0, 0, 0, 18)), (18, (5, 0, 0, 0, 19)), (19, (24, 1, 5, 49, 22)), (22, (49, 1, 0, 0, 23)), (23, (40, 87, 1, 52, 26)), (26, (7, 0, 0, 0, 27)), (27, (26, 1, 5, 49, 30)), (30, (47, 0, 0, 0, 0))]
-- GuidePlans$Person.drop()V
def c_81 : List (Nat × Ins) := [(0, (49, 0, 0, 0, 1)), (1, (5, 0, 0, 0, 2)), (2, (24, 1, 4, 42, 5)), (5, (1, 0, 0, 1, 6)), (6, (8, 0, 0, 0, 7)), (7, (26, 1, 4, 42, 10)), (10, (49, 0, 0, 0, 11)), (11, (5, 0, 0, 0, 12)), (12, (24, 1, 5, 49, 15)), (15, (49, 0, 0, 0, 16)), (16, (25, 1, 3, 9, 19)), (19, (49, 0, 0, 0, 20)), (20, (24, 1, 4, 42, 23)), (23, (35, 0, 0, 0, 24)), (24, (40, 87, 1, 52, 27)), (27, (8, 0, 0, 0, 28)), (28, (26, 1, 5, 49, 31)), (31, (47, 0, 0, 0, 0))]
-- GuidePlans$Person.price()I
def c_82 : List (Nat × Ins) := [(0, (1, 0, 0, 2, 1)), (1, (49, 0, 0, 0, 2)), (2, (24, 1, 4, 42, 5)), (5, (9, 0, 0, 0, 6)), (6, (1, 0, 0, 1, 7)), (7, (7, 0, 0, 0, 8)), (8, (44, 0, 0, 0, 0))]
-- GuidePlans$Person.forget()V
def c_83 : List (Nat × Ins) := [(0, (49, 0, 0, 0, 1)), (1, (1, 0, 0, 0, 2)), (2, (26, 1, 4, 42, 5)), (5, (49, 0, 0, 0, 6)), (6, (1, 0, 0, 0, 7)), (7, (26, 1, 5, 49, 10)), (10, (47, 0, 0, 0, 0))]
-- GuidePlans$Span.<init>(IILGuidePlans$Span;)V
def c_84 : List (Nat × Ins) := [(0, (49, 0, 0, 0, 1)), (1, (41, 1, 0, 0, 4)), (4, (49, 0, 0, 0, 5)), (5, (2, 1, 0, 0, 6)), (6, (26, 3, 0, 7, 9)), (9, (49, 0, 0, 0, 10)), (10, (2, 2, 0, 0, 11)), (11, (26, 3, 1, 13, 14)), (14, (49, 0, 0, 0, 15)), (15, (49, 3, 0, 0, 16)), (16, (28, 3, 2, 16, 19)), (19, (47, 0, 0, 0, 0))]
-- GuidePlans$Task.<init>(IIIZ)V
def c_85 : List (Nat × Ins) := [(0, (49, 0, 0, 0, 1)), (1, (41, 1, 0, 0, 4)), (4, (49, 0, 0, 0, 5)), (5, (2, 1, 0, 0, 6)), (6, (26, 2, 0, 7, 9)), (9, (49, 0, 0, 0, 10)), (10, (2, 2, 0, 0, 11)), (11, (26, 2, 1, 13, 14)), (14, (49, 0, 0, 0, 15)), (15, (2, 3, 0, 0, 16)), (16, (26, 2, 2, 16, 19)), (19, (49, 0, 0, 0, 20)), (20, (2, 4, 0, 0, 22)), (22, (27, 2, 3, 19, 25)), (25, (47, 0, 0, 0, 0))]
-- GuidePlans$Task.clear(LGuidePlans$Task;I)Z
def c_86 : List (Nat × Ins) := [(0, (49, 1, 0, 0, 1)), (1, (24, 2, 1, 13, 4)), (4, (49, 0, 0, 0, 5)), (5, (24, 2, 2, 16, 8)), (8, (2, 2, 0, 0, 9)), (9, (7, 0, 0, 0, 10)), (10, (19, 26, 3, 0, 13)), (13, (49, 0, 0, 0, 14)), (14, (24, 2, 1, 13, 17)), (17, (49, 1, 0, 0, 18)), (18, (24, 2, 2, 16, 21)), (21, (2, 2, 0, 0, 22)), (22, (7, 0, 0, 0, 23)), (23, (19, 30, 2, 0, 26)), (26, (1, 0, 0, 1, 27)), (27, (17, 31, 0, 0, 30)), (30, (1, 0, 0, 0, 31)), (31, (45, 0, 0, 0, 0))]
-- GuidePlans$Task.size()I
def c_87 : List (Nat × Ins) := [(0, (49, 0, 0, 0, 1)), (1, (24, 2, 2, 16, 4)), (4, (49, 0, 0, 0, 5)), (5, (24, 2, 1, 13, 8)), (8, (8, 0, 0, 0, 9)), (9, (44, 0, 0, 0, 0))]
-- GuidePlansLaw.person(LGuidePlans;I[J)I
def c_88 : List (Nat × Ins) := [(0, (49, 2, 0, 0, 1)), (1, (1, 0, 0, 0, 2)), (2, (49, 0, 0, 0, 3)), (3, (2, 1, 0, 0, 4)), (4, (40, 8, 2, 7, 7)), (7, (15, 0, 0, 0, 8)), (8, (38, 0, 0, 0, 9)), (9, (17, 18, 0, 0, 12)), (12, (50, 3, 0, 0, 13)), (13, (1, 0, 0, 1, 14)), (14, (44, 0, 0, 0, 15)), (15, (50, 3, 0, 0, 16)), (16, (1, 0, 0, 2, 17)), (17, (44, 0, 0, 0, 18)), (18, (1, 0, 0, 0, 19)), (19, (44, 0, 0, 0, 0))]
-- GuidePlansLaw.off(LGuidePlans;III[J)I
def c_89 : List (Nat × Ins) := [(0, (49, 4, 0, 0, 2)), (2, (1, 0, 0, 0, 3)), (3, (49, 0, 0, 0, 4)), (4, (2, 1, 0, 0, 5)), (5, (2, 2, 0, 0, 6)), (6, (2, 3, 0, 0, 7)), (7, (40, 9, 4, 17, 10)), (10, (15, 0, 0, 0, 11)), (11, (38, 0, 0, 0, 12)), (12, (17, 27, 0, 0, 15)), (15, (50, 5, 0, 0, 17)), (17, (1, 0, 0, 1, 18)), (18, (44, 0, 0, 0, 19)), (19, (50, 5, 0, 0, 21)), (21, (1, 0, 0, 2, 22)), (22, (44, 0, 0, 0, 23)), (23, (50, 5, 0, 0, 25)), (25, (1, 0, 0, 3, 26)), (26, (44, 0, 0, 0, 27)), (27, (1, 0, 0, 0, 28)), (28, (44, 0, 0, 0, 0))]
-- GuidePlansLaw.task(LGuidePlans;IIIZ[J)I
def c_90 : List (Nat × Ins) := [(0, (49, 5, 0, 0, 2)), (2, (1, 0, 0, 0, 3)), (3, (49, 0, 0, 0, 4)), (4, (2, 1, 0, 0, 5)), (5, (2, 2, 0, 0, 6)), (6, (2, 3, 0, 0, 7)), (7, (2, 4, 0, 0, 9)), (9, (40, 10, 5, 23, 12)), (12, (15, 0, 0, 0, 13)), (13, (38, 0, 0, 0, 14)), (14, (17, 29, 0, 0, 17)), (17, (50, 6, 0, 0, 19)), (19, (1, 0, 0, 1, 20)), (20, (44, 0, 0, 0, 21)), (21, (50, 6, 0, 0, 23)), (23, (1, 0, 0, 2, 24)), (24, (44, 0, 0, 0, 25)), (25, (50, 6, 0, 0, 27)), (27, (1, 0, 0, 3, 28)), (28, (44, 0, 0, 0, 29)), (29, (1, 0, 0, 0, 30)), (30, (44, 0, 0, 0, 0))]
-- GuidePlansLaw.rest(LGuidePlans;I[J)I
def c_91 : List (Nat × Ins) := [(0, (49, 2, 0, 0, 1)), (1, (1, 0, 0, 0, 2)), (2, (49, 0, 0, 0, 3)), (3, (2, 1, 0, 0, 4)), (4, (40, 12, 2, 27, 7)), (7, (15, 0, 0, 0, 8)), (8, (38, 0, 0, 0, 9)), (9, (17, 15, 0, 0, 12)), (12, (50, 3, 0, 0, 13)), (13, (1, 0, 0, 1, 14)), (14, (44, 0, 0, 0, 15)), (15, (1, 0, 0, 0, 16)), (16, (44, 0, 0, 0, 0))]
-- GuidePlansLaw.limit(LGuidePlans;I[J)I
def c_92 : List (Nat × Ins) := [(0, (49, 2, 0, 0, 1)), (1, (1, 0, 0, 0, 2)), (2, (49, 0, 0, 0, 3)), (3, (2, 1, 0, 0, 4)), (4, (40, 13, 2, 30, 7)), (7, (15, 0, 0, 0, 8)), (8, (38, 0, 0, 0, 9)), (9, (17, 15, 0, 0, 12)), (12, (50, 3, 0, 0, 13)), (13, (1, 0, 0, 1, 14)), (14, (44, 0, 0, 0, 15)), (15, (1, 0, 0, 0, 16)), (16, (44, 0, 0, 0, 0))]
-- GuidePlansLaw.freeze(LGuidePlans;I[J)I
def c_93 : List (Nat × Ins) := [(0, (49, 2, 0, 0, 1)), (1, (1, 0, 0, 0, 2)), (2, (49, 0, 0, 0, 3)), (3, (2, 1, 0, 0, 4)), (4, (40, 14, 2, 33, 7)), (7, (15, 0, 0, 0, 8)), (8, (38, 0, 0, 0, 9)), (9, (17, 15, 0, 0, 12)), (12, (50, 3, 0, 0, 13)), (13, (1, 0, 0, 1, 14)), (14, (44, 0, 0, 0, 15)), (15, (1, 0, 0, 0, 16)), (16, (44, 0, 0, 0, 0))]
-- GuidePlansLaw.of(LGuidePlans;I[J)I
def c_94 : List (Nat × Ins) := [(0, (49, 2, 0, 0, 1)), (1, (1, 0, 0, 0, 2)), (2, (49, 0, 0, 0, 3)), (3, (2, 1, 0, 0, 4)), (4, (40, 26, 2, 36, 7)), (7, (15, 0, 0, 0, 8)), (8, (38, 0, 0, 0, 9)), (9, (17, 15, 0, 0, 12)), (12, (50, 3, 0, 0, 13)), (13, (1, 0, 0, 1, 14)), (14, (44, 0, 0, 0, 15)), (15, (1, 0, 0, 0, 16)), (16, (44, 0, 0, 0, 0))]
-- GuidePlansLaw.cost(LGuidePlans;[J)I
def c_95 : List (Nat × Ins) := [(0, (49, 1, 0, 0, 1)), (1, (1, 0, 0, 0, 2)), (2, (49, 0, 0, 0, 3)), (3, (40, 28, 1, 39, 6)), (6, (15, 0, 0, 0, 7)), (7, (38, 0, 0, 0, 8)), (8, (17, 14, 0, 0, 11)), (11, (50, 2, 0, 0, 12)), (12, (1, 0, 0, 1, 13)), (13, (44, 0, 0, 0, 14)), (14, (1, 0, 0, 0, 15)), (15, (44, 0, 0, 0, 0))]
-- GuidePlansLaw.absent(LGuidePlans;II[J)I
def c_96 : List (Nat × Ins) := [(0, (49, 3, 0, 0, 1)), (1, (1, 0, 0, 0, 2)), (2, (49, 0, 0, 0, 3)), (3, (2, 1, 0, 0, 4)), (4, (2, 2, 0, 0, 5)), (5, (40, 29, 3, 43, 8)), (8, (15, 0, 0, 0, 9)), (9, (38, 0, 0, 0, 10)), (10, (17, 25, 0, 0, 13)), (13, (50, 4, 0, 0, 15)), (15, (1, 0, 0, 1, 16)), (16, (44, 0, 0, 0, 17)), (17, (50, 4, 0, 0, 19)), (19, (1, 0, 0, 2, 20)), (20, (44, 0, 0, 0, 21)), (21, (50, 4, 0, 0, 23)), (23, (1, 0, 0, 3, 24)), (24, (44, 0, 0, 0, 25)), (25, (1, 0, 0, 0, 26)), (26, (44, 0, 0, 0, 0))]
-- GuidePlansLaw.changed(LGuidePlans;I[J)I
def c_97 : List (Nat × Ins) := [(0, (49, 2, 0, 0, 1)), (1, (1, 0, 0, 0, 2)), (2, (49, 0, 0, 0, 3)), (3, (2, 1, 0, 0, 4)), (4, (40, 30, 2, 47, 7)), (7, (15, 0, 0, 0, 8)), (8, (38, 0, 0, 0, 9)), (9, (17, 15, 0, 0, 12)), (12, (50, 3, 0, 0, 13)), (13, (1, 0, 0, 1, 14)), (14, (44, 0, 0, 0, 15)), (15, (1, 0, 0, 0, 16)), (16, (44, 0, 0, 0, 0))]
-- GuidePlansLaw.swap(LGuidePlans;II[J)I
def c_98 : List (Nat × Ins) := [(0, (49, 3, 0, 0, 1)), (1, (1, 0, 0, 0, 2)), (2, (49, 0, 0, 0, 3)), (3, (2, 1, 0, 0, 4)), (4, (2, 2, 0, 0, 5)), (5, (40, 35, 3, 50, 8)), (8, (15, 0, 0, 0, 9)), (9, (38, 0, 0, 0, 10)), (10, (17, 21, 0, 0, 13)), (13, (50, 4, 0, 0, 15)), (15, (1, 0, 0, 1, 16)), (16, (44, 0, 0, 0, 17)), (17, (50, 4, 0, 0, 19)), (19, (1, 0, 0, 2, 20)), (20, (44, 0, 0, 0, 21)), (21, (1, 0, 0, 0, 22)), (22, (44, 0, 0, 0, 0))]
-- GuidePlansLaw.work(LGuidePlans;I[J)I
def c_99 : List (Nat × Ins) := [(0, (49, 2, 0, 0, 1)), (1, (1, 0, 0, 0, 2)), (2, (49, 0, 0, 0, 3)), (3, (2, 1, 0, 0, 4)), (4, (40, 36, 2, 53, 7)), (7, (15, 0, 0, 0, 8)), (8, (38, 0, 0, 0, 9)), (9, (17, 15, 0, 0, 12)), (12, (50, 3, 0, 0, 13)), (13, (1, 0, 0, 1, 14)), (14, (44, 0, 0, 0, 15)), (15, (1, 0, 0, 0, 16)), (16, (44, 0, 0, 0, 0))]
-- GuidePlansLaw.count(LGuidePlans;I[J)I
def c_100 : List (Nat × Ins) := [(0, (49, 2, 0, 0, 1)), (1, (1, 0, 0, 0, 2)), (2, (49, 0, 0, 0, 3)), (3, (2, 1, 0, 0, 4)), (4, (40, 38, 2, 56, 7)), (7, (15, 0, 0, 0, 8)), (8, (38, 0, 0, 0, 9)), (9, (17, 15, 0, 0, 12)), (12, (50, 3, 0, 0, 13)), (13, (1, 0, 0, 1, 14)), (14, (44, 0, 0, 0, 15)), (15, (1, 0, 0, 0, 16)), (16, (44, 0, 0, 0, 0))]
-- GuidePlansLaw.law([I)Z
def c_101 : List (Nat × Ins) := [(0, (29, 0, 8, 0, 3)), (3, (5, 0, 0, 0, 4)), (4, (40, 0, 1, 59, 7)), (7, (50, 1, 0, 0, 8)), (8, (29, 4, 60, 0, 11)), (11, (5, 0, 0, 0, 12)), (12, (40, 39, 1, 62, 15)), (15, (50, 2, 0, 0, 16)), (16, (1, 0, 0, 1, 17)), (17, (30, 11, 0, 0, 19)), (19, (50, 3, 0, 0, 20)), (20, (1, 0, 0, 0, 21)), (21, (3, 4, 0, 0, 23)), (23, (2, 4, 0, 0, 25)), (25, (49, 0, 0, 0, 26)), (26, (39, 0, 0, 0, 27)), (27, (1, 0, 0, 5, 28)), (28, (8, 0, 0, 0, 29)), (29, (19, 977, 4, 0, 32)), (32, (49, 0, 0, 0, 33)), (33, (2, 4, 0, 0, 35)), (35, (31, 0, 0, 0, 36)), (36, (1, 0, 0, 15, 38)), (38, (12, 0, 0, 0, 39)), (39, (23, 1, 0, 0, 116)), (116, (49, 1, 0, 0, 117)), (117, (49, 0, 0, 0, 118)), (118, (2, 4, 0, 0, 120)), (120, (1, 0, 0, 1, 121)), (121, (7, 0, 0, 0, 122)), (122, (31, 0, 0, 0, 123)), (123, (49, 3, 0, 0, 124)), (124, (40, 88, 3, 63, 127)), (127, (3, 5, 0, 0, 129)), (129, (49, 2, 0, 0, 130)), (130, (49, 0, 0, 0, 131)), (131, (2, 4, 0, 0, 133)), (133, (1, 0, 0, 1, 134)), (134, (7, 0, 0, 0, 135)), (135, (31, 0, 0, 0, 136)), (136, (40, 46, 2, 68, 139)), (139, (3, 6, 0, 0, 141)), (141, (49, 2, 0, 0, 142)), (142, (40, 40, 1, 69, 145)), (145, (2, 5, 0, 0, 147)), (147, (19, 152, 0, 0, 150)), (150, (1, 0, 0, 0, 151)), (151, (45, 0, 0, 0, 152)), (152, (2, 5, 0, 0, 154)), (154, (18, 169, 1, 0, 157)), (157, (49, 3, 0, 0, 158)), (158, (1, 0, 0, 0, 159)), (159, (37, 0, 0, 0, 160)), (160, (2, 6, 0, 0, 162)), (162, (15, 0, 0, 0, 163)), (163, (16, 0, 0, 0, 164)), (164, (18, 169, 0, 0, 167)), (167, (1, 0, 0, 0, 168)), (168, (45, 0, 0, 0, 169)), (169, (17, 971, 0, 0, 172)), (172, (49, 1, 0, 0, 173)), (173, (49, 0, 0, 0, 174)), (174, (2, 4, 0, 0, 176)), (176, (1, 0, 0, 1, 177)), (177, (7, 0, 0, 0, 178)), (178, (31, 0, 0, 0, 179)), (179, (49, 0, 0, 0, 180)), (180, (2, 4, 0, 0, 182)), (182, (1, 0, 0, 2, 183)), (183, (7, 0, 0, 0, 184)), (184, (31, 0, 0, 0, 185)), (185, (49, 0, 0, 0, 186)), (186, (2, 4, 0, 0, 188)), (188, (1, 0, 0, 3, 189)), (189, (7, 0, 0, 0, 190)), (190, (31, 0, 0, 0, 191)), (191, (49, 3, 0, 0, 192)), (192, (40, 89, 5, 72, 195)), (195, (3, 5, 0, 0, 197)), (197, (49, 2, 0, 0, 198)), (198, (49, 0, 0, 0, 199)), (199, (2, 4, 0, 0, 201)), (201, (1, 0, 0, 1, 202)), (202, (7, 0, 0, 0, 203)), (203, (31, 0, 0, 0, 204)), (204, (49, 0, 0, 0, 205)), (205, (2, 4, 0, 0, 207)), (207, (1, 0, 0, 2, 208)), (208, (7, 0, 0, 0, 209)), (209, (31, 0, 0, 0, 210)), (210, (49, 0, 0, 0, 211)), (211, (2, 4, 0, 0, 213)), (213, (1, 0, 0, 3, 214)), (214, (7, 0, 0, 0, 215)), (215, (31, 0, 0, 0, 216)), (216, (40, 48, 4, 75, 219)), (219, (3, 6, 0, 0, 221)), (221, (49, 2, 0, 0, 222)), (222, (40, 40, 1, 69, 225)), (225, (2, 5, 0, 0, 227)), (227, (19, 232, 0, 0, 230)), (230, (1, 0, 0, 0, 231)), (231, (45, 0, 0, 0, 232)), (232, (2, 5, 0, 0, 234)), (234, (18, 249, 1, 0, 237)), (237, (49, 3, 0, 0, 238)), (238, (1, 0, 0, 0, 239)), (239, (37, 0, 0, 0, 240)), (240, (2, 6, 0, 0, 242)), (242, (15, 0, 0, 0, 243)), (243, (16, 0, 0, 0, 244)), (244, (18, 249, 0, 0, 247)), (247, (1, 0, 0, 0, 248)), (248, (45, 0, 0, 0, 249)), (249, (17, 971, 0, 0, 252)), (252, (49, 1, 0, 0, 253)), (253, (49, 0, 0, 0, 254)), (254, (2, 4, 0, 0, 256)), (256, (1, 0, 0, 1, 257)), (257, (7, 0, 0, 0, 258)), (258, (31, 0, 0, 0, 259)), (259, (49, 0, 0, 0, 260)), (260, (2, 4, 0, 0, 262)), (262, (1, 0, 0, 2, 263)), (263, (7, 0, 0, 0, 264)), (264, (31, 0, 0, 0, 265)), (265, (49, 0, 0, 0, 266)), (266, (2, 4, 0, 0, 268)), (268, (1, 0, 0, 3, 269)), (269, (7, 0, 0, 0, 270)), (270, (31, 0, 0, 0, 271)), (271, (49, 0, 0, 0, 272)), (272, (2, 4, 0, 0, 274)), (274, (1, 0, 0, 4, 275)), (275, (7, 0, 0, 0, 276)), (276, (31, 0, 0, 0, 277)), (277, (18, 284, 0, 0, 280)), (280, (1, 0, 0, 1, 281)), (281, (17, 285, 0, 0, 284)), (284, (1, 0, 0, 0, 285)), (285, (49, 3, 0, 0, 286)), (286, (40, 90, 6, 76, 289)), (289, (3, 5, 0, 0, 291)), (291, (49, 2, 0, 0, 292)), (292, (49, 0, 0, 0, 293)), (293, (2, 4, 0, 0, 295)), (295, (1, 0, 0, 1, 296)), (296, (7, 0, 0, 0, 297)), (297, (31, 0, 0, 0, 298)), (298, (49, 0, 0, 0, 299)), (299, (2, 4, 0, 0, 301)), (301, (1, 0, 0, 2, 302)), (302, (7, 0, 0, 0, 303)), (303, (31, 0, 0, 0, 304)), (304, (49, 0, 0, 0, 305)), (305, (2, 4, 0, 0, 307)), (307, (1, 0, 0, 3, 308)), (308, (7, 0, 0, 0, 309)), (309, (31, 0, 0, 0, 310)), (310, (49, 0, 0, 0, 311)), (311, (2, 4, 0, 0, 313)), (313, (1, 0, 0, 4, 314)), (314, (7, 0, 0, 0, 315)), (315, (31, 0, 0, 0, 316)), (316, (18, 323, 0, 0, 319)), (319, (1, 0, 0, 1, 320)), (320, (17, 324, 0, 0, 323)), (323, (1, 0, 0, 0, 324)), (324, (40, 49, 5, 79, 327)), (327, (3, 6, 0, 0, 329)), (329, (49, 2, 0, 0, 330)), (330, (40, 40, 1, 69, 333)), (333, (2, 5, 0, 0, 335)), (335, (19, 340, 0, 0, 338)), (338, (1, 0, 0, 0, 339)), (339, (45, 0, 0, 0, 340)), (340, (2, 5, 0, 0, 342)), (342, (18, 357, 1, 0, 345)), (345, (49, 3, 0, 0, 346)), (346, (1, 0, 0, 0, 347)), (347, (37, 0, 0, 0, 348)), (348, (2, 6, 0, 0, 350)), (350, (15, 0, 0, 0, 351)), (351, (16, 0, 0, 0, 352)), (352, (18, 357, 0, 0, 355)), (355, (1, 0, 0, 0, 356)), (356, (45, 0, 0, 0, 357)), (357, (17, 971, 0, 0, 360)), (360, (49, 1, 0, 0, 361)), (361, (49, 0, 0, 0, 362)), (362, (2, 4, 0, 0, 364)), (364, (1, 0, 0, 1, 365)), (365, (7, 0, 0, 0, 366)), (366, (31, 0, 0, 0, 367)), (367, (49, 3, 0, 0, 368)), (368, (40, 91, 3, 80, 371)), (371, (3, 5, 0, 0, 373)), (373, (49, 2, 0, 0, 374)), (374, (49, 0, 0, 0, 375)), (375, (2, 4, 0, 0, 377)), (377, (1, 0, 0, 1, 378)), (378, (7, 0, 0, 0, 379)), (379, (31, 0, 0, 0, 380)), (380, (40, 50, 2, 82, 383)), (383, (3, 6, 0, 0, 385)), (385, (49, 2, 0, 0, 386)), (386, (40, 40, 1, 69, 389)), (389, (2, 5, 0, 0, 391)), (391, (19, 396, 0, 0, 394)), (394, (1, 0, 0, 0, 395)), (395, (45, 0, 0, 0, 396)), (396, (2, 5, 0, 0, 398)), (398, (18, 413, 1, 0, 401)), (401, (49, 3, 0, 0, 402)), (402, (1, 0, 0, 0, 403)), (403, (37, 0, 0, 0, 404)), (404, (2, 6, 0, 0, 406)), (406, (15, 0, 0, 0, 407)), (407, (16, 0, 0, 0, 408)), (408, (18, 413, 0, 0, 411)), (411, (1, 0, 0, 0, 412)), (412, (45, 0, 0, 0, 413)), (413, (17, 971, 0, 0, 416)), (416, (49, 1, 0, 0, 417)), (417, (49, 0, 0, 0, 418)), (418, (2, 4, 0, 0, 420)), (420, (1, 0, 0, 1, 421)), (421, (7, 0, 0, 0, 422)), (422, (31, 0, 0, 0, 423)), (423, (49, 3, 0, 0, 424)), (424, (40, 92, 3, 83, 427)), (427, (3, 5, 0, 0, 429)), (429, (49, 2, 0, 0, 430)), (430, (49, 0, 0, 0, 431)), (431, (2, 4, 0, 0, 433)), (433, (1, 0, 0, 1, 434)), (434, (7, 0, 0, 0, 435)), (435, (31, 0, 0, 0, 436)), (436, (40, 51, 2, 85, 439)), (439, (3, 6, 0, 0, 441)), (441, (49, 2, 0, 0, 442)), (442, (40, 40, 1, 69, 445)), (445, (2, 5, 0, 0, 447)), (447, (19, 452, 0, 0, 450)), (450, (1, 0, 0, 0, 451)), (451, (45, 0, 0, 0, 452)), (452, (2, 5, 0, 0, 454)), (454, (18, 469, 1, 0, 457)), (457, (49, 3, 0, 0, 458)), (458, (1, 0, 0, 0, 459)), (459, (37, 0, 0, 0, 460)), (460, (2, 6, 0, 0, 462)), (462, (15, 0, 0, 0, 463)), (463, (16, 0, 0, 0, 464)), (464, (18, 469, 0, 0, 467)), (467, (1, 0, 0, 0, 468)), (468, (45, 0, 0, 0, 469)), (469, (17, 971, 0, 0, 472)), (472, (49, 1, 0, 0, 473)), (473, (49, 0, 0, 0, 474)), (474, (2, 4, 0, 0, 476)), (476, (1, 0, 0, 1, 477)), (477, (7, 0, 0, 0, 478)), (478, (31, 0, 0, 0, 479)), (479, (49, 3, 0, 0, 480)), (480, (40, 93, 3, 86, 483)), (483, (3, 5, 0, 0, 485)), (485, (49, 2, 0, 0, 486)), (486, (49, 0, 0, 0, 487)), (487, (2, 4, 0, 0, 489)), (489, (1, 0, 0, 1, 490)), (490, (7, 0, 0, 0, 491)), (491, (31, 0, 0, 0, 492)), (492, (40, 52, 2, 88, 495)), (495, (3, 6, 0, 0, 497)), (497, (49, 2, 0, 0, 498)), (498, (40, 40, 1, 69, 501)), (501, (2, 5, 0, 0, 503)), (503, (19, 508, 0, 0, 506)), (506, (1, 0, 0, 0, 507)), (507, (45, 0, 0, 0, 508)), (508, (2, 5, 0, 0, 510)), (510, (18, 525, 1, 0, 513)), (513, (49, 3, 0, 0, 514)), (514, (1, 0, 0, 0, 515)), (515, (37, 0, 0, 0, 516)), (516, (2, 6, 0, 0, 518)), (518, (15, 0, 0, 0, 519)), (519, (16, 0, 0, 0, 520)), (520, (18, 525, 0, 0, 523)), (523, (1, 0, 0, 0, 524)), (524, (45, 0, 0, 0, 525)), (525, (17, 971, 0, 0, 528)), (528, (49, 1, 0, 0, 529)), (529, (40, 24, 1, 89, 532)), (532, (49, 2, 0, 0, 533)), (533, (40, 64, 1, 92, 536)), (536, (19, 971, 0, 0, 539)), (539, (1, 0, 0, 0, 540)), (540, (45, 0, 0, 0, 541)), (541, (49, 1, 0, 0, 542)), (542, (40, 25, 1, 93, 545)), (545, (49, 2, 0, 0, 546)), (546, (40, 65, 1, 96, 549)), (549, (19, 971, 0, 0, 552)), (552, (1, 0, 0, 0, 553)), (553, (45, 0, 0, 0, 554)), (554, (49, 1, 0, 0, 555)), (555, (49, 0, 0, 0, 556)), (556, (2, 4, 0, 0, 558)), (558, (1, 0, 0, 1, 559)), (559, (7, 0, 0, 0, 560)), (560, (31, 0, 0, 0, 561)), (561, (49, 3, 0, 0, 562)), (562, (40, 94, 3, 97, 565)), (565, (3, 5, 0, 0, 567)), (567, (49, 2, 0, 0, 568)), (568, (49, 0, 0, 0, 569)), (569, (2, 4, 0, 0, 571)), (571, (1, 0, 0, 1, 572)), (572, (7, 0, 0, 0, 573)), (573, (31, 0, 0, 0, 574)), (574, (40, 66, 2, 99, 577)), (577, (3, 6, 0, 0, 579)), (579, (49, 2, 0, 0, 580)), (580, (40, 40, 1, 69, 583)), (583, (2, 5, 0, 0, 585)), (585, (19, 590, 0, 0, 588)), (588, (1, 0, 0, 0, 589)), (589, (45, 0, 0, 0, 590)), (590, (2, 5, 0, 0, 592)), (592, (18, 607, 1, 0, 595)), (595, (49, 3, 0, 0, 596)), (596, (1, 0, 0, 0, 597)), (597, (37, 0, 0, 0, 598)), (598, (2, 6, 0, 0, 600)), (600, (15, 0, 0, 0, 601)), (601, (16, 0, 0, 0, 602)), (602, (18, 607, 0, 0, 605)), (605, (1, 0, 0, 0, 606)), (606, (45, 0, 0, 0, 607)), (607, (17, 971, 0, 0, 610)), (610, (49, 1, 0, 0, 611)), (611, (49, 3, 0, 0, 612)), (612, (40, 95, 2, 100, 615)), (615, (3, 5, 0, 0, 617)), (617, (49, 2, 0, 0, 618)), (618, (40, 68, 1, 103, 621)), (621, (3, 6, 0, 0, 623)), (623, (49, 2, 0, 0, 624)), (624, (40, 40, 1, 69, 627)), (627, (2, 5, 0, 0, 629)), (629, (19, 634, 0, 0, 632)), (632, (1, 0, 0, 0, 633)), (633, (45, 0, 0, 0, 634)), (634, (2, 5, 0, 0, 636)), (636, (18, 651, 1, 0, 639)), (639, (49, 3, 0, 0, 640)), (640, (1, 0, 0, 0, 641)), (641, (37, 0, 0, 0, 642)), (642, (2, 6, 0, 0, 644)), (644, (15, 0, 0, 0, 645)), (645, (16, 0, 0, 0, 646)), (646, (18, 651, 0, 0, 649)), (649, (1, 0, 0, 0, 650)), (650, (45, 0, 0, 0, 651)), (651, (17, 971, 0, 0, 654)), (654, (49, 1, 0, 0, 655)), (655, (49, 0, 0, 0, 656)), (656, (2, 4, 0, 0, 658)), (658, (1, 0, 0, 1, 659)), (659, (7, 0, 0, 0, 660)), (660, (31, 0, 0, 0, 661)), (661, (49, 0, 0, 0, 662)), (662, (2, 4, 0, 0, 664)), (664, (1, 0, 0, 2, 665)), (665, (7, 0, 0, 0, 666)), (666, (31, 0, 0, 0, 667)), (667, (49, 3, 0, 0, 668)), (668, (40, 96, 4, 104, 671)), (671, (3, 5, 0, 0, 673)), (673, (49, 2, 0, 0, 674)), (674, (49, 0, 0, 0, 675)), (675, (2, 4, 0, 0, 677)), (677, (1, 0, 0, 1, 678)), (678, (7, 0, 0, 0, 679)), (679, (31, 0, 0, 0, 680)), (680, (49, 0, 0, 0, 681)), (681, (2, 4, 0, 0, 683)), (683, (1, 0, 0, 2, 684)), (684, (7, 0, 0, 0, 685)), (685, (31, 0, 0, 0, 686)), (686, (40, 69, 3, 107, 689)), (689, (3, 6, 0, 0, 691)), (691, (49, 2, 0, 0, 692)), (692, (40, 40, 1, 69, 695)), (695, (2, 5, 0, 0, 697)), (697, (19, 702, 0, 0, 700)), (700, (1, 0, 0, 0, 701)), (701, (45, 0, 0, 0, 702)), (702, (2, 5, 0, 0, 704)), (704, (18, 719, 1, 0, 707)), (707, (49, 3, 0, 0, 708)), (708, (1, 0, 0, 0, 709)), (709, (37, 0, 0, 0, 710)), (710, (2, 6, 0, 0, 712)), (712, (15, 0, 0, 0, 713)), (713, (16, 0, 0, 0, 714)), (714, (18, 719, 0, 0, 717)), (717, (1, 0, 0, 0, 718)), (718, (45, 0, 0, 0, 719)), (719, (17, 971, 0, 0, 722)), (722, (49, 1, 0, 0, 723)), (723, (49, 0, 0, 0, 724)), (724, (2, 4, 0, 0, 726)), (726, (1, 0, 0, 1, 727)), (727, (7, 0, 0, 0, 728)), (728, (31, 0, 0, 0, 729)), (729, (49, 3, 0, 0, 730)), (730, (40, 97, 3, 108, 733)), (733, (3, 5, 0, 0, 735)), (735, (49, 2, 0, 0, 736)), (736, (49, 0, 0, 0, 737)), (737, (2, 4, 0, 0, 739)), (739, (1, 0, 0, 1, 740)), (740, (7, 0, 0, 0, 741)), (741, (31, 0, 0, 0, 742)), (742, (40, 70, 2, 110, 745)), (745, (3, 6, 0, 0, 747)), (747, (49, 2, 0, 0, 748)), (748, (40, 40, 1, 69, 751)), (751, (2, 5, 0, 0, 753)), (753, (19, 758, 0, 0, 756)), (756, (1, 0, 0, 0, 757)), (757, (45, 0, 0, 0, 758)), (758, (2, 5, 0, 0, 760)), (760, (18, 775, 1, 0, 763)), (763, (49, 3, 0, 0, 764)), (764, (1, 0, 0, 0, 765)), (765, (37, 0, 0, 0, 766)), (766, (2, 6, 0, 0, 768)), (768, (15, 0, 0, 0, 769)), (769, (16, 0, 0, 0, 770)), (770, (18, 775, 0, 0, 773)), (773, (1, 0, 0, 0, 774)), (774, (45, 0, 0, 0, 775)), (775, (17, 971, 0, 0, 778)), (778, (49, 1, 0, 0, 779)), (779, (49, 0, 0, 0, 780)), (780, (2, 4, 0, 0, 782)), (782, (1, 0, 0, 1, 783)), (783, (7, 0, 0, 0, 784)), (784, (31, 0, 0, 0, 785)), (785, (49, 0, 0, 0, 786)), (786, (2, 4, 0, 0, 788)), (788, (1, 0, 0, 2, 789)), (789, (7, 0, 0, 0, 790)), (790, (31, 0, 0, 0, 791)), (791, (49, 3, 0, 0, 792)), (792, (40, 98, 4, 111, 795)), (795, (3, 5, 0, 0, 797)), (797, (49, 2, 0, 0, 798)), (798, (49, 0, 0, 0, 799)), (799, (2, 4, 0, 0, 801)), (801, (1, 0, 0, 1, 802)), (802, (7, 0, 0, 0, 803)), (803, (31, 0, 0, 0, 804)), (804, (49, 0, 0, 0, 805)), (805, (2, 4, 0, 0, 807)), (807, (1, 0, 0, 2, 808)), (808, (7, 0, 0, 0, 809)), (809, (31, 0, 0, 0, 810)), (810, (40, 73, 3, 113, 813)), (813, (3, 6, 0, 0, 815)), (815, (49, 2, 0, 0, 816)), (816, (40, 40, 1, 69, 819)), (819, (2, 5, 0, 0, 821)), (821, (19, 826, 0, 0, 824)), (824, (1, 0, 0, 0, 825)), (825, (45, 0, 0, 0, 826)), (826, (2, 5, 0, 0, 828)), (828, (18, 843, 1, 0, 831)), (831, (49, 3, 0, 0, 832)), (832, (1, 0, 0, 0, 833)), (833, (37, 0, 0, 0, 834)), (834, (2, 6, 0, 0, 836)), (836, (15, 0, 0, 0, 837)), (837, (16, 0, 0, 0, 838)), (838, (18, 843, 0, 0, 841)), (841, (1, 0, 0, 0, 842)), (842, (45, 0, 0, 0, 843)), (843, (17, 971, 0, 0, 846)), (846, (49, 1, 0, 0, 847)), (847, (49, 0, 0, 0, 848)), (848, (2, 4, 0, 0, 850)), (850, (1, 0, 0, 1, 851)), (851, (7, 0, 0, 0, 852)), (852, (31, 0, 0, 0, 853)), (853, (49, 3, 0, 0, 854)), (854, (40, 99, 3, 114, 857)), (857, (3, 5, 0, 0, 859)), (859, (49, 2, 0, 0, 860)), (860, (49, 0, 0, 0, 861)), (861, (2, 4, 0, 0, 863)), (863, (1, 0, 0, 1, 864)), (864, (7, 0, 0, 0, 865)), (865, (31, 0, 0, 0, 866)), (866, (40, 74, 2, 116, 869)), (869, (3, 6, 0, 0, 871)), (871, (49, 2, 0, 0, 872)), (872, (40, 40, 1, 69, 875)), (875, (2, 5, 0, 0, 877)), (877, (19, 882, 0, 0, 880)), (880, (1, 0, 0, 0, 881)), (881, (45, 0, 0, 0, 882)), (882, (2, 5, 0, 0, 884)), (884, (18, 899, 1, 0, 887)), (887, (49, 3, 0, 0, 888)), (888, (1, 0, 0, 0, 889)), (889, (37, 0, 0, 0, 890)), (890, (2, 6, 0, 0, 892)), (892, (15, 0, 0, 0, 893)), (893, (16, 0, 0, 0, 894)), (894, (18, 899, 0, 0, 897)), (897, (1, 0, 0, 0, 898)), (898, (45, 0, 0, 0, 899)), (899, (17, 971, 0, 0, 902)), (902, (49, 1, 0, 0, 903)), (903, (40, 37, 1, 117, 906)), (906, (49, 2, 0, 0, 907)), (907, (40, 75, 1, 120, 910)), (910, (19, 971, 0, 0, 913)), (913, (1, 0, 0, 0, 914)), (914, (45, 0, 0, 0, 915)), (915, (49, 1, 0, 0, 916)), (916, (49, 0, 0, 0, 917)), (917, (2, 4, 0, 0, 919)), (919, (1, 0, 0, 1, 920)), (920, (7, 0, 0, 0, 921)), (921, (31, 0, 0, 0, 922)), (922, (49, 3, 0, 0, 923)), (923, (40, 100, 3, 121, 926)), (926, (3, 5, 0, 0, 928)), (928, (49, 2, 0, 0, 929)), (929, (49, 0, 0, 0, 930)), (930, (2, 4, 0, 0, 932)), (932, (1, 0, 0, 1, 933)), (933, (7, 0, 0, 0, 934)), (934, (31, 0, 0, 0, 935)), (935, (40, 76, 2, 123, 938)), (938, (3, 6, 0, 0, 940)), (940, (49, 2, 0, 0, 941)), (941, (40, 40, 1, 69, 944)), (944, (2, 5, 0, 0, 946)), (946, (19, 951, 0, 0, 949)), (949, (1, 0, 0, 0, 950)), (950, (45, 0, 0, 0, 951)), (951, (2, 5, 0, 0, 953)), (953, (18, 968, 1, 0, 956)), (956, (49, 3, 0, 0, 957)), (957, (1, 0, 0, 0, 958)), (958, (37, 0, 0, 0, 959)), (959, (2, 6, 0, 0, 961)), (961, (15, 0, 0, 0, 962)), (962, (16, 0, 0, 0, 963)), (963, (18, 968, 0, 0, 966)), (966, (1, 0, 0, 0, 967)), (967, (45, 0, 0, 0, 968)), (968, (17, 971, 0, 0, 971)), (971, (14, 4, 0, 5, 974)), (974, (17, 23, 0, 0, 977)), (977, (1, 0, 0, 1, 978)), (978, (45, 0, 0, 0, 0))]
def cT : List (List (Nat × Ins)) := [c_0, c_1, c_2, c_3, c_4, c_5, c_6, c_7, c_8, c_9, c_10, c_11, c_12, c_13, c_14, c_15, c_16, c_17, c_18, c_19, c_20, c_21, c_22, c_23, c_24, c_25, c_26, c_27, c_28, c_29, c_30, c_31, c_32, c_33, c_34, c_35, c_36, c_37, c_38, c_39, c_40, c_41, c_42, c_43, c_44, c_45, c_46, c_47, c_48, c_49, c_50, c_51, c_52, c_53, c_54, c_55, c_56, c_57, c_58, c_59, c_60, c_61, c_62, c_63, c_64, c_65, c_66, c_67, c_68, c_69, c_70, c_71, c_72, c_73, c_74, c_75, c_76, c_77, c_78, c_79, c_80, c_81, c_82, c_83, c_84, c_85, c_86, c_87, c_88, c_89, c_90, c_91, c_92, c_93, c_94, c_95, c_96, c_97, c_98, c_99, c_100, c_101]
def nthC : List (List (Nat × Ins)) → Nat → List (Nat × Ins)
  | [], _ => []
  | a :: _, 0 => a
  | _ :: t, n + 1 => nthC t n
def ins (m pc : Nat) : Option Ins := look (nthC cT m) pc
def mxT : List Nat := [1, 1, 1, 1, 2, 2, 2, 2, 2, 5, 5, 1, 3, 3, 3, 2, 4, 3, 7, 3, 3, 2, 1, 2, 1, 1, 3, 4, 3, 6, 2, 4, 4, 3, 3, 6, 2, 5, 2, 2, 1, 4, 3, 2, 2, 2, 2, 4, 4, 5, 3, 3, 3, 5, 3, 5, 4, 5, 3, 2, 3, 8, 3, 2, 2, 1, 2, 2, 1, 4, 2, 3, 3, 5, 2, 6, 2, 3, 3, 4, 2, 1, 1, 1, 4, 5, 3, 1, 4, 6, 7, 4, 4, 4, 4, 3, 5, 4, 5, 4, 4, 7]
def mx (m : Nat) : Nat := lnat mxT m 0
-- handlers: from, to, target, the kind that is caught, its place in the pool
def hndT : Nat → List (Nat × Nat × Nat × Nat × Nat)
  | 88 => [(0, 9, 12, 12, 13), (0, 9, 15, 13, 15)]
  | 89 => [(0, 12, 15, 14, 21), (0, 12, 19, 12, 13), (0, 12, 23, 13, 15)]
  | 90 => [(0, 14, 17, 14, 21), (0, 14, 21, 12, 13), (0, 14, 25, 13, 15)]
  | 91 => [(0, 9, 12, 12, 13)]
  | 92 => [(0, 9, 12, 12, 13)]
  | 93 => [(0, 9, 12, 12, 13)]
  | 94 => [(0, 9, 12, 14, 21)]
  | 95 => [(0, 8, 11, 13, 15)]
  | 96 => [(0, 10, 13, 14, 21), (0, 10, 17, 12, 13), (0, 10, 21, 13, 15)]
  | 97 => [(0, 9, 12, 14, 21)]
  | 98 => [(0, 10, 13, 14, 21), (0, 10, 17, 13, 15)]
  | 99 => [(0, 9, 12, 14, 21)]
  | 100 => [(0, 9, 12, 14, 21)]
  | _ => []
def hndL : List (Nat × Nat × Nat × Nat × Nat) → Nat → Nat → Option Nat
  | [], _, _ => none
  | q :: t, pc, k => bif (Nat.ble q.1 pc && Nat.blt pc q.2.1 && Nat.beq q.2.2.2.1 k) then some q.2.2.1 else hndL t pc k
def hnd (m pc k : Nat) : Option Nat := hndL (hndT m) pc k
def ownT : List Nat := [0, 0, 0, 0, 0, 0, 0, 0, 0, 0, 0, 0, 0, 0, 0, 0, 0, 0, 0, 0, 0, 0, 0, 0, 0, 0, 0, 0, 0, 0, 0, 0, 0, 0, 0, 0, 0, 0, 0, 4, 4, 4, 4, 4, 4, 4, 4, 4, 4, 4, 4, 4, 4, 4, 4, 4, 4, 4, 4, 4, 4, 4, 4, 4, 4, 4, 4, 4, 4, 4, 4, 4, 4, 4, 4, 4, 4, 1, 1, 1, 1, 1, 1, 1, 3, 2, 2, 2, 5, 5, 5, 5, 5, 5, 5, 5, 5, 5, 5, 5, 5, 5]
def ow (m : Nat) : Nat := lnat ownT m 5
-- how it is called: 0 a static one, 1 by its receiver, 2 a constructor
def hwT : List Nat := [2, 0, 0, 0, 0, 0, 1, 1, 1, 1, 1, 0, 1, 1, 1, 1, 1, 1, 1, 1, 1, 1, 1, 1, 1, 1, 1, 1, 1, 1, 1, 1, 1, 1, 0, 1, 1, 1, 1, 2, 1, 1, 0, 0, 1, 1, 1, 1, 1, 1, 1, 1, 1, 1, 1, 1, 1, 1, 1, 1, 1, 1, 1, 1, 1, 1, 1, 1, 1, 1, 1, 1, 1, 1, 1, 1, 1, 2, 1, 1, 1, 1, 1, 1, 2, 2, 1, 1, 0, 0, 0, 0, 0, 0, 0, 0, 0, 0, 0, 0, 0, 0]
def hw (m : Nat) : Nat := lnat hwT m 0
/-- the receiver is there, and of the right kind -/
def rcv (w k : Nat) (as : List AV) : Bool := match w, as with
  | 0, _ => true
  | 1, .inr (.inr (some (k', _))) :: _ => Nat.beq k' k
  | 2, .inr (.inr (some _)) :: _ => true
  | _, _ => false
/-- THE RUN: fuel, depth, method, pc, variables, stack, heap -/
def exec : Nat → Nat → Nat → Nat → AL → List AV → AH → Option (Oc × AH)
  | 0, _, _, _, _, _, _ => none
  | n + 1, d, m, pc, ls, st, h => match ins m pc with
    | none => none
    | some (op, a, b, c, nx) =>
      bif Nat.beq op 40 then
        match d, popn b [] st with
        | d' + 1, some (as, rest) =>
          bif Nat.ble (catS rest) 8 && Nat.beq (catS as) b && rcv (hw a) (ow a) as then
            match exec n d' a 0 (entL (mx a) as) [] h with
            | none => none
            | some (.inl none, h1) => exec n (d' + 1) m nx ls rest h1
            | some (.inl (some v), h1) => exec n (d' + 1) m nx ls (v :: rest) h1
            | some (.inr x, h1) => match hnd m pc x.1 with
              | none => some (.inr x, h1)
              | some tg => exec n (d' + 1) m tg ls [.inr (.inr (some x))] h1
          else none
        | _, _ => none
      else bif Nat.ble 44 op && Nat.ble op 48 then x_end op a st h
      else match stepI (op, a, b, c, nx) ls st h with
        | none => none
        | some (pc', ls', st', h') => exec n d m pc' ls' st' h'
end
section
-- NAMES: the declarers by number (5: the law), their fields
def cn : Nat → String
  | 0 => "GuidePlans"
  | 1 => "GuidePlans$Person"
  | 2 => "GuidePlans$Task"
  | 3 => "GuidePlans$Span"
  | 4 => "GuidePlansModel"
  | _ => "GuidePlansLaw"
def F_0 : u_T := fun k => match k with
  | 0 => ("GuidePlans", "persons", "[LGuidePlans$Person;", true)
  | 1 => ("GuidePlans", "tasks", "[LGuidePlans$Task;", true)
  | 2 => ("GuidePlans", "changes", "[I", true)
  | 3 => ("GuidePlans", "personMany", "I", false)
  | 4 => ("GuidePlans", "taskMany", "I", false)
  | 5 => ("GuidePlans", "spanMany", "I", false)
  | 6 => ("GuidePlans", "changeMany", "I", false)
  | 7 => ("GuidePlans", "rest", "I", false)
  | 8 => ("GuidePlans", "frozen", "I", false)
  | 9 => ("GuidePlans", "most", "I", false)
  | 10 => ("GuidePlans", "told", "I", false)
  | 11 => ("GuidePlans", "planned", "Z", false)
  | 12 => ("GuidePlans", "upTo", "I", false)
  | 13 => ("GuidePlans", "least", "I", false)
  | 14 => ("GuidePlans", "strict", "Z", false)
  | _ => ("GuidePlans", "keeping", "Z", false)
def T_0 : Nat → FieldType := fun k => match k with
  | 0 => .array (.object "GuidePlans$Person")
  | 1 => .array (.object "GuidePlans$Task")
  | 2 => .array .int
  | 3 => .int
  | 4 => .int
  | 5 => .int
  | 6 => .int
  | 7 => .int
  | 8 => .int
  | 9 => .int
  | 10 => .int
  | 11 => .boolean
  | 12 => .int
  | 13 => .int
  | 14 => .boolean
  | _ => .boolean
def F_1 : u_T := fun k => match k with
  | 0 => ("GuidePlans$Person", "number", "I", true)
  | 1 => ("GuidePlans$Person", "skills", "I", true)
  | 2 => ("GuidePlans$Person", "off", "LGuidePlans$Span;", false)
  | 3 => ("GuidePlans$Person", "tasks", "[LGuidePlans$Task;", true)
  | 4 => ("GuidePlans$Person", "many", "I", false)
  | _ => ("GuidePlans$Person", "quarters", "I", false)
def T_1 : Nat → FieldType := fun k => match k with
  | 0 => .int
  | 1 => .int
  | 2 => .object "GuidePlans$Span"
  | 3 => .array (.object "GuidePlans$Task")
  | 4 => .int
  | _ => .int
def F_2 : u_T := fun k => match k with
  | 0 => ("GuidePlans$Task", "skill", "I", true)
  | 1 => ("GuidePlans$Task", "from", "I", true)
  | 2 => ("GuidePlans$Task", "to", "I", true)
  | 3 => ("GuidePlans$Task", "always", "Z", true)
  | 4 => ("GuidePlans$Task", "who", "LGuidePlans$Person;", false)
  | 5 => ("GuidePlans$Task", "trial", "LGuidePlans$Person;", false)
  | _ => ("GuidePlans$Task", "best", "LGuidePlans$Person;", false)
def T_2 : Nat → FieldType := fun k => match k with
  | 0 => .int
  | 1 => .int
  | 2 => .int
  | 3 => .boolean
  | 4 => .object "GuidePlans$Person"
  | 5 => .object "GuidePlans$Person"
  | _ => .object "GuidePlans$Person"
def F_3 : u_T := fun k => match k with
  | 0 => ("GuidePlans$Span", "from", "I", true)
  | 1 => ("GuidePlans$Span", "to", "I", true)
  | _ => ("GuidePlans$Span", "next", "LGuidePlans$Span;", true)
def T_3 : Nat → FieldType := fun k => match k with
  | 0 => .int
  | 1 => .int
  | _ => .object "GuidePlans$Span"
def F_4 : u_T := fun k => match k with
  | 0 => ("GuidePlansModel", "thrown", "I", false)
  | 1 => ("GuidePlansModel", "persons", "I", false)
  | 2 => ("GuidePlansModel", "skills", "[I", true)
  | 3 => ("GuidePlansModel", "spans", "I", false)
  | 4 => ("GuidePlansModel", "spanOf", "[I", true)
  | 5 => ("GuidePlansModel", "spanFroms", "[I", true)
  | 6 => ("GuidePlansModel", "spanTos", "[I", true)
  | 7 => ("GuidePlansModel", "tasks", "I", false)
  | 8 => ("GuidePlansModel", "needs", "[I", true)
  | 9 => ("GuidePlansModel", "froms", "[I", true)
  | 10 => ("GuidePlansModel", "tos", "[I", true)
  | 11 => ("GuidePlansModel", "always", "[Z", true)
  | 12 => ("GuidePlansModel", "plan", "[I", true)
  | 13 => ("GuidePlansModel", "tried", "[I", true)
  | 14 => ("GuidePlansModel", "best", "[I", true)
  | 15 => ("GuidePlansModel", "kept", "[Z", true)
  | 16 => ("GuidePlansModel", "planned", "Z", false)
  | 17 => ("GuidePlansModel", "rest", "I", false)
  | 18 => ("GuidePlansModel", "limit", "I", false)
  | 19 => ("GuidePlansModel", "frozen", "I", false)
  | 20 => ("GuidePlansModel", "told", "I", false)
  | 21 => ("GuidePlansModel", "changes", "I", false)
  | 22 => ("GuidePlansModel", "changed", "[I", true)
  | 23 => ("GuidePlansModel", "found", "Z", false)
  | 24 => ("GuidePlansModel", "foundChanges", "I", false)
  | 25 => ("GuidePlansModel", "foundCost", "I", false)
  | _ => ("GuidePlansModel", "filled", "I", false)
def T_4 : Nat → FieldType := fun k => match k with
  | 0 => .int
  | 1 => .int
  | 2 => .array .int
  | 3 => .int
  | 4 => .array .int
  | 5 => .array .int
  | 6 => .array .int
  | 7 => .int
  | 8 => .array .int
  | 9 => .array .int
  | 10 => .array .int
  | 11 => .array .boolean
  | 12 => .array .int
  | 13 => .array .int
  | 14 => .array .int
  | 15 => .array .boolean
  | 16 => .boolean
  | 17 => .int
  | 18 => .int
  | 19 => .int
  | 20 => .int
  | 21 => .int
  | 22 => .array .int
  | 23 => .boolean
  | 24 => .int
  | 25 => .int
  | _ => .int
def kF : Nat → u_T
  | 0 => F_0
  | 1 => F_1
  | 2 => F_2
  | 3 => F_3
  | _ => F_4
def kT : Nat → Nat → FieldType
  | 0 => T_0
  | 1 => T_1
  | 2 => T_2
  | 3 => T_3
  | _ => T_4
def frf (k j : Nat) : Bool := match kT k j with | .object _ => true | .array _ => true | _ => false
abbrev classes : List vw_C := [(cn 0, kF 0, kN 0), (cn 1, kF 1, kN 1), (cn 2, kF 2, kN 2), (cn 3, kF 3, kN 3), (cn 4, kF 4, kN 4)]
theorem cl_at {k : Nat} (h : k < 5) : classes[k]? = some (cn k, kF k, kN k) := by
  rcases (show k = 0 ∨ k = 1 ∨ k = 2 ∨ k = 3 ∨ k = 4 by omega) with rfl | rfl | rfl | rfl | rfl <;> rfl
theorem in_0 : ∀ w ∈ u_ws (cn 0) (kF 0) (kN 0), w ∈ lw_tbl := by decide +kernel
theorem ty_0 : ∀ j, j < kN 0 → parseFieldDescriptor (kF 0 j).2.2.1 = some (kT 0 j) := by decide +kernel
theorem nm_0 : ∀ a, a < kN 0 → ∀ b, b < kN 0 → a ≠ b → (kF 0 a).2.1 ≠ (kF 0 b).2.1 := by decide +kernel
theorem in_1 : ∀ w ∈ u_ws (cn 1) (kF 1) (kN 1), w ∈ lw_tbl := by decide +kernel
theorem ty_1 : ∀ j, j < kN 1 → parseFieldDescriptor (kF 1 j).2.2.1 = some (kT 1 j) := by decide +kernel
theorem nm_1 : ∀ a, a < kN 1 → ∀ b, b < kN 1 → a ≠ b → (kF 1 a).2.1 ≠ (kF 1 b).2.1 := by decide +kernel
theorem in_2 : ∀ w ∈ u_ws (cn 2) (kF 2) (kN 2), w ∈ lw_tbl := by decide +kernel
theorem ty_2 : ∀ j, j < kN 2 → parseFieldDescriptor (kF 2 j).2.2.1 = some (kT 2 j) := by decide +kernel
theorem nm_2 : ∀ a, a < kN 2 → ∀ b, b < kN 2 → a ≠ b → (kF 2 a).2.1 ≠ (kF 2 b).2.1 := by decide +kernel
theorem in_3 : ∀ w ∈ u_ws (cn 3) (kF 3) (kN 3), w ∈ lw_tbl := by decide +kernel
theorem ty_3 : ∀ j, j < kN 3 → parseFieldDescriptor (kF 3 j).2.2.1 = some (kT 3 j) := by decide +kernel
theorem nm_3 : ∀ a, a < kN 3 → ∀ b, b < kN 3 → a ≠ b → (kF 3 a).2.1 ≠ (kF 3 b).2.1 := by decide +kernel
theorem in_4 : ∀ w ∈ u_ws (cn 4) (kF 4) (kN 4), w ∈ lw_tbl := by decide +kernel
theorem ty_4 : ∀ j, j < kN 4 → parseFieldDescriptor (kF 4 j).2.2.1 = some (kT 4 j) := by decide +kernel
theorem nm_4 : ∀ a, a < kN 4 → ∀ b, b < kN 4 → a ≠ b → (kF 4 a).2.1 ≠ (kF 4 b).2.1 := by decide +kernel
theorem in_k {k : Nat} (h : k < 5) : ∀ w ∈ u_ws (cn k) (kF k) (kN k), w ∈ lw_tbl := by
  rcases (show k = 0 ∨ k = 1 ∨ k = 2 ∨ k = 3 ∨ k = 4 by omega) with rfl | rfl | rfl | rfl | rfl
  · exact in_0
  · exact in_1
  · exact in_2
  · exact in_3
  · exact in_4
theorem ty_k {k : Nat} (h : k < 5) : ∀ j, j < kN k → parseFieldDescriptor (kF k j).2.2.1 = some (kT k j) := by
  rcases (show k = 0 ∨ k = 1 ∨ k = 2 ∨ k = 3 ∨ k = 4 by omega) with rfl | rfl | rfl | rfl | rfl
  · exact ty_0
  · exact ty_1
  · exact ty_2
  · exact ty_3
  · exact ty_4
theorem nm_k {k : Nat} (h : k < 5) : ∀ a, a < kN k → ∀ b, b < kN k → a ≠ b → (kF k a).2.1 ≠ (kF k b).2.1 := by
  rcases (show k = 0 ∨ k = 1 ∨ k = 2 ∨ k = 3 ∨ k = 4 by omega) with rfl | rfl | rfl | rfl | rfl
  · exact nm_0
  · exact nm_1
  · exact nm_2
  · exact nm_3
  · exact nm_4
theorem dc_k : ∀ k, k < 5 → ∀ j, j < kN k → (kF k j).1 = cn k := by decide +kernel
def exn : Nat → String
  | 12 => "java/lang/IllegalArgumentException" | 13 => "java/lang/IllegalStateException" | _ => "java/util/NoSuchElementException"
-- the methods
def bts : Nat → ByteArray
  | 0 => prog_1_method_1_code
  | 1 => prog_1_method_2_code
  | 2 => prog_1_method_3_code
  | 3 => prog_1_method_4_code
  | 4 => prog_1_method_5_code
  | 5 => prog_1_method_6_code
  | 6 => prog_1_method_7_code
  | 7 => prog_1_method_8_code
  | 8 => prog_1_method_9_code
  | 9 => prog_1_method_10_code
  | 10 => prog_1_method_11_code
  | 11 => prog_1_method_12_code
  | 12 => prog_1_method_13_code
  | 13 => prog_1_method_14_code
  | 14 => prog_1_method_15_code
  | 15 => prog_1_method_16_code
  | 16 => prog_1_method_17_code
  | 17 => prog_1_method_18_code
  | 18 => prog_1_method_19_code
  | 19 => prog_1_method_20_code
  | 20 => prog_1_method_21_code
  | 21 => prog_1_method_22_code
  | 22 => prog_1_method_23_code
  | 23 => prog_1_method_24_code
  | 24 => prog_1_method_25_code
  | 25 => prog_1_method_26_code
  | 26 => prog_1_method_27_code
  | 27 => prog_1_method_28_code
  | 28 => prog_1_method_29_code
  | 29 => prog_1_method_30_code
  | 30 => prog_1_method_31_code
  | 31 => prog_1_method_32_code
  | 32 => prog_1_method_33_code
  | 33 => prog_1_method_34_code
  | 34 => prog_1_method_35_code
  | 35 => prog_1_method_36_code
  | 36 => prog_1_method_37_code
  | 37 => prog_1_method_38_code
  | 38 => prog_1_method_39_code
  | 39 => prog_6_method_1_code
  | 40 => prog_6_method_2_code
  | 41 => prog_6_method_3_code
  | 42 => prog_6_method_4_code
  | 43 => prog_6_method_5_code
  | 44 => prog_6_method_6_code
  | 45 => prog_6_method_7_code
  | 46 => prog_6_method_8_code
  | 47 => prog_6_method_9_code
  | 48 => prog_6_method_10_code
  | 49 => prog_6_method_11_code
  | 50 => prog_6_method_12_code
  | 51 => prog_6_method_13_code
  | 52 => prog_6_method_14_code
  | 53 => prog_6_method_15_code
  | 54 => prog_6_method_16_code
  | 55 => prog_6_method_17_code
  | 56 => prog_6_method_18_code
  | 57 => prog_6_method_19_code
  | 58 => prog_6_method_20_code
  | 59 => prog_6_method_21_code
  | 60 => prog_6_method_22_code
  | 61 => prog_6_method_23_code
  | 62 => prog_6_method_24_code
  | 63 => prog_6_method_25_code
  | 64 => prog_6_method_26_code
  | 65 => prog_6_method_27_code
  | 66 => prog_6_method_28_code
  | 67 => prog_6_method_29_code
  | 68 => prog_6_method_30_code
  | 69 => prog_6_method_31_code
  | 70 => prog_6_method_32_code
  | 71 => prog_6_method_33_code
  | 72 => prog_6_method_34_code
  | 73 => prog_6_method_35_code
  | 74 => prog_6_method_36_code
  | 75 => prog_6_method_37_code
  | 76 => prog_6_method_38_code
  | 77 => prog_2_method_1_code
  | 78 => prog_2_method_2_code
  | 79 => prog_2_method_3_code
  | 80 => prog_2_method_4_code
  | 81 => prog_2_method_5_code
  | 82 => prog_2_method_6_code
  | 83 => prog_2_method_7_code
  | 84 => prog_3_method_1_code
  | 85 => prog_4_method_1_code
  | 86 => prog_4_method_2_code
  | 87 => prog_4_method_3_code
  | 88 => method_3_code
  | 89 => method_4_code
  | 90 => method_5_code
  | 91 => method_6_code
  | 92 => method_7_code
  | 93 => method_8_code
  | 94 => method_9_code
  | 95 => method_10_code
  | 96 => method_11_code
  | 97 => method_12_code
  | 98 => method_13_code
  | 99 => method_14_code
  | 100 => method_15_code
  | _ => code
def yM : Nat → MethodName
  | 0 => ⟨"GuidePlans", "<init>", "()V"⟩
  | 1 => ⟨"GuidePlans", "exists", "(Z)V"⟩
  | 2 => ⟨"GuidePlans", "allow", "(Z)V"⟩
  | 3 => ⟨"GuidePlans", "must", "(Z)V"⟩
  | 4 => ⟨"GuidePlans", "below", "(II)Z"⟩
  | 5 => ⟨"GuidePlans", "isSpan", "(II)Z"⟩
  | 6 => ⟨"GuidePlans", "who", "(I)LGuidePlans$Person;"⟩
  | 7 => ⟨"GuidePlans", "the", "(I)LGuidePlans$Task;"⟩
  | 8 => ⟨"GuidePlans", "person", "(I)I"⟩
  | 9 => ⟨"GuidePlans", "off", "(III)I"⟩
  | 10 => ⟨"GuidePlans", "task", "(IIIZ)I"⟩
  | 11 => ⟨"GuidePlans", "isLong", "(I)Z"⟩
  | 12 => ⟨"GuidePlans", "rest", "(I)I"⟩
  | 13 => ⟨"GuidePlans", "limit", "(I)I"⟩
  | 14 => ⟨"GuidePlans", "freeze", "(I)I"⟩
  | 15 => ⟨"GuidePlans", "kept", "(LGuidePlans$Task;)Z"⟩
  | 16 => ⟨"GuidePlans", "begin", "()Z"⟩
  | 17 => ⟨"GuidePlans", "change", "(LGuidePlans$Task;LGuidePlans$Person;)I"⟩
  | 18 => ⟨"GuidePlans", "place", "(II)V"⟩
  | 19 => ⟨"GuidePlans", "base", "()I"⟩
  | 20 => ⟨"GuidePlans", "seek", "(IZ)Z"⟩
  | 21 => ⟨"GuidePlans", "hour", "()I"⟩
  | 22 => ⟨"GuidePlans", "plan", "()Z"⟩
  | 23 => ⟨"GuidePlans", "adopt", "()V"⟩
  | 24 => ⟨"GuidePlans", "run", "()I"⟩
  | 25 => ⟨"GuidePlans", "told", "()I"⟩
  | 26 => ⟨"GuidePlans", "of", "(I)I"⟩
  | 27 => ⟨"GuidePlans", "tasksOf", "(LGuidePlans$Person;)I"⟩
  | 28 => ⟨"GuidePlans", "cost", "()I"⟩
  | 29 => ⟨"GuidePlans", "absent", "(II)I"⟩
  | 30 => ⟨"GuidePlans", "changed", "(I)I"⟩
  | 31 => ⟨"GuidePlans", "lieClear", "(LGuidePlans$Person;)Z"⟩
  | 32 => ⟨"GuidePlans", "quartersOf", "(LGuidePlans$Person;)I"⟩
  | 33 => ⟨"GuidePlans", "why", "(LGuidePlans$Task;LGuidePlans$Task;)I"⟩
  | 34 => ⟨"GuidePlans", "exchange", "(LGuidePlans$Task;LGuidePlans$Task;)V"⟩
  | 35 => ⟨"GuidePlans", "swap", "(II)I"⟩
  | 36 => ⟨"GuidePlans", "work", "(I)I"⟩
  | 37 => ⟨"GuidePlans", "fair", "()I"⟩
  | 38 => ⟨"GuidePlans", "count", "(I)I"⟩
  | 39 => ⟨"GuidePlansModel", "<init>", "()V"⟩
  | 40 => ⟨"GuidePlansModel", "thrown", "()I"⟩
  | 41 => ⟨"GuidePlansModel", "goes", "(ZZZ)Z"⟩
  | 42 => ⟨"GuidePlansModel", "within", "(III)Z"⟩
  | 43 => ⟨"GuidePlansModel", "isSpan", "(II)Z"⟩
  | 44 => ⟨"GuidePlansModel", "isPerson", "(I)Z"⟩
  | 45 => ⟨"GuidePlansModel", "isTask", "(I)Z"⟩
  | 46 => ⟨"GuidePlansModel", "person", "(I)I"⟩
  | 47 => ⟨"GuidePlansModel", "leave", "(III)V"⟩
  | 48 => ⟨"GuidePlansModel", "off", "(III)I"⟩
  | 49 => ⟨"GuidePlansModel", "task", "(IIIZ)I"⟩
  | 50 => ⟨"GuidePlansModel", "rest", "(I)I"⟩
  | 51 => ⟨"GuidePlansModel", "limit", "(I)I"⟩
  | 52 => ⟨"GuidePlansModel", "freeze", "(I)I"⟩
  | 53 => ⟨"GuidePlansModel", "suits", "(II)Z"⟩
  | 54 => ⟨"GuidePlansModel", "isNear", "(II)Z"⟩
  | 55 => ⟨"GuidePlansModel", "hasNear", "(I)Z"⟩
  | 56 => ⟨"GuidePlansModel", "quarters", "(I)I"⟩
  | 57 => ⟨"GuidePlansModel", "costOf", "()I"⟩
  | 58 => ⟨"GuidePlansModel", "may", "()Z"⟩
  | 59 => ⟨"GuidePlansModel", "full", "()I"⟩
  | 60 => ⟨"GuidePlansModel", "differences", "()I"⟩
  | 61 => ⟨"GuidePlansModel", "seek", "(Z)V"⟩
  | 62 => ⟨"GuidePlansModel", "keep", "(I)V"⟩
  | 63 => ⟨"GuidePlansModel", "tell", "()V"⟩
  | 64 => ⟨"GuidePlansModel", "run", "()I"⟩
  | 65 => ⟨"GuidePlansModel", "told", "()I"⟩
  | 66 => ⟨"GuidePlansModel", "of", "(I)I"⟩
  | 67 => ⟨"GuidePlansModel", "tryPlan", "()V"⟩
  | 68 => ⟨"GuidePlansModel", "cost", "()I"⟩
  | 69 => ⟨"GuidePlansModel", "absent", "(II)I"⟩
  | 70 => ⟨"GuidePlansModel", "changed", "(I)I"⟩
  | 71 => ⟨"GuidePlansModel", "isEmptied", "(II)Z"⟩
  | 72 => ⟨"GuidePlansModel", "isUnfit", "(II)Z"⟩
  | 73 => ⟨"GuidePlansModel", "swap", "(II)I"⟩
  | 74 => ⟨"GuidePlansModel", "work", "(I)I"⟩
  | 75 => ⟨"GuidePlansModel", "fair", "()I"⟩
  | 76 => ⟨"GuidePlansModel", "count", "(I)I"⟩
  | 77 => ⟨"GuidePlans$Person", "<init>", "(II)V"⟩
  | 78 => ⟨"GuidePlans$Person", "suits", "(LGuidePlans$Task;)Z"⟩
  | 79 => ⟨"GuidePlans$Person", "clear", "(LGuidePlans$Task;I)Z"⟩
  | 80 => ⟨"GuidePlans$Person", "take", "(LGuidePlans$Task;)V"⟩
  | 81 => ⟨"GuidePlans$Person", "drop", "()V"⟩
  | 82 => ⟨"GuidePlans$Person", "price", "()I"⟩
  | 83 => ⟨"GuidePlans$Person", "forget", "()V"⟩
  | 84 => ⟨"GuidePlans$Span", "<init>", "(IILGuidePlans$Span;)V"⟩
  | 85 => ⟨"GuidePlans$Task", "<init>", "(IIIZ)V"⟩
  | 86 => ⟨"GuidePlans$Task", "clear", "(LGuidePlans$Task;I)Z"⟩
  | 87 => ⟨"GuidePlans$Task", "size", "()I"⟩
  | 88 => ⟨"GuidePlansLaw", "person", "(LGuidePlans;I[J)I"⟩
  | 89 => ⟨"GuidePlansLaw", "off", "(LGuidePlans;III[J)I"⟩
  | 90 => ⟨"GuidePlansLaw", "task", "(LGuidePlans;IIIZ[J)I"⟩
  | 91 => ⟨"GuidePlansLaw", "rest", "(LGuidePlans;I[J)I"⟩
  | 92 => ⟨"GuidePlansLaw", "limit", "(LGuidePlans;I[J)I"⟩
  | 93 => ⟨"GuidePlansLaw", "freeze", "(LGuidePlans;I[J)I"⟩
  | 94 => ⟨"GuidePlansLaw", "of", "(LGuidePlans;I[J)I"⟩
  | 95 => ⟨"GuidePlansLaw", "cost", "(LGuidePlans;[J)I"⟩
  | 96 => ⟨"GuidePlansLaw", "absent", "(LGuidePlans;II[J)I"⟩
  | 97 => ⟨"GuidePlansLaw", "changed", "(LGuidePlans;I[J)I"⟩
  | 98 => ⟨"GuidePlansLaw", "swap", "(LGuidePlans;II[J)I"⟩
  | 99 => ⟨"GuidePlansLaw", "work", "(LGuidePlans;I[J)I"⟩
  | 100 => ⟨"GuidePlansLaw", "count", "(LGuidePlans;I[J)I"⟩
  | _ => ⟨"GuidePlansLaw", "law", "([I)Z"⟩
def rt : Nat → Option FieldType
  | 0 => none
  | 1 => none
  | 2 => none
  | 3 => none
  | 4 => (some .boolean)
  | 5 => (some .boolean)
  | 6 => (some (.object "GuidePlans$Person"))
  | 7 => (some (.object "GuidePlans$Task"))
  | 11 => (some .boolean)
  | 15 => (some .boolean)
  | 16 => (some .boolean)
  | 18 => none
  | 20 => (some .boolean)
  | 22 => (some .boolean)
  | 23 => none
  | 31 => (some .boolean)
  | 34 => none
  | 39 => none
  | 41 => (some .boolean)
  | 42 => (some .boolean)
  | 43 => (some .boolean)
  | 44 => (some .boolean)
  | 45 => (some .boolean)
  | 47 => none
  | 53 => (some .boolean)
  | 54 => (some .boolean)
  | 55 => (some .boolean)
  | 58 => (some .boolean)
  | 61 => none
  | 62 => none
  | 63 => none
  | 67 => none
  | 71 => (some .boolean)
  | 72 => (some .boolean)
  | 77 => none
  | 78 => (some .boolean)
  | 79 => (some .boolean)
  | 80 => none
  | 81 => none
  | 83 => none
  | 84 => none
  | 85 => none
  | 86 => (some .boolean)
  | 101 => (some .boolean)
  | _ => some .int
def naT : List Nat := [1, 1, 1, 1, 2, 2, 2, 2, 2, 4, 5, 1, 2, 2, 2, 2, 1, 3, 3, 1, 3, 1, 1, 1, 1, 1, 2, 2, 1, 3, 2, 2, 2, 3, 2, 3, 2, 1, 2, 1, 1, 4, 3, 2, 2, 2, 2, 4, 4, 5, 2, 2, 2, 3, 3, 2, 2, 1, 1, 1, 1, 2, 2, 1, 1, 1, 2, 1, 1, 3, 2, 3, 3, 3, 2, 1, 2, 3, 2, 3, 2, 1, 1, 1, 4, 5, 3, 1, 3, 5, 6, 3, 3, 3, 3, 2, 4, 3, 4, 3, 3, 1]
def na (m : Nat) : Nat := lnat naT m 0
def hh : Nat → List (Nat × Nat × Nat × Nat)
  | 88 => [(0, 9, 12, 13), (0, 9, 15, 15)]
  | 89 => [(0, 12, 15, 21), (0, 12, 19, 13), (0, 12, 23, 15)]
  | 90 => [(0, 14, 17, 21), (0, 14, 21, 13), (0, 14, 25, 15)]
  | 91 => [(0, 9, 12, 13)]
  | 92 => [(0, 9, 12, 13)]
  | 93 => [(0, 9, 12, 13)]
  | 94 => [(0, 9, 12, 21)]
  | 95 => [(0, 8, 11, 15)]
  | 96 => [(0, 10, 13, 21), (0, 10, 17, 13), (0, 10, 21, 15)]
  | 97 => [(0, 9, 12, 21)]
  | 98 => [(0, 10, 13, 21), (0, 10, 17, 15)]
  | 99 => [(0, 9, 12, 21)]
  | 100 => [(0, 9, 12, 21)]
  | _ => []
def cw (m : Nat) : Cond := bif Nat.ble 88 m && Nat.ble m 100 then .codeWith (yM m) (bts m) (mx m) (rt m) (hh m) else .code (yM m) (bts m) (mx m) (rt m)
-- links: who, place, what
def FL : List (Nat × Nat × Nat × Nat) := [(0, 9, 0, 0), (0, 17, 0, 1), (0, 21, 0, 2), (0, 25, 0, 9), (0, 29, 0, 10), (0, 41, 0, 3), (0, 52, 0, 4), (0, 71, 0, 5), (0, 76, 1, 2), (0, 90, 0, 7), (0, 93, 0, 8), (0, 96, 0, 15), (0, 100, 2, 1), (0, 106, 2, 5), (0, 114, 2, 4), (0, 120, 1, 5), (0, 132, 0, 13), (0, 135, 0, 12), (0, 138, 2, 6), (0, 141, 0, 14), (0, 144, 2, 3), (0, 163, 1, 4), (0, 183, 0, 11), (0, 196, 1, 0), (0, 203, 0, 6), (1, 9, 1, 3), (1, 15, 1, 0), (1, 19, 1, 1), (1, 22, 2, 0), (1, 25, 1, 2), (1, 29, 3, 0), (1, 34, 2, 2), (1, 37, 2, 1), (1, 38, 3, 1), (1, 39, 3, 2), (1, 42, 1, 4), (1, 49, 1, 5), (2, 7, 2, 0), (2, 13, 2, 1), (2, 16, 2, 2), (2, 19, 2, 3), (3, 7, 3, 0), (3, 13, 3, 1), (3, 16, 3, 2), (4, 7, 4, 2), (4, 13, 4, 4), (4, 16, 4, 5), (4, 19, 4, 6), (4, 22, 4, 8), (4, 25, 4, 9), (4, 28, 4, 10), (4, 31, 4, 11), (4, 35, 4, 12), (4, 38, 4, 13), (4, 41, 4, 14), (4, 44, 4, 15), (4, 47, 4, 18), (4, 51, 4, 20), (4, 54, 4, 22), (4, 57, 4, 0), (4, 60, 4, 1), (4, 63, 4, 7), (4, 74, 4, 3), (4, 89, 4, 17), (4, 92, 4, 19), (4, 108, 4, 23), (4, 112, 4, 26), (4, 126, 4, 24), (4, 132, 4, 25), (4, 146, 4, 16), (4, 155, 4, 21)]
def ML : List (Nat × Nat × Nat) := [(0, 44, 4), (0, 48, 1), (0, 55, 2), (0, 58, 3), (0, 61, 77), (0, 64, 6), (0, 68, 5), (0, 80, 84), (0, 83, 85), (0, 86, 11), (0, 103, 83), (0, 110, 15), (0, 116, 79), (0, 123, 87), (0, 127, 80), (0, 147, 18), (0, 150, 78), (0, 153, 82), (0, 156, 17), (0, 160, 81), (0, 169, 16), (0, 173, 19), (0, 176, 20), (0, 180, 21), (0, 186, 22), (0, 189, 23), (0, 192, 7), (0, 199, 27), (0, 206, 86), (0, 207, 31), (0, 211, 32), (0, 214, 34), (0, 218, 33), (1, 45, 86), (1, 52, 87), (4, 66, 42), (4, 70, 41), (4, 77, 44), (4, 81, 43), (4, 85, 47), (4, 95, 54), (4, 98, 53), (4, 101, 56), (4, 105, 55), (4, 115, 58), (4, 119, 59), (4, 123, 60), (4, 129, 57), (4, 135, 62), (4, 139, 61), (4, 143, 63), (4, 149, 45), (4, 152, 67), (4, 158, 71), (4, 161, 72), (5, 7, 8), (5, 17, 9), (5, 23, 10), (5, 27, 12), (5, 30, 13), (5, 33, 14), (5, 36, 26), (5, 39, 28), (5, 43, 29), (5, 47, 30), (5, 50, 35), (5, 53, 36), (5, 56, 38), (5, 59, 0), (5, 62, 39), (5, 63, 88), (5, 68, 46), (5, 69, 40), (5, 72, 89), (5, 75, 48), (5, 76, 90), (5, 79, 49), (5, 80, 91), (5, 82, 50), (5, 83, 92), (5, 85, 51), (5, 86, 93), (5, 88, 52), (5, 89, 24), (5, 92, 64), (5, 93, 25), (5, 96, 65), (5, 97, 94), (5, 99, 66), (5, 100, 95), (5, 103, 68), (5, 104, 96), (5, 107, 69), (5, 108, 97), (5, 110, 70), (5, 111, 98), (5, 113, 73), (5, 114, 99), (5, 116, 74), (5, 117, 37), (5, 120, 75), (5, 121, 100), (5, 123, 76)]
def CL : List (Nat × Nat × Nat) := [(0, 7, 1), (0, 15, 2), (0, 32, 14), (0, 35, 12), (0, 38, 13), (0, 74, 3), (1, 7, 2), (5, 8, 0), (5, 13, 12), (5, 15, 13), (5, 21, 14), (5, 60, 4)]
def kn (k : Nat) : String := bif Nat.ble 12 k then exn k else cn k
def CK : List (Nat × Nat × Int32) := [(0, 131, 100000), (0, 168, 2147483647)]
def OL : List (Nat × Nat) := [(0, 1), (1, 1), (2, 1), (3, 1), (4, 1)]
-- constructors of the exceptions
def XL : List (Nat × Nat × Nat) := [(0, 34, 14), (0, 37, 12), (0, 40, 13)]
def MX : Nat × Nat := (0, 222)
def MN : Nat × Nat := (0, 228)
end
section
theorem FL_ok : ∀ q ∈ FL, Cond.fieldLink (cn q.1) q.2.1 (cn q.2.2.1) (kF q.2.2.1 q.2.2.2).2.1 (kF q.2.2.1 q.2.2.2).2.2.1 ∈ lw_tbl := by decide +kernel
theorem ML_ok : ∀ q ∈ ML, Cond.methodLink (cn q.1) q.2.1 (yM q.2.2) ∈ lw_tbl := by decide +kernel
theorem CL_ok : ∀ q ∈ CL, Cond.classLink (cn q.1) q.2.1 (kn q.2.2) ∈ lw_tbl := by decide +kernel
theorem CK_ok : ∀ q ∈ CK, Cond.constant (cn q.1) q.2.1 q.2.2 ∈ lw_tbl := by decide +kernel
theorem OL_ok : ∀ q ∈ OL, Cond.methodLink (cn q.1) q.2 objectInit ∈ lw_tbl := by decide +kernel
theorem XL_ok : ∀ q ∈ XL, Cond.methodLink (cn q.1) q.2.1 ⟨exn q.2.2, "<init>", "()V"⟩ ∈ lw_tbl := by decide +kernel
theorem MX_ok : Cond.methodLink (cn MX.1) MX.2 Lib.Math.max.name ∈ lw_tbl ∧ Cond.static Lib.Math.max.name ∈ lw_tbl ∧ Cond.code Lib.Math.max.name Lib.Math.max.code 2 (some .int) ∈ lw_tbl := by decide +kernel
theorem MN_ok : Cond.methodLink (cn MN.1) MN.2 Lib.Math.min.name ∈ lw_tbl ∧ Cond.static Lib.Math.min.name ∈ lw_tbl ∧ Cond.code Lib.Math.min.name Lib.Math.min.code 2 (some .int) ∈ lw_tbl := by decide +kernel
theorem in_math : Cond.initialized "java/lang/Math" ∈ lw_tbl := by decide +kernel
theorem in_oi : Cond.instanceMethod objectInit ∈ lw_tbl ∧ Cond.code objectInit ⟨#[0xb1]⟩ 1 none ∈ lw_tbl := by decide +kernel
theorem in_cls : ∀ k, k < 6 → Cond.initialized (cn k) ∈ lw_tbl := by decide +kernel
theorem in_ins : ∀ k, k < 5 → Cond.instantiable (cn k) (kN k) ∈ lw_tbl := by decide +kernel
theorem in_exi : ∀ k, 12 ≤ k → k < 15 → Cond.instantiable (exn k) 6 ∈ lw_tbl ∧ Cond.initialized (exn k) ∈ lw_tbl := by
  intro k h1 h2
  rcases (show k = 12 ∨ k = 13 ∨ k = 14 by omega) with rfl | rfl | rfl <;> decide +kernel
theorem in_arr : Cond.arrayClass .int ∈ lw_tbl ∧ Cond.arrayClass .boolean ∈ lw_tbl ∧ Cond.arrayClass .long ∈ lw_tbl ∧ Cond.arrayOver (.object (cn 1)) ∈ lw_tbl ∧ Cond.arrayOver (.object (cn 2)) ∈ lw_tbl := by decide +kernel
theorem hw0_ok : ∀ m, m < 101 → hw m = 0 → Cond.static (yM m) ∈ lw_tbl := by decide +kernel
theorem hw1_ok : ∀ m, m < 101 → hw m = 1 → Cond.instanceMethod (yM m) ∈ lw_tbl ∧ Cond.selects (cn (ow m)) (yM m) (yM m) ∈ lw_tbl := by decide +kernel
theorem hw2_ok : ∀ m, m < 101 → hw m = 2 → Cond.instanceMethod (yM m) ∈ lw_tbl ∧ (yM m).name = "<init>" ∧ rt m = none := by decide +kernel
theorem yM_ok : ∀ m, m < 101 → (yM m).cls = cn (ow m) ∧ plainName (yM m).cls = true ∧ ow m < 6 ∧ ((yM m).cls ≠ "java/lang/invoke/MethodHandle" ∧ (yM m).cls ≠ "java/lang/invoke/VarHandle") ∧ ((parseMethodDescriptor (yM m).desc).map (fun d => d.parameters.length) = some (na m - bif Nat.beq (hw m) 0 then 0 else 1)) ∧ na m ≤ mx m ∧ mx m ≤ 8 := by decide +kernel
end
section
set_option maxRecDepth 100000 in
theorem cw_0 : cw 0 ∈ lw_tbl := List.mem_append_right _ (List.mem_append_left _ (List.mem_of_getElem? (l := tables_1_1) (i := 17) rfl))
set_option maxRecDepth 100000 in
theorem cw_1 : cw 1 ∈ lw_tbl := List.mem_append_right _ (List.mem_append_right _ (List.mem_append_left _ (List.mem_of_getElem? (l := tables_1_2) (i := 67) rfl)))
set_option maxRecDepth 100000 in
theorem cw_2 : cw 2 ∈ lw_tbl := List.mem_append_right _ (List.mem_append_left _ (List.mem_of_getElem? (l := tables_1_1) (i := 182) rfl))
set_option maxRecDepth 100000 in
theorem cw_3 : cw 3 ∈ lw_tbl := List.mem_append_right _ (List.mem_append_right _ (List.mem_append_left _ (List.mem_of_getElem? (l := tables_1_2) (i := 8) rfl)))
set_option maxRecDepth 100000 in
theorem cw_4 : cw 4 ∈ lw_tbl := List.mem_append_right _ (List.mem_append_left _ (List.mem_of_getElem? (l := tables_1_1) (i := 179) rfl))
set_option maxRecDepth 100000 in
theorem cw_5 : cw 5 ∈ lw_tbl := List.mem_append_right _ (List.mem_append_right _ (List.mem_append_left _ (List.mem_of_getElem? (l := tables_1_2) (i := 85) rfl)))
set_option maxRecDepth 100000 in
theorem cw_6 : cw 6 ∈ lw_tbl := List.mem_append_right _ (List.mem_append_right _ (List.mem_append_left _ (List.mem_of_getElem? (l := tables_1_2) (i := 64) rfl)))
set_option maxRecDepth 100000 in
theorem cw_7 : cw 7 ∈ lw_tbl := List.mem_append_right _ (List.mem_append_right _ (List.mem_append_left _ (List.mem_of_getElem? (l := tables_1_2) (i := 178) rfl)))
set_option maxRecDepth 100000 in
theorem cw_8 : cw 8 ∈ lw_tbl := List.mem_append_right _ (List.mem_append_left _ (List.mem_of_getElem? (l := tables_1_1) (i := 176) rfl))
set_option maxRecDepth 100000 in
theorem cw_9 : cw 9 ∈ lw_tbl := List.mem_append_right _ (List.mem_append_right _ (List.mem_append_left _ (List.mem_of_getElem? (l := tables_1_2) (i := 60) rfl)))
set_option maxRecDepth 100000 in
theorem cw_10 : cw 10 ∈ lw_tbl := List.mem_append_right _ (List.mem_append_right _ (List.mem_append_left _ (List.mem_of_getElem? (l := tables_1_2) (i := 111) rfl)))
set_option maxRecDepth 100000 in
theorem cw_11 : cw 11 ∈ lw_tbl := List.mem_append_right _ (List.mem_append_right _ (List.mem_append_left _ (List.mem_of_getElem? (l := tables_1_2) (i := 153) rfl)))
set_option maxRecDepth 100000 in
theorem cw_12 : cw 12 ∈ lw_tbl := List.mem_append_right _ (List.mem_append_right _ (List.mem_append_left _ (List.mem_of_getElem? (l := tables_1_2) (i := 150) rfl)))
set_option maxRecDepth 100000 in
theorem cw_13 : cw 13 ∈ lw_tbl := List.mem_append_right _ (List.mem_append_right _ (List.mem_append_left _ (List.mem_of_getElem? (l := tables_1_2) (i := 160) rfl)))
set_option maxRecDepth 100000 in
theorem cw_14 : cw 14 ∈ lw_tbl := List.mem_append_right _ (List.mem_append_right _ (List.mem_append_left _ (List.mem_of_getElem? (l := tables_1_2) (i := 167) rfl)))
set_option maxRecDepth 100000 in
theorem cw_15 : cw 15 ∈ lw_tbl := List.mem_append_right _ (List.mem_append_left _ (List.mem_of_getElem? (l := tables_1_1) (i := 99) rfl))
set_option maxRecDepth 100000 in
theorem cw_16 : cw 16 ∈ lw_tbl := List.mem_append_right _ (List.mem_append_left _ (List.mem_of_getElem? (l := tables_1_1) (i := 91) rfl))
set_option maxRecDepth 100000 in
theorem cw_17 : cw 17 ∈ lw_tbl := List.mem_append_right _ (List.mem_append_left _ (List.mem_of_getElem? (l := tables_1_1) (i := 136) rfl))
set_option maxRecDepth 100000 in
theorem cw_18 : cw 18 ∈ lw_tbl := List.mem_append_right _ (List.mem_append_left _ (List.mem_of_getElem? (l := tables_1_1) (i := 124) rfl))
set_option maxRecDepth 100000 in
theorem cw_19 : cw 19 ∈ lw_tbl := List.mem_append_right _ (List.mem_append_left _ (List.mem_of_getElem? (l := tables_1_1) (i := 120) rfl))
set_option maxRecDepth 100000 in
theorem cw_20 : cw 20 ∈ lw_tbl := List.mem_append_right _ (List.mem_append_left _ (List.mem_of_getElem? (l := tables_1_1) (i := 86) rfl))
set_option maxRecDepth 100000 in
theorem cw_21 : cw 21 ∈ lw_tbl := List.mem_append_right _ (List.mem_append_left _ (List.mem_of_getElem? (l := tables_1_1) (i := 145) rfl))
set_option maxRecDepth 100000 in
theorem cw_22 : cw 22 ∈ lw_tbl := List.mem_append_right _ (List.mem_append_left _ (List.mem_of_getElem? (l := tables_1_1) (i := 82) rfl))
set_option maxRecDepth 100000 in
theorem cw_23 : cw 23 ∈ lw_tbl := List.mem_append_right _ (List.mem_append_left _ (List.mem_of_getElem? (l := tables_1_1) (i := 149) rfl))
set_option maxRecDepth 100000 in
theorem cw_24 : cw 24 ∈ lw_tbl := List.mem_append_right _ (List.mem_append_left _ (List.mem_of_getElem? (l := tables_1_1) (i := 78) rfl))
set_option maxRecDepth 100000 in
theorem cw_25 : cw 25 ∈ lw_tbl := List.mem_append_right _ (List.mem_append_left _ (List.mem_of_getElem? (l := tables_1_1) (i := 153) rfl))
set_option maxRecDepth 100000 in
theorem cw_26 : cw 26 ∈ lw_tbl := List.mem_append_right _ (List.mem_append_right _ (List.mem_append_left _ (List.mem_of_getElem? (l := tables_1_2) (i := 174) rfl)))
set_option maxRecDepth 100000 in
theorem cw_27 : cw 27 ∈ lw_tbl := List.mem_append_right _ (List.mem_append_left _ (List.mem_of_getElem? (l := tables_1_1) (i := 161) rfl))
set_option maxRecDepth 100000 in
theorem cw_28 : cw 28 ∈ lw_tbl := List.mem_append_right _ (List.mem_append_right _ (List.mem_append_left _ (List.mem_of_getElem? (l := tables_1_2) (i := 185) rfl)))
set_option maxRecDepth 100000 in
theorem cw_29 : cw 29 ∈ lw_tbl := List.mem_append_right _ (List.mem_append_right _ (List.mem_append_left _ (List.mem_of_getElem? (l := tables_1_2) (i := 192) rfl)))
set_option maxRecDepth 100000 in
theorem cw_30 : cw 30 ∈ lw_tbl := List.mem_append_right _ (List.mem_append_right _ (List.mem_append_left _ (List.mem_of_getElem? (l := tables_1_2) (i := 199) rfl)))
set_option maxRecDepth 100000 in
theorem cw_31 : cw 31 ∈ lw_tbl := List.mem_append_right _ (List.mem_append_right _ (List.mem_append_left _ (List.mem_of_getElem? (l := tables_1_2) (i := 217) rfl)))
set_option maxRecDepth 100000 in
theorem cw_32 : cw 32 ∈ lw_tbl := List.mem_append_right _ (List.mem_append_right _ (List.mem_append_left _ (List.mem_of_getElem? (l := tables_1_2) (i := 222) rfl)))
set_option maxRecDepth 100000 in
theorem cw_33 : cw 33 ∈ lw_tbl := List.mem_append_right _ (List.mem_append_right _ (List.mem_append_left _ (List.mem_of_getElem? (l := tables_1_2) (i := 213) rfl)))
set_option maxRecDepth 100000 in
theorem cw_34 : cw 34 ∈ lw_tbl := List.mem_append_right _ (List.mem_append_right _ (List.mem_append_left _ (List.mem_of_getElem? (l := tables_1_2) (i := 209) rfl)))
set_option maxRecDepth 100000 in
theorem cw_35 : cw 35 ∈ lw_tbl := List.mem_append_right _ (List.mem_append_right _ (List.mem_append_left _ (List.mem_of_getElem? (l := tables_1_2) (i := 206) rfl)))
set_option maxRecDepth 100000 in
theorem cw_36 : cw 36 ∈ lw_tbl := List.mem_append_right _ (List.mem_append_right _ (List.mem_append_left _ (List.mem_of_getElem? (l := tables_1_2) (i := 229) rfl)))
set_option maxRecDepth 100000 in
theorem cw_37 : cw 37 ∈ lw_tbl := List.mem_append_right _ (List.mem_append_left _ (List.mem_of_getElem? (l := tables_1_1) (i := 157) rfl))
set_option maxRecDepth 100000 in
theorem cw_38 : cw 38 ∈ lw_tbl := List.mem_append_right _ (List.mem_append_right _ (List.mem_append_left _ (List.mem_of_getElem? (l := tables_1_2) (i := 236) rfl)))
set_option maxRecDepth 100000 in
theorem cw_39 : cw 39 ∈ lw_tbl := List.mem_append_right _ (List.mem_append_right _ (List.mem_append_right _ (List.mem_of_getElem? (l := tables_1_3) (i := 1) rfl)))
set_option maxRecDepth 100000 in
theorem cw_40 : cw 40 ∈ lw_tbl := List.mem_append_right _ (List.mem_append_right _ (List.mem_append_right _ (List.mem_of_getElem? (l := tables_1_3) (i := 89) rfl)))
set_option maxRecDepth 100000 in
theorem cw_41 : cw 41 ∈ lw_tbl := List.mem_append_right _ (List.mem_append_right _ (List.mem_append_right _ (List.mem_of_getElem? (l := tables_1_3) (i := 100) rfl)))
set_option maxRecDepth 100000 in
theorem cw_42 : cw 42 ∈ lw_tbl := List.mem_append_right _ (List.mem_append_right _ (List.mem_append_right _ (List.mem_of_getElem? (l := tables_1_3) (i := 96) rfl)))
set_option maxRecDepth 100000 in
theorem cw_43 : cw 43 ∈ lw_tbl := List.mem_append_right _ (List.mem_append_right _ (List.mem_append_right _ (List.mem_of_getElem? (l := tables_1_3) (i := 111) rfl)))
set_option maxRecDepth 100000 in
theorem cw_44 : cw 44 ∈ lw_tbl := List.mem_append_right _ (List.mem_append_right _ (List.mem_append_right _ (List.mem_of_getElem? (l := tables_1_3) (i := 108) rfl)))
set_option maxRecDepth 100000 in
theorem cw_45 : cw 45 ∈ lw_tbl := List.mem_append_right _ (List.mem_append_right _ (List.mem_append_right _ (List.mem_of_getElem? (l := tables_1_3) (i := 191) rfl)))
set_option maxRecDepth 100000 in
theorem cw_46 : cw 46 ∈ lw_tbl := List.mem_append_right _ (List.mem_append_right _ (List.mem_append_right _ (List.mem_of_getElem? (l := tables_1_3) (i := 93) rfl)))
set_option maxRecDepth 100000 in
theorem cw_47 : cw 47 ∈ lw_tbl := List.mem_append_right _ (List.mem_append_right _ (List.mem_append_right _ (List.mem_of_getElem? (l := tables_1_3) (i := 115) rfl)))
set_option maxRecDepth 100000 in
theorem cw_48 : cw 48 ∈ lw_tbl := List.mem_append_right _ (List.mem_append_right _ (List.mem_append_right _ (List.mem_of_getElem? (l := tables_1_3) (i := 104) rfl)))
set_option maxRecDepth 100000 in
theorem cw_49 : cw 49 ∈ lw_tbl := List.mem_append_right _ (List.mem_append_right _ (List.mem_append_right _ (List.mem_of_getElem? (l := tables_1_3) (i := 119) rfl)))
set_option maxRecDepth 100000 in
theorem cw_50 : cw 50 ∈ lw_tbl := List.mem_append_right _ (List.mem_append_right _ (List.mem_append_right _ (List.mem_of_getElem? (l := tables_1_3) (i := 123) rfl)))
set_option maxRecDepth 100000 in
theorem cw_51 : cw 51 ∈ lw_tbl := List.mem_append_right _ (List.mem_append_right _ (List.mem_append_right _ (List.mem_of_getElem? (l := tables_1_3) (i := 127) rfl)))
set_option maxRecDepth 100000 in
theorem cw_52 : cw 52 ∈ lw_tbl := List.mem_append_right _ (List.mem_append_right _ (List.mem_append_right _ (List.mem_of_getElem? (l := tables_1_3) (i := 131) rfl)))
set_option maxRecDepth 100000 in
theorem cw_53 : cw 53 ∈ lw_tbl := List.mem_append_right _ (List.mem_append_right _ (List.mem_append_right _ (List.mem_of_getElem? (l := tables_1_3) (i := 147) rfl)))
set_option maxRecDepth 100000 in
theorem cw_54 : cw 54 ∈ lw_tbl := List.mem_append_right _ (List.mem_append_right _ (List.mem_append_right _ (List.mem_of_getElem? (l := tables_1_3) (i := 159) rfl)))
set_option maxRecDepth 100000 in
theorem cw_55 : cw 55 ∈ lw_tbl := List.mem_append_right _ (List.mem_append_right _ (List.mem_append_right _ (List.mem_of_getElem? (l := tables_1_3) (i := 155) rfl)))
set_option maxRecDepth 100000 in
theorem cw_56 : cw 56 ∈ lw_tbl := List.mem_append_right _ (List.mem_append_right _ (List.mem_append_right _ (List.mem_of_getElem? (l := tables_1_3) (i := 151) rfl)))
set_option maxRecDepth 100000 in
theorem cw_57 : cw 57 ∈ lw_tbl := List.mem_append_right _ (List.mem_append_right _ (List.mem_append_right _ (List.mem_of_getElem? (l := tables_1_3) (i := 171) rfl)))
set_option maxRecDepth 100000 in
theorem cw_58 : cw 58 ∈ lw_tbl := List.mem_append_right _ (List.mem_append_right _ (List.mem_append_right _ (List.mem_of_getElem? (l := tables_1_3) (i := 143) rfl)))
set_option maxRecDepth 100000 in
theorem cw_59 : cw 59 ∈ lw_tbl := List.mem_append_right _ (List.mem_append_right _ (List.mem_append_right _ (List.mem_of_getElem? (l := tables_1_3) (i := 163) rfl)))
set_option maxRecDepth 100000 in
theorem cw_60 : cw 60 ∈ lw_tbl := List.mem_append_right _ (List.mem_append_right _ (List.mem_append_right _ (List.mem_of_getElem? (l := tables_1_3) (i := 167) rfl)))
set_option maxRecDepth 100000 in
theorem cw_61 : cw 61 ∈ lw_tbl := List.mem_append_right _ (List.mem_append_right _ (List.mem_append_right _ (List.mem_of_getElem? (l := tables_1_3) (i := 139) rfl)))
set_option maxRecDepth 100000 in
theorem cw_62 : cw 62 ∈ lw_tbl := List.mem_append_right _ (List.mem_append_right _ (List.mem_append_right _ (List.mem_of_getElem? (l := tables_1_3) (i := 175) rfl)))
set_option maxRecDepth 100000 in
theorem cw_63 : cw 63 ∈ lw_tbl := List.mem_append_right _ (List.mem_append_right _ (List.mem_append_right _ (List.mem_of_getElem? (l := tables_1_3) (i := 179) rfl)))
set_option maxRecDepth 100000 in
theorem cw_64 : cw 64 ∈ lw_tbl := List.mem_append_right _ (List.mem_append_right _ (List.mem_append_right _ (List.mem_of_getElem? (l := tables_1_3) (i := 135) rfl)))
set_option maxRecDepth 100000 in
theorem cw_65 : cw 65 ∈ lw_tbl := List.mem_append_right _ (List.mem_append_right _ (List.mem_append_right _ (List.mem_of_getElem? (l := tables_1_3) (i := 183) rfl)))
set_option maxRecDepth 100000 in
theorem cw_66 : cw 66 ∈ lw_tbl := List.mem_append_right _ (List.mem_append_right _ (List.mem_append_right _ (List.mem_of_getElem? (l := tables_1_3) (i := 187) rfl)))
set_option maxRecDepth 100000 in
theorem cw_67 : cw 67 ∈ lw_tbl := List.mem_append_right _ (List.mem_append_right _ (List.mem_append_right _ (List.mem_of_getElem? (l := tables_1_3) (i := 199) rfl)))
set_option maxRecDepth 100000 in
theorem cw_68 : cw 68 ∈ lw_tbl := List.mem_append_right _ (List.mem_append_right _ (List.mem_append_right _ (List.mem_of_getElem? (l := tables_1_3) (i := 195) rfl)))
set_option maxRecDepth 100000 in
theorem cw_69 : cw 69 ∈ lw_tbl := List.mem_append_right _ (List.mem_append_right _ (List.mem_append_right _ (List.mem_of_getElem? (l := tables_1_3) (i := 203) rfl)))
set_option maxRecDepth 100000 in
theorem cw_70 : cw 70 ∈ lw_tbl := List.mem_append_right _ (List.mem_append_right _ (List.mem_append_right _ (List.mem_of_getElem? (l := tables_1_3) (i := 207) rfl)))
set_option maxRecDepth 100000 in
theorem cw_71 : cw 71 ∈ lw_tbl := List.mem_append_right _ (List.mem_append_right _ (List.mem_append_right _ (List.mem_of_getElem? (l := tables_1_3) (i := 215) rfl)))
set_option maxRecDepth 100000 in
theorem cw_72 : cw 72 ∈ lw_tbl := List.mem_append_right _ (List.mem_append_right _ (List.mem_append_right _ (List.mem_of_getElem? (l := tables_1_3) (i := 219) rfl)))
set_option maxRecDepth 100000 in
theorem cw_73 : cw 73 ∈ lw_tbl := List.mem_append_right _ (List.mem_append_right _ (List.mem_append_right _ (List.mem_of_getElem? (l := tables_1_3) (i := 211) rfl)))
set_option maxRecDepth 100000 in
theorem cw_74 : cw 74 ∈ lw_tbl := List.mem_append_right _ (List.mem_append_right _ (List.mem_append_right _ (List.mem_of_getElem? (l := tables_1_3) (i := 223) rfl)))
set_option maxRecDepth 100000 in
theorem cw_75 : cw 75 ∈ lw_tbl := List.mem_append_right _ (List.mem_append_right _ (List.mem_append_right _ (List.mem_of_getElem? (l := tables_1_3) (i := 227) rfl)))
set_option maxRecDepth 100000 in
theorem cw_76 : cw 76 ∈ lw_tbl := List.mem_append_right _ (List.mem_append_right _ (List.mem_append_right _ (List.mem_of_getElem? (l := tables_1_3) (i := 231) rfl)))
set_option maxRecDepth 100000 in
theorem cw_77 : cw 77 ∈ lw_tbl := List.mem_append_right _ (List.mem_append_right _ (List.mem_append_left _ (List.mem_of_getElem? (l := tables_1_2) (i := 27) rfl)))
set_option maxRecDepth 100000 in
theorem cw_78 : cw 78 ∈ lw_tbl := List.mem_append_right _ (List.mem_append_left _ (List.mem_of_getElem? (l := tables_1_1) (i := 128) rfl))
set_option maxRecDepth 100000 in
theorem cw_79 : cw 79 ∈ lw_tbl := List.mem_append_right _ (List.mem_append_left _ (List.mem_of_getElem? (l := tables_1_1) (i := 103) rfl))
set_option maxRecDepth 100000 in
theorem cw_80 : cw 80 ∈ lw_tbl := List.mem_append_right _ (List.mem_append_left _ (List.mem_of_getElem? (l := tables_1_1) (i := 115) rfl))
set_option maxRecDepth 100000 in
theorem cw_81 : cw 81 ∈ lw_tbl := List.mem_append_right _ (List.mem_append_left _ (List.mem_of_getElem? (l := tables_1_1) (i := 141) rfl))
set_option maxRecDepth 100000 in
theorem cw_82 : cw 82 ∈ lw_tbl := List.mem_append_right _ (List.mem_append_left _ (List.mem_of_getElem? (l := tables_1_1) (i := 132) rfl))
set_option maxRecDepth 100000 in
theorem cw_83 : cw 83 ∈ lw_tbl := List.mem_append_right _ (List.mem_append_left _ (List.mem_of_getElem? (l := tables_1_1) (i := 95) rfl))
set_option maxRecDepth 100000 in
theorem cw_84 : cw 84 ∈ lw_tbl := List.mem_append_right _ (List.mem_append_right _ (List.mem_append_left _ (List.mem_of_getElem? (l := tables_1_2) (i := 90) rfl)))
set_option maxRecDepth 100000 in
theorem cw_85 : cw 85 ∈ lw_tbl := List.mem_append_right _ (List.mem_append_right _ (List.mem_append_left _ (List.mem_of_getElem? (l := tables_1_2) (i := 115) rfl)))
set_option maxRecDepth 100000 in
theorem cw_86 : cw 86 ∈ lw_tbl := List.mem_append_right _ (List.mem_append_left _ (List.mem_of_getElem? (l := tables_1_1) (i := 107) rfl))
set_option maxRecDepth 100000 in
theorem cw_87 : cw 87 ∈ lw_tbl := List.mem_append_right _ (List.mem_append_left _ (List.mem_of_getElem? (l := tables_1_1) (i := 111) rfl))
set_option maxRecDepth 100000 in
theorem cw_88 : cw 88 ∈ lw_tbl := List.mem_append_right _ (List.mem_append_left _ (List.mem_of_getElem? (l := tables_1_1) (i := 170) rfl))
set_option maxRecDepth 100000 in
theorem cw_89 : cw 89 ∈ lw_tbl := List.mem_append_right _ (List.mem_append_right _ (List.mem_append_left _ (List.mem_of_getElem? (l := tables_1_2) (i := 55) rfl)))
set_option maxRecDepth 100000 in
theorem cw_90 : cw 90 ∈ lw_tbl := List.mem_append_right _ (List.mem_append_right _ (List.mem_append_left _ (List.mem_of_getElem? (l := tables_1_2) (i := 107) rfl)))
set_option maxRecDepth 100000 in
theorem cw_91 : cw 91 ∈ lw_tbl := List.mem_append_right _ (List.mem_append_right _ (List.mem_append_left _ (List.mem_of_getElem? (l := tables_1_2) (i := 146) rfl)))
set_option maxRecDepth 100000 in
theorem cw_92 : cw 92 ∈ lw_tbl := List.mem_append_right _ (List.mem_append_right _ (List.mem_append_left _ (List.mem_of_getElem? (l := tables_1_2) (i := 156) rfl)))
set_option maxRecDepth 100000 in
theorem cw_93 : cw 93 ∈ lw_tbl := List.mem_append_right _ (List.mem_append_right _ (List.mem_append_left _ (List.mem_of_getElem? (l := tables_1_2) (i := 163) rfl)))
set_option maxRecDepth 100000 in
theorem cw_94 : cw 94 ∈ lw_tbl := List.mem_append_right _ (List.mem_append_right _ (List.mem_append_left _ (List.mem_of_getElem? (l := tables_1_2) (i := 170) rfl)))
set_option maxRecDepth 100000 in
theorem cw_95 : cw 95 ∈ lw_tbl := List.mem_append_right _ (List.mem_append_right _ (List.mem_append_left _ (List.mem_of_getElem? (l := tables_1_2) (i := 181) rfl)))
set_option maxRecDepth 100000 in
theorem cw_96 : cw 96 ∈ lw_tbl := List.mem_append_right _ (List.mem_append_right _ (List.mem_append_left _ (List.mem_of_getElem? (l := tables_1_2) (i := 188) rfl)))
set_option maxRecDepth 100000 in
theorem cw_97 : cw 97 ∈ lw_tbl := List.mem_append_right _ (List.mem_append_right _ (List.mem_append_left _ (List.mem_of_getElem? (l := tables_1_2) (i := 195) rfl)))
set_option maxRecDepth 100000 in
theorem cw_98 : cw 98 ∈ lw_tbl := List.mem_append_right _ (List.mem_append_right _ (List.mem_append_left _ (List.mem_of_getElem? (l := tables_1_2) (i := 202) rfl)))
set_option maxRecDepth 100000 in
theorem cw_99 : cw 99 ∈ lw_tbl := List.mem_append_right _ (List.mem_append_right _ (List.mem_append_left _ (List.mem_of_getElem? (l := tables_1_2) (i := 225) rfl)))
set_option maxRecDepth 100000 in
theorem cw_100 : cw 100 ∈ lw_tbl := List.mem_append_right _ (List.mem_append_right _ (List.mem_append_left _ (List.mem_of_getElem? (l := tables_1_2) (i := 232) rfl)))
theorem cw_ok (m : Nat) (h : m < 101) : cw m ∈ lw_tbl := match m, h with
  | 0, _ => cw_0
  | 1, _ => cw_1
  | 2, _ => cw_2
  | 3, _ => cw_3
  | 4, _ => cw_4
  | 5, _ => cw_5
  | 6, _ => cw_6
  | 7, _ => cw_7
  | 8, _ => cw_8
  | 9, _ => cw_9
  | 10, _ => cw_10
  | 11, _ => cw_11
  | 12, _ => cw_12
  | 13, _ => cw_13
  | 14, _ => cw_14
  | 15, _ => cw_15
  | 16, _ => cw_16
  | 17, _ => cw_17
  | 18, _ => cw_18
  | 19, _ => cw_19
  | 20, _ => cw_20
  | 21, _ => cw_21
  | 22, _ => cw_22
  | 23, _ => cw_23
  | 24, _ => cw_24
  | 25, _ => cw_25
  | 26, _ => cw_26
  | 27, _ => cw_27
  | 28, _ => cw_28
  | 29, _ => cw_29
  | 30, _ => cw_30
  | 31, _ => cw_31
  | 32, _ => cw_32
  | 33, _ => cw_33
  | 34, _ => cw_34
  | 35, _ => cw_35
  | 36, _ => cw_36
  | 37, _ => cw_37
  | 38, _ => cw_38
  | 39, _ => cw_39
  | 40, _ => cw_40
  | 41, _ => cw_41
  | 42, _ => cw_42
  | 43, _ => cw_43
  | 44, _ => cw_44
  | 45, _ => cw_45
  | 46, _ => cw_46
  | 47, _ => cw_47
  | 48, _ => cw_48
  | 49, _ => cw_49
  | 50, _ => cw_50
  | 51, _ => cw_51
  | 52, _ => cw_52
  | 53, _ => cw_53
  | 54, _ => cw_54
  | 55, _ => cw_55
  | 56, _ => cw_56
  | 57, _ => cw_57
  | 58, _ => cw_58
  | 59, _ => cw_59
  | 60, _ => cw_60
  | 61, _ => cw_61
  | 62, _ => cw_62
  | 63, _ => cw_63
  | 64, _ => cw_64
  | 65, _ => cw_65
  | 66, _ => cw_66
  | 67, _ => cw_67
  | 68, _ => cw_68
  | 69, _ => cw_69
  | 70, _ => cw_70
  | 71, _ => cw_71
  | 72, _ => cw_72
  | 73, _ => cw_73
  | 74, _ => cw_74
  | 75, _ => cw_75
  | 76, _ => cw_76
  | 77, _ => cw_77
  | 78, _ => cw_78
  | 79, _ => cw_79
  | 80, _ => cw_80
  | 81, _ => cw_81
  | 82, _ => cw_82
  | 83, _ => cw_83
  | 84, _ => cw_84
  | 85, _ => cw_85
  | 86, _ => cw_86
  | 87, _ => cw_87
  | 88, _ => cw_88
  | 89, _ => cw_89
  | 90, _ => cw_90
  | 91, _ => cw_91
  | 92, _ => cw_92
  | 93, _ => cw_93
  | 94, _ => cw_94
  | 95, _ => cw_95
  | 96, _ => cw_96
  | 97, _ => cw_97
  | 98, _ => cw_98
  | 99, _ => cw_99
  | 100, _ => cw_100
  | n + 101, h => absurd h (by omega)
end
section
-- DOES AN ABSTRACT INSTRUCTION SAY WHAT THE BYTES SAY
def cnN : Jvm.ClassFile.Cond → Nat
  | .eq => 0 | .ne => 1 | .lt => 2 | .ge => 3 | .gt => 4 | .le => 5
def acN : ACond → Nat
  | .eq => 0 | .ne => 1
def atK (t : ArrayType) (a : Nat) : Bool := match newarray.typeOf t with
  | .int => Nat.beq a 7 || Nat.beq a 8 || Nat.beq a 9
  | .boolean => Nat.beq a 10
  | .long => Nat.beq a 11
  | _ => false
def thr (m pc a : Nat) : Bool := match decode (bts m) (pc + 3), decode (bts m) (pc + 4), decode (bts m) (pc + 7) with
  | .ok (.dup, 1), .ok (.invokespecial ic, 3), .ok (.athrow, 1) => decide ((ow m, ic, a) ∈ XL)
  | _, _, _ => false
def okI (m pc : Nat) (i : Ins) (r : Instr) (len : Nat) : Bool := match i with
  | (op, a, b, c, nx) => match r with
    | .iconst v => Nat.beq len 1 && Nat.beq nx (pc + 1) && Nat.beq op 1 && decide (c = Int32.ofInt v)
    | .bipush v => Nat.beq len 2 && Nat.beq nx (pc + 2) && Nat.beq op 1 && decide (c = (Int8.ofInt v).toInt32)
    | .sipush v => Nat.beq len 3 && Nat.beq nx (pc + 3) && Nat.beq op 1 && decide (c = (Int16.ofInt v).toInt32)
    | .ldc x => Nat.beq len 2 && Nat.beq nx (pc + 2) && Nat.beq op 1 && decide ((ow m, x, c) ∈ CK)
    | .iload x => Nat.beq len 2 && Nat.beq nx (pc + 2) && Nat.beq op 2 && Nat.beq a x
    | .iload_n k => Nat.beq len 1 && Nat.beq nx (pc + 1) && Nat.beq op 2 && Nat.beq a k
    | .aload x => Nat.beq len 2 && Nat.beq nx (pc + 2) && Nat.beq op 49 && Nat.beq a x
    | .aload_n k => Nat.beq len 1 && Nat.beq nx (pc + 1) && Nat.beq op 49 && Nat.beq a k
    | .istore x => Nat.beq len 2 && Nat.beq nx (pc + 2) && Nat.beq op 3 && Nat.beq a x && Nat.blt x (mx m)
    | .istore_n k => Nat.beq len 1 && Nat.beq nx (pc + 1) && Nat.beq op 3 && Nat.beq a k && Nat.blt k (mx m)
    | .astore x => Nat.beq len 2 && Nat.beq nx (pc + 2) && Nat.beq op 50 && Nat.beq a x && Nat.blt x (mx m)
    | .astore_n k => Nat.beq len 1 && Nat.beq nx (pc + 1) && Nat.beq op 50 && Nat.beq a k && Nat.blt k (mx m)
    | .aconst_null => Nat.beq len 1 && Nat.beq nx (pc + 1) && Nat.beq op 4
    | .dup => Nat.beq len 1 && Nat.beq nx (pc + 1) && Nat.beq op 5
    | .dup_x1 => Nat.beq len 1 && Nat.beq nx (pc + 1) && Nat.beq op 6
    | .iadd => Nat.beq len 1 && Nat.beq nx (pc + 1) && Nat.beq op 7
    | .isub => Nat.beq len 1 && Nat.beq nx (pc + 1) && Nat.beq op 8
    | .imul => Nat.beq len 1 && Nat.beq nx (pc + 1) && Nat.beq op 9
    | .idiv => Nat.beq len 1 && Nat.beq nx (pc + 1) && Nat.beq op 10
    | .irem => Nat.beq len 1 && Nat.beq nx (pc + 1) && Nat.beq op 11
    | .iand => Nat.beq len 1 && Nat.beq nx (pc + 1) && Nat.beq op 12
    | .ishr => Nat.beq len 1 && Nat.beq nx (pc + 1) && Nat.beq op 13
    | .iinc x n => Nat.beq len 3 && Nat.beq nx (pc + 3) && Nat.beq op 14 && Nat.beq a x && decide (c = Int32.ofInt n) && Nat.blt x (mx m)
    | .i2l => Nat.beq len 1 && Nat.beq nx (pc + 1) && Nat.beq op 15
    | .lcmp => Nat.beq len 1 && Nat.beq nx (pc + 1) && Nat.beq op 16
    | .goto off => Nat.beq len 3 && Nat.beq op 17 && decide ((pc : Int) + off = (a : Int))
    | .ifCond cd off => Nat.beq len 3 && Nat.beq nx (pc + 3) && Nat.beq op 18 && Nat.beq b (cnN cd) && decide ((pc : Int) + off = (a : Int))
    | .if_icmp cd off => Nat.beq len 3 && Nat.beq nx (pc + 3) && Nat.beq op 19 && Nat.beq b (cnN cd) && decide ((pc : Int) + off = (a : Int))
    | .if_acmp cd off => Nat.beq len 3 && Nat.beq nx (pc + 3) && Nat.beq op 20 && Nat.beq b (acN cd) && decide ((pc : Int) + off = (a : Int))
    | .ifnull off => Nat.beq len 3 && Nat.beq nx (pc + 3) && Nat.beq op 21 && decide ((pc : Int) + off = (a : Int))
    | .ifnonnull off => Nat.beq len 3 && Nat.beq nx (pc + 3) && Nat.beq op 22 && decide ((pc : Int) + off = (a : Int))
    | .tableswitch df lo hi offs => Nat.beq op 23 && decide (lo = 0) && decide (hi + 1 = ((swt a).1.length : Int)) && decide ((pc : Int) + df = ((swt a).2 : Int)) && decide (offs.toList.map (fun z => (pc : Int) + z) = (swt a).1.map (fun z : Nat => (z : Int)))
    | .getfield x => Nat.beq len 3 && Nat.beq nx (pc + 3) && decide ((ow m, x, a, b) ∈ FL) && Nat.blt a 5 && Nat.blt b (kN a) && ((Nat.beq op 24 && !frf a b) || (Nat.beq op 25 && frf a b))
    | .putfield x => Nat.beq len 3 && Nat.beq nx (pc + 3) && decide ((ow m, x, a, b) ∈ FL) && Nat.blt a 5 && Nat.blt b (kN a) && (!(kF a b).2.2.2 || (Nat.beq (hw m) 2 && Nat.beq (ow m) a)) && ((Nat.beq op 26 && decide (kT a b = .int)) || (Nat.beq op 27 && decide (kT a b = .boolean)) || (Nat.beq op 28 && frf a b))
    | .new x => Nat.beq len 3 && decide ((ow m, x, a) ∈ CL) && ((Nat.beq op 29 && Nat.blt a 5 && Nat.beq nx (pc + 3)) || (Nat.beq op 48 && Nat.ble 12 a && Nat.blt a 15 && thr m pc a && decide (hh m = [])))
    | .newarray t => Nat.beq len 2 && Nat.beq nx (pc + 2) && Nat.beq op 30 && atK t a
    | .anewarray x => Nat.beq len 3 && Nat.beq nx (pc + 3) && Nat.beq op 30 && ((Nat.beq a 5 && decide ((ow m, x, 1) ∈ CL)) || (Nat.beq a 6 && decide ((ow m, x, 2) ∈ CL)))
    | .iaload => Nat.beq len 1 && Nat.beq nx (pc + 1) && Nat.beq op 31
    | .iastore => Nat.beq len 1 && Nat.beq nx (pc + 1) && Nat.beq op 32
    | .baload => Nat.beq len 1 && Nat.beq nx (pc + 1) && Nat.beq op 33
    | .bastore => Nat.beq len 1 && Nat.beq nx (pc + 1) && Nat.beq op 34
    | .aaload => Nat.beq len 1 && Nat.beq nx (pc + 1) && Nat.beq op 35
    | .aastore => Nat.beq len 1 && Nat.beq nx (pc + 1) && Nat.beq op 36
    | .laload => Nat.beq len 1 && Nat.beq nx (pc + 1) && Nat.beq op 37
    | .lastore => Nat.beq len 1 && Nat.beq nx (pc + 1) && Nat.beq op 38
    | .arraylength => Nat.beq len 1 && Nat.beq nx (pc + 1) && Nat.beq op 39
    | .invokevirtual x => Nat.beq len 3 && Nat.beq nx (pc + 3) && Nat.beq op 40 && decide ((ow m, x, a) ∈ ML) && Nat.beq (hw a) 1 && Nat.beq b (na a) && Nat.blt a 101
    | .invokestatic x => Nat.beq len 3 && Nat.beq nx (pc + 3) && ((Nat.beq op 40 && decide ((ow m, x, a) ∈ ML) && Nat.beq (hw a) 0 && Nat.beq b (na a) && Nat.blt a 101) || (Nat.beq op 42 && decide (MX = (ow m, x))) || (Nat.beq op 43 && decide (MN = (ow m, x))))
    | .invokespecial x => Nat.beq len 3 && Nat.beq nx (pc + 3) && ((Nat.beq op 40 && decide ((ow m, x, a) ∈ ML) && Nat.beq (hw a) 2 && Nat.beq b (na a) && Nat.blt a 101) || (Nat.beq op 41 && decide ((ow m, x) ∈ OL)))
    | .ireturn => Nat.beq len 1 && ((Nat.beq op 44 && decide (rt m = some .int)) || (Nat.beq op 45 && decide (rt m = some .boolean)))
    | .areturn => Nat.beq len 1 && Nat.beq op 46 && (match rt m with | some (.object _) => true | _ => false)
    | .return_ => Nat.beq len 1 && Nat.beq op 47 && decide (rt m = none)
    | _ => false
def okA (m : Nat) (q : Nat × Ins) : Bool := match decode (bts m) q.1 with
  | .ok (r, len) => okI m q.1 q.2 r len
  | _ => false
end
section
theorem dk_0 : (c_0).all (okA 0) = true := by decide +kernel
theorem dk_1 : (c_1).all (okA 1) = true := by decide +kernel
theorem dk_2 : (c_2).all (okA 2) = true := by decide +kernel
theorem dk_3 : (c_3).all (okA 3) = true := by decide +kernel
theorem dk_4 : (c_4).all (okA 4) = true := by decide +kernel
theorem dk_5 : (c_5).all (okA 5) = true := by decide +kernel
theorem dk_6 : (c_6).all (okA 6) = true := by decide +kernel
theorem dk_7 : (c_7).all (okA 7) = true := by decide +kernel
theorem dk_8 : (c_8).all (okA 8) = true := by decide +kernel
theorem dk_9 : (c_9).all (okA 9) = true := by decide +kernel
theorem dk_10 : (c_10).all (okA 10) = true := by decide +kernel
theorem dk_11 : (c_11).all (okA 11) = true := by decide +kernel
theorem dk_12 : (c_12).all (okA 12) = true := by decide +kernel
theorem dk_13 : (c_13).all (okA 13) = true := by decide +kernel
theorem dk_14 : (c_14).all (okA 14) = true := by decide +kernel
theorem dk_15 : (c_15).all (okA 15) = true := by decide +kernel
theorem dk_16 : (c_16).all (okA 16) = true := by decide +kernel
theorem dk_17 : (c_17).all (okA 17) = true := by decide +kernel
end
section
theorem dk_18 : (c_18).all (okA 18) = true := by decide +kernel
theorem dk_19 : (c_19).all (okA 19) = true := by decide +kernel
theorem dk_20 : (c_20).all (okA 20) = true := by decide +kernel
theorem dk_21 : (c_21).all (okA 21) = true := by decide +kernel
theorem dk_22 : (c_22).all (okA 22) = true := by decide +kernel
theorem dk_23 : (c_23).all (okA 23) = true := by decide +kernel
theorem dk_24 : (c_24).all (okA 24) = true := by decide +kernel
theorem dk_25 : (c_25).all (okA 25) = true := by decide +kernel
theorem dk_26 : (c_26).all (okA 26) = true := by decide +kernel
theorem dk_27 : (c_27).all (okA 27) = true := by decide +kernel
theorem dk_28 : (c_28).all (okA 28) = true := by decide +kernel
end
section
theorem dk_29 : (c_29).all (okA 29) = true := by decide +kernel
theorem dk_30 : (c_30).all (okA 30) = true := by decide +kernel
theorem dk_31 : (c_31).all (okA 31) = true := by decide +kernel
theorem dk_32 : (c_32).all (okA 32) = true := by decide +kernel
theorem dk_33 : (c_33).all (okA 33) = true := by decide +kernel
theorem dk_34 : (c_34).all (okA 34) = true := by decide +kernel
theorem dk_35 : (c_35).all (okA 35) = true := by decide +kernel
theorem dk_36 : (c_36).all (okA 36) = true := by decide +kernel
theorem dk_37 : (c_37).all (okA 37) = true := by decide +kernel
theorem dk_38 : (c_38).all (okA 38) = true := by decide +kernel
theorem dk_39 : (c_39).all (okA 39) = true := by decide +kernel
end
section
theorem dk_40 : (c_40).all (okA 40) = true := by decide +kernel
theorem dk_41 : (c_41).all (okA 41) = true := by decide +kernel
theorem dk_42 : (c_42).all (okA 42) = true := by decide +kernel
theorem dk_43 : (c_43).all (okA 43) = true := by decide +kernel
theorem dk_44 : (c_44).all (okA 44) = true := by decide +kernel
theorem dk_45 : (c_45).all (okA 45) = true := by decide +kernel
theorem dk_46 : (c_46).all (okA 46) = true := by decide +kernel
theorem dk_47 : (c_47).all (okA 47) = true := by decide +kernel
theorem dk_48 : (c_48).all (okA 48) = true := by decide +kernel
theorem dk_49 : (c_49).all (okA 49) = true := by decide +kernel
theorem dk_50 : (c_50).all (okA 50) = true := by decide +kernel
theorem dk_51 : (c_51).all (okA 51) = true := by decide +kernel
theorem dk_52 : (c_52).all (okA 52) = true := by decide +kernel
theorem dk_53 : (c_53).all (okA 53) = true := by decide +kernel
theorem dk_54 : (c_54).all (okA 54) = true := by decide +kernel
theorem dk_55 : (c_55).all (okA 55) = true := by decide +kernel
end
section
theorem dk_56 : (c_56).all (okA 56) = true := by decide +kernel
theorem dk_57 : (c_57).all (okA 57) = true := by decide +kernel
theorem dk_58 : (c_58).all (okA 58) = true := by decide +kernel
theorem dk_59 : (c_59).all (okA 59) = true := by decide +kernel
theorem dk_60 : (c_60).all (okA 60) = true := by decide +kernel
theorem dk_61 : (c_61).all (okA 61) = true := by decide +kernel
theorem dk_62 : (c_62).all (okA 62) = true := by decide +kernel
theorem dk_63 : (c_63).all (okA 63) = true := by decide +kernel
end
section
theorem dk_64 : (c_64).all (okA 64) = true := by decide +kernel
theorem dk_65 : (c_65).all (okA 65) = true := by decide +kernel
theorem dk_66 : (c_66).all (okA 66) = true := by decide +kernel
theorem dk_67 : (c_67).all (okA 67) = true := by decide +kernel
theorem dk_68 : (c_68).all (okA 68) = true := by decide +kernel
theorem dk_69 : (c_69).all (okA 69) = true := by decide +kernel
theorem dk_70 : (c_70).all (okA 70) = true := by decide +kernel
theorem dk_71 : (c_71).all (okA 71) = true := by decide +kernel
theorem dk_72 : (c_72).all (okA 72) = true := by decide +kernel
theorem dk_73 : (c_73).all (okA 73) = true := by decide +kernel
theorem dk_74 : (c_74).all (okA 74) = true := by decide +kernel
end
section
theorem dk_75 : (c_75).all (okA 75) = true := by decide +kernel
theorem dk_76 : (c_76).all (okA 76) = true := by decide +kernel
theorem dk_77 : (c_77).all (okA 77) = true := by decide +kernel
theorem dk_78 : (c_78).all (okA 78) = true := by decide +kernel
theorem dk_79 : (c_79).all (okA 79) = true := by decide +kernel
theorem dk_80 : (c_80).all (okA 80) = true := by decide +kernel
theorem dk_81 : (c_81).all (okA 81) = true := by decide +kernel
theorem dk_82 : (c_82).all (okA 82) = true := by decide +kernel
theorem dk_83 : (c_83).all (okA 83) = true := by decide +kernel
theorem dk_84 : (c_84).all (okA 84) = true := by decide +kernel
theorem dk_85 : (c_85).all (okA 85) = true := by decide +kernel
theorem dk_86 : (c_86).all (okA 86) = true := by decide +kernel
theorem dk_87 : (c_87).all (okA 87) = true := by decide +kernel
theorem dk_88 : (c_88).all (okA 88) = true := by decide +kernel
theorem dk_89 : (c_89).all (okA 89) = true := by decide +kernel
theorem dk_90 : (c_90).all (okA 90) = true := by decide +kernel
theorem dk_91 : (c_91).all (okA 91) = true := by decide +kernel
theorem dk_92 : (c_92).all (okA 92) = true := by decide +kernel
theorem dk_93 : (c_93).all (okA 93) = true := by decide +kernel
theorem dk_94 : (c_94).all (okA 94) = true := by decide +kernel
theorem dk_95 : (c_95).all (okA 95) = true := by decide +kernel
theorem dk_96 : (c_96).all (okA 96) = true := by decide +kernel
theorem dk_97 : (c_97).all (okA 97) = true := by decide +kernel
end
section
theorem dk_98 : (c_98).all (okA 98) = true := by decide +kernel
theorem dk_99 : (c_99).all (okA 99) = true := by decide +kernel
theorem dk_100 : (c_100).all (okA 100) = true := by decide +kernel
theorem dk_101_0 : ((c_101.drop 0).take 60).all (okA 101) = true := by decide +kernel
theorem dk_101_1 : ((c_101.drop 60).take 60).all (okA 101) = true := by decide +kernel
theorem dk_101_2 : ((c_101.drop 120).take 60).all (okA 101) = true := by decide +kernel
theorem dk_101_3 : ((c_101.drop 180).take 60).all (okA 101) = true := by decide +kernel
theorem dk_101_4 : ((c_101.drop 240).take 60).all (okA 101) = true := by decide +kernel
theorem dk_101_5 : ((c_101.drop 300).take 60).all (okA 101) = true := by decide +kernel
end
section
theorem dk_101_6 : ((c_101.drop 360).take 60).all (okA 101) = true := by decide +kernel
theorem dk_101_7 : ((c_101.drop 420).take 60).all (okA 101) = true := by decide +kernel
theorem dk_101_8 : ((c_101.drop 480).take 60).all (okA 101) = true := by decide +kernel
theorem dk_101_9 : ((c_101.drop 540).take 33).all (okA 101) = true := by decide +kernel
end
section
theorem dk_101 : (c_101).all (okA 101) = true := by
  have e : c_101 = ((c_101.drop 0).take 60) ++ ((c_101.drop 60).take 60) ++ ((c_101.drop 120).take 60) ++ ((c_101.drop 180).take 60) ++ ((c_101.drop 240).take 60) ++ ((c_101.drop 300).take 60) ++ ((c_101.drop 360).take 60) ++ ((c_101.drop 420).take 60) ++ ((c_101.drop 480).take 60) ++ ((c_101.drop 540).take 33) := by decide +kernel
  rw [e]
  simp only [List.all_append, dk_101_0, dk_101_1, dk_101_2, dk_101_3, dk_101_4, dk_101_5, dk_101_6, dk_101_7, dk_101_8, dk_101_9, Bool.and_self]
theorem look_in : ∀ (t : List (Nat × Ins)) (pc : Nat) (i : Ins), look t pc = some i → (pc, i) ∈ t
  | [], _, _, h => by simp [look] at h
  | (k, v) :: t, pc, i, h => by
    unfold look at h
    cases hk : Nat.beq k pc with
    | true =>
      rw [hk] at h
      simp only [cond_true, Option.some.injEq] at h
      rw [Nat.eq_of_beq_eq_true hk, h]
      exact List.mem_cons_self
    | false =>
      rw [hk] at h
      exact List.mem_cons_of_mem _ (look_in t pc i h)
theorem nth_none (t : List (List (Nat × Ins))) : ∀ n, t.length ≤ n → nthC t n = [] := by
  induction t with
  | nil => intro n _; rfl
  | cons a t ih => intro n h; cases n with
    | zero => simp at h
    | succ n => exact ih n (by simpa using h)
theorem dk_all (m : Nat) (h : m < 102) : (nthC cT m).all (okA m) = true := match m, h with
  | 0, _ => dk_0
  | 1, _ => dk_1
  | 2, _ => dk_2
  | 3, _ => dk_3
  | 4, _ => dk_4
  | 5, _ => dk_5
  | 6, _ => dk_6
  | 7, _ => dk_7
  | 8, _ => dk_8
  | 9, _ => dk_9
  | 10, _ => dk_10
  | 11, _ => dk_11
  | 12, _ => dk_12
  | 13, _ => dk_13
  | 14, _ => dk_14
  | 15, _ => dk_15
  | 16, _ => dk_16
  | 17, _ => dk_17
  | 18, _ => dk_18
  | 19, _ => dk_19
  | 20, _ => dk_20
  | 21, _ => dk_21
  | 22, _ => dk_22
  | 23, _ => dk_23
  | 24, _ => dk_24
  | 25, _ => dk_25
  | 26, _ => dk_26
  | 27, _ => dk_27
  | 28, _ => dk_28
  | 29, _ => dk_29
  | 30, _ => dk_30
  | 31, _ => dk_31
  | 32, _ => dk_32
  | 33, _ => dk_33
  | 34, _ => dk_34
  | 35, _ => dk_35
  | 36, _ => dk_36
  | 37, _ => dk_37
  | 38, _ => dk_38
  | 39, _ => dk_39
  | 40, _ => dk_40
  | 41, _ => dk_41
  | 42, _ => dk_42
  | 43, _ => dk_43
  | 44, _ => dk_44
  | 45, _ => dk_45
  | 46, _ => dk_46
  | 47, _ => dk_47
  | 48, _ => dk_48
  | 49, _ => dk_49
  | 50, _ => dk_50
  | 51, _ => dk_51
  | 52, _ => dk_52
  | 53, _ => dk_53
  | 54, _ => dk_54
  | 55, _ => dk_55
  | 56, _ => dk_56
  | 57, _ => dk_57
  | 58, _ => dk_58
  | 59, _ => dk_59
  | 60, _ => dk_60
  | 61, _ => dk_61
  | 62, _ => dk_62
  | 63, _ => dk_63
  | 64, _ => dk_64
  | 65, _ => dk_65
  | 66, _ => dk_66
  | 67, _ => dk_67
  | 68, _ => dk_68
  | 69, _ => dk_69
  | 70, _ => dk_70
  | 71, _ => dk_71
  | 72, _ => dk_72
  | 73, _ => dk_73
  | 74, _ => dk_74
  | 75, _ => dk_75
  | 76, _ => dk_76
  | 77, _ => dk_77
  | 78, _ => dk_78
  | 79, _ => dk_79
  | 80, _ => dk_80
  | 81, _ => dk_81
  | 82, _ => dk_82
  | 83, _ => dk_83
  | 84, _ => dk_84
  | 85, _ => dk_85
  | 86, _ => dk_86
  | 87, _ => dk_87
  | 88, _ => dk_88
  | 89, _ => dk_89
  | 90, _ => dk_90
  | 91, _ => dk_91
  | 92, _ => dk_92
  | 93, _ => dk_93
  | 94, _ => dk_94
  | 95, _ => dk_95
  | 96, _ => dk_96
  | 97, _ => dk_97
  | 98, _ => dk_98
  | 99, _ => dk_99
  | 100, _ => dk_100
  | 101, _ => dk_101
  | n + 102, h => absurd h (by omega)
theorem ins_ok {m pc : Nat} {i : Ins} (h : ins m pc = some i) : m < 102 ∧ ∃ r len, decode (bts m) pc = .ok (r, len) ∧ okI m pc i r len = true := by
  have hm : m < 102 := by
    rcases Nat.lt_or_ge m 102 with q | q
    · exact q
    · rw [ins, nth_none cT m (show cT.length ≤ m from q)] at h
      simp [look] at h
  refine ⟨hm, ?_⟩
  have h1 := List.all_eq_true.mp (dk_all m hm) _ (look_in _ _ _ h)
  unfold okA at h1
  dsimp only at h1
  cases hd : decode (bts m) pc with
  | error e => rw [hd] at h1; simp at h1
  | ok q =>
    obtain ⟨r, len⟩ := q
    rw [hd] at h1
    exact ⟨r, len, rfl, h1⟩
end
section
-- WHAT TIES THE ABSTRACT STATE TO THE MACHINE'S
def cv (ad : Nat × Nat → Nat) : AV → Value
  | .inl x => .int x
  | .inr (.inl x) => .long x
  | .inr (.inr o) => va_rf (o.map ad)
def aty : Nat → FieldType
  | 5 => .object (cn 1) | 6 => .object (cn 2) | 10 => .boolean | 11 => .long | _ => .int
def tyl (cA : Nat → ClassId) : List (ClassId × FieldType) := [(cA 5, aty 5), (cA 6, aty 6), (cA 7, aty 7), (cA 8, aty 8), (cA 9, aty 9), (cA 10, aty 10), (cA 11, aty 11)]
theorem tyl_at {cA : Nat → ClassId} {k : Nat} (h1 : 5 ≤ k) (h2 : k < 12) : (tyl cA)[k - 5]? = some (cA k, aty k) := by
  rcases (show k = 5 ∨ k = 6 ∨ k = 7 ∨ k = 8 ∨ k = 9 ∨ k = 10 ∨ k = 11 by omega) with rfl | rfl | rfl | rfl | rfl | rfl | rfl <;> rfl
/-- the slots of an object -/
def obV (ad : Nat × Nat → Nat) (h : AH) (k i : Nat) : Nat → Value := fun j => bif frf k j then va_rf ((hA h k i j).map ad) else .int (hI h k i j)
def CR (s00 : State) (D : va_G) (cA : Nat → ClassId) (ad : Nat × Nat → Nat) (h : AH) (k i : Nat) (H : Heap) : Prop :=
  (k < 5 → t_OB (ad (k, i)) (D.1 k) (kN k) (D.2 k) H (obV ad h k i)) ∧
  ((k = 5 ∨ k = 6) → H[ad (k, i)]? = some (vp_cell (cA k) (kM k, .inr (.inr (.inr (.inr (fun j => (hA h k i j).map ad))))))) ∧
  ((k = 7 ∨ k = 8 ∨ k = 9 ∨ k = 10) → H[ad (k, i)]? = some (vp_cell (cA k) (kM k, .inl (fun j => hI h k i j)))) ∧
  (k = 11 → H[ad (k, i)]? = some (vp_cell (cA k) (kM k, .inr (.inl (fun j => hJ h k i j))))) ∧
  ((12 ≤ k ∧ k < 15) → ∃ ce : Cell, H[ad (k, i)]? = some ce ∧ ce.vm = .none ∧ s00.vm.findClass (exn k) = some ce.cls)
def WV (h : AH) (v : AV) : Prop := ∀ k i, v = .inr (.inr (some (k, i))) → (k < 15 ∧ i < hC h k) ∨ (k = 15 ∧ i = 0)
def WL (h : AH) (ls : AL) : Prop := ∀ i v, lget ls i = some v → WV h v
def WS (h : AH) (st : List AV) : Prop := ∀ v ∈ st, WV h v
def RP (s00 : State) (D : va_G) (cA : Nat → ClassId) (ad : Nat × Nat → Nat) (h : AH) (H : Heap) : Prop :=
  H.size = hZ h ∧ s00.heap.size ≤ H.size ∧ (∀ q : Nat, q < s00.heap.size → H[q]? = s00.heap[q]?) ∧ (∀ (q : Nat) (x : Cell), s00.heap.size ≤ q → H[q]? = some x → x.vm.isStatics = false) ∧
  (∀ k i, k < 15 → i < hC h k → s00.heap.size ≤ ad (k, i) ∧ CR s00 D cA ad h k i H) ∧
  (∀ k i k' i', k < 15 → k' < 15 → i < hC h k → i' < hC h k' → ad (k, i) = ad (k', i') → k = k' ∧ i = i') ∧
  (ad (15, 0) < s00.heap.size ∧ va_X (ad (15, 0)) (hC h 16) (fun j => hI h 15 0 j) s00 s00.heap) ∧
  (∀ k i j, WV h (.inr (.inr (hA h k i j))))
def LR (ad : Nat × Nat → Nat) (nL : Nat) (ls : AL) (lm : Array Slot) : Prop := lm.size = nL ∧ lv_wf lm ∧ ls.length = nL ∧ ∀ i v, lget ls i = some v → lm[i]? = some (.val (cv ad v)) ∧ catA v = 1
theorem cat_cv {ad : Nat × Nat → Nat} (v : AV) : (cv ad v).category = catA v := by
  rcases v with x | x | (_ | x) <;> rfl
theorem catS_map {ad : Nat × Nat → Nat} : ∀ st : List AV, ((st.map (cv ad)).map fun v => v.category).sum = catS st
  | [] => rfl
  | v :: t => by
    show (cv ad v).category + ((t.map (cv ad)).map fun v => v.category).sum = catA v + catS t
    rw [catS_map t, cat_cv]
-- the two accessors of variables
theorem lget_set : ∀ (ls : AL) (i : Nat) (v : Option AV) (j : Nat), lget (lset ls i v) j = if j = i ∧ i < ls.length then v else lget ls j
  | [], i, v, j => by simp [lset, lget]
  | x :: t, 0, v, 0 => by simp [lset, lget]
  | x :: t, 0, v, j + 1 => by simp [lset, lget]
  | x :: t, i + 1, v, 0 => by simp [lset, lget]
  | x :: t, i + 1, v, j + 1 => by simp [lset, lget, lget_set t i v j]
theorem lset_len : ∀ (ls : AL) (i : Nat) (v : Option AV), (lset ls i v).length = ls.length
  | [], i, v => rfl
  | x :: t, 0, v => rfl
  | x :: t, i + 1, v => by simp [lset, lset_len t i v]
theorem lget_lt : ∀ (ls : AL) (i : Nat) (v : AV), lget ls i = some v → i < ls.length
  | [], i, v, h => by simp [lget] at h
  | x :: t, 0, v, h => by simp
  | x :: t, i + 1, v, h => by simpa using lget_lt t i v h
def lvs (ad : Nat × Nat → Nat) (ls : AL) : List (Nat × Value) := (List.range ls.length).filterMap (fun i => (lget ls i).map (fun v => (i, cv ad v)))
theorem mem_lvs {ad : Nat × Nat → Nat} {ls : AL} {q : Nat × Value} : q ∈ lvs ad ls ↔ ∃ v, lget ls q.1 = some v ∧ q.2 = cv ad v := by
  unfold lvs
  rw [List.mem_filterMap]
  constructor
  · rintro ⟨i, hi, e⟩
    cases hv : lget ls i with
    | none => rw [hv] at e; simp at e
    | some v =>
      rw [hv] at e
      simp only [Option.map_some, Option.some.injEq] at e
      subst e
      exact ⟨v, hv, rfl⟩
  · rintro ⟨v, hv, e⟩
    refine ⟨q.1, List.mem_range.mpr (lget_lt _ _ _ hv), ?_⟩
    rw [hv]
    simp only [Option.map_some, Option.some.injEq]
    rw [← e]
theorem LR.has {ad : Nat × Nat → Nat} {nL : Nat} {ls : AL} {lm : Array Slot} (h : LR ad nL ls lm) : lv_has lm nL (lvs ad ls) := by
  refine ⟨h.1, h.2.1, fun q hq => ?_⟩
  obtain ⟨v, hv, e⟩ := mem_lvs.mp hq
  rw [e]
  exact (h.2.2.2 _ _ hv).1
theorem LR.at {ad : Nat × Nat → Nat} {nL : Nat} {ls : AL} {lm : Array Slot} (h : LR ad nL ls lm) {i : Nat} {v : AV} (hv : lget ls i = some v) : lm[i]? = some (.val (cv ad v)) := (h.2.2.2 i v hv).1
theorem LR.put {ad : Nat × Nat → Nat} {nL : Nat} {ls : AL} {lm lm' : Array Slot} (h : LR ad nL ls lm) {i : Nat} {v : AV} (hc : catA v = 1) (h' : lv_has lm' nL ((i, cv ad v) :: (lvs ad ls).filter (fun q => !(q.1 == i) && !(q.1 + 1 == i && q.2.category == 2)))) : LR ad nL (lset ls i (some v)) lm' := by
  refine ⟨h'.1, h'.2.1, by rw [lset_len]; exact h.2.2.1, fun j w hw => ?_⟩
  rw [lget_set] at hw
  by_cases hj : j = i ∧ i < ls.length
  · rw [if_pos hj] at hw
    obtain ⟨rfl, -⟩ := hj
    cases hw
    exact ⟨h'.2.2 _ List.mem_cons_self, hc⟩
  · rw [if_neg hj] at hw
    have hlt := lget_lt _ _ _ hw
    have hji : j ≠ i := fun q => hj ⟨q, by rw [← q]; exact hlt⟩
    have h1 := h.2.2.2 j w hw
    refine ⟨h'.2.2 (j, cv ad w) (List.mem_cons_of_mem _ (List.mem_filter.mpr ⟨mem_lvs.mpr ⟨w, hw, rfl⟩, ?_⟩)), h1.2⟩
    have hcat : (cv ad w).category = 1 := by rw [cat_cv]; exact h1.2
    simp [hji, hcat]
theorem WL.put {h : AH} {ls : AL} {i : Nat} {v : AV} (hl : WL h ls) (hv : WV h v) : WL h (lset ls i (some v)) := by
  intro j w hw
  rw [lget_set] at hw
  by_cases hj : j = i ∧ i < ls.length
  · rw [if_pos hj] at hw; cases hw; exact hv
  · rw [if_neg hj] at hw; exact hl j w hw
theorem WV.int {h : AH} {x : Int32} : WV h (.inl x) := fun k i e => by cases e
theorem WV.long {h : AH} {x : Int64} : WV h (.inr (.inl x)) := fun k i e => by cases e
theorem WV.null {h : AH} : WV h (.inr (.inr none)) := fun k i e => by cases e
theorem WV.up {h h' : AH} (hC' : ∀ k, hC h k ≤ hC h' k) {v : AV} (hv : WV h v) : WV h' v := fun k i e => by
  rcases hv k i e with ⟨a, b⟩ | b
  · exact Or.inl ⟨a, Nat.lt_of_lt_of_le b (hC' k)⟩
  · exact Or.inr b
theorem WL.up {h h' : AH} (hC' : ∀ k, hC h k ≤ hC h' k) {ls : AL} (hv : WL h ls) : WL h' ls := fun i v e => (hv i v e).up hC'
theorem WS.up {h h' : AH} (hC' : ∀ k, hC h k ≤ hC h' k) {st : List AV} (hv : WS h st) : WS h' st := fun v e => (hv v e).up hC'
theorem WS.tl {h : AH} {v : AV} {st : List AV} (hs : WS h (v :: st)) : WS h st := fun w hw => hs w (List.mem_cons_of_mem _ hw)
theorem WS.hd {h : AH} {v : AV} {st : List AV} (hs : WS h (v :: st)) : WV h v := hs v List.mem_cons_self
theorem WS.cons {h : AH} {v : AV} {st : List AV} (hv : WV h v) (hs : WS h st) : WS h (v :: st) := fun w hw => by
  rcases List.mem_cons.mp hw with rfl | q
  · exact hv
  · exact hs w q
-- accessors of changed heaps
section ACC
variable {h : AH} {k i j : Nat}
theorem hI_sI {x : Int32} {k' i' j' : Nat} : hI (sI h k i j x) k' i' j' = if k' = k ∧ i' = i ∧ j' = j then x else hI h k' i' j' := rfl
theorem hA_sA {x : Option (Nat × Nat)} {k' i' j' : Nat} : hA (sA h k i j x) k' i' j' = if k' = k ∧ i' = i ∧ j' = j then x else hA h k' i' j' := rfl
theorem hJ_sJ {x : Int64} {k' i' j' : Nat} : hJ (sJ h k i j x) k' i' j' = if k' = k ∧ i' = i ∧ j' = j then x else hJ h k' i' j' := rfl
theorem hI_al {n k' i' j' : Nat} : hI (al h k n) k' i' j' = if k' = k ∧ i' = hC h k then 0 else hI h k' i' j' := rfl
theorem hA_al {n k' i' j' : Nat} : hA (al h k n) k' i' j' = if k' = k ∧ i' = hC h k then none else hA h k' i' j' := rfl
theorem hJ_al {n k' i' j' : Nat} : hJ (al h k n) k' i' j' = if k' = k ∧ i' = hC h k then 0 else hJ h k' i' j' := rfl
theorem hC_al {n k' : Nat} : hC (al h k n) k' = if k' = k then hC h k + 1 else hC h k' := rfl
theorem hR_al {n : Nat} {q : Nat × Nat} : hR (al h k n) q = if q = (k, hC h k) then hZ h else hR h q := rfl
end ACC
theorem CR.same {s00 : State} {D : va_G} {cA : Nat → ClassId} {ad : Nat × Nat → Nat} {h h' : AH} {k i : Nat} {H H1 : Heap} (hr : CR s00 D cA ad h k i H) (hH : H1[ad (k, i)]? = H[ad (k, i)]?) (e1 : ∀ j, hI h' k i j = hI h k i j) (e2 : ∀ j, hA h' k i j = hA h k i j) (e3 : ∀ j, hJ h' k i j = hJ h k i j) : CR s00 D cA ad h' k i H1 := by
  obtain ⟨r1, r2, r3, r4, r5⟩ := hr
  refine ⟨fun q => ?_, fun q => ?_, fun q => ?_, fun q => ?_, fun q => ?_⟩
  · refine ((r1 q).kept hH).to (fun j _ => ?_)
    unfold obV
    rw [e1, e2]
  · rw [hH, r2 q]; simp only [e2]
  · rw [hH, r3 q]; simp only [e1]
  · rw [hH, r4 q]; simp only [e3]
  · rw [hH]; exact r5 q
theorem CR.lt {s00 : State} {D : va_G} {cA : Nat → ClassId} {ad : Nat × Nat → Nat} {h : AH} {k i : Nat} {H : Heap} (hr : CR s00 D cA ad h k i H) (hk : k < 15) : ad (k, i) < H.size := by
  obtain ⟨r1, r2, r3, r4, r5⟩ := hr
  rcases (show k < 5 ∨ (k = 5 ∨ k = 6) ∨ (k = 7 ∨ k = 8 ∨ k = 9 ∨ k = 10) ∨ k = 11 ∨ (12 ≤ k ∧ k < 15) by omega) with q | q | q | q | q
  · obtain ⟨cell, q1, -⟩ := r1 q
    exact (Array.getElem?_eq_some_iff.mp q1).1
  · exact (Array.getElem?_eq_some_iff.mp (r2 q)).1
  · exact (Array.getElem?_eq_some_iff.mp (r3 q)).1
  · exact (Array.getElem?_eq_some_iff.mp (r4 q)).1
  · obtain ⟨ce, q1, -⟩ := r5 q
    exact (Array.getElem?_eq_some_iff.mp q1).1
/-- one cell has changed -/
theorem RP.put {s00 : State} {D : va_G} {cA : Nat → ClassId} {ad : Nat × Nat → Nat} {h h' : AH} {H H1 : Heap} (hr : RP s00 D cA ad h H) {k i : Nat} (hk : k < 15) (hi : i < hC h k)
    (hz : H1.size = H.size) (ho : ∀ q : Nat, q ≠ ad (k, i) → H1[q]? = H[q]?) (hv : ∀ x : Cell, H1[ad (k, i)]? = some x → x.vm.isStatics = false)
    (eC : ∀ k, hC h' k = hC h k) (eZ : hZ h' = hZ h) (e1 : ∀ k' i' j, ¬ (k' = k ∧ i' = i) → hI h' k' i' j = hI h k' i' j) (e2 : ∀ k' i' j, ¬ (k' = k ∧ i' = i) → hA h' k' i' j = hA h k' i' j) (e3 : ∀ k' i' j, ¬ (k' = k ∧ i' = i) → hJ h' k' i' j = hJ h k' i' j)
    (hc : CR s00 D cA ad h' k i H1) (hw : ∀ j, WV h (.inr (.inr (hA h' k i j)))) : RP s00 D cA ad h' H1 := by
  obtain ⟨r1, r2, r3, r4, r5, r6, r7, r8⟩ := hr
  have hb := (r5 k i hk hi).1
  refine ⟨by rw [hz, r1, eZ], by rw [hz]; exact r2, fun q hq => ?_, fun q x hq hx => ?_, fun k' i' hk' hi' => ?_, fun k1 i1 k2 i2 a1 a2 a3 a4 a5 => ?_, ?_, fun k' i' j => ?_⟩
  · rw [ho q (by omega)]; exact r3 q hq
  · by_cases hqa : q = ad (k, i)
    · subst hqa; exact hv x hx
    · rw [ho q hqa] at hx; exact r4 q x hq hx
  · rw [eC] at hi'
    obtain ⟨b1, b2⟩ := r5 k' i' hk' hi'
    refine ⟨b1, ?_⟩
    by_cases he : k' = k ∧ i' = i
    · obtain ⟨rfl, rfl⟩ := he; exact hc
    · refine b2.same (ho _ (fun z => he (r6 k' i' k i hk' hk hi' hi z))) (fun j => e1 _ _ j he) (fun j => e2 _ _ j he) (fun j => e3 _ _ j he)
  · rw [eC] at a3 a4
    exact r6 k1 i1 k2 i2 a1 a2 a3 a4 a5
  · rw [eC]
    refine ⟨r7.1, ?_⟩
    have e : (fun j => hI h' 15 0 j) = (fun j => hI h 15 0 j) := funext fun j => e1 15 0 j (by omega)
    rw [e]
    exact r7.2
  · have hu : ∀ v : AV, WV h v → WV h' v := fun v => WV.up (fun k => by rw [eC]; exact Nat.le_refl _)
    by_cases he : k' = k ∧ i' = i
    · obtain ⟨rfl, rfl⟩ := he; exact hu _ (hw j)
    · rw [e2 _ _ _ he]; exact hu _ (r8 k' i' j)
/-- one cell more -/
theorem RP.new {s00 : State} {D : va_G} {cA : Nat → ClassId} {ad : Nat × Nat → Nat} {h : AH} {H : Heap} (hr : RP s00 D cA ad h H) {k n : Nat} (hk : k < 15) {cell : Cell} (hv : cell.vm.isStatics = false) (ha : ad (k, hC h k) = hZ h)
    (hc : CR s00 D cA ad (al h k n) k (hC h k) (H.push cell)) : RP s00 D cA ad (al h k n) (H.push cell) := by
  obtain ⟨r1, r2, r3, r4, r5, r6, r7, r8⟩ := hr
  have o1 : ∀ q : Nat, q < H.size → (H.push cell)[q]? = H[q]? := fun q hq => by rw [Array.getElem?_push, if_neg (Nat.ne_of_lt hq)]
  have hcase : ∀ k' i', i' < hC (al h k n) k' → (k' = k ∧ i' = hC h k) ∨ i' < hC h k' := by
    intro k' i' hi'
    rw [hC_al] at hi'
    by_cases hkk : k' = k
    · rw [if_pos hkk] at hi'
      subst hkk
      rcases Nat.lt_or_ge i' (hC h k') with q | q
      · exact Or.inr q
      · exact Or.inl ⟨rfl, by omega⟩
    · rw [if_neg hkk] at hi'
      exact Or.inr hi'
  refine ⟨by rw [Array.size_push, r1]; rfl, by rw [Array.size_push]; omega, fun q hq => ?_, fun q x hq hx => ?_, fun k' i' hk' hi' => ?_, fun k1 i1 k2 i2 a1 a2 a3 a4 a5 => ?_, ?_, fun k' i' j => ?_⟩
  · rw [o1 q (by omega)]; exact r3 q hq
  · by_cases hqa : q < H.size
    · rw [o1 q hqa] at hx; exact r4 q x hq hx
    · have hl := (Array.getElem?_eq_some_iff.mp hx).1
      rw [Array.size_push] at hl
      rw [show q = H.size by omega, Array.getElem?_push_size] at hx
      cases hx
      exact hv
  · rcases hcase k' i' hi' with ⟨rfl, rfl⟩ | q
    · exact ⟨by rw [ha, ← r1]; exact r2, hc⟩
    · obtain ⟨b1, b2⟩ := r5 k' i' hk' q
      have hne : ¬ (k' = k ∧ i' = hC h k) := fun z => by obtain ⟨rfl, rfl⟩ := z; omega
      exact ⟨b1, b2.same (o1 _ (b2.lt hk')) (fun j => by rw [hI_al, if_neg hne]) (fun j => by rw [hA_al, if_neg hne]) (fun j => by rw [hJ_al, if_neg hne])⟩
  · rcases hcase k1 i1 a3 with ⟨rfl, rfl⟩ | q1 <;> rcases hcase k2 i2 a4 with ⟨rfl, rfl⟩ | q2
    · exact ⟨rfl, rfl⟩
    · have := (r5 k2 i2 a2 q2).2.lt a2
      rw [← a5, ha, ← r1] at this
      omega
    · have := (r5 k1 i1 a1 q1).2.lt a1
      rw [a5, ha, ← r1] at this
      omega
    · exact r6 k1 i1 k2 i2 a1 a2 q1 q2 a5
  · refine ⟨r7.1, ?_⟩
    have e : (fun j => hI (al h k n) 15 0 j) = (fun j => hI h 15 0 j) := funext fun j => by rw [hI_al, if_neg (by omega)]
    rw [e, hC_al]
    by_cases h16 : 16 = k
    · omega
    · rw [if_neg h16]; exact r7.2
  · have hu : ∀ v : AV, WV h v → WV (al h k n) v := fun v => WV.up (fun k' => by rw [hC_al]; by_cases hkk : k' = k <;> simp [hkk])
    rw [hA_al]
    by_cases he : k' = k ∧ i' = hC h k
    · rw [if_pos he]; exact WV.null
    · rw [if_neg he]; exact hu _ (r8 k' i' j)
end
section
-- THE INSTRUCTIONS, ONE BY ONE: from the machine at the abstract state to the machine at the next
def CX (s00 : State) (D : va_G) (cA : Nat → ClassId) (m : Nat) (p : Program) (e : Env) (s : State) (mid : MethodId) (args : Array Value) (meth : Method) (c : Code) : Prop :=
  p.tables.exec = Jvm.exec ∧ c.code = bts m ∧ c.maxLocals = mx m ∧ meth.sig.returnType = rt m ∧ meth.locks = false ∧ s.vm.findClass (cn (ow m)) = some mid.cls ∧ meth.name = (yM m).name ∧ s00.WarmedH s.vm ∧ (∀ w ∈ lw_tbl, w.before args s = true) ∧ va_K D classes (tyl cA) s ∧ c.exceptionTable.toList = tableOf (hh m) ∧ e.platform.stackTraces = false
/-- the methods that throw: they write nothing -/
def RO (m : Nat) : Bool := Nat.beq m 1 || Nat.beq m 2 || Nat.beq m 3 || Nat.beq m 38
def roOp (op : Nat) : Bool := Nat.beq op 2 || Nat.beq op 18 || Nat.beq op 47 || Nat.beq op 23 || Nat.beq op 49 || Nat.beq op 24 || Nat.beq op 44 || Nat.beq op 48
theorem nro {m : Nat} (h : RO m = false) {P : Prop} (z : RO m = true) : P := by rw [h] at z; cases z
def GO (p : Program) (l : Launch) (e : Env) (R : Room) (s : State) (mid : MethodId) (args : Array Value) (below : List Frame) (meth : Method) (c : Code) (s00 : State) (D : va_G) (cA : Nat → ClassId) (ad : Nat × Nat → Nat) (Q : State → Prop) (m cells slots pc : Nat) (ls : AL) (st : List AV) (h : AH) : Prop :=
  ∀ (H : Heap) (locs : List Loc) (lm : Array Slot), LR ad (mx m) ls lm → WL h ls → WS h st → RP s00 D cA ad h H → (∀ q ∈ locs, s00.heap.size ≤ q.base) → (RO m = true → H = s.heap ∧ locs = []) → W p l e R s mid args below meth c H locs cells slots Q (F0 mid pc lm (st.map (cv ad)))
section SN1
variable {p : Program} {l : Launch} {e : Env} {R : Room} {s s00 : State} {mid : MethodId} {args : Array Value} {below : List Frame} {meth : Method} {c : Code} {D : va_G} {cA : Nat → ClassId} {ad : Nat × Nat → Nat} {Q : State → Prop} {m cells slots pc pc' nx : Nat} {ls ls' : AL} {st st' : List AV} {h h' : AH}
theorem CX.x (C : CX s00 D cA m p e s mid args meth c) : p.tables.exec = Jvm.exec := C.1
theorem CX.b (C : CX s00 D cA m p e s mid args meth c) : c.code = bts m := C.2.1
theorem CX.ml (C : CX s00 D cA m p e s mid args meth c) : c.maxLocals = mx m := C.2.2.1
theorem CX.rt (C : CX s00 D cA m p e s mid args meth c) : meth.sig.returnType = rt m := C.2.2.2.1
theorem CX.lk (C : CX s00 D cA m p e s mid args meth c) : meth.locks = false := C.2.2.2.2.1
theorem CX.own (C : CX s00 D cA m p e s mid args meth c) : s.vm.findClass (cn (ow m)) = some mid.cls := C.2.2.2.2.2.1
theorem CX.nm (C : CX s00 D cA m p e s mid args meth c) : meth.name = (yM m).name := C.2.2.2.2.2.2.1
theorem CX.warm (C : CX s00 D cA m p e s mid args meth c) : s00.WarmedH s.vm := C.2.2.2.2.2.2.2.1
theorem CX.t (C : CX s00 D cA m p e s mid args meth c) : ∀ w ∈ lw_tbl, w.before args s = true := C.2.2.2.2.2.2.2.2.1
theorem CX.K (C : CX s00 D cA m p e s mid args meth c) : va_K D classes (tyl cA) s := C.2.2.2.2.2.2.2.2.2.1
theorem CX.ex (C : CX s00 D cA m p e s mid args meth c) : c.exceptionTable.toList = tableOf (hh m) := C.2.2.2.2.2.2.2.2.2.2.1
theorem CX.tr (C : CX s00 D cA m p e s mid args meth c) : e.platform.stackTraces = false := C.2.2.2.2.2.2.2.2.2.2.2
theorem s_iconst (C : CX s00 D cA m p e s mid args meth c) {v : Int} {cc : Int32} (hd : decode (bts m) pc = .ok (.iconst v, 1)) (hv : cc = Int32.ofInt v) (hs : x_const cc (pc + 1) ls st h = some (pc', ls', st', h')) (k : GO p l e R s mid args below meth c s00 D cA ad Q m cells slots pc' ls' st' h') : GO p l e R s mid args below meth c s00 D cA ad Q m cells slots pc ls st h := by
  cases hs
  intro H locs lm hL hl hs hR hf ho
  exact lv_iconst C.x C.b hd hv.symm (k H locs lm hL hl (.cons WV.int hs) hR hf ho)
theorem s_bipush (C : CX s00 D cA m p e s mid args meth c) {v : Int} {cc : Int32} (hd : decode (bts m) pc = .ok (.bipush v, 2)) (hv : cc = (Int8.ofInt v).toInt32) (hs : x_const cc (pc + 2) ls st h = some (pc', ls', st', h')) (k : GO p l e R s mid args below meth c s00 D cA ad Q m cells slots pc' ls' st' h') : GO p l e R s mid args below meth c s00 D cA ad Q m cells slots pc ls st h := by
  cases hs
  intro H locs lm hL hl hs hR hf ho
  exact lv_bipush C.x C.b hd hv.symm (k H locs lm hL hl (.cons WV.int hs) hR hf ho)
theorem s_sipush (C : CX s00 D cA m p e s mid args meth c) {v : Int} {cc : Int32} (hd : decode (bts m) pc = .ok (.sipush v, 3)) (hv : cc = (Int16.ofInt v).toInt32) (hs : x_const cc (pc + 3) ls st h = some (pc', ls', st', h')) (k : GO p l e R s mid args below meth c s00 D cA ad Q m cells slots pc' ls' st' h') : GO p l e R s mid args below meth c s00 D cA ad Q m cells slots pc ls st h := by
  cases hs
  intro H locs lm hL hl hs hR hf ho
  exact lv_sipush C.x C.b hd hv.symm (k H locs lm hL hl (.cons WV.int hs) hR hf ho)
theorem s_ldc (C : CX s00 D cA m p e s mid args meth c) {v : Nat} {cc : Int32} (hd : decode (bts m) pc = .ok (.ldc v, 2)) (hv : (ow m, v, cc) ∈ CK) (hs : x_const cc (pc + 2) ls st h = some (pc', ls', st', h')) (k : GO p l e R s mid args below meth c s00 D cA ad Q m cells slots pc' ls' st' h') : GO p l e R s mid args below meth c s00 D cA ad Q m cells slots pc ls st h := by
  cases hs
  intro H locs lm hL hl hs hR hf ho
  exact lv_ldc C.x C.b C.own (C.t _ (CK_ok _ hv)) hd (k H locs lm hL hl (.cons WV.int hs) hR hf ho)
theorem s_iload (C : CX s00 D cA m p e s mid args meth c) {a : Nat} (hd : decode (bts m) pc = .ok (.iload a, 2)) (hs : x_iload a (pc + 2) ls st h = some (pc', ls', st', h')) (k : GO p l e R s mid args below meth c s00 D cA ad Q m cells slots pc' ls' st' h') : GO p l e R s mid args below meth c s00 D cA ad Q m cells slots pc ls st h := by
  unfold x_iload at hs
  split at hs
  · rename_i x hx
    cases hs
    intro H locs lm hL hl hs hR hf ho
    exact lv_iload C.x C.b hd (hL.at hx) (k H locs lm hL hl (.cons WV.int hs) hR hf ho)
  · cases hs
theorem s_iload_n (C : CX s00 D cA m p e s mid args meth c) {a : Nat} {n : Fin 4} (hd : decode (bts m) pc = .ok (.iload_n n, 1)) (ha : a = n) (hs : x_iload a (pc + 1) ls st h = some (pc', ls', st', h')) (k : GO p l e R s mid args below meth c s00 D cA ad Q m cells slots pc' ls' st' h') : GO p l e R s mid args below meth c s00 D cA ad Q m cells slots pc ls st h := by
  unfold x_iload at hs
  split at hs
  · rename_i x hx
    cases hs
    intro H locs lm hL hl hs hR hf ho
    exact lv_iload_n C.x C.b hd ha.symm (hL.at hx) (k H locs lm hL hl (.cons WV.int hs) hR hf ho)
  · cases hs
theorem s_aload (C : CX s00 D cA m p e s mid args meth c) {a : Nat} (hd : decode (bts m) pc = .ok (.aload a, 2)) (hs : x_aload a (pc + 2) ls st h = some (pc', ls', st', h')) (k : GO p l e R s mid args below meth c s00 D cA ad Q m cells slots pc' ls' st' h') : GO p l e R s mid args below meth c s00 D cA ad Q m cells slots pc ls st h := by
  unfold x_aload at hs
  split at hs
  · rename_i x hx
    cases hs
    intro H locs lm hL hl hs hR hf ho
    have k := k H locs lm hL hl (.cons (hl _ _ hx) hs) hR hf ho
    have hx := hL.at hx
    cases x with
    | none => exact lv_aloadN C.x C.b hd hx k
    | some n => exact lv_aload C.x C.b hd hx k
  · cases hs
theorem s_aload_n (C : CX s00 D cA m p e s mid args meth c) {a : Nat} {n : Fin 4} (hd : decode (bts m) pc = .ok (.aload_n n, 1)) (ha : a = n) (hs : x_aload a (pc + 1) ls st h = some (pc', ls', st', h')) (k : GO p l e R s mid args below meth c s00 D cA ad Q m cells slots pc' ls' st' h') : GO p l e R s mid args below meth c s00 D cA ad Q m cells slots pc ls st h := by
  unfold x_aload at hs
  split at hs
  · rename_i x hx
    cases hs
    intro H locs lm hL hl hs hR hf ho
    have k := k H locs lm hL hl (.cons (hl _ _ hx) hs) hR hf ho
    have hx := hL.at hx
    cases x with
    | none => exact lv_aload_nN C.x C.b hd ha.symm hx k
    | some n => exact lv_aload_n C.x C.b hd ha.symm hx k
  · cases hs
theorem s_istore (C : CX s00 D cA m p e s mid args meth c) {a : Nat} (hd : decode (bts m) pc = .ok (.istore a, 2)) (ha : a < mx m) (hs : x_istore a (pc + 2) ls st h = some (pc', ls', st', h')) (k : GO p l e R s mid args below meth c s00 D cA ad Q m cells slots pc' ls' st' h') : GO p l e R s mid args below meth c s00 D cA ad Q m cells slots pc ls st h := by
  unfold x_istore at hs
  split at hs
  · rename_i x st
    cases hs
    intro H locs lm hL hl hs hR hf ho
    exact lv_istore C.x C.b hd hL.has ha rfl (fun lm' h' => k H locs lm' (hL.put (v := .inl x) rfl h') (hl.put WV.int) hs.tl hR hf ho)
  · cases hs
theorem s_istore_n (C : CX s00 D cA m p e s mid args meth c) {a : Nat} {n : Fin 4} (hd : decode (bts m) pc = .ok (.istore_n n, 1)) (hn : a = n) (ha : a < mx m) (hs : x_istore a (pc + 1) ls st h = some (pc', ls', st', h')) (k : GO p l e R s mid args below meth c s00 D cA ad Q m cells slots pc' ls' st' h') : GO p l e R s mid args below meth c s00 D cA ad Q m cells slots pc ls st h := by
  unfold x_istore at hs
  split at hs
  · rename_i x st
    cases hs
    intro H locs lm hL hl hs hR hf ho
    exact lv_istore_n C.x C.b hd hn.symm hL.has ha rfl (fun lm' h' => k H locs lm' (hL.put (v := .inl x) rfl h') (hl.put WV.int) hs.tl hR hf ho)
  · cases hs
theorem s_astore (C : CX s00 D cA m p e s mid args meth c) {a : Nat} (hd : decode (bts m) pc = .ok (.astore a, 2)) (ha : a < mx m) (hs : x_astore a (pc + 2) ls st h = some (pc', ls', st', h')) (k : GO p l e R s mid args below meth c s00 D cA ad Q m cells slots pc' ls' st' h') : GO p l e R s mid args below meth c s00 D cA ad Q m cells slots pc ls st h := by
  unfold x_astore at hs
  split at hs
  · rename_i x st
    cases hs
    intro H locs lm hL hl hs hR hf ho
    cases x with
    | none => exact lv_astoreN C.x C.b hd hL.has ha rfl (fun lm' h' => k H locs lm' (hL.put (v := .inr (.inr none)) rfl h') (hl.put hs.hd) hs.tl hR hf ho)
    | some n => exact lv_astore C.x C.b hd hL.has ha rfl (fun lm' h' => k H locs lm' (hL.put (v := .inr (.inr (some n))) rfl h') (hl.put hs.hd) hs.tl hR hf ho)
  · cases hs
theorem s_astore_n (C : CX s00 D cA m p e s mid args meth c) {a : Nat} {n : Fin 4} (hd : decode (bts m) pc = .ok (.astore_n n, 1)) (hn : a = n) (ha : a < mx m) (hs : x_astore a (pc + 1) ls st h = some (pc', ls', st', h')) (k : GO p l e R s mid args below meth c s00 D cA ad Q m cells slots pc' ls' st' h') : GO p l e R s mid args below meth c s00 D cA ad Q m cells slots pc ls st h := by
  unfold x_astore at hs
  split at hs
  · rename_i x st
    cases hs
    intro H locs lm hL hl hs hR hf ho
    cases x with
    | none => exact lv_astore_nN C.x C.b hd hn.symm hL.has ha rfl (fun lm' h' => k H locs lm' (hL.put (v := .inr (.inr none)) rfl h') (hl.put hs.hd) hs.tl hR hf ho)
    | some n => exact lv_astore_n C.x C.b hd hn.symm hL.has ha rfl (fun lm' h' => k H locs lm' (hL.put (v := .inr (.inr (some n))) rfl h') (hl.put hs.hd) hs.tl hR hf ho)
  · cases hs
theorem s_null (C : CX s00 D cA m p e s mid args meth c) (hd : decode (bts m) pc = .ok (.aconst_null, 1)) (k : GO p l e R s mid args below meth c s00 D cA ad Q m cells slots (pc + 1) ls (.inr (.inr none) :: st) h) : GO p l e R s mid args below meth c s00 D cA ad Q m cells slots pc ls st h := by
  intro H locs lm hL hl hs hR hf ho
  exact lv_null C.x C.b hd (k H locs lm hL hl (.cons WV.null hs) hR hf ho)
theorem s_dup (C : CX s00 D cA m p e s mid args meth c) (hd : decode (bts m) pc = .ok (.dup, 1)) (hs : x_dup (pc + 1) ls st h = some (pc', ls', st', h')) (k : GO p l e R s mid args below meth c s00 D cA ad Q m cells slots pc' ls' st' h') : GO p l e R s mid args below meth c s00 D cA ad Q m cells slots pc ls st h := by
  unfold x_dup at hs
  split at hs
  · cases hs
    intro H locs lm hL hl hs hR hf ho
    exact lv_dup C.x C.b hd rfl (k H locs lm hL hl (.cons hs.hd hs) hR hf ho)
  · cases hs
    rename_i x st
    intro H locs lm hL hl hs hR hf ho
    exact lv_dup C.x C.b hd (cat_cv (.inr (.inr x))) (k H locs lm hL hl (.cons hs.hd hs) hR hf ho)
  · cases hs
theorem s_dupx (C : CX s00 D cA m p e s mid args meth c) (hd : decode (bts m) pc = .ok (.dup_x1, 1)) (hs : x_dupx (pc + 1) ls st h = some (pc', ls', st', h')) (k : GO p l e R s mid args below meth c s00 D cA ad Q m cells slots pc' ls' st' h') : GO p l e R s mid args below meth c s00 D cA ad Q m cells slots pc ls st h := by
  unfold x_dupx at hs
  split at hs
  · cases hs
    rename_i x y st
    intro H locs lm hL hl hs hR hf ho
    exact lv_dup_x1 C.x C.b hd rfl (cat_cv (.inr (.inr y))) (k H locs lm hL hl (.cons hs.hd (.cons hs.tl.hd (.cons hs.hd hs.tl.tl))) hR hf ho)
  · cases hs
theorem s_add (C : CX s00 D cA m p e s mid args meth c) (hd : decode (bts m) pc = .ok (.iadd, 1)) (hs : x_add (pc + 1) ls st h = some (pc', ls', st', h')) (k : GO p l e R s mid args below meth c s00 D cA ad Q m cells slots pc' ls' st' h') : GO p l e R s mid args below meth c s00 D cA ad Q m cells slots pc ls st h := by
  unfold x_add at hs
  split at hs
  · cases hs
    intro H locs lm hL hl hs hR hf ho
    exact lv_iadd C.x C.b hd (k H locs lm hL hl (.cons WV.int hs.tl.tl) hR hf ho)
  · cases hs
theorem s_sub (C : CX s00 D cA m p e s mid args meth c) (hd : decode (bts m) pc = .ok (.isub, 1)) (hs : x_sub (pc + 1) ls st h = some (pc', ls', st', h')) (k : GO p l e R s mid args below meth c s00 D cA ad Q m cells slots pc' ls' st' h') : GO p l e R s mid args below meth c s00 D cA ad Q m cells slots pc ls st h := by
  unfold x_sub at hs
  split at hs
  · cases hs
    intro H locs lm hL hl hs hR hf ho
    exact lv_isub C.x C.b hd (k H locs lm hL hl (.cons WV.int hs.tl.tl) hR hf ho)
  · cases hs
theorem s_mul (C : CX s00 D cA m p e s mid args meth c) (hd : decode (bts m) pc = .ok (.imul, 1)) (hs : x_mul (pc + 1) ls st h = some (pc', ls', st', h')) (k : GO p l e R s mid args below meth c s00 D cA ad Q m cells slots pc' ls' st' h') : GO p l e R s mid args below meth c s00 D cA ad Q m cells slots pc ls st h := by
  unfold x_mul at hs
  split at hs
  · cases hs
    intro H locs lm hL hl hs hR hf ho
    exact lv_imul C.x C.b hd (k H locs lm hL hl (.cons WV.int hs.tl.tl) hR hf ho)
  · cases hs
theorem s_and (C : CX s00 D cA m p e s mid args meth c) (hd : decode (bts m) pc = .ok (.iand, 1)) (hs : x_and (pc + 1) ls st h = some (pc', ls', st', h')) (k : GO p l e R s mid args below meth c s00 D cA ad Q m cells slots pc' ls' st' h') : GO p l e R s mid args below meth c s00 D cA ad Q m cells slots pc ls st h := by
  unfold x_and at hs
  split at hs
  · cases hs
    intro H locs lm hL hl hs hR hf ho
    exact lv_iand C.x C.b hd (k H locs lm hL hl (.cons WV.int hs.tl.tl) hR hf ho)
  · cases hs
theorem s_shr (C : CX s00 D cA m p e s mid args meth c) (hd : decode (bts m) pc = .ok (.ishr, 1)) (hs : x_shr (pc + 1) ls st h = some (pc', ls', st', h')) (k : GO p l e R s mid args below meth c s00 D cA ad Q m cells slots pc' ls' st' h') : GO p l e R s mid args below meth c s00 D cA ad Q m cells slots pc ls st h := by
  unfold x_shr at hs
  split at hs
  · cases hs
    intro H locs lm hL hl hs hR hf ho
    exact lv_ishr C.x C.b hd (k H locs lm hL hl (.cons WV.int hs.tl.tl) hR hf ho)
  · cases hs
theorem s_div (C : CX s00 D cA m p e s mid args meth c) (hd : decode (bts m) pc = .ok (.idiv, 1)) (hs : x_div (pc + 1) ls st h = some (pc', ls', st', h')) (k : GO p l e R s mid args below meth c s00 D cA ad Q m cells slots pc' ls' st' h') : GO p l e R s mid args below meth c s00 D cA ad Q m cells slots pc ls st h := by
  unfold x_div at hs
  split at hs
  · split at hs
    · cases hs
    · rename_i hy
      cases hs
      intro H locs lm hL hl hs hR hf ho
      exact lv_idiv C.x C.b hd hy (k H locs lm hL hl (.cons WV.int hs.tl.tl) hR hf ho)
  · cases hs
theorem s_rem (C : CX s00 D cA m p e s mid args meth c) (hd : decode (bts m) pc = .ok (.irem, 1)) (hs : x_rem (pc + 1) ls st h = some (pc', ls', st', h')) (k : GO p l e R s mid args below meth c s00 D cA ad Q m cells slots pc' ls' st' h') : GO p l e R s mid args below meth c s00 D cA ad Q m cells slots pc ls st h := by
  unfold x_rem at hs
  split at hs
  · split at hs
    · cases hs
    · rename_i hy
      cases hs
      intro H locs lm hL hl hs hR hf ho
      exact lv_irem C.x C.b hd hy (k H locs lm hL hl (.cons WV.int hs.tl.tl) hR hf ho)
  · cases hs
theorem s_iinc (C : CX s00 D cA m p e s mid args meth c) {a : Nat} {n : Int} {cc : Int32} (hd : decode (bts m) pc = .ok (.iinc a n, 3)) (hc : cc = Int32.ofInt n) (ha : a < mx m) (hs : x_iinc a cc (pc + 3) ls st h = some (pc', ls', st', h')) (k : GO p l e R s mid args below meth c s00 D cA ad Q m cells slots pc' ls' st' h') : GO p l e R s mid args below meth c s00 D cA ad Q m cells slots pc ls st h := by
  unfold x_iinc at hs
  split at hs
  · rename_i x hx
    cases hs
    intro H locs lm hL hl hs hR hf ho
    obtain ⟨i, hi⟩ := List.getElem?_of_mem (mem_lvs (q := (a, .int x)).mpr ⟨_, hx, rfl⟩)
    exact lv_iinc C.x C.b hd hL.has hi (by rw [hc]) ha rfl (fun lm' h' => k H locs lm' (hL.put (v := .inl (x + cc)) rfl h') (hl.put WV.int) hs hR hf ho)
  · cases hs
theorem s_i2l (C : CX s00 D cA m p e s mid args meth c) (hd : decode (bts m) pc = .ok (.i2l, 1)) (hs : x_i2l (pc + 1) ls st h = some (pc', ls', st', h')) (k : GO p l e R s mid args below meth c s00 D cA ad Q m cells slots pc' ls' st' h') : GO p l e R s mid args below meth c s00 D cA ad Q m cells slots pc ls st h := by
  unfold x_i2l at hs
  split at hs
  · cases hs
    intro H locs lm hL hl hs hR hf ho
    exact lv_i2l C.x C.b hd rfl (k H locs lm hL hl (.cons WV.long hs.tl) hR hf ho)
  · cases hs
theorem s_lcmp (C : CX s00 D cA m p e s mid args meth c) (hd : decode (bts m) pc = .ok (.lcmp, 1)) (hs : x_lcmp (pc + 1) ls st h = some (pc', ls', st', h')) (k : GO p l e R s mid args below meth c s00 D cA ad Q m cells slots pc' ls' st' h') : GO p l e R s mid args below meth c s00 D cA ad Q m cells slots pc ls st h := by
  unfold x_lcmp at hs
  split at hs
  · cases hs
    intro H locs lm hL hl hs hR hf ho
    exact W.lcmp C.x C.b hd (k H locs lm hL hl (.cons WV.int hs.tl.tl) hR hf ho)
  · cases hs
theorem s_goto (C : CX s00 D cA m p e s mid args meth c) {off : Int} {a : Nat} (hd : decode (bts m) pc = .ok (.goto off, 3)) (ha : (pc : Int) + off = (a : Int)) (k : GO p l e R s mid args below meth c s00 D cA ad Q m cells slots a ls st h) : GO p l e R s mid args below meth c s00 D cA ad Q m cells slots pc ls st h := by
  intro H locs lm hL hl hs hR hf ho
  exact lv_goto C.x C.b hd ha (k H locs lm hL hl hs hR hf ho)
theorem s_if_eq (C : CX s00 D cA m p e s mid args meth c) {off : Int} {a : Nat} (hd : decode (bts m) pc = .ok (.ifCond .eq off, 3)) (ha : (pc : Int) + off = (a : Int)) (hs : x_if 0 a (pc + 3) ls st h = some (pc', ls', st', h')) (k : GO p l e R s mid args below meth c s00 D cA ad Q m cells slots pc' ls' st' h') : GO p l e R s mid args below meth c s00 D cA ad Q m cells slots pc ls st h := by
  unfold x_if at hs
  split at hs
  · rename_i x st
    cases hs
    intro H locs lm hL hl hs hR hf ho
    have k := k H locs lm hL hl hs.tl hR hf ho
    refine lv_if_eq C.x C.b hd ha (fun q => ?_) (fun q => ?_)
    · rw [show cnd 0 x 0 = true from decide_eq_true q] at k; exact k
    · rw [show cnd 0 x 0 = false from decide_eq_false q] at k; exact k
  · cases hs
theorem s_icmp_eq (C : CX s00 D cA m p e s mid args meth c) {off : Int} {a : Nat} (hd : decode (bts m) pc = .ok (.if_icmp .eq off, 3)) (ha : (pc : Int) + off = (a : Int)) (hs : x_icmp 0 a (pc + 3) ls st h = some (pc', ls', st', h')) (k : GO p l e R s mid args below meth c s00 D cA ad Q m cells slots pc' ls' st' h') : GO p l e R s mid args below meth c s00 D cA ad Q m cells slots pc ls st h := by
  unfold x_icmp at hs
  split at hs
  · rename_i y x st
    cases hs
    intro H locs lm hL hl hs hR hf ho
    have k := k H locs lm hL hl hs.tl.tl hR hf ho
    refine lv_icmp_eq C.x C.b hd ha (fun q => ?_) (fun q => ?_)
    · rw [show cnd 0 x y = true from decide_eq_true q] at k; exact k
    · rw [show cnd 0 x y = false from decide_eq_false q] at k; exact k
  · cases hs
theorem s_if_ne (C : CX s00 D cA m p e s mid args meth c) {off : Int} {a : Nat} (hd : decode (bts m) pc = .ok (.ifCond .ne off, 3)) (ha : (pc : Int) + off = (a : Int)) (hs : x_if 1 a (pc + 3) ls st h = some (pc', ls', st', h')) (k : GO p l e R s mid args below meth c s00 D cA ad Q m cells slots pc' ls' st' h') : GO p l e R s mid args below meth c s00 D cA ad Q m cells slots pc ls st h := by
  unfold x_if at hs
  split at hs
  · rename_i x st
    cases hs
    intro H locs lm hL hl hs hR hf ho
    have k := k H locs lm hL hl hs.tl hR hf ho
    refine lv_if_ne C.x C.b hd ha (fun q => ?_) (fun q => ?_)
    · rw [show cnd 1 x 0 = true from decide_eq_true q] at k; exact k
    · rw [show cnd 1 x 0 = false from decide_eq_false (fun z => z q)] at k; exact k
  · cases hs
theorem s_icmp_ne (C : CX s00 D cA m p e s mid args meth c) {off : Int} {a : Nat} (hd : decode (bts m) pc = .ok (.if_icmp .ne off, 3)) (ha : (pc : Int) + off = (a : Int)) (hs : x_icmp 1 a (pc + 3) ls st h = some (pc', ls', st', h')) (k : GO p l e R s mid args below meth c s00 D cA ad Q m cells slots pc' ls' st' h') : GO p l e R s mid args below meth c s00 D cA ad Q m cells slots pc ls st h := by
  unfold x_icmp at hs
  split at hs
  · rename_i y x st
    cases hs
    intro H locs lm hL hl hs hR hf ho
    have k := k H locs lm hL hl hs.tl.tl hR hf ho
    refine lv_icmp_ne C.x C.b hd ha (fun q => ?_) (fun q => ?_)
    · rw [show cnd 1 x y = true from decide_eq_true q] at k; exact k
    · rw [show cnd 1 x y = false from decide_eq_false (fun z => z q)] at k; exact k
  · cases hs
theorem s_if_lt (C : CX s00 D cA m p e s mid args meth c) {off : Int} {a : Nat} (hd : decode (bts m) pc = .ok (.ifCond .lt off, 3)) (ha : (pc : Int) + off = (a : Int)) (hs : x_if 2 a (pc + 3) ls st h = some (pc', ls', st', h')) (k : GO p l e R s mid args below meth c s00 D cA ad Q m cells slots pc' ls' st' h') : GO p l e R s mid args below meth c s00 D cA ad Q m cells slots pc ls st h := by
  unfold x_if at hs
  split at hs
  · rename_i x st
    cases hs
    intro H locs lm hL hl hs hR hf ho
    have k := k H locs lm hL hl hs.tl hR hf ho
    refine lv_if_lt C.x C.b hd ha (fun q => ?_) (fun q => ?_)
    · rw [show cnd 2 x 0 = true from decide_eq_true q] at k; exact k
    · rw [show cnd 2 x 0 = false from decide_eq_false q] at k; exact k
  · cases hs
theorem s_icmp_lt (C : CX s00 D cA m p e s mid args meth c) {off : Int} {a : Nat} (hd : decode (bts m) pc = .ok (.if_icmp .lt off, 3)) (ha : (pc : Int) + off = (a : Int)) (hs : x_icmp 2 a (pc + 3) ls st h = some (pc', ls', st', h')) (k : GO p l e R s mid args below meth c s00 D cA ad Q m cells slots pc' ls' st' h') : GO p l e R s mid args below meth c s00 D cA ad Q m cells slots pc ls st h := by
  unfold x_icmp at hs
  split at hs
  · rename_i y x st
    cases hs
    intro H locs lm hL hl hs hR hf ho
    have k := k H locs lm hL hl hs.tl.tl hR hf ho
    refine lv_icmp_lt C.x C.b hd ha (fun q => ?_) (fun q => ?_)
    · rw [show cnd 2 x y = true from decide_eq_true q] at k; exact k
    · rw [show cnd 2 x y = false from decide_eq_false q] at k; exact k
  · cases hs
theorem s_if_ge (C : CX s00 D cA m p e s mid args meth c) {off : Int} {a : Nat} (hd : decode (bts m) pc = .ok (.ifCond .ge off, 3)) (ha : (pc : Int) + off = (a : Int)) (hs : x_if 3 a (pc + 3) ls st h = some (pc', ls', st', h')) (k : GO p l e R s mid args below meth c s00 D cA ad Q m cells slots pc' ls' st' h') : GO p l e R s mid args below meth c s00 D cA ad Q m cells slots pc ls st h := by
  unfold x_if at hs
  split at hs
  · rename_i x st
    cases hs
    intro H locs lm hL hl hs hR hf ho
    have k := k H locs lm hL hl hs.tl hR hf ho
    refine lv_if_ge C.x C.b hd ha (fun q => ?_) (fun q => ?_)
    · rw [show cnd 3 x 0 = true from decide_eq_true q] at k; exact k
    · rw [show cnd 3 x 0 = false from decide_eq_false q] at k; exact k
  · cases hs
theorem s_icmp_ge (C : CX s00 D cA m p e s mid args meth c) {off : Int} {a : Nat} (hd : decode (bts m) pc = .ok (.if_icmp .ge off, 3)) (ha : (pc : Int) + off = (a : Int)) (hs : x_icmp 3 a (pc + 3) ls st h = some (pc', ls', st', h')) (k : GO p l e R s mid args below meth c s00 D cA ad Q m cells slots pc' ls' st' h') : GO p l e R s mid args below meth c s00 D cA ad Q m cells slots pc ls st h := by
  unfold x_icmp at hs
  split at hs
  · rename_i y x st
    cases hs
    intro H locs lm hL hl hs hR hf ho
    have k := k H locs lm hL hl hs.tl.tl hR hf ho
    refine lv_icmp_ge C.x C.b hd ha (fun q => ?_) (fun q => ?_)
    · rw [show cnd 3 x y = true from decide_eq_true q] at k; exact k
    · rw [show cnd 3 x y = false from decide_eq_false q] at k; exact k
  · cases hs
theorem s_if_gt (C : CX s00 D cA m p e s mid args meth c) {off : Int} {a : Nat} (hd : decode (bts m) pc = .ok (.ifCond .gt off, 3)) (ha : (pc : Int) + off = (a : Int)) (hs : x_if 4 a (pc + 3) ls st h = some (pc', ls', st', h')) (k : GO p l e R s mid args below meth c s00 D cA ad Q m cells slots pc' ls' st' h') : GO p l e R s mid args below meth c s00 D cA ad Q m cells slots pc ls st h := by
  unfold x_if at hs
  split at hs
  · rename_i x st
    cases hs
    intro H locs lm hL hl hs hR hf ho
    have k := k H locs lm hL hl hs.tl hR hf ho
    refine lv_if_gt C.x C.b hd ha (fun q => ?_) (fun q => ?_)
    · rw [show cnd 4 x 0 = true from decide_eq_true q] at k; exact k
    · rw [show cnd 4 x 0 = false from decide_eq_false q] at k; exact k
  · cases hs
theorem s_icmp_gt (C : CX s00 D cA m p e s mid args meth c) {off : Int} {a : Nat} (hd : decode (bts m) pc = .ok (.if_icmp .gt off, 3)) (ha : (pc : Int) + off = (a : Int)) (hs : x_icmp 4 a (pc + 3) ls st h = some (pc', ls', st', h')) (k : GO p l e R s mid args below meth c s00 D cA ad Q m cells slots pc' ls' st' h') : GO p l e R s mid args below meth c s00 D cA ad Q m cells slots pc ls st h := by
  unfold x_icmp at hs
  split at hs
  · rename_i y x st
    cases hs
    intro H locs lm hL hl hs hR hf ho
    have k := k H locs lm hL hl hs.tl.tl hR hf ho
    refine lv_icmp_gt C.x C.b hd ha (fun q => ?_) (fun q => ?_)
    · rw [show cnd 4 x y = true from decide_eq_true q] at k; exact k
    · rw [show cnd 4 x y = false from decide_eq_false q] at k; exact k
  · cases hs
theorem s_if_le (C : CX s00 D cA m p e s mid args meth c) {off : Int} {a : Nat} (hd : decode (bts m) pc = .ok (.ifCond .le off, 3)) (ha : (pc : Int) + off = (a : Int)) (hs : x_if 5 a (pc + 3) ls st h = some (pc', ls', st', h')) (k : GO p l e R s mid args below meth c s00 D cA ad Q m cells slots pc' ls' st' h') : GO p l e R s mid args below meth c s00 D cA ad Q m cells slots pc ls st h := by
  unfold x_if at hs
  split at hs
  · rename_i x st
    cases hs
    intro H locs lm hL hl hs hR hf ho
    have k := k H locs lm hL hl hs.tl hR hf ho
    refine lv_if_le C.x C.b hd ha (fun q => ?_) (fun q => ?_)
    · rw [show cnd 5 x 0 = true from decide_eq_true q] at k; exact k
    · rw [show cnd 5 x 0 = false from decide_eq_false q] at k; exact k
  · cases hs
theorem s_icmp_le (C : CX s00 D cA m p e s mid args meth c) {off : Int} {a : Nat} (hd : decode (bts m) pc = .ok (.if_icmp .le off, 3)) (ha : (pc : Int) + off = (a : Int)) (hs : x_icmp 5 a (pc + 3) ls st h = some (pc', ls', st', h')) (k : GO p l e R s mid args below meth c s00 D cA ad Q m cells slots pc' ls' st' h') : GO p l e R s mid args below meth c s00 D cA ad Q m cells slots pc ls st h := by
  unfold x_icmp at hs
  split at hs
  · rename_i y x st
    cases hs
    intro H locs lm hL hl hs hR hf ho
    have k := k H locs lm hL hl hs.tl.tl hR hf ho
    refine lv_icmp_le C.x C.b hd ha (fun q => ?_) (fun q => ?_)
    · rw [show cnd 5 x y = true from decide_eq_true q] at k; exact k
    · rw [show cnd 5 x y = false from decide_eq_false q] at k; exact k
  · cases hs
theorem s_ifnull (C : CX s00 D cA m p e s mid args meth c) {off : Int} {a : Nat} (hd : decode (bts m) pc = .ok (.ifnull off, 3)) (ha : (pc : Int) + off = (a : Int)) (hs : x_null a (pc + 3) ls st h = some (pc', ls', st', h')) (k : GO p l e R s mid args below meth c s00 D cA ad Q m cells slots pc' ls' st' h') : GO p l e R s mid args below meth c s00 D cA ad Q m cells slots pc ls st h := by
  unfold x_null at hs
  split at hs
  · cases hs
    intro H locs lm hL hl hs hR hf ho
    exact lv_ifnullN C.x C.b hd ha (k H locs lm hL hl hs.tl hR hf ho)
  · cases hs
    intro H locs lm hL hl hs hR hf ho
    exact lv_ifnull C.x C.b hd (k H locs lm hL hl hs.tl hR hf ho)
  · cases hs
theorem s_ifnonnull (C : CX s00 D cA m p e s mid args meth c) {off : Int} {a : Nat} (hd : decode (bts m) pc = .ok (.ifnonnull off, 3)) (ha : (pc : Int) + off = (a : Int)) (hs : x_nnull a (pc + 3) ls st h = some (pc', ls', st', h')) (k : GO p l e R s mid args below meth c s00 D cA ad Q m cells slots pc' ls' st' h') : GO p l e R s mid args below meth c s00 D cA ad Q m cells slots pc ls st h := by
  unfold x_nnull at hs
  split at hs
  · cases hs
    intro H locs lm hL hl hs hR hf ho
    exact lv_ifnonnullN C.x C.b hd (k H locs lm hL hl hs.tl hR hf ho)
  · cases hs
    intro H locs lm hL hl hs hR hf ho
    exact lv_ifnonnull C.x C.b hd ha (k H locs lm hL hl hs.tl hR hf ho)
  · cases hs
/-- names that are there have addresses of their own -/
theorem ad_inj {H : Heap} (hR : RP s00 D cA ad h H) {x y : Option (Nat × Nat)} (hx : WV h (.inr (.inr x))) (hy : WV h (.inr (.inr y))) (e : x.map ad = y.map ad) : x = y := by
  obtain ⟨r1, r2, r3, r4, r5, r6, r7, r8⟩ := hR
  rcases x with _ | ⟨k1, i1⟩ <;> rcases y with _ | ⟨k2, i2⟩
  · rfl
  · simp at e
  · simp at e
  · simp only [Option.map_some, Option.some.injEq] at e
    rcases hx k1 i1 rfl with ⟨a1, b1⟩ | ⟨rfl, rfl⟩ <;> rcases hy k2 i2 rfl with ⟨a2, b2⟩ | ⟨rfl, rfl⟩
    · obtain ⟨rfl, rfl⟩ := r6 k1 i1 k2 i2 a1 a2 b1 b2 e; rfl
    · have := (r5 k1 i1 a1 b1).1
      rw [e] at this
      have := r7.1
      omega
    · have := (r5 k2 i2 a2 b2).1
      rw [← e] at this
      have := r7.1
      omega
    · rfl
theorem s_acmp_eq (C : CX s00 D cA m p e s mid args meth c) {off : Int} {a : Nat} (hd : decode (bts m) pc = .ok (.if_acmp .eq off, 3)) (ha : (pc : Int) + off = (a : Int)) (hs : x_acmp 0 a (pc + 3) ls st h = some (pc', ls', st', h')) (k : GO p l e R s mid args below meth c s00 D cA ad Q m cells slots pc' ls' st' h') : GO p l e R s mid args below meth c s00 D cA ad Q m cells slots pc ls st h := by
  unfold x_acmp at hs
  split at hs
  · rename_i y x st hb
    cases hs
    intro H locs lm hL hl hs hR hf ho
    have k := k H locs lm hL hl hs.tl.tl hR hf ho
    refine lv_acmp_eq (rx := x.map ad) (ry := y.map ad) C.x C.b hd ha (fun q => ?_) (fun q => ?_)
    · rw [if_pos (ad_inj hR hs.tl.hd hs.hd q)] at k; exact k
    · rw [if_neg (fun z => q (by rw [z]))] at k; exact k
  · rename_i hb; cases hb
  · cases hs
theorem s_acmp_ne (C : CX s00 D cA m p e s mid args meth c) {off : Int} {a : Nat} (hd : decode (bts m) pc = .ok (.if_acmp .ne off, 3)) (ha : (pc : Int) + off = (a : Int)) (hs : x_acmp 1 a (pc + 3) ls st h = some (pc', ls', st', h')) (k : GO p l e R s mid args below meth c s00 D cA ad Q m cells slots pc' ls' st' h') : GO p l e R s mid args below meth c s00 D cA ad Q m cells slots pc ls st h := by
  unfold x_acmp at hs
  split at hs
  · rename_i hb; cases hb
  · rename_i y x st hb
    cases hs
    intro H locs lm hL hl hs hR hf ho
    have k := k H locs lm hL hl hs.tl.tl hR hf ho
    refine lv_acmp_ne (rx := x.map ad) (ry := y.map ad) C.x C.b hd ha (fun q => ?_) (fun q => ?_)
    · rw [if_neg (fun z => q (by rw [z]))] at k; exact k
    · rw [if_pos (ad_inj hR hs.tl.hd hs.hd q)] at k; exact k
  · cases hs
theorem lnat_at : ∀ (t : List Nat) (n d : Nat), lnat t n d = (t[n]?).getD d
  | [], n, d => rfl
  | a :: t, 0, d => rfl
  | a :: t, n + 1, d => by simp [lnat, lnat_at t n d]
theorem s_sw (C : CX s00 D cA m p e s mid args meth c) {df lo hi : Int} {offs : Array Int} {a len : Nat} (hd : decode (bts m) pc = .ok (.tableswitch df lo hi offs, len)) (h1 : lo = 0) (h2 : hi + 1 = ((swt a).1.length : Int)) (h3 : (pc : Int) + df = ((swt a).2 : Int)) (h4 : offs.toList.map (fun z => (pc : Int) + z) = (swt a).1.map (fun z : Nat => (z : Int))) (hs : x_sw a ls st h = some (pc', ls', st', h')) (k : GO p l e R s mid args below meth c s00 D cA ad Q m cells slots pc' ls' st' h') : GO p l e R s mid args below meth c s00 D cA ad Q m cells slots pc ls st h := by
  unfold x_sw at hs
  split at hs
  · rename_i x st
    cases hs
    intro H locs lm hL hl hs hR hf ho
    have k := k H locs lm hL hl hs.tl hR hf ho
    have ht : ∀ z : Int32, ¬ z < 0 → z.toInt = (z.toNatClampNeg : Int) := by
      intro z hz
      have hz0 : (0 : Int) ≤ z.toInt := by
        have := Int32.not_lt.mp hz
        simpa using Int32.le_iff_toInt_le.mp this
      show z.toInt = ((z.toInt.toNat : Nat) : Int)
      omega
    by_cases hx : x < 0
    · rw [if_pos hx] at k
      have : x.toInt < 0 := by simpa using Int32.lt_iff_toInt_lt.mp hx
      exact lv_tableOut C.x C.b hd (Or.inl (by omega)) h3 k
    · rw [if_neg hx, lnat_at] at k
      have hxt := ht x hx
      by_cases hh : hi < x.toInt
      · rw [List.getElem?_eq_none (by omega)] at k
        exact lv_tableOut C.x C.b hd (Or.inr hh) h3 k
      · have hlt : x.toNatClampNeg < (swt a).1.length := by omega
        have e4 := congrArg (fun t => t[x.toNatClampNeg]?) h4
        simp only [List.getElem?_map] at e4
        rw [List.getElem?_eq_getElem hlt] at e4 k
        simp only [Option.map_some, Option.getD_some] at e4 k
        cases ho : offs.toList[x.toNatClampNeg]? with
        | none => rw [ho] at e4; simp at e4
        | some off =>
          rw [ho] at e4
          simp only [Option.map_some, Option.some.injEq] at e4
          refine lv_tableIn C.x C.b hd (by omega) hh (off := off) ?_ e4 k
          rw [h1, show (x.toInt - 0).toNat = x.toNatClampNeg by omega, ← Array.getElem?_toList]
          exact ho
  · cases hs
theorem s_max (C : CX s00 D cA m p e s mid args meth c) (hrf : 1 ≤ R.frames) (hrl : 40 ≤ R.locals) (hrc : cells ≤ R.cells) (hrs : slots ≤ R.slots) {i : Nat} (hd : decode (bts m) pc = .ok (.invokestatic i, 3)) (hi : MX = (ow m, i)) (hs : x_max (pc + 3) ls st h = some (pc', ls', st', h')) (k : GO p l e R s mid args below meth c s00 D cA ad Q m cells slots pc' ls' st' h') : GO p l e R s mid args below meth c s00 D cA ad Q m cells slots pc ls st h := by
  unfold x_max at hs
  split at hs
  · rename_i y x st
    cases hc : Nat.ble (catS st) 8 with
    | false => rw [hc] at hs; cases hs
    | true =>
      rw [hc] at hs
      cases hs
      intro H locs lm hL hl hs hR hf ho
      have hw := MX_ok
      rw [hi] at hw
      have hcs := Nat.le_of_ble_eq_true hc
      exact va_mmax C.x C.b (by rw [C.ml, hL.1]) C.own (C.t _ hw.1) (C.t _ hw.2.1) (C.t _ in_math) (C.t _ hw.2.2) hrf (by rw [catS_map]; omega) hrc hrs hd (k H locs lm hL hl (.cons WV.int hs.tl.tl) hR hf ho)
  · cases hs
theorem s_min (C : CX s00 D cA m p e s mid args meth c) (hrf : 1 ≤ R.frames) (hrl : 40 ≤ R.locals) (hrc : cells ≤ R.cells) (hrs : slots ≤ R.slots) {i : Nat} (hd : decode (bts m) pc = .ok (.invokestatic i, 3)) (hi : MN = (ow m, i)) (hs : x_min (pc + 3) ls st h = some (pc', ls', st', h')) (k : GO p l e R s mid args below meth c s00 D cA ad Q m cells slots pc' ls' st' h') : GO p l e R s mid args below meth c s00 D cA ad Q m cells slots pc ls st h := by
  unfold x_min at hs
  split at hs
  · rename_i y x st
    cases hc : Nat.ble (catS st) 8 with
    | false => rw [hc] at hs; cases hs
    | true =>
      rw [hc] at hs
      cases hs
      intro H locs lm hL hl hs hR hf ho
      have hw := MN_ok
      rw [hi] at hw
      have hcs := Nat.le_of_ble_eq_true hc
      exact va_mmin C.x C.b (by rw [C.ml, hL.1]) C.own (C.t _ hw.1) (C.t _ hw.2.1) (C.t _ in_math) (C.t _ hw.2.2) hrf (by rw [catS_map]; omega) hrc hrs hd (k H locs lm hL hl (.cons WV.int hs.tl.tl) hR hf ho)
  · cases hs
theorem s_oinit (C : CX s00 D cA m p e s mid args meth c) (hrf : 1 ≤ R.frames) (hrl : 40 ≤ R.locals) {i : Nat} (hd : decode (bts m) pc = .ok (.invokespecial i, 3)) (hi : (ow m, i) ∈ OL) (hs : x_oinit (pc + 3) ls st h = some (pc', ls', st', h')) (k : GO p l e R s mid args below meth c s00 D cA ad Q m cells slots pc' ls' st' h') : GO p l e R s mid args below meth c s00 D cA ad Q m cells slots pc ls st h := by
  unfold x_oinit at hs
  split at hs
  · rename_i n st
    cases hc : Nat.ble (catS st) 8 with
    | false => rw [hc] at hs; cases hs
    | true =>
      rw [hc] at hs
      cases hs
      intro H locs lm hL hl hs hR hf ho
      have hcs := Nat.le_of_ble_eq_true hc
      exact W.objInit C.x C.b C.own (C.t _ (OL_ok _ hi)) (C.t _ in_oi.1) (C.t _ in_oi.2) rfl (by rw [C.ml]; exact hL.1) rfl hd hrf (by show 2 * 0 + _ + 12 ≤ _; rw [catS_map]; omega) (k H locs lm hL hl hs.tl hR hf ho)
  · cases hs
end SN1
end
section
-- THE INSTRUCTIONS THAT READ AND WRITE THE HEAP
theorem rq5 {s00 : State} {D : va_G} {cA : Nat → ClassId} {ad : Nat × Nat → Nat} {h : AH} {H : Heap} (hR : RP s00 D cA ad h H) {k i : Nat} (hk : k < 15) (hv : WV h (.inr (.inr (some (k, i))))) : i < hC h k ∧ s00.heap.size ≤ ad (k, i) ∧ CR s00 D cA ad h k i H := by
  rcases hv k i rfl with ⟨_, b⟩ | ⟨b, _⟩
  · exact ⟨b, hR.2.2.2.2.1 k i hk b⟩
  · omega
theorem rq8 {s00 : State} {D : va_G} {cA : Nat → ClassId} {ad : Nat × Nat → Nat} {h : AH} {H : Heap} (hR : RP s00 D cA ad h H) (k i j : Nat) : WV h (.inr (.inr (hA h k i j))) := hR.2.2.2.2.2.2.2 k i j
theorem frf_ref {k j : Nat} (h : frf k j = true) (x : Option Nat) : narrow (kT k j) (va_rf x) = va_rf x ∧ fits (kT k j) (va_rf x) = true := by
  unfold frf at h
  cases hk : kT k j <;> rw [hk] at h <;> first | (cases h; done) | (cases x <;> exact ⟨rfl, rfl⟩)
section SN2
variable {p : Program} {l : Launch} {e : Env} {R : Room} {s s00 : State} {mid : MethodId} {args : Array Value} {below : List Frame} {meth : Method} {c : Code} {D : va_G} {cA : Nat → ClassId} {ad : Nat × Nat → Nat} {Q : State → Prop} {m cells slots pc pc' nx : Nat} {ls ls' : AL} {st st' : List AV} {h h' : AH}
theorem get_row (C : CX s00 D cA m p e s mid args meth c) {x a b i : Nat} (hd : decode (bts m) pc = .ok (.getfield x, 3)) (hx : (ow m, x, a, b) ∈ FL) (ha : a < 5) (hb : b < kN a) {H : Heap} {locs : List Loc} {lm : Array Slot} {rest : List Value} (hR : RP s00 D cA ad h H) (hv : WV h (.inr (.inr (some (a, i)))))
    (kk : W p l e R s mid args below meth c H locs cells slots Q (F0 mid (pc + 3) lm (obV ad h a i b :: rest))) : W p l e R s mid args below meth c H locs cells slots Q (F0 mid pc lm (.ref (ad (a, i)) :: rest)) := by
  obtain ⟨-, -, hc⟩ := rq5 hR (by omega) hv
  obtain ⟨cell, q1, q2, q3, q4⟩ := hc.1 ha
  obtain ⟨hS, hfc, kC, hkC, hkind⟩ := C.K.1 a _ (cl_at ha)
  obtain ⟨cf, kf, fi, f, hi, hsl⟩ := hS b hb
  refine W.getf C.x C.b C.own (C.t _ (FL_ok _ hx)) (by have := hi; dsimp only at this ⊢; rw [dc_k a ha b hb] at this; exact this) (u_facts hfc hkC (u_lays C.t (in_k ha) hb) hi).1 q1 (by rw [q3]; exact fun z => by cases z) (v := obV ad h a i b) ?_ rfl rfl hd kk
  rw [hsl]
  exact q4 b hb
theorem s_getI (C : CX s00 D cA m p e s mid args meth c) {x a b : Nat} (hd : decode (bts m) pc = .ok (.getfield x, 3)) (hx : (ow m, x, a, b) ∈ FL) (ha : a < 5) (hb : b < kN a) (hr : frf a b = false) (hs : x_getI a b (pc + 3) ls st h = some (pc', ls', st', h')) (k : GO p l e R s mid args below meth c s00 D cA ad Q m cells slots pc' ls' st' h') : GO p l e R s mid args below meth c s00 D cA ad Q m cells slots pc ls st h := by
  unfold x_getI at hs
  split at hs
  · rename_i k' i st
    cases hk : Nat.beq k' a with
    | false => rw [hk] at hs; cases hs
    | true =>
      rw [hk] at hs
      obtain rfl := Nat.eq_of_beq_eq_true hk
      cases hs
      intro H locs lm hL hl hs hR hf ho
      refine get_row C hd hx ha hb hR hs.hd ?_
      have k := k H locs lm hL hl (.cons WV.int hs.tl) hR hf ho
      unfold obV
      rw [hr]
      exact k
  · cases hs
theorem s_getA (C : CX s00 D cA m p e s mid args meth c) {x a b : Nat} (hd : decode (bts m) pc = .ok (.getfield x, 3)) (hx : (ow m, x, a, b) ∈ FL) (ha : a < 5) (hb : b < kN a) (hr : frf a b = true) (hs : x_getA a b (pc + 3) ls st h = some (pc', ls', st', h')) (k : GO p l e R s mid args below meth c s00 D cA ad Q m cells slots pc' ls' st' h') : GO p l e R s mid args below meth c s00 D cA ad Q m cells slots pc ls st h := by
  unfold x_getA at hs
  split at hs
  · rename_i k' i st
    cases hk : Nat.beq k' a with
    | false => rw [hk] at hs; cases hs
    | true =>
      rw [hk] at hs
      obtain rfl := Nat.eq_of_beq_eq_true hk
      cases hs
      intro H locs lm hL hl hs hR hf ho
      refine get_row C hd hx ha hb hR hs.hd ?_
      have k := k H locs lm hL hl (.cons (rq8 hR _ _ _) hs.tl) hR hf ho
      unfold obV
      rw [hr]
      exact k
  · cases hs
theorem put_row (C : CX s00 D cA m p e s mid args meth c) {x a b i : Nat} {v : Value} (hd : decode (bts m) pc = .ok (.putfield x, 3)) (hx : (ow m, x, a, b) ∈ FL) (ha : a < 5) (hb : b < kN a) (hin : (kF a b).2.2.2 = false ∨ (meth.name = "<init>" ∧ ow m = a)) (hn : narrow (kT a b) v = v) (hfit : fits (kT a b) v = true)
    {H : Heap} {locs : List Loc} {lm : Array Slot} {rest : List Value} (hR : RP s00 D cA ad h H) (hv : WV h (.inr (.inr (some (a, i))))) (hf : ∀ q ∈ locs, s00.heap.size ≤ q.base)
    (eC : ∀ k, hC h' k = hC h k) (eZ : hZ h' = hZ h) (e1 : ∀ k' i' j, ¬ (k' = a ∧ i' = i) → hI h' k' i' j = hI h k' i' j) (e2 : ∀ k' i' j, ¬ (k' = a ∧ i' = i) → hA h' k' i' j = hA h k' i' j) (e3 : ∀ k' i' j, ¬ (k' = a ∧ i' = i) → hJ h' k' i' j = hJ h k' i' j)
    (ev : ∀ j, updV (obV ad h a i) b v j = obV ad h' a i j) (hw : ∀ j, WV h (.inr (.inr (hA h' a i j))))
    (kk : ∀ (H1 : Heap) (locs1 : List Loc), RP s00 D cA ad h' H1 → (∀ q ∈ locs1, s00.heap.size ≤ q.base) → W p l e R s mid args below meth c H1 locs1 cells slots Q (F0 mid (pc + 3) lm rest)) : W p l e R s mid args below meth c H locs cells slots Q (F0 mid pc lm (v :: .ref (ad (a, i)) :: rest)) := by
  obtain ⟨hia, hba, hc⟩ := rq5 hR (by omega) hv
  obtain ⟨cell, q1, q2, q3, q4⟩ := hc.1 ha
  have hap := va_apart (own := cn a) C.t (in_k ha) (kT a) (ty_k ha) (nm_k ha) C.K (cl_at ha)
  obtain ⟨hS, hfc, kC, hkC, hkind⟩ := C.K.1 a _ (cl_at ha)
  obtain ⟨cf, kf, fi, f, hi, hsl⟩ := hS b hb
  have hlay := C.t _ (in_k ha _ (u_in_lay hb))
  have hst := (u_facts hfc hkC (u_lays C.t (in_k ha) hb) hi).1
  have hi2 : s.fieldFound? (cn a) (kF a b).2.1 (kF a b).2.2.1 = some (cf, kf, fi, f) := by have := hi; dsimp only at this; rw [dc_k a ha b hb] at this; exact this
  have fin : ∀ H' : Heap, H'[ad (a, i)]? = some (cell.setSlot f.slot v) → H'.size = H.size → (∀ q, q ≠ ad (a, i) → H'[q]? = H[q]?) → W p l e R s mid args below meth c H' (locs ++ [⟨ad (a, i), f.slot⟩]) cells slots Q (F0 mid (pc + 3) lm rest) := by
    intro H' g1 g2 g3
    rw [hsl] at g1 ⊢
    refine kk H' _ (hR.put (k := a) (i := i) (by omega) hia g2 g3 (fun y hy => ?_) eC eZ e1 e2 e3 ?_ hw) (fun q hq => ?_)
    · rw [g1] at hy
      cases hy
      show cell.vm.isStatics = false
      rw [q3]; rfl
    · refine ⟨fun _ => t_OB.to (V := updV (obV ad h a i) b v) ⟨_, g1, q2, q3, t_set q4 hap hb v⟩ (fun j _ => ev j), fun z => by omega, fun z => by omega, fun z => by omega, fun z => by omega⟩
    · rcases List.mem_append.mp hq with z | z
      · exact hf q z
      · rw [List.mem_singleton.mp z]; exact hba
  cases hfn : (kF a b).2.2.2 with
  | false =>
    unfold u_lay at hlay
    rw [if_neg (by rw [hfn]; decide)] at hlay
    have h6 := u_store hfc hkC hkind hlay hi (ty_k ha b hb) hn hfit
    exact W.putK C.x C.b (f := f) ⟨C.own, C.t _ (FL_ok _ hx), ⟨_, _, _, hi2⟩, hst⟩ (by rw [q2]; exact h6) q1 q3 (by rw [hsl]; exact k2_hasslot (q4 b hb)) rfl rfl hd fin
  | true =>
    rcases hin with z | ⟨z1, z2⟩
    · rw [hfn] at z; cases z
    · unfold u_lay at hlay
      rw [if_pos hfn] at hlay
      have hcf : mid.cls = cf := by
        obtain ⟨_, _, c', _, _, _, -, -, hf', -, -, -, hown2, -⟩ := Cond.laysFinal_spec hlay
        have e1 : c' = cf := by have := hi.symm.trans hf'; simp at this; exact this.1.symm
        have ho := C.own
        rw [z2] at ho
        rw [dc_k a ha b hb] at hown2
        rw [← e1]; exact Option.some.inj (ho.symm.trans hown2)
      have h6 := u_fits hfc hkC hkind (Or.inr hlay) hi (ty_k ha b hb) hn hfit
      exact W.putFinK C.x C.b C.own (C.t _ (FL_ok _ hx)) hi2 hst hcf z1 (by rw [q2]; exact h6) q1 q3 (by rw [hsl]; exact k2_hasslot (q4 b hb)) rfl rfl hd fin
theorem ob_int {a b i : Nat} {x : Int32} (hr : frf a b = false) (j : Nat) : updV (obV ad h a i) b (.int x) j = obV ad (sI h a i b x) a i j := by
  unfold updV obV
  rw [hI_sI]
  by_cases hj : j = b
  · subst hj
    simp [hr]
  · simp only [hj, and_false, if_false]
    rfl
theorem ob_ref {a b i : Nat} {x : Option (Nat × Nat)} (hr : frf a b = true) (j : Nat) : updV (obV ad h a i) b (va_rf (x.map ad)) j = obV ad (sA h a i b x) a i j := by
  unfold updV obV
  rw [hA_sA]
  by_cases hj : j = b
  · subst hj
    simp [hr]
  · simp only [hj, and_false, if_false]
    rfl
theorem s_putI (C : CX s00 D cA m p e s mid args meth c) (hro : RO m = false) {x a b : Nat} (hd : decode (bts m) pc = .ok (.putfield x, 3)) (hx : (ow m, x, a, b) ∈ FL) (ha : a < 5) (hb : b < kN a) (hin : (kF a b).2.2.2 = false ∨ (meth.name = "<init>" ∧ ow m = a)) (hr : kT a b = .int) (hs : x_putI a b (pc + 3) ls st h = some (pc', ls', st', h')) (k : GO p l e R s mid args below meth c s00 D cA ad Q m cells slots pc' ls' st' h') : GO p l e R s mid args below meth c s00 D cA ad Q m cells slots pc ls st h := by
  unfold x_putI at hs
  split at hs
  · rename_i y k' i st
    cases hk : Nat.beq k' a with
    | false => rw [hk] at hs; cases hs
    | true =>
      rw [hk] at hs
      obtain rfl := Nat.eq_of_beq_eq_true hk
      cases hs
      intro H locs lm hL hl hs hR hf ho
      have hfr : frf k' b = false := by unfold frf; rw [hr]
      refine put_row C (h := h) (h' := sI h k' i b y) hd hx ha hb hin (by rw [hr]; rfl) (by rw [hr]; rfl) hR hs.tl.hd hf (fun _ => rfl) rfl (fun a1 a2 a3 hn => ?_) (fun _ _ _ _ => rfl) (fun _ _ _ _ => rfl) (ob_int hfr) (fun j => rq8 hR _ _ _) (fun H1 locs1 hR1 hf1 => k H1 locs1 lm hL hl hs.tl.tl hR1 hf1 (nro hro))
      rw [hI_sI, if_neg (fun z => hn ⟨z.1, z.2.1⟩)]
  · cases hs
theorem s_putZ (C : CX s00 D cA m p e s mid args meth c) (hro : RO m = false) {x a b : Nat} (hd : decode (bts m) pc = .ok (.putfield x, 3)) (hx : (ow m, x, a, b) ∈ FL) (ha : a < 5) (hb : b < kN a) (hin : (kF a b).2.2.2 = false ∨ (meth.name = "<init>" ∧ ow m = a)) (hr : kT a b = .boolean) (hs : x_putZ a b (pc + 3) ls st h = some (pc', ls', st', h')) (k : GO p l e R s mid args below meth c s00 D cA ad Q m cells slots pc' ls' st' h') : GO p l e R s mid args below meth c s00 D cA ad Q m cells slots pc ls st h := by
  unfold x_putZ at hs
  split at hs
  · rename_i y k' i st
    cases hk : Nat.beq k' a with
    | false => rw [hk] at hs; cases hs
    | true =>
      rw [hk] at hs
      obtain rfl := Nat.eq_of_beq_eq_true hk
      simp only [cond_true] at hs
      split at hs
      · rename_i hy
        cases hs
        intro H locs lm hL hl hs hR hf ho
        have hfr : frf k' b = false := by unfold frf; rw [hr]
        have hnb : narrow .boolean (.int y) = .int y ∧ fits .boolean (.int y) = true := by rcases hy with rfl | rfl <;> decide
        refine put_row C (h := h) (h' := sI h k' i b y) hd hx ha hb hin (by rw [hr]; exact hnb.1) (by rw [hr]; exact hnb.2) hR hs.tl.hd hf (fun _ => rfl) rfl (fun a1 a2 a3 hn => ?_) (fun _ _ _ _ => rfl) (fun _ _ _ _ => rfl) (ob_int hfr) (fun j => rq8 hR _ _ _) (fun H1 locs1 hR1 hf1 => k H1 locs1 lm hL hl hs.tl.tl hR1 hf1 (nro hro))
        rw [hI_sI, if_neg (fun z => hn ⟨z.1, z.2.1⟩)]
      · cases hs
  · cases hs
theorem s_putA (C : CX s00 D cA m p e s mid args meth c) (hro : RO m = false) {x a b : Nat} (hd : decode (bts m) pc = .ok (.putfield x, 3)) (hx : (ow m, x, a, b) ∈ FL) (ha : a < 5) (hb : b < kN a) (hin : (kF a b).2.2.2 = false ∨ (meth.name = "<init>" ∧ ow m = a)) (hr : frf a b = true) (hs : x_putA a b (pc + 3) ls st h = some (pc', ls', st', h')) (k : GO p l e R s mid args below meth c s00 D cA ad Q m cells slots pc' ls' st' h') : GO p l e R s mid args below meth c s00 D cA ad Q m cells slots pc ls st h := by
  unfold x_putA at hs
  split at hs
  · rename_i y k' i st
    cases hk : Nat.beq k' a with
    | false => rw [hk] at hs; cases hs
    | true =>
      rw [hk] at hs
      obtain rfl := Nat.eq_of_beq_eq_true hk
      cases hs
      intro H locs lm hL hl hs hR hf ho
      obtain ⟨n1, n2⟩ := frf_ref hr (y.map ad)
      refine put_row C (h := h) (h' := sA h k' i b y) hd hx ha hb hin n1 n2 hR hs.tl.hd hf (fun _ => rfl) rfl (fun _ _ _ _ => rfl) (fun a1 a2 a3 hn => ?_) (fun _ _ _ _ => rfl) (ob_ref hr) (fun j => ?_) (fun H1 locs1 hR1 hf1 => k H1 locs1 lm hL hl hs.tl.tl hR1 hf1 (nro hro))
      · rw [hA_sA, if_neg (fun z => hn ⟨z.1, z.2.1⟩)]
      · rw [hA_sA]
        by_cases hj : j = b
        · rw [if_pos ⟨rfl, rfl, hj⟩]; exact hs.hd
        · rw [if_neg (fun z => hj z.2.2)]; exact rq8 hR _ _ _
  · cases hs
theorem al_up {k n : Nat} (k' : Nat) : hC h k' ≤ hC (al h k n) k' := by
  rw [hC_al]
  by_cases hk : k' = k
  · subst hk; simp
  · simp [hk]
theorem s_new (C : CX s00 D cA m p e s mid args meth c) (hro : RO m = false) {x a : Nat} (hd : decode (bts m) pc = .ok (.new x, 3)) (hx : (ow m, x, a) ∈ CL) (ha : a < 5) (had : ad (a, hC h a) = hZ h) (hrc : cells + 1 ≤ R.cells) (hrs : slots + kN a ≤ R.slots) (k : GO p l e R s mid args below meth c s00 D cA ad Q m (cells + 1) (slots + kN a) (pc + 3) ls (.inr (.inr (some (a, hC h a))) :: st) (al h a (kN a))) : GO p l e R s mid args below meth c s00 D cA ad Q m cells slots pc ls st h := by
  intro H locs lm hL hl hs hR hf ho
  have hkn : kn a = cn a := by
    unfold kn
    rw [show Nat.ble 12 a = false from by rw [← Bool.not_eq_true]; exact fun z => by have := Nat.le_of_ble_eq_true z; omega]
    rfl
  have hclk := C.t _ (CL_ok _ hx)
  dsimp only at hclk
  rw [hkn] at hclk
  refine W.newc C.x C.b C.own hclk (C.t _ (in_ins a ha)) (C.t _ (in_cls a (by omega))) rfl hd hrc hrs (fun cC kC f1 f2 f3 f4 => ?_)
  have hKn := C.K.1 a _ (cl_at ha)
  have hcc : cC = D.1 a := Option.some.inj (f1.symm.trans hKn.2.1)
  subst hcc
  have hsz : H.size = hZ h := hR.1
  have hob := u_born (H := H.push (blank (D.1 a) kC)) (o := H.size) (kT a) C.t (in_k ha) hKn f2 (by rw [Array.getElem?_push_size]) (ty_k ha)
  have hR1 : RP s00 D cA ad (al h a (kN a)) (H.push (blank (D.1 a) kC)) := by
    refine hR.new (k := a) (n := kN a) (by omega) rfl had ⟨fun _ => ?_, fun z => by omega, fun z => by omega, fun z => by omega, fun z => by omega⟩
    rw [had, ← hsz]
    refine hob.to (fun j hj => ?_)
    unfold obV
    rw [hI_al, hA_al, if_pos ⟨rfl, rfl⟩, if_pos ⟨rfl, rfl⟩]
    have h3 : ∀ k, k < 5 → ∀ j, j < kN k → defaultValue (kT k j) = bif frf k j then .null else .int 0 := by decide +kernel
    rw [h3 a ha j hj]
    rfl
  have k := k _ locs lm hL (hl.up al_up) (.cons (fun k i z => by cases z; exact Or.inl ⟨by omega, by rw [hC_al, if_pos rfl]; omega⟩) (hs.up al_up)) hR1 hf (nro hro)
  rw [List.map_cons, show cv ad (.inr (.inr (some (a, hC h a)))) = .ref H.size from by rw [hsz, ← had]; rfl] at k
  exact k
theorem kM_int (a : Nat) (h : 5 ≤ a ∧ a < 12) : ¬ Int32.ofNat (kM a) < 0 ∧ (Int32.ofNat (kM a)).toNatClampNeg = kM a ∧ kM a * 8 ≤ 536870912 := by
  rcases (show a = 5 ∨ a = 6 ∨ a = 7 ∨ a = 8 ∨ a = 9 ∨ a = 10 ∨ a = 11 by omega) with rfl | rfl | rfl | rfl | rfl | rfl | rfl <;> decide
/-- behind a new array -/
theorem newa_row {a : Nat} (ha : 5 ≤ a ∧ a < 12) {dv : Value} (hdv : (a = 5 ∨ a = 6) ∧ dv = .null ∨ (a = 7 ∨ a = 8 ∨ a = 9 ∨ a = 10) ∧ dv = .int 0 ∨ a = 11 ∧ dv = .long 0) (had : ad (a, hC h a) = hZ h) {H : Heap} (hR : RP s00 D cA ad h H) : RP s00 D cA ad (al h a (kM a)) (H.push ({ cls := cA a, slots := Array.replicate (kM a) dv, vm := .none } : Cell)) := by
  have hsz : H.size = hZ h := hR.1
  refine hR.new (k := a) (n := kM a) (by omega) rfl had ⟨fun z => by omega, fun z => ?_, fun z => ?_, fun z => ?_, fun z => by omega⟩
  · rw [had, ← hsz, Array.getElem?_push_size, vp_cell_q, arrV_new]
    rcases hdv with ⟨-, rfl⟩ | ⟨q, -⟩ | ⟨q, -⟩
    · congr 2
      funext j
      rw [hA_al, if_pos ⟨rfl, rfl⟩]
      rfl
    · omega
    · omega
  · rw [had, ← hsz, Array.getElem?_push_size, vp_cell_i, arrV_new]
    rcases hdv with ⟨q, -⟩ | ⟨-, rfl⟩ | ⟨q, -⟩
    · omega
    · congr 2
      funext j
      rw [hI_al, if_pos ⟨rfl, rfl⟩]
    · omega
  · rw [had, ← hsz, Array.getElem?_push_size, vp_cell_l, arrV_new]
    rcases hdv with ⟨q, -⟩ | ⟨q, -⟩ | ⟨-, rfl⟩
    · omega
    · omega
    · congr 2
      funext j
      rw [hJ_al, if_pos ⟨rfl, rfl⟩]
theorem s_newa (C : CX s00 D cA m p e s mid args meth c) (hro : RO m = false) {t : ArrayType} {a : Nat} (hd : decode (bts m) pc = .ok (.newarray t, 2)) (ht : atK t a = true) (had : ad (a, hC h a) = hZ h) (hrc : cells + 1 ≤ R.cells) (hrs : slots + kM a ≤ R.slots) (hs : x_newa a (pc + 2) ls st h = some (pc', ls', st', h')) (k : GO p l e R s mid args below meth c s00 D cA ad Q m (cells + 1) (slots + kM a) pc' ls' st' h') : GO p l e R s mid args below meth c s00 D cA ad Q m cells slots pc ls st h := by
  unfold x_newa at hs
  split at hs
  · rename_i x st
    split at hs
    · rename_i hx
      subst hx
      cases hs
      intro H locs lm hL hl hs hR hf ho
      have hsz : H.size = hZ h := hR.1
      have key : (7 ≤ a ∧ a < 12) ∧ newarray.typeOf t = aty a ∧ (((a = 7 ∨ a = 8 ∨ a = 9 ∨ a = 10) ∧ defaultValue (aty a) = .int 0) ∨ (a = 11 ∧ defaultValue (aty a) = .long 0)) ∧ Cond.arrayClass (aty a) ∈ lw_tbl ∧ componentBytes (aty a) ≤ 8 ∧ (∀ U cAA, va_RA U cAA (aty a) → U.vm.findClass ("[" ++ (aty a).toString) = some cAA) := by
        unfold atK at ht
        split at ht
        · rename_i hty
          simp only [Bool.or_eq_true] at ht
          rcases ht with (q | q) | q <;> (obtain rfl := Nat.eq_of_beq_eq_true q; exact ⟨by omega, hty, Or.inl ⟨by omega, rfl⟩, in_arr.1, by decide, fun U cAA z => z⟩)
        · rename_i hty
          obtain rfl := Nat.eq_of_beq_eq_true ht
          exact ⟨by omega, hty, Or.inl ⟨by omega, rfl⟩, in_arr.2.1, by decide, fun U cAA z => z⟩
        · rename_i hty
          obtain rfl := Nat.eq_of_beq_eq_true ht
          exact ⟨by omega, hty, Or.inr ⟨rfl, rfl⟩, in_arr.2.2.1, by decide, fun U cAA z => z⟩
        · cases ht
      obtain ⟨h1, h2, h3, h4, h5, h6⟩ := key
      obtain ⟨g1, g2, g3⟩ := kM_int a (by omega)
      refine W.newa C.x C.b (atype := t) (by rw [h2]; exact C.t _ h4) rfl hd rfl g1 (by rw [g2, h2]; exact Nat.le_trans (Nat.mul_le_mul_left _ h5) g3) hrc (by rw [g2]; exact hrs) (fun cAA kA comp f1 f2 f3 => ?_)
      have hcA : cAA = cA a := by
        have := h6 s (cA a) (C.K.2 (a - 5) _ (tyl_at (by omega) (by omega))).2
        rw [h2] at f1
        exact Option.some.inj (f1.symm.trans this)
      subst hcA
      rw [g2, h2]
      have hR1 : RP s00 D cA ad (al h a (kM a)) (H.push ({ cls := cA a, slots := Array.replicate (kM a) (defaultValue (aty a)), vm := .none } : Cell)) := newa_row (by omega) (by rcases h3 with ⟨q1, q2⟩ | ⟨q1, q2⟩; exact Or.inr (Or.inl ⟨q1, q2⟩); exact Or.inr (Or.inr ⟨q1, q2⟩)) had hR
      have k := k _ locs lm hL (hl.up al_up) (.cons (fun k i z => by cases z; exact Or.inl ⟨by omega, by rw [hC_al, if_pos rfl]; omega⟩) (hs.tl.up al_up)) hR1 hf (nro hro)
      rw [List.map_cons, show cv ad (.inr (.inr (some (a, hC h a)))) = .ref H.size from by rw [hsz, ← had]; rfl] at k
      exact k
    · cases hs
  · cases hs
theorem s_anew (C : CX s00 D cA m p e s mid args meth c) (hro : RO m = false) {a x : Nat} (hd : decode (bts m) pc = .ok (.anewarray x, 3)) (ht : (a = 5 ∧ (ow m, x, 1) ∈ CL) ∨ (a = 6 ∧ (ow m, x, 2) ∈ CL)) (had : ad (a, hC h a) = hZ h) (hrc : cells + 1 ≤ R.cells) (hrs : slots + kM a ≤ R.slots) (hs : x_newa a (pc + 3) ls st h = some (pc', ls', st', h')) (k : GO p l e R s mid args below meth c s00 D cA ad Q m (cells + 1) (slots + kM a) pc' ls' st' h') : GO p l e R s mid args below meth c s00 D cA ad Q m cells slots pc ls st h := by
  unfold x_newa at hs
  split at hs
  · rename_i y st
    split at hs
    · rename_i hx
      subst hx
      cases hs
      intro H locs lm hL hl hs hR hf ho
      have hsz : H.size = hZ h := hR.1
      have key : ∃ b, (a = 5 ∨ a = 6) ∧ aty a = .object (cn b) ∧ (ow m, x, b) ∈ CL ∧ kn b = cn b ∧ Cond.arrayOver (.object (cn b)) ∈ lw_tbl := by
        rcases ht with ⟨rfl, q⟩ | ⟨rfl, q⟩
        · exact ⟨1, Or.inl rfl, rfl, q, rfl, in_arr.2.2.2.1⟩
        · exact ⟨2, Or.inr rfl, rfl, q, rfl, in_arr.2.2.2.2⟩
      obtain ⟨b, h1, h2, h3, h4, h5⟩ := key
      obtain ⟨g1, g2, g3⟩ := kM_int a (by omega)
      have hclk := C.t _ (CL_ok _ h3)
      dsimp only at hclk
      rw [h4] at hclk
      refine W.anew C.x C.b C.own hclk (C.t _ h5) rfl hd rfl g1 (by rw [g2]; omega) hrc (by rw [g2]; exact hrs) (fun cAA kA comp f1 f2 f3 f4 => ?_)
      have hcA : cAA = cA a := by
        have := (C.K.2 (a - 5) _ (tyl_at (by omega) (by omega))).2
        rw [h2] at this
        obtain ⟨_, _, _, _, _, q⟩ := this
        exact Option.some.inj (f1.symm.trans q)
      subst hcA
      rw [g2]
      have hR1 : RP s00 D cA ad (al h a (kM a)) (H.push ({ cls := cA a, slots := Array.replicate (kM a) .null, vm := .none } : Cell)) := newa_row (by omega) (Or.inl ⟨h1, rfl⟩) had hR
      have k := k _ locs lm hL (hl.up al_up) (.cons (fun k i z => by cases z; exact Or.inl ⟨by omega, by rw [hC_al, if_pos rfl]; omega⟩) (hs.tl.up al_up)) hR1 hf (nro hro)
      rw [List.map_cons, show cv ad (.inr (.inr (some (a, hC h a)))) = .ref H.size from by rw [hsz, ← had]; rfl] at k
      exact k
    · cases hs
  · cases hs
end SN2
end
section
-- THE INSTRUCTIONS ON ARRAYS
theorem kL_kM {h : AH} {k : Nat} (hk : 5 ≤ k ∧ k < 12) : kL h k = kM k := by
  rcases (show k = 5 ∨ k = 6 ∨ k = 7 ∨ k = 8 ∨ k = 9 ∨ k = 10 ∨ k = 11 by omega) with rfl | rfl | rfl | rfl | rfl | rfl | rfl <;> rfl
theorem isInts_cases {k : Nat} (h : isInts k = true) : (k = 7 ∨ k = 8 ∨ k = 9) ∨ k = 15 := by
  unfold isInts at h
  split at h
  · omega
  · omega
  · omega
  · omega
  · cases h
section SN3
variable {p : Program} {l : Launch} {e : Env} {R : Room} {s s00 : State} {mid : MethodId} {args : Array Value} {below : List Frame} {meth : Method} {c : Code} {D : va_G} {cA : Nat → ClassId} {ad : Nat × Nat → Nat} {Q : State → Prop} {m cells slots pc pc' nx : Nat} {ls ls' : AL} {st st' : List AV} {h h' : AH}
theorem ints_cell (C : CX s00 D cA m p e s mid args meth c) {H : Heap} (hR : RP s00 D cA ad h H) {k i : Nat} (hk : isInts k = true) (hv : WV h (.inr (.inr (some (k, i))))) : ∃ cell : Cell, H[ad (k, i)]? = some cell ∧ s.isArrayOf cell .int ∧ cell.vm ≠ .unknown ∧ cell.slots.size = kL h k ∧ ∀ j : Nat, j < kL h k → cell.slots[j]? = some (.int (hI h k i j)) := by
  rcases isInts_cases hk with q | rfl
  · obtain ⟨hia, hba, hc⟩ := rq5 hR (by omega) hv
    have hcell := hc.2.2.1 (by omega)
    have hKa := (C.K.2 (k - 5) _ (tyl_at (by omega) (by omega))).1
    have hty : aty k = .int := by rcases q with rfl | rfl | rfl <;> rfl
    rw [hty] at hKa
    rw [kL_kM (by omega)]
    refine ⟨_, hcell, hKa (kM k) (fun j => .int (hI h k i j)), (fun z => by cases z), ?_, fun j hj => ?_⟩
    · rw [vp_cell_i, arrV_size]
    · rw [vp_cell_i, arrV_read _ _ hj]
  · have hi : i = 0 := by
      rcases hv 15 i rfl with ⟨z, _⟩ | ⟨_, z⟩
      · omega
      · exact z
    subst hi
    obtain ⟨r1, r2, r3, r4, r5, r6, r7, r8⟩ := hR
    obtain ⟨scr, g1, g2, g3, g4, g5⟩ := va_X.moved C.warm.alike r7.2
    exact ⟨scr, by rw [r3 _ r7.1]; exact g1, g2, g3, g4, g5⟩
theorem s_iald (C : CX s00 D cA m p e s mid args meth c) (hd : decode (bts m) pc = .ok (.iaload, 1)) (hs : x_iald (pc + 1) ls st h = some (pc', ls', st', h')) (k : GO p l e R s mid args below meth c s00 D cA ad Q m cells slots pc' ls' st' h') : GO p l e R s mid args below meth c s00 D cA ad Q m cells slots pc ls st h := by
  unfold x_iald at hs
  split at hs
  · rename_i j k' i st
    cases hk : isInts k' with
    | false => rw [hk] at hs; cases hs
    | true =>
      rw [hk] at hs
      simp only [cond_true] at hs
      split at hs
      · cases hs
      · rename_i hin
        cases hs
        intro H locs lm hL hl hs hR hf ho
        obtain ⟨cell, g1, g2, g3, g4, g5⟩ := ints_cell C hR hk hs.tl.hd
        exact W.iald C.x C.b g1 g2 g3 (by rw [g4]; exact hin) (g5 _ (Nat.not_le.mp fun z => hin (Or.inr z))) rfl rfl hd (k H locs lm hL hl (.cons WV.int hs.tl.tl) hR hf ho)
  · cases hs
theorem s_zald (C : CX s00 D cA m p e s mid args meth c) (hd : decode (bts m) pc = .ok (.baload, 1)) (hs : x_zald (pc + 1) ls st h = some (pc', ls', st', h')) (k : GO p l e R s mid args below meth c s00 D cA ad Q m cells slots pc' ls' st' h') : GO p l e R s mid args below meth c s00 D cA ad Q m cells slots pc ls st h := by
  unfold x_zald at hs
  split at hs
  · rename_i j k' i st
    cases hk : Nat.beq k' 10 with
    | false => rw [hk] at hs; cases hs
    | true =>
      rw [hk] at hs
      simp only [cond_true] at hs
      obtain rfl := Nat.eq_of_beq_eq_true hk
      split at hs
      · cases hs
      · rename_i hin
        cases hs
        intro H locs lm hL hl hs hR hf ho
        obtain ⟨hia, hba, hc⟩ := rq5 hR (by omega) hs.tl.hd
        have hcell := hc.2.2.1 (by omega)
        have hKa := (C.K.2 (10 - 5) _ (tyl_at (by omega) (by omega))).1
        have hlt : j.toNatClampNeg < kM 10 := Nat.not_le.mp fun z => hin (Or.inr z)
        exact W.zald C.x C.b hcell (hKa (kM 10) (fun j => .int (hI h 10 i j))) (fun z => by cases z) (by rw [vp_cell_i, arrV_size]; exact hin) (by rw [vp_cell_i, arrV_read _ _ hlt]; rfl) rfl rfl hd (k H locs lm hL hl (.cons WV.int hs.tl.tl) hR hf ho)
  · cases hs
theorem s_aald (C : CX s00 D cA m p e s mid args meth c) (hd : decode (bts m) pc = .ok (.aaload, 1)) (hs : x_aald (pc + 1) ls st h = some (pc', ls', st', h')) (k : GO p l e R s mid args below meth c s00 D cA ad Q m cells slots pc' ls' st' h') : GO p l e R s mid args below meth c s00 D cA ad Q m cells slots pc ls st h := by
  unfold x_aald at hs
  split at hs
  · rename_i j k' i st
    cases hk : (Nat.beq k' 5 || Nat.beq k' 6) with
    | false => rw [hk] at hs; cases hs
    | true =>
      rw [hk] at hs
      simp only [cond_true] at hs
      have hkk : k' = 5 ∨ k' = 6 := by
        rcases Bool.or_eq_true _ _ ▸ hk with q | q
        · exact Or.inl (Nat.eq_of_beq_eq_true q)
        · exact Or.inr (Nat.eq_of_beq_eq_true q)
      split at hs
      · cases hs
      · rename_i hin
        cases hs
        intro H locs lm hL hl hs hR hf ho
        obtain ⟨hia, hba, hc⟩ := rq5 hR (by omega) hs.tl.hd
        have hcell := hc.2.1 hkk
        have hKa := (C.K.2 (k' - 5) _ (tyl_at (by omega) (by omega))).1
        rw [kL_kM (by omega)] at hin
        have hlt : j.toNatClampNeg < kM k' := Nat.not_le.mp fun z => hin (Or.inr z)
        exact W.aald C.x C.b hcell (hKa (kM k') (fun j => va_rf ((hA h k' i j).map ad))) (by rcases hkk with rfl | rfl <;> rfl) (fun z => by cases z) (by rw [vp_cell_q, arrV_size]; exact hin) (by rw [vp_cell_q, arrV_read _ _ hlt]; rfl) rfl rfl hd (k H locs lm hL hl (.cons (rq8 hR _ _ _) hs.tl.tl) hR hf ho)
  · cases hs
theorem s_lald (C : CX s00 D cA m p e s mid args meth c) (hd : decode (bts m) pc = .ok (.laload, 1)) (hs : x_lald (pc + 1) ls st h = some (pc', ls', st', h')) (k : GO p l e R s mid args below meth c s00 D cA ad Q m cells slots pc' ls' st' h') : GO p l e R s mid args below meth c s00 D cA ad Q m cells slots pc ls st h := by
  unfold x_lald at hs
  split at hs
  · rename_i j k' i st
    cases hk : Nat.beq k' 11 with
    | false => rw [hk] at hs; cases hs
    | true =>
      rw [hk] at hs
      simp only [cond_true] at hs
      obtain rfl := Nat.eq_of_beq_eq_true hk
      split at hs
      · cases hs
      · rename_i hin
        cases hs
        intro H locs lm hL hl hs hR hf ho
        obtain ⟨hia, hba, hc⟩ := rq5 hR (by omega) hs.tl.hd
        have hcell := hc.2.2.2.1 rfl
        have hKa := (C.K.2 (11 - 5) _ (tyl_at (by omega) (by omega))).1
        have hlt : j.toNatClampNeg < kM 11 := Nat.not_le.mp fun z => hin (Or.inr z)
        exact W.lald C.x C.b hcell (hKa (kM 11) (fun j => .long (hJ h 11 i j))) (fun z => by cases z) (by rw [vp_cell_l, arrV_size]; exact hin) (by rw [vp_cell_l, arrV_read _ _ hlt]; rfl) rfl rfl hd (k H locs lm hL hl (.cons WV.long hs.tl.tl) hR hf ho)
  · cases hs
theorem s_alen (C : CX s00 D cA m p e s mid args meth c) (hd : decode (bts m) pc = .ok (.arraylength, 1)) (hs : x_alen (pc + 1) ls st h = some (pc', ls', st', h')) (k : GO p l e R s mid args below meth c s00 D cA ad Q m cells slots pc' ls' st' h') : GO p l e R s mid args below meth c s00 D cA ad Q m cells slots pc ls st h := by
  unfold x_alen at hs
  split at hs
  · rename_i k' i st
    cases hk : Nat.beq k' 15 with
    | false => rw [hk] at hs; cases hs
    | true =>
      rw [hk] at hs
      obtain rfl := Nat.eq_of_beq_eq_true hk
      cases hs
      intro H locs lm hL hl hs hR hf ho
      obtain ⟨cell, g1, g2, g3, g4, g5⟩ := ints_cell C hR rfl hs.hd
      exact W.alen C.x C.b g1 g2 (by rw [g4]; rfl) rfl rfl hd (k H locs lm hL hl (.cons WV.int hs.tl) hR hf ho)
  · cases hs
/-- behind a store into an array -/
theorem ast_row {a i j : Nat} {H H1 : Heap} {locs : List Loc} (hR : RP s00 D cA ad h H) (ha : 5 ≤ a ∧ a < 12) (hv : WV h (.inr (.inr (some (a, i))))) (hf : ∀ q ∈ locs, s00.heap.size ≤ q.base)
    {cell : Cell} (g1 : H1[ad (a, i)]? = some cell) (gv : cell.vm = .none) (g2 : H1.size = H.size) (g3 : ∀ q, q ≠ ad (a, i) → H1[q]? = H[q]?)
    (eC : ∀ k, hC h' k = hC h k) (eZ : hZ h' = hZ h) (e1 : ∀ k' i' j, ¬ (k' = a ∧ i' = i) → hI h' k' i' j = hI h k' i' j) (e2 : ∀ k' i' j, ¬ (k' = a ∧ i' = i) → hA h' k' i' j = hA h k' i' j) (e3 : ∀ k' i' j, ¬ (k' = a ∧ i' = i) → hJ h' k' i' j = hJ h k' i' j)
    (hw : ∀ j, WV h (.inr (.inr (hA h' a i j)))) (hc : CR s00 D cA ad h' a i H1) : RP s00 D cA ad h' H1 ∧ ∀ q ∈ locs ++ [⟨ad (a, i), j⟩], s00.heap.size ≤ q.base := by
  obtain ⟨hia, hba, -⟩ := rq5 hR (by omega) hv
  refine ⟨hR.put (k := a) (i := i) (by omega) hia g2 g3 (fun y hy => ?_) eC eZ e1 e2 e3 hc hw, fun q hq => ?_⟩
  · rw [g1] at hy; cases hy; rw [gv]; rfl
  · rcases List.mem_append.mp hq with z | z
    · exact hf q z
    · rw [List.mem_singleton.mp z]; exact hba
theorem s_iast (C : CX s00 D cA m p e s mid args meth c) (hro : RO m = false) (hd : decode (bts m) pc = .ok (.iastore, 1)) (hs : x_iast (pc + 1) ls st h = some (pc', ls', st', h')) (k : GO p l e R s mid args below meth c s00 D cA ad Q m cells slots pc' ls' st' h') : GO p l e R s mid args below meth c s00 D cA ad Q m cells slots pc ls st h := by
  unfold x_iast at hs
  split at hs
  · rename_i x j k' i st
    cases hk : (isInts k' && !Nat.beq k' 15) with
    | false => rw [hk] at hs; cases hs
    | true =>
      rw [hk] at hs
      simp only [cond_true] at hs
      have hkk : k' = 7 ∨ k' = 8 ∨ k' = 9 := by
        have hk := Bool.and_eq_true _ _ ▸ hk
        rcases isInts_cases hk.1 with q | rfl
        · exact q
        · exact absurd hk.2 (by decide)
      split at hs
      · cases hs
      · rename_i hin
        cases hs
        intro H locs lm hL hl hs hR hf ho
        obtain ⟨hia, hba, hc⟩ := rq5 hR (by omega) hs.tl.tl.hd
        have hcell := hc.2.2.1 (by omega)
        have hKa := (C.K.2 (k' - 5) _ (tyl_at (by omega) (by omega))).1
        rw [show aty k' = .int from by rcases hkk with rfl | rfl | rfl <;> rfl] at hKa
        rw [kL_kM (by omega)] at hin
        refine W.iast C.x C.b hcell (hKa (kM k') (fun j => .int (hI h k' i j))) (fun z => by cases z) (by rw [vp_cell_i, arrV_size]; exact hin) rfl rfl hd (fun H1 g1 g2 g3 => ?_)
        rw [vp_cell_i, arrV_store] at g1
        obtain ⟨hR1, hf1⟩ := ast_row (h' := sI h k' i j.toNatClampNeg x) (j := j.toNatClampNeg) hR (by omega) hs.tl.tl.hd hf g1 rfl g2 g3 (fun _ => rfl) rfl (fun a1 a2 a3 hn => by rw [hI_sI, if_neg (fun z => hn ⟨z.1, z.2.1⟩)]) (fun _ _ _ _ => rfl) (fun _ _ _ _ => rfl) (fun j => rq8 hR _ _ _) ⟨fun z => by omega, fun z => by omega, fun _ => by
          rw [g1, vp_cell_i]
          congr 2
          funext q
          rw [hI_sI]
          by_cases hq : q = j.toNatClampNeg
          · rw [if_pos ⟨rfl, rfl, hq⟩]; simp [updV, hq]
          · rw [if_neg (fun z => hq z.2.2)]; simp [updV, hq], fun z => by omega, fun z => by omega⟩
        exact k H1 _ lm hL hl hs.tl.tl.tl hR1 hf1 (nro hro)
  · cases hs
theorem s_zast (C : CX s00 D cA m p e s mid args meth c) (hro : RO m = false) (hd : decode (bts m) pc = .ok (.bastore, 1)) (hs : x_zast (pc + 1) ls st h = some (pc', ls', st', h')) (k : GO p l e R s mid args below meth c s00 D cA ad Q m cells slots pc' ls' st' h') : GO p l e R s mid args below meth c s00 D cA ad Q m cells slots pc ls st h := by
  unfold x_zast at hs
  split at hs
  · rename_i x j k' i st
    cases hk : Nat.beq k' 10 with
    | false => rw [hk] at hs; cases hs
    | true =>
      rw [hk] at hs
      simp only [cond_true] at hs
      obtain rfl := Nat.eq_of_beq_eq_true hk
      split at hs
      · cases hs
      · rename_i hin
        cases hs
        have hin1 : ¬ (j < 0 ∨ kM 10 ≤ j.toNatClampNeg) := fun z => hin (Or.inl z)
        have hx : x = 0 ∨ x = 1 := Classical.byContradiction (fun z => hin (Or.inr z))
        have hnb : narrow .boolean (.int x) = .int x := by rcases hx with rfl | rfl <;> decide
        intro H locs lm hL hl hs hR hf ho
        obtain ⟨hia, hba, hc⟩ := rq5 hR (by omega) hs.tl.tl.hd
        have hcell := hc.2.2.1 (by omega)
        have hKa := (C.K.2 (10 - 5) _ (tyl_at (by omega) (by omega))).1
        refine W.zast C.x C.b hcell (hKa (kM 10) (fun j => .int (hI h 10 i j))) (fun z => by cases z) (by rw [vp_cell_i, arrV_size]; exact hin1) rfl rfl hd (fun H1 g1 g2 g3 => ?_)
        rw [hnb, vp_cell_i, arrV_store] at g1
        obtain ⟨hR1, hf1⟩ := ast_row (h' := sI h 10 i j.toNatClampNeg x) (j := j.toNatClampNeg) hR (by omega) hs.tl.tl.hd hf g1 rfl g2 g3 (fun _ => rfl) rfl (fun a1 a2 a3 hn => by rw [hI_sI, if_neg (fun z => hn ⟨z.1, z.2.1⟩)]) (fun _ _ _ _ => rfl) (fun _ _ _ _ => rfl) (fun j => rq8 hR _ _ _) ⟨fun z => by omega, fun z => by omega, fun _ => by
          rw [g1, vp_cell_i]
          congr 2
          funext q
          rw [hI_sI]
          by_cases hq : q = j.toNatClampNeg
          · rw [if_pos ⟨rfl, rfl, hq⟩]; simp [updV, hq]
          · rw [if_neg (fun z => hq z.2.2)]; simp [updV, hq], fun z => by omega, fun z => by omega⟩
        exact k H1 _ lm hL hl hs.tl.tl.tl hR1 hf1 (nro hro)
  · cases hs
theorem s_last (C : CX s00 D cA m p e s mid args meth c) (hro : RO m = false) (hd : decode (bts m) pc = .ok (.lastore, 1)) (hs : x_last (pc + 1) ls st h = some (pc', ls', st', h')) (k : GO p l e R s mid args below meth c s00 D cA ad Q m cells slots pc' ls' st' h') : GO p l e R s mid args below meth c s00 D cA ad Q m cells slots pc ls st h := by
  unfold x_last at hs
  split at hs
  · rename_i x j k' i st
    cases hk : Nat.beq k' 11 with
    | false => rw [hk] at hs; cases hs
    | true =>
      rw [hk] at hs
      simp only [cond_true] at hs
      obtain rfl := Nat.eq_of_beq_eq_true hk
      split at hs
      · cases hs
      · rename_i hin
        cases hs
        intro H locs lm hL hl hs hR hf ho
        obtain ⟨hia, hba, hc⟩ := rq5 hR (by omega) hs.tl.tl.hd
        have hcell := hc.2.2.2.1 rfl
        have hKa := (C.K.2 (11 - 5) _ (tyl_at (by omega) (by omega))).1
        refine W.last C.x C.b hcell (hKa (kM 11) (fun j => .long (hJ h 11 i j))) (fun z => by cases z) (by rw [vp_cell_l, arrV_size]; exact hin) rfl rfl hd (fun H1 g1 g2 g3 => ?_)
        rw [vp_cell_l, arrV_store] at g1
        obtain ⟨hR1, hf1⟩ := ast_row (h' := sJ h 11 i j.toNatClampNeg x) (j := j.toNatClampNeg) hR (by omega) hs.tl.tl.hd hf g1 rfl g2 g3 (fun _ => rfl) rfl (fun _ _ _ _ => rfl) (fun _ _ _ _ => rfl) (fun a1 a2 a3 hn => by rw [hJ_sJ, if_neg (fun z => hn ⟨z.1, z.2.1⟩)]) (fun j => rq8 hR _ _ _) ⟨fun z => by omega, fun z => by omega, fun z => by omega, fun _ => by
          rw [g1, vp_cell_l]
          congr 2
          funext q
          rw [hJ_sJ]
          by_cases hq : q = j.toNatClampNeg
          · rw [if_pos ⟨rfl, rfl, hq⟩]; simp [updV, hq]
          · rw [if_neg (fun z => hq z.2.2)]; simp [updV, hq], fun z => by omega⟩
        exact k H1 _ lm hL hl hs.tl.tl.tl hR1 hf1 (nro hro)
  · cases hs
theorem s_aast (C : CX s00 D cA m p e s mid args meth c) (hro : RO m = false) (hd : decode (bts m) pc = .ok (.aastore, 1)) (hs : x_aast (pc + 1) ls st h = some (pc', ls', st', h')) (k : GO p l e R s mid args below meth c s00 D cA ad Q m cells slots pc' ls' st' h') : GO p l e R s mid args below meth c s00 D cA ad Q m cells slots pc ls st h := by
  unfold x_aast at hs
  split at hs
  · rename_i k2 i2 j k' i st
    cases hk : Nat.beq k2 (kE k') with
    | false => rw [hk] at hs; cases hs
    | true =>
      rw [hk] at hs
      simp only [cond_true] at hs
      obtain rfl := Nat.eq_of_beq_eq_true hk
      split at hs
      · cases hs
      · rename_i hin
        cases hs
        intro H locs lm hL hl hs hR hf ho
        have hkk : k' = 5 ∨ k' = 6 := by
          unfold kE at hs
          rcases hs.hd _ _ rfl with ⟨z, _⟩ | ⟨z, _⟩
          · split at z
            · exact Or.inl rfl
            · exact Or.inr rfl
            · omega
          · split at z
            · omega
            · omega
            · omega
        have hE5 : kE k' < 5 := by rcases hkk with rfl | rfl <;> decide
        obtain ⟨hia, hba, hc⟩ := rq5 hR (by omega) hs.tl.tl.hd
        obtain ⟨hia2, hba2, hc2⟩ := rq5 hR (by omega) hs.hd
        have hcell := hc.2.1 hkk
        obtain ⟨ce2, v1, v2, v3, v4⟩ := hc2.1 hE5
        have hKA := C.K.2 (k' - 5) _ (tyl_at (by omega) (by omega))
        have hty : aty k' = .object (cn (kE k')) := by rcases hkk with rfl | rfl <;> rfl
        dsimp only at hKA
        rw [hty] at hKA
        obtain ⟨kA, comp, f1, f2, f3, f4⟩ := hKA.2
        have hcl := (C.K.1 (kE k') _ (cl_at hE5)).2
        have hcomp : comp = D.1 (kE k') := Option.some.inj (f3.symm.trans hcl.1)
        obtain ⟨hfc, kC, hkC, hkind⟩ := id hcl
        rw [kL_kM (by omega)] at hin
        have hin2 : ¬ j < 0 ∧ j.toNatClampNeg < kM k' := ⟨fun z => hin (Or.inl z), Nat.not_le.mp fun z => hin (Or.inr z)⟩
        refine W.aast (comp := comp) (t := .object (cn (kE k'))) (kcomp := kC) (kv := kC) C.x C.b hcell (fun q z => by cases z) (fun z => by cases z) f1 f2 rfl (by rw [hcomp]; exact hkC) (by rw [vp_cell_q, arrV_size]; exact hin2) v1 (fun q z => by rw [v3] at z; cases z) (by rw [v2]; exact hkC) (by rw [v2, hcomp]; exact va_assign hcl) rfl rfl hd (fun H1 g1 g2 g3 => ?_)
        rw [vp_cell_q, arrV_store] at g1
        obtain ⟨hR1, hf1⟩ := ast_row (h' := sA h k' i j.toNatClampNeg (some (kE k', i2))) (j := j.toNatClampNeg) hR (by omega) hs.tl.tl.hd hf g1 rfl g2 g3 (fun _ => rfl) rfl (fun _ _ _ _ => rfl) (fun a1 a2 a3 hn => by rw [hA_sA, if_neg (fun z => hn ⟨z.1, z.2.1⟩)]) (fun _ _ _ _ => rfl) (fun q => by
          rw [hA_sA]
          by_cases hq : q = j.toNatClampNeg
          · rw [if_pos ⟨rfl, rfl, hq⟩]; exact hs.hd
          · rw [if_neg (fun z => hq z.2.2)]; exact rq8 hR _ _ _) ⟨fun z => by omega, fun _ => by
          rw [g1, vp_cell_q]
          congr 2
          funext q
          rw [hA_sA]
          by_cases hq : q = j.toNatClampNeg
          · rw [if_pos ⟨rfl, rfl, hq⟩]; simp [updV, hq, va_rf]
          · rw [if_neg (fun z => hq z.2.2)]; simp [updV, hq], fun z => by omega, fun z => by omega, fun z => by omega⟩
        exact k H1 _ lm hL hl hs.tl.tl.tl hR1 hf1 (nro hro)
  · cases hs
end SN3
end
section
-- A STEP
def NZ (h h' : AH) : Prop := hZ h' = hZ h ∧ hS h' = hS h ∧ hC h' = hC h ∧ hR h' = hR h
theorem cd_some {α : Type} {b : Bool} {x : Option α} {y : α} (h : (bif b then x else none) = some y) : b = true ∧ x = some y := by
  cases b with
  | true => exact ⟨rfl, h⟩
  | false => cases h
section NZS
variable {a b nx pc' : Nat} {cc : Int32} {ls ls' : AL} {st st' : List AV} {h h' : AH}
theorem nz_iload (hs : x_iload a nx ls st h = some (pc', ls', st', h')) : NZ h h' := by
  unfold x_iload at hs
  split at hs
  all_goals (first | (cases hs; done) | (cases hs; exact ⟨rfl, rfl, rfl, rfl⟩) | (split at hs <;> first | (cases hs; done) | (cases hs; exact ⟨rfl, rfl, rfl, rfl⟩)) | (replace hs := (cd_some hs).2; first | (cases hs; exact ⟨rfl, rfl, rfl, rfl⟩) | (split at hs <;> first | (cases hs; done) | (cases hs; exact ⟨rfl, rfl, rfl, rfl⟩))))
theorem nz_aload (hs : x_aload a nx ls st h = some (pc', ls', st', h')) : NZ h h' := by
  unfold x_aload at hs
  split at hs
  all_goals (first | (cases hs; done) | (cases hs; exact ⟨rfl, rfl, rfl, rfl⟩) | (split at hs <;> first | (cases hs; done) | (cases hs; exact ⟨rfl, rfl, rfl, rfl⟩)) | (replace hs := (cd_some hs).2; first | (cases hs; exact ⟨rfl, rfl, rfl, rfl⟩) | (split at hs <;> first | (cases hs; done) | (cases hs; exact ⟨rfl, rfl, rfl, rfl⟩))))
theorem nz_istore (hs : x_istore a nx ls st h = some (pc', ls', st', h')) : NZ h h' := by
  unfold x_istore at hs
  split at hs
  all_goals (first | (cases hs; done) | (cases hs; exact ⟨rfl, rfl, rfl, rfl⟩) | (split at hs <;> first | (cases hs; done) | (cases hs; exact ⟨rfl, rfl, rfl, rfl⟩)) | (replace hs := (cd_some hs).2; first | (cases hs; exact ⟨rfl, rfl, rfl, rfl⟩) | (split at hs <;> first | (cases hs; done) | (cases hs; exact ⟨rfl, rfl, rfl, rfl⟩))))
theorem nz_astore (hs : x_astore a nx ls st h = some (pc', ls', st', h')) : NZ h h' := by
  unfold x_astore at hs
  split at hs
  all_goals (first | (cases hs; done) | (cases hs; exact ⟨rfl, rfl, rfl, rfl⟩) | (split at hs <;> first | (cases hs; done) | (cases hs; exact ⟨rfl, rfl, rfl, rfl⟩)) | (replace hs := (cd_some hs).2; first | (cases hs; exact ⟨rfl, rfl, rfl, rfl⟩) | (split at hs <;> first | (cases hs; done) | (cases hs; exact ⟨rfl, rfl, rfl, rfl⟩))))
theorem nz_dup (hs : x_dup nx ls st h = some (pc', ls', st', h')) : NZ h h' := by
  unfold x_dup at hs
  split at hs
  all_goals (first | (cases hs; done) | (cases hs; exact ⟨rfl, rfl, rfl, rfl⟩) | (split at hs <;> first | (cases hs; done) | (cases hs; exact ⟨rfl, rfl, rfl, rfl⟩)) | (replace hs := (cd_some hs).2; first | (cases hs; exact ⟨rfl, rfl, rfl, rfl⟩) | (split at hs <;> first | (cases hs; done) | (cases hs; exact ⟨rfl, rfl, rfl, rfl⟩))))
theorem nz_dupx (hs : x_dupx nx ls st h = some (pc', ls', st', h')) : NZ h h' := by
  unfold x_dupx at hs
  split at hs
  all_goals (first | (cases hs; done) | (cases hs; exact ⟨rfl, rfl, rfl, rfl⟩) | (split at hs <;> first | (cases hs; done) | (cases hs; exact ⟨rfl, rfl, rfl, rfl⟩)) | (replace hs := (cd_some hs).2; first | (cases hs; exact ⟨rfl, rfl, rfl, rfl⟩) | (split at hs <;> first | (cases hs; done) | (cases hs; exact ⟨rfl, rfl, rfl, rfl⟩))))
theorem nz_add (hs : x_add nx ls st h = some (pc', ls', st', h')) : NZ h h' := by
  unfold x_add at hs
  split at hs
  all_goals (first | (cases hs; done) | (cases hs; exact ⟨rfl, rfl, rfl, rfl⟩) | (split at hs <;> first | (cases hs; done) | (cases hs; exact ⟨rfl, rfl, rfl, rfl⟩)) | (replace hs := (cd_some hs).2; first | (cases hs; exact ⟨rfl, rfl, rfl, rfl⟩) | (split at hs <;> first | (cases hs; done) | (cases hs; exact ⟨rfl, rfl, rfl, rfl⟩))))
theorem nz_sub (hs : x_sub nx ls st h = some (pc', ls', st', h')) : NZ h h' := by
  unfold x_sub at hs
  split at hs
  all_goals (first | (cases hs; done) | (cases hs; exact ⟨rfl, rfl, rfl, rfl⟩) | (split at hs <;> first | (cases hs; done) | (cases hs; exact ⟨rfl, rfl, rfl, rfl⟩)) | (replace hs := (cd_some hs).2; first | (cases hs; exact ⟨rfl, rfl, rfl, rfl⟩) | (split at hs <;> first | (cases hs; done) | (cases hs; exact ⟨rfl, rfl, rfl, rfl⟩))))
theorem nz_mul (hs : x_mul nx ls st h = some (pc', ls', st', h')) : NZ h h' := by
  unfold x_mul at hs
  split at hs
  all_goals (first | (cases hs; done) | (cases hs; exact ⟨rfl, rfl, rfl, rfl⟩) | (split at hs <;> first | (cases hs; done) | (cases hs; exact ⟨rfl, rfl, rfl, rfl⟩)) | (replace hs := (cd_some hs).2; first | (cases hs; exact ⟨rfl, rfl, rfl, rfl⟩) | (split at hs <;> first | (cases hs; done) | (cases hs; exact ⟨rfl, rfl, rfl, rfl⟩))))
theorem nz_and (hs : x_and nx ls st h = some (pc', ls', st', h')) : NZ h h' := by
  unfold x_and at hs
  split at hs
  all_goals (first | (cases hs; done) | (cases hs; exact ⟨rfl, rfl, rfl, rfl⟩) | (split at hs <;> first | (cases hs; done) | (cases hs; exact ⟨rfl, rfl, rfl, rfl⟩)) | (replace hs := (cd_some hs).2; first | (cases hs; exact ⟨rfl, rfl, rfl, rfl⟩) | (split at hs <;> first | (cases hs; done) | (cases hs; exact ⟨rfl, rfl, rfl, rfl⟩))))
theorem nz_shr (hs : x_shr nx ls st h = some (pc', ls', st', h')) : NZ h h' := by
  unfold x_shr at hs
  split at hs
  all_goals (first | (cases hs; done) | (cases hs; exact ⟨rfl, rfl, rfl, rfl⟩) | (split at hs <;> first | (cases hs; done) | (cases hs; exact ⟨rfl, rfl, rfl, rfl⟩)) | (replace hs := (cd_some hs).2; first | (cases hs; exact ⟨rfl, rfl, rfl, rfl⟩) | (split at hs <;> first | (cases hs; done) | (cases hs; exact ⟨rfl, rfl, rfl, rfl⟩))))
theorem nz_div (hs : x_div nx ls st h = some (pc', ls', st', h')) : NZ h h' := by
  unfold x_div at hs
  split at hs
  all_goals (first | (cases hs; done) | (cases hs; exact ⟨rfl, rfl, rfl, rfl⟩) | (split at hs <;> first | (cases hs; done) | (cases hs; exact ⟨rfl, rfl, rfl, rfl⟩)) | (replace hs := (cd_some hs).2; first | (cases hs; exact ⟨rfl, rfl, rfl, rfl⟩) | (split at hs <;> first | (cases hs; done) | (cases hs; exact ⟨rfl, rfl, rfl, rfl⟩))))
theorem nz_rem (hs : x_rem nx ls st h = some (pc', ls', st', h')) : NZ h h' := by
  unfold x_rem at hs
  split at hs
  all_goals (first | (cases hs; done) | (cases hs; exact ⟨rfl, rfl, rfl, rfl⟩) | (split at hs <;> first | (cases hs; done) | (cases hs; exact ⟨rfl, rfl, rfl, rfl⟩)) | (replace hs := (cd_some hs).2; first | (cases hs; exact ⟨rfl, rfl, rfl, rfl⟩) | (split at hs <;> first | (cases hs; done) | (cases hs; exact ⟨rfl, rfl, rfl, rfl⟩))))
theorem nz_iinc (hs : x_iinc a cc nx ls st h = some (pc', ls', st', h')) : NZ h h' := by
  unfold x_iinc at hs
  split at hs
  all_goals (first | (cases hs; done) | (cases hs; exact ⟨rfl, rfl, rfl, rfl⟩) | (split at hs <;> first | (cases hs; done) | (cases hs; exact ⟨rfl, rfl, rfl, rfl⟩)) | (replace hs := (cd_some hs).2; first | (cases hs; exact ⟨rfl, rfl, rfl, rfl⟩) | (split at hs <;> first | (cases hs; done) | (cases hs; exact ⟨rfl, rfl, rfl, rfl⟩))))
theorem nz_i2l (hs : x_i2l nx ls st h = some (pc', ls', st', h')) : NZ h h' := by
  unfold x_i2l at hs
  split at hs
  all_goals (first | (cases hs; done) | (cases hs; exact ⟨rfl, rfl, rfl, rfl⟩) | (split at hs <;> first | (cases hs; done) | (cases hs; exact ⟨rfl, rfl, rfl, rfl⟩)) | (replace hs := (cd_some hs).2; first | (cases hs; exact ⟨rfl, rfl, rfl, rfl⟩) | (split at hs <;> first | (cases hs; done) | (cases hs; exact ⟨rfl, rfl, rfl, rfl⟩))))
theorem nz_lcmp (hs : x_lcmp nx ls st h = some (pc', ls', st', h')) : NZ h h' := by
  unfold x_lcmp at hs
  split at hs
  all_goals (first | (cases hs; done) | (cases hs; exact ⟨rfl, rfl, rfl, rfl⟩) | (split at hs <;> first | (cases hs; done) | (cases hs; exact ⟨rfl, rfl, rfl, rfl⟩)) | (replace hs := (cd_some hs).2; first | (cases hs; exact ⟨rfl, rfl, rfl, rfl⟩) | (split at hs <;> first | (cases hs; done) | (cases hs; exact ⟨rfl, rfl, rfl, rfl⟩))))
theorem nz_if (hs : x_if b a nx ls st h = some (pc', ls', st', h')) : NZ h h' := by
  unfold x_if at hs
  split at hs
  all_goals (first | (cases hs; done) | (cases hs; exact ⟨rfl, rfl, rfl, rfl⟩) | (split at hs <;> first | (cases hs; done) | (cases hs; exact ⟨rfl, rfl, rfl, rfl⟩)) | (replace hs := (cd_some hs).2; first | (cases hs; exact ⟨rfl, rfl, rfl, rfl⟩) | (split at hs <;> first | (cases hs; done) | (cases hs; exact ⟨rfl, rfl, rfl, rfl⟩))))
theorem nz_icmp (hs : x_icmp b a nx ls st h = some (pc', ls', st', h')) : NZ h h' := by
  unfold x_icmp at hs
  split at hs
  all_goals (first | (cases hs; done) | (cases hs; exact ⟨rfl, rfl, rfl, rfl⟩) | (split at hs <;> first | (cases hs; done) | (cases hs; exact ⟨rfl, rfl, rfl, rfl⟩)) | (replace hs := (cd_some hs).2; first | (cases hs; exact ⟨rfl, rfl, rfl, rfl⟩) | (split at hs <;> first | (cases hs; done) | (cases hs; exact ⟨rfl, rfl, rfl, rfl⟩))))
theorem nz_acmp (hs : x_acmp b a nx ls st h = some (pc', ls', st', h')) : NZ h h' := by
  unfold x_acmp at hs
  split at hs
  all_goals (first | (cases hs; done) | (cases hs; exact ⟨rfl, rfl, rfl, rfl⟩) | (split at hs <;> first | (cases hs; done) | (cases hs; exact ⟨rfl, rfl, rfl, rfl⟩)) | (replace hs := (cd_some hs).2; first | (cases hs; exact ⟨rfl, rfl, rfl, rfl⟩) | (split at hs <;> first | (cases hs; done) | (cases hs; exact ⟨rfl, rfl, rfl, rfl⟩))))
theorem nz_null (hs : x_null a nx ls st h = some (pc', ls', st', h')) : NZ h h' := by
  unfold x_null at hs
  split at hs
  all_goals (first | (cases hs; done) | (cases hs; exact ⟨rfl, rfl, rfl, rfl⟩) | (split at hs <;> first | (cases hs; done) | (cases hs; exact ⟨rfl, rfl, rfl, rfl⟩)) | (replace hs := (cd_some hs).2; first | (cases hs; exact ⟨rfl, rfl, rfl, rfl⟩) | (split at hs <;> first | (cases hs; done) | (cases hs; exact ⟨rfl, rfl, rfl, rfl⟩))))
theorem nz_nnull (hs : x_nnull a nx ls st h = some (pc', ls', st', h')) : NZ h h' := by
  unfold x_nnull at hs
  split at hs
  all_goals (first | (cases hs; done) | (cases hs; exact ⟨rfl, rfl, rfl, rfl⟩) | (split at hs <;> first | (cases hs; done) | (cases hs; exact ⟨rfl, rfl, rfl, rfl⟩)) | (replace hs := (cd_some hs).2; first | (cases hs; exact ⟨rfl, rfl, rfl, rfl⟩) | (split at hs <;> first | (cases hs; done) | (cases hs; exact ⟨rfl, rfl, rfl, rfl⟩))))
theorem nz_sw (hs : x_sw a ls st h = some (pc', ls', st', h')) : NZ h h' := by
  unfold x_sw at hs
  split at hs
  all_goals (first | (cases hs; done) | (cases hs; exact ⟨rfl, rfl, rfl, rfl⟩) | (split at hs <;> first | (cases hs; done) | (cases hs; exact ⟨rfl, rfl, rfl, rfl⟩)) | (replace hs := (cd_some hs).2; first | (cases hs; exact ⟨rfl, rfl, rfl, rfl⟩) | (split at hs <;> first | (cases hs; done) | (cases hs; exact ⟨rfl, rfl, rfl, rfl⟩))))
theorem nz_getI (hs : x_getI a b nx ls st h = some (pc', ls', st', h')) : NZ h h' := by
  unfold x_getI at hs
  split at hs
  all_goals (first | (cases hs; done) | (cases hs; exact ⟨rfl, rfl, rfl, rfl⟩) | (split at hs <;> first | (cases hs; done) | (cases hs; exact ⟨rfl, rfl, rfl, rfl⟩)) | (replace hs := (cd_some hs).2; first | (cases hs; exact ⟨rfl, rfl, rfl, rfl⟩) | (split at hs <;> first | (cases hs; done) | (cases hs; exact ⟨rfl, rfl, rfl, rfl⟩))))
theorem nz_getA (hs : x_getA a b nx ls st h = some (pc', ls', st', h')) : NZ h h' := by
  unfold x_getA at hs
  split at hs
  all_goals (first | (cases hs; done) | (cases hs; exact ⟨rfl, rfl, rfl, rfl⟩) | (split at hs <;> first | (cases hs; done) | (cases hs; exact ⟨rfl, rfl, rfl, rfl⟩)) | (replace hs := (cd_some hs).2; first | (cases hs; exact ⟨rfl, rfl, rfl, rfl⟩) | (split at hs <;> first | (cases hs; done) | (cases hs; exact ⟨rfl, rfl, rfl, rfl⟩))))
theorem nz_putI (hs : x_putI a b nx ls st h = some (pc', ls', st', h')) : NZ h h' := by
  unfold x_putI at hs
  split at hs
  all_goals (first | (cases hs; done) | (cases hs; exact ⟨rfl, rfl, rfl, rfl⟩) | (split at hs <;> first | (cases hs; done) | (cases hs; exact ⟨rfl, rfl, rfl, rfl⟩)) | (replace hs := (cd_some hs).2; first | (cases hs; exact ⟨rfl, rfl, rfl, rfl⟩) | (split at hs <;> first | (cases hs; done) | (cases hs; exact ⟨rfl, rfl, rfl, rfl⟩))))
theorem nz_putZ (hs : x_putZ a b nx ls st h = some (pc', ls', st', h')) : NZ h h' := by
  unfold x_putZ at hs
  split at hs
  all_goals (first | (cases hs; done) | (cases hs; exact ⟨rfl, rfl, rfl, rfl⟩) | (split at hs <;> first | (cases hs; done) | (cases hs; exact ⟨rfl, rfl, rfl, rfl⟩)) | (replace hs := (cd_some hs).2; first | (cases hs; exact ⟨rfl, rfl, rfl, rfl⟩) | (split at hs <;> first | (cases hs; done) | (cases hs; exact ⟨rfl, rfl, rfl, rfl⟩))))
theorem nz_putA (hs : x_putA a b nx ls st h = some (pc', ls', st', h')) : NZ h h' := by
  unfold x_putA at hs
  split at hs
  all_goals (first | (cases hs; done) | (cases hs; exact ⟨rfl, rfl, rfl, rfl⟩) | (split at hs <;> first | (cases hs; done) | (cases hs; exact ⟨rfl, rfl, rfl, rfl⟩)) | (replace hs := (cd_some hs).2; first | (cases hs; exact ⟨rfl, rfl, rfl, rfl⟩) | (split at hs <;> first | (cases hs; done) | (cases hs; exact ⟨rfl, rfl, rfl, rfl⟩))))
theorem nz_iald (hs : x_iald nx ls st h = some (pc', ls', st', h')) : NZ h h' := by
  unfold x_iald at hs
  split at hs
  all_goals (first | (cases hs; done) | (cases hs; exact ⟨rfl, rfl, rfl, rfl⟩) | (split at hs <;> first | (cases hs; done) | (cases hs; exact ⟨rfl, rfl, rfl, rfl⟩)) | (replace hs := (cd_some hs).2; first | (cases hs; exact ⟨rfl, rfl, rfl, rfl⟩) | (split at hs <;> first | (cases hs; done) | (cases hs; exact ⟨rfl, rfl, rfl, rfl⟩))))
theorem nz_zald (hs : x_zald nx ls st h = some (pc', ls', st', h')) : NZ h h' := by
  unfold x_zald at hs
  split at hs
  all_goals (first | (cases hs; done) | (cases hs; exact ⟨rfl, rfl, rfl, rfl⟩) | (split at hs <;> first | (cases hs; done) | (cases hs; exact ⟨rfl, rfl, rfl, rfl⟩)) | (replace hs := (cd_some hs).2; first | (cases hs; exact ⟨rfl, rfl, rfl, rfl⟩) | (split at hs <;> first | (cases hs; done) | (cases hs; exact ⟨rfl, rfl, rfl, rfl⟩))))
theorem nz_iast (hs : x_iast nx ls st h = some (pc', ls', st', h')) : NZ h h' := by
  unfold x_iast at hs
  split at hs
  all_goals (first | (cases hs; done) | (cases hs; exact ⟨rfl, rfl, rfl, rfl⟩) | (split at hs <;> first | (cases hs; done) | (cases hs; exact ⟨rfl, rfl, rfl, rfl⟩)) | (replace hs := (cd_some hs).2; first | (cases hs; exact ⟨rfl, rfl, rfl, rfl⟩) | (split at hs <;> first | (cases hs; done) | (cases hs; exact ⟨rfl, rfl, rfl, rfl⟩))))
theorem nz_zast (hs : x_zast nx ls st h = some (pc', ls', st', h')) : NZ h h' := by
  unfold x_zast at hs
  split at hs
  all_goals (first | (cases hs; done) | (cases hs; exact ⟨rfl, rfl, rfl, rfl⟩) | (split at hs <;> first | (cases hs; done) | (cases hs; exact ⟨rfl, rfl, rfl, rfl⟩)) | (replace hs := (cd_some hs).2; first | (cases hs; exact ⟨rfl, rfl, rfl, rfl⟩) | (split at hs <;> first | (cases hs; done) | (cases hs; exact ⟨rfl, rfl, rfl, rfl⟩))))
theorem nz_aald (hs : x_aald nx ls st h = some (pc', ls', st', h')) : NZ h h' := by
  unfold x_aald at hs
  split at hs
  all_goals (first | (cases hs; done) | (cases hs; exact ⟨rfl, rfl, rfl, rfl⟩) | (split at hs <;> first | (cases hs; done) | (cases hs; exact ⟨rfl, rfl, rfl, rfl⟩)) | (replace hs := (cd_some hs).2; first | (cases hs; exact ⟨rfl, rfl, rfl, rfl⟩) | (split at hs <;> first | (cases hs; done) | (cases hs; exact ⟨rfl, rfl, rfl, rfl⟩))))
theorem nz_aast (hs : x_aast nx ls st h = some (pc', ls', st', h')) : NZ h h' := by
  unfold x_aast at hs
  split at hs
  all_goals (first | (cases hs; done) | (cases hs; exact ⟨rfl, rfl, rfl, rfl⟩) | (split at hs <;> first | (cases hs; done) | (cases hs; exact ⟨rfl, rfl, rfl, rfl⟩)) | (replace hs := (cd_some hs).2; first | (cases hs; exact ⟨rfl, rfl, rfl, rfl⟩) | (split at hs <;> first | (cases hs; done) | (cases hs; exact ⟨rfl, rfl, rfl, rfl⟩))))
theorem nz_lald (hs : x_lald nx ls st h = some (pc', ls', st', h')) : NZ h h' := by
  unfold x_lald at hs
  split at hs
  all_goals (first | (cases hs; done) | (cases hs; exact ⟨rfl, rfl, rfl, rfl⟩) | (split at hs <;> first | (cases hs; done) | (cases hs; exact ⟨rfl, rfl, rfl, rfl⟩)) | (replace hs := (cd_some hs).2; first | (cases hs; exact ⟨rfl, rfl, rfl, rfl⟩) | (split at hs <;> first | (cases hs; done) | (cases hs; exact ⟨rfl, rfl, rfl, rfl⟩))))
theorem nz_last (hs : x_last nx ls st h = some (pc', ls', st', h')) : NZ h h' := by
  unfold x_last at hs
  split at hs
  all_goals (first | (cases hs; done) | (cases hs; exact ⟨rfl, rfl, rfl, rfl⟩) | (split at hs <;> first | (cases hs; done) | (cases hs; exact ⟨rfl, rfl, rfl, rfl⟩)) | (replace hs := (cd_some hs).2; first | (cases hs; exact ⟨rfl, rfl, rfl, rfl⟩) | (split at hs <;> first | (cases hs; done) | (cases hs; exact ⟨rfl, rfl, rfl, rfl⟩))))
theorem nz_alen (hs : x_alen nx ls st h = some (pc', ls', st', h')) : NZ h h' := by
  unfold x_alen at hs
  split at hs
  all_goals (first | (cases hs; done) | (cases hs; exact ⟨rfl, rfl, rfl, rfl⟩) | (split at hs <;> first | (cases hs; done) | (cases hs; exact ⟨rfl, rfl, rfl, rfl⟩)) | (replace hs := (cd_some hs).2; first | (cases hs; exact ⟨rfl, rfl, rfl, rfl⟩) | (split at hs <;> first | (cases hs; done) | (cases hs; exact ⟨rfl, rfl, rfl, rfl⟩))))
theorem nz_oinit (hs : x_oinit nx ls st h = some (pc', ls', st', h')) : NZ h h' := by
  unfold x_oinit at hs
  split at hs
  all_goals (first | (cases hs; done) | (cases hs; exact ⟨rfl, rfl, rfl, rfl⟩) | (split at hs <;> first | (cases hs; done) | (cases hs; exact ⟨rfl, rfl, rfl, rfl⟩)) | (replace hs := (cd_some hs).2; first | (cases hs; exact ⟨rfl, rfl, rfl, rfl⟩) | (split at hs <;> first | (cases hs; done) | (cases hs; exact ⟨rfl, rfl, rfl, rfl⟩))))
theorem nz_max (hs : x_max nx ls st h = some (pc', ls', st', h')) : NZ h h' := by
  unfold x_max at hs
  split at hs
  all_goals (first | (cases hs; done) | (cases hs; exact ⟨rfl, rfl, rfl, rfl⟩) | (split at hs <;> first | (cases hs; done) | (cases hs; exact ⟨rfl, rfl, rfl, rfl⟩)) | (replace hs := (cd_some hs).2; first | (cases hs; exact ⟨rfl, rfl, rfl, rfl⟩) | (split at hs <;> first | (cases hs; done) | (cases hs; exact ⟨rfl, rfl, rfl, rfl⟩))))
theorem nz_min (hs : x_min nx ls st h = some (pc', ls', st', h')) : NZ h h' := by
  unfold x_min at hs
  split at hs
  all_goals (first | (cases hs; done) | (cases hs; exact ⟨rfl, rfl, rfl, rfl⟩) | (split at hs <;> first | (cases hs; done) | (cases hs; exact ⟨rfl, rfl, rfl, rfl⟩)) | (replace hs := (cd_some hs).2; first | (cases hs; exact ⟨rfl, rfl, rfl, rfl⟩) | (split at hs <;> first | (cases hs; done) | (cases hs; exact ⟨rfl, rfl, rfl, rfl⟩))))
end NZS
theorem nz_go {p : Program} {l : Launch} {e : Env} {R : Room} {s s00 : State} {mid : MethodId} {args : Array Value} {below : List Frame} {meth : Method} {c : Code} {D : va_G} {cA : Nat → ClassId} {ad : Nat × Nat → Nat} {Q : State → Prop} {m cells slots pc : Nat} {ls : AL} {st : List AV} {h h' : AH} (hz : NZ h h') {x : AH} (k : GO p l e R s mid args below meth c s00 D cA ad Q m (cells + (hZ h' - hZ h)) (slots + (hS h' - hS h)) pc ls st x) : GO p l e R s mid args below meth c s00 D cA ad Q m cells slots pc ls st x := by
  rw [hz.1, hz.2.1, Nat.sub_self, Nat.sub_self] at k
  exact k
set_option maxHeartbeats 4000000 in
theorem st_ok {p : Program} {l : Launch} {e : Env} {R : Room} {s s00 : State} {mid : MethodId} {args : Array Value} {below : List Frame} {meth : Method} {c : Code} {D : va_G} {cA : Nat → ClassId} {ad : Nat × Nat → Nat} {Q : State → Prop} {m cells slots pc pc' : Nat} {ls ls' : AL} {st st' : List AV} {h h' : AH} (C : CX s00 D cA m p e s mid args meth c) {i : Ins} {r : Instr} {len : Nat} (hm : m < 102) (hro : RO m = true → roOp i.1 = true) (hd : decode (bts m) pc = .ok (r, len)) (hok : okI m pc i r len = true) (hs : stepI i ls st h = some (pc', ls', st', h')) (hrf : 1 ≤ R.frames) (hrl : 40 ≤ R.locals) (hrc : cells + (hZ h' - hZ h) ≤ R.cells) (hrs : slots + (hS h' - hS h) ≤ R.slots) (had : ∀ k, k < 15 → hC h k < hC h' k → ad (k, hC h k) = hZ h) (k : GO p l e R s mid args below meth c s00 D cA ad Q m (cells + (hZ h' - hZ h)) (slots + (hS h' - hS h)) pc' ls' st' h') : GO p l e R s mid args below meth c s00 D cA ad Q m cells slots pc ls st h := by
  obtain ⟨op, a, b, cc, nx⟩ := i
  replace hro : roOp op = false → RO m = false := fun z => by cases hq : RO m; rfl; have := hro hq; rw [show roOp op = true from this] at z; cases z
  have hz1 : hZ h' = hZ h ∨ True := Or.inr trivial
  cases r with
  | iconst v =>
    simp only [okI, Bool.and_eq_true, decide_eq_true_eq] at hok
    obtain ⟨⟨⟨q1, q2⟩, q3⟩, q4⟩ := hok
    obtain rfl := Nat.eq_of_beq_eq_true q1
    obtain rfl := Nat.eq_of_beq_eq_true q2
    obtain rfl := Nat.eq_of_beq_eq_true q3
    replace hs : x_const cc (pc + 1) ls st h = some (pc', ls', st', h') := hs
    have hz : NZ h h' := by cases hs; exact ⟨rfl, rfl, rfl, rfl⟩
    exact s_iconst C hd q4 hs (nz_go hz k)
  | bipush v =>
    simp only [okI, Bool.and_eq_true, decide_eq_true_eq] at hok
    obtain ⟨⟨⟨q1, q2⟩, q3⟩, q4⟩ := hok
    obtain rfl := Nat.eq_of_beq_eq_true q1
    obtain rfl := Nat.eq_of_beq_eq_true q2
    obtain rfl := Nat.eq_of_beq_eq_true q3
    replace hs : x_const cc (pc + 2) ls st h = some (pc', ls', st', h') := hs
    have hz : NZ h h' := by cases hs; exact ⟨rfl, rfl, rfl, rfl⟩
    exact s_bipush C hd q4 hs (nz_go hz k)
  | sipush v =>
    simp only [okI, Bool.and_eq_true, decide_eq_true_eq] at hok
    obtain ⟨⟨⟨q1, q2⟩, q3⟩, q4⟩ := hok
    obtain rfl := Nat.eq_of_beq_eq_true q1
    obtain rfl := Nat.eq_of_beq_eq_true q2
    obtain rfl := Nat.eq_of_beq_eq_true q3
    replace hs : x_const cc (pc + 3) ls st h = some (pc', ls', st', h') := hs
    have hz : NZ h h' := by cases hs; exact ⟨rfl, rfl, rfl, rfl⟩
    exact s_sipush C hd q4 hs (nz_go hz k)
  | ldc v =>
    simp only [okI, Bool.and_eq_true, decide_eq_true_eq] at hok
    obtain ⟨⟨⟨q1, q2⟩, q3⟩, q4⟩ := hok
    obtain rfl := Nat.eq_of_beq_eq_true q1
    obtain rfl := Nat.eq_of_beq_eq_true q2
    obtain rfl := Nat.eq_of_beq_eq_true q3
    replace hs : x_const cc (pc + 2) ls st h = some (pc', ls', st', h') := hs
    have hz : NZ h h' := by cases hs; exact ⟨rfl, rfl, rfl, rfl⟩
    exact s_ldc C hd q4 hs (nz_go hz k)
  | iload x =>
    simp only [okI, Bool.and_eq_true, decide_eq_true_eq] at hok
    obtain ⟨⟨⟨q1, q2⟩, q3⟩, q4⟩ := hok
    obtain rfl := Nat.eq_of_beq_eq_true q1
    obtain rfl := Nat.eq_of_beq_eq_true q2
    obtain rfl := Nat.eq_of_beq_eq_true q3
    obtain rfl := Nat.eq_of_beq_eq_true q4
    replace hs : x_iload a (pc + 2) ls st h = some (pc', ls', st', h') := hs
    exact s_iload C hd hs (nz_go (nz_iload hs) k)
  | iload_n n =>
    simp only [okI, Bool.and_eq_true, decide_eq_true_eq] at hok
    obtain ⟨⟨⟨q1, q2⟩, q3⟩, q4⟩ := hok
    obtain rfl := Nat.eq_of_beq_eq_true q1
    obtain rfl := Nat.eq_of_beq_eq_true q2
    obtain rfl := Nat.eq_of_beq_eq_true q3
    replace hs : x_iload a (pc + 1) ls st h = some (pc', ls', st', h') := hs
    exact s_iload_n C hd (Nat.eq_of_beq_eq_true q4) hs (nz_go (nz_iload hs) k)
  | aload x =>
    simp only [okI, Bool.and_eq_true, decide_eq_true_eq] at hok
    obtain ⟨⟨⟨q1, q2⟩, q3⟩, q4⟩ := hok
    obtain rfl := Nat.eq_of_beq_eq_true q1
    obtain rfl := Nat.eq_of_beq_eq_true q2
    obtain rfl := Nat.eq_of_beq_eq_true q3
    obtain rfl := Nat.eq_of_beq_eq_true q4
    replace hs : x_aload a (pc + 2) ls st h = some (pc', ls', st', h') := hs
    exact s_aload C hd hs (nz_go (nz_aload hs) k)
  | aload_n n =>
    simp only [okI, Bool.and_eq_true, decide_eq_true_eq] at hok
    obtain ⟨⟨⟨q1, q2⟩, q3⟩, q4⟩ := hok
    obtain rfl := Nat.eq_of_beq_eq_true q1
    obtain rfl := Nat.eq_of_beq_eq_true q2
    obtain rfl := Nat.eq_of_beq_eq_true q3
    replace hs : x_aload a (pc + 1) ls st h = some (pc', ls', st', h') := hs
    exact s_aload_n C hd (Nat.eq_of_beq_eq_true q4) hs (nz_go (nz_aload hs) k)
  | istore x =>
    simp only [okI, Bool.and_eq_true, decide_eq_true_eq] at hok
    obtain ⟨⟨⟨⟨q1, q2⟩, q3⟩, q4⟩, q5⟩ := hok
    obtain rfl := Nat.eq_of_beq_eq_true q1
    obtain rfl := Nat.eq_of_beq_eq_true q2
    obtain rfl := Nat.eq_of_beq_eq_true q3
    obtain rfl := Nat.eq_of_beq_eq_true q4
    replace hs : x_istore a (pc + 2) ls st h = some (pc', ls', st', h') := hs
    exact s_istore C hd (Nat.le_of_ble_eq_true q5) hs (nz_go (nz_istore hs) k)
  | istore_n n =>
    simp only [okI, Bool.and_eq_true, decide_eq_true_eq] at hok
    obtain ⟨⟨⟨⟨q1, q2⟩, q3⟩, q4⟩, q5⟩ := hok
    obtain rfl := Nat.eq_of_beq_eq_true q1
    obtain rfl := Nat.eq_of_beq_eq_true q2
    obtain rfl := Nat.eq_of_beq_eq_true q3
    have q4 := Nat.eq_of_beq_eq_true q4
    replace hs : x_istore a (pc + 1) ls st h = some (pc', ls', st', h') := hs
    exact s_istore_n C hd q4 (by rw [q4]; exact Nat.le_of_ble_eq_true q5) hs (nz_go (nz_istore hs) k)
  | astore x =>
    simp only [okI, Bool.and_eq_true, decide_eq_true_eq] at hok
    obtain ⟨⟨⟨⟨q1, q2⟩, q3⟩, q4⟩, q5⟩ := hok
    obtain rfl := Nat.eq_of_beq_eq_true q1
    obtain rfl := Nat.eq_of_beq_eq_true q2
    obtain rfl := Nat.eq_of_beq_eq_true q3
    obtain rfl := Nat.eq_of_beq_eq_true q4
    replace hs : x_astore a (pc + 2) ls st h = some (pc', ls', st', h') := hs
    exact s_astore C hd (Nat.le_of_ble_eq_true q5) hs (nz_go (nz_astore hs) k)
  | astore_n n =>
    simp only [okI, Bool.and_eq_true, decide_eq_true_eq] at hok
    obtain ⟨⟨⟨⟨q1, q2⟩, q3⟩, q4⟩, q5⟩ := hok
    obtain rfl := Nat.eq_of_beq_eq_true q1
    obtain rfl := Nat.eq_of_beq_eq_true q2
    obtain rfl := Nat.eq_of_beq_eq_true q3
    have q4 := Nat.eq_of_beq_eq_true q4
    replace hs : x_astore a (pc + 1) ls st h = some (pc', ls', st', h') := hs
    exact s_astore_n C hd q4 (by rw [q4]; exact Nat.le_of_ble_eq_true q5) hs (nz_go (nz_astore hs) k)
  | aconst_null =>
    simp only [okI, Bool.and_eq_true, decide_eq_true_eq] at hok
    obtain ⟨⟨q1, q2⟩, q3⟩ := hok
    obtain rfl := Nat.eq_of_beq_eq_true q1
    obtain rfl := Nat.eq_of_beq_eq_true q2
    obtain rfl := Nat.eq_of_beq_eq_true q3
    replace hs : some (pc + 1, ls, .inr (.inr none) :: st, h) = some (pc', ls', st', h') := hs
    have hz : NZ h h' := by cases hs; exact ⟨rfl, rfl, rfl, rfl⟩
    have k := nz_go hz k
    cases hs
    exact s_null C hd k
  | dup =>
    simp only [okI, Bool.and_eq_true, decide_eq_true_eq] at hok
    obtain ⟨⟨q1, q2⟩, q3⟩ := hok
    obtain rfl := Nat.eq_of_beq_eq_true q1
    obtain rfl := Nat.eq_of_beq_eq_true q2
    obtain rfl := Nat.eq_of_beq_eq_true q3
    replace hs : x_dup (pc + 1) ls st h = some (pc', ls', st', h') := hs
    exact s_dup C hd hs (nz_go (nz_dup hs) k)
  | dup_x1 =>
    simp only [okI, Bool.and_eq_true, decide_eq_true_eq] at hok
    obtain ⟨⟨q1, q2⟩, q3⟩ := hok
    obtain rfl := Nat.eq_of_beq_eq_true q1
    obtain rfl := Nat.eq_of_beq_eq_true q2
    obtain rfl := Nat.eq_of_beq_eq_true q3
    replace hs : x_dupx (pc + 1) ls st h = some (pc', ls', st', h') := hs
    exact s_dupx C hd hs (nz_go (nz_dupx hs) k)
  | iadd =>
    simp only [okI, Bool.and_eq_true, decide_eq_true_eq] at hok
    obtain ⟨⟨q1, q2⟩, q3⟩ := hok
    obtain rfl := Nat.eq_of_beq_eq_true q1
    obtain rfl := Nat.eq_of_beq_eq_true q2
    obtain rfl := Nat.eq_of_beq_eq_true q3
    replace hs : x_add (pc + 1) ls st h = some (pc', ls', st', h') := hs
    exact s_add C hd hs (nz_go (nz_add hs) k)
  | isub =>
    simp only [okI, Bool.and_eq_true, decide_eq_true_eq] at hok
    obtain ⟨⟨q1, q2⟩, q3⟩ := hok
    obtain rfl := Nat.eq_of_beq_eq_true q1
    obtain rfl := Nat.eq_of_beq_eq_true q2
    obtain rfl := Nat.eq_of_beq_eq_true q3
    replace hs : x_sub (pc + 1) ls st h = some (pc', ls', st', h') := hs
    exact s_sub C hd hs (nz_go (nz_sub hs) k)
  | imul =>
    simp only [okI, Bool.and_eq_true, decide_eq_true_eq] at hok
    obtain ⟨⟨q1, q2⟩, q3⟩ := hok
    obtain rfl := Nat.eq_of_beq_eq_true q1
    obtain rfl := Nat.eq_of_beq_eq_true q2
    obtain rfl := Nat.eq_of_beq_eq_true q3
    replace hs : x_mul (pc + 1) ls st h = some (pc', ls', st', h') := hs
    exact s_mul C hd hs (nz_go (nz_mul hs) k)
  | idiv =>
    simp only [okI, Bool.and_eq_true, decide_eq_true_eq] at hok
    obtain ⟨⟨q1, q2⟩, q3⟩ := hok
    obtain rfl := Nat.eq_of_beq_eq_true q1
    obtain rfl := Nat.eq_of_beq_eq_true q2
    obtain rfl := Nat.eq_of_beq_eq_true q3
    replace hs : x_div (pc + 1) ls st h = some (pc', ls', st', h') := hs
    exact s_div C hd hs (nz_go (nz_div hs) k)
  | irem =>
    simp only [okI, Bool.and_eq_true, decide_eq_true_eq] at hok
    obtain ⟨⟨q1, q2⟩, q3⟩ := hok
    obtain rfl := Nat.eq_of_beq_eq_true q1
    obtain rfl := Nat.eq_of_beq_eq_true q2
    obtain rfl := Nat.eq_of_beq_eq_true q3
    replace hs : x_rem (pc + 1) ls st h = some (pc', ls', st', h') := hs
    exact s_rem C hd hs (nz_go (nz_rem hs) k)
  | iand =>
    simp only [okI, Bool.and_eq_true, decide_eq_true_eq] at hok
    obtain ⟨⟨q1, q2⟩, q3⟩ := hok
    obtain rfl := Nat.eq_of_beq_eq_true q1
    obtain rfl := Nat.eq_of_beq_eq_true q2
    obtain rfl := Nat.eq_of_beq_eq_true q3
    replace hs : x_and (pc + 1) ls st h = some (pc', ls', st', h') := hs
    exact s_and C hd hs (nz_go (nz_and hs) k)
  | ishr =>
    simp only [okI, Bool.and_eq_true, decide_eq_true_eq] at hok
    obtain ⟨⟨q1, q2⟩, q3⟩ := hok
    obtain rfl := Nat.eq_of_beq_eq_true q1
    obtain rfl := Nat.eq_of_beq_eq_true q2
    obtain rfl := Nat.eq_of_beq_eq_true q3
    replace hs : x_shr (pc + 1) ls st h = some (pc', ls', st', h') := hs
    exact s_shr C hd hs (nz_go (nz_shr hs) k)
  | i2l =>
    simp only [okI, Bool.and_eq_true, decide_eq_true_eq] at hok
    obtain ⟨⟨q1, q2⟩, q3⟩ := hok
    obtain rfl := Nat.eq_of_beq_eq_true q1
    obtain rfl := Nat.eq_of_beq_eq_true q2
    obtain rfl := Nat.eq_of_beq_eq_true q3
    replace hs : x_i2l (pc + 1) ls st h = some (pc', ls', st', h') := hs
    exact s_i2l C hd hs (nz_go (nz_i2l hs) k)
  | lcmp =>
    simp only [okI, Bool.and_eq_true, decide_eq_true_eq] at hok
    obtain ⟨⟨q1, q2⟩, q3⟩ := hok
    obtain rfl := Nat.eq_of_beq_eq_true q1
    obtain rfl := Nat.eq_of_beq_eq_true q2
    obtain rfl := Nat.eq_of_beq_eq_true q3
    replace hs : x_lcmp (pc + 1) ls st h = some (pc', ls', st', h') := hs
    exact s_lcmp C hd hs (nz_go (nz_lcmp hs) k)
  | iaload =>
    simp only [okI, Bool.and_eq_true, decide_eq_true_eq] at hok
    obtain ⟨⟨q1, q2⟩, q3⟩ := hok
    obtain rfl := Nat.eq_of_beq_eq_true q1
    obtain rfl := Nat.eq_of_beq_eq_true q2
    obtain rfl := Nat.eq_of_beq_eq_true q3
    replace hs : x_iald (pc + 1) ls st h = some (pc', ls', st', h') := hs
    exact s_iald C hd hs (nz_go (nz_iald hs) k)
  | iastore =>
    simp only [okI, Bool.and_eq_true, decide_eq_true_eq] at hok
    obtain ⟨⟨q1, q2⟩, q3⟩ := hok
    obtain rfl := Nat.eq_of_beq_eq_true q1
    obtain rfl := Nat.eq_of_beq_eq_true q2
    obtain rfl := Nat.eq_of_beq_eq_true q3
    replace hs : x_iast (pc + 1) ls st h = some (pc', ls', st', h') := hs
    exact s_iast C (hro rfl) hd hs (nz_go (nz_iast hs) k)
  | baload =>
    simp only [okI, Bool.and_eq_true, decide_eq_true_eq] at hok
    obtain ⟨⟨q1, q2⟩, q3⟩ := hok
    obtain rfl := Nat.eq_of_beq_eq_true q1
    obtain rfl := Nat.eq_of_beq_eq_true q2
    obtain rfl := Nat.eq_of_beq_eq_true q3
    replace hs : x_zald (pc + 1) ls st h = some (pc', ls', st', h') := hs
    exact s_zald C hd hs (nz_go (nz_zald hs) k)
  | bastore =>
    simp only [okI, Bool.and_eq_true, decide_eq_true_eq] at hok
    obtain ⟨⟨q1, q2⟩, q3⟩ := hok
    obtain rfl := Nat.eq_of_beq_eq_true q1
    obtain rfl := Nat.eq_of_beq_eq_true q2
    obtain rfl := Nat.eq_of_beq_eq_true q3
    replace hs : x_zast (pc + 1) ls st h = some (pc', ls', st', h') := hs
    exact s_zast C (hro rfl) hd hs (nz_go (nz_zast hs) k)
  | aaload =>
    simp only [okI, Bool.and_eq_true, decide_eq_true_eq] at hok
    obtain ⟨⟨q1, q2⟩, q3⟩ := hok
    obtain rfl := Nat.eq_of_beq_eq_true q1
    obtain rfl := Nat.eq_of_beq_eq_true q2
    obtain rfl := Nat.eq_of_beq_eq_true q3
    replace hs : x_aald (pc + 1) ls st h = some (pc', ls', st', h') := hs
    exact s_aald C hd hs (nz_go (nz_aald hs) k)
  | aastore =>
    simp only [okI, Bool.and_eq_true, decide_eq_true_eq] at hok
    obtain ⟨⟨q1, q2⟩, q3⟩ := hok
    obtain rfl := Nat.eq_of_beq_eq_true q1
    obtain rfl := Nat.eq_of_beq_eq_true q2
    obtain rfl := Nat.eq_of_beq_eq_true q3
    replace hs : x_aast (pc + 1) ls st h = some (pc', ls', st', h') := hs
    exact s_aast C (hro rfl) hd hs (nz_go (nz_aast hs) k)
  | laload =>
    simp only [okI, Bool.and_eq_true, decide_eq_true_eq] at hok
    obtain ⟨⟨q1, q2⟩, q3⟩ := hok
    obtain rfl := Nat.eq_of_beq_eq_true q1
    obtain rfl := Nat.eq_of_beq_eq_true q2
    obtain rfl := Nat.eq_of_beq_eq_true q3
    replace hs : x_lald (pc + 1) ls st h = some (pc', ls', st', h') := hs
    exact s_lald C hd hs (nz_go (nz_lald hs) k)
  | lastore =>
    simp only [okI, Bool.and_eq_true, decide_eq_true_eq] at hok
    obtain ⟨⟨q1, q2⟩, q3⟩ := hok
    obtain rfl := Nat.eq_of_beq_eq_true q1
    obtain rfl := Nat.eq_of_beq_eq_true q2
    obtain rfl := Nat.eq_of_beq_eq_true q3
    replace hs : x_last (pc + 1) ls st h = some (pc', ls', st', h') := hs
    exact s_last C (hro rfl) hd hs (nz_go (nz_last hs) k)
  | arraylength =>
    simp only [okI, Bool.and_eq_true, decide_eq_true_eq] at hok
    obtain ⟨⟨q1, q2⟩, q3⟩ := hok
    obtain rfl := Nat.eq_of_beq_eq_true q1
    obtain rfl := Nat.eq_of_beq_eq_true q2
    obtain rfl := Nat.eq_of_beq_eq_true q3
    replace hs : x_alen (pc + 1) ls st h = some (pc', ls', st', h') := hs
    exact s_alen C hd hs (nz_go (nz_alen hs) k)
  | iinc x n =>
    simp only [okI, Bool.and_eq_true, decide_eq_true_eq] at hok
    obtain ⟨⟨⟨⟨⟨q1, q2⟩, q3⟩, q4⟩, q5⟩, q6⟩ := hok
    obtain rfl := Nat.eq_of_beq_eq_true q1
    obtain rfl := Nat.eq_of_beq_eq_true q2
    obtain rfl := Nat.eq_of_beq_eq_true q3
    obtain rfl := Nat.eq_of_beq_eq_true q4
    replace hs : x_iinc a cc (pc + 3) ls st h = some (pc', ls', st', h') := hs
    exact s_iinc C hd q5 (Nat.le_of_ble_eq_true q6) hs (nz_go (nz_iinc hs) k)
  | goto off =>
    simp only [okI, Bool.and_eq_true, decide_eq_true_eq] at hok
    obtain ⟨⟨q1, q2⟩, q3⟩ := hok
    obtain rfl := Nat.eq_of_beq_eq_true q1
    obtain rfl := Nat.eq_of_beq_eq_true q2
    replace hs : some (a, ls, st, h) = some (pc', ls', st', h') := hs
    have hz : NZ h h' := by cases hs; exact ⟨rfl, rfl, rfl, rfl⟩
    have k := nz_go hz k
    cases hs
    exact s_goto C hd q3 k
  | ifCond cd off =>
    simp only [okI, Bool.and_eq_true, decide_eq_true_eq] at hok
    obtain ⟨⟨⟨⟨q1, q2⟩, q3⟩, q4⟩, q5⟩ := hok
    obtain rfl := Nat.eq_of_beq_eq_true q1
    obtain rfl := Nat.eq_of_beq_eq_true q2
    obtain rfl := Nat.eq_of_beq_eq_true q3
    cases cd with
    | eq =>
      obtain rfl : b = 0 := Nat.eq_of_beq_eq_true q4
      replace hs : x_if 0 a (pc + 3) ls st h = some (pc', ls', st', h') := hs
      exact s_if_eq C hd q5 hs (nz_go (nz_if hs) k)
    | ne =>
      obtain rfl : b = 1 := Nat.eq_of_beq_eq_true q4
      replace hs : x_if 1 a (pc + 3) ls st h = some (pc', ls', st', h') := hs
      exact s_if_ne C hd q5 hs (nz_go (nz_if hs) k)
    | lt =>
      obtain rfl : b = 2 := Nat.eq_of_beq_eq_true q4
      replace hs : x_if 2 a (pc + 3) ls st h = some (pc', ls', st', h') := hs
      exact s_if_lt C hd q5 hs (nz_go (nz_if hs) k)
    | ge =>
      obtain rfl : b = 3 := Nat.eq_of_beq_eq_true q4
      replace hs : x_if 3 a (pc + 3) ls st h = some (pc', ls', st', h') := hs
      exact s_if_ge C hd q5 hs (nz_go (nz_if hs) k)
    | gt =>
      obtain rfl : b = 4 := Nat.eq_of_beq_eq_true q4
      replace hs : x_if 4 a (pc + 3) ls st h = some (pc', ls', st', h') := hs
      exact s_if_gt C hd q5 hs (nz_go (nz_if hs) k)
    | le =>
      obtain rfl : b = 5 := Nat.eq_of_beq_eq_true q4
      replace hs : x_if 5 a (pc + 3) ls st h = some (pc', ls', st', h') := hs
      exact s_if_le C hd q5 hs (nz_go (nz_if hs) k)
  | if_icmp cd off =>
    simp only [okI, Bool.and_eq_true, decide_eq_true_eq] at hok
    obtain ⟨⟨⟨⟨q1, q2⟩, q3⟩, q4⟩, q5⟩ := hok
    obtain rfl := Nat.eq_of_beq_eq_true q1
    obtain rfl := Nat.eq_of_beq_eq_true q2
    obtain rfl := Nat.eq_of_beq_eq_true q3
    cases cd with
    | eq =>
      obtain rfl : b = 0 := Nat.eq_of_beq_eq_true q4
      replace hs : x_icmp 0 a (pc + 3) ls st h = some (pc', ls', st', h') := hs
      exact s_icmp_eq C hd q5 hs (nz_go (nz_icmp hs) k)
    | ne =>
      obtain rfl : b = 1 := Nat.eq_of_beq_eq_true q4
      replace hs : x_icmp 1 a (pc + 3) ls st h = some (pc', ls', st', h') := hs
      exact s_icmp_ne C hd q5 hs (nz_go (nz_icmp hs) k)
    | lt =>
      obtain rfl : b = 2 := Nat.eq_of_beq_eq_true q4
      replace hs : x_icmp 2 a (pc + 3) ls st h = some (pc', ls', st', h') := hs
      exact s_icmp_lt C hd q5 hs (nz_go (nz_icmp hs) k)
    | ge =>
      obtain rfl : b = 3 := Nat.eq_of_beq_eq_true q4
      replace hs : x_icmp 3 a (pc + 3) ls st h = some (pc', ls', st', h') := hs
      exact s_icmp_ge C hd q5 hs (nz_go (nz_icmp hs) k)
    | gt =>
      obtain rfl : b = 4 := Nat.eq_of_beq_eq_true q4
      replace hs : x_icmp 4 a (pc + 3) ls st h = some (pc', ls', st', h') := hs
      exact s_icmp_gt C hd q5 hs (nz_go (nz_icmp hs) k)
    | le =>
      obtain rfl : b = 5 := Nat.eq_of_beq_eq_true q4
      replace hs : x_icmp 5 a (pc + 3) ls st h = some (pc', ls', st', h') := hs
      exact s_icmp_le C hd q5 hs (nz_go (nz_icmp hs) k)
  | if_acmp cd off =>
    simp only [okI, Bool.and_eq_true, decide_eq_true_eq] at hok
    obtain ⟨⟨⟨⟨q1, q2⟩, q3⟩, q4⟩, q5⟩ := hok
    obtain rfl := Nat.eq_of_beq_eq_true q1
    obtain rfl := Nat.eq_of_beq_eq_true q2
    obtain rfl := Nat.eq_of_beq_eq_true q3
    cases cd with
    | eq =>
      obtain rfl : b = 0 := Nat.eq_of_beq_eq_true q4
      replace hs : x_acmp 0 a (pc + 3) ls st h = some (pc', ls', st', h') := hs
      exact s_acmp_eq C hd q5 hs (nz_go (nz_acmp hs) k)
    | ne =>
      obtain rfl : b = 1 := Nat.eq_of_beq_eq_true q4
      replace hs : x_acmp 1 a (pc + 3) ls st h = some (pc', ls', st', h') := hs
      exact s_acmp_ne C hd q5 hs (nz_go (nz_acmp hs) k)
  | ifnull off =>
    simp only [okI, Bool.and_eq_true, decide_eq_true_eq] at hok
    obtain ⟨⟨⟨q1, q2⟩, q3⟩, q4⟩ := hok
    obtain rfl := Nat.eq_of_beq_eq_true q1
    obtain rfl := Nat.eq_of_beq_eq_true q2
    obtain rfl := Nat.eq_of_beq_eq_true q3
    replace hs : x_null a (pc + 3) ls st h = some (pc', ls', st', h') := hs
    exact s_ifnull C hd q4 hs (nz_go (nz_null hs) k)
  | ifnonnull off =>
    simp only [okI, Bool.and_eq_true, decide_eq_true_eq] at hok
    obtain ⟨⟨⟨q1, q2⟩, q3⟩, q4⟩ := hok
    obtain rfl := Nat.eq_of_beq_eq_true q1
    obtain rfl := Nat.eq_of_beq_eq_true q2
    obtain rfl := Nat.eq_of_beq_eq_true q3
    replace hs : x_nnull a (pc + 3) ls st h = some (pc', ls', st', h') := hs
    exact s_ifnonnull C hd q4 hs (nz_go (nz_nnull hs) k)
  | tableswitch df lo hi offs =>
    simp only [okI, Bool.and_eq_true, decide_eq_true_eq] at hok
    obtain ⟨⟨⟨⟨q1, q2⟩, q3⟩, q4⟩, q5⟩ := hok
    obtain rfl := Nat.eq_of_beq_eq_true q1
    replace hs : x_sw a ls st h = some (pc', ls', st', h') := hs
    exact s_sw C hd q2 q3 q4 q5 hs (nz_go (nz_sw hs) k)
  | getfield x =>
    simp only [okI, Bool.and_eq_true, decide_eq_true_eq, Bool.or_eq_true, Bool.not_eq_true'] at hok
    obtain ⟨⟨⟨⟨⟨q1, q2⟩, q3⟩, q4⟩, q5⟩, q6⟩ := hok
    obtain rfl := Nat.eq_of_beq_eq_true q1
    obtain rfl := Nat.eq_of_beq_eq_true q2
    rcases q6 with ⟨q6, q7⟩ | ⟨q6, q7⟩
    · obtain rfl := Nat.eq_of_beq_eq_true q6
      replace hs : x_getI a b (pc + 3) ls st h = some (pc', ls', st', h') := hs
      exact s_getI C hd q3 (Nat.le_of_ble_eq_true q4) (Nat.le_of_ble_eq_true q5) q7 hs (nz_go (nz_getI hs) k)
    · obtain rfl := Nat.eq_of_beq_eq_true q6
      replace hs : x_getA a b (pc + 3) ls st h = some (pc', ls', st', h') := hs
      exact s_getA C hd q3 (Nat.le_of_ble_eq_true q4) (Nat.le_of_ble_eq_true q5) q7 hs (nz_go (nz_getA hs) k)
  | putfield x =>
    simp only [okI, Bool.and_eq_true, decide_eq_true_eq, Bool.or_eq_true, Bool.not_eq_true'] at hok
    obtain ⟨⟨⟨⟨⟨⟨q1, q2⟩, q3⟩, q4⟩, q5⟩, q8⟩, q6⟩ := hok
    obtain rfl := Nat.eq_of_beq_eq_true q1
    obtain rfl := Nat.eq_of_beq_eq_true q2
    have hin : (kF a b).2.2.2 = false ∨ (meth.name = "<init>" ∧ ow m = a) := by
      rcases q8 with q | ⟨q, q'⟩
      · exact Or.inl q
      · refine Or.inr ⟨?_, Nat.eq_of_beq_eq_true q'⟩
        have hq := Nat.eq_of_beq_eq_true q
        rcases Nat.lt_or_ge m 101 with z | z
        · rw [C.nm]; exact (hw2_ok m z hq).2.1
        · obtain rfl : m = 101 := by omega
          exact absurd hq (by decide)
    rcases q6 with (⟨q6, q7⟩ | ⟨q6, q7⟩) | ⟨q6, q7⟩
    · obtain rfl := Nat.eq_of_beq_eq_true q6
      replace hs : x_putI a b (pc + 3) ls st h = some (pc', ls', st', h') := hs
      exact s_putI C (hro rfl) hd q3 (Nat.le_of_ble_eq_true q4) (Nat.le_of_ble_eq_true q5) hin q7 hs (nz_go (nz_putI hs) k)
    · obtain rfl := Nat.eq_of_beq_eq_true q6
      replace hs : x_putZ a b (pc + 3) ls st h = some (pc', ls', st', h') := hs
      exact s_putZ C (hro rfl) hd q3 (Nat.le_of_ble_eq_true q4) (Nat.le_of_ble_eq_true q5) hin q7 hs (nz_go (nz_putZ hs) k)
    · obtain rfl := Nat.eq_of_beq_eq_true q6
      replace hs : x_putA a b (pc + 3) ls st h = some (pc', ls', st', h') := hs
      exact s_putA C (hro rfl) hd q3 (Nat.le_of_ble_eq_true q4) (Nat.le_of_ble_eq_true q5) hin q7 hs (nz_go (nz_putA hs) k)
  | new x =>
    simp only [okI, Bool.and_eq_true, decide_eq_true_eq, Bool.or_eq_true] at hok
    obtain ⟨⟨q1, q2⟩, q3⟩ := hok
    obtain rfl := Nat.eq_of_beq_eq_true q1
    rcases q3 with ⟨⟨q3, q4⟩, q5⟩ | ⟨⟨⟨⟨q3, q4⟩, q5⟩, q6⟩, q7⟩
    · obtain rfl := Nat.eq_of_beq_eq_true q3
      obtain rfl := Nat.eq_of_beq_eq_true q5
      have ha : a < 5 := Nat.le_of_ble_eq_true q4
      replace hs : x_new a (pc + 3) ls st h = some (pc', ls', st', h') := hs
      cases hs
      have e1 : hZ (al h a (kN a)) - hZ h = 1 := by show hZ h + 1 - hZ h = 1; omega
      have e2 : hS (al h a (kN a)) - hS h = kN a := by show hS h + kN a - hS h = kN a; omega
      rw [e1] at hrc k
      rw [e2] at hrs k
      exact s_new C (hro rfl) hd q2 ha (had a (by omega) (by rw [hC_al, if_pos rfl]; omega)) hrc hrs k
    · obtain rfl := Nat.eq_of_beq_eq_true q3
      replace hs : (none : Option Nx) = some (pc', ls', st', h') := hs
      cases hs
  | newarray t =>
    simp only [okI, Bool.and_eq_true] at hok
    obtain ⟨⟨⟨q1, q2⟩, q3⟩, q4⟩ := hok
    obtain rfl := Nat.eq_of_beq_eq_true q1
    obtain rfl := Nat.eq_of_beq_eq_true q2
    obtain rfl := Nat.eq_of_beq_eq_true q3
    replace hs : x_newa a (pc + 2) ls st h = some (pc', ls', st', h') := hs
    have eh : h' = al h a (kM a) := by
      unfold x_newa at hs
      split at hs
      · split at hs
        · cases hs; rfl
        · cases hs
      · cases hs
    have e1 : hZ h' - hZ h = 1 := by rw [eh]; show hZ h + 1 - hZ h = 1; omega
    have e2 : hS h' - hS h = kM a := by rw [eh]; show hS h + kM a - hS h = kM a; omega
    rw [e1] at hrc k
    rw [e2] at hrs k
    have ha : a < 15 := by
      unfold atK at q4
      split at q4
      · simp only [Bool.or_eq_true] at q4
        rcases q4 with (q | q) | q <;> (have := Nat.eq_of_beq_eq_true q; omega)
      · have := Nat.eq_of_beq_eq_true q4; omega
      · have := Nat.eq_of_beq_eq_true q4; omega
      · cases q4
    exact s_newa C (hro rfl) hd q4 (had a ha (by rw [eh, hC_al, if_pos rfl]; omega)) hrc hrs hs k
  | anewarray x =>
    simp only [okI, Bool.and_eq_true, Bool.or_eq_true, decide_eq_true_eq] at hok
    obtain ⟨⟨⟨q1, q2⟩, q3⟩, q4⟩ := hok
    obtain rfl := Nat.eq_of_beq_eq_true q1
    obtain rfl := Nat.eq_of_beq_eq_true q2
    obtain rfl := Nat.eq_of_beq_eq_true q3
    replace hs : x_newa a (pc + 3) ls st h = some (pc', ls', st', h') := hs
    have eh : h' = al h a (kM a) := by
      unfold x_newa at hs
      split at hs
      · split at hs
        · cases hs; rfl
        · cases hs
      · cases hs
    have e1 : hZ h' - hZ h = 1 := by rw [eh]; show hZ h + 1 - hZ h = 1; omega
    have e2 : hS h' - hS h = kM a := by rw [eh]; show hS h + kM a - hS h = kM a; omega
    rw [e1] at hrc k
    rw [e2] at hrs k
    have q5 : (a = 5 ∧ (ow m, x, 1) ∈ CL) ∨ (a = 6 ∧ (ow m, x, 2) ∈ CL) := by
      rcases q4 with ⟨q, q'⟩ | ⟨q, q'⟩
      · exact Or.inl ⟨Nat.eq_of_beq_eq_true q, q'⟩
      · exact Or.inr ⟨Nat.eq_of_beq_eq_true q, q'⟩
    exact s_anew C (hro rfl) hd q5 (had a (by omega) (by rw [eh, hC_al, if_pos rfl]; omega)) hrc hrs hs k
  | invokevirtual x =>
    simp only [okI, Bool.and_eq_true, decide_eq_true_eq] at hok
    obtain ⟨⟨⟨⟨⟨⟨q1, q2⟩, q3⟩, q4⟩, q5⟩, q6⟩, q7⟩ := hok
    obtain rfl := Nat.eq_of_beq_eq_true q3
    replace hs : (none : Option Nx) = some (pc', ls', st', h') := hs
    cases hs
  | invokestatic x =>
    simp only [okI, Bool.and_eq_true, Bool.or_eq_true, decide_eq_true_eq] at hok
    obtain ⟨⟨q1, q2⟩, q3⟩ := hok
    obtain rfl := Nat.eq_of_beq_eq_true q1
    obtain rfl := Nat.eq_of_beq_eq_true q2
    rcases q3 with (q3 | ⟨q3, q4⟩) | ⟨q3, q4⟩
    · obtain rfl := Nat.eq_of_beq_eq_true q3.1.1.1.1
      replace hs : (none : Option Nx) = some (pc', ls', st', h') := hs
      cases hs
    · obtain rfl := Nat.eq_of_beq_eq_true q3
      replace hs : x_max (pc + 3) ls st h = some (pc', ls', st', h') := hs
      have hz := nz_max hs
      rw [hz.1, Nat.sub_self] at hrc
      rw [hz.2.1, Nat.sub_self] at hrs
      exact s_max C hrf hrl hrc hrs hd q4 hs (nz_go hz k)
    · obtain rfl := Nat.eq_of_beq_eq_true q3
      replace hs : x_min (pc + 3) ls st h = some (pc', ls', st', h') := hs
      have hz := nz_min hs
      rw [hz.1, Nat.sub_self] at hrc
      rw [hz.2.1, Nat.sub_self] at hrs
      exact s_min C hrf hrl hrc hrs hd q4 hs (nz_go hz k)
  | invokespecial x =>
    simp only [okI, Bool.and_eq_true, Bool.or_eq_true, decide_eq_true_eq] at hok
    obtain ⟨⟨q1, q2⟩, q3⟩ := hok
    obtain rfl := Nat.eq_of_beq_eq_true q1
    obtain rfl := Nat.eq_of_beq_eq_true q2
    rcases q3 with q3 | ⟨q3, q4⟩
    · obtain rfl := Nat.eq_of_beq_eq_true q3.1.1.1.1
      replace hs : (none : Option Nx) = some (pc', ls', st', h') := hs
      cases hs
    · obtain rfl := Nat.eq_of_beq_eq_true q3
      replace hs : x_oinit (pc + 3) ls st h = some (pc', ls', st', h') := hs
      exact s_oinit C hrf hrl hd q4 hs (nz_go (nz_oinit hs) k)
  | ireturn =>
    simp only [okI, Bool.and_eq_true, Bool.or_eq_true, decide_eq_true_eq] at hok
    rcases hok.2 with q | q
    · obtain rfl := Nat.eq_of_beq_eq_true q.1
      replace hs : (none : Option Nx) = some (pc', ls', st', h') := hs
      cases hs
    · obtain rfl := Nat.eq_of_beq_eq_true q.1
      replace hs : (none : Option Nx) = some (pc', ls', st', h') := hs
      cases hs
  | areturn =>
    simp only [okI, Bool.and_eq_true] at hok
    obtain rfl := Nat.eq_of_beq_eq_true hok.1.2
    replace hs : (none : Option Nx) = some (pc', ls', st', h') := hs
    cases hs
  | return_ =>
    simp only [okI, Bool.and_eq_true] at hok
    obtain rfl := Nat.eq_of_beq_eq_true hok.1.2
    replace hs : (none : Option Nx) = some (pc', ls', st', h') := hs
    cases hs
  | _ => cases hok
end
section
-- THE TABLES' WORDS AT ANY LATER STATE
def isAO : Cond → Bool
  | .arrayOver (.object _) => true
  | _ => false
def isLS : Cond → Bool
  | .laysStatic .. => true
  | _ => false
theorem tbl_cls : lw_tbl.all (fun w => goodWord w || (w.onTables && w.faceAtom) || isAO w || isLS w) = true := by decide +kernel
theorem ls_move {O n d : String} {a0 a : Array Value} {s U : State} (h : (Cond.laysStatic O n d).before a0 s = true) (hA : s.vm.Alike U.vm) (hH : ∀ q : Nat, q < s.heap.size → U.heap[q]? = s.heap[q]?) : (Cond.laysStatic O n d).before a U = true := by
  obtain ⟨c, k, i, f, x, cell, hc, hi, hst, hx, hcell, hs, hcls, hlt, hty⟩ := Cond.laysStatic_spec h
  obtain ⟨k', hi', he⟩ := State.fieldFound?_setVm hA hi
  have hi2 : U.fieldFound? O n d = some (c, k', i, f) := hi'
  have hc2 : U.vm.findClass O = some c := by rw [hA.findClass]; exact hc
  have hx2 : k'.statics = some x := by rw [he]; exact hx
  have hty2 : k'.staticTypes[f.slot]? = some f.type := by rw [he]; exact hty
  have hcell2 : U.heap[x]? = some cell := by rw [hH x (Array.getElem?_eq_some_iff.mp hcell).1]; exact hcell
  simp [Cond.before, Cond.holds, Cond.value, hi2, hc2, hx2, hty2, hcell2, hst, hs, hcls, hlt]
theorem rs_move {O n d : String} {a0 a : Array Value} {s U : State} (h0 : (Cond.laysStatic O n d).before a0 s = true) (h : (Cond.isRef (.static O n d)).before a0 s = true) (hA : s.vm.Alike U.vm) (hH : ∀ q : Nat, q < s.heap.size → U.heap[q]? = s.heap[q]?) : (Cond.isRef (.static O n d)).before a U = true := by
  obtain ⟨c, k, i, f, x, cell, hc, hi, hst, hx, hcell, hs, hcls, hlt, hty⟩ := Cond.laysStatic_spec h0
  obtain ⟨k', hi', he⟩ := State.fieldFound?_setVm hA hi
  have hi2 : U.fieldFound? O n d = some (c, k', i, f) := hi'
  have hx2 : k'.statics = some x := by rw [he]; exact hx
  have hcell2 : U.heap[x]? = some cell := by rw [hH x (Array.getElem?_eq_some_iff.mp hcell).1]; exact hcell
  have e1 : (Term.static O n d).eval a0 s none [] s = cell.slots[f.slot]? := by simp [Term.eval, State.fieldNamed?, hi, hst, hx, hcell, hs]
  have e2 : (Term.static O n d).eval a U none [] U = cell.slots[f.slot]? := by simp [Term.eval, State.fieldNamed?, hi2, hst, hx2, hcell2, hs]
  simp only [Cond.before, Cond.holds, Cond.value] at h ⊢
  rw [e1] at h
  rw [e2]
  exact h
theorem tb_at {a0 a : Array Value} {s00 U : State} (h : ∀ w ∈ lw_tbl, w.before a0 s00 = true) (hW : s00.WarmedH U.vm) (hH : ∀ q : Nat, q < s00.heap.size → U.heap[q]? = s00.heap[q]?) : ∀ w ∈ lw_tbl, w.before a U = true := by
  intro w hw
  have hb := h w hw
  have hc := List.all_eq_true.mp tbl_cls w hw
  simp only [Bool.or_eq_true, Bool.and_eq_true] at hc
  rcases hc with ((q | q) | q) | q
  · exact word_at hW (good_of_word q) hb
  · have h1 := Cond.faceAtom_setVm (args := a0) hW.alike w q.2 hb
    rw [Cond.onTables_vm (A' := a) (U' := U) U.vm w q.1, State.setVm_self] at h1
    exact h1
  · unfold isAO at q
    split at q
    · exact va_AO.use (va_AO.moved hW.alike (va_AO.of hb))
    · cases q
  · unfold isLS at q
    split at q
    · exact ls_move hb hW.alike hH
    · cases q
-- what the run leaves: nothing that was there goes
def MO (h h' : AH) : Prop := (∀ k, hC h k ≤ hC h' k) ∧ (∀ k i, i < hC h k → hR h' (k, i) = hR h (k, i)) ∧ hZ h ≤ hZ h' ∧ hS h ≤ hS h'
theorem MO.rf {h : AH} : MO h h := ⟨fun _ => Nat.le_refl _, fun _ _ _ => rfl, Nat.le_refl _, Nat.le_refl _⟩
theorem MO.tr {h h1 h2 : AH} (a : MO h h1) (b : MO h1 h2) : MO h h2 := ⟨fun k => Nat.le_trans (a.1 k) (b.1 k), fun k i hi => (b.2.1 k i (Nat.lt_of_lt_of_le hi (a.1 k))).trans (a.2.1 k i hi), Nat.le_trans a.2.2.1 b.2.2.1, Nat.le_trans a.2.2.2 b.2.2.2⟩
theorem NZ.mo {h h' : AH} (a : NZ h h') : MO h h' := ⟨fun k => by rw [a.2.2.1]; exact Nat.le_refl _, fun k i _ => by rw [a.2.2.2], by rw [a.1]; exact Nat.le_refl _, by rw [a.2.1]; exact Nat.le_refl _⟩
theorem al_mo {h : AH} {k n : Nat} : MO h (al h k n) := ⟨al_up, fun k' i hi => by
  rw [hR_al, if_neg]
  intro z
  cases z
  omega, Nat.le_add_right _ _, Nat.le_add_right _ _⟩
theorem bf {α : Type} {b : Bool} {x y r : α} (h : (bif b then x else y) = r) : x = r ∨ y = r := by
  cases b with
  | true => exact Or.inl h
  | false => exact Or.inr h
theorem step_mo {i : Ins} {pc' : Nat} {ls ls' : AL} {st st' : List AV} {h h' : AH} (hs : stepI i ls st h = some (pc', ls', st', h')) : MO h h' := by
  obtain ⟨op, a, b, c, nx⟩ := i
  unfold stepI at hs
  dsimp only at hs
  rcases bf hs with hs | hs
  · exact (nz_aload hs).mo
  rcases bf hs with hs | hs
  · exact (nz_iload hs).mo
  rcases bf hs with hs | hs
  · exact (nz_getI hs).mo
  rcases bf hs with hs | hs
  · exact (nz_getA hs).mo
  rcases bf hs with hs | hs
  · cases hs; exact MO.rf
  rcases bf hs with hs | hs
  · cases hs; exact MO.rf
  rcases bf hs with hs | hs
  · exact (nz_putI hs).mo
  rcases bf hs with hs | hs
  · exact (nz_iald hs).mo
  rcases bf hs with hs | hs
  · exact (nz_add hs).mo
  rcases bf hs with hs | hs
  · exact (nz_icmp hs).mo
  rcases bf hs with hs | hs
  · exact (nz_if hs).mo
  rcases bf hs with hs | hs
  · exact (nz_istore hs).mo
  rcases bf hs with hs | hs
  · exact (nz_iinc hs).mo
  rcases bf hs with hs | hs
  · exact (nz_aald hs).mo
  rcases bf hs with hs | hs
  · exact (nz_astore hs).mo
  rcases bf hs with hs | hs
  · exact (nz_dup hs).mo
  rcases bf hs with hs | hs
  · exact (nz_putZ hs).mo
  rcases bf hs with hs | hs
  · exact (nz_putA hs).mo
  rcases bf hs with hs | hs
  · exact (nz_iast hs).mo
  rcases bf hs with hs | hs
  · exact (nz_sub hs).mo
  rcases bf hs with hs | hs
  · exact (nz_mul hs).mo
  rcases bf hs with hs | hs
  · exact (nz_and hs).mo
  rcases bf hs with hs | hs
  · exact (nz_shr hs).mo
  rcases bf hs with hs | hs
  · exact (nz_div hs).mo
  rcases bf hs with hs | hs
  · exact (nz_rem hs).mo
  rcases bf hs with hs | hs
  · cases hs; exact MO.rf
  rcases bf hs with hs | hs
  · exact (nz_dupx hs).mo
  rcases bf hs with hs | hs
  · exact (nz_i2l hs).mo
  rcases bf hs with hs | hs
  · exact (nz_lcmp hs).mo
  rcases bf hs with hs | hs
  · exact (nz_acmp hs).mo
  rcases bf hs with hs | hs
  · exact (nz_null hs).mo
  rcases bf hs with hs | hs
  · exact (nz_nnull hs).mo
  rcases bf hs with hs | hs
  · exact (nz_sw hs).mo
  rcases bf hs with hs | hs
  · cases hs; exact al_mo
  rcases bf hs with hs | hs
  · unfold x_newa at hs
    split at hs
    · split at hs
      · cases hs; exact al_mo
      · cases hs
    · cases hs
  rcases bf hs with hs | hs
  · exact (nz_zald hs).mo
  rcases bf hs with hs | hs
  · exact (nz_zast hs).mo
  rcases bf hs with hs | hs
  · exact (nz_aast hs).mo
  rcases bf hs with hs | hs
  · exact (nz_lald hs).mo
  rcases bf hs with hs | hs
  · exact (nz_last hs).mo
  rcases bf hs with hs | hs
  · exact (nz_alen hs).mo
  rcases bf hs with hs | hs
  · exact (nz_oinit hs).mo
  rcases bf hs with hs | hs
  · exact (nz_max hs).mo
  rcases bf hs with hs | hs
  · exact (nz_min hs).mo
  · cases hs
theorem end_mo {op a : Nat} {st : List AV} {h h' : AH} {o : Oc} (hs : x_end op a st h = some (o, h')) : MO h h' := by
  unfold x_end at hs
  rcases bf hs with hs | hs
  · split at hs
    · cases hs; exact MO.rf
    · cases hs
  rcases bf hs with hs | hs
  · split at hs
    · split at hs
      · cases hs; exact MO.rf
      · cases hs
    · cases hs
  rcases bf hs with hs | hs
  · split at hs
    · cases hs; exact MO.rf
    · cases hs
  rcases bf hs with hs | hs
  · split at hs
    · cases hs; exact MO.rf
    · cases hs
  rcases bf hs with hs | hs
  · split at hs
    · cases hs; exact al_mo
    · cases hs
  · cases hs
theorem exec_mo : ∀ (n d m pc : Nat) (ls : AL) (st : List AV) (h : AH) (o : Oc) (h' : AH), exec n d m pc ls st h = some (o, h') → MO h h' := by
  intro n
  induction n with
  | zero => intro d m pc ls st h o h' e; simp [exec] at e
  | succ n ih =>
    intro d m pc ls st h o h' e
    rw [exec] at e
    cases hi : ins m pc with
    | none => rw [hi] at e; simp at e
    | some i =>
      obtain ⟨op, a, b, c, nx⟩ := i
      rw [hi] at e
      dsimp only at e
      cases h40 : Nat.beq op 40 with
      | true =>
        rw [h40] at e
        simp only [cond_true] at e
        cases d with
        | zero => simp at e
        | succ d' =>
          cases hp : popn b [] st with
          | none => rw [hp] at e; simp at e
          | some q =>
            obtain ⟨as, rest⟩ := q
            rw [hp] at e
            dsimp only at e
            cases hc : (Nat.ble (catS rest) 8 && Nat.beq (catS as) b && rcv (hw a) (ow a) as) with
            | false => rw [hc] at e; simp at e
            | true =>
              rw [hc] at e
              simp only [cond_true] at e
              cases hx : exec n d' a 0 (entL (mx a) as) [] h with
              | none => rw [hx] at e; simp at e
              | some o1 =>
                rw [hx] at e
                obtain ⟨o1, h1⟩ := o1
                have m1 := ih _ _ _ _ _ _ _ _ hx
                rcases o1 with (_ | v) | x
                · exact m1.tr (ih _ _ _ _ _ _ _ _ e)
                · exact m1.tr (ih _ _ _ _ _ _ _ _ e)
                · dsimp only at e
                  cases hh : hnd m pc x.1 with
                  | none => rw [hh] at e; cases e; exact m1
                  | some tg => rw [hh] at e; exact m1.tr (ih _ _ _ _ _ _ _ _ e)
      | false =>
        rw [h40] at e
        simp only [cond_false] at e
        cases h44 : (Nat.ble 44 op && Nat.ble op 48) with
        | true => rw [h44] at e; exact end_mo e
        | false =>
          rw [h44] at e
          simp only [cond_false] at e
          cases hs : stepI (op, a, b, c, nx) ls st h with
          | none => rw [hs] at e; simp at e
          | some q =>
            rw [hs] at e
            obtain ⟨q1, q2, q3, q4⟩ := q
            exact (step_mo hs).tr (ih _ _ _ _ _ _ _ _ e)
end
section
-- THE PURE RULES over exec
def WP (d m pc : Nat) (ls : AL) (st : List AV) (h : AH) (Q : Oc → AH → Prop) : Prop := ∃ n o h', exec n d m pc ls st h = some (o, h') ∧ Q o h'
def stepQ (m pc : Nat) (ls : AL) (st : List AV) (h : AH) : Option Nx := match ins m pc with
  | none => none
  | some (op, a, b, c, nx) => bif Nat.beq op 40 then none else bif Nat.ble 44 op && Nat.ble op 48 then none else stepI (op, a, b, c, nx) ls st h
def endQ (m pc : Nat) (st : List AV) (h : AH) : Option (Oc × AH) := match ins m pc with
  | none => none
  | some (op, a, _, _, _) => bif Nat.beq op 40 then none else bif Nat.ble 44 op && Nat.ble op 48 then x_end op a st h else none
def callQ (m pc : Nat) (st : List AV) : Option (Nat × Nat × List AV × List AV) := match ins m pc with
  | none => none
  | some (op, a, b, _, nx) => bif Nat.beq op 40 then (match popn b [] st with
    | some (as, rest) => bif Nat.ble (catS rest) 8 && Nat.beq (catS as) b && rcv (hw a) (ow a) as then some (a, nx, as, rest) else none
    | none => none) else none
theorem exec_up : ∀ (n k d m pc : Nat) (ls : AL) (st : List AV) (h : AH) (r : Oc × AH), exec n d m pc ls st h = some r → exec (n + k) d m pc ls st h = some r := by
  intro n
  induction n with
  | zero => intro k d m pc ls st h r e; simp [exec] at e
  | succ n ih =>
    intro k d m pc ls st h r e
    rw [show n + 1 + k = (n + k) + 1 by omega]
    rw [exec] at e ⊢
    cases hi : ins m pc with
    | none => rw [hi] at e; simp at e
    | some i =>
      obtain ⟨op, a, b, c, nx⟩ := i
      rw [hi] at e
      dsimp only at e ⊢
      cases h40 : Nat.beq op 40 with
      | true =>
        rw [h40] at e
        simp only [cond_true] at e ⊢
        cases d with
        | zero => simp at e
        | succ d' =>
          cases hp : popn b [] st with
          | none => rw [hp] at e; simp at e
          | some q =>
            obtain ⟨as, rest⟩ := q
            rw [hp] at e
            dsimp only at e ⊢
            cases hc : (Nat.ble (catS rest) 8 && Nat.beq (catS as) b && rcv (hw a) (ow a) as) with
            | false => rw [hc] at e; simp at e
            | true =>
              rw [hc] at e
              simp only [cond_true] at e ⊢
              cases hx : exec n d' a 0 (entL (mx a) as) [] h with
              | none => rw [hx] at e; simp at e
              | some o =>
                rw [hx] at e
                rw [ih k _ _ _ _ _ _ _ hx]
                obtain ⟨o, h1⟩ := o
                rcases o with (_ | v) | x
                · exact ih k _ _ _ _ _ _ _ e
                · exact ih k _ _ _ _ _ _ _ e
                · dsimp only at e ⊢
                  cases hh : hnd m pc x.1 with
                  | none => rw [hh] at e; exact e
                  | some tg => rw [hh] at e; exact ih k _ _ _ _ _ _ _ e
      | false =>
        rw [h40] at e
        simp only [cond_false] at e ⊢
        cases h44 : (Nat.ble 44 op && Nat.ble op 48) with
        | true => rw [h44] at e; exact e
        | false =>
          rw [h44] at e
          simp only [cond_false] at e ⊢
          cases hs : stepI (op, a, b, c, nx) ls st h with
          | none => rw [hs] at e; simp at e
          | some q =>
            rw [hs] at e
            obtain ⟨q1, q2, q3, q4⟩ := q
            exact ih k _ _ _ _ _ _ _ e
theorem wp_s {d m pc : Nat} {ls : AL} {st : List AV} {h : AH} {Q : Oc → AH → Prop} {pc' : Nat} {ls' : AL} {st' : List AV} {h' : AH} (e : stepQ m pc ls st h = some (pc', ls', st', h')) (k : WP d m pc' ls' st' h' Q) : WP d m pc ls st h Q := by
  obtain ⟨n, o, h2, e2, hq⟩ := k
  refine ⟨n + 1, o, h2, ?_, hq⟩
  unfold stepQ at e
  rw [exec]
  cases hi : ins m pc with
  | none => rw [hi] at e; simp at e
  | some i =>
    obtain ⟨op, a, b, c, nx⟩ := i
    rw [hi] at e
    dsimp only at e ⊢
    cases h40 : Nat.beq op 40 with
    | true => rw [h40] at e; simp at e
    | false =>
      rw [h40] at e
      simp only [cond_false] at e ⊢
      cases h44 : (Nat.ble 44 op && Nat.ble op 48) with
      | true => rw [h44] at e; simp at e
      | false =>
        rw [h44] at e
        simp only [cond_false] at e ⊢
        rw [e]
        exact e2
theorem wp_e {d m pc : Nat} {ls : AL} {st : List AV} {h : AH} {Q : Oc → AH → Prop} {o : Oc} {h' : AH} (e : endQ m pc st h = some (o, h')) (k : Q o h') : WP d m pc ls st h Q := by
  refine ⟨1, o, h', ?_, k⟩
  unfold endQ at e
  rw [exec]
  cases hi : ins m pc with
  | none => rw [hi] at e; simp at e
  | some i =>
    obtain ⟨op, a, b, c, nx⟩ := i
    rw [hi] at e
    dsimp only at e ⊢
    cases h40 : Nat.beq op 40 with
    | true => rw [h40] at e; simp at e
    | false =>
      rw [h40] at e
      simp only [cond_false] at e ⊢
      cases h44 : (Nat.ble 44 op && Nat.ble op 48) with
      | true => rw [h44] at e; simp only [cond_true] at e ⊢; exact e
      | false => rw [h44] at e; simp at e
/-- what comes behind a call -/
def wpB (d m pc nx : Nat) (ls : AL) (rest : List AV) (Q : Oc → AH → Prop) (o : Oc) (h1 : AH) : Prop := match o with
  | .inl none => WP d m nx ls rest h1 Q
  | .inl (some v) => WP d m nx ls (v :: rest) h1 Q
  | .inr x => match hnd m pc x.1 with
    | none => Q (.inr x) h1
    | some tg => WP d m tg ls [.inr (.inr (some x))] h1 Q
def exB (n d m pc nx : Nat) (ls : AL) (rest : List AV) (o : Oc) (h1 : AH) : Option (Oc × AH) := match o with
  | .inl none => exec n d m nx ls rest h1
  | .inl (some v) => exec n d m nx ls (v :: rest) h1
  | .inr x => match hnd m pc x.1 with
    | none => some (.inr x, h1)
    | some tg => exec n d m tg ls [.inr (.inr (some x))] h1
theorem exec_c {n d' m pc : Nat} {ls : AL} {st : List AV} {h : AH} {mi nx : Nat} {as rest : List AV} (e : callQ m pc st = some (mi, nx, as, rest)) {o1 : Oc} {h1 : AH} (e1 : exec n d' mi 0 (entL (mx mi) as) [] h = some (o1, h1)) : exec (n + 1) (d' + 1) m pc ls st h = exB n (d' + 1) m pc nx ls rest o1 h1 := by
  unfold callQ at e
  rw [exec]
  cases hi : ins m pc with
  | none => rw [hi] at e; simp at e
  | some i =>
    obtain ⟨op, a, b, c, nx'⟩ := i
    rw [hi] at e
    dsimp only at e ⊢
    cases h40 : Nat.beq op 40 with
    | false => rw [h40] at e; simp at e
    | true =>
      rw [h40] at e
      simp only [cond_true] at e ⊢
      cases hp : popn b [] st with
      | none => rw [hp] at e; simp at e
      | some qq =>
        obtain ⟨as', rest'⟩ := qq
        rw [hp] at e
        dsimp only at e ⊢
        cases hc : (Nat.ble (catS rest') 8 && Nat.beq (catS as') b && rcv (hw a) (ow a) as') with
        | false => rw [hc] at e; simp at e
        | true =>
          rw [hc] at e
          simp only [cond_true, Option.some.injEq, Prod.mk.injEq] at e ⊢
          obtain ⟨rfl, rfl, rfl, rfl⟩ := e
          rw [e1]
          rcases o1 with (_ | v) | x <;> rfl
theorem wp_c {d m pc : Nat} {ls : AL} {st : List AV} {h : AH} {Q P : Oc → AH → Prop} {mi nx : Nat} {as rest : List AV} (e : callQ m pc st = some (mi, nx, as, rest)) (hd : 0 < d) (hP : WP (d - 1) mi 0 (entL (mx mi) as) [] h P) (k : ∀ o h1, P o h1 → wpB d m pc nx ls rest Q o h1) : WP d m pc ls st h Q := by
  obtain ⟨n1, o1, h1, e1, hq⟩ := hP
  have k := k o1 h1 hq
  obtain ⟨d', rfl⟩ : ∃ d', d = d' + 1 := ⟨d - 1, by omega⟩
  rw [Nat.add_sub_cancel] at e1
  have key : ∃ (n2 : Nat) (o : Oc) (h' : AH), exB n2 (d' + 1) m pc nx ls rest o1 h1 = some (o, h') ∧ (∀ k, exB (n2 + k) (d' + 1) m pc nx ls rest o1 h1 = some (o, h')) ∧ Q o h' := by
    rcases o1 with (_ | v) | x
    · obtain ⟨n2, o, h', e2, hq2⟩ := k
      exact ⟨n2, o, h', e2, fun k => exec_up _ k _ _ _ _ _ _ _ e2, hq2⟩
    · obtain ⟨n2, o, h', e2, hq2⟩ := k
      exact ⟨n2, o, h', e2, fun k => exec_up _ k _ _ _ _ _ _ _ e2, hq2⟩
    · unfold wpB at k
      unfold exB
      dsimp only at k ⊢
      cases hh : hnd m pc x.1 with
      | none =>
        rw [hh] at k
        exact ⟨0, _, _, rfl, fun _ => rfl, k⟩
      | some tg =>
        rw [hh] at k
        obtain ⟨n2, o, h', e2, hq2⟩ := k
        exact ⟨n2, o, h', e2, fun k => exec_up _ k _ _ _ _ _ _ _ e2, hq2⟩
  obtain ⟨n2, o, h', -, e2, hq2⟩ := key
  refine ⟨n1 + n2 + 1, o, h', ?_, hq2⟩
  rw [exec_c e (exec_up _ n2 _ _ _ _ _ _ _ e1), Nat.add_comm n1 n2]
  exact e2 n1
theorem wp_mono {d m pc : Nat} {ls : AL} {st : List AV} {h : AH} {P Q : Oc → AH → Prop} (k : WP d m pc ls st h P) (f : ∀ o h', P o h' → Q o h') : WP d m pc ls st h Q := by
  obtain ⟨n, o, h', e, q⟩ := k
  exact ⟨n, o, h', e, f o h' q⟩
-- branches
section BR
variable {d m a c : Nat} {ls : AL} {st : List AV} {h : AH} {Q : Oc → AH → Prop} {x y : Int32}
theorem br_eq (kt : x = y → WP d m a ls st h Q) (kf : ¬ x = y → WP d m c ls st h Q) : WP d m (bif cnd 0 x y then a else c) ls st h Q := by
  by_cases hP : x = y
  · rw [show cnd 0 x y = true from decide_eq_true hP]; exact kt hP
  · rw [show cnd 0 x y = false from decide_eq_false hP]; exact kf hP
theorem br_ne (kt : ¬ x = y → WP d m a ls st h Q) (kf : x = y → WP d m c ls st h Q) : WP d m (bif cnd 1 x y then a else c) ls st h Q := by
  by_cases hP : x = y
  · rw [show cnd 1 x y = false from decide_eq_false (fun q => q hP)]; exact kf hP
  · rw [show cnd 1 x y = true from decide_eq_true hP]; exact kt hP
theorem br_lt (kt : x < y → WP d m a ls st h Q) (kf : ¬ x < y → WP d m c ls st h Q) : WP d m (bif cnd 2 x y then a else c) ls st h Q := by
  by_cases hP : x < y
  · rw [show cnd 2 x y = true from decide_eq_true hP]; exact kt hP
  · rw [show cnd 2 x y = false from decide_eq_false hP]; exact kf hP
theorem br_ge (kt : y ≤ x → WP d m a ls st h Q) (kf : ¬ y ≤ x → WP d m c ls st h Q) : WP d m (bif cnd 3 x y then a else c) ls st h Q := by
  by_cases hP : y ≤ x
  · rw [show cnd 3 x y = true from decide_eq_true hP]; exact kt hP
  · rw [show cnd 3 x y = false from decide_eq_false hP]; exact kf hP
theorem br_gt (kt : y < x → WP d m a ls st h Q) (kf : ¬ y < x → WP d m c ls st h Q) : WP d m (bif cnd 4 x y then a else c) ls st h Q := by
  by_cases hP : y < x
  · rw [show cnd 4 x y = true from decide_eq_true hP]; exact kt hP
  · rw [show cnd 4 x y = false from decide_eq_false hP]; exact kf hP
theorem br_le (kt : x ≤ y → WP d m a ls st h Q) (kf : ¬ x ≤ y → WP d m c ls st h Q) : WP d m (bif cnd 5 x y then a else c) ls st h Q := by
  by_cases hP : x ≤ y
  · rw [show cnd 5 x y = true from decide_eq_true hP]; exact kt hP
  · rw [show cnd 5 x y = false from decide_eq_false hP]; exact kf hP
theorem br_if {p : Prop} {hp : Decidable p} (kt : p → WP d m a ls st h Q) (kf : ¬ p → WP d m c ls st h Q) : WP d m (if p then a else c) ls st h Q := by
  by_cases hP : p
  · rw [if_pos hP]; exact kt hP
  · rw [if_neg hP]; exact kf hP
end BR
end
section
-- THE ENDS
def OR (ad : Nat × Nat → Nat) : Oc → Outcome → Prop
  | .inl none, z => z = .returned none
  | .inl (some v), z => z = .returned (some (cv ad v))
  | .inr n, z => z = .threw (ad n)
def WO (h : AH) : Oc → Prop
  | .inl none => True
  | .inl (some v) => WV h v ∧ catA v = 1
  | .inr n => (12 ≤ n.1 ∧ n.1 < 15) ∧ n.2 < hC h n.1
def EQ (below : List Frame) (s00 : State) (D : va_G) (cA : Nat → ClassId) (ad : Nat × Nat → Nat) (s : State) (h0 : AH) (o : Oc) (h' : AH) : State → Prop := fun t =>
  ∃ z : Outcome, t.status = .running ∧ Ended t below z ∧ OR ad o z ∧ WO h' o ∧ RP s00 D cA ad h' t.heap ∧ s.WarmedH t.vm ∧ ∃ L : List Loc, s.sameButNew ({ t with vm := s.vm } : State) L (hZ h' - hZ h0) (hS h' - hS h0) ∧ ∀ q ∈ L, s00.heap.size ≤ q.base
def Z00 (a0 : Array Value) (s00 : State) : Prop := (∀ w ∈ lw_tbl, w.before a0 s00 = true) ∧ (Cond.isRef (.static "java/lang/Throwable" "UNASSIGNED_STACK" "[Ljava/lang/StackTraceElement;")).before a0 s00 = true ∧ (Cond.isRef (.static "java/lang/Throwable" "SUPPRESSED_SENTINEL" "Ljava/util/List;")).before a0 s00 = true ∧ ∀ k k' : Nat, 12 ≤ k → k < 15 → 12 ≤ k' → k' < 15 → k ≠ k' → (Cond.not (.castable (exn k) (exn k'))).before a0 s00 = true
def sup2 : List String := ["java/lang/RuntimeException", "java/lang/Exception"]
def isR1 : Cond := .isRef (.static "java/lang/Throwable" "UNASSIGNED_STACK" "[Ljava/lang/StackTraceElement;")
def isR2 : Cond := .isRef (.static "java/lang/Throwable" "SUPPRESSED_SENTINEL" "Ljava/util/List;")
theorem own_in : ∀ q ∈ XL, ∀ w ∈ Bundle.ownAtoms0 (cn q.1) q.2.1 (exn q.2.2) sup2, w ∈ lw_tbl ∨ w = isR1 ∨ w = isR2 := by decide +kernel
theorem ls_in : Cond.laysStatic "java/lang/Throwable" "UNASSIGNED_STACK" "[Ljava/lang/StackTraceElement;" ∈ lw_tbl ∧ Cond.laysStatic "java/lang/Throwable" "SUPPRESSED_SENTINEL" "Ljava/util/List;" ∈ lw_tbl := by decide +kernel
theorem fit_x : ∀ k : Nat, Bundle.fit (exn k) = true := by
  intro k
  unfold exn
  split <;> decide +kernel
theorem fit_s : ∀ n ∈ sup2, Bundle.fit n = true := by decide +kernel
section SN4
variable {p : Program} {l : Launch} {e : Env} {R : Room} {s s00 : State} {mid : MethodId} {args : Array Value} {below : List Frame} {meth : Method} {c : Code} {D : va_G} {cA : Nat → ClassId} {ad : Nat × Nat → Nat} {Q : State → Prop} {m cells slots pc pc' nx : Nat} {ls ls' : AL} {st st' : List AV} {h h' h0 : AH}
theorem W.mn {H : Heap} {locs : List Loc} {Q' : State → Prop} {g : JFrame} (hq : ∀ t, Q t → Q' t) (k : W p l e R s mid args below meth c H locs cells slots Q g) : W p l e R s mid args below meth c H locs cells slots Q' g := fun T hT X => by
  obtain ⟨t, a, b⟩ := k T hT X
  exact ⟨t, a, hq t b⟩
theorem eq_of_mq {o : Oc} {z : Outcome} (ho : OR ad o z) (hw : WO h o) (t : State) (q : MQ below (fun _ _ x t => x = z ∧ RP s00 D cA ad h t.heap) args s (hZ h - hZ h0) (hS h - hS h0) (fun q => s00.heap.size ≤ q) t) : EQ below s00 D cA ad s h0 o h t := by
  obtain ⟨x, q1, q2, ⟨rfl, q3⟩, L, ⟨-, q4, q5⟩, q6⟩ := q
  exact ⟨x, q1, q2, ho, hw, q3, q4, L, q5, q6⟩
/-- a throw -/
theorem e_throw {a0 : Array Value} (hz : Z00 a0 s00) (C : CX s00 D cA m p e s mid args meth c) (hro : RO m = true) (hh0 : hh m = []) {x a ic : Nat} (hd : decode (bts m) pc = .ok (.new x, 3)) (hd3 : decode (bts m) (pc + 3) = .ok (.dup, 1)) (hd4 : decode (bts m) (pc + 4) = .ok (.invokespecial ic, 3)) (hd7 : decode (bts m) (pc + 7) = .ok (.athrow, 1))
    (hx : (ow m, x, a) ∈ CL) (hic : (ow m, ic, a) ∈ XL) (ha : 12 ≤ a ∧ a < 15) (had : ad (a, hC h a) = hZ h) (hrf : 8 ≤ R.frames) (hrl : 300 ≤ R.locals) (hrc : hZ h - hZ h0 + 1 ≤ R.cells) (hrs : hS h - hS h0 + 6 ≤ R.slots) (hs0 : s.heap.size = hZ h0)
    (hz0 : hZ h0 ≤ hZ h) (hs1 : hS h0 ≤ hS h) (hsh : ∀ q : Nat, q < s00.heap.size → s.heap[q]? = s00.heap[q]?) : GO p l e R s mid args below meth c s00 D cA ad (EQ below s00 D cA ad s h0 (.inr (a, hC h a)) (al h a 6)) m (hZ h - hZ h0) (hS h - hS h0) pc ls [] h := by
  intro H locs lm hL hl hs hR hf ho
  obtain ⟨rfl, rfl⟩ := ho hro
  have hsz : s.heap.size = hZ h := hR.1
  have hkn : kn a = exn a := by
    unfold kn
    rw [show Nat.ble 12 a = true from Nat.ble_eq_true_of_le ha.1]
    rfl
  have hclk := C.t _ (CL_ok _ hx)
  dsimp only at hclk
  rw [hkn] at hclk
  have hin := in_exi a ha.1 ha.2
  refine W.newc C.x C.b C.own hclk (C.t _ hin.1) (C.t _ hin.2) rfl hd hrc hrs (fun cC kC f1 f2 f3 f4 => ?_)
  refine lv_dup C.x C.b hd3 rfl ?_
  intro T hT X
  have hat : ∀ w ∈ Bundle.ownAtoms0 (cn (ow m)) ic (exn a) sup2, w.before args s = true := by
    intro w hw
    rcases own_in _ hic w hw with q | rfl | rfl
    · exact C.t w q
    · exact rs_move (hz.1 _ ls_in.1) hz.2.1 C.warm.alike hsh
    · exact rs_move (hz.1 _ ls_in.2) hz.2.2.1 C.warm.alike hsh
  obtain ⟨U, hst, hrun, hend, hWm, hsame, ce, hce, hown⟩ := X.ctorThrow0 C.x C.tr (own := cn (ow m)) (cls := exn a) (names := sup2) (ic := ic) C.own (fit_x a) fit_s hat (fun y hy => by cases hy) (a := s.heap.size) (cX := cC) (kX := kC) f1 f2 (by rw [hT, Array.getElem?_push_size]) (Nat.le_refl _) (g := F0 mid (pc + 3 + 1) lm [.ref s.heap.size, .ref s.heap.size]) rfl (by rw [C.ml]; exact hL.1) rfl rfl (rest := []) rfl (by rw [C.b]; exact hd4) (by rw [C.b]; exact hd7) (fun y hy => by rw [C.ex, hh0] at hy; cases hy) (by show 2 + 3 < R.frames; omega) (by show 2 * 0 + (1 + 0) + (13 * (2 + 1) + 41) ≤ R.locals; omega) C.lk
  refine ⟨U, hst, .threw s.heap.size, hrun, hend, ?_, ?_, ?_, hWm, [], ?_, fun q hq => by cases hq⟩
  · show Outcome.threw s.heap.size = .threw (ad (a, hC h a))
    rw [had, hsz]
  · exact ⟨ha, by rw [hC_al, if_pos rfl]; omega⟩
  · have hUs : U.heap.size = s.heap.size + 1 := by
      have h1 : U.heap.size ≤ s.heap.size + (hZ h - hZ h0 + 1) := hsame.2.2.1
      have h2 := (Array.getElem?_eq_some_iff.mp hce).1
      omega
    have hU : U.heap = s.heap.push ce := by
      apply Array.ext_getElem?
      intro i
      by_cases hi : i < s.heap.size
      · rw [Array.getElem?_push, if_neg (Nat.ne_of_lt hi)]
        have hc := Array.getElem?_eq_getElem hi
        obtain ⟨c', g1, g2, g3, g4⟩ := hsame.2.2.2.2.2 i _ hc
        have g1 : U.heap[i]? = some c' := g1
        rw [g1, hc, g2]
        have : c'.slots = (s.heap[i]).slots := by
          apply Array.ext_getElem?
          intro j
          exact g4 j (by simp)
        rw [this]
      · by_cases hi2 : i = s.heap.size
        · subst hi2
          rw [hce, Array.getElem?_push_size]
        · rw [Array.getElem?_eq_none (by omega), Array.getElem?_eq_none (by rw [Array.size_push]; omega)]
    rw [hU]
    refine hR.new (k := a) (n := 6) (by omega) (by rw [hown.vm]; rfl) had ⟨fun z => by omega, fun z => by omega, fun z => by omega, fun z => by omega, fun _ => ⟨ce, ?_, hown.vm, ?_⟩⟩
    · rw [had, ← hsz, Array.getElem?_push_size]
    · rw [← C.warm.alike.findClass]; exact hown.cls
  · have e1 : hZ (al h a 6) - hZ h0 = hZ h - hZ h0 + 1 := by show hZ h + 1 - hZ h0 = _; omega
    have e2 : hS (al h a 6) - hS h0 = hS h - hS h0 + 6 := by show hS h + 6 - hS h0 = _; omega
    rw [e1, e2]
    exact hsame
theorem xe44 {a : Nat} {st : List AV} {h h' : AH} {o : Oc} (hs : x_end 44 a st h = some (o, h')) : ∃ x, st = [.inl x] ∧ o = .inl (some (.inl x)) ∧ h' = h := by
  unfold x_end at hs
  simp only [show Nat.beq 44 44 = true from rfl, cond_true] at hs
  split at hs
  · cases hs; exact ⟨_, rfl, rfl, rfl⟩
  · cases hs
theorem xe45 {a : Nat} {st : List AV} {h h' : AH} {o : Oc} (hs : x_end 45 a st h = some (o, h')) : ∃ x, (x = 0 ∨ x = 1) ∧ st = [.inl x] ∧ o = .inl (some (.inl x)) ∧ h' = h := by
  unfold x_end at hs
  simp only [show Nat.beq 45 44 = false from rfl, show Nat.beq 45 45 = true from rfl, cond_true, cond_false] at hs
  split at hs
  · split at hs
    · rename_i hx
      cases hs; exact ⟨_, hx, rfl, rfl, rfl⟩
    · cases hs
  · cases hs
theorem xe46 {a : Nat} {st : List AV} {h h' : AH} {o : Oc} (hs : x_end 46 a st h = some (o, h')) : ∃ x, st = [.inr (.inr (some x))] ∧ o = .inl (some (.inr (.inr (some x)))) ∧ h' = h := by
  unfold x_end at hs
  simp only [show Nat.beq 46 44 = false from rfl, show Nat.beq 46 45 = false from rfl, show Nat.beq 46 46 = true from rfl, cond_true, cond_false] at hs
  split at hs
  · cases hs; exact ⟨_, rfl, rfl, rfl⟩
  · cases hs
theorem xe47 {a : Nat} {st : List AV} {h h' : AH} {o : Oc} (hs : x_end 47 a st h = some (o, h')) : st = [] ∧ o = .inl none ∧ h' = h := by
  unfold x_end at hs
  simp only [show Nat.beq 47 44 = false from rfl, show Nat.beq 47 45 = false from rfl, show Nat.beq 47 46 = false from rfl, show Nat.beq 47 47 = true from rfl, cond_true, cond_false] at hs
  split at hs
  · cases hs; exact ⟨rfl, rfl, rfl⟩
  · cases hs
theorem xe48 {a : Nat} {st : List AV} {h h' : AH} {o : Oc} (hs : x_end 48 a st h = some (o, h')) : st = [] ∧ o = .inr (a, hC h a) ∧ h' = al h a 6 := by
  unfold x_end at hs
  simp only [show Nat.beq 48 44 = false from rfl, show Nat.beq 48 45 = false from rfl, show Nat.beq 48 46 = false from rfl, show Nat.beq 48 47 = false from rfl, show Nat.beq 48 48 = true from rfl, cond_true, cond_false] at hs
  split at hs
  · cases hs; exact ⟨rfl, rfl, rfl⟩
  · cases hs
set_option maxHeartbeats 4000000 in
theorem end_ok {a0 : Array Value} (hz : Z00 a0 s00) (C : CX s00 D cA m p e s mid args meth c) {i : Ins} {r : Instr} {len : Nat} (hm : m < 102) (hro : i.1 = 48 → RO m = true) (hd : decode (bts m) pc = .ok (r, len)) (hok : okI m pc i r len = true) (hop : (Nat.ble 44 i.1 && Nat.ble i.1 48) = true) {o : Oc} (hs : x_end i.1 i.2.1 st h = some (o, h')) (hrf : 8 ≤ R.frames) (hrl : 300 ≤ R.locals) (hrc : hZ h' - hZ h0 ≤ R.cells) (hrs : hS h' - hS h0 ≤ R.slots) (had : ∀ k, k < 15 → hC h k < hC h' k → ad (k, hC h k) = hZ h)
    (hs0 : s.heap.size = hZ h0) (hz0 : hZ h0 ≤ hZ h) (hs1 : hS h0 ≤ hS h) (hsh : ∀ q : Nat, q < s00.heap.size → s.heap[q]? = s00.heap[q]?) : GO p l e R s mid args below meth c s00 D cA ad (EQ below s00 D cA ad s h0 o h') m (hZ h - hZ h0) (hS h - hS h0) pc ls st h := by
  obtain ⟨op, a, b, cc, nx⟩ := i
  dsimp only at hop hs hro
  have hop1 : op = 44 ∨ op = 45 ∨ op = 46 ∨ op = 47 ∨ op = 48 := by
    simp only [Bool.and_eq_true] at hop
    have h1 := Nat.le_of_ble_eq_true hop.1
    have h2 := Nat.le_of_ble_eq_true hop.2
    omega
  have hlk := C.lk
  rcases hop1 with rfl | rfl | rfl | rfl | rfl
  · obtain ⟨x, rfl, rfl, rfl⟩ := xe44 hs
    cases r <;> first | (simp [okI] at hok; done) | skip
    simp only [okI, Bool.and_eq_true, Bool.or_eq_true, decide_eq_true_eq] at hok
    obtain ⟨q1, q2⟩ := hok
    obtain rfl := Nat.eq_of_beq_eq_true q1
    have hrt : rt m = some .int := by
      rcases q2 with q | q
      · exact q.2
      · exact absurd q.1 (by decide)
    intro H locs lm hL hl hs hR hf ho
    exact W.mn (eq_of_mq (o := .inl (some (.inl x))) (z := .returned (some (.int x))) rfl ⟨WV.int, rfl⟩) (W.iret C.x C.b (C.rt.trans hrt) (fun t ht _ => ⟨rfl, by rw [ht]; exact hR⟩) hf hd hlk)
  · obtain ⟨x, hx, rfl, rfl, rfl⟩ := xe45 hs
    cases r <;> first | (simp [okI] at hok; done) | skip
    simp only [okI, Bool.and_eq_true, Bool.or_eq_true, decide_eq_true_eq] at hok
    obtain ⟨q1, q2⟩ := hok
    obtain rfl := Nat.eq_of_beq_eq_true q1
    have hrt : rt m = some .boolean := by
      rcases q2 with q | q
      · exact absurd q.1 (by decide)
      · exact q.2
    intro H locs lm hL hl hs hR hf ho
    exact W.mn (eq_of_mq (o := .inl (some (.inl x))) (z := .returned (some (.int x))) rfl ⟨WV.int, rfl⟩) (W.zret C.x C.b (C.rt.trans hrt) (by rcases hx with rfl | rfl <;> decide) (fun t ht _ => ⟨rfl, by rw [ht]; exact hR⟩) hf hd hlk)
  · obtain ⟨x, rfl, rfl, rfl⟩ := xe46 hs
    cases r <;> first | (simp [okI] at hok; done) | skip
    simp only [okI, Bool.and_eq_true] at hok
    obtain ⟨⟨q1, q2⟩, q3⟩ := hok
    obtain rfl := Nat.eq_of_beq_eq_true q1
    have hrt : ∃ n, rt m = some (.object n) := by
      split at q3
      · rename_i n hn; exact ⟨n, hn⟩
      · cases q3
    obtain ⟨n, hrt⟩ := hrt
    intro H locs lm hL hl hs hR hf ho
    exact W.mn (eq_of_mq (o := .inl (some (.inr (.inr (some x))))) (z := .returned (some (.ref (ad x)))) rfl ⟨hs.hd, rfl⟩) (W.aret C.x C.b (C.rt.trans hrt) (Or.inl ⟨n, rfl⟩) (Or.inr ⟨_, rfl⟩) (fun t ht _ => ⟨rfl, by rw [ht]; exact hR⟩) hf hd hlk)
  · obtain ⟨rfl, rfl, rfl⟩ := xe47 hs
    cases r <;> first | (simp [okI] at hok; done) | skip
    simp only [okI, Bool.and_eq_true, decide_eq_true_eq] at hok
    obtain ⟨⟨q1, q2⟩, q3⟩ := hok
    obtain rfl := Nat.eq_of_beq_eq_true q1
    intro H locs lm hL hl hs hR hf ho
    exact W.mn (eq_of_mq (o := .inl none) (z := .returned none) rfl trivial) (W.vret C.x C.b (C.rt.trans q3) (fun t ht _ => ⟨rfl, by rw [ht]; exact hR⟩) hf hd hlk)
  · obtain ⟨rfl, rfl, rfl⟩ := xe48 hs
    cases r <;> first | (simp [okI] at hok; done) | skip
    rename_i x
    simp only [okI, Bool.and_eq_true, Bool.or_eq_true, decide_eq_true_eq] at hok
    obtain ⟨⟨q1, q2⟩, q3⟩ := hok
    obtain rfl := Nat.eq_of_beq_eq_true q1
    rcases q3 with q | ⟨⟨⟨⟨-, q4⟩, q5⟩, q6⟩, q7⟩
    · exact absurd q.1.1 (by decide)
    · unfold thr at q6
      split at q6
      · rename_i ic e3 e4 e7
        have q4 := Nat.le_of_ble_eq_true q4
        have q5 : a < 15 := Nat.le_of_ble_eq_true q5
        refine e_throw hz C (hro rfl) q7 hd e3 e4 e7 q2 (of_decide_eq_true q6) ⟨q4, q5⟩ (had a q5 (by rw [hC_al, if_pos rfl]; omega)) hrf hrl ?_ ?_ hs0 hz0 hs1 hsh
        · have : hZ (al h a 6) = hZ h + 1 := rfl
          omega
        · have : hS (al h a 6) = hS h + 6 := rfl
          omega
      · cases q6
end SN4
end
section
-- CALLS
theorem popn_spec : ∀ (n : Nat) (acc st as rest : List AV), popn n acc st = some (as, rest) → ∃ xs : List AV, st = xs ++ rest ∧ as = xs.reverse ++ acc ∧ xs.length = n
  | 0, acc, st, as, rest, h => by
    unfold popn at h
    cases h
    exact ⟨[], rfl, rfl, rfl⟩
  | n + 1, acc, [], as, rest, h => by cases h
  | n + 1, acc, v :: st, as, rest, h => by
    obtain ⟨xs, h1, h2, h3⟩ := popn_spec n (v :: acc) st as rest h
    exact ⟨v :: xs, by rw [h1]; rfl, by rw [h2]; simp, by simp [h3]⟩
theorem steps_weak {tb : Tables} {e : Env} {mid below : List Frame} {s t : State} (h : Steps tb e (mid ++ below) s t) : Steps tb e below s t := by
  obtain ⟨n, e1, hw⟩ := h
  exact ⟨n, e1, fun j hj => (hw j hj).weaken⟩
theorem hh_nil : ∀ m, m < 101 → (Nat.ble 88 m && Nat.ble m 100) = false → hh m = [] := by decide +kernel
theorem code_at {a : Nat} (ha : a < 101) {U : State} {args : Array Value} (hw : (cw a).before args U = true) : ∃ mk meth c, U.methodNamed? (yM a) = some mk ∧ U.vm.method? mk = some meth ∧ meth.code = some c ∧ c.code = bts a ∧ c.maxLocals = mx a ∧ meth.sig.returnType = rt a ∧ meth.locks = false ∧ c.exceptionTable.toList = tableOf (hh a) ∧ parseMethodDescriptor (yM a).desc = some meth.sig := by
  unfold cw at hw
  cases hb : (Nat.ble 88 a && Nat.ble a 100) with
  | true =>
    rw [hb] at hw
    simp only [cond_true] at hw
    obtain ⟨mk, meth, c, h1, h2, h3, h4, h5, h6, h7, h8, h9⟩ := Cond.codeWith_spec hw
    exact ⟨mk, meth, c, h1, h2, h3, h4, h5, h7, h8, by rw [← h6, table_eq], h9⟩
  | false =>
    rw [hb] at hw
    simp only [cond_false] at hw
    obtain ⟨mk, hn⟩ := Cond.code_named hw
    obtain ⟨meth, c, h2, h3, h4, h5, h7, h8, h6, h9⟩ := Cond.code_spec hn hw
    refine ⟨mk, meth, c, hn, h2, h3, h4, h5, h7, h8, ?_, h9⟩
    rw [hh_nil a ha hb]
    have h0 : c.exceptionTable.size = 0 := by simpa [Array.isEmpty] using h6
    exact List.eq_nil_of_length_eq_zero (by simpa using h0)
theorem cat_pos (v : AV) : 1 ≤ catA v := by
  rcases v with x | x | x
  · exact Nat.le_refl 1
  · exact Nat.le_succ 1
  · exact Nat.le_refl 1
theorem cat_ge : ∀ as : List AV, as.length ≤ catS as
  | [] => Nat.le_refl _
  | v :: t => by
    have := cat_ge t
    have h1 : 1 ≤ catA v := cat_pos v
    show t.length + 1 ≤ catA v + catS t
    omega
theorem cat_one : ∀ as : List AV, catS as = as.length → ∀ v ∈ as, catA v = 1
  | [], _, v, hv => by cases hv
  | w :: t, h, v, hv => by
    have h1 : 1 ≤ catA w := cat_pos w
    have h2 := cat_ge t
    have h : catA w + catS t = t.length + 1 := h
    rcases List.mem_cons.mp hv with rfl | q
    · omega
    · exact cat_one t (by omega) v q
/-- the variables at a method's start -/
theorem lget_none : ∀ (n i : Nat), lget (lnone n) i = none
  | 0, i => rfl
  | n + 1, 0 => rfl
  | n + 1, i + 1 => lget_none n i
theorem lnone_len : ∀ n, (lnone n).length = n
  | 0 => rfl
  | n + 1 => by simp [lnone, lnone_len n]
theorem entL_len : ∀ (n : Nat) (as : List AV), as.length ≤ n → (entL n as).length = n
  | n, [], _ => by cases n <;> exact lnone_len _
  | 0, v :: t, h => by simp at h
  | n + 1, v :: t, h => by
    show (entL n t).length + 1 = n + 1
    rw [entL_len n t (by simpa using h)]
theorem entL_at : ∀ (n : Nat) (as : List AV), as.length ≤ n → ∀ (i : Nat) (v : AV), lget (entL n as) i = some v → as[i]? = some v
  | n, [], _, i, v, h => by
    have : entL n [] = lnone n := by cases n <;> rfl
    rw [this, lget_none] at h
    cases h
  | 0, w :: t, h0, i, v, h => by simp at h0
  | n + 1, w :: t, h0, 0, v, h => by
    have : w = v := by simpa [entL, lget] using h
    simp [this]
  | n + 1, w :: t, h0, i + 1, v, h => by
    have := entL_at n t (by simpa using h0) i v (by simpa [entL, lget] using h)
    simpa using this
theorem sl_one {ad : Nat × Nat → Nat} : ∀ as : List AV, (∀ v ∈ as, catA v = 1) → lg_sl (as.map (cv ad)) = as.map (fun v => Slot.val (cv ad v))
  | [], _ => rfl
  | v :: t, h => by
    have h1 : (cv ad v).category = 1 := by rw [cat_cv]; exact h v List.mem_cons_self
    have ih := sl_one (ad := ad) t (fun w hw => h w (List.mem_cons_of_mem _ hw))
    unfold lg_sl at ih ⊢
    simp only [List.map_cons, List.flatMap_cons, h1]
    rw [ih]
    simp
theorem ent_lr {ad : Nat × Nat → Nat} {n : Nat} {as : List AV} (h1 : ∀ v ∈ as, catA v = 1) (h2 : as.length ≤ n) : LR ad n (entL n as) ((lg_sl (as.map (cv ad)) ++ List.replicate (n - (lg_sl (as.map (cv ad))).length) Slot.unset).toArray) := by
  have hsl := sl_one (ad := ad) as h1
  have hlen : (lg_sl (as.map (cv ad))).length = as.length := by rw [hsl]; simp
  obtain ⟨e1, e2, -⟩ := lv_entry (as.map (cv ad)) (n := n) (by rw [hlen]; exact h2)
  refine ⟨e1, e2, entL_len n as h2, fun i v hv => ?_⟩
  have ha := entL_at n as h2 i v hv
  refine ⟨?_, h1 v (List.mem_of_getElem? ha)⟩
  have hi := (List.getElem?_eq_some_iff.mp ha).1
  rw [hsl]
  simp only [List.getElem?_toArray]
  rw [List.getElem?_append_left (by simpa using hi)]
  simp [ha]
theorem ent_wl {h : AH} {n : Nat} {as : List AV} (h1 : WS h as) (h2 : as.length ≤ n) : WL h (entL n as) := fun i v hv => h1 v (List.mem_of_getElem? (entL_at n as h2 i v hv))
section SN5
variable {p : Program} {l : Launch} {e : Env} {R : Room} {s s00 : State} {mid : MethodId} {args : Array Value} {below : List Frame} {meth : Method} {c : Code} {D : va_G} {cA : Nat → ClassId} {ad : Nat × Nat → Nat} {Q : State → Prop} {m cells slots pc pc' nx : Nat} {ls ls' : AL} {st st' : List AV} {h h' h0 h1 : AH}
/-- the instruction links its method -/
theorem link_run (C : CX s00 D cA m p e s mid args meth c) {T : State} {locs : List Loc} {H : Heap} {lm : Array Slot} (X : Stand p l e R s mid args below meth c T locs cells slots) (hT : T.heap = H) (hR : RP s00 D cA ad h H) {a b : Nat} {r : Instr} {cc : Int32} (hd : decode (bts m) pc = .ok (r, 3)) (hok : okI m pc (40, a, b, cc, pc + 3) r 3 = true) {as rest : List AV} (hp : popn b [] st = some (as, rest)) (hws : WS h as) (hrc : rcv (hw a) (ow a) as = true) :
    a < 101 ∧ as.length = na a ∧ ∃ vm₁ mk, Stand p l e R s mid args below meth c (T.setVm vm₁) locs cells slots ∧ s.methodNamed? (yM a) = some mk ∧
      ∀ target, (∀ acts, Steps p.tables e below (doInvoke e ((T.setVm vm₁).setTop (F0 mid pc lm (rest.map (cv ad)))) acts mk (as.map (cv ad)).toArray).1 target) → Steps p.tables e below (T.setTop (F0 mid pc lm (st.map (cv ad)))) target := by
  obtain ⟨xs, e1, e2, e3⟩ := popn_spec _ _ _ _ _ hp
  rw [List.append_nil] at e2
  have hst : st.map (cv ad) = (as.map (cv ad)).reverse ++ rest.map (cv ad) := by
    rw [e1, e2, List.map_append, List.map_reverse, List.reverse_reverse]
  have hlen : as.length = b := by rw [e2, List.length_reverse, e3]
  cases r <;> first | (simp [okI] at hok; done) | skip
  · -- a constructor
    rename_i x
    simp only [okI, Bool.and_eq_true, Bool.or_eq_true, decide_eq_true_eq] at hok
    obtain ⟨-, q3⟩ := hok
    rcases q3 with ⟨⟨⟨⟨-, q4⟩, q5⟩, q6⟩, q7⟩ | q
    · have ha : a < 101 := Nat.le_of_ble_eq_true q7
      have hwa := Nat.eq_of_beq_eq_true q5
      have hb := Nat.eq_of_beq_eq_true q6
      obtain ⟨y1, y2, y3, y4, y5, y6, y7⟩ := yM_ok a ha
      obtain ⟨w1, w2, w3⟩ := hw2_ok a ha hwa
      rw [hwa] at hrc y5
      unfold rcv at hrc
      split at hrc
      · rename_i z; cases z
      · rename_i z; cases z
      · rename_i n t z
        obtain ⟨mk, methM, cM, hnamed, hmM, hcM, hby, hlo, hre, hlk, -, hsig⟩ := code_at ha (C.t _ (cw_ok a ha))
        have hn1 : (parseMethodDescriptor (yM a).desc).map (fun d => d.parameters.length) = some t.length := by
          rw [y5]
          have : na a = t.length + 1 := by rw [← hb, ← hlen]; rfl
          rw [this]; rfl
        have hstack : (F0 mid pc lm (st.map (cv ad))).stack = (t.map (cv ad)).reverse ++ .ref (ad n) :: rest.map (cv ad) := by
          show st.map (cv ad) = _
          rw [hst]
          simp [cv, va_rf]
        have hpl : e.platform.magicAccessors = ({} : Platform).magicAccessors := by rw [X.admits.platform]
        have hcw : (Cond.code (yM a) (bts a) (mx a) none).before args s = true := by
          have := C.t _ (cw_ok a ha)
          unfold cw at this
          cases hb8 : (Nat.ble 88 a && Nat.ble a 100) with
          | false => rw [hb8] at this; simp only [cond_false] at this; rw [w3] at this; exact this
          | true =>
            exfalso
            have : ∀ a, a < 101 → (Nat.ble 88 a && Nat.ble a 100) = true → hw a = 0 := by decide +kernel
            rw [this a ha hb8] at hwa
            cases hwa
        obtain ⟨mk', methM', cM', kP, vm₁, hnamed', -, -, -, -, -, -, -, hW₁, hstep₁⟩ := Steps.initColdArgs (e := e) (f := F0 mid pc lm (st.map (cv ad))) X.here C.x X.warmed hpl C.own w2 y4 (C.t _ (ML_ok _ q4)) (C.t _ w1) hcw rfl (argsL := t.map (cv ad)) (fun sig hs => by
          have := hn1
          rw [hs] at this
          simp only [Option.map_some, Option.some.injEq] at this
          rw [this, List.length_map]) hstack (by rw [C.b]; exact hd)
        cases hnamed.symm.trans hnamed'
        refine ⟨ha, by rw [hlen, hb], vm₁, mk, X.noted hW₁, hnamed, fun target ht => hstep₁ _ (fun acts => ?_)⟩
        exact ht acts
      · cases hrc
    · exact absurd q.1 (by decide)
  · -- a static one
    rename_i x
    simp only [okI, Bool.and_eq_true, Bool.or_eq_true, decide_eq_true_eq] at hok
    obtain ⟨-, q3⟩ := hok
    rcases q3 with (⟨⟨⟨⟨-, q4⟩, q5⟩, q6⟩, q7⟩ | q) | q
    · have ha : a < 101 := Nat.le_of_ble_eq_true q7
      have hwa := Nat.eq_of_beq_eq_true q5
      have hb := Nat.eq_of_beq_eq_true q6
      obtain ⟨y1, y2, y3, y4, y5, y6, y7⟩ := yM_ok a ha
      have w1 := hw0_ok a ha hwa
      rw [hwa] at y5
      obtain ⟨mk, methM, cM, hnamed, hmM, hcM, hby, hlo, hre, hlk, -, hsig⟩ := code_at ha (C.t _ (cw_ok a ha))
      have hstatic : methM.isStatic = true := Cond.static_spec hnamed hmM (C.t _ w1)
      obtain ⟨kP, hkP, -⟩ := className_of_methodNamed hnamed
      have hinitP : kP.init = .initialized := Cond.initialized_spec (findClass_of_methodNamed hnamed) hkP (by rw [y1]; exact C.t _ (in_cls _ y3))
      have hpar : (as.map (cv ad)).length = methM.sig.parameters.length := by
        rw [hsig] at y5
        simp only [Option.map_some, Option.some.injEq] at y5
        rw [y5, List.length_map, hlen, hb]
        rfl
      obtain ⟨vm₁, X₁, hstep₁⟩ := X.invokestatic C.x C.own (C.t _ (ML_ok _ q4)) hnamed hmM hstatic hkP hinitP y4 (g := F0 mid pc lm (st.map (cv ad))) rfl (argsL := as.map (cv ad)) (rest := rest.map (cv ad)) hpar hst (by rw [C.b]; exact hd)
      exact ⟨ha, by rw [hlen, hb], vm₁, mk, X₁, hnamed, fun target ht => hstep₁ _ ht⟩
    · exact absurd q.1 (by decide)
    · exact absurd q.1 (by decide)
  · -- by its receiver
    rename_i x
    simp only [okI, Bool.and_eq_true, decide_eq_true_eq] at hok
    obtain ⟨⟨⟨⟨-, q4⟩, q5⟩, q6⟩, q7⟩ := hok
    have ha : a < 101 := Nat.le_of_ble_eq_true q7
    have hwa := Nat.eq_of_beq_eq_true q5
    have hb := Nat.eq_of_beq_eq_true q6
    obtain ⟨y1, y2, y3, y4, y5, y6, y7⟩ := yM_ok a ha
    obtain ⟨w1, w2⟩ := hw1_ok a ha hwa
    rw [hwa] at hrc y5
    unfold rcv at hrc
    split at hrc
    · rename_i z; cases z
    · rename_i k' i t z
      obtain rfl := Nat.eq_of_beq_eq_true hrc
      have hk5 : ow a < 5 := by
        have : ∀ a, a < 101 → hw a = 1 → ow a < 5 := by decide +kernel
        exact this a ha hwa
      obtain ⟨mk, methM, hnamed, hmethM, hstM, habM⟩ := Cond.instanceMethod_spec (C.t _ w1)
      obtain ⟨mk', methM', cM, hnamed', hmM, hcM, hby, hlo, hre, hlk, -, hsig⟩ := code_at ha (C.t _ (cw_ok a ha))
      cases hnamed.symm.trans hnamed'
      cases hmethM.symm.trans hmM
      obtain ⟨-, -, hcr⟩ := rq5 hR (by omega) hws.hd
      obtain ⟨cell, g1, g2, g3, -⟩ := hcr.1 hk5
      obtain ⟨c2, r2, m2, u1, u2, u3, u4, kP, hkP, hkPi⟩ := Cond.selects_spec (C.t _ w2)
      have hcls : s.vm.findClass (cn (ow a)) = some cell.cls := by rw [g2]; exact (C.K.1 (ow a) _ (cl_at hk5)).2.1
      cases hcls.symm.trans u1
      cases (State.methodFound?_of_named hnamed y4).symm.trans u2
      cases hnamed.symm.trans u3
      have hselP : selectMethod e.platform s.vm cell.cls mk = .method mk := by rw [Launch.admits_selectMethod X.admits]; exact u4
      have hpar : (t.map (cv ad)).length = methM.sig.parameters.length := by
        rw [hsig] at y5
        simp only [Option.map_some, Option.some.injEq] at y5
        have : na a = t.length + 1 := by rw [← hb, ← hlen]; rfl
        rw [y5, this, List.length_map]
        rfl
      have hstack : (F0 mid pc lm (st.map (cv ad))).stack = (t.map (cv ad)).reverse ++ .ref (ad (ow a, i)) :: rest.map (cv ad) := by
        show st.map (cv ad) = _
        rw [hst]
        simp [cv, va_rf]
      obtain ⟨vm₁, X₁, hstep₁⟩ := X.invokevirtual C.x C.own (C.t _ (ML_ok _ q4)) hnamed hmethM hstM hkP hkPi y4 (a := ad (ow a, i)) (cell := cell) (by rw [hT]; exact g1) (fun z hz => by rw [g3] at hz; cases hz) hselP hmethM habM hkP hkPi (g := F0 mid pc lm (st.map (cv ad))) rfl (argsL := t.map (cv ad)) (rest := rest.map (cv ad)) hpar hstack (by rw [C.b]; exact hd)
      exact ⟨ha, by rw [hlen, hb], vm₁, mk, X₁, hnamed, fun target ht => hstep₁ _ ht⟩
    · rename_i z; cases z
    · cases hrc
end SN5
end
section
-- WHO CATCHES
theorem hh_of1 : ∀ m, m < 102 → hh m = (hndT m).map (fun q => (q.1, q.2.1, q.2.2.1, q.2.2.2.2)) := by decide +kernel
theorem hh_of2 : ∀ m, m < 102 → (hndT m).all (fun q => decide ((ow m, q.2.2.2.2, q.2.2.2.1) ∈ CL) && Nat.ble 12 q.2.2.2.1 && Nat.blt q.2.2.2.1 15 && !Nat.beq q.2.2.2.2 0) = true := by decide +kernel
theorem hh_of (m : Nat) (hm : m < 102) : hh m = (hndT m).map (fun q => (q.1, q.2.1, q.2.2.1, q.2.2.2.2)) ∧ ∀ q ∈ hndT m, (ow m, q.2.2.2.2, q.2.2.2.1) ∈ CL ∧ (12 ≤ q.2.2.2.1 ∧ q.2.2.2.1 < 15) ∧ q.2.2.2.2 ≠ 0 := by
  refine ⟨hh_of1 m hm, fun q hq => ?_⟩
  have h := List.all_eq_true.mp (hh_of2 m hm) q hq
  simp only [Bool.and_eq_true, decide_eq_true_eq, Bool.not_eq_true'] at h
  obtain ⟨⟨⟨h1, h2⟩, h3⟩, h4⟩ := h
  exact ⟨h1, ⟨Nat.le_of_ble_eq_true h2, Nat.le_of_ble_eq_true h3⟩, fun z => by rw [z] at h4; cases h4⟩
theorem cast_in : ∀ k, k < 15 → 12 ≤ k → Cond.castable (exn k) (exn k) ∈ lw_tbl := by decide +kernel
theorem fh_cold {E : CtlPost} {e : Env} {d : Bool} {acts : List Action} {u : State} {f : JFrame} {a : Addr} {Q : Handler → Pre} {x : ExceptionTableEntry} {t : List ExceptionTableEntry} {cT : ClassId} {cell : Cell} (hx : covers x f.pc = true) (h0 : x.catchType ≠ 0)
    (hcl : u.vm.ClassLinks e.platform f.method.cls x.catchType cT) (hcell : u.heap[a]? = some cell) (hobj : ∀ k, cell.vm ≠ .statics k) (hk : ∃ k, (u.vm.noted f.method.cls x.catchType (.cls cT)).classes[cell.cls]? = some k) (hc : ∃ k, (u.vm.noted f.method.cls x.catchType (.cls cT)).classes[cT]? = some k) :
    wp (findHandler.go f a (x :: t)) Q E e d acts u ↔ if (u.vm.noted f.method.cls x.catchType (.cls cT)).assignable cell.cls cT = true then Q (.found x.handlerPc) d acts (u.setVm (u.vm.noted f.method.cls x.catchType (.cls cT))) else wp (findHandler.go f a t) Q E e d acts (u.setVm (u.vm.noted f.method.cls x.catchType (.cls cT))) := by
  simp only [covers] at hx
  obtain ⟨ha, ht⟩ := (resolveClass_links e.toSetting hcl).op (op := VmOp.resolveClass f.method.cls x.catchType) rfl
  have hsz : (u.vm.noted f.method.cls x.catchType (.cls cT)).classes.size ≤ u.vm.classes.size := by no_record
  obtain ⟨k1, hk1⟩ := hk
  obtain ⟨k2, hk2⟩ := hc
  have hcell2 : (u.setVm (u.vm.noted f.method.cls x.catchType (.cls cT))).heap[a]? = some cell := hcell
  cases hfit : (u.vm.noted f.method.cls x.catchType (.cls cT)).assignable cell.cls cT <;>
    simp [findHandler.go, hx, h0, ha, ht, hsz, hcell, hcell2, hobj, hk1, hk2, hfit, VmOp.dirties, VmOp.acts]
section SN6
variable {p : Program} {l : Launch} {e : Env} {R : Room} {s s00 : State} {mid : MethodId} {args : Array Value} {below : List Frame} {meth : Method} {c : Code} {D : va_G} {cA : Nat → ClassId} {ad : Nat × Nat → Nat} {Q : State → Prop} {m cells slots pc pc' nx : Nat} {ls ls' : AL} {st st' : List AV} {h h' h0 h1 : AH}
def hdO : Option Nat → Handler
  | none => .none
  | some tg => .found tg
theorem go_h {a0 : Array Value} (hz : Z00 a0 s00) (C : CX s00 D cA m p e s mid args meth c) (hpl : e.platform.magicAccessors = ({} : Platform).magicAccessors) {f : JFrame} (hf : f.method = mid) {a : Addr} {k : Nat} (hk : 12 ≤ k ∧ k < 15) {ce : Cell} (hv : ce.vm = .none) (hce : s00.vm.findClass (exn k) = some ce.cls) : ∀ (Lh : List (Nat × Nat × Nat × Nat × Nat)), (∀ q ∈ Lh, (ow m, q.2.2.2.2, q.2.2.2.1) ∈ CL ∧ (12 ≤ q.2.2.2.1 ∧ q.2.2.2.1 < 15) ∧ q.2.2.2.2 ≠ 0) → ∀ u : State, s.WarmedH u.vm → u.heap[a]? = some ce →
    ∃ vm' : Vm, s.WarmedH vm' ∧ ∀ (Q : Handler → Pre) (E : CtlPost) (d : Bool) (acts : List Action), wp (findHandler.go f a (tableOf (Lh.map (fun q => (q.1, q.2.1, q.2.2.1, q.2.2.2.2))))) Q E e d acts u ↔ Q (hdO (hndL Lh f.pc k)) d acts (u.setVm vm') := by
  intro Lh
  induction Lh with
  | nil =>
    intro _ u hW hu
    refine ⟨u.vm, hW, fun Q E d acts => ?_⟩
    rw [State.setVm_self]
    exact Jvm.W.findHandler_go_nil
  | cons q t ih =>
    intro hq u hW hu
    obtain ⟨q1, q2, q3, q4, q5⟩ := q
    obtain ⟨z1, z2, z3⟩ := hq _ List.mem_cons_self
    dsimp only at z1 z2 z3
    have iht := ih (fun y hy => hq y (List.mem_cons_of_mem _ hy))
    cases hcv : covers ⟨q1, q2, q3, q5⟩ f.pc with
    | false =>
      obtain ⟨vm', g1, g2⟩ := iht u hW hu
      refine ⟨vm', g1, fun Q E d acts => ?_⟩
      have hnd : hndL ((q1, q2, q3, q4, q5) :: t) f.pc k = hndL t f.pc k := by
        have : (Nat.ble q1 f.pc && Nat.blt f.pc q2) = false := by
          cases hh : (Nat.ble q1 f.pc && Nat.blt f.pc q2) with
          | false => rfl
          | true =>
            simp only [Bool.and_eq_true] at hh
            have e1 := Nat.le_of_ble_eq_true hh.1
            have e2 : f.pc < q2 := Nat.le_of_ble_eq_true hh.2
            simp [covers, e1, e2] at hcv
        show (bif (Nat.ble q1 f.pc && Nat.blt f.pc q2 && Nat.beq q4 k) then some q3 else hndL t f.pc k) = hndL t f.pc k
        rw [this]
        rfl
      rw [hnd]
      exact (Jvm.W.findHandler_go_skip hcv).trans (g2 Q E d acts)
    | true =>
      have hkn : kn q4 = exn q4 := by
        unfold kn
        rw [show Nat.ble 12 q4 = true from Nat.ble_eq_true_of_le z2.1]
        rfl
      have hclk := C.t _ (CL_ok _ z1)
      dsimp only at hclk
      rw [hkn] at hclk
      obtain ⟨cT, hcT, hcl⟩ := Cond.classLink_spec C.own hclk e.platform hpl
      obtain ⟨dk, _, _, kt, hd, _, _, _, _, hkt, _, hopen⟩ := hcl.here
      have hcl₀ := hW.classLinks hcl
      have hW' : s.WarmedH (u.vm.noted mid.cls q5 (.cls cT)) := hW.noted hd hopen (State.rightAt_cls hcl)
      have hces : s.vm.findClass (exn k) = some ce.cls := by rw [C.warm.alike.findClass]; exact hce
      obtain ⟨kc, hkc⟩ := Vm.classAt_of_findClass hces
      obtain ⟨ks', hks', -⟩ := hW'.alike.2.2 _ _ hkc
      obtain ⟨kt', hkt', -⟩ := hW'.alike.2.2 _ _ hkt
      have hnd0 : (Nat.ble q1 f.pc && Nat.blt f.pc q2) = true := by
        simp only [covers, Bool.and_eq_true, decide_eq_true_eq] at hcv
        simp only [Bool.and_eq_true]
        exact ⟨Nat.ble_eq_true_of_le hcv.1, Nat.ble_eq_true_of_le hcv.2⟩
      have base : ∀ (Q : Handler → Pre) (E : CtlPost) (d : Bool) (acts : List Action), wp (findHandler.go f a (⟨q1, q2, q3, q5⟩ :: tableOf (t.map (fun q => (q.1, q.2.1, q.2.2.1, q.2.2.2.2))))) Q E e d acts u ↔ if s.vm.assignable ce.cls cT = true then Q (.found q3) d acts (u.setVm (u.vm.noted mid.cls q5 (.cls cT))) else wp (findHandler.go f a (tableOf (t.map (fun q => (q.1, q.2.1, q.2.2.1, q.2.2.2.2))))) Q E e d acts (u.setVm (u.vm.noted mid.cls q5 (.cls cT))) := by
        intro Q E d acts
        have := fh_cold (E := E) (e := e) (d := d) (acts := acts) (u := u) (f := f) (a := a) (Q := Q) (x := ⟨q1, q2, q3, q5⟩) (t := tableOf (t.map (fun q => (q.1, q.2.1, q.2.2.1, q.2.2.2.2)))) (cT := cT) (cell := ce) hcv z3 (by rw [hf]; exact hcl₀) hu (fun z hz => by rw [hv] at hz; cases hz) (by rw [hf]; exact ⟨_, hks'⟩) (by rw [hf]; exact ⟨_, hkt'⟩)
        dsimp only at this
        rw [hf, hW'.alike.assignable] at this
        exact this
      by_cases hkk : q4 = k
      · subst hkk
        have hasg : s.vm.assignable ce.cls cT = true := by
          obtain ⟨c1, c2, g1, g2, g3⟩ := Cond.castable_spec (C.t _ (cast_in q4 z2.2 z2.1))
          cases hces.symm.trans g1
          cases hcT.symm.trans g2
          exact g3
        refine ⟨_, hW', fun Q E d acts => ?_⟩
        have hnd : hndL ((q1, q2, q3, q4, q5) :: t) f.pc q4 = some q3 := by
          show (bif (Nat.ble q1 f.pc && Nat.blt f.pc q2 && Nat.beq q4 q4) then some q3 else hndL t f.pc q4) = some q3
          rw [hnd0, show Nat.beq q4 q4 = true from Nat.beq_refl q4]
          rfl
        rw [hnd]
        have := base Q E d acts
        rw [if_pos hasg] at this
        exact this
      · have hasg : s.vm.assignable ce.cls cT = false := by
          have hn := hz.2.2.2 k q4 hk.1 hk.2 z2.1 z2.2 (fun z => hkk z.symm)
          have e1 : s00.vm.findClass (exn q4) = some cT := by rw [← C.warm.alike.findClass]; exact hcT
          simp only [Cond.before, Cond.holds, Cond.value, hce, e1] at hn
          rw [C.warm.alike.assignable]
          simpa using hn
        obtain ⟨vm', g1, g2⟩ := iht (u.setVm (u.vm.noted mid.cls q5 (.cls cT))) hW' hu
        refine ⟨vm', g1, fun Q E d acts => ?_⟩
        have hnd : hndL ((q1, q2, q3, q4, q5) :: t) f.pc k = hndL t f.pc k := by
          show (bif (Nat.ble q1 f.pc && Nat.blt f.pc q2 && Nat.beq q4 k) then some q3 else hndL t f.pc k) = hndL t f.pc k
          rw [show Nat.beq q4 k = false from by cases hh : Nat.beq q4 k with | false => rfl | true => exact absurd (Nat.eq_of_beq_eq_true hh) hkk, Bool.and_false]
          rfl
        rw [hnd]
        have := base Q E d acts
        rw [if_neg (by rw [hasg]; decide), g2] at this
        exact this
/-- the search in a frame, the tables warmer behind it -/
def Fi2 (e : Env) (u : State) (f : JFrame) (a : Addr) (hd : Handler) (vm' : Vm) : Prop := ∀ (Q : Handler → Pre) (E : CtlPost) (d : Bool) (acts : List Action), wp (findHandler f a) Q E e d acts u ↔ Q hd d acts (u.setVm vm')
theorem catch2 {u : State} {a : Addr} {f : JFrame} {r : List Frame} {pc : Nat} {vm' : Vm} (hfind : Fi2 e u f a (.found pc) vm') :
    (stepThrowing e u a (.java f :: r)).Is ((u.setVm vm').setFrames (.java { f with pc := pc, stack := [.ref a] } :: r)) [] := by
  simp only [stepThrowing, searchFrame, vmDo]
  generalize hr : Sem.go _ e false [] u = res
  obtain ⟨as, rfl, ha⟩ := Sem.eq_ok_of hr (a := Handler.found pc) (s' := u.setVm vm') (acts' := []) (by simp [hfind _ _ _ _])
  exact ⟨rfl, ha⟩
theorem leave2 {u : State} {a : Addr} {f : JFrame} {r : List Frame} {vm' : Vm} {meth : Method}
    (hm : vm'.method? f.method = some meth) (hl : meth.locks = false) (hlocked : f.locked = none) (hentered : f.entered = []) (hfind : Fi2 e u f a .none vm') :
    (stepThrowing e u a (.java f :: r)).Is ((u.setVm vm').setFrames (.throwing a :: r)) [] := by
  simp only [stepThrowing, searchFrame, vmDo]
  generalize hr : Sem.go _ e false [] u = res
  obtain ⟨as, rfl, ha⟩ := Sem.eq_ok_of hr (a := Handler.none) (s' := u.setVm vm') (acts' := [])
    (by cases hp : e.platform.frameOwnsMonitors <;> simp [hfind _ _ _ _, hm, hl, hlocked, hentered, hp, leaveIfLocked])
  exact ⟨rfl, ha⟩
theorem caught2 {T : State} {locs : List Loc} (X : Stand p l e R s mid args below meth c T locs cells slots) {a : Addr} {g : JFrame} (hg : g.method = mid) {pc : Nat} {vm' : Vm} (hW : s.WarmedH vm') (hfind : Fi2 e ((T.setTop g).pushFrame (.throwing a)) g a (.found pc) vm') :
    Stand p l e R s mid args below meth c (T.setVm vm') locs cells slots ∧ ∀ target, Steps p.tables e below ((T.setVm vm').setTop { g with pc := pc, stack := [.ref a] }) target → Steps p.tables e below ((T.setTop g).pushFrame (.throwing a)) target := by
  refine ⟨X.noted hW, fun target hrest => ?_⟩
  have h : At T g.method c below := by rw [hg]; exact X.here
  obtain ⟨hgo, hw⟩ := h.throwing a
  refine Steps.head hgo hw ?_
  obtain ⟨g₀, hr⟩ := X.frames_eq
  rw [stepThread_throwing (frames_entered h.top _), (catch2 (u := (T.setTop g).pushFrame (.throwing a)) hfind).1, X.tail]
  have hr2 : (T.setVm vm').frames = .java g₀ :: below := hr
  rw [State.setTop_of_frames _ hr2] at hrest
  have e1 : (((T.setTop g).pushFrame (.throwing a)).setVm vm').setFrames (.java { g with pc := pc, stack := [.ref a] } :: below) = (T.setVm vm').setFrames (.java { g with pc := pc, stack := [.ref a] } :: below) := by
    rw [State.pushFrame, State.setTop_of_frames _ hr, State.setFrames_setFrames]
    show ((T.setVm vm').setFrames _).setFrames _ = _
    rw [State.setFrames_setFrames]
  rw [e1]
  exact hrest
theorem left2 {T : State} {locs : List Loc} (X : Stand p l e R s mid args below meth c T locs cells slots) (hlk : meth.locks = false) {a : Addr} {g : JFrame} (hg : g.method = mid) (hlocked : g.locked = none) (hentered : g.entered = []) {vm' : Vm} (hW : s.WarmedH vm') (hfind : Fi2 e ((T.setTop g).pushFrame (.throwing a)) g a .none vm') :
    Steps p.tables e below ((T.setTop g).pushFrame (.throwing a)) ((T.setVm vm').setFrames (.throwing a :: below)) ∧ ((T.setVm vm').setFrames (.throwing a :: below)).status = .running ∧ Ended ((T.setVm vm').setFrames (.throwing a :: below)) below (.threw a) ∧ s.WarmedH ((T.setVm vm').setFrames (.throwing a :: below)).vm ∧
      s.sameButNew ({ (T.setVm vm').setFrames (.throwing a :: below) with vm := s.vm } : State) locs cells slots := by
  have X2 := X.noted hW
  obtain ⟨g₀, hr⟩ := X.frames_eq
  have hr2 : (T.setVm vm').frames = .java g₀ :: below := hr
  have h : At T g.method c below := by rw [hg]; exact X.here
  refine ⟨?_, X2.here.running, State.frames_setFrames _ (State.cur_lt_of_frames hr2), (X2.ends _).1, (X2.ends _).2⟩
  obtain ⟨hgo, hw⟩ := h.throwing a
  refine Steps.head hgo hw ?_
  have hm2 : vm'.method? g.method = some meth := by rw [hg]; exact X2.method'
  rw [stepThread_throwing (frames_entered h.top _), (leave2 (u := (T.setTop g).pushFrame (.throwing a)) (meth := meth) hm2 hlk hlocked hentered hfind).1, X.tail]
  have e1 : (((T.setTop g).pushFrame (.throwing a)).setVm vm').setFrames (.throwing a :: below) = (T.setVm vm').setFrames (.throwing a :: below) := by
    rw [State.pushFrame, State.setTop_of_frames _ hr, State.setFrames_setFrames]
    show ((T.setVm vm').setFrames _).setFrames _ = _
    rw [State.setFrames_setFrames]
  rw [e1]
  exact Steps.refl _
end SN6
end
section
-- THE WHOLE: what exec answers, the machine does
def NA (h h' : AH) : Prop := NZ h h' ∨ ∃ k n, h' = al h k n
theorem NA.ad {h h' : AH} (a : NA h h') (k : Nat) (hk : hC h k < hC h' k) : hR h' (k, hC h k) = hZ h := by
  rcases a with q | ⟨k', n, rfl⟩
  · rw [q.2.2.1] at hk; omega
  · rw [hC_al] at hk
    by_cases hkk : k = k'
    · subst hkk
      rw [hR_al, if_pos rfl]
    · rw [if_neg hkk] at hk; omega
theorem step_na {i : Ins} {pc' : Nat} {ls ls' : AL} {st st' : List AV} {h h' : AH} (hs : stepI i ls st h = some (pc', ls', st', h')) : NA h h' := by
  obtain ⟨op, a, b, c, nx⟩ := i
  unfold stepI at hs
  dsimp only at hs
  rcases bf hs with hs | hs
  · exact Or.inl (nz_aload hs)
  rcases bf hs with hs | hs
  · exact Or.inl (nz_iload hs)
  rcases bf hs with hs | hs
  · exact Or.inl (nz_getI hs)
  rcases bf hs with hs | hs
  · exact Or.inl (nz_getA hs)
  rcases bf hs with hs | hs
  · cases hs; exact Or.inl ⟨rfl, rfl, rfl, rfl⟩
  rcases bf hs with hs | hs
  · cases hs; exact Or.inl ⟨rfl, rfl, rfl, rfl⟩
  rcases bf hs with hs | hs
  · exact Or.inl (nz_putI hs)
  rcases bf hs with hs | hs
  · exact Or.inl (nz_iald hs)
  rcases bf hs with hs | hs
  · exact Or.inl (nz_add hs)
  rcases bf hs with hs | hs
  · exact Or.inl (nz_icmp hs)
  rcases bf hs with hs | hs
  · exact Or.inl (nz_if hs)
  rcases bf hs with hs | hs
  · exact Or.inl (nz_istore hs)
  rcases bf hs with hs | hs
  · exact Or.inl (nz_iinc hs)
  rcases bf hs with hs | hs
  · exact Or.inl (nz_aald hs)
  rcases bf hs with hs | hs
  · exact Or.inl (nz_astore hs)
  rcases bf hs with hs | hs
  · exact Or.inl (nz_dup hs)
  rcases bf hs with hs | hs
  · exact Or.inl (nz_putZ hs)
  rcases bf hs with hs | hs
  · exact Or.inl (nz_putA hs)
  rcases bf hs with hs | hs
  · exact Or.inl (nz_iast hs)
  rcases bf hs with hs | hs
  · exact Or.inl (nz_sub hs)
  rcases bf hs with hs | hs
  · exact Or.inl (nz_mul hs)
  rcases bf hs with hs | hs
  · exact Or.inl (nz_and hs)
  rcases bf hs with hs | hs
  · exact Or.inl (nz_shr hs)
  rcases bf hs with hs | hs
  · exact Or.inl (nz_div hs)
  rcases bf hs with hs | hs
  · exact Or.inl (nz_rem hs)
  rcases bf hs with hs | hs
  · cases hs; exact Or.inl ⟨rfl, rfl, rfl, rfl⟩
  rcases bf hs with hs | hs
  · exact Or.inl (nz_dupx hs)
  rcases bf hs with hs | hs
  · exact Or.inl (nz_i2l hs)
  rcases bf hs with hs | hs
  · exact Or.inl (nz_lcmp hs)
  rcases bf hs with hs | hs
  · exact Or.inl (nz_acmp hs)
  rcases bf hs with hs | hs
  · exact Or.inl (nz_null hs)
  rcases bf hs with hs | hs
  · exact Or.inl (nz_nnull hs)
  rcases bf hs with hs | hs
  · exact Or.inl (nz_sw hs)
  rcases bf hs with hs | hs
  · cases hs; exact Or.inr ⟨_, _, rfl⟩
  rcases bf hs with hs | hs
  · unfold x_newa at hs
    split at hs
    · split at hs
      · cases hs; exact Or.inr ⟨_, _, rfl⟩
      · cases hs
    · cases hs
  rcases bf hs with hs | hs
  · exact Or.inl (nz_zald hs)
  rcases bf hs with hs | hs
  · exact Or.inl (nz_zast hs)
  rcases bf hs with hs | hs
  · exact Or.inl (nz_aast hs)
  rcases bf hs with hs | hs
  · exact Or.inl (nz_lald hs)
  rcases bf hs with hs | hs
  · exact Or.inl (nz_last hs)
  rcases bf hs with hs | hs
  · exact Or.inl (nz_alen hs)
  rcases bf hs with hs | hs
  · exact Or.inl (nz_oinit hs)
  rcases bf hs with hs | hs
  · exact Or.inl (nz_max hs)
  rcases bf hs with hs | hs
  · exact Or.inl (nz_min hs)
  · cases hs
theorem end_na {op a : Nat} {st : List AV} {h h' : AH} {o : Oc} (hs : x_end op a st h = some (o, h')) : NA h h' := by
  unfold x_end at hs
  rcases bf hs with hs | hs
  · split at hs
    · cases hs; exact Or.inl ⟨rfl, rfl, rfl, rfl⟩
    · cases hs
  rcases bf hs with hs | hs
  · split at hs
    · split at hs
      · cases hs; exact Or.inl ⟨rfl, rfl, rfl, rfl⟩
      · cases hs
    · cases hs
  rcases bf hs with hs | hs
  · split at hs
    · cases hs; exact Or.inl ⟨rfl, rfl, rfl, rfl⟩
    · cases hs
  rcases bf hs with hs | hs
  · split at hs
    · cases hs; exact Or.inl ⟨rfl, rfl, rfl, rfl⟩
    · cases hs
  rcases bf hs with hs | hs
  · split at hs
    · cases hs; exact Or.inr ⟨_, _, rfl⟩
    · cases hs
  · cases hs
theorem ro_all : ∀ m, m < 102 → (nthC cT m).all (fun q => (!RO m || roOp q.2.1) && (!Nat.beq q.2.1 48 || RO m)) = true := by decide +kernel
theorem ro_ins {m pc : Nat} {i : Ins} (h : ins m pc = some i) : (RO m = true → roOp i.1 = true) ∧ (i.1 = 48 → RO m = true) := by
  have hm := (ins_ok h).1
  have h1 := List.all_eq_true.mp (ro_all m hm) _ (look_in _ _ _ h)
  simp only [Bool.and_eq_true, Bool.or_eq_true, Bool.not_eq_true'] at h1
  refine ⟨fun z => ?_, fun z => ?_⟩
  · rcases h1.1 with q | q
    · rw [z] at q; cases q
    · exact q
  · rcases h1.2 with q | q
    · rw [z] at q; cases q
    · exact q
def AG (ad : Nat × Nat → Nat) (h : AH) : Prop := ∀ k i, k < 15 → i < hC h k → ad (k, i) = hR h (k, i)
theorem AG.dn {ad : Nat × Nat → Nat} {h h' : AH} (a : AG ad h') (b : MO h h') : AG ad h := fun k i hk hi => (a k i hk (Nat.lt_of_lt_of_le hi (b.1 k))).trans (b.2.1 k i hi)
theorem ad_of {ad : Nat × Nat → Nat} {h h1 h' : AH} (a : AG ad h') (b : MO h1 h') (c : NA h h1) (k : Nat) (hk : k < 15) (hc : hC h k < hC h1 k) : ad (k, hC h k) = hZ h := (a.dn b k _ hk hc).trans (c.ad k hc)
set_option maxHeartbeats 4000000 in
set_option maxRecDepth 20000 in
theorem sound {p : Program} {l : Launch} {a0 : Array Value} {s00 : State} (hz : Z00 a0 s00) {D : va_G} {cA : Nat → ClassId} {ad : Nat × Nat → Nat} : ∀ (n d m pc : Nat) (ls : AL) (st : List AV) (h : AH) (o : Oc) (h' : AH), exec n d m pc ls st h = some (o, h') → AG ad h' →
    ∀ (e : Env) (R : Room) (s : State) (mid : MethodId) (args : Array Value) (below : List Frame) (meth : Method) (c : Code) (h0 : AH), CX s00 D cA m p e s mid args meth c → s.heap.size = hZ h0 → (∀ q : Nat, q < s00.heap.size → s.heap[q]? = s00.heap[q]?) → hZ h0 ≤ hZ h → hS h0 ≤ hS h → d + 8 ≤ R.frames → 64 * d + 300 ≤ R.locals → hZ h' - hZ h0 ≤ R.cells → hS h' - hS h0 ≤ R.slots →
    GO p l e R s mid args below meth c s00 D cA ad (EQ below s00 D cA ad s h0 o h') m (hZ h - hZ h0) (hS h - hS h0) pc ls st h := by
  intro n
  induction n with
  | zero => intro d m pc ls st h o h' e; simp [exec] at e
  | succ n ih =>
    intro d m pc ls st h o h' ex hag e R s mid args below meth c h0 C hs0 hsh hz0 hs1 hrf hrl hrc hrs
    have hmo := exec_mo _ _ _ _ _ _ _ _ _ ex
    rw [exec] at ex
    cases hi : ins m pc with
    | none => rw [hi] at ex; simp at ex
    | some i =>
      obtain ⟨hm, r, len, hd, hok⟩ := ins_ok hi
      obtain ⟨hro1, hro2⟩ := ro_ins hi
      obtain ⟨op, a, b, cc, nx⟩ := i
      rw [hi] at ex
      dsimp only at ex hro1 hro2
      cases h40 : Nat.beq op 40 with
      | true =>
        rw [h40] at ex
        obtain rfl := Nat.eq_of_beq_eq_true h40
        have hro : RO m = false := by cases hq : RO m with | false => rfl | true => exact absurd (hro1 hq) (by decide)
        simp only [cond_true] at ex
        cases d with
        | zero => simp at ex
        | succ d' =>
          cases hp : popn b [] st with
          | none => rw [hp] at ex; simp at ex
          | some q =>
            obtain ⟨as, rest⟩ := q
            rw [hp] at ex
            dsimp only at ex
            cases hc : (Nat.ble (catS rest) 8 && Nat.beq (catS as) b && rcv (hw a) (ow a) as) with
            | false => rw [hc] at ex; simp at ex
            | true =>
              rw [hc] at ex
              simp only [cond_true] at ex
              simp only [Bool.and_eq_true] at hc
              obtain ⟨⟨hc1, hc2⟩, hc3⟩ := hc
              have hc1 := Nat.le_of_ble_eq_true hc1
              have hc2 := Nat.eq_of_beq_eq_true hc2
              cases hx : exec n d' a 0 (entL (mx a) as) [] h with
              | none => rw [hx] at ex; simp at ex
              | some o1 =>
                rw [hx] at ex
                obtain ⟨o1, h1⟩ := o1
                have m1 := exec_mo _ _ _ _ _ _ _ _ _ hx
                have hlen3 : len = 3 ∧ nx = pc + 3 := by
                  cases r <;> first | (simp [okI] at hok; done) | skip
                  all_goals (simp only [okI, Bool.and_eq_true] at hok)
                  all_goals (first | exact ⟨Nat.eq_of_beq_eq_true hok.1.1, Nat.eq_of_beq_eq_true hok.1.2⟩ | exact ⟨Nat.eq_of_beq_eq_true hok.1.1.1.1.1.1, Nat.eq_of_beq_eq_true hok.1.1.1.1.1.2⟩)
                obtain ⟨rfl, rfl⟩ := hlen3
                have m2 : MO h1 h' := by
                  rcases o1 with (_ | v) | x
                  · exact exec_mo _ _ _ _ _ _ _ _ _ ex
                  · exact exec_mo _ _ _ _ _ _ _ _ _ ex
                  · dsimp only at ex
                    cases hh : hnd m pc x.1 with
                    | none => rw [hh] at ex; cases ex; exact MO.rf
                    | some tg => rw [hh] at ex; exact exec_mo _ _ _ _ _ _ _ _ _ ex
                have le1 := m1.2.2.1
                have le2 := m2.2.2.1
                have le3 := m1.2.2.2
                have le4 := m2.2.2.2
                intro H locs lm hL hl hs hR hf ho T hT X
                obtain ⟨xs, ea, eb, ec⟩ := popn_spec _ _ _ _ _ hp
                rw [List.append_nil] at eb
                have hwas : WS h as := fun v hv => hs v (by rw [ea]; exact List.mem_append_left _ (by rw [eb] at hv; exact List.mem_reverse.mp hv))
                have hwre : WS h rest := fun v hv => hs v (by rw [ea]; exact List.mem_append_right _ hv)
                have hlas : as.length = b := by rw [eb, List.length_reverse, ec]
                obtain ⟨ha, hlen, vm₁, mk, X₁, hnamed, hstep⟩ := link_run C (lm := lm) X hT hR hd hok hp hwas hc3
                obtain ⟨y1, y2, y3, y4, y5, y6, y7⟩ := yM_ok a ha
                obtain ⟨mk', methk, ck, hn', hmk, hck, hby, hlo, hre, hlk, hexc, hsig⟩ := code_at ha (C.t _ (cw_ok a ha))
                cases hnamed.symm.trans hn'
                have hmk1 : vm₁.method? mk = some methk := by rw [← hmk]; exact X₁.warmed.alike.method? mk
                have hn1 : (T.setVm vm₁).methodNamed? (yM a) = some mk := X₁.named hnamed
                have hpk : (T.setVm vm₁).plainMethod mk := by
                  refine State.plainMethod.of_name fun q hq => ?_
                  obtain ⟨k', hk', hnm⟩ := className_of_methodNamed hn1
                  cases (show (T.setVm vm₁).vm.classes[mk.cls]? = some q from hq).symm.trans hk'
                  rw [hnm]
                  exact y2
                have hmr : (F0 mid pc lm (rest.map (cv ad))).monitorRoom = 0 := rfl
                have hsr : ((F0 mid pc lm (rest.map (cv ad))).stack.map fun v => v.category).sum = catS rest := catS_map rest
                obtain ⟨Y, hent⟩ := X₁.into (g := F0 mid pc lm (rest.map (cv ad))) rfl (by rw [C.ml]; exact hL.1) (ig := r) (len := 3) (by rw [C.b]; exact hd) (as.map (cv ad)).toArray (R' := { frames := d' + 8, cells := hZ h1 - hZ h, slots := hS h1 - hS h, locals := 64 * d' + 300 }) hmk1 hck hlk hpk (by dsimp only; omega) (by rw [hmr, hsr, hlo]; dsimp only; omega) (by dsimp only; omega) (by dsimp only; omega)
                have hWs : s00.WarmedH vm₁ := State.WarmedH.trans C.warm X₁.warmed
                have hheap : ((T.setVm vm₁).calling (F0 mid pc lm (rest.map (cv ad))) mk (as.map (cv ad)).toArray).heap = H := hT
                have C' : CX s00 D cA a p e ((T.setVm vm₁).calling (F0 mid pc lm (rest.map (cv ad))) mk (as.map (cv ad)).toArray) mk (as.map (cv ad)).toArray methk ck := by
                  refine ⟨C.x, hby, hlo, hre, hlk, ?_, (name_of_methodNamed hnamed hmk).1, hWs, tb_at hz.1 hWs (fun q hq => by rw [hheap]; exact hR.2.2.1 q hq), va_K.moved X₁.warmed.alike C.K, hexc, C.tr⟩
                  rw [← y1]
                  exact findClass_of_methodNamed hn1
                have hag1 : AG ad h1 := hag.dn m2
                have G := ih d' a 0 (entL (mx a) as) [] h o1 h1 hx hag1 e { frames := d' + 8, cells := hZ h1 - hZ h, slots := hS h1 - hS h, locals := 64 * d' + 300 } _ mk (as.map (cv ad)).toArray (.java (F0 mid pc lm (rest.map (cv ad))) :: below) methk ck h C' (by rw [hheap]; exact hR.1) (fun q hq => by rw [hheap]; exact hR.2.2.1 q hq) (Nat.le_refl _) (Nat.le_refl _) (Nat.le_refl _) (Nat.le_refl _) (Nat.le_refl _) (Nat.le_refl _)
                have hone := cat_one as (by rw [hc2, hlas])
                have hle : as.length ≤ mx a := by rw [hlen]; exact y6
                have K := G H [] _ (ent_lr hone hle) (ent_wl hwas hle) (fun v hv => by cases hv) hR (fun q hq => by cases hq) (fun _ => ⟨hheap.symm, rfl⟩)
                rw [Nat.sub_self, Nat.sub_self] at K
                have e0 : entryFrame mk (as.map (cv ad)).toArray ck.maxLocals = F0 mk 0 ((lg_sl (as.map (cv ad)) ++ List.replicate (mx a - (lg_sl (as.map (cv ad))).length) Slot.unset).toArray) [] := by rw [hlo]; exact lg_entry_eq mk (as.map (cv ad)) (mx a)
                obtain ⟨t, hsteps, z, hrun, hend, hOR, hWO, hRP, hWm, L, hsame, hLb⟩ := K _ (by exact hT) Y
                have hgo : ∀ acts, Steps p.tables e below (doInvoke e ((T.setVm vm₁).setTop (F0 mid pc lm (rest.map (cv ad)))) acts mk (as.map (cv ad)).toArray).1 t := by
                  intro acts
                  rw [hent acts, congrArg (State.setTop _) e0]
                  exact steps_weak (mid := [.java (F0 mid pc lm (rest.map (cv ad)))]) hsteps
                have hfL : ∀ q ∈ locs ++ L, s00.heap.size ≤ q.base := fun q hq => by
                  rcases List.mem_append.mp hq with w | w
                  · exact hf q w
                  · exact hLb q w
                have ecell : hZ h - hZ h0 + (hZ h1 - hZ h) = hZ h1 - hZ h0 := by omega
                have eslot : hS h - hS h0 + (hS h1 - hS h) = hS h1 - hS h0 := by omega
                rcases o1 with (_ | v) | x
                · obtain rfl : z = .returned none := hOR
                  obtain ⟨T', X', hW2, hsm, ht⟩ := X₁.outOf (g := F0 mid pc lm (rest.map (cv ad))) rfl (ig := r) (len := 3) (by rw [C.b]; exact hd) hend hWm hsame
                  rw [ecell, eslot] at X'
                  have hth : t.heap = T'.heap := by rw [ht]; rfl
                  have G2 := ih (d' + 1) m (pc + 3) ls rest h1 o h' ex hag e R s mid args below meth c h0 C hs0 hsh (by omega) (by omega) hrf hrl hrc hrs
                  obtain ⟨t2, st2, q2⟩ := G2 T'.heap (locs ++ L) lm hL (hl.up m1.1) (hwre.up m1.1) (by rw [← hth]; exact hRP) hfL (nro hro) T' rfl X'
                  refine ⟨t2, hstep _ (fun acts => (hgo acts).trans ?_), q2⟩
                  rw [ht]
                  exact st2
                · obtain rfl : z = .returned (some (cv ad v)) := hOR
                  obtain ⟨T', X', hW2, hsm, ht⟩ := X₁.outOf (g := F0 mid pc lm (rest.map (cv ad))) rfl (ig := r) (len := 3) (by rw [C.b]; exact hd) hend hWm hsame
                  rw [ecell, eslot] at X'
                  have hth : t.heap = T'.heap := by rw [ht]; rfl
                  have G2 := ih (d' + 1) m (pc + 3) ls (v :: rest) h1 o h' ex hag e R s mid args below meth c h0 C hs0 hsh (by omega) (by omega) hrf hrl hrc hrs
                  obtain ⟨t2, st2, q2⟩ := G2 T'.heap (locs ++ L) lm hL (hl.up m1.1) (.cons hWO.1 (hwre.up m1.1)) (by rw [← hth]; exact hRP) hfL (nro hro) T' rfl X'
                  refine ⟨t2, hstep _ (fun acts => (hgo acts).trans ?_), q2⟩
                  rw [ht]
                  exact st2
                · obtain rfl : z = .threw (ad x) := hOR
                  obtain ⟨T', X', hW2, hsm, ht⟩ := X₁.outOfThrown (g := F0 mid pc lm (rest.map (cv ad))) rfl hend hWm hsame
                  rw [ecell, eslot] at X'
                  have hth : t.heap = T'.heap := by rw [ht]; exact Stand.throwing_heap T' _ _
                  have hRP' : RP s00 D cA ad h1 T'.heap := by rw [← hth]; exact hRP
                  obtain ⟨k, i⟩ := x
                  have hWO2 : (12 ≤ k ∧ k < 15) ∧ i < hC h1 k := hWO
                  obtain ⟨hk, hik⟩ := id hWO2
                  obtain ⟨-, hcr⟩ := hRP'.2.2.2.2.1 k i hk.2 hik
                  obtain ⟨ce, c1, c2, c3⟩ := hcr.2.2.2.2 hk
                  have hpl : e.platform.magicAccessors = ({} : Platform).magicAccessors := by rw [X.admits.platform]
                  obtain ⟨hh1, hh2⟩ := hh_of m hm
                  have hvm : ((T'.setTop (F0 mid pc lm (rest.map (cv ad)))).pushFrame (.throwing (ad (k, i)))).vm = T'.vm := Stand.throwing_vm T' _ _
                  have hhe : ((T'.setTop (F0 mid pc lm (rest.map (cv ad)))).pushFrame (.throwing (ad (k, i)))).heap = T'.heap := Stand.throwing_heap T' _ _
                  obtain ⟨vm', g1, g2⟩ := go_h hz C hpl (f := F0 mid pc lm (rest.map (cv ad))) rfl (a := ad (k, i)) hk c2 c3 (hndT m) hh2 ((T'.setTop (F0 mid pc lm (rest.map (cv ad)))).pushFrame (.throwing (ad (k, i)))) (by rw [hvm]; exact X'.warmed) (by rw [hhe]; exact c1)
                  have hfi : Fi2 e ((T'.setTop (F0 mid pc lm (rest.map (cv ad)))).pushFrame (.throwing (ad (k, i)))) (F0 mid pc lm (rest.map (cv ad))) (ad (k, i)) (hdO (hnd m pc k)) vm' := by
                    intro Q E d acts
                    rw [Jvm.W.findHandler_eq (meth := meth) (code := c) (by rw [hvm]; exact X'.method') X'.code, C.ex, hh1]
                    exact g2 Q E d acts
                  dsimp only at ex
                  cases hh : hnd m pc k with
                  | none =>
                    rw [hh] at ex hfi
                    cases ex
                    obtain ⟨w1, w2, w3, w4, w5⟩ := left2 X' C.lk (a := ad (k, i)) (g := F0 mid pc lm (rest.map (cv ad))) rfl rfl rfl g1 hfi
                    refine ⟨_, hstep _ (fun acts => (hgo acts).trans ?_), .threw (ad (k, i)), w2, w3, rfl, hWO2, hRP', w4, locs ++ L, w5, hfL⟩
                    rw [ht]
                    exact w1
                  | some tg =>
                    rw [hh] at ex hfi
                    obtain ⟨X2, w1⟩ := caught2 X' (a := ad (k, i)) (g := F0 mid pc lm (rest.map (cv ad))) rfl g1 hfi
                    have G2 := ih (d' + 1) m tg ls [.inr (.inr (some (k, i)))] h1 o h' ex hag e R s mid args below meth c h0 C hs0 hsh (by omega) (by omega) hrf hrl hrc hrs
                    obtain ⟨t2, st2, q2⟩ := G2 T'.heap (locs ++ L) lm hL (hl.up m1.1) (.cons (fun k' i' hz' => by cases hz'; exact Or.inl ⟨hk.2, hik⟩) (fun v hv => by cases hv)) hRP' hfL (nro hro) (T'.setVm vm') rfl X2
                    refine ⟨t2, hstep _ (fun acts => (hgo acts).trans ?_), q2⟩
                    rw [ht]
                    exact w1 t2 st2
      | false =>
        rw [h40] at ex
        simp only [cond_false] at ex
        cases h44 : (Nat.ble 44 op && Nat.ble op 48) with
        | true =>
          rw [h44] at ex
          exact end_ok hz C (i := (op, a, b, cc, nx)) hm hro2 hd hok h44 ex (by omega) (by omega) hrc hrs (ad_of hag MO.rf (end_na ex)) hs0 hz0 hs1 hsh
        | false =>
          rw [h44] at ex
          simp only [cond_false] at ex
          cases hs : stepI (op, a, b, cc, nx) ls st h with
          | none => rw [hs] at ex; simp at ex
          | some q =>
            rw [hs] at ex
            obtain ⟨q1, q2, q3, q4⟩ := q
            have m1 := step_mo hs
            have m2 := exec_mo _ _ _ _ _ _ _ _ _ ex
            have le1 := m1.2.2.1
            have le2 := m2.2.2.1
            have le3 := m1.2.2.2
            have le4 := m2.2.2.2
            have ecell : hZ h - hZ h0 + (hZ q4 - hZ h) = hZ q4 - hZ h0 := by omega
            have eslot : hS h - hS h0 + (hS q4 - hS h) = hS q4 - hS h0 := by omega
            refine st_ok C (i := (op, a, b, cc, nx)) hm hro1 hd hok hs (by omega) (by omega) (by omega) (by omega) (ad_of hag m2 (step_na hs)) ?_
            rw [ecell, eslot]
            exact ih d m q1 q2 q3 q4 o h' ex hag e R s mid args below meth c h0 C hs0 hsh (by omega) (by omega) hrf hrl hrc hrs
end
section
-- RULES FOR THE PURE WALKS
theorem wp_cc {d m pc : Nat} {ls : AL} {st : List AV} {h : AH} {Q : Oc → AH → Prop} {mi nx : Nat} {as rest : List AV} (e : callQ m pc st = some (mi, nx, as, rest)) (hd : 0 < d) (k : WP (d - 1) mi 0 (entL (mx mi) as) [] h (wpB d m pc nx ls rest Q)) : WP d m pc ls st h Q := wp_c e hd k (fun _ _ q => q)
theorem cl_nI {j N : Nat} (h : j < N) (hN : N ≤ 1000000) : ¬ (nI j < 0 ∨ N ≤ (nI j).toNatClampNeg) := nI_in h (by omega)
theorem tn_nI {j : Nat} (h : j < 1000000) : (nI j).toNatClampNeg = j := nI_clamp (by omega)
theorem kL_le {h : AH} {k : Nat} (hk : k < 12) : kL h k ≤ 20 := by
  rcases (show k = 0 ∨ k = 1 ∨ k = 2 ∨ k = 3 ∨ k = 4 ∨ k = 5 ∨ k = 6 ∨ k = 7 ∨ k = 8 ∨ k = 9 ∨ k = 10 ∨ k = 11 by omega) with rfl | rfl | rfl | rfl | rfl | rfl | rfl | rfl | rfl | rfl | rfl | rfl <;> exact Nat.le_of_ble_eq_true rfl
section WPA
variable {d m pc nx a b i j k : Nat} {c : Int32} {ls : AL} {st : List AV} {h : AH} {Q : Oc → AH → Prop}
theorem st_aald : stepI (35, a, b, c, nx) ls st h = x_aald nx ls st h := rfl
theorem st_iald : stepI (31, a, b, c, nx) ls st h = x_iald nx ls st h := rfl
theorem st_zald : stepI (33, a, b, c, nx) ls st h = x_zald nx ls st h := rfl
theorem st_lald : stepI (37, a, b, c, nx) ls st h = x_lald nx ls st h := rfl
theorem st_last : stepI (38, a, b, c, nx) ls st h = x_last nx ls st h := rfl
theorem st_iast : stepI (32, a, b, c, nx) ls st h = x_iast nx ls st h := rfl
theorem st_zast : stepI (34, a, b, c, nx) ls st h = x_zast nx ls st h := rfl
theorem st_aast : stepI (36, a, b, c, nx) ls st h = x_aast nx ls st h := rfl
theorem st_div : stepI (10, a, b, c, nx) ls st h = x_div nx ls st h := rfl
theorem st_rem : stepI (11, a, b, c, nx) ls st h = x_rem nx ls st h := rfl
theorem st_putZ : stepI (27, a, b, c, nx) ls st h = x_putZ a b nx ls st h := rfl
theorem step_of {op : Nat} {x : Option Nx} (hi : ins m pc = some (op, a, b, c, nx)) (h1 : Nat.beq op 40 = false) (h2 : (Nat.ble 44 op && Nat.ble op 48) = false) (hx : stepI (op, a, b, c, nx) ls st h = x) : stepQ m pc ls st h = x := by
  unfold stepQ
  rw [hi]
  dsimp only
  rw [h1, h2]
  exact hx
theorem wp_aald (hi : ins m pc = some (35, a, b, c, nx)) (hk : (Nat.beq k 5 || Nat.beq k 6) = true) (hj : j < kL h k) (kk : WP d m nx ls (.inr (.inr (hA h k i j)) :: st) h Q) : WP d m pc ls (.inl (nI j) :: .inr (.inr (some (k, i))) :: st) h Q := by
  have hl : kL h k ≤ 20 := kL_le (by
    simp only [Bool.or_eq_true] at hk
    rcases hk with q | q <;> (have := Nat.eq_of_beq_eq_true q; omega))
  refine wp_s (step_of hi rfl rfl ?_) kk
  rw [st_aald]
  unfold x_aald
  dsimp only
  rw [hk, if_neg (cl_nI hj (by omega)), tn_nI (by omega)]
  rfl
theorem wp_iald (hi : ins m pc = some (31, a, b, c, nx)) (hk : isInts k = true) (hk2 : k < 12) (hj : j < kL h k) (kk : WP d m nx ls (.inl (hI h k i j) :: st) h Q) : WP d m pc ls (.inl (nI j) :: .inr (.inr (some (k, i))) :: st) h Q := by
  have hl : kL h k ≤ 20 := kL_le hk2
  refine wp_s (step_of hi rfl rfl ?_) kk
  rw [st_iald]
  unfold x_iald
  dsimp only
  rw [hk, if_neg (cl_nI hj (by omega)), tn_nI (by omega)]
  rfl
theorem wp_sald (hi : ins m pc = some (31, a, b, c, nx)) (hj : j < hC h 16) (hl : hC h 16 ≤ 2560) (kk : WP d m nx ls (.inl (hI h 15 i j) :: st) h Q) : WP d m pc ls (.inl (nI j) :: .inr (.inr (some (15, i))) :: st) h Q := by
  refine wp_s (step_of hi rfl rfl ?_) kk
  rw [st_iald]
  unfold x_iald
  dsimp only
  rw [show isInts 15 = true from rfl, if_neg (cl_nI (N := kL h 15) hj (by show hC h 16 ≤ _; omega)), tn_nI (by omega)]
  rfl
theorem wp_zald (hi : ins m pc = some (33, a, b, c, nx)) (hj : j < 6) (kk : WP d m nx ls (.inl (hI h 10 i j) :: st) h Q) : WP d m pc ls (.inl (nI j) :: .inr (.inr (some (10, i))) :: st) h Q := by
  refine wp_s (step_of hi rfl rfl ?_) kk
  rw [st_zald]
  unfold x_zald
  dsimp only
  rw [show Nat.beq 10 10 = true from rfl, if_neg (cl_nI (N := kL h 10) hj (by show 6 ≤ _; omega)), tn_nI (by omega)]
  rfl
theorem wp_lald (hi : ins m pc = some (37, a, b, c, nx)) (kk : WP d m nx ls (.inr (.inl (hJ h 11 i 0)) :: st) h Q) : WP d m pc ls (.inl 0 :: .inr (.inr (some (11, i))) :: st) h Q := by
  refine wp_s (step_of hi rfl rfl ?_) kk
  rw [st_lald]
  unfold x_lald
  dsimp only
  rw [show Nat.beq 11 11 = true from rfl, if_neg (by rw [show kL h 11 = 1 from rfl]; decide)]
  rfl
theorem wp_last {x : Int64} (hi : ins m pc = some (38, a, b, c, nx)) (kk : WP d m nx ls st (sJ h 11 i 0 x) Q) : WP d m pc ls (.inr (.inl x) :: .inl 0 :: .inr (.inr (some (11, i))) :: st) h Q := by
  refine wp_s (step_of hi rfl rfl ?_) kk
  rw [st_last]
  unfold x_last
  dsimp only
  rw [show Nat.beq 11 11 = true from rfl, if_neg (by rw [show kL h 11 = 1 from rfl]; decide)]
  rfl
theorem wp_iast {x : Int32} (hi : ins m pc = some (32, a, b, c, nx)) (hk : (isInts k && !Nat.beq k 15) = true) (hk2 : k < 12) (hj : j < kL h k) (kk : WP d m nx ls st (sI h k i j x) Q) : WP d m pc ls (.inl x :: .inl (nI j) :: .inr (.inr (some (k, i))) :: st) h Q := by
  have hl : kL h k ≤ 20 := kL_le hk2
  refine wp_s (step_of hi rfl rfl ?_) kk
  rw [st_iast]
  unfold x_iast
  dsimp only
  rw [hk, if_neg (cl_nI hj (by omega)), tn_nI (by omega)]
  rfl
theorem wp_zast {x : Int32} (hi : ins m pc = some (34, a, b, c, nx)) (hj : j < 6) (hx : x = 0 ∨ x = 1) (kk : WP d m nx ls st (sI h 10 i j x) Q) : WP d m pc ls (.inl x :: .inl (nI j) :: .inr (.inr (some (10, i))) :: st) h Q := by
  refine wp_s (step_of hi rfl rfl ?_) kk
  rw [st_zast]
  unfold x_zast
  dsimp only
  rw [show Nat.beq 10 10 = true from rfl, if_neg (fun z => by rcases z with z | z; exact cl_nI (N := kL h 10) hj (by show 6 ≤ _; omega) z; exact z hx), tn_nI (by omega)]
  rfl
theorem wp_aast {k2 i2 : Nat} (hi : ins m pc = some (36, a, b, c, nx)) (hk : Nat.beq k2 (kE k) = true) (hk2 : k < 12) (hj : j < kL h k) (kk : WP d m nx ls st (sA h k i j (some (k2, i2))) Q) : WP d m pc ls (.inr (.inr (some (k2, i2))) :: .inl (nI j) :: .inr (.inr (some (k, i))) :: st) h Q := by
  have hl : kL h k ≤ 20 := kL_le hk2
  refine wp_s (step_of hi rfl rfl ?_) kk
  rw [st_aast]
  unfold x_aast
  dsimp only
  rw [hk, if_neg (cl_nI hj (by omega)), tn_nI (by omega)]
  rfl
theorem wp_putZ {x : Int32} (hi : ins m pc = some (27, k, b, c, nx)) (hx : x = 0 ∨ x = 1) (kk : WP d m nx ls st (sI h k i b x) Q) : WP d m pc ls (.inl x :: .inr (.inr (some (k, i))) :: st) h Q := by
  refine wp_s (step_of hi rfl rfl ?_) kk
  rw [st_putZ]
  unfold x_putZ
  dsimp only
  rw [Nat.beq_refl, if_pos hx]
  rfl
theorem wp_zret {x : Int32} (hi : ins m pc = some (45, a, b, c, nx)) (hx : x = 0 ∨ x = 1) (kk : Q (.inl (some (.inl x))) h) : WP d m pc ls [.inl x] h Q := by
  refine wp_e (o := .inl (some (.inl x))) (h' := h) ?_ kk
  unfold endQ
  rw [hi]
  show (if x = 0 ∨ x = 1 then some (Sum.inl (some (Sum.inl x)), h) else none) = _
  rw [if_pos hx]
theorem wp_div {x y : Int32} (hi : ins m pc = some (10, a, b, c, nx)) (hy : ¬ y = 0) (kk : WP d m nx ls (.inl (x / y) :: st) h Q) : WP d m pc ls (.inl y :: .inl x :: st) h Q := by
  refine wp_s (step_of hi rfl rfl ?_) kk
  rw [st_div]
  unfold x_div
  dsimp only
  rw [if_neg hy]
theorem wp_rem {x y : Int32} (hi : ins m pc = some (11, a, b, c, nx)) (hy : ¬ y = 0) (kk : WP d m nx ls (.inl (x - x / y * y) :: st) h Q) : WP d m pc ls (.inl y :: .inl x :: st) h Q := by
  refine wp_s (step_of hi rfl rfl ?_) kk
  rw [st_rem]
  unfold x_rem
  dsimp only
  rw [if_neg hy]
end WPA
-- small numbers
def B01 (b : Bool) : Int32 := if b then 1 else 0
theorem B01_or (b : Bool) : B01 b = 0 ∨ B01 b = 1 := by cases b <;> decide
theorem B01_t : B01 true = 1 := rfl
theorem B01_f : B01 false = 0 := rfl
theorem B01_eq0 {b : Bool} : B01 b = 0 ↔ b = false := by cases b <;> decide
theorem B01_ne0 {b : Bool} : ¬ B01 b = 0 ↔ b = true := by cases b <;> decide
end
section
-- THE CONFIGURATION: persons, tasks, spans; skills, needs, froms, tos, always; spans (person, from, to); rest, limit, frozen
abbrev Cf : Type := Nat × Nat × Nat × (Nat → Int32) × (Nat → Int32) × (Nat → Nat) × (Nat → Nat) × (Nat → Bool) × (Nat → Nat × Int32 × Int32) × Nat × Nat × Nat
abbrev Pl : Type := Nat → Option Nat
def cP (c : Cf) : Nat := c.1
def cN (c : Cf) : Nat := c.2.1
def cS (c : Cf) : Nat := c.2.2.1
def cK (c : Cf) : Nat → Int32 := c.2.2.2.1
def cD (c : Cf) : Nat → Int32 := c.2.2.2.2.1
def cA (c : Cf) : Nat → Nat := c.2.2.2.2.2.1
def cZ (c : Cf) : Nat → Nat := c.2.2.2.2.2.2.1
def cY (c : Cf) : Nat → Bool := c.2.2.2.2.2.2.2.1
def cO (c : Cf) : Nat → Nat × Int32 × Int32 := c.2.2.2.2.2.2.2.2.1
def cR (c : Cf) : Nat := c.2.2.2.2.2.2.2.2.2.1
def cL (c : Cf) : Nat := c.2.2.2.2.2.2.2.2.2.2.1
def cF (c : Cf) : Nat := c.2.2.2.2.2.2.2.2.2.2.2
def Wf (c : Cf) : Prop := cP c ≤ 4 ∧ cN c ≤ 6 ∧ cS c ≤ 20 ∧ (∀ t, t < cN c → cA c t < cZ c t ∧ cZ c t ≤ 96) ∧ cR c ≤ 96 ∧ cL c ≤ 96 ∧ cF c ≤ 96
def bit (c : Cf) (p t : Nat) : Int32 := cK c p >>> (cD c t &&& 31) &&& 1
/-- a span meets a task -/
def lap (c : Cf) (x : Int32 × Int32) (t : Nat) : Bool := decide (x.1 < nI (cZ c t)) && decide (nI (cA c t) < x.2)
def near (c : Cf) (a b : Nat) : Bool := decide (cA c b < cZ c a + cR c) && decide (cA c a < cZ c b + cR c)
def suitP (c : Cf) (p t : Nat) : Prop := ¬ bit c p t = 0 ∧ ∀ s, s < cS c → (cO c s).1 = p → lap c (cO c s).2 t = false
def oR : Option Nat → Option (Nat × Nat)
  | none => none
  | some p => some (1, p)
def oI : Option Nat → Int32
  | none => -1
  | some p => nI p
def Ch (h : AH) : Option (Nat × Nat) → List (Int32 × Int32) → Prop
  | r, [] => r = none
  | r, x :: l => ∃ i, r = some (3, i) ∧ i < hC h 3 ∧ hI h 3 i 0 = x.1 ∧ hI h 3 i 1 = x.2 ∧ Ch h (hA h 3 i 2) l
/-- the class: what there is -/
def RG (c : Cf) (pl : Pl) (h : AH) : Prop :=
  (hA h 0 0 0 = some (5, 0) ∧ hA h 0 0 1 = some (6, 0) ∧ hA h 0 0 2 = some (8, 0)) ∧
  (hI h 0 0 3 = nI (cP c) ∧ hI h 0 0 4 = nI (cN c) ∧ hI h 0 0 7 = nI (cR c) ∧ hI h 0 0 8 = nI (cF c) ∧ hI h 0 0 9 = nI (cL c)) ∧
  (∀ p, p < cP c → hA h 5 0 p = some (1, p) ∧ hI h 1 p 0 = nI p ∧ hI h 1 p 1 = cK c p ∧ hA h 1 p 3 = some (6, p + 1) ∧ ∃ l, Ch h (hA h 1 p 2) l ∧ ∀ x, x ∈ l ↔ ∃ s, s < cS c ∧ cO c s = (p, x)) ∧
  (∀ t, t < cN c → hA h 6 0 t = some (2, t) ∧ hI h 2 t 0 = cD c t ∧ hI h 2 t 1 = nI (cA c t) ∧ hI h 2 t 2 = nI (cZ c t) ∧ hI h 2 t 3 = B01 (cY c t) ∧ hA h 2 t 4 = oR (pl t))
section RGS
variable {c : Cf} {pl : Pl} {h : AH}
theorem RG_a0 (g : RG c pl h) : hA h 0 0 0 = some (5, 0) := g.1.1
theorem RG_a1 (g : RG c pl h) : hA h 0 0 1 = some (6, 0) := g.1.2.1
theorem RG_a2 (g : RG c pl h) : hA h 0 0 2 = some (8, 0) := g.1.2.2
theorem RG_P (g : RG c pl h) : hI h 0 0 3 = nI (cP c) := g.2.1.1
theorem RG_N (g : RG c pl h) : hI h 0 0 4 = nI (cN c) := g.2.1.2.1
theorem RG_R (g : RG c pl h) : hI h 0 0 7 = nI (cR c) := g.2.1.2.2.1
theorem RG_F (g : RG c pl h) : hI h 0 0 8 = nI (cF c) := g.2.1.2.2.2.1
theorem RG_L (g : RG c pl h) : hI h 0 0 9 = nI (cL c) := g.2.1.2.2.2.2
theorem RG_p (g : RG c pl h) {p : Nat} (hp : p < cP c) : hA h 5 0 p = some (1, p) := (g.2.2.1 p hp).1
theorem RG_pn (g : RG c pl h) {p : Nat} (hp : p < cP c) : hI h 1 p 0 = nI p := (g.2.2.1 p hp).2.1
theorem RG_pk (g : RG c pl h) {p : Nat} (hp : p < cP c) : hI h 1 p 1 = cK c p := (g.2.2.1 p hp).2.2.1
theorem RG_pa (g : RG c pl h) {p : Nat} (hp : p < cP c) : hA h 1 p 3 = some (6, p + 1) := (g.2.2.1 p hp).2.2.2.1
theorem RG_pc (g : RG c pl h) {p : Nat} (hp : p < cP c) : ∃ l, Ch h (hA h 1 p 2) l ∧ ∀ x, x ∈ l ↔ ∃ s, s < cS c ∧ cO c s = (p, x) := (g.2.2.1 p hp).2.2.2.2
theorem RG_t (g : RG c pl h) {t : Nat} (ht : t < cN c) : hA h 6 0 t = some (2, t) := (g.2.2.2 t ht).1
theorem RG_tD (g : RG c pl h) {t : Nat} (ht : t < cN c) : hI h 2 t 0 = cD c t := (g.2.2.2 t ht).2.1
theorem RG_tA (g : RG c pl h) {t : Nat} (ht : t < cN c) : hI h 2 t 1 = nI (cA c t) := (g.2.2.2 t ht).2.2.1
theorem RG_tZ (g : RG c pl h) {t : Nat} (ht : t < cN c) : hI h 2 t 2 = nI (cZ c t) := (g.2.2.2 t ht).2.2.2.1
theorem RG_tY (g : RG c pl h) {t : Nat} (ht : t < cN c) : hI h 2 t 3 = B01 (cY c t) := (g.2.2.2 t ht).2.2.2.2.1
theorem RG_tw (g : RG c pl h) {t : Nat} (ht : t < cN c) : hA h 2 t 4 = oR (pl t) := (g.2.2.2 t ht).2.2.2.2.2
end RGS
section WFS
variable {c : Cf}
theorem Wf_P (w : Wf c) : cP c ≤ 4 := w.1
theorem Wf_N (w : Wf c) : cN c ≤ 6 := w.2.1
theorem Wf_S (w : Wf c) : cS c ≤ 20 := w.2.2.1
theorem Wf_t (w : Wf c) {t : Nat} (ht : t < cN c) : cA c t < cZ c t := (w.2.2.2.1 t ht).1
theorem Wf_z (w : Wf c) {t : Nat} (ht : t < cN c) : cZ c t ≤ 96 := (w.2.2.2.1 t ht).2
theorem Wf_R (w : Wf c) : cR c ≤ 96 := w.2.2.2.2.1
theorem Wf_L (w : Wf c) : cL c ≤ 96 := w.2.2.2.2.2.1
theorem Wf_F (w : Wf c) : cF c ≤ 96 := w.2.2.2.2.2.2
end WFS
abbrev vi (x : Int32) : AV := .inl x
abbrev vr (k i : Nat) : AV := .inr (.inr (some (k, i)))
abbrev vo (r : Option (Nat × Nat)) : AV := .inr (.inr r)
-- LEAVES
section LEAF
variable {d : Nat} {h : AH} {Q : Oc → AH → Prop} {x y : Int32} {b : Bool}
def bel (x y : Int32) : Bool := !decide (x < 0) && decide (x < y)
theorem S_exists (kt : b = true → Q (.inl none) h) (kf : b = false → Q (.inr (14, hC h 14)) (al h 14 6)) : WP d 1 0 [some (vi (B01 b))] [] h Q := by
  repeat refine wp_s rfl ?_
  refine br_ne (fun e => ?_) (fun e => ?_)
  · exact wp_e rfl (kt (B01_ne0.1 e))
  · exact wp_e rfl (kf (B01_eq0.1 e))
theorem S_allow (kt : b = true → Q (.inl none) h) (kf : b = false → Q (.inr (12, hC h 12)) (al h 12 6)) : WP d 2 0 [some (vi (B01 b))] [] h Q := by
  repeat refine wp_s rfl ?_
  refine br_ne (fun e => ?_) (fun e => ?_)
  · exact wp_e rfl (kt (B01_ne0.1 e))
  · exact wp_e rfl (kf (B01_eq0.1 e))
theorem S_must (kt : b = true → Q (.inl none) h) (kf : b = false → Q (.inr (13, hC h 13)) (al h 13 6)) : WP d 3 0 [some (vi (B01 b))] [] h Q := by
  repeat refine wp_s rfl ?_
  refine br_ne (fun e => ?_) (fun e => ?_)
  · exact wp_e rfl (kt (B01_ne0.1 e))
  · exact wp_e rfl (kf (B01_eq0.1 e))
theorem S_below (k : Q (.inl (some (vi (B01 (bel x y))))) h) : WP d 4 0 [some (vi x), some (vi y)] [] h Q := by
  repeat refine wp_s rfl ?_
  refine br_lt (fun e => ?_) (fun e => ?_)
  · repeat refine wp_s rfl ?_
    refine wp_e rfl ?_
    rw [show bel x y = false by simp [bel, e]] at k
    exact k
  repeat refine wp_s rfl ?_
  refine br_ge (fun e2 => ?_) (fun e2 => ?_)
  · repeat refine wp_s rfl ?_
    refine wp_e rfl ?_
    rw [show bel x y = false by simp [bel, e, Int32.not_lt.2 e2]] at k
    exact k
  · repeat refine wp_s rfl ?_
    refine wp_e rfl ?_
    rw [show bel x y = true by simp [bel, e, Int32.not_le.1 e2]] at k
    exact k
end LEAF
end
section
-- MORE LEAVES
section LEAF2
variable {d : Nat} {h : AH} {Q : Oc → AH → Prop} {x y : Int32} {b : Bool} {c : Cf} {pl : Pl} {p t : Nat}
theorem k0 (k : Q (.inl (some (vi (B01 b)))) h) (e : b = false) : Q (.inl (some (vi 0))) h := by
  rw [e] at k
  exact k
theorem k1 (k : Q (.inl (some (vi (B01 b)))) h) (e : b = true) : Q (.inl (some (vi 1))) h := by
  rw [e] at k
  exact k
def spn (f t : Int32) : Bool := !decide (f < 0) && decide (f < t) && decide (t ≤ 96)
theorem S_isSpan (k : Q (.inl (some (vi (B01 (spn x y))))) h) : WP d 5 0 [some (vi x), some (vi y)] [] h Q := by
  repeat refine wp_s rfl ?_
  refine br_lt (fun e => ?_) (fun e => ?_)
  · repeat refine wp_s rfl ?_
    exact wp_e rfl (k0 k (by simp [spn, e]))
  repeat refine wp_s rfl ?_
  refine br_ge (fun e2 => ?_) (fun e2 => ?_)
  · repeat refine wp_s rfl ?_
    exact wp_e rfl (k0 k (by simp [spn, Int32.not_lt.2 e2]))
  repeat refine wp_s rfl ?_
  refine br_gt (fun e3 => ?_) (fun e3 => ?_)
  · repeat refine wp_s rfl ?_
    exact wp_e rfl (k0 k (by simp [spn, Int32.not_le.2 e3]))
  · repeat refine wp_s rfl ?_
    exact wp_e rfl (k1 k (by simp [spn, e, Int32.not_le.1 e2, Int32.not_lt.1 e3]))
theorem S_misSpan (k : Q (.inl (some (vi (B01 (spn x y))))) h) : WP d 43 0 [some (vi x), some (vi y)] [] h Q := by
  repeat refine wp_s rfl ?_
  refine br_lt (fun e => ?_) (fun e => ?_)
  · repeat refine wp_s rfl ?_
    exact wp_e rfl (k0 k (by simp [spn, e]))
  repeat refine wp_s rfl ?_
  refine br_ge (fun e2 => ?_) (fun e2 => ?_)
  · repeat refine wp_s rfl ?_
    exact wp_e rfl (k0 k (by simp [spn, Int32.not_lt.2 e2]))
  repeat refine wp_s rfl ?_
  refine br_gt (fun e3 => ?_) (fun e3 => ?_)
  · repeat refine wp_s rfl ?_
    exact wp_e rfl (k0 k (by simp [spn, Int32.not_le.2 e3]))
  · repeat refine wp_s rfl ?_
    exact wp_e rfl (k1 k (by simp [spn, e, Int32.not_le.1 e2, Int32.not_lt.1 e3]))
def wth (v lo hi : Int32) : Bool := !decide (v < lo) && decide (v ≤ hi)
theorem S_isLong (k : Q (.inl (some (vi (B01 (wth x 0 96))))) h) : WP d 11 0 [some (vi x)] [] h Q := by
  repeat refine wp_s rfl ?_
  refine br_lt (fun e => ?_) (fun e => ?_)
  · repeat refine wp_s rfl ?_
    exact wp_e rfl (k0 k (by simp [wth, e]))
  repeat refine wp_s rfl ?_
  refine br_gt (fun e3 => ?_) (fun e3 => ?_)
  · repeat refine wp_s rfl ?_
    exact wp_e rfl (k0 k (by simp [wth, Int32.not_le.2 e3]))
  · repeat refine wp_s rfl ?_
    exact wp_e rfl (k1 k (by simp [wth, e, Int32.not_lt.1 e3]))
theorem S_within {z : Int32} (k : Q (.inl (some (vi (B01 (wth x y z))))) h) : WP d 42 0 [some (vi x), some (vi y), some (vi z)] [] h Q := by
  repeat refine wp_s rfl ?_
  refine br_lt (fun e => ?_) (fun e => ?_)
  · repeat refine wp_s rfl ?_
    exact wp_e rfl (k0 k (by simp [wth, e]))
  repeat refine wp_s rfl ?_
  refine br_gt (fun e3 => ?_) (fun e3 => ?_)
  · repeat refine wp_s rfl ?_
    exact wp_e rfl (k0 k (by simp [wth, Int32.not_le.2 e3]))
  · repeat refine wp_s rfl ?_
    exact wp_e rfl (k1 k (by simp [wth, e, Int32.not_lt.1 e3]))
-- who, the
theorem bel_t {n : Nat} (hn : n < 1000000) (e : bel x (nI n) = true) : ∃ j, j < n ∧ x = nI j := by
  simp only [bel, Bool.and_eq_true, Bool.not_eq_true', decide_eq_false_iff_not, decide_eq_true_eq] at e
  rcases pk_ix x (n := n) (by omega) with q | q | q
  · exact absurd q e.1
  · exact absurd e.2 (Int32.not_lt.2 q)
  · exact q
theorem S_who (hd : 2 ≤ d) (w : Wf c) (g : RG c pl h) (kt : ∀ p, p < cP c → x = nI p → Q (.inl (some (vr 1 p))) h) (kf : bel x (nI (cP c)) = false → Q (.inr (14, hC h 14)) (al h 14 6)) : WP d 6 0 [some (vr 0 0), some (vi x)] [] h Q := by
  have wP := Wf_P w
  repeat refine wp_s rfl ?_
  rw [RG_P g]
  refine wp_cc rfl (by omega) (S_below ?_)
  refine wp_cc rfl (by omega) (S_exists (fun e => ?_) (fun e => ?_))
  · obtain ⟨p, hp, rfl⟩ := bel_t (by omega) e
    repeat refine wp_s rfl ?_
    rw [RG_a0 g]
    refine wp_aald rfl rfl (by show p < 4; omega) ?_
    rw [RG_p g hp]
    exact wp_e rfl (kt p hp rfl)
  · exact kf e
theorem S_the (hd : 2 ≤ d) (w : Wf c) (g : RG c pl h) (kt : ∀ t, t < cN c → x = nI t → Q (.inl (some (vr 2 t))) h) (kf : bel x (nI (cN c)) = false → Q (.inr (14, hC h 14)) (al h 14 6)) : WP d 7 0 [some (vr 0 0), some (vi x)] [] h Q := by
  have wN := Wf_N w
  repeat refine wp_s rfl ?_
  rw [RG_N g]
  refine wp_cc rfl (by omega) (S_below ?_)
  refine wp_cc rfl (by omega) (S_exists (fun e => ?_) (fun e => ?_))
  · obtain ⟨p, hp, rfl⟩ := bel_t (by omega) e
    repeat refine wp_s rfl ?_
    rw [RG_a1 g]
    refine wp_aald rfl rfl (by show p < 6; omega) ?_
    rw [RG_t g hp]
    exact wp_e rfl (kt p hp rfl)
  · exact kf e
-- tasks
def sz (c : Cf) (t : Nat) : Nat := cZ c t - cA c t
theorem near_nI (w : Wf c) {a b : Nat} (ha : a < cN c) (hb : b < cN c) : nI (cA c b) < nI (cZ c a) + nI (cR c) ↔ cA c b < cZ c a + cR c := by
  have := Wf_z w ha
  have := Wf_z w hb
  have := Wf_t w hb
  have := Wf_R w
  rw [nI_add, nI_ltI (by omega) (by omega)]
theorem S_tclear (w : Wf c) (g : RG c pl h) {a b : Nat} (ha : a < cN c) (hb : b < cN c) (k : Q (.inl (some (vi (B01 (!near c a b))))) h) : WP d 86 0 [some (vr 2 a), some (vr 2 b), some (vi (nI (cR c)))] [] h Q := by
  repeat refine wp_s rfl ?_
  rw [RG_tA g hb, RG_tZ g ha]
  refine br_ge (fun e => ?_) (fun e => ?_)
  · repeat refine wp_s rfl ?_
    have e' : ¬ cA c b < cZ c a + cR c := fun q => Int32.not_lt.2 e ((near_nI w ha hb).2 q)
    exact wp_e rfl (k1 k (by simp [near, e']))
  have e' : cA c b < cZ c a + cR c := (near_nI w ha hb).1 (Int32.not_le.1 e)
  repeat refine wp_s rfl ?_
  rw [RG_tA g ha, RG_tZ g hb]
  refine br_lt (fun e2 => ?_) (fun e2 => ?_)
  · repeat refine wp_s rfl ?_
    have e2' : cA c a < cZ c b + cR c := (near_nI w hb ha).1 e2
    exact wp_e rfl (k0 k (by simp [near, e', e2']))
  · repeat refine wp_s rfl ?_
    have e2' : ¬ cA c a < cZ c b + cR c := fun q => e2 ((near_nI w hb ha).2 q)
    exact wp_e rfl (k1 k (by simp [near, e2']))
theorem S_size (w : Wf c) (g : RG c pl h) (ht : t < cN c) (k : Q (.inl (some (vi (nI (sz c t))))) h) : WP d 87 0 [some (vr 2 t)] [] h Q := by
  repeat refine wp_s rfl ?_
  rw [RG_tA g ht, RG_tZ g ht, pk_sub (Nat.le_of_lt (Wf_t w ht))]
  exact wp_e rfl k
-- persons
theorem suits_loop (g : RG c pl h) (ht : t < cN c) : ∀ (l : List (Int32 × Int32)) (r : Option (Nat × Nat)), Ch h r l → ((∀ x, x ∈ l → lap c x t = false) → Q (.inl (some (vi 1))) h) → ((∃ x, x ∈ l ∧ lap c x t = true) → Q (.inl (some (vi 0))) h) → WP d 78 22 [some (vr 1 p), some (vr 2 t), some (vo r)] [vo r] h Q := by
  intro l
  induction l with
  | nil =>
    intro r hr kt kf
    rw [show r = none from hr]
    repeat refine wp_s rfl ?_
    exact wp_e rfl (kt (by simp))
  | cons x l ih =>
    intro r hr kt kf
    obtain ⟨i, rfl, -, h0, h1, h2⟩ := hr
    repeat refine wp_s rfl ?_
    rw [h0, RG_tZ g ht]
    refine br_ge (fun e => ?_) (fun e => ?_)
    · repeat refine wp_s rfl ?_
      refine ih _ h2 (fun q => kt ?_) (fun ⟨y, q1, q2⟩ => kf ⟨y, List.mem_cons_of_mem _ q1, q2⟩)
      intro y hy
      rcases List.mem_cons.1 hy with rfl | hy
      · simp [lap, Int32.not_lt.2 e]
      · exact q y hy
    repeat refine wp_s rfl ?_
    rw [h1, RG_tA g ht]
    refine br_ge (fun e2 => ?_) (fun e2 => ?_)
    · repeat refine wp_s rfl ?_
      refine ih _ h2 (fun q => kt ?_) (fun ⟨y, q1, q2⟩ => kf ⟨y, List.mem_cons_of_mem _ q1, q2⟩)
      intro y hy
      rcases List.mem_cons.1 hy with rfl | hy
      · simp [lap, Int32.not_lt.2 e2]
      · exact q y hy
    · repeat refine wp_s rfl ?_
      exact wp_e rfl (kf ⟨x, by simp, by simp [lap, Int32.not_le.1 e, Int32.not_le.1 e2]⟩)
theorem S_suits (g : RG c pl h) (hp : p < cP c) (ht : t < cN c) (kt : suitP c p t → Q (.inl (some (vi 1))) h) (kf : ¬ suitP c p t → Q (.inl (some (vi 0))) h) : WP d 78 0 [some (vr 1 p), some (vr 2 t), none] [] h Q := by
  repeat refine wp_s rfl ?_
  rw [RG_pk g hp, RG_tD g ht]
  refine br_ne (fun e => ?_) (fun e => ?_)
  · obtain ⟨l, hl, hm⟩ := RG_pc g hp
    repeat refine wp_s rfl ?_
    refine suits_loop g ht l _ hl (fun q => kt ⟨e, fun s hs he => ?_⟩) (fun ⟨x, q1, q2⟩ => kf (fun q => ?_))
    · exact q _ ((hm _).2 ⟨s, hs, by rw [← he]⟩)
    · obtain ⟨s, hs, he⟩ := (hm x).1 q1
      have := q.2 s hs (by rw [he])
      rw [he] at this
      simp [q2] at this
  · repeat refine wp_s rfl ?_
    exact wp_e rfl (kf (fun q => q.1 e))
end LEAF2
end
section
-- THE PLAIN LAW OF THE SEARCH
def sumN : Nat → (Nat → Nat) → Nat
  | 0, _ => 0
  | n + 1, F => sumN n F + F n
theorem sumN_congr {F G : Nat → Nat} : ∀ {n : Nat}, (∀ j, j < n → F j = G j) → sumN n F = sumN n G
  | 0, _ => rfl
  | n + 1, h => by
    show sumN n F + F n = sumN n G + G n
    rw [sumN_congr (fun j hj => h j (by omega)), h n (by omega)]
theorem sumN_le {F G : Nat → Nat} : ∀ {n : Nat}, (∀ j, j < n → F j ≤ G j) → sumN n F ≤ sumN n G
  | 0, _ => Nat.le_refl _
  | n + 1, h => Nat.add_le_add (sumN_le (fun j hj => h j (by omega))) (h n (by omega))
theorem sumN_bump {F G : Nat → Nat} {p a : Nat} : ∀ {n : Nat}, p < n → G p = F p + a → (∀ j, j < n → j ≠ p → G j = F j) → sumN n G = sumN n F + a
  | 0, h, _, _ => absurd h (by omega)
  | n + 1, h, hp, ho => by
    show sumN n G + G n = sumN n F + F n + a
    by_cases e : p = n
    · subst e
      rw [sumN_congr (fun j hj => ho j (by omega) (by omega)), hp]
      omega
    · rw [sumN_bump (n := n) (by omega) hp (fun j hj hn => ho j (by omega) hn), ho n (by omega) (by omega)]
      omega
theorem sumN_bd {F : Nat → Nat} {a : Nat} : ∀ {n : Nat}, (∀ j, j < n → F j ≤ a) → sumN n F ≤ n * a
  | 0, _ => Nat.zero_le _
  | n + 1, h => by
    have := sumN_bd (n := n) (fun j hj => h j (by omega))
    have := h n (by omega)
    show sumN n F + F n ≤ _
    rw [Nat.add_mul]
    omega
theorem sumN_add {F G : Nat → Nat} : ∀ {n : Nat}, sumN n (fun j => F j + G j) = sumN n F + sumN n G
  | 0 => rfl
  | n + 1 => by
    show sumN n (fun j => F j + G j) + (F n + G n) = (sumN n F + F n) + (sumN n G + G n)
    rw [sumN_add]
    omega
theorem sumN_mul {F : Nat → Nat} {a : Nat} : ∀ {n : Nat}, sumN n (fun j => a * F j) = a * sumN n F
  | 0 => rfl
  | n + 1 => by
    show sumN n (fun j => a * F j) + a * F n = a * (sumN n F + F n)
    rw [sumN_mul, Nat.mul_add]
-- the best of the first M
def Opt (V : Nat → Prop) (W : Nat → Nat) (M : Nat) : Option Nat → Prop
  | none => ∀ n, n < M → ¬ V n
  | some b => b < M ∧ V b ∧ ∀ n, n < M → V n → W b < W n ∨ (W b = W n ∧ b ≤ n)
section OPT
variable {V : Nat → Prop} {W : Nat → Nat} {M M' : Nat} {o o' : Option Nat}
theorem opt_ext (a : Opt V W M o) (hM : M ≤ M') (hn : ∀ n, M ≤ n → n < M' → V n → ∃ b, o = some b ∧ W b ≤ W n) : Opt V W M' o := by
  cases o with
  | none =>
    intro n h1 h2
    by_cases e : n < M
    · exact a n e h2
    · obtain ⟨b, q, _⟩ := hn n (by omega) h1 h2
      exact absurd q (by simp)
  | some b =>
    refine ⟨by have := a.1; omega, a.2.1, fun n h1 h2 => ?_⟩
    by_cases e : n < M
    · exact a.2.2 n e h2
    · obtain ⟨b', q, q2⟩ := hn n (by omega) h1 h2
      injection q with q
      subst q
      have := a.1
      omega
theorem opt_new (a : Opt V W M o) (hV : V M) (hb : ∀ b, o = some b → W M < W b) : Opt V W (M + 1) (some M) := by
  refine ⟨by omega, hV, fun n h1 h2 => ?_⟩
  by_cases e : n = M
  · subst e; exact .inr ⟨rfl, Nat.le_refl _⟩
  · cases o with
    | none => exact absurd h2 (a n (by omega))
    | some b =>
      have := hb b rfl
      rcases a.2.2 n (by omega) h2 with q | q
      · exact .inl (by omega)
      · exact .inl (by omega)
theorem opt_uniq (a : Opt V W M o) (a' : Opt V W M o') : o = o' := by
  cases o with
  | none =>
    cases o' with
    | none => rfl
    | some b => exact absurd a'.2.1 (a b a'.1)
  | some b =>
    cases o' with
    | none => exact absurd a.2.1 (a' b a.1)
    | some b' =>
      have h1 := a.2.2 b' a'.1 a'.2.1
      have h2 := a'.2.2 b a.1 a.2.1
      congr 1
      omega
end OPT
-- digits
def oD (P r : Nat) : Option Nat := if r = P then none else some r
def dD (P : Nat) : Option Nat → Nat
  | none => P
  | some p => p
def dg (P K n j : Nat) : Option Nat := oD P ((n / (P + 1) ^ (K - 1 - j)) % (P + 1))
theorem dg_lt {P K n j p : Nat} (h : dg P K n j = some p) : p < P := by
  unfold dg oD at h
  split at h
  · exact absurd h (by simp)
  · injection h with h
    have := Nat.mod_lt (n / (P + 1) ^ (K - 1 - j)) (show 0 < P + 1 by omega)
    omega
theorem dg_child {P K k n q r : Nat} (hk : k < K) (hr : r < P + 1) (hn : n / (P + 1) ^ (K - (k + 1)) = q * (P + 1) + r) : dg P K n k = oD P r ∧ n / (P + 1) ^ (K - k) = q := by
  constructor
  · unfold dg
    rw [show K - 1 - k = K - (k + 1) by omega, hn, Nat.mul_comm, Nat.mul_add_mod, Nat.mod_eq_of_lt hr]
  · rw [show K - k = K - (k + 1) + 1 by omega, Nat.pow_succ, ← Nat.div_div_eq_div_mul, hn, Nat.mul_comm, Nat.mul_add_div (by omega), Nat.div_eq_of_lt hr]
    omega
theorem dv_iff {n D q : Nat} (hD : 0 < D) : n / D = q ↔ q * D ≤ n ∧ n < (q + 1) * D := by
  constructor
  · intro h
    subst h
    exact ⟨Nat.div_mul_le_self n D, by rw [Nat.mul_comm]; exact Nat.lt_mul_div_succ n hD⟩
  · intro ⟨h1, h2⟩
    have a := (Nat.le_div_iff_mul_le hD).2 h1
    have b := (Nat.div_lt_iff_lt_mul hD).2 h2
    omega
/-- every choice has a number -/
theorem dg_all (P : Nat) : ∀ (K : Nat) (f : Nat → Option Nat), (∀ j p, j < K → f j = some p → p < P) → ∃ n, n < (P + 1) ^ K ∧ ∀ j, j < K → dg P K n j = f j := by
  intro K
  induction K with
  | zero => intro f _; exact ⟨0, by simp, fun j hj => absurd hj (by omega)⟩
  | succ K ih =>
    intro f hf
    obtain ⟨n, hn, hd⟩ := ih f (fun j p hj => hf j p (by omega))
    have hl : dD P (f K) < P + 1 := by
      cases e : f K with
      | none => show P < P + 1; omega
      | some p => have := hf K p (by omega) e; show p < P + 1; omega
    have ho : oD P (dD P (f K)) = f K := by
      cases e : f K with
      | none => exact if_pos rfl
      | some p => have := hf K p (by omega) e; exact if_neg (show ¬ p = P by omega)
    refine ⟨n * (P + 1) + dD P (f K), ?_, fun j hj => ?_⟩
    · rw [Nat.pow_succ]
      have : (n + 1) * (P + 1) ≤ (P + 1) ^ K * (P + 1) := Nat.mul_le_mul_right _ hn
      rw [Nat.add_mul] at this
      omega
    · by_cases e : j = K
      · subst e
        unfold dg
        rw [show j + 1 - 1 - j = 0 by omega, Nat.pow_zero, Nat.div_one, Nat.mul_comm, Nat.mul_add_mod, Nat.mod_eq_of_lt hl, ho]
      · rw [← hd j (by omega)]
        unfold dg
        rw [show K + 1 - 1 - j = (K - 1 - j) + 1 by omega, Nat.pow_succ, Nat.mul_comm ((P + 1) ^ (K - 1 - j)), ← Nat.div_div_eq_div_mul, Nat.mul_comm n, Nat.mul_add_div (by omega), Nat.div_eq_of_lt hl, Nat.add_zero]
end
section
-- THE SEARCH'S STATE, PLAIN
def lq (sz : Nat → Nat) : List Nat → Nat
  | [] => 0
  | j :: l => sz j + lq sz l
theorem lq_app {sz : Nat → Nat} : ∀ {l l' : List Nat}, lq sz (l ++ l') = lq sz l + lq sz l'
  | [], l' => by simp [lq]
  | j :: l, l' => by simp [lq, lq_app (l := l)]; omega
def upd1 (f : Nat → Option Nat) (k : Nat) (x : Option Nat) : Nat → Option Nat := fun j => if j = k then x else f j
def Tl (N : Nat) (kp : Nat → Bool) (f : Nat → Option Nat) (k p : Nat) : List Nat := (List.range N).filter (fun j => kp j && f j == some p) ++ (List.range k).filter (fun j => !kp j && f j == some p)
section TL
variable {N : Nat} {kp : Nat → Bool} {f g : Nat → Option Nat} {k p : Nat}
theorem Tl_s : Tl N kp f (k + 1) p = Tl N kp f k p ++ (if !kp k && f k == some p then [k] else []) := by
  unfold Tl
  rw [List.range_succ, List.filter_append, ← List.append_assoc]
  congr 1
  cases e : (!kp k && f k == some p) <;> simp [List.filter, e]
theorem Tl_congr (h1 : ∀ j, j < k → kp j = false → f j = g j) (h2 : ∀ j, j < N → kp j = true → f j = g j) : Tl N kp f k p = Tl N kp g k p := by
  unfold Tl
  congr 1
  · refine List.filter_congr (fun j hj => ?_)
    have hj := List.mem_range.1 hj
    cases e : kp j with
    | false => rfl
    | true => rw [h2 j hj e]
  · refine List.filter_congr (fun j hj => ?_)
    have hj := List.mem_range.1 hj
    cases e : kp j with
    | false => rw [h1 j hj e]
    | true => rfl
theorem Tl_mem {j : Nat} : j ∈ Tl N kp f k p ↔ (j < N ∧ kp j = true ∨ j < k ∧ kp j = false) ∧ f j = some p := by
  unfold Tl
  simp only [List.mem_append, List.mem_filter, List.mem_range, Bool.and_eq_true, Bool.not_eq_true', beq_iff_eq]
  constructor
  · rintro (⟨a, b, c⟩ | ⟨a, b, c⟩)
    · exact ⟨.inl ⟨a, b⟩, c⟩
    · exact ⟨.inr ⟨a, b⟩, c⟩
  · rintro ⟨a | a, c⟩
    · exact .inl ⟨a.1, a.2, c⟩
    · exact .inr ⟨a.1, a.2, c⟩
theorem Tl_none (hk : f k = none) : Tl N kp f (k + 1) p = Tl N kp f k p := by
  rw [Tl_s, hk]
  simp
theorem Tl_kept (hk : kp k = true) : Tl N kp f (k + 1) p = Tl N kp f k p := by
  rw [Tl_s, hk]
  simp
theorem Tl_some (hk : kp k = false) (hf : f k = some p) : Tl N kp f (k + 1) p = Tl N kp f k p ++ [k] := by
  rw [Tl_s, hk, hf]
  simp
theorem Tl_other {p' : Nat} (hf : f k = some p') (hp : p' ≠ p) : Tl N kp f (k + 1) p = Tl N kp f k p := by
  rw [Tl_s, hf]
  simp [hp]
theorem filt_len {P : Nat → Bool} : ∀ {n : Nat}, ((List.range n).filter P).length = sumN n (fun j => if P j then 1 else 0)
  | 0 => rfl
  | n + 1 => by
    rw [List.range_succ, List.filter_append, List.length_append, filt_len]
    show _ = _ + _
    congr 1
    cases e : P n <;> simp [List.filter, e]
theorem filt_lq {P : Nat → Bool} {sz : Nat → Nat} : ∀ {n : Nat}, lq sz ((List.range n).filter P) = sumN n (fun j => if P j then sz j else 0)
  | 0 => rfl
  | n + 1 => by
    rw [List.range_succ, List.filter_append, lq_app, filt_lq]
    show _ = _ + _
    congr 1
    cases e : P n <;> simp [List.filter, e, lq]
theorem Tl_len : (Tl N kp f N p).length = sumN N (fun j => if f j = some p then 1 else 0) := by
  unfold Tl
  rw [List.length_append, filt_len, filt_len, ← sumN_add]
  refine sumN_congr (fun j hj => ?_)
  cases e : kp j <;> by_cases e2 : f j = some p <;> simp [e2]
theorem Tl_lq {sz : Nat → Nat} : lq sz (Tl N kp f N p) = sumN N (fun j => if f j = some p then sz j else 0) := by
  unfold Tl
  rw [lq_app, filt_lq, filt_lq, ← sumN_add]
  refine sumN_congr (fun j hj => ?_)
  cases e : kp j <;> by_cases e2 : f j = some p <;> simp [e2]
theorem Tl_bound (hk : k ≤ N) : (Tl N kp f k p).length ≤ N := by
  have h1 : ∀ m, k + m ≤ N → (Tl N kp f k p).length ≤ (Tl N kp f (k + m) p).length := by
    intro m
    induction m with
    | zero => intro _; exact Nat.le_refl _
    | succ m ih =>
      intro hm
      have := ih (by omega)
      rw [show k + (m + 1) = (k + m) + 1 by omega, Tl_s, List.length_append]
      omega
  have h2 := h1 (N - k) (by omega)
  rw [show k + (N - k) = N by omega, Tl_len] at h2
  have h3 := sumN_bd (n := N) (a := 1) (F := fun j => if f j = some p then 1 else 0) (fun j _ => by split <;> omega)
  omega
end TL
-- good so far; what it costs so far
def NF (nr : Nat → Nat → Bool) (l : List Nat) : Prop := ∀ i j, i ∈ l → j ∈ l → i ≠ j → nr i j = false
def Gd (N P lim : Nat) (sz : Nat → Nat) (nr : Nat → Nat → Bool) (kp : Nat → Bool) (ok : Nat → Option Nat → Prop) (f : Nat → Option Nat) (k : Nat) : Prop :=
  (∀ j, j < k → ok j (f j)) ∧ ∀ p, p < P → lq sz (Tl N kp f k p) ≤ lim ∧ NF nr (Tl N kp f k p)
def Cs (N P : Nat) (kp : Nat → Bool) (pr : Nat → Option Nat → Nat) (f : Nat → Option Nat) (k : Nat) : Nat :=
  sumN P (fun p => (Tl N kp f k p).length * (Tl N kp f k p).length) + sumN k (fun j => pr j (f j))
def exN (P K : Nat) (f0 : Nat → Option Nat) (n j : Nat) : Option Nat := if j < K then dg P K n j else f0 j
section PRE
variable {N P K lim : Nat} {sz : Nat → Nat} {nr : Nat → Nat → Bool} {kp : Nat → Bool} {ok : Nat → Option Nat → Prop} {pr : Nat → Option Nat → Nat} {f0 f g : Nat → Option Nat} {k q n : Nat}
theorem Gd_down (h : Gd N P lim sz nr kp ok f (k + 1)) : Gd N P lim sz nr kp ok f k := by
  refine ⟨fun j hj => h.1 j (by omega), fun p hp => ?_⟩
  obtain ⟨h1, h2⟩ := h.2 p hp
  rw [Tl_s] at h1 h2
  rw [lq_app] at h1
  exact ⟨by omega, fun i j hi hj => h2 i j (List.mem_append_left _ hi) (List.mem_append_left _ hj)⟩
theorem Gd_downs : ∀ {m k : Nat}, Gd N P lim sz nr kp ok f (k + m) → Gd N P lim sz nr kp ok f k
  | 0, _, h => h
  | m + 1, k, h => Gd_downs (m := m) (Gd_down (k := k + m) h)
theorem Cs_up : Cs N P kp pr f k ≤ Cs N P kp pr f (k + 1) := by
  unfold Cs
  refine Nat.add_le_add (sumN_le (fun p _ => ?_)) (Nat.le_add_right _ _)
  rw [Tl_s, List.length_append]
  exact Nat.mul_le_mul (Nat.le_add_right _ _) (Nat.le_add_right _ _)
theorem Cs_ups : ∀ {m k : Nat}, Cs N P kp pr f k ≤ Cs N P kp pr f (k + m)
  | 0, _ => Nat.le_refl _
  | m + 1, k => Nat.le_trans (Cs_ups (m := m) (k := k)) (Cs_up (k := k + m))
theorem Cs_congr (h1 : ∀ j, j < k → f j = g j) (h2 : ∀ j, j < N → kp j = true → f j = g j) : Cs N P kp pr f k = Cs N P kp pr g k := by
  unfold Cs
  rw [sumN_congr (n := P) (fun p _ => by rw [Tl_congr (fun j hj _ => h1 j hj) h2]), sumN_congr (n := k) (fun j hj => by rw [h1 j hj])]
theorem Gd_congr (h1 : ∀ j, j < k → f j = g j) (h2 : ∀ j, j < N → kp j = true → f j = g j) (h : Gd N P lim sz nr kp ok f k) : Gd N P lim sz nr kp ok g k := by
  refine ⟨fun j hj => by rw [← h1 j hj]; exact h.1 j hj, fun p hp => ?_⟩
  rw [← Tl_congr (fun j hj _ => h1 j hj) h2]
  exact h.2 p hp
/-- where the search stands: its choices so far are those of the numbers of its interval -/
def Pre (N P K lim : Nat) (sz : Nat → Nat) (nr : Nat → Nat → Bool) (kp : Nat → Bool) (ok : Nat → Option Nat → Prop) (f0 f : Nat → Option Nat) (k q : Nat) : Prop :=
  (∀ n, n / (P + 1) ^ (K - k) = q → ∀ j, j < k → exN P K f0 n j = f j) ∧ Gd N P lim sz nr kp ok f k ∧ ∀ j, k ≤ j → f j = f0 j
theorem Pre_kept (hok : ∀ j x, kp j = true → ok j x → x = f0 j) (h : Pre N P K lim sz nr kp ok f0 f k q) {j : Nat} (hj : kp j = true) : f j = f0 j := by
  by_cases e : j < k
  · exact hok j _ hj (h.2.1.1 j e)
  · exact h.2.2 j (by omega)
theorem V_kept (hok : ∀ j x, kp j = true → ok j x → x = f0 j) (h : Gd N P lim sz nr kp ok (exN P K f0 n) K) {j : Nat} (hj : kp j = true) : exN P K f0 n j = f0 j := by
  by_cases e : j < K
  · exact hok j _ hj (h.1 j e)
  · unfold exN
    rw [if_neg e]
theorem Pre_prune (hok : ∀ j x, kp j = true → ok j x → x = f0 j) (hk : k ≤ K) (h : Pre N P K lim sz nr kp ok f0 f k q) (hn : n / (P + 1) ^ (K - k) = q) (hV : Gd N P lim sz nr kp ok (exN P K f0 n) K) : Cs N P kp pr f k ≤ Cs N P kp pr (exN P K f0 n) K := by
  have e : Cs N P kp pr f k = Cs N P kp pr (exN P K f0 n) k := Cs_congr (fun j hj => (h.1 n hn j hj).symm) (fun j _ hj => by rw [Pre_kept hok h hj, V_kept hok hV hj])
  rw [e, show K = k + (K - k) by omega]
  exact Cs_ups
theorem Pre_leaf (h : Pre N P K lim sz nr kp ok f0 f K q) : (∀ j, exN P K f0 q j = f j) ∧ Gd N P lim sz nr kp ok (exN P K f0 q) K ∧ Cs N P kp pr (exN P K f0 q) K = Cs N P kp pr f K := by
  have e : ∀ j, exN P K f0 q j = f j := by
    intro j
    by_cases hj : j < K
    · exact h.1 q (by rw [Nat.sub_self, Nat.pow_zero, Nat.div_one]) j hj
    · rw [h.2.2 j (by omega)]
      unfold exN
      rw [if_neg hj]
  exact ⟨e, Gd_congr (fun j _ => (e j).symm) (fun j _ _ => (e j).symm) h.2.1, Cs_congr (fun j _ => e j) (fun j _ _ => e j)⟩
theorem Pre_okfail {x : Option Nat} (hk : k < K) (hx : dD P x < P + 1) (ho : oD P (dD P x) = x) (hno : ¬ ok k x) (hn : n / (P + 1) ^ (K - (k + 1)) = q * (P + 1) + dD P x) : ¬ Gd N P lim sz nr kp ok (exN P K f0 n) K := by
  intro hV
  have e := (dg_child hk hx hn).1
  have := hV.1 k hk
  rw [show exN P K f0 n k = x by unfold exN; rw [if_pos hk, e, ho]] at this
  exact hno this
theorem Pre_capfail (hok : ∀ j x, kp j = true → ok j x → x = f0 j) {p : Nat} (hk : k < K) (hp : p < P) (h : Pre N P K lim sz nr kp ok f0 f k q) (hkp : kp k = false) (hno : lim < lq sz (Tl N kp f k p) + sz k ∨ ∃ j, j ∈ Tl N kp f k p ∧ j ≠ k ∧ nr j k = true) (hn : n / (P + 1) ^ (K - (k + 1)) = q * (P + 1) + p) : ¬ Gd N P lim sz nr kp ok (exN P K f0 n) K := by
  intro hV
  obtain ⟨e, e2⟩ := dg_child hk (show p < P + 1 by omega) hn
  have e3 : exN P K f0 n k = some p := by
    unfold exN
    rw [if_pos hk, e]
    exact if_neg (by omega)
  have e4 : Tl N kp f k p = Tl N kp (exN P K f0 n) k p := Tl_congr (fun j hj _ => (h.1 n e2 j hj).symm) (fun j _ hj => by rw [Pre_kept hok h hj, V_kept hok hV hj])
  have hV2 : Gd N P lim sz nr kp ok (exN P K f0 n) (k + 1 + (K - (k + 1))) := by
    rw [show k + 1 + (K - (k + 1)) = K by omega]
    exact hV
  obtain ⟨h1, h2⟩ := (Gd_downs hV2).2 p hp
  rw [Tl_some hkp e3, ← e4] at h1 h2
  rw [lq_app] at h1
  simp only [lq] at h1
  rcases hno with a | ⟨j, a, b, c⟩
  · omega
  · have := h2 j k (List.mem_append_left _ a) (by simp) b
    rw [c] at this
    exact absurd this (by simp)
theorem Pre_child {x : Option Nat} (hs : ∀ i j, nr i j = nr j i) (hk : k < K) (hkN : k < N) (h : Pre N P K lim sz nr kp ok f0 f k q) (hx : dD P x < P + 1) (ho : oD P (dD P x) = x) (hokx : ok k x) (hkx : kp k = true → x = f k)
    (hfit : ∀ p, x = some p → kp k = false → lq sz (Tl N kp f k p) + sz k ≤ lim ∧ ∀ j, j ∈ Tl N kp f k p → nr j k = false) : Pre N P K lim sz nr kp ok f0 (upd1 f k x) (k + 1) (q * (P + 1) + dD P x) := by
  have t0 : ∀ p, Tl N kp (upd1 f k x) k p = Tl N kp f k p := fun p => Tl_congr (fun j hj _ => if_neg (by omega)) (fun j hj hjk => by
    unfold upd1
    split
    · rename_i e
      subst e
      exact hkx hjk
    · rfl)
  have tk : upd1 f k x k = x := if_pos rfl
  refine ⟨fun n hn j hj => ?_, ⟨fun j hj => ?_, fun p hp => ?_⟩, fun j hj => ?_⟩
  · obtain ⟨e, e2⟩ := dg_child hk hx hn
    by_cases ej : j = k
    · subst ej
      rw [tk]
      unfold exN
      rw [if_pos hk, e, ho]
    · rw [h.1 n e2 j (by omega)]
      exact (if_neg ej).symm
  · by_cases ej : j = k
    · subst ej; rw [tk]; exact hokx
    · rw [show upd1 f k x j = f j from if_neg ej]
      exact h.2.1.1 j (by omega)
  · have hb := h.2.1.2 p hp
    cases ek : kp k with
    | true => rw [Tl_kept ek, t0]; exact hb
    | false =>
      by_cases ex : x = some p
      · obtain ⟨a, b⟩ := hfit p ex ek
        rw [Tl_some ek (by rw [tk]; exact ex), t0]
        refine ⟨by rw [lq_app]; simp only [lq]; omega, fun i j hi hj hne => ?_⟩
        rcases List.mem_append.1 hi with hi | hi <;> rcases List.mem_append.1 hj with hj | hj
        · exact hb.2 i j hi hj hne
        · rw [List.mem_singleton.1 hj]; exact b i hi
        · rw [List.mem_singleton.1 hi, hs]; exact b j hj
        · exact absurd ((List.mem_singleton.1 hi).trans (List.mem_singleton.1 hj).symm) hne
      · have : Tl N kp (upd1 f k x) (k + 1) p = Tl N kp (upd1 f k x) k p := by
          cases x with
          | none => exact Tl_none tk
          | some p' => exact Tl_other tk (fun e => ex (by rw [e]))
        rw [this, t0]
        exact hb
  · rw [show upd1 f k x j = f j from if_neg (by omega)]
    exact h.2.2 j (by omega)
theorem Cs_some {p : Nat} (hp : p < P) (hkp : kp k = false) : Cs N P kp pr (upd1 f k (some p)) (k + 1) = Cs N P kp pr f k + (2 * (Tl N kp f k p).length + 1 + pr k (some p)) := by
  have t0 : ∀ p', Tl N kp (upd1 f k (some p)) k p' = Tl N kp f k p' := fun p' => Tl_congr (fun j hj _ => if_neg (by omega)) (fun j hj hjk => if_neg (by intro e; subst e; rw [hkp] at hjk; exact absurd hjk (by simp)))
  have tk : upd1 f k (some p) k = some p := if_pos rfl
  unfold Cs
  rw [sumN_bump (n := P) (F := fun p => (Tl N kp f k p).length * (Tl N kp f k p).length) (p := p) (a := 2 * (Tl N kp f k p).length + 1) hp ?_ ?_]
  · show _ + (sumN k _ + pr k (upd1 f k (some p) k)) = _
    rw [tk, sumN_congr (n := k) (G := fun j => pr j (f j)) (fun j hj => by rw [show upd1 f k (some p) j = f j from if_neg (by omega)])]
    omega
  · show (Tl N kp (upd1 f k (some p)) (k + 1) p).length * (Tl N kp (upd1 f k (some p)) (k + 1) p).length = _
    rw [Tl_some hkp tk, t0, List.length_append, show [k].length = 1 from rfl, Nat.add_mul, Nat.mul_add]
    omega
  · intro j hj hne
    show (Tl N kp (upd1 f k (some p)) (k + 1) j).length * (Tl N kp (upd1 f k (some p)) (k + 1) j).length = _
    rw [Tl_other tk (fun e => hne e.symm), t0]
theorem Cs_none (hkp : kp k = false) : Cs N P kp pr (upd1 f k none) (k + 1) = Cs N P kp pr f k + pr k none := by
  have t0 : ∀ p', Tl N kp (upd1 f k none) k p' = Tl N kp f k p' := fun p' => Tl_congr (fun j hj _ => if_neg (by omega)) (fun j hj hjk => if_neg (by intro e; subst e; rw [hkp] at hjk; exact absurd hjk (by simp)))
  have tk : upd1 f k none k = none := if_pos rfl
  unfold Cs
  rw [sumN_congr (n := P) (G := fun p => (Tl N kp f k p).length * (Tl N kp f k p).length) (fun p _ => by rw [Tl_none tk, t0])]
  show _ + (sumN k _ + pr k (upd1 f k none k)) = _
  rw [tk, sumN_congr (n := k) (G := fun j => pr j (f j)) (fun j hj => by rw [show upd1 f k none j = f j from if_neg (by omega)])]
  omega
end PRE
end
section
-- THE SEARCH'S STATE IN THE HEAP; FRAMES
theorem Ch_eq {h h' : AH} (hi : ∀ i s, hI h' 3 i s = hI h 3 i s) (ha : ∀ i s, hA h' 3 i s = hA h 3 i s) (hc : hC h 3 ≤ hC h' 3) : ∀ (l : List (Int32 × Int32)) (r : Option (Nat × Nat)), Ch h r l → Ch h' r l
  | [], _, q => q
  | _ :: l, _, ⟨i, q1, q2, q3, q4, q5⟩ => ⟨i, q1, by omega, by rw [hi]; exact q3, by rw [hi]; exact q4, by rw [ha]; exact Ch_eq hi ha hc l _ q5⟩
/-- what the search may write: the persons' work on the way, the search's own fields, told; the persons' lists, trial and best -/
def FS (h h' : AH) : Prop :=
  (∀ k i s, ¬ (k = 1 ∧ (s = 4 ∨ s = 5)) → ¬ (k = 0 ∧ (s = 10 ∨ s = 12 ∨ s = 13 ∨ s = 14)) → hI h' k i s = hI h k i s) ∧
  (∀ k i s, ¬ (k = 6 ∧ 1 ≤ i) → ¬ (k = 2 ∧ (s = 5 ∨ s = 6)) → hA h' k i s = hA h k i s) ∧ hJ h' = hJ h ∧ hC h' = hC h ∧ hZ h' = hZ h ∧ hS h' = hS h
/-- the same, but of its fields only the least cost -/
def FP (h h' : AH) : Prop :=
  (∀ k i s, ¬ (k = 1 ∧ (s = 4 ∨ s = 5)) → ¬ (k = 0 ∧ s = 13) → hI h' k i s = hI h k i s) ∧
  (∀ k i s, ¬ (k = 6 ∧ 1 ≤ i) → ¬ (k = 2 ∧ (s = 5 ∨ s = 6)) → hA h' k i s = hA h k i s) ∧ hJ h' = hJ h ∧ hC h' = hC h ∧ hZ h' = hZ h ∧ hS h' = hS h
section FRM
variable {h h' h2 : AH} {c : Cf} {pl : Pl}
theorem FS_r : FS h h := ⟨fun _ _ _ _ _ => rfl, fun _ _ _ _ _ => rfl, rfl, rfl, rfl, rfl⟩
theorem FP_r : FP h h := ⟨fun _ _ _ _ _ => rfl, fun _ _ _ _ _ => rfl, rfl, rfl, rfl, rfl⟩
theorem FS_t (a : FS h h') (b : FS h' h2) : FS h h2 := ⟨fun k i s q1 q2 => (b.1 k i s q1 q2).trans (a.1 k i s q1 q2), fun k i s q1 q2 => (b.2.1 k i s q1 q2).trans (a.2.1 k i s q1 q2), b.2.2.1.trans a.2.2.1, b.2.2.2.1.trans a.2.2.2.1, b.2.2.2.2.1.trans a.2.2.2.2.1, b.2.2.2.2.2.trans a.2.2.2.2.2⟩
theorem FP_t (a : FP h h') (b : FP h' h2) : FP h h2 := ⟨fun k i s q1 q2 => (b.1 k i s q1 q2).trans (a.1 k i s q1 q2), fun k i s q1 q2 => (b.2.1 k i s q1 q2).trans (a.2.1 k i s q1 q2), b.2.2.1.trans a.2.2.1, b.2.2.2.1.trans a.2.2.2.1, b.2.2.2.2.1.trans a.2.2.2.2.1, b.2.2.2.2.2.trans a.2.2.2.2.2⟩
theorem FP_FS (a : FP h h') : FS h h' := ⟨fun k i s q1 q2 => a.1 k i s q1 (fun q => q2 ⟨q.1, by omega⟩), a.2⟩
theorem RG_FS (a : FS h h') (g : RG c pl h) : RG c pl h' := by
  obtain ⟨a1, a2, -, a4, -, -⟩ := a
  refine ⟨?_, ?_, fun p hp => ?_, fun t ht => ?_⟩
  · rw [a2 0 0 0 (by omega) (by omega), a2 0 0 1 (by omega) (by omega), a2 0 0 2 (by omega) (by omega)]
    exact g.1
  · rw [a1 0 0 3 (by omega) (by omega), a1 0 0 4 (by omega) (by omega), a1 0 0 7 (by omega) (by omega), a1 0 0 8 (by omega) (by omega), a1 0 0 9 (by omega) (by omega)]
    exact g.2.1
  · obtain ⟨b1, b2, b3, b4, l, b5, b6⟩ := g.2.2.1 p hp
    rw [a2 5 0 p (by omega) (by omega), a1 1 p 0 (by omega) (by omega), a1 1 p 1 (by omega) (by omega), a2 1 p 3 (by omega) (by omega), a2 1 p 2 (by omega) (by omega)]
    exact ⟨b1, b2, b3, b4, l, Ch_eq (fun i s => a1 3 i s (by omega) (by omega)) (fun i s => a2 3 i s (by omega) (by omega)) (by rw [a4]; exact Nat.le_refl _) _ _ b5, b6⟩
  · rw [a2 6 0 t (by omega) (by omega), a1 2 t 0 (by omega) (by omega), a1 2 t 1 (by omega) (by omega), a1 2 t 2 (by omega) (by omega), a1 2 t 3 (by omega) (by omega), a2 2 t 4 (by omega) (by omega)]
    exact g.2.2.2 t ht
/-- one person's work on the way -/
def PT (c : Cf) (h : AH) (p : Nat) (l : List Nat) : Prop := l.length ≤ 6 ∧ hI h 1 p 4 = nI l.length ∧ hI h 1 p 5 = nI (lq (sz c) l) ∧ (∀ s (hs : s < l.length), hA h 6 (p + 1) s = some (2, l[s])) ∧ ∀ j, j ∈ l → j < cN c
def RS (c : Cf) (h : AH) (f : Nat → Option Nat) (T : Nat → List Nat) : Prop := (∀ p, p < cP c → PT c h p (T p)) ∧ ∀ t, t < cN c → hA h 2 t 5 = oR (f t)
theorem sz_le (w : Wf c) {t : Nat} (ht : t < cN c) : sz c t ≤ 96 := by
  have := Wf_z w ht
  unfold sz
  omega
theorem lq_le (w : Wf c) : ∀ {l : List Nat}, (∀ j, j ∈ l → j < cN c) → lq (sz c) l ≤ 96 * l.length
  | [], _ => Nat.zero_le _
  | j :: l, hl => by
    have := lq_le w (l := l) (fun i hi => hl i (List.mem_cons_of_mem _ hi))
    have := sz_le w (hl j (by simp))
    show sz c j + lq (sz c) l ≤ 96 * (l.length + 1)
    omega
theorem PT_eq {p : Nat} {l : List Nat} (h4 : hI h' 1 p 4 = hI h 1 p 4) (h5 : hI h' 1 p 5 = hI h 1 p 5) (ha : ∀ s, s < l.length → hA h' 6 (p + 1) s = hA h 6 (p + 1) s) (q : PT c h p l) : PT c h' p l :=
  ⟨q.1, by rw [h4]; exact q.2.1, by rw [h5]; exact q.2.2.1, fun s hs => by rw [ha s hs]; exact q.2.2.2.1 s hs, q.2.2.2.2⟩
end FRM
section PERS
variable {d : Nat} {h : AH} {Q : Oc → AH → Prop} {c : Cf} {pl : Pl} {p t : Nat} {l : List Nat}
theorem clear_loop (w : Wf c) (g : RG c pl h) (hd : 1 ≤ d) (hp : p < cP c) (ht : t < cN c) (hl : PT c h p l) (kt : (∀ j, j ∈ l → near c j t = false) → Q (.inl (some (vi 1))) h) (kf : (∃ j, j ∈ l ∧ near c j t = true) → Q (.inl (some (vi 0))) h) : ∀ (m s : Nat), s + m = l.length → (∀ i (hi : i < l.length), i < s → near c l[i] t = false) → WP d 79 2 [some (vr 1 p), some (vr 2 t), some (vi (nI (cR c))), some (vi (nI s))] [] h Q := by
  intro m
  have hlen := hl.1
  induction m with
  | zero =>
    intro s hs ha
    repeat refine wp_s rfl ?_
    rw [hl.2.1]
    refine br_ge (fun e => ?_) (fun e => absurd (nI_le (show l.length ≤ s by omega) (by omega)) e)
    repeat refine wp_s rfl ?_
    refine wp_e rfl (kt (fun j hj => ?_))
    obtain ⟨i, hi, rfl⟩ := List.mem_iff_getElem.1 hj
    exact ha i hi (by omega)
  | succ m ih =>
    intro s hs ha
    have hs' : s < l.length := by omega
    repeat refine wp_s rfl ?_
    rw [hl.2.1]
    refine br_ge (fun e => absurd e (nI_ge hs' (by omega))) (fun e => ?_)
    repeat refine wp_s rfl ?_
    rw [RG_pa g hp]
    refine wp_aald rfl rfl (by show s < 6; omega) ?_
    rw [hl.2.2.2.1 s hs']
    repeat refine wp_s rfl ?_
    refine wp_cc rfl (by omega) (S_tclear w g (hl.2.2.2.2 _ (List.getElem_mem hs')) ht ?_)
    cases e2 : near c l[s] t with
    | true =>
      repeat refine wp_s rfl ?_
      exact wp_e rfl (kf ⟨_, List.getElem_mem hs', e2⟩)
    | false =>
      iterate 3 refine wp_s rfl ?_
      rw [nI_1]
      refine ih (s + 1) (by omega) (fun i hi hi2 => ?_)
      by_cases e3 : i = s
      · subst e3; exact e2
      · exact ha i hi (by omega)
theorem S_clear (w : Wf c) (g : RG c pl h) (hd : 1 ≤ d) (hp : p < cP c) (ht : t < cN c) (hl : PT c h p l) (kt : (∀ j, j ∈ l → near c j t = false) → Q (.inl (some (vi 1))) h) (kf : (∃ j, j ∈ l ∧ near c j t = true) → Q (.inl (some (vi 0))) h) : WP d 79 0 [some (vr 1 p), some (vr 2 t), some (vi (nI (cR c))), none] [] h Q := by
  refine wp_s rfl ?_
  refine wp_s rfl ?_
  exact clear_loop w g hd hp ht hl kt kf l.length 0 (by omega) (fun i _ hi => absurd hi (by omega))
theorem S_price (hl : PT c h p l) (k : Q (.inl (some (vi (nI (2 * l.length + 1))))) h) : WP d 82 0 [some (vr 1 p)] [] h Q := by
  repeat refine wp_s rfl ?_
  rw [hl.2.1, show (2 : Int32) = nI 2 from rfl, pk_mul, nI_1]
  exact wp_e rfl k
theorem S_forget (k : Q (.inl none) (sI (sI h 1 p 4 0) 1 p 5 0)) : WP d 83 0 [some (vr 1 p)] [] h Q := by
  repeat refine wp_s rfl ?_
  exact wp_e rfl k
def takeH (c : Cf) (h : AH) (p t : Nat) (l : List Nat) : AH := sI (sA (sI h 1 p 4 (nI (l.length + 1))) 6 (p + 1) l.length (some (2, t))) 1 p 5 (nI (lq (sz c) l + sz c t))
theorem S_take (w : Wf c) (g : RG c pl h) (hd : 1 ≤ d) (hp : p < cP c) (ht : t < cN c) (hl : PT c h p l) (h6 : l.length < 6) (k : Q (.inl none) (takeH c h p t l)) : WP d 80 0 [some (vr 1 p), some (vr 2 t)] [] h Q := by
  repeat refine wp_s rfl ?_
  rw [RG_pa g hp, hl.2.1, nI_1]
  refine wp_aast rfl rfl (by decide) (by show l.length < 6; omega) ?_
  repeat refine wp_s rfl ?_
  have f : FP h (sA (sI h 1 p 4 (nI (l.length + 1))) 6 (p + 1) l.length (some (2, t))) := ⟨fun k i s q1 q2 => if_neg (by omega), fun k i s q1 q2 => if_neg (by omega), rfl, rfl, rfl, rfl⟩
  refine wp_cc rfl (by omega) (S_size w (RG_FS (FP_FS f) g) ht ?_)
  repeat refine wp_s rfl ?_
  rw [show hI (sA (sI h 1 p 4 (nI (l.length + 1))) 6 (p + 1) l.length (some (2, t))) 1 p 5 = nI (lq (sz c) l) from (if_neg (by omega)).trans hl.2.2.1, nI_add]
  exact wp_e rfl k
theorem take_FP : FP h (takeH c h p t l) := ⟨fun k i s q1 q2 => (if_neg (by omega)).trans (if_neg (by omega)), fun k i s q1 q2 => if_neg (by omega), rfl, rfl, rfl, rfl⟩
theorem take_PT (ht : t < cN c) (hl : PT c h p l) (h6 : l.length < 6) : PT c (takeH c h p t l) p (l ++ [t]) := by
  refine ⟨by rw [List.length_append]; show l.length + 1 ≤ 6; omega, ?_, ?_, fun s hs => ?_, fun j hj => ?_⟩
  · rw [List.length_append]
    exact (if_neg (by omega)).trans (if_pos ⟨rfl, rfl, rfl⟩)
  · rw [lq_app]
    exact if_pos ⟨rfl, rfl, rfl⟩
  · show (if 6 = 6 ∧ p + 1 = p + 1 ∧ s = l.length then some (2, t) else hA h 6 (p + 1) s) = _
    rw [List.length_append] at hs
    by_cases e : s = l.length
    · subst e
      rw [if_pos ⟨rfl, rfl, rfl⟩]
      simp
    · have hs' : s < l.length := by
        have : [t].length = 1 := rfl
        omega
      rw [if_neg (by omega), hl.2.2.2.1 s hs', List.getElem_append_left hs']
  · rcases List.mem_append.1 hj with hj | hj
    · exact hl.2.2.2.2 j hj
    · rw [List.mem_singleton.1 hj]; exact ht
theorem take_PTo {p' : Nat} {l' : List Nat} (hne : p' ≠ p) (hl : PT c h p' l') : PT c (takeH c h p t l) p' l' :=
  PT_eq ((if_neg (by omega)).trans (if_neg (by omega))) ((if_neg (by omega)).trans (if_neg (by omega))) (fun s _ => if_neg (by omega)) hl
def dropH (c : Cf) (h : AH) (p : Nat) (l : List Nat) : AH := sI (sI h 1 p 4 (nI l.length)) 1 p 5 (nI (lq (sz c) l))
theorem S_drop (w : Wf c) (g : RG c pl h) (hd : 1 ≤ d) (hp : p < cP c) (hl : PT c h p (l ++ [t])) (k : Q (.inl none) (dropH c h p l)) : WP d 81 0 [some (vr 1 p)] [] h Q := by
  have hlen : (l ++ [t]).length = l.length + 1 := by rw [List.length_append]; rfl
  have h6 := hl.1
  have ht : t < cN c := hl.2.2.2.2 t (by simp)
  repeat refine wp_s rfl ?_
  rw [hl.2.1, hlen, nI_pred]
  have f : FP h (sI h 1 p 4 (nI l.length)) := ⟨fun k i s q1 q2 => if_neg (by omega), fun k i s q1 q2 => rfl, rfl, rfl, rfl, rfl⟩
  rw [show hA (sI h 1 p 4 (nI l.length)) 1 p 3 = some (6, p + 1) from RG_pa g hp, show hI (sI h 1 p 4 (nI l.length)) 1 p 4 = nI l.length from if_pos ⟨rfl, rfl, rfl⟩, show hI (sI h 1 p 4 (nI l.length)) 1 p 5 = nI (lq (sz c) (l ++ [t])) from (if_neg (by omega)).trans hl.2.2.1]
  refine wp_aald rfl rfl (by show l.length < 6; omega) ?_
  rw [show hA (sI h 1 p 4 (nI l.length)) 6 (p + 1) l.length = some (2, t) from by
    refine (hl.2.2.2.1 l.length (by omega)).trans ?_
    simp]
  refine wp_cc rfl (by omega) (S_size w (RG_FS (FP_FS f) g) ht ?_)
  repeat refine wp_s rfl ?_
  rw [lq_app, show lq (sz c) [t] = sz c t from Nat.add_zero _, pk_sub (Nat.le_add_left _ _), Nat.add_sub_cancel]
  exact wp_e rfl k
theorem drop_FP : FP h (dropH c h p l) := ⟨fun k i s q1 q2 => (if_neg (by omega)).trans (if_neg (by omega)), fun k i s q1 q2 => rfl, rfl, rfl, rfl, rfl⟩
theorem drop_PT (hl : PT c h p (l ++ [t])) : PT c (dropH c h p l) p l := by
  have h6 := hl.1
  have hlen : (l ++ [t]).length = l.length + 1 := by rw [List.length_append]; rfl
  refine ⟨by omega, (if_neg (by omega)).trans (if_pos ⟨rfl, rfl, rfl⟩), if_pos ⟨rfl, rfl, rfl⟩, fun s hs => ?_, fun j hj => hl.2.2.2.2 j (List.mem_append_left _ hj)⟩
  have := hl.2.2.2.1 s (by omega)
  rw [List.getElem_append_left hs] at this
  exact this
theorem drop_PTo {p' : Nat} {l' : List Nat} (hne : p' ≠ p) (hl : PT c h p' l') : PT c (dropH c h p l) p' l' :=
  PT_eq ((if_neg (by omega)).trans (if_neg (by omega))) ((if_neg (by omega)).trans (if_neg (by omega))) (fun s _ => rfl) hl
end PERS
end
section
-- PLACE
theorem hA_so {h : AH} {k i s k' i' s' : Nat} {x : Option (Nat × Nat)} (e : ¬ (k' = k ∧ i' = i ∧ s' = s)) : hA (sA h k i s x) k' i' s' = hA h k' i' s' := if_neg e
theorem hI_so {h : AH} {k i s k' i' s' : Nat} {x : Int32} (e : ¬ (k' = k ∧ i' = i ∧ s' = s)) : hI (sI h k i s x) k' i' s' = hI h k' i' s' := if_neg e
theorem hA_ss {h : AH} {k i s : Nat} {x : Option (Nat × Nat)} : hA (sA h k i s x) k i s = x := if_pos ⟨rfl, rfl, rfl⟩
theorem hI_ss {h : AH} {k i s : Nat} {x : Int32} : hI (sI h k i s x) k i s = x := if_pos ⟨rfl, rfl, rfl⟩
def kpt (c : Cf) (kg : Bool) (t : Nat) : Bool := kg && decide (cA c t < cF c)
def f0 (c : Cf) (pl : Pl) (kg : Bool) (j : Nat) : Option Nat := if kpt c kg j then pl j else none
def okS (c : Cf) (pl : Pl) (kg sb : Bool) (j : Nat) (x : Option Nat) : Prop :=
  if kpt c kg j then x = pl j ∧ (cY c j = true → pl j ≠ none) else if sb && !cY c j then x = none else (match x with
  | some p => p < cP c ∧ suitP c p j
  | none => cY c j = false)
def chg (pl : Pl) (kg : Bool) (j : Nat) (x : Option Nat) : Nat := if kg = true ∧ pl j ≠ x then 100000 else 0
def prS (c : Cf) (pl : Pl) (kg sb : Bool) (j : Nat) (x : Option Nat) : Nat :=
  if kpt c kg j then 0 else if sb && !cY c j then 0 else (match x with
  | some p => chg pl kg j (some p)
  | none => 100 + chg pl kg j none)
def cbS (c : Cf) (pl : Pl) (kg : Bool) : Nat := sumN (cN c) (fun j => if kpt c kg j = true ∧ pl j = none then 100 else 0)
abbrev TL (c : Cf) (kg : Bool) (f : Nat → Option Nat) (k p : Nat) : List Nat := Tl (cN c) (kpt c kg) f k p
abbrev CS (c : Cf) (pl : Pl) (kg sb : Bool) (f : Nat → Option Nat) (k : Nat) : Nat := Cs (cN c) (cP c) (kpt c kg) (prS c pl kg sb) f k
abbrev GD (c : Cf) (pl : Pl) (kg sb : Bool) (f : Nat → Option Nat) (k : Nat) : Prop := Gd (cN c) (cP c) (cL c) (sz c) (near c) (kpt c kg) (okS c pl kg sb) f k
abbrev PRE (c : Cf) (pl : Pl) (kg sb : Bool) (K : Nat) (f : Nat → Option Nat) (k q : Nat) : Prop := Pre (cN c) (cP c) K (cL c) (sz c) (near c) (kpt c kg) (okS c pl kg sb) (f0 c pl kg) f k q
abbrev EX (c : Cf) (pl : Pl) (kg : Bool) (K n : Nat) : Nat → Option Nat := exN (cP c) K (f0 c pl kg) n
def Vs (c : Cf) (pl : Pl) (kg sb : Bool) (K n : Nat) : Prop := GD c pl kg sb (EX c pl kg K n) K
def Ws (c : Cf) (pl : Pl) (kg sb : Bool) (K n : Nat) : Nat := cbS c pl kg + CS c pl kg sb (EX c pl kg K n) K
def LB (c : Cf) (pl : Pl) (kg sb : Bool) (K : Nat) (h : AH) : Option Nat → Prop
  | none => hI h 0 0 13 = 2147483647
  | some b => hI h 0 0 13 = nI (Ws c pl kg sb K b) ∧ ∀ t, t < cN c → hA h 2 t 6 = oR (EX c pl kg K b t)
def SC (kg sb : Bool) (K : Nat) (h : AH) : Prop := hI h 0 0 12 = nI K ∧ hI h 0 0 14 = B01 sb ∧ hI h 0 0 15 = B01 kg
section PLC
variable {c : Cf} {pl : Pl} {kg sb : Bool} {K k q d t : Nat} {h h' : AH} {f : Nat → Option Nat} {Q : Oc → AH → Prop}
theorem oR_inj {x y : Option Nat} : oR x = oR y ↔ x = y := by
  cases x <;> cases y <;> simp [oR]
theorem near_symm (i j : Nat) : near c i j = near c j i := by unfold near; exact Bool.and_comm _ _
theorem okS_kept : ∀ j x, kpt c kg j = true → okS c pl kg sb j x → x = f0 c pl kg j := by
  intro j x hk ho
  unfold okS at ho
  unfold f0
  rw [if_pos hk] at ho ⊢
  exact ho.1
theorem SC_FP (a : FP h h') (s : SC kg sb K h) : SC kg sb K h' := by
  unfold SC
  rw [a.1 0 0 12 (by omega) (by omega), a.1 0 0 14 (by omega) (by omega), a.1 0 0 15 (by omega) (by omega)]
  exact s
theorem prS_le (j : Nat) (x : Option Nat) : prS c pl kg sb j x ≤ 100100 := by
  unfold prS chg
  cases x <;> dsimp only <;> (repeat' split) <;> omega
theorem CS_le (w : Wf c) (hk : k ≤ cN c) : CS c pl kg sb f k ≤ 600744 := by
  have wP := Wf_P w
  have wN := Wf_N w
  have a := sumN_bd (n := k) (a := 100100) (F := fun j => prS c pl kg sb j (f j)) (fun j _ => prS_le j _)
  have b := sumN_bd (n := cP c) (a := 36) (F := fun p => (Tl (cN c) (kpt c kg) f k p).length * (Tl (cN c) (kpt c kg) f k p).length) (fun p _ => by
    have := Tl_bound (kp := kpt c kg) (f := f) (p := p) hk
    exact Nat.mul_le_mul (show _ ≤ 6 by omega) (show _ ≤ 6 by omega))
  show sumN _ _ + sumN _ _ ≤ _
  omega
theorem cbS_le (w : Wf c) : cbS c pl kg ≤ 600 := by
  have wN := Wf_N w
  have a := sumN_bd (n := cN c) (a := 100) (F := fun j => if kpt c kg j = true ∧ pl j = none then 100 else 0) (fun j _ => by split <;> omega)
  unfold cbS
  omega
theorem Ws_le (w : Wf c) (hK : K ≤ cN c) (n : Nat) : Ws c pl kg sb K n ≤ 601344 := by
  have := CS_le (pl := pl) (kg := kg) (sb := sb) (f := EX c pl kg K n) w hK
  have := cbS_le (pl := pl) (kg := kg) w
  unfold Ws
  omega
theorem S_kept (w : Wf c) (g : RG c pl h) (hkg : hI h 0 0 15 = B01 kg) (ht : t < cN c) (k : Q (.inl (some (vi (B01 (kpt c kg t))))) h) : WP d 15 0 [some (vr 0 0), some (vr 2 t)] [] h Q := by
  have := Wf_z w ht
  have := Wf_t w ht
  have := Wf_F w
  repeat refine wp_s rfl ?_
  rw [hkg]
  cases kg with
  | false =>
    repeat refine wp_s rfl ?_
    exact wp_e rfl k
  | true =>
    repeat refine wp_s rfl ?_
    rw [RG_tA g ht, RG_F g]
    refine br_ge (fun e => ?_) (fun e => ?_)
    · repeat refine wp_s rfl ?_
      have := (nI_leI (by omega) (by omega)).1 e
      exact wp_e rfl (k0 k (by simp [kpt]; omega))
    · repeat refine wp_s rfl ?_
      have := (nI_ltI (by omega) (by omega)).1 (Int32.not_le.1 e)
      exact wp_e rfl (k1 k (by simp [kpt]; omega))
theorem S_change (g : RG c pl h) (hkg : hI h 0 0 15 = B01 kg) (ht : t < cN c) {x : Option Nat} (k : Q (.inl (some (vi (nI (chg pl kg t x))))) h) : WP d 17 0 [some (vr 0 0), some (vr 2 t), some (vo (oR x))] [] h Q := by
  repeat refine wp_s rfl ?_
  rw [hkg]
  cases kg with
  | false =>
    repeat refine wp_s rfl ?_
    exact wp_e rfl k
  | true =>
    repeat refine wp_s rfl ?_
    rw [RG_tw g ht]
    refine br_if (fun e => ?_) (fun e => ?_)
    · repeat refine wp_s rfl ?_
      rw [show chg pl true t x = 0 from if_neg (fun q => q.2 (oR_inj.1 e))] at k
      exact wp_e rfl k
    · repeat refine wp_s rfl ?_
      rw [show chg pl true t x = 100000 from if_pos ⟨rfl, fun q => e (by rw [q])⟩] at k
      exact wp_e rfl k
theorem FP_trial {x : Option (Nat × Nat)} : FP h (sA h 2 t 5 x) := ⟨fun _ _ _ _ _ => rfl, fun k i s _ q2 => if_neg (by omega), rfl, rfl, rfl, rfl⟩
theorem upd_k {x : Option Nat} : upd1 f k x k = x := if_pos rfl
theorem upd_o {x : Option Nat} {j : Nat} (hj : j ≠ k) : upd1 f k x j = f j := if_neg hj
theorem TL_upd {x : Option Nat} (hkp : kpt c kg k = false) (p : Nat) : TL c kg (upd1 f k x) k p = TL c kg f k p :=
  Tl_congr (fun j hj _ => if_neg (by omega)) (fun j _ hjk => if_neg (by intro e; subst e; rw [hkp] at hjk; exact absurd hjk (by simp)))
theorem RS_take {p : Nat} (hp : p < cP c) (hk : k < cN c) (hN : cN c ≤ 6) (hkp : kpt c kg k = false) (r : RS c h f (TL c kg f k)) (h6 : (TL c kg f k p).length < 6) : RS c (sA (takeH c h p k (TL c kg f k p)) 2 k 5 (some (1, p))) (upd1 f k (some p)) (TL c kg (upd1 f k (some p)) (k + 1)) := by
  refine ⟨fun p' hp' => ?_, fun t ht => ?_⟩
  · by_cases e : p' = p
    · subst e
      rw [show TL c kg (upd1 f k (some p')) (k + 1) p' = TL c kg f k p' ++ [k] from by rw [← TL_upd (f := f) (x := some p') hkp]; exact Tl_some hkp upd_k]
      exact PT_eq (h := takeH c h p' k (TL c kg f k p')) rfl rfl (fun s _ => hA_so (by omega)) (take_PT hk (r.1 p' hp') h6)
    · rw [show TL c kg (upd1 f k (some p)) (k + 1) p' = TL c kg f k p' from by rw [← TL_upd (f := f) (x := some p) hkp]; exact Tl_other upd_k (fun q => e q.symm)]
      exact PT_eq (h := takeH c h p k (TL c kg f k p)) rfl rfl (fun s _ => hA_so (by omega)) (take_PTo e (r.1 p' hp'))
  · show (if 2 = 2 ∧ t = k ∧ 5 = 5 then some (1, p) else (if 2 = 6 ∧ t = p + 1 ∧ 5 = (TL c kg f k p).length then some (2, k) else hA h 2 t 5)) = _
    by_cases e : t = k
    · subst e
      rw [if_pos ⟨rfl, rfl, rfl⟩, upd_k]
      rfl
    · rw [if_neg (by omega), if_neg (by omega), upd_o e]
      exact r.2 t ht
theorem RS_drop {p : Nat} (hp : p < cP c) (hkp : kpt c kg k = false) (hfk : f k = none) (r : RS c h (upd1 f k (some p)) (TL c kg (upd1 f k (some p)) (k + 1))) : RS c (sA (dropH c h p (TL c kg f k p)) 2 k 5 none) f (TL c kg f k) := by
  refine ⟨fun p' hp' => ?_, fun t ht => ?_⟩
  · have a := r.1 p' hp'
    by_cases e : p' = p
    · subst e
      rw [show TL c kg (upd1 f k (some p')) (k + 1) p' = TL c kg f k p' ++ [k] from by rw [← TL_upd (f := f) (x := some p') hkp]; exact Tl_some hkp upd_k] at a
      exact PT_eq (h := dropH c h p' (TL c kg f k p')) rfl rfl (fun s _ => hA_so (by omega)) (drop_PT a)
    · rw [show TL c kg (upd1 f k (some p)) (k + 1) p' = TL c kg f k p' from by rw [← TL_upd (f := f) (x := some p) hkp]; exact Tl_other upd_k (fun q => e q.symm)] at a
      exact PT_eq (h := dropH c h p (TL c kg f k p)) rfl rfl (fun s _ => hA_so (by omega)) (drop_PTo e a)
  · show (if 2 = 2 ∧ t = k ∧ 5 = 5 then none else hA h 2 t 5) = _
    by_cases e : t = k
    · subst e
      rw [if_pos ⟨rfl, rfl, rfl⟩, hfk]
      rfl
    · rw [if_neg (by omega), r.2 t ht, upd_o e]
theorem LB_eq {o : Option Nat} (h1 : hI h' 0 0 13 = hI h 0 0 13) (h2 : ∀ t, hA h' 2 t 6 = hA h 2 t 6) (a : LB c pl kg sb K h o) : LB c pl kg sb K h' o := by
  cases o with
  | none => exact h1.trans a
  | some b => exact ⟨h1.trans a.1, fun t ht => (h2 t).trans (a.2 t ht)⟩
theorem opt_digits {V : Nat → Prop} {W : Nat → Nat} {B D a b : Nat} {o : Option Nat} (hD : 0 < D) (hab : a ≤ b) (a1 : Opt V W ((q * B + a) * D) o) (hn : ∀ r, a ≤ r → r < b → ∀ n, n / D = q * B + r → V n → ∃ b, o = some b ∧ W b ≤ W n) : Opt V W ((q * B + b) * D) o := by
  refine opt_ext a1 (Nat.mul_le_mul_right _ (by omega)) (fun n h1 h2 => ?_)
  have l1 := (Nat.le_div_iff_mul_le hD).2 h1
  have l2 := (Nat.div_lt_iff_lt_mul hD).2 h2
  exact hn (n / D - q * B) (by omega) (by omega) n (by omega)
/-- the loop that keeps the best -/
theorem best_loop (w : Wf c) (r : ∀ t, t < cN c → hA h 2 t 5 = oR (f t)) {L4 L5 L6 : Option AV} {x y : Int32} : ∀ (m j : Nat) (h' : AH), j + m = cN c → RG c pl h' → FP h h' → (∀ t, hA h' 2 t 5 = hA h 2 t 5) → (∀ t, t < j → hA h' 2 t 6 = oR (f t)) → (∀ k i s, hI h' k i s = hI h k i s) → (∀ i s, hA h' 6 i s = hA h 6 i s) →
    (∀ h2, FP h h2 → (∀ t, hA h2 2 t 5 = hA h 2 t 5) → (∀ t, t < cN c → hA h2 2 t 6 = oR (f t)) → (∀ k i s, hI h2 k i s = hI h k i s) → (∀ i s, hA h2 6 i s = hA h 6 i s) → Q (.inl none) h2) → WP d 18 24 [some (vr 0 0), some (vi x), some (vi y), some (vi (nI j)), L4, L5, L6] [] h' Q := by
  have wN := Wf_N w
  intro m
  induction m with
  | zero =>
    intro j h' hj g a a5 a6 ai al kk
    iterate 3 refine wp_s rfl ?_
    rw [RG_N g]
    refine wp_s rfl ?_
    refine br_ge (fun e => ?_) (fun e => absurd (nI_le (show cN c ≤ j by omega) (by omega)) e)
    exact wp_e rfl (kk h' a a5 (fun t ht => a6 t (by omega)) ai al)
  | succ m ih =>
    intro j h' hj g a a5 a6 ai al kk
    have hj' : j < cN c := by omega
    iterate 3 refine wp_s rfl ?_
    rw [RG_N g]
    refine wp_s rfl ?_
    refine br_ge (fun e => absurd e (nI_ge hj' (by omega))) (fun e => ?_)
    repeat refine wp_s rfl ?_
    rw [RG_a1 g]
    refine wp_aald rfl rfl (by show j < 6; omega) ?_
    rw [RG_t g hj']
    repeat refine wp_s rfl ?_
    rw [RG_a1 g]
    refine wp_aald rfl rfl (by show j < 6; omega) ?_
    rw [RG_t g hj']
    iterate 4 refine wp_s rfl ?_
    rw [nI_1, a5 j, r j hj']
    have b : FP h' (sA h' 2 j 6 (oR (f j))) := ⟨fun _ _ _ _ _ => rfl, fun k i s _ q2 => if_neg (by omega), rfl, rfl, rfl, rfl⟩
    refine ih (j + 1) _ (by omega) (RG_FS (FP_FS b) g) (FP_t a b) (fun t => (if_neg (by omega)).trans (a5 t)) (fun t ht => ?_) ai (fun i s => (hA_so (by omega)).trans (al i s)) kk
    by_cases e : t = j
    · subst e; exact if_pos ⟨rfl, rfl, rfl⟩
    · exact (if_neg (by omega)).trans (a6 t (by omega))
end PLC
end
section
-- PLACE, THE WALK
section PLW
variable {c : Cf} {pl : Pl} {kg sb : Bool} {K : Nat}
theorem oD_lt {P r : Nat} (h : r < P) : oD P r = some r := if_neg (by omega)
theorem oD_P {P : Nat} : oD P P = none := if_pos rfl
theorem okfail {k q r n : Nat} (hk : k < K) (hr : r < cP c + 1) (hno : ¬ okS c pl kg sb k (oD (cP c) r)) (hn : n / (cP c + 1) ^ (K - (k + 1)) = q * (cP c + 1) + r) : ¬ Vs c pl kg sb K n := by
  have e : dD (cP c) (oD (cP c) r) = r := by
    unfold oD
    split
    · rename_i q; exact q.symm
    · rfl
  exact Pre_okfail (x := oD (cP c) r) hk (by rw [e]; exact hr) (by rw [e]) hno (by rw [e]; exact hn)
theorem okS_nk {k : Nat} {x : Option Nat} (hkp : kpt c kg k = false) (hst : (sb && !cY c k) = false) : okS c pl kg sb k x ↔ (match x with
  | some p => p < cP c ∧ suitP c p k
  | none => cY c k = false) := by
  unfold okS
  rw [hkp, hst]
  cases x <;> simp
theorem prS_nk {k : Nat} {x : Option Nat} (hkp : kpt c kg k = false) (hst : (sb && !cY c k) = false) : prS c pl kg sb k x = (match x with
  | some p => chg pl kg k (some p)
  | none => 100 + chg pl kg k none) := by
  unfold prS
  rw [hkp, hst]
  cases x <;> simp
theorem dD_oD (P r : Nat) : dD P (oD P r) = r := by
  unfold oD
  split
  · rename_i q; exact q.symm
  · rfl
theorem Bpos (n m : Nat) : 0 < (n + 1) ^ m := Nat.pow_pos (by omega)
theorem S_place (w : Wf c) (hK : K ≤ cN c) (hpl : ∀ t p, t < cN c → pl t = some p → p < cP c) : ∀ (m k : Nat), k + m = K → ∀ (f : Nat → Option Nat) (q : Nat) (o : Option Nat) (d : Nat) (h : AH) (Q : Oc → AH → Prop), m + 3 ≤ d → RG c pl h → SC kg sb K h → RS c h f (TL c kg f k) → PRE c pl kg sb K f k q → LB c pl kg sb K h o → Opt (Vs c pl kg sb K) (Ws c pl kg sb K) (q * (cP c + 1) ^ m) o →
    (∀ h' o', FP h h' → RS c h' f (TL c kg f k) → LB c pl kg sb K h' o' → Opt (Vs c pl kg sb K) (Ws c pl kg sb K) ((q + 1) * (cP c + 1) ^ m) o' → Q (.inl none) h') →
    WP d 18 0 [some (vr 0 0), some (vi (nI k)), some (vi (nI (cbS c pl kg + CS c pl kg sb f k))), none, none, none, none] [] h Q := by
  have wN := Wf_N w
  have wP := Wf_P w
  have wcb := cbS_le (pl := pl) (kg := kg) w
  intro m
  induction m with
  | zero =>
    intro k hk f q o d h Q hd g s r pre lb op kk
    obtain rfl : k = K := by omega
    have wc := CS_le (pl := pl) (kg := kg) (sb := sb) (f := f) w hK
    repeat refine wp_s rfl ?_
    refine br_lt (fun e => ?_) (fun e => ?_)
    · repeat refine wp_s rfl ?_
      rw [s.1]
      refine br_ne (fun e2 => absurd rfl e2) (fun _ => ?_)
      iterate 5 refine wp_s rfl ?_
      have b : FP h (sI h 0 0 13 (nI (cbS c pl kg + CS c pl kg sb f k))) := ⟨fun k i s q1 q2 => hI_so (by omega), fun _ _ _ _ _ => rfl, rfl, rfl, rfl, rfl⟩
      refine best_loop (pl := pl) (f := f) (h := sI h 0 0 13 (nI (cbS c pl kg + CS c pl kg sb f k))) w r.2 (cN c) 0 _ (by omega) (RG_FS (FP_FS b) g) FP_r (fun _ => rfl) (fun t ht => absurd ht (by omega)) (fun _ _ _ => rfl) (fun _ _ => rfl) ?_
      intro h2 c1 c2 c3 c4 c5
      obtain ⟨e1, e2, e3⟩ := Pre_leaf (pr := prS c pl kg sb) pre
      have hW : Ws c pl kg sb k q = cbS c pl kg + CS c pl kg sb f k := by
        unfold Ws
        exact congrArg _ e3
      refine kk h2 (some q) (FP_t b c1) ⟨fun p hp => ?_, fun t ht => (c2 t).trans (r.2 t ht)⟩ ⟨?_, fun t ht => ?_⟩ ?_
      · exact PT_eq ((c4 1 p 4).trans (hI_so (by omega))) ((c4 1 p 5).trans (hI_so (by omega))) (fun s _ => c5 (p + 1) s) (r.1 p hp)
      · rw [c4, hW]
        exact hI_ss
      · rw [c3 t ht]
        exact congrArg oR (e1 t).symm
      · rw [Nat.pow_zero, Nat.mul_one] at op ⊢
        refine opt_new op e2 (fun b hb => ?_)
        subst hb
        rw [lb.1] at e
        rw [hW]
        have := Ws_le (pl := pl) (kg := kg) (sb := sb) w hK b
        exact (nI_ltI (by omega) (by omega)).1 e
    · refine wp_e rfl (kk h o FP_r r lb ?_)
      rw [Nat.pow_zero, Nat.mul_one] at op ⊢
      refine opt_ext op (by omega) (fun n h1 h2 hV => ?_)
      have hp := Pre_prune (pr := prS c pl kg sb) okS_kept (Nat.le_refl k) pre (n := n) (by rw [Nat.sub_self, Nat.pow_zero, Nat.div_one]; omega) hV
      cases o with
      | none =>
        rw [show hI h 0 0 13 = 2147483647 from lb] at e
        exact absurd (nI_lt (show cbS c pl kg + CS c pl kg sb f k < 2147483647 by omega) (by omega)) e
      | some b =>
        rw [lb.1] at e
        have := Ws_le (pl := pl) (kg := kg) (sb := sb) w hK b
        have : ¬ _ := fun z => e (nI_lt (a := cbS c pl kg + CS c pl kg sb f k) (b := Ws c pl kg sb k b) z (by omega))
        refine ⟨b, rfl, ?_⟩
        show _ ≤ cbS c pl kg + _
        exact Nat.le_trans (Nat.not_lt.1 this) (Nat.add_le_add_left hp _)
  | succ m ih =>
    intro k hk f q o d h Q hd g s r pre lb op kk
    have hkK : k < K := by omega
    have hkN : k < cN c := by omega
    have hKk : K - (k + 1) = m := by omega
    have hD := Bpos (cP c) m
    have wc := CS_le (pl := pl) (kg := kg) (sb := sb) (f := f) w (k := k) (by omega)
    repeat refine wp_s rfl ?_
    refine br_lt (fun e => ?_) (fun e => ?_)
    rotate_left
    · refine wp_e rfl (kk h o FP_r r lb ?_)
      refine opt_ext op (Nat.mul_le_mul_right _ (by omega)) (fun n h1 h2 hV => ?_)
      have hp := Pre_prune (pr := prS c pl kg sb) okS_kept (by omega) pre (n := n) ((dv_iff (Bpos _ _)).2 (by rw [show K - k = m + 1 by omega]; exact ⟨h1, h2⟩)) hV
      cases o with
      | none =>
        rw [show hI h 0 0 13 = 2147483647 from lb] at e
        exact absurd (nI_lt (show cbS c pl kg + CS c pl kg sb f k < 2147483647 by omega) (by omega)) e
      | some b =>
        rw [lb.1] at e
        have := Ws_le (pl := pl) (kg := kg) (sb := sb) w hK b
        have : ¬ _ := fun z => e (nI_lt (a := cbS c pl kg + CS c pl kg sb f k) (b := Ws c pl kg sb K b) z (by omega))
        refine ⟨b, rfl, ?_⟩
        show _ ≤ cbS c pl kg + _
        exact Nat.le_trans (Nat.not_lt.1 this) (Nat.add_le_add_left hp _)
    have opB : ∀ o', Opt (Vs c pl kg sb K) (Ws c pl kg sb K) ((q * (cP c + 1) + (cP c + 1)) * (cP c + 1) ^ m) o' → Opt (Vs c pl kg sb K) (Ws c pl kg sb K) ((q + 1) * (cP c + 1) ^ (m + 1)) o' := by
      intro o' a
      rw [Nat.pow_succ, Nat.mul_comm ((cP c + 1) ^ m), ← Nat.mul_assoc, Nat.add_mul, Nat.one_mul]
      exact a
    have op0 : Opt (Vs c pl kg sb K) (Ws c pl kg sb K) ((q * (cP c + 1) + 0) * (cP c + 1) ^ m) o := by
      rw [Nat.pow_succ, Nat.mul_comm ((cP c + 1) ^ m), ← Nat.mul_assoc] at op
      exact op
    have hfk : f k = f0 c pl kg k := pre.2.2 k (Nat.le_refl _)
    -- the way that leaves the task as it is
    have stay : ∀ (L3 L4 L5 L6 : Option AV), okS c pl kg sb k (f k) → dD (cP c) (f k) < cP c + 1 → oD (cP c) (dD (cP c) (f k)) = f k → (∀ x, okS c pl kg sb k x → x = f k) → CS c pl kg sb f (k + 1) = CS c pl kg sb f k → (∀ p, TL c kg f (k + 1) p = TL c kg f k p) → (kpt c kg k = false → f k = none) →
        WP d 18 108 [some (vr 0 0), some (vi (nI k)), some (vi (nI (cbS c pl kg + CS c pl kg sb f k))), L3, L4, L5, L6] [] h Q := by
      intro L3 L4 L5 L6 h1 h2 h3 h4 h5 h6 h7
      have pre' := Pre_child near_symm hkK hkN pre h2 h3 h1 (fun _ => rfl) (fun p hp hkp => absurd (h7 hkp) (by rw [hp]; simp))
      have eu : upd1 f k (f k) = f := by
        funext j
        unfold upd1
        split
        · rename_i e; rw [e]
        · rfl
      rw [eu] at pre'
      have opa := opt_digits (b := dD (cP c) (f k)) hD (Nat.zero_le _) op0 (fun r' _ hr n hn hV => absurd hV (okfail (r := r') (q := q) hkK (by omega) (fun z => by
        have e1 := dD_oD (cP c) r'
        rw [h4 _ z] at e1
        omega) (by rw [hKk]; exact hn)))
      iterate 5 refine wp_s rfl ?_
      rw [nI_1, ← h5]
      refine wp_cc rfl (by omega) (ih (k + 1) (by omega) f _ o (d - 1) h _ (by omega) g s (show RS c h f (TL c kg f (k + 1)) from ⟨fun p hp => by rw [h6]; exact r.1 p hp, r.2⟩) pre' lb opa ?_)
      intro h' o' a r' lb' op'
      refine wp_e rfl (kk h' o' a ⟨fun p hp => by rw [← h6]; exact r'.1 p hp, r'.2⟩ lb' (opB _ ?_))
      exact opt_digits hD (a := dD (cP c) (f k) + 1) (by omega) op' (fun r' hr hr2 n hn hV => absurd hV (okfail (r := r') (q := q) hkK (by omega) (fun z => by
        have e1 := dD_oD (cP c) r'
        rw [h4 _ z] at e1
        omega) (by rw [hKk]; exact hn)))
    -- the way through the persons
    have ploop : kpt c kg k = false → (sb && !cY c k) = false → ∀ (r' j : Nat), j + r' = cP c → ∀ (h1 : AH) (o1 : Option Nat) (L5 L6 : Option AV), FP h h1 → RS c h1 f (TL c kg f k) → LB c pl kg sb K h1 o1 → Opt (Vs c pl kg sb K) (Ws c pl kg sb K) ((q * (cP c + 1) + j) * (cP c + 1) ^ m) o1 →
        WP d 18 120 [some (vr 0 0), some (vi (nI k)), some (vi (nI (cbS c pl kg + CS c pl kg sb f k))), some (vr 2 k), some (vi (nI j)), L5, L6] [] h1 Q := by
      intro hkp hst r'
      have hfn : f k = none := by
        rw [hfk]
        unfold f0
        rw [hkp]
        rfl
      induction r' with
      | zero =>
        intro j hj h1 o1 L5 L6 a r1 lb1 op1
        obtain rfl : j = cP c := by omega
        have g1 := RG_FS (FP_FS a) g
        have s1 := SC_FP a s
        iterate 3 refine wp_s rfl ?_
        rw [RG_P g1]
        refine wp_s rfl ?_
        refine br_ge (fun _ => ?_) (fun e => absurd (nI_le (Nat.le_refl _) (by omega)) e)
        repeat refine wp_s rfl ?_
        rw [RG_tY g1 hkN]
        cases eY : cY c k with
        | true =>
          refine wp_e rfl (kk h1 o1 a r1 lb1 (opB _ ?_))
          refine opt_digits hD (by omega) op1 (fun r2 h1 h2 n hn hV => absurd hV (okfail (r := r2) (q := q) hkK (by omega) (fun z => ?_) (by rw [hKk]; exact hn)))
          obtain rfl : r2 = cP c := by omega
          rw [oD_P] at z
          have := (okS_nk hkp hst).1 z
          rw [eY] at this
          exact absurd this (by simp)
        | false =>
          repeat refine wp_s rfl ?_
          refine wp_cc rfl (by omega) (S_change (x := none) g1 s1.2.2 hkN ?_)
          refine wp_s rfl ?_
          have eu : upd1 f k none = f := by
            funext j
            unfold upd1
            split
            · rename_i e; rw [e, hfn]
            · rfl
          have ec := Cs_none (N := cN c) (P := cP c) (pr := prS c pl kg sb) (f := f) hkp
          rw [prS_nk hkp hst] at ec
          have pre' := Pre_child (x := none) near_symm hkK hkN pre (Nat.lt_succ_self _) oD_P ((okS_nk hkp hst).2 eY) (fun z => absurd z (by rw [hkp]; simp)) (fun p hp => absurd hp (by simp))
          rw [eu] at ec pre'
          have ec' : nI (cbS c pl kg + CS c pl kg sb f k) + 100 + nI (chg pl kg k none) = nI (cbS c pl kg + CS c pl kg sb f (k + 1)) := by
            rw [show (100 : Int32) = nI 100 from rfl, nI_add, nI_add]
            congr 1
            have : CS c pl kg sb f (k + 1) = CS c pl kg sb f k + (100 + chg pl kg k none) := ec
            omega
          rw [ec', nI_1]
          have h6 : ∀ p, TL c kg f (k + 1) p = TL c kg f k p := fun p => Tl_none hfn
          refine wp_cc rfl (by omega) (ih (k + 1) (by omega) f _ o1 (d - 1) h1 _ (by omega) g1 s1 (show RS c h1 f (TL c kg f (k + 1)) from ⟨fun p hp => by rw [h6]; exact r1.1 p hp, r1.2⟩) pre' lb1 op1 ?_)
          intro h' o' a' r2 lb' op'
          exact wp_e rfl (kk h' o' (FP_t a a') ⟨fun p hp => by rw [← h6]; exact r2.1 p hp, r2.2⟩ lb' (opB _ op'))
      | succ r' ihr =>
        intro j hj h1 o1 L5 L6 a r1 lb1 op1
        have hjP : j < cP c := by omega
        have g1 := RG_FS (FP_FS a) g
        have s1 := SC_FP a s
        have pt := r1.1 j hjP
        have skip : ∀ L5 L6, (∀ n, n / (cP c + 1) ^ m = q * (cP c + 1) + j → ¬ Vs c pl kg sb K n) → WP d 18 228 [some (vr 0 0), some (vi (nI k)), some (vi (nI (cbS c pl kg + CS c pl kg sb f k))), some (vr 2 k), some (vi (nI j)), L5, L6] [] h1 Q := by
          intro L5 L6 hno
          iterate 2 refine wp_s rfl ?_
          rw [nI_1]
          refine ihr (j + 1) (by omega) h1 o1 L5 L6 a r1 lb1 ?_
          exact opt_digits hD (by omega) op1 (fun r2 h1 h2 n hn hV => absurd hV (hno n (by rw [hn]; omega)))
        iterate 3 refine wp_s rfl ?_
        rw [RG_P g1]
        refine wp_s rfl ?_
        refine br_ge (fun e => absurd e (nI_ge hjP (by omega))) (fun e => ?_)
        repeat refine wp_s rfl ?_
        rw [RG_a0 g1]
        refine wp_aald rfl rfl (by show j < 4; omega) ?_
        rw [RG_p g1 hjP]
        repeat refine wp_s rfl ?_
        refine wp_cc rfl (by omega) (S_suits g1 hjP hkN (fun esu => ?_) (fun esu => ?_))
        rotate_left
        · refine wp_s rfl ?_
          refine skip _ _ (fun n hn => okfail (r := j) (q := q) hkK (by omega) (fun z => ?_) (by rw [hKk]; exact hn))
          rw [oD_lt hjP] at z
          exact esu ((okS_nk hkp hst).1 z).2
        repeat refine wp_s rfl ?_
        refine wp_cc rfl (by omega) (S_size w g1 hkN ?_)
        repeat refine wp_s rfl ?_
        have hlq := lq_le w pt.2.2.2.2
        have hl6 := pt.1
        have hsz := sz_le w hkN
        have wL := Wf_L w
        rw [pt.2.2.1, nI_add, RG_L g1]
        refine br_gt (fun e2 => ?_) (fun e2 => ?_)
        · refine skip _ _ (fun n hn => ?_)
          have := (nI_ltI (by omega) (by omega)).1 e2
          exact Pre_capfail okS_kept hkK hjP pre hkp (.inl this) (by rw [hKk]; exact hn)
        have e2' : lq (sz c) (TL c kg f k j) + sz c k ≤ cL c := (nI_leI (by omega) (by omega)).1 (Int32.not_lt.1 e2)
        repeat refine wp_s rfl ?_
        rw [RG_R g1]
        refine wp_cc rfl (by omega) (S_clear w g1 (by omega) hjP hkN pt (fun ecl => ?_) (fun ecl => ?_))
        rotate_left
        · iterate 2 refine wp_s rfl ?_
          obtain ⟨i, hi, hin⟩ := ecl
          refine skip _ _ (fun n hn => Pre_capfail okS_kept hkK hjP pre hkp (.inr ⟨i, hi, ?_, hin⟩) (by rw [hKk]; exact hn))
          intro ez
          subst ez
          have := (Tl_mem.1 hi).2
          rw [hfn] at this
          exact absurd this (by simp)
        iterate 2 refine wp_s rfl ?_
        refine wp_cc rfl (by omega) (S_price pt ?_)
        repeat refine wp_s rfl ?_
        refine wp_cc rfl (by omega) (S_change (x := some j) g1 s1.2.2 hkN ?_)
        repeat refine wp_s rfl ?_
        have h6 : (TL c kg f k j).length < 6 := by
          have a := Tl_bound (kp := kpt c kg) (f := upd1 f k (some j)) (p := j) (N := cN c) (k := k + 1) (by omega)
          rw [Tl_some hkp upd_k, List.length_append, show [k].length = 1 from rfl] at a
          have b := TL_upd (c := c) (kg := kg) (f := f) (x := some j) hkp j
          rw [← b]
          show (Tl _ _ _ _ _).length < 6
          omega
        refine wp_cc rfl (by omega) (S_take w g1 (by omega) hjP hkN pt h6 ?_)
        repeat refine wp_s rfl ?_
        have a2 : FP h1 (sA (takeH c h1 j k (TL c kg f k j)) 2 k 5 (some (1, j))) := FP_t take_FP FP_trial
        have r2 := RS_take hjP hkN wN hkp r1 h6
        have ec := Cs_some (N := cN c) (P := cP c) (pr := prS c pl kg sb) (f := f) hjP hkp
        rw [prS_nk hkp hst] at ec
        have pre' := Pre_child (x := some j) near_symm hkK hkN pre (show j < cP c + 1 by omega) (oD_lt hjP) ((okS_nk hkp hst).2 ⟨hjP, esu⟩) (fun z => absurd z (by rw [hkp]; simp)) (fun p hp _ => by
          injection hp with hp
          subst hp
          exact ⟨e2', ecl⟩)
        have ec' : nI (cbS c pl kg + CS c pl kg sb f k) + (nI (2 * (TL c kg f k j).length + 1) + nI (chg pl kg k (some j))) = nI (cbS c pl kg + CS c pl kg sb (upd1 f k (some j)) (k + 1)) := by
          rw [nI_add, nI_add]
          congr 1
          have : CS c pl kg sb (upd1 f k (some j)) (k + 1) = CS c pl kg sb f k + (2 * (TL c kg f k j).length + 1 + chg pl kg k (some j)) := ec
          omega
        rw [ec', nI_1]
        refine wp_cc rfl (by omega) (ih (k + 1) (by omega) (upd1 f k (some j)) _ o1 (d - 1) _ _ (by omega) (RG_FS (FP_FS a2) g1) (SC_FP a2 s1) r2 pre' (LB_eq ?_ ?_ lb1) op1 ?_)
        · rfl
        · intro t
          exact (hA_so (by omega)).trans (hA_so (by omega))
        intro h2 o2 a3 r3 lb3 op3
        have a13 := FP_t a2 a3
        have g3 := RG_FS (FP_FS a13) g1
        have pt3 := r3.1 j hjP
        rw [show TL c kg (upd1 f k (some j)) (k + 1) j = TL c kg f k j ++ [k] from by rw [← TL_upd (f := f) (x := some j) hkp]; exact Tl_some hkp upd_k] at pt3
        refine wp_s rfl ?_
        refine wp_cc rfl (by omega) (S_drop w g3 (by omega) hjP pt3 ?_)
        iterate 5 refine wp_s rfl ?_
        rw [nI_1]
        have a4 : FP h2 (sA (dropH c h2 j (TL c kg f k j)) 2 k 5 none) := FP_t drop_FP FP_trial
        refine ihr (j + 1) (by omega) _ o2 _ _ (FP_t a (FP_t a13 a4)) (RS_drop hjP hkp hfn r3) (LB_eq (h := h2) rfl (fun t => (hA_so (by omega)).trans (show hA (dropH c h2 j (TL c kg f k j)) 2 t 6 = hA h2 2 t 6 from rfl)) lb3) ?_
        rw [← Nat.add_assoc]
        exact op3
    repeat refine wp_s rfl ?_
    rw [s.1]
    refine br_ne (fun _ => ?_) (fun e2 => absurd ((nI_eq (by omega) (by omega)).1 e2) (by omega))
    repeat refine wp_s rfl ?_
    rw [RG_a1 g]
    refine wp_aald rfl rfl (by show k < 6; omega) ?_
    rw [RG_t g hkN]
    repeat refine wp_s rfl ?_
    refine wp_cc rfl (by omega) (S_kept w g s.2.2 hkN ?_)
    cases ek : kpt c kg k with
    | true =>
      have hfp : f k = pl k := by rw [hfk]; unfold f0; rw [if_pos ek]
      have fin : ∀ x : Option Nat, okS c pl kg sb k x → x = f k := fun x hx => by rw [hfk]; exact okS_kept k x ek hx
      have hcs : CS c pl kg sb f (k + 1) = CS c pl kg sb f k := by
        show sumN _ _ + (sumN k _ + prS c pl kg sb k (f k)) = sumN _ _ + sumN k _
        rw [sumN_congr (n := cP c) (G := fun p => (Tl (cN c) (kpt c kg) f k p).length * (Tl (cN c) (kpt c kg) f k p).length) (fun p _ => by rw [Tl_kept ek]), show prS c pl kg sb k (f k) = 0 from by unfold prS; rw [if_pos ek]]
        omega
      have hdl : dD (cP c) (f k) < cP c + 1 ∧ oD (cP c) (dD (cP c) (f k)) = f k := by
        rw [hfp]
        cases ep : pl k with
        | none => exact ⟨Nat.lt_succ_self _, oD_P⟩
        | some p => have := hpl k p hkN ep; exact ⟨show p < cP c + 1 by omega, oD_lt this⟩
      repeat refine wp_s rfl ?_
      refine wp_cc rfl (by omega) (S_kept w g s.2.2 hkN ?_)
      rw [ek]
      repeat refine wp_s rfl ?_
      rw [RG_tY g hkN]
      cases eY : cY c k with
      | false =>
        refine stay _ _ _ _ ?_ hdl.1 hdl.2 fin hcs (fun p => Tl_kept ek) (fun z => absurd z (by rw [ek]; simp))
        unfold okS
        rw [if_pos ek]
        exact ⟨hfp, fun z => absurd z (by rw [eY]; simp)⟩
      | true =>
        repeat refine wp_s rfl ?_
        rw [RG_tw g hkN]
        cases ep : pl k with
        | none =>
          refine wp_s rfl ?_
          refine wp_e rfl (kk h o FP_r r lb (opB _ ?_))
          refine opt_digits hD (by omega) op0 (fun r2 h1 h2 n hn hV => absurd hV (okfail (r := r2) (q := q) hkK (by omega) (fun z => ?_) (by rw [hKk]; exact hn)))
          unfold okS at z
          rw [if_pos ek] at z
          exact z.2 eY ep
        | some p =>
          refine wp_s rfl ?_
          refine stay _ _ _ _ ?_ hdl.1 hdl.2 fin hcs (fun p => Tl_kept ek) (fun z => absurd z (by rw [ek]; simp))
          unfold okS
          rw [if_pos ek]
          exact ⟨hfp, fun _ => by rw [ep]; simp⟩
    | false =>
      have hfn : f k = none := by
        rw [hfk]
        unfold f0
        rw [ek]
        rfl
      repeat refine wp_s rfl ?_
      rw [s.2.1]
      cases es : sb with
      | false =>
        iterate 2 refine wp_s rfl ?_
        rw [← es]
        exact ploop ek (by rw [es]; rfl) (cP c) 0 (by omega) h o _ _ FP_r r lb op0
      | true =>
        repeat refine wp_s rfl ?_
        rw [RG_tY g hkN]
        cases eY : cY c k with
        | true =>
          iterate 2 refine wp_s rfl ?_
          rw [← es]
          exact ploop ek (by rw [eY, es]; rfl) (cP c) 0 (by omega) h o _ _ FP_r r lb op0
        | false =>
          repeat refine wp_s rfl ?_
          refine wp_cc rfl (by omega) (S_kept w g s.2.2 hkN ?_)
          rw [ek]
          refine wp_s rfl ?_
          rw [← es]
          have hst : (sb && !cY c k) = true := by rw [es, eY]; rfl
          refine stay _ _ _ _ ?_ ?_ ?_ ?_ ?_ (fun p => Tl_none hfn) (fun _ => hfn)
          · unfold okS
            rw [ek, hst, hfn]
            simp
          · rw [hfn]; exact Nat.lt_succ_self _
          · rw [hfn]; exact oD_P
          · intro x hx
            unfold okS at hx
            rw [ek, hst] at hx
            simp at hx
            rw [hx, hfn]
          · show sumN _ _ + (sumN k _ + prS c pl kg sb k (f k)) = sumN _ _ + sumN k _
            rw [sumN_congr (n := cP c) (G := fun p => (Tl (cN c) (kpt c kg) f k p).length * (Tl (cN c) (kpt c kg) f k p).length) (fun p _ => by rw [Tl_none hfn]), show prS c pl kg sb k (f k) = 0 from by unfold prS; rw [ek, hst]; rfl]
            omega
end PLW
end
section
-- BEGIN, BASE, SEEK, HOUR, PLAN
def LK (c : Cf) (pl : Pl) (kg : Bool) (k p : Nat) : List Nat := (List.range k).filter (fun j => kpt c kg j && f0 c pl kg j == some p)
def GK (c : Cf) (pl : Pl) (kg : Bool) (k : Nat) : Prop := ∀ p, p < cP c → lq (sz c) (LK c pl kg k p) ≤ cL c ∧ NF (near c) (LK c pl kg k p)
section SEEK
variable {c : Cf} {pl : Pl} {kg sb : Bool} {K k q d t : Nat} {h h' : AH} {f : Nat → Option Nat} {Q : Oc → AH → Prop}
theorem LK_s {p : Nat} : LK c pl kg (k + 1) p = LK c pl kg k p ++ (if kpt c kg k && f0 c pl kg k == some p then [k] else []) := by
  unfold LK
  rw [List.range_succ, List.filter_append]
  congr 1
  cases e : (kpt c kg k && f0 c pl kg k == some p) <;> simp [List.filter, e]
theorem LK_len {p : Nat} : (LK c pl kg k p).length ≤ k := by
  have := List.length_filter_le (fun j => kpt c kg j && f0 c pl kg j == some p) (List.range k)
  rw [List.length_range] at this
  exact this
theorem LK_mem {p j : Nat} (hj : j ∈ LK c pl kg k p) : j < k ∧ f0 c pl kg j = some p := by
  unfold LK at hj
  simp only [List.mem_filter, List.mem_range, Bool.and_eq_true, beq_iff_eq] at hj
  exact ⟨hj.1, hj.2.2⟩
theorem GK_down (a : GK c pl kg (k + 1)) : GK c pl kg k := by
  intro p hp
  obtain ⟨h1, h2⟩ := a p hp
  rw [LK_s] at h1 h2
  rw [lq_app] at h1
  exact ⟨by omega, fun i j hi hj => h2 i j (List.mem_append_left _ hi) (List.mem_append_left _ hj)⟩
theorem GK_same (e : ∀ p, LK c pl kg (k + 1) p = LK c pl kg k p) : GK c pl kg (k + 1) ↔ GK c pl kg k := by
  unfold GK
  constructor <;> (intro a p hp; have := a p hp; rw [e] at *; exact this)
theorem B01_and (a b : Bool) : B01 a &&& B01 b = B01 (a && b) := by cases a <;> cases b <;> decide
theorem take_0 {p i s : Nat} {l : List Nat} : hI (takeH c h p t l) 0 i s = hI h 0 i s := by
  unfold takeH
  refine (hI_so (by omega)).trans ?_
  show hI (sI h 1 p 4 (nI (l.length + 1))) 0 i s = _
  exact hI_so (by omega)
theorem take_2 {p i s : Nat} {l : List Nat} : hA (takeH c h p t l) 2 i s = hA h 2 i s := by
  unfold takeH
  exact hA_so (by omega)
/-- all are forgotten -/
theorem forget_loop (w : Wf c) (hd : 3 ≤ d) {L2 L3 : Option AV} : ∀ (m j : Nat) (h' : AH), j + m = cP c → RG c pl h' → FP h h' → hI h' 0 0 13 = hI h 0 0 13 → (∀ p, p < j → PT c h' p []) →
    (∀ h2, FP h h2 → hI h2 0 0 13 = hI h 0 0 13 → (∀ p, p < cP c → PT c h2 p []) → WP d 16 29 [some (vr 0 0), some (vi 1), some (vi 0), L3] [] h2 Q) → WP d 16 2 [some (vr 0 0), some (vi (nI j)), L2, L3] [] h' Q := by
  have wP := Wf_P w
  intro m
  induction m with
  | zero =>
    intro j h' hj g a a1 a2 kk
    iterate 3 refine wp_s rfl ?_
    rw [RG_P g]
    refine wp_s rfl ?_
    refine br_ge (fun e => ?_) (fun e => absurd (nI_le (show cP c ≤ j by omega) (by omega)) e)
    iterate 4 refine wp_s rfl ?_
    exact kk h' a a1 (fun p hp => a2 p (by omega))
  | succ m ih =>
    intro j h' hj g a a1 a2 kk
    have hj' : j < cP c := by omega
    iterate 3 refine wp_s rfl ?_
    rw [RG_P g]
    refine wp_s rfl ?_
    refine br_ge (fun e => absurd e (nI_ge hj' (by omega))) (fun e => ?_)
    repeat refine wp_s rfl ?_
    rw [RG_a0 g]
    refine wp_aald rfl rfl (by show j < 4; omega) ?_
    rw [RG_p g hj']
    refine wp_cc rfl (by omega) (S_forget ?_)
    iterate 2 refine wp_s rfl ?_
    rw [nI_1]
    have b : FP h' (sI (sI h' 1 j 4 0) 1 j 5 0) := ⟨fun k i s q1 q2 => (hI_so (by omega)).trans (hI_so (by omega)), fun _ _ _ _ _ => rfl, rfl, rfl, rfl, rfl⟩
    refine ih (j + 1) _ (by omega) (RG_FS (FP_FS b) g) (FP_t a b) (((hI_so (by omega)).trans (hI_so (by omega))).trans a1) (fun p hp => ?_) kk
    by_cases e2 : p = j
    · subst e2
      exact ⟨Nat.zero_le _, (hI_so (by omega)).trans hI_ss, hI_ss, fun s hs => absurd hs (Nat.not_lt_zero _), fun j hj => absurd hj (by simp)⟩
    · exact PT_eq ((hI_so (by omega)).trans (hI_so (by omega))) ((hI_so (by omega)).trans (hI_so (by omega))) (fun _ _ => rfl) (a2 p (by omega))
theorem begin_loop (w : Wf c) (hd : 3 ≤ d) (hpl : ∀ t p, t < cN c → pl t = some p → p < cP c) : ∀ (m k : Nat) (h' : AH) (gb : Bool) (L3 : Option AV), k + m = cN c → RG c pl h' → hI h' 0 0 15 = B01 kg → FP h h' → hI h' 0 0 13 = hI h 0 0 13 → (∀ p, p < cP c → PT c h' p (LK c pl kg k p)) → (∀ t, t < k → hA h' 2 t 5 = oR (f0 c pl kg t)) → (gb = true ↔ GK c pl kg k) →
    (∀ h2 gb, FP h h2 → hI h2 0 0 13 = hI h 0 0 13 → (∀ p, p < cP c → PT c h2 p (LK c pl kg (cN c) p)) → (∀ t, t < cN c → hA h2 2 t 5 = oR (f0 c pl kg t)) → (gb = true ↔ GK c pl kg (cN c)) → Q (.inl (some (vi (B01 gb)))) h2) → WP d 16 29 [some (vr 0 0), some (vi (B01 gb)), some (vi (nI k)), L3] [] h' Q := by
  have wN := Wf_N w
  have wL := Wf_L w
  intro m
  induction m with
  | zero =>
    intro k h' gb L3 hk g hkg a a1 a2 a3 a4 kk
    obtain rfl : k = cN c := by omega
    iterate 3 refine wp_s rfl ?_
    rw [RG_N g]
    refine wp_s rfl ?_
    refine br_ge (fun e => ?_) (fun e => absurd (nI_le (Nat.le_refl _) (by omega)) e)
    refine wp_s rfl ?_
    exact wp_zret rfl (B01_or _) (kk h' gb a a1 a2 a3 a4)
  | succ m ih =>
    intro k h' gb L3 hk g hkg a a1 a2 a3 a4 kk
    have hkN : k < cN c := by omega
    iterate 3 refine wp_s rfl ?_
    rw [RG_N g]
    refine wp_s rfl ?_
    refine br_ge (fun e => absurd e (nI_ge hkN (by omega))) (fun e => ?_)
    repeat refine wp_s rfl ?_
    rw [RG_a1 g]
    refine wp_aald rfl rfl (by show k < 6; omega) ?_
    rw [RG_t g hkN]
    repeat refine wp_s rfl ?_
    have b : FP h' (sA h' 2 k 5 none) := FP_trial
    have gb1 := RG_FS (FP_FS b) g
    refine wp_cc rfl (by omega) (S_kept w gb1 hkg hkN ?_)
    cases ek : kpt c kg k with
    | false =>
      have hf : f0 c pl kg k = none := by unfold f0; rw [ek]; rfl
      have hL : ∀ p, LK c pl kg (k + 1) p = LK c pl kg k p := fun p => by rw [LK_s, ek]; simp
      iterate 4 refine wp_s rfl ?_
      rw [nI_1]
      refine ih (k + 1) _ gb _ (by omega) gb1 hkg (FP_t a b) a1 (fun p hp => ?_) (fun t ht => ?_) (a4.trans (GK_same hL).symm) kk
      · rw [hL]
        exact PT_eq (h := h') rfl rfl (fun s _ => hA_so (by omega)) (a2 p hp)
      · by_cases e2 : t = k
        · subst e2; rw [hf]; exact hA_ss
        · exact (hA_so (by omega)).trans (a3 t (by omega))
    | true =>
      have hf : f0 c pl kg k = pl k := by unfold f0; rw [if_pos ek]
      iterate 5 refine wp_s rfl ?_
      rw [RG_tw gb1 hkN]
      have b2 : FP h' (sA (sA h' 2 k 5 none) 2 k 5 (oR (pl k))) := FP_t FP_trial FP_trial
      have g2 := RG_FS (FP_FS b2) g
      have p2 : ∀ p, p < cP c → PT c (sA (sA h' 2 k 5 none) 2 k 5 (oR (pl k))) p (LK c pl kg k p) := fun p hp => PT_eq (h := h') rfl rfl (fun s _ => (hA_so (by omega)).trans (hA_so (by omega))) (a2 p hp)
      have t2 : ∀ t, t < k + 1 → hA (sA (sA h' 2 k 5 none) 2 k 5 (oR (pl k))) 2 t 5 = oR (f0 c pl kg t) := fun t ht => by
        by_cases e2 : t = k
        · subst e2; rw [hf]; exact hA_ss
        · exact ((hA_so (by omega)).trans (hA_so (by omega))).trans (a3 t (by omega))
      have i2 : hI (sA (sA h' 2 k 5 none) 2 k 5 (oR (pl k))) 0 0 13 = hI h 0 0 13 := a1
      have k2 : hI (sA (sA h' 2 k 5 none) 2 k 5 (oR (pl k))) 0 0 15 = B01 kg := hkg
      generalize sA (sA h' 2 k 5 none) 2 k 5 (oR (pl k)) = h2 at *
      iterate 2 refine wp_s rfl ?_
      rw [RG_tw g2 hkN]
      cases ep : pl k with
      | none =>
        have hL : ∀ p, LK c pl kg (k + 1) p = LK c pl kg k p := fun p => by rw [LK_s, hf, ep]; simp
        iterate 4 refine wp_s rfl ?_
        rw [nI_1]
        refine ih (k + 1) _ gb _ (by omega) g2 k2 (FP_t a b2) i2 (fun p hp => by rw [hL]; exact p2 p hp) t2 (a4.trans (GK_same hL).symm) kk
      | some p =>
        have hp := hpl k p hkN ep
        have pt := p2 p hp
        have hlq := lq_le w pt.2.2.2.2
        have hl6 := pt.1
        have hsz := sz_le w hkN
        have hlen : (LK c pl kg k p).length ≤ k := LK_len
        have hLp : LK c pl kg (k + 1) p = LK c pl kg k p ++ [k] := by rw [LK_s, hf, ep, ek]; simp
        have hLo : ∀ p', p' ≠ p → LK c pl kg (k + 1) p' = LK c pl kg k p' := fun p' hp' => by rw [LK_s, hf, ep]; simp; exact fun _ e => hp' e.symm
        have tail : ∀ cb : Bool, ((gb && cb) = true ↔ GK c pl kg (k + 1)) → WP d 16 118 [some (vr 0 0), some (vi (B01 gb)), some (vi (nI k)), some (vr 2 k)] [vi (B01 cb), vi (B01 gb)] h2 Q := by
          intro cb hcb
          refine wp_s rfl ?_
          rw [B01_and]
          iterate 3 refine wp_s rfl ?_
          rw [RG_tw g2 hkN, ep]
          refine wp_s rfl ?_
          refine wp_cc rfl (by omega) (S_take w g2 (by omega) hp hkN pt (by omega) ?_)
          iterate 2 refine wp_s rfl ?_
          rw [nI_1]
          refine ih (k + 1) _ (gb && cb) _ (by omega) (RG_FS (FP_FS take_FP) g2) ?_ (FP_t a (FP_t b2 take_FP)) ?_ (fun p' hp' => ?_) (fun t ht => ?_) hcb kk
          · exact take_0.trans k2
          · exact take_0.trans i2
          · by_cases e2 : p' = p
            · subst e2
              rw [hLp]
              exact take_PT hkN pt (by omega)
            · rw [hLo p' e2]
              exact take_PTo e2 (p2 p' hp')
          · exact take_2.trans (t2 t ht)
        iterate 7 refine wp_s rfl ?_
        rw [RG_tw g2 hkN, ep, RG_R g2]
        refine wp_cc rfl (by omega) (S_clear w g2 (by omega) hp hkN pt (fun ecl => ?_) (fun ecl => ?_))
        · iterate 3 refine wp_s rfl ?_
          rw [RG_tw g2 hkN, ep]
          iterate 2 refine wp_s rfl ?_
          refine wp_cc rfl (by omega) (S_size w g2 hkN ?_)
          iterate 4 refine wp_s rfl ?_
          rw [pt.2.2.1, nI_add, RG_L g2]
          refine br_gt (fun e2 => ?_) (fun e2 => ?_)
          · refine wp_s rfl ?_
            refine tail false ?_
            have := (nI_ltI (by omega) (by omega)).1 e2
            refine ⟨fun z => absurd z (by simp), fun z => ?_⟩
            have := (z p hp).1
            rw [hLp, lq_app] at this
            simp only [lq] at this
            omega
          · iterate 2 refine wp_s rfl ?_
            refine tail true ?_
            have e3 := (nI_leI (by omega) (by omega)).1 (Int32.not_lt.1 e2)
            rw [Bool.and_true, a4]
            refine ⟨fun z p' hp' => ?_, GK_down⟩
            by_cases e4 : p' = p
            · subst e4
              rw [hLp]
              refine ⟨by rw [lq_app]; simp only [lq]; omega, fun i j hi hj hne => ?_⟩
              rcases List.mem_append.1 hi with hi | hi <;> rcases List.mem_append.1 hj with hj | hj
              · exact (z p' hp').2 i j hi hj hne
              · rw [List.mem_singleton.1 hj]; exact ecl i hi
              · rw [List.mem_singleton.1 hi, near_symm]; exact ecl j hj
              · exact absurd ((List.mem_singleton.1 hi).trans (List.mem_singleton.1 hj).symm) hne
            · rw [hLo p' e4]
              exact z p' hp'
        · iterate 2 refine wp_s rfl ?_
          refine tail false ?_
          refine ⟨fun z => absurd z (by simp), fun z => ?_⟩
          obtain ⟨i, hi, hin⟩ := ecl
          have := (z p hp).2 i k (by rw [hLp]; exact List.mem_append_left _ hi) (by rw [hLp]; simp) (by have := (LK_mem hi).1; omega)
          rw [hin] at this
          exact absurd this (by simp)
theorem LK_TL (p : Nat) : TL c kg (f0 c pl kg) 0 p = LK c pl kg (cN c) p := by
  unfold TL Tl LK
  simp
theorem GK_GD : GK c pl kg (cN c) ↔ GD c pl kg sb (f0 c pl kg) 0 := by
  constructor
  · intro a
    exact ⟨fun j hj => absurd hj (by omega), fun p hp => by rw [show Tl (cN c) (kpt c kg) (f0 c pl kg) 0 p = LK c pl kg (cN c) p from LK_TL p]; exact a p hp⟩
  · intro a p hp
    have := a.2 p hp
    rw [show Tl (cN c) (kpt c kg) (f0 c pl kg) 0 p = LK c pl kg (cN c) p from LK_TL p] at this
    exact this
theorem S_begin (w : Wf c) (hd : 3 ≤ d) (hpl : ∀ t p, t < cN c → pl t = some p → p < cP c) (g : RG c pl h) (hkg : hI h 0 0 15 = B01 kg) (kk : ∀ h2 gb, FP h h2 → hI h2 0 0 13 = hI h 0 0 13 → RS c h2 (f0 c pl kg) (TL c kg (f0 c pl kg) 0) → (gb = true ↔ GD c pl kg sb (f0 c pl kg) 0) → Q (.inl (some (vi (B01 gb)))) h2) : WP d 16 0 [some (vr 0 0), none, none, none] [] h Q := by
  iterate 2 refine wp_s rfl ?_
  refine forget_loop (h := h) w hd (cP c) 0 h (by omega) g FP_r rfl (fun p hp => absurd hp (by omega)) ?_
  intro h2 a a1 a2
  refine begin_loop (kg := kg) (h := h) w hd hpl (cN c) 0 h2 true _ (by omega) (RG_FS (FP_FS a) g) ?_ a a1 a2 (fun t ht => absurd ht (by omega)) ⟨fun _ p hp => ⟨Nat.zero_le _, fun i j hi => absurd hi (by simp [LK])⟩, fun _ => rfl⟩ ?_
  · rw [a.1 0 0 15 (by omega) (by omega)]; exact hkg
  · intro h3 gb b b1 b2 b3 b4
    exact kk h3 gb b b1 ⟨fun p hp => by rw [LK_TL]; exact b2 p hp, b3⟩ (b4.trans GK_GD)
end SEEK
end
section
-- BASE, SEEK, HOUR, PLAN
section PLAN
variable {c : Cf} {pl : Pl} {kg sb : Bool} {K k q d t : Nat} {h h' : AH} {f : Nat → Option Nat} {Q : Oc → AH → Prop}
theorem base_loop1 (w : Wf c) (g : RG c pl h) {T : Nat → List Nat} (r : ∀ p, p < cP c → PT c h p (T p)) (kk : WP d 19 42 [some (vr 0 0), some (vi (nI (sumN (cP c) (fun p => (T p).length * (T p).length)))), some (vi 0)] [] h Q) : ∀ (m j : Nat), j + m = cP c → WP d 19 4 [some (vr 0 0), some (vi (nI (sumN j (fun p => (T p).length * (T p).length)))), some (vi (nI j))] [] h Q := by
  have wP := Wf_P w
  intro m
  induction m with
  | zero =>
    intro j hj
    obtain rfl : j = cP c := by omega
    iterate 3 refine wp_s rfl ?_
    rw [RG_P g]
    refine wp_s rfl ?_
    refine br_ge (fun e => ?_) (fun e => absurd (nI_le (Nat.le_refl _) (by omega)) e)
    iterate 2 refine wp_s rfl ?_
    exact kk
  | succ m ih =>
    intro j hj
    have hj' : j < cP c := by omega
    iterate 3 refine wp_s rfl ?_
    rw [RG_P g]
    refine wp_s rfl ?_
    refine br_ge (fun e => absurd e (nI_ge hj' (by omega))) (fun e => ?_)
    repeat refine wp_s rfl ?_
    rw [RG_a0 g]
    refine wp_aald rfl rfl (by show j < 4; omega) ?_
    rw [RG_p g hj']
    repeat refine wp_s rfl ?_
    rw [RG_a0 g]
    refine wp_aald rfl rfl (by show j < 4; omega) ?_
    rw [RG_p g hj']
    iterate 6 refine wp_s rfl ?_
    rw [(r j hj').2.1, pk_mul, nI_add, nI_1]
    exact ih (j + 1) (by omega)
theorem base_loop2 (w : Wf c) (hd : 1 ≤ d) (g : RG c pl h) (hkg : hI h 0 0 15 = B01 kg) {a : Nat} (kk : Q (.inl (some (vi (nI (a + cbS c pl kg))))) h) : ∀ (m j : Nat), j + m = cN c → WP d 19 42 [some (vr 0 0), some (vi (nI (a + sumN j (fun j => if kpt c kg j = true ∧ pl j = none then 100 else 0)))), some (vi (nI j))] [] h Q := by
  have wN := Wf_N w
  intro m
  induction m with
  | zero =>
    intro j hj
    obtain rfl : j = cN c := by omega
    iterate 3 refine wp_s rfl ?_
    rw [RG_N g]
    refine wp_s rfl ?_
    refine br_ge (fun e => ?_) (fun e => absurd (nI_le (Nat.le_refl _) (by omega)) e)
    refine wp_s rfl ?_
    exact wp_e rfl kk
  | succ m ih =>
    intro j hj
    have hj' : j < cN c := by omega
    have step : ∀ x : Nat, x = (if kpt c kg j = true ∧ pl j = none then 100 else 0) → WP d 19 78 [some (vr 0 0), some (vi (nI (a + sumN j (fun j => if kpt c kg j = true ∧ pl j = none then 100 else 0) + x))), some (vi (nI j))] [] h Q := by
      intro x hx
      iterate 2 refine wp_s rfl ?_
      rw [nI_1, Nat.add_assoc, hx]
      exact ih (j + 1) (by omega)
    iterate 3 refine wp_s rfl ?_
    rw [RG_N g]
    refine wp_s rfl ?_
    refine br_ge (fun e => absurd e (nI_ge hj' (by omega))) (fun e => ?_)
    repeat refine wp_s rfl ?_
    rw [RG_a1 g]
    refine wp_aald rfl rfl (by show j < 6; omega) ?_
    rw [RG_t g hj']
    refine wp_cc rfl (by omega) (S_kept w g hkg hj' ?_)
    cases ek : kpt c kg j with
    | false =>
      refine wp_s rfl ?_
      exact step 0 (by simp [ek])
    | true =>
      repeat refine wp_s rfl ?_
      rw [RG_a1 g]
      refine wp_aald rfl rfl (by show j < 6; omega) ?_
      rw [RG_t g hj']
      refine wp_s rfl ?_
      rw [RG_tw g hj']
      cases ep : pl j with
      | some p =>
        refine wp_s rfl ?_
        exact step 0 (by simp [ep])
      | none =>
        iterate 2 refine wp_s rfl ?_
        rw [show (100 : Int32) = nI 100 from rfl, nI_add]
        exact step 100 (by simp [ek, ep])
theorem S_base (w : Wf c) (hd : 1 ≤ d) (g : RG c pl h) (hkg : hI h 0 0 15 = B01 kg) (r : RS c h (f0 c pl kg) (TL c kg (f0 c pl kg) 0)) (kk : Q (.inl (some (vi (nI (cbS c pl kg + CS c pl kg sb (f0 c pl kg) 0))))) h) : WP d 19 0 [some (vr 0 0), none, none] [] h Q := by
  iterate 4 refine wp_s rfl ?_
  refine base_loop1 w g r.1 ?_ (cP c) 0 (by omega)
  refine base_loop2 w hd g hkg ?_ (cN c) 0 (by omega)
  rw [Nat.add_comm]
  exact kk
theorem Vs_none (hn : ¬ GD c pl kg sb (f0 c pl kg) 0) (n : Nat) : ¬ Vs c pl kg sb K n := by
  intro hV
  refine hn ?_
  have : GD c pl kg sb (EX c pl kg K n) (0 + K) := by rw [Nat.zero_add]; exact hV
  exact Gd_congr (fun j hj => absurd hj (by omega)) (fun j _ hj => V_kept okS_kept hV hj) (Gd_downs this)
theorem S_seek (w : Wf c) (hK : K ≤ cN c) (hd : K + 4 ≤ d) (hpl : ∀ t p, t < cN c → pl t = some p → p < cP c) (g : RG c pl h) (hkg : hI h 0 0 15 = B01 kg)
    (kk : ∀ h2 o, FS h h2 → hI h2 0 0 10 = hI h 0 0 10 → LB c pl kg sb K h2 o → Opt (Vs c pl kg sb K) (Ws c pl kg sb K) ((cP c + 1) ^ K) o → Q (.inl (some (vi (B01 o.isSome)))) h2) : WP d 20 0 [some (vr 0 0), some (vi (nI K)), some (vi (B01 sb))] [] h Q := by
  have fin : ∀ h2 o, FS h h2 → hI h2 0 0 10 = hI h 0 0 10 → LB c pl kg sb K h2 o → Opt (Vs c pl kg sb K) (Ws c pl kg sb K) ((cP c + 1) ^ K) o → WP d 20 32 [some (vr 0 0), some (vi (nI K)), some (vi (B01 sb))] [] h2 Q := by
    intro h2 o a a1 lb op
    iterate 3 refine wp_s rfl ?_
    have k2 := kk h2 o a a1 lb op
    cases o with
    | none =>
      rw [show hI h2 0 0 13 = 2147483647 from lb]
      repeat refine wp_s rfl ?_
      exact wp_e rfl k2
    | some b =>
      rw [lb.1]
      have := Ws_le (pl := pl) (kg := kg) (sb := sb) w hK b
      refine wp_s rfl ?_
      refine br_ge (fun e => absurd e (nI_ge (b := 2147483647) (by omega) (by omega))) (fun e => ?_)
      repeat refine wp_s rfl ?_
      exact wp_e rfl k2
  iterate 5 refine wp_s rfl ?_
  refine wp_putZ rfl (B01_or _) ?_
  iterate 4 refine wp_s rfl ?_
  have a : FS h (sI (sI (sI h 0 0 12 (nI K)) 0 0 14 (B01 sb)) 0 0 13 2147483647) := ⟨fun k i s q1 q2 => (hI_so (by omega)).trans ((hI_so (by omega)).trans (hI_so (by omega))), fun _ _ _ _ _ => rfl, rfl, rfl, rfl, rfl⟩
  have sc : SC kg sb K (sI (sI (sI h 0 0 12 (nI K)) 0 0 14 (B01 sb)) 0 0 13 2147483647) := ⟨(hI_so (by omega)).trans ((hI_so (by omega)).trans hI_ss), (hI_so (by omega)).trans hI_ss, (hI_so (by omega)).trans ((hI_so (by omega)).trans ((hI_so (by omega)).trans hkg))⟩
  have l0 : hI (sI (sI (sI h 0 0 12 (nI K)) 0 0 14 (B01 sb)) 0 0 13 2147483647) 0 0 13 = 2147483647 := hI_ss
  have t0 : hI (sI (sI (sI h 0 0 12 (nI K)) 0 0 14 (B01 sb)) 0 0 13 2147483647) 0 0 10 = hI h 0 0 10 := (hI_so (by omega)).trans ((hI_so (by omega)).trans (hI_so (by omega)))
  have g1 := RG_FS a g
  generalize sI (sI (sI h 0 0 12 (nI K)) 0 0 14 (B01 sb)) 0 0 13 2147483647 = h1 at *
  refine wp_cc rfl (by omega) (S_begin (sb := sb) w (by omega) hpl g1 sc.2.2 ?_)
  intro h2 gb b b1 r hg
  have g2 := RG_FS (FP_FS b) g1
  have s2 := SC_FP b sc
  have t2 : hI h2 0 0 10 = hI h 0 0 10 := (b.1 0 0 10 (by omega) (by omega)).trans t0
  cases gb with
  | false =>
    refine wp_s rfl ?_
    refine fin h2 none (FS_t a (FP_FS b)) t2 (b1.trans l0) (fun n _ => Vs_none (fun z => absurd (hg.2 z) (by simp)) n)
  | true =>
    iterate 4 refine wp_s rfl ?_
    refine wp_cc rfl (by omega) (S_base (sb := sb) w (by omega) g2 s2.2.2 r ?_)
    refine wp_cc rfl (by omega) (S_place w hK hpl K 0 (by omega) (f0 c pl kg) 0 none _ h2 _ (by omega) g2 s2 r ⟨fun n _ j hj => absurd hj (by omega), hg.1 rfl, fun _ _ => rfl⟩ (b1.trans l0) (fun n hn => absurd hn (by omega)) ?_)
    intro h3 o' b3 _ lb op
    refine fin h3 o' (FS_t a (FS_t (FP_FS b) (FP_FS b3))) ((b3.1 0 0 10 (by omega) (by omega)).trans t2) lb ?_
    rw [show (0 + 1) * (cP c + 1) ^ K = (cP c + 1) ^ K by omega] at op
    exact op
/-- the first k that is always and can't be filled -/
def Hr (c : Cf) (pl : Pl) (kg : Bool) (x : Int32) : Prop := ∃ k, k ≤ cN c ∧ (∀ j, j < k → cY c j = true → ∃ n, n < (cP c + 1) ^ (j + 1) ∧ Vs c pl kg true (j + 1) n) ∧ ((k < cN c ∧ cY c k = true ∧ (∀ n, n < (cP c + 1) ^ (k + 1) → ¬ Vs c pl kg true (k + 1) n) ∧ x = nI (cA c k)) ∨ (k = cN c ∧ x = -1))
theorem hour_loop (w : Wf c) (hd : cN c + 5 ≤ d) (hpl : ∀ t p, t < cN c → pl t = some p → p < cP c) (hkg : hI h 0 0 15 = B01 kg) (kk : ∀ h2 x, FS h h2 → Hr c pl kg x → Q (.inl (some (vi x))) h2) : ∀ (m k : Nat) (h' : AH), k + m = cN c → RG c pl h' → FS h h' → (∀ j, j < k → cY c j = true → ∃ n, n < (cP c + 1) ^ (j + 1) ∧ Vs c pl kg true (j + 1) n) → WP d 21 2 [some (vr 0 0), some (vi (nI k))] [] h' Q := by
  have wN := Wf_N w
  intro m
  induction m with
  | zero =>
    intro k h' hk g a hall
    obtain rfl : k = cN c := by omega
    iterate 3 refine wp_s rfl ?_
    rw [RG_N g]
    refine wp_s rfl ?_
    refine br_ge (fun e => ?_) (fun e => absurd (nI_le (Nat.le_refl _) (by omega)) e)
    iterate 3 refine wp_s rfl ?_
    rw [RG_N g]
    refine wp_s rfl ?_
    refine br_ge (fun e => ?_) (fun e => absurd (nI_le (Nat.le_refl _) (by omega)) e)
    refine wp_s rfl ?_
    exact wp_e rfl (kk h' _ a ⟨cN c, Nat.le_refl _, hall, .inr ⟨rfl, rfl⟩⟩)
  | succ m ih =>
    intro k h' hk g a hall
    have hkN : k < cN c := by omega
    iterate 3 refine wp_s rfl ?_
    rw [RG_N g]
    refine wp_s rfl ?_
    refine br_ge (fun e => absurd e (nI_ge hkN (by omega))) (fun e => ?_)
    repeat refine wp_s rfl ?_
    rw [RG_a1 g]
    refine wp_aald rfl rfl (by show k < 6; omega) ?_
    rw [RG_t g hkN]
    refine wp_s rfl ?_
    rw [RG_tY g hkN]
    have go : ∀ h', RG c pl h' → FS h h' → (cY c k = true → ∃ n, n < (cP c + 1) ^ (k + 1) ∧ Vs c pl kg true (k + 1) n) → WP d 21 33 [some (vr 0 0), some (vi (nI k))] [] h' Q := by
      intro h' g a hk2
      iterate 2 refine wp_s rfl ?_
      rw [nI_1]
      refine ih (k + 1) h' (by omega) g a (fun j hj hy => ?_)
      by_cases e3 : j = k
      · subst e3; exact hk2 hy
      · exact hall j (by omega) hy
    cases eY : cY c k with
    | false =>
      refine wp_s rfl ?_
      exact go h' g a (fun z => absurd z (by rw [eY]; simp))
    | true =>
      iterate 6 refine wp_s rfl ?_
      rw [nI_1]
      refine wp_cc rfl (by omega) (S_seek (K := k + 1) (sb := true) (kg := kg) w (by omega) (by omega) hpl g ?_ ?_)
      · rw [a.1 0 0 15 (by omega) (by omega)]; exact hkg
      · intro h2 o a2 _ lb op
        have a3 := FS_t a a2
        have g2 := RG_FS a2 g
        cases o with
        | some b =>
          refine wp_s rfl ?_
          exact go h2 g2 a3 (fun _ => ⟨b, op.1, op.2.1⟩)
        | none =>
          iterate 4 refine wp_s rfl ?_
          rw [RG_N g2]
          refine wp_s rfl ?_
          refine br_ge (fun e => absurd e (nI_ge hkN (by omega))) (fun e => ?_)
          repeat refine wp_s rfl ?_
          rw [RG_a1 g2]
          refine wp_aald rfl rfl (by show k < 6; omega) ?_
          rw [RG_t g2 hkN]
          iterate 2 refine wp_s rfl ?_
          rw [RG_tA g2 hkN]
          exact wp_e rfl (kk h2 _ a3 ⟨k, by omega, hall, .inl ⟨hkN, eY, op, rfl⟩⟩)
theorem S_hour (w : Wf c) (hd : cN c + 5 ≤ d) (hpl : ∀ t p, t < cN c → pl t = some p → p < cP c) (hkg : hI h 0 0 15 = B01 kg) (g : RG c pl h) (kk : ∀ h2 x, FS h h2 → Hr c pl kg x → Q (.inl (some (vi x))) h2) : WP d 21 0 [some (vr 0 0), none] [] h Q := by
  iterate 2 refine wp_s rfl ?_
  exact hour_loop w hd hpl hkg kk (cN c) 0 h (by omega) g FS_r (fun j hj => absurd hj (by omega))
theorem S_plan (w : Wf c) (hd : cN c + 6 ≤ d) (hpl : ∀ t p, t < cN c → pl t = some p → p < cP c) (hkg : hI h 0 0 15 = B01 kg) (g : RG c pl h)
    (kt : ∀ h2 b, FS h h2 → hI h2 0 0 10 = -1 → LB c pl kg false (cN c) h2 (some b) → Opt (Vs c pl kg false (cN c)) (Ws c pl kg false (cN c)) ((cP c + 1) ^ cN c) (some b) → Q (.inl (some (vi 1))) h2)
    (kf : ∀ h2 x, FS h h2 → hI h2 0 0 10 = x → Hr c pl kg x → Opt (Vs c pl kg false (cN c)) (Ws c pl kg false (cN c)) ((cP c + 1) ^ cN c) none → Q (.inl (some (vi 0))) h2) : WP d 22 0 [some (vr 0 0)] [] h Q := by
  have a : FS h (sI h 0 0 10 (-1)) := ⟨fun k i s q1 q2 => hI_so (by omega), fun _ _ _ _ _ => rfl, rfl, rfl, rfl, rfl⟩
  have g1 := RG_FS a g
  have k1 : hI (sI h 0 0 10 (-1)) 0 0 15 = B01 kg := (hI_so (by omega)).trans hkg
  iterate 7 refine wp_s rfl ?_
  rw [RG_N g1]
  refine wp_cc rfl (by omega) (S_seek (K := cN c) (sb := false) (kg := kg) w (Nat.le_refl _) (by omega) hpl g1 k1 ?_)
  intro h2 o a2 t2 lb op
  have a3 := FS_t a a2
  have g2 := RG_FS a2 g1
  cases o with
  | some b =>
    iterate 2 refine wp_s rfl ?_
    exact wp_e rfl (kt h2 b a3 (t2.trans hI_ss) lb op)
  | none =>
    iterate 3 refine wp_s rfl ?_
    refine wp_cc rfl (by omega) (S_hour (kg := kg) w (by omega) hpl ?_ g2 ?_)
    · rw [a2.1 0 0 15 (by omega) (by omega)]; exact k1
    · intro h3 x a4 hr
      iterate 2 refine wp_s rfl ?_
      have a5 : FS h3 (sI h3 0 0 10 x) := ⟨fun k i s q1 q2 => hI_so (by omega), fun _ _ _ _ _ => rfl, rfl, rfl, rfl, rfl⟩
      exact wp_e rfl (kf _ x (FS_t a3 (FS_t a4 a5)) hI_ss hr op)
end PLAN
end
section
-- THE CLASS: ITS STATE, AND THE CALLS THAT ONLY SET
def KX (pd : Bool) (told : Int32) (chs : List Nat) (h : AH) : Prop := hI h 0 0 11 = B01 pd ∧ hI h 0 0 10 = told ∧ chs.length ≤ 6 ∧ hI h 0 0 6 = nI chs.length ∧ ∀ s (hs : s < chs.length), hI h 8 0 s = nI chs[s]
def KN (c : Cf) (h : AH) : Prop := hC h 1 = cP c ∧ hC h 2 = cN c ∧ hC h 6 = cP c + 1 ∧ hI h 0 0 5 = nI (cS c)
def KS (c : Cf) (pl : Pl) (pd : Bool) (told : Int32) (chs : List Nat) (h : AH) : Prop := RG c pl h ∧ KX pd told chs h ∧ KN c h
/-- what a call to the class leaves as it is -/
def FC (h h' : AH) : Prop :=
  (∀ k i s, k = 4 ∨ k = 7 ∨ (k = 8 ∧ 1 ≤ i) ∨ k = 9 ∨ k = 10 ∨ k = 15 → hI h' k i s = hI h k i s) ∧ (∀ i s, hA h' 4 i s = hA h 4 i s) ∧ hC h' 16 = hC h 16 ∧ hZ h' ≤ hZ h + 4 ∧ hS h' ≤ hS h + 100
theorem Ch_fr {h h' : AH} (hi : ∀ i s, i < hC h 3 → hI h' 3 i s = hI h 3 i s) (ha : ∀ i s, i < hC h 3 → hA h' 3 i s = hA h 3 i s) (hc : hC h 3 ≤ hC h' 3) : ∀ (l : List (Int32 × Int32)) (r : Option (Nat × Nat)), Ch h r l → Ch h' r l
  | [], _, q => q
  | _ :: l, _, ⟨i, q1, q2, q3, q4, q5⟩ => ⟨i, q1, by omega, by rw [hi i 0 q2]; exact q3, by rw [hi i 1 q2]; exact q4, by rw [ha i 2 q2]; exact Ch_fr hi ha hc l _ q5⟩
theorem hI_ao {h : AH} {k n k' i s : Nat} (e : ¬ (k' = k ∧ i = hC h k)) : hI (al h k n) k' i s = hI h k' i s := if_neg e
theorem hA_ao {h : AH} {k n k' i s : Nat} (e : ¬ (k' = k ∧ i = hC h k)) : hA (al h k n) k' i s = hA h k' i s := if_neg e
theorem hI_as {h : AH} {k n i s : Nat} (e : i = hC h k) : hI (al h k n) k i s = 0 := if_pos ⟨rfl, e⟩
theorem hA_as {h : AH} {k n i s : Nat} (e : i = hC h k) : hA (al h k n) k i s = none := if_pos ⟨rfl, e⟩
theorem hC_ao {h : AH} {k n k' : Nat} (e : k' ≠ k) : hC (al h k n) k' = hC h k' := if_neg e
theorem hC_as {h : AH} {k n : Nat} : hC (al h k n) k = hC h k + 1 := if_pos rfl
section CLS
variable {c : Cf} {pl : Pl} {pd : Bool} {told : Int32} {chs : List Nat} {d : Nat} {h h' : AH} {Q : Oc → AH → Prop} {x y z : Int32}
theorem FC_al {k n : Nat} (hk : 11 < k) (hk2 : k < 15) (hn : n ≤ 100) : FC h (al h k n) :=
  ⟨fun k' i s q => hI_ao (by omega), fun i s => hA_ao (by omega), hC_ao (by omega), by show hZ h + 1 ≤ _; omega, by show hS h + n ≤ _; omega⟩
/-- class cells that stay -/
theorem RG_eq (i0 : ∀ s, s < 10 → hI h' 0 0 s = hI h 0 0 s) (a0 : ∀ s, hA h' 0 0 s = hA h 0 0 s) (a5 : ∀ s, hA h' 5 0 s = hA h 5 0 s) (a6 : ∀ s, hA h' 6 0 s = hA h 6 0 s) (i1 : ∀ i s, s < 2 → i < cP c → hI h' 1 i s = hI h 1 i s) (a1 : ∀ i s, i < cP c → hA h' 1 i s = hA h 1 i s) (i2 : ∀ i s, i < cN c → hI h' 2 i s = hI h 2 i s) (a2 : ∀ i, i < cN c → hA h' 2 i 4 = hA h 2 i 4)
    (i3 : ∀ i s, i < hC h 3 → hI h' 3 i s = hI h 3 i s) (a3 : ∀ i s, i < hC h 3 → hA h' 3 i s = hA h 3 i s) (hc : hC h 3 ≤ hC h' 3) (g : RG c pl h) : RG c pl h' := by
  refine ⟨?_, ?_, fun p hp => ?_, fun t ht => ?_⟩
  · rw [a0, a0, a0]; exact g.1
  · rw [i0 3 (by omega), i0 4 (by omega), i0 7 (by omega), i0 8 (by omega), i0 9 (by omega)]; exact g.2.1
  · obtain ⟨b1, b2, b3, b4, l, b5, b6⟩ := g.2.2.1 p hp
    rw [a5, i1 p 0 (by omega) hp, i1 p 1 (by omega) hp, a1 p 3 hp, a1 p 2 hp]
    exact ⟨b1, b2, b3, b4, l, Ch_fr i3 a3 hc _ _ b5, b6⟩
  · rw [a6, i2 t 0 ht, i2 t 1 ht, i2 t 2 ht, i2 t 3 ht, a2 t ht]
    exact g.2.2.2 t ht
theorem RG_al {k n : Nat} (hk : 11 < k) (g : RG c pl h) : RG c pl (al h k n) :=
  RG_eq (fun s _ => hI_ao (by omega)) (fun s => hA_ao (by omega)) (fun s => hA_ao (by omega)) (fun s => hA_ao (by omega)) (fun i s _ _ => hI_ao (by omega)) (fun i s _ => hA_ao (by omega)) (fun i s _ => hI_ao (by omega)) (fun i _ => hA_ao (by omega)) (fun i s _ => hI_ao (by omega)) (fun i s _ => hA_ao (by omega)) (by rw [hC_ao (by omega)]; exact Nat.le_refl _) g
theorem KX_eq (i0 : ∀ s, s = 6 ∨ s = 10 ∨ s = 11 → hI h' 0 0 s = hI h 0 0 s) (i8 : ∀ s, hI h' 8 0 s = hI h 8 0 s) (k : KX pd told chs h) : KX pd told chs h' := by
  unfold KX
  rw [i0 11 (by omega), i0 10 (by omega), i0 6 (by omega)]
  exact ⟨k.1, k.2.1, k.2.2.1, k.2.2.2.1, fun s hs => by rw [i8]; exact k.2.2.2.2 s hs⟩
theorem KS_al {k n : Nat} (hk : 11 < k) (g : KS c pl pd told chs h) : KS c pl pd told chs (al h k n) := by
  refine ⟨RG_al hk g.1, KX_eq (fun s _ => hI_ao (by omega)) (fun s => hI_ao (by omega)) g.2.1, ?_⟩
  unfold KN
  rw [hC_ao (by omega), hC_ao (by omega), hC_ao (by omega), hI_ao (by omega)]
  exact g.2.2
-- rest, limit, freeze
def wR (c : Cf) (v : Nat) : Cf := (cP c, cN c, cS c, cK c, cD c, cA c, cZ c, cY c, cO c, v, cL c, cF c)
def wL (c : Cf) (v : Nat) : Cf := (cP c, cN c, cS c, cK c, cD c, cA c, cZ c, cY c, cO c, cR c, v, cF c)
def wF (c : Cf) (v : Nat) : Cf := (cP c, cN c, cS c, cK c, cD c, cA c, cZ c, cY c, cO c, cR c, cL c, v)
theorem wth_t (e : wth x 0 96 = true) : ∃ v, v ≤ 96 ∧ x = nI v := by
  simp only [wth, Bool.and_eq_true, Bool.not_eq_true', decide_eq_false_iff_not, decide_eq_true_eq] at e
  obtain ⟨j, hj, rfl⟩ := nI_of2 (M := 96) (n := 96) rfl e.1 e.2
  exact ⟨j, hj, rfl⟩
theorem FC_sI {k i s : Nat} (hk : k < 4 ∨ k = 8 ∧ i = 0) : FC h (sI h k i s x) := ⟨fun k' i' s' q => hI_so (by omega), fun _ _ => rfl, rfl, by show hZ h ≤ _; omega, by show hS h ≤ _; omega⟩
theorem S_rest (hd : 2 ≤ d) (g : KS c pl pd told chs h) (kt : ∀ v h', v ≤ 96 → x = nI v → KS (wR c v) pl pd told chs h' → FC h h' → Q (.inl (some (vi (nI (cR c))))) h') (kf : wth x 0 96 = false → Q (.inr (12, hC h 12)) (al h 12 6)) : WP d 12 0 [some (vr 0 0), some (vi x), none] [] h Q := by
  refine wp_s rfl ?_
  refine wp_cc rfl (by omega) (S_isLong ?_)
  refine wp_cc rfl (by omega) (S_allow (fun e => ?_) kf)
  obtain ⟨v, hv, rfl⟩ := wth_t e
  repeat refine wp_s rfl ?_
  rw [RG_R g.1]
  refine wp_e rfl (kt v _ hv rfl ⟨?_, KX_eq (fun s hs => hI_so (by omega)) (fun s => hI_so (by omega)) g.2.1, g.2.2.1, g.2.2.2.1, g.2.2.2.2.1, (hI_so (by omega)).trans g.2.2.2.2.2⟩ (FC_sI (by omega)))
  obtain ⟨⟨b1, b2, b3⟩, ⟨c1, c2, c4, c5, c6⟩, g3, g4⟩ := g.1
  refine ⟨⟨b1, b2, b3⟩, ⟨(hI_so (by omega)).trans c1, (hI_so (by omega)).trans c2, hI_ss, (hI_so (by omega)).trans c5, (hI_so (by omega)).trans c6⟩, fun p hp => ?_, fun t ht => ?_⟩
  · obtain ⟨d1, d2, d3, d4, l, d5, d6⟩ := g3 p hp
    exact ⟨d1, (hI_so (by omega)).trans d2, (hI_so (by omega)).trans d3, d4, l, Ch_fr (fun i s _ => hI_so (by omega)) (fun _ _ _ => rfl) (Nat.le_refl _) _ _ d5, d6⟩
  · obtain ⟨d1, d2, d3, d4, d5, d6⟩ := g4 t ht
    exact ⟨d1, (hI_so (by omega)).trans d2, (hI_so (by omega)).trans d3, (hI_so (by omega)).trans d4, (hI_so (by omega)).trans d5, d6⟩
theorem S_limit (hd : 2 ≤ d) (g : KS c pl pd told chs h) (kt : ∀ v h', v ≤ 96 → x = nI v → KS (wL c v) pl pd told chs h' → FC h h' → Q (.inl (some (vi (nI (cL c))))) h') (kf : wth x 0 96 = false → Q (.inr (12, hC h 12)) (al h 12 6)) : WP d 13 0 [some (vr 0 0), some (vi x), none] [] h Q := by
  refine wp_s rfl ?_
  refine wp_cc rfl (by omega) (S_isLong ?_)
  refine wp_cc rfl (by omega) (S_allow (fun e => ?_) kf)
  obtain ⟨v, hv, rfl⟩ := wth_t e
  repeat refine wp_s rfl ?_
  rw [RG_L g.1]
  refine wp_e rfl (kt v _ hv rfl ⟨?_, KX_eq (fun s hs => hI_so (by omega)) (fun s => hI_so (by omega)) g.2.1, g.2.2.1, g.2.2.2.1, g.2.2.2.2.1, (hI_so (by omega)).trans g.2.2.2.2.2⟩ (FC_sI (by omega)))
  obtain ⟨⟨b1, b2, b3⟩, ⟨c1, c2, c4, c5, c6⟩, g3, g4⟩ := g.1
  refine ⟨⟨b1, b2, b3⟩, ⟨(hI_so (by omega)).trans c1, (hI_so (by omega)).trans c2, (hI_so (by omega)).trans c4, (hI_so (by omega)).trans c5, hI_ss⟩, fun p hp => ?_, fun t ht => ?_⟩
  · obtain ⟨d1, d2, d3, d4, l, d5, d6⟩ := g3 p hp
    exact ⟨d1, (hI_so (by omega)).trans d2, (hI_so (by omega)).trans d3, d4, l, Ch_fr (fun i s _ => hI_so (by omega)) (fun _ _ _ => rfl) (Nat.le_refl _) _ _ d5, d6⟩
  · obtain ⟨d1, d2, d3, d4, d5, d6⟩ := g4 t ht
    exact ⟨d1, (hI_so (by omega)).trans d2, (hI_so (by omega)).trans d3, (hI_so (by omega)).trans d4, (hI_so (by omega)).trans d5, d6⟩
theorem S_freeze (hd : 2 ≤ d) (g : KS c pl pd told chs h) (kt : ∀ v h', v ≤ 96 → x = nI v → KS (wF c v) pl pd told chs h' → FC h h' → Q (.inl (some (vi (nI (cF c))))) h') (kf : wth x 0 96 = false → Q (.inr (12, hC h 12)) (al h 12 6)) : WP d 14 0 [some (vr 0 0), some (vi x), none] [] h Q := by
  refine wp_s rfl ?_
  refine wp_cc rfl (by omega) (S_isLong ?_)
  refine wp_cc rfl (by omega) (S_allow (fun e => ?_) kf)
  obtain ⟨v, hv, rfl⟩ := wth_t e
  repeat refine wp_s rfl ?_
  rw [RG_F g.1]
  refine wp_e rfl (kt v _ hv rfl ⟨?_, KX_eq (fun s hs => hI_so (by omega)) (fun s => hI_so (by omega)) g.2.1, g.2.2.1, g.2.2.2.1, g.2.2.2.2.1, (hI_so (by omega)).trans g.2.2.2.2.2⟩ (FC_sI (by omega)))
  obtain ⟨⟨b1, b2, b3⟩, ⟨c1, c2, c4, c5, c6⟩, g3, g4⟩ := g.1
  refine ⟨⟨b1, b2, b3⟩, ⟨(hI_so (by omega)).trans c1, (hI_so (by omega)).trans c2, (hI_so (by omega)).trans c4, hI_ss, (hI_so (by omega)).trans c6⟩, fun p hp => ?_, fun t ht => ?_⟩
  · obtain ⟨d1, d2, d3, d4, l, d5, d6⟩ := g3 p hp
    exact ⟨d1, (hI_so (by omega)).trans d2, (hI_so (by omega)).trans d3, d4, l, Ch_fr (fun i s _ => hI_so (by omega)) (fun _ _ _ => rfl) (Nat.le_refl _) _ _ d5, d6⟩
  · obtain ⟨d1, d2, d3, d4, d5, d6⟩ := g4 t ht
    exact ⟨d1, (hI_so (by omega)).trans d2, (hI_so (by omega)).trans d3, (hI_so (by omega)).trans d4, (hI_so (by omega)).trans d5, d6⟩
end CLS
end
section
-- PERSON, OFF, TASK
theorem hI_sA {h : AH} {k i j : Nat} {x : Option (Nat × Nat)} : hI (sA h k i j x) = hI h := rfl
theorem hA_sI {h : AH} {k i j : Nat} {x : Int32} : hA (sI h k i j x) = hA h := rfl
theorem hC_sI {h : AH} {k i j : Nat} {x : Int32} : hC (sI h k i j x) = hC h := rfl
theorem hC_sA {h : AH} {k i j : Nat} {x : Option (Nat × Nat)} : hC (sA h k i j x) = hC h := rfl
theorem hZ_sI {h : AH} {k i j : Nat} {x : Int32} : hZ (sI h k i j x) = hZ h := rfl
theorem hZ_sA {h : AH} {k i j : Nat} {x : Option (Nat × Nat)} : hZ (sA h k i j x) = hZ h := rfl
theorem hS_sI {h : AH} {k i j : Nat} {x : Int32} : hS (sI h k i j x) = hS h := rfl
theorem hS_sA {h : AH} {k i j : Nat} {x : Option (Nat × Nat)} : hS (sA h k i j x) = hS h := rfl
theorem hZ_al {h : AH} {k n : Nat} : hZ (al h k n) = hZ h + 1 := rfl
theorem hS_al {h : AH} {k n : Nat} : hS (al h k n) = hS h + n := rfl
def wP (c : Cf) (x : Int32) : Cf := (cP c + 1, cN c, cS c, fun p => if p = cP c then x else cK c p, cD c, cA c, cZ c, cY c, cO c, cR c, cL c, cF c)
def wS (c : Cf) (p : Nat) (f t : Int32) : Cf := (cP c, cN c, cS c + 1, cK c, cD c, cA c, cZ c, cY c, fun s => if s = cS c then (p, f, t) else cO c s, cR c, cL c, cF c)
def wT (c : Cf) (x : Int32) (f t : Nat) (b : Bool) : Cf := (cP c, cN c + 1, cS c, cK c, fun j => if j = cN c then x else cD c j, fun j => if j = cN c then f else cA c j, fun j => if j = cN c then t else cZ c j, fun j => if j = cN c then b else cY c j, cO c, cR c, cL c, cF c)
def Sp (c : Cf) : Prop := ∀ s, s < cS c → (cO c s).1 < cP c
section ALLOC
variable {c : Cf} {pl : Pl} {pd : Bool} {told : Int32} {chs : List Nat} {d : Nat} {h h' : AH} {Q : Oc → AH → Prop} {x y z : Int32} {b : Bool}
theorem S_pinit {i : Nat} (k : Q (.inl none) (sI (sI (sA (al h 6 6) 1 i 3 (some (6, hC h 6))) 1 i 0 x) 1 i 1 y)) : WP d 77 0 [some (vr 1 i), some (vi x), some (vi y)] [] h Q := by
  repeat refine wp_s rfl ?_
  exact wp_e rfl k
theorem S_sinit {i : Nat} {r : Option (Nat × Nat)} (k : Q (.inl none) (sA (sI (sI h 3 i 0 x) 3 i 1 y) 3 i 2 r)) : WP d 84 0 [some (vr 3 i), some (vi x), some (vi y), some (vo r)] [] h Q := by
  repeat refine wp_s rfl ?_
  exact wp_e rfl k
theorem S_tinit {i : Nat} (k : Q (.inl none) (sI (sI (sI (sI h 2 i 0 x) 2 i 1 y) 2 i 2 z) 2 i 3 (B01 b))) : WP d 85 0 [some (vr 2 i), some (vi x), some (vi y), some (vi z), some (vi (B01 b))] [] h Q := by
  repeat refine wp_s rfl ?_
  refine wp_putZ rfl (B01_or _) ?_
  exact wp_e rfl k
theorem S_person (hd : 3 ≤ d) (w : Wf c) (sp : Sp c) (g : KS c pl pd told chs h) (kt : ∀ h', bel x 256 = true → cP c < 4 → KS (wP c x) pl pd told chs h' → FC h h' → Q (.inl (some (vi (nI (cP c))))) h') (k1 : bel x 256 = false → Q (.inr (12, hC h 12)) (al h 12 6)) (k2 : bel x 256 = true → ¬ cP c < 4 → Q (.inr (13, hC h 13)) (al h 13 6)) : WP d 8 0 [some (vr 0 0), some (vi x)] [] h Q := by
  have wP4 := Wf_P w
  have wN6 := Wf_N w
  iterate 2 refine wp_s rfl ?_
  refine wp_cc rfl (by omega) (S_below ?_)
  refine wp_cc rfl (by omega) (S_allow (fun e => ?_) k1)
  iterate 3 refine wp_s rfl ?_
  rw [RG_P g.1]
  refine wp_s rfl ?_
  refine br_ge (fun e2 => ?_) (fun e2 => ?_)
  · have : ¬ cP c < 4 := fun q => nI_ge (b := 4) q (by omega) e2
    refine wp_s rfl ?_
    exact wp_cc rfl (by omega) (S_must (b := false) (fun q => absurd q (by simp)) (fun _ => k2 e this))
  have hP : cP c < 4 := by
    rcases Nat.lt_or_ge (cP c) 4 with q | q
    · exact q
    · exact absurd (nI_le (a := 4) q (by omega)) e2
  iterate 2 refine wp_s rfl ?_
  refine wp_cc rfl (by omega) (S_must (b := true) (fun _ => ?_) (fun q => absurd q (by simp)))
  repeat refine wp_s rfl ?_
  rw [RG_a0 g.1, RG_P g.1, g.2.2.1]
  refine wp_cc rfl (by omega) (S_pinit ?_)
  refine wp_aast rfl rfl (by decide) (by show cP c < 4; omega) ?_
  repeat refine wp_s rfl ?_
  have e1 : hC h 1 = cP c := g.2.2.1
  have e6 : hC h 6 = cP c + 1 := g.2.2.2.2.1
  have e6' : hC (al h 1 (kN 1)) 6 = cP c + 1 := (hC_ao (by omega)).trans e6
  have eP : hI (al h 1 (kN 1)) 0 0 3 = nI (cP c) := (hI_ao (by omega)).trans (RG_P g.1)
  rw [e6', eP]
  have fI : ∀ k i s, ¬ (k = 1 ∧ i = cP c) → ¬ (k = 6 ∧ i = cP c + 1) → hI (sA (sI (sI (sA (al (al h 1 (kN 1)) 6 6) 1 (cP c) 3 (some (6, cP c + 1))) 1 (cP c) 0 (nI (cP c))) 1 (cP c) 1 x) 5 0 (cP c) (some (1, cP c))) k i s = hI h k i s := by
    intro k i s q1 q2
    simp only [hI_sI, hA_sA, hI_sA, hA_sI, hI_al, hA_al, hC_al, hC_sI, hC_sA, e1, e6]
    (repeat' split) <;> first | rfl | omega
  have fA : ∀ k i s, ¬ (k = 1 ∧ i = cP c) → ¬ (k = 6 ∧ i = cP c + 1) → ¬ (k = 5 ∧ i = 0 ∧ s = cP c) → hA (sA (sI (sI (sA (al (al h 1 (kN 1)) 6 6) 1 (cP c) 3 (some (6, cP c + 1))) 1 (cP c) 0 (nI (cP c))) 1 (cP c) 1 x) 5 0 (cP c) (some (1, cP c))) k i s = hA h k i s := by
    intro k i s q1 q2 q3
    simp only [hI_sI, hA_sA, hI_sA, hA_sI, hI_al, hA_al, hC_al, hC_sI, hC_sA, e1, e6]
    (repeat' split) <;> first | rfl | omega
  have f0' : hI (sA (sI (sI (sA (al (al h 1 (kN 1)) 6 6) 1 (cP c) 3 (some (6, cP c + 1))) 1 (cP c) 0 (nI (cP c))) 1 (cP c) 1 x) 5 0 (cP c) (some (1, cP c))) 1 (cP c) 0 = nI (cP c) := by simp [hI_sI, hA_sA, hI_sA, hA_sI, hI_al, hA_al, hC_al, hC_sI, hC_sA]
  have f1' : hI (sA (sI (sI (sA (al (al h 1 (kN 1)) 6 6) 1 (cP c) 3 (some (6, cP c + 1))) 1 (cP c) 0 (nI (cP c))) 1 (cP c) 1 x) 5 0 (cP c) (some (1, cP c))) 1 (cP c) 1 = x := by simp [hI_sI, hA_sA, hI_sA, hA_sI, hI_al, hA_al, hC_al, hC_sI, hC_sA]
  have f3' : hA (sA (sI (sI (sA (al (al h 1 (kN 1)) 6 6) 1 (cP c) 3 (some (6, cP c + 1))) 1 (cP c) 0 (nI (cP c))) 1 (cP c) 1 x) 5 0 (cP c) (some (1, cP c))) 1 (cP c) 3 = some (6, cP c + 1) := by simp [hI_sI, hA_sA, hI_sA, hA_sI, hI_al, hA_al, hC_al, hC_sI, hC_sA]
  have f2' : hA (sA (sI (sI (sA (al (al h 1 (kN 1)) 6 6) 1 (cP c) 3 (some (6, cP c + 1))) 1 (cP c) 0 (nI (cP c))) 1 (cP c) 1 x) 5 0 (cP c) (some (1, cP c))) 1 (cP c) 2 = none := by simp [hI_sI, hA_sA, hI_sA, hA_sI, hI_al, hA_al, hC_al, hC_sI, hC_sA, e1]
  have f5' : hA (sA (sI (sI (sA (al (al h 1 (kN 1)) 6 6) 1 (cP c) 3 (some (6, cP c + 1))) 1 (cP c) 0 (nI (cP c))) 1 (cP c) 1 x) 5 0 (cP c) (some (1, cP c))) 5 0 (cP c) = some (1, cP c) := by simp [hI_sI, hA_sA, hI_sA, hA_sI, hI_al, hA_al, hC_al, hC_sI, hC_sA]
  have fC : ∀ k, hC (sA (sI (sI (sA (al (al h 1 (kN 1)) 6 6) 1 (cP c) 3 (some (6, cP c + 1))) 1 (cP c) 0 (nI (cP c))) 1 (cP c) 1 x) 5 0 (cP c) (some (1, cP c))) k = if k = 6 then cP c + 2 else if k = 1 then cP c + 1 else hC h k := by
    intro k
    simp only [hI_sI, hA_sA, hI_sA, hA_sI, hI_al, hA_al, hC_al, hC_sI, hC_sA, e1, e6]
    (repeat' split) <;> first | rfl | omega
  have fZ : hZ (sA (sI (sI (sA (al (al h 1 (kN 1)) 6 6) 1 (cP c) 3 (some (6, cP c + 1))) 1 (cP c) 0 (nI (cP c))) 1 (cP c) 1 x) 5 0 (cP c) (some (1, cP c))) = hZ h + 2 := rfl
  have fS : hS (sA (sI (sI (sA (al (al h 1 (kN 1)) 6 6) 1 (cP c) 3 (some (6, cP c + 1))) 1 (cP c) 0 (nI (cP c))) 1 (cP c) 1 x) 5 0 (cP c) (some (1, cP c))) = hS h + 12 := rfl
  generalize sA (sI (sI (sA (al (al h 1 (kN 1)) 6 6) 1 (cP c) 3 (some (6, cP c + 1))) 1 (cP c) 0 (nI (cP c))) 1 (cP c) 1 x) 5 0 (cP c) (some (1, cP c)) = h1 at *
  have e3 : hI h1 0 0 3 = nI (cP c) := (fI 0 0 3 (by omega) (by omega)).trans (RG_P g.1)
  rw [e3, nI_1]
  obtain ⟨⟨b1, b2, b3⟩, ⟨c1, c2, c4, c5, c6⟩, g3, g4⟩ := g.1
  refine wp_e rfl (kt _ e hP ⟨⟨⟨?_, ?_, ?_⟩, ⟨hI_ss, ?_, ?_, ?_, ?_⟩, fun p hp => ?_, fun t ht => ?_⟩, ?_, ?_, ?_, ?_, ?_⟩ ⟨fun k i s q => ?_, fun i s => ?_, ?_, ?_, ?_⟩)
  · exact (fA 0 0 0 (by omega) (by omega) (by omega)).trans b1
  · exact (fA 0 0 1 (by omega) (by omega) (by omega)).trans b2
  · exact (fA 0 0 2 (by omega) (by omega) (by omega)).trans b3
  · exact (hI_so (by omega)).trans ((fI 0 0 4 (by omega) (by omega)).trans c2)
  · exact (hI_so (by omega)).trans ((fI 0 0 7 (by omega) (by omega)).trans c4)
  · exact (hI_so (by omega)).trans ((fI 0 0 8 (by omega) (by omega)).trans c5)
  · exact (hI_so (by omega)).trans ((fI 0 0 9 (by omega) (by omega)).trans c6)
  · by_cases ep : p = cP c
    · subst ep
      refine ⟨f5', (hI_so (by omega)).trans f0', ((hI_so (by omega)).trans f1').trans (if_pos rfl).symm, f3', [], f2', fun y => ⟨fun q => absurd q (by simp), fun ⟨s, q1, q2⟩ => ?_⟩⟩
      have := sp s q1
      rw [show cO c s = (cP c, y) from q2] at this
      exact absurd this (Nat.lt_irrefl _)
    · have hp' : p < cP c := by have : p < cP c + 1 := hp; omega
      obtain ⟨d1, d2, d3, d4, l, d5, d6⟩ := g3 p hp'
      refine ⟨(fA 5 0 p (by omega) (by omega) (by omega)).trans d1, (hI_so (by omega)).trans ((fI 1 p 0 (by omega) (by omega)).trans d2), ((hI_so (by omega)).trans ((fI 1 p 1 (by omega) (by omega)).trans d3)).trans (if_neg ep).symm, (fA 1 p 3 (by omega) (by omega) (by omega)).trans d4, l, ?_, d6⟩
      rw [show hA (sI h1 0 0 3 (nI (cP c + 1))) 1 p 2 = hA h 1 p 2 from fA 1 p 2 (by omega) (by omega) (by omega)]
      exact Ch_fr (fun i s _ => (hI_so (by omega)).trans (fI 3 i s (by omega) (by omega))) (fun i s _ => fA 3 i s (by omega) (by omega) (by omega)) (by show hC h 3 ≤ hC h1 3; rw [fC]; exact Nat.le_refl _) _ _ d5
  · obtain ⟨d1, d2, d3, d4, d5, d6⟩ := g4 t ht
    exact ⟨(fA 6 0 t (by omega) (by omega) (by omega)).trans d1, (hI_so (by omega)).trans ((fI 2 t 0 (by omega) (by omega)).trans d2), (hI_so (by omega)).trans ((fI 2 t 1 (by omega) (by omega)).trans d3), (hI_so (by omega)).trans ((fI 2 t 2 (by omega) (by omega)).trans d4), (hI_so (by omega)).trans ((fI 2 t 3 (by omega) (by omega)).trans d5), (fA 2 t 4 (by omega) (by omega) (by omega)).trans d6⟩
  · exact KX_eq (fun s hs => (hI_so (by omega)).trans (fI 0 0 s (by omega) (by omega))) (fun s => (hI_so (by omega)).trans (fI 8 0 s (by omega) (by omega))) g.2.1
  · exact (fC 1).trans rfl
  · exact (fC 2).trans g.2.2.2.1
  · exact (fC 6).trans rfl
  · exact (hI_so (by omega)).trans ((fI 0 0 5 (by omega) (by omega)).trans g.2.2.2.2.2)
  · exact (hI_so (by omega)).trans (fI k i s (by omega) (by omega))
  · exact fA 4 i s (by omega) (by omega) (by omega)
  · exact fC 16
  · show hZ h1 ≤ _; omega
  · show hS h1 ≤ _; omega
end ALLOC
end
section
-- OFF, TASK
def pushH (h : AH) (p : Nat) (f t : Int32) : AH := sA (sA (sI (sI (al h 3 3) 3 (hC h 3) 0 f) 3 (hC h 3) 1 t) 3 (hC h 3) 2 (hA h 1 p 2)) 1 p 2 (some (3, hC h 3))
section OFFT
variable {c : Cf} {pl : Pl} {pd : Bool} {told : Int32} {chs : List Nat} {d p : Nat} {h h' : AH} {Q : Oc → AH → Prop} {x y z : Int32} {b : Bool}
theorem push_I {k i s : Nat} (q : ¬ (k = 3 ∧ i = hC h 3)) : hI (pushH h p x y) k i s = hI h k i s := by
  unfold pushH
  simp only [hI_sI, hA_sA, hI_sA, hA_sI, hI_al, hA_al, hC_al, hC_sI, hC_sA]
  (repeat' split) <;> first | rfl | omega
theorem push_A {k i s : Nat} (q : ¬ (k = 3 ∧ i = hC h 3)) (q2 : ¬ (k = 1 ∧ i = p ∧ s = 2)) : hA (pushH h p x y) k i s = hA h k i s := by
  unfold pushH
  simp only [hI_sI, hA_sA, hI_sA, hA_sI, hI_al, hA_al, hC_al, hC_sI, hC_sA]
  (repeat' split) <;> first | rfl | omega
theorem push_0 : hI (pushH h p x y) 3 (hC h 3) 0 = x := by
  unfold pushH
  simp [hI_sI, hA_sA, hI_sA, hA_sI, hI_al, hA_al, hC_al, hC_sI, hC_sA]
theorem push_1 : hI (pushH h p x y) 3 (hC h 3) 1 = y := by
  unfold pushH
  simp [hI_sI, hA_sA, hI_sA, hA_sI, hI_al, hA_al, hC_al, hC_sI, hC_sA]
theorem push_2 : hA (pushH h p x y) 3 (hC h 3) 2 = hA h 1 p 2 := by
  unfold pushH
  simp [hI_sI, hA_sA, hI_sA, hA_sI, hI_al, hA_al, hC_al, hC_sI, hC_sA]
theorem push_o : hA (pushH h p x y) 1 p 2 = some (3, hC h 3) := by
  unfold pushH
  simp [hI_sI, hA_sA, hI_sA, hA_sI, hI_al, hA_al, hC_al, hC_sI, hC_sA]
theorem push_C {k : Nat} (hk : k ≠ 3) : hC (pushH h p x y) k = hC h k := by
  unfold pushH
  simp [hI_sI, hA_sA, hI_sA, hA_sI, hI_al, hA_al, hC_al, hC_sI, hC_sA, hk]
theorem push_C3 : hC (pushH h p x y) 3 = hC h 3 + 1 := by
  unfold pushH
  simp [hI_sI, hA_sA, hI_sA, hA_sI, hI_al, hA_al, hC_al, hC_sI, hC_sA]
theorem push_RG (hp : p < cP c) (g : RG c pl h) : RG (wS c p x y) pl (pushH h p x y) := by
  obtain ⟨⟨b1, b2, b3⟩, ⟨c1, c2, c4, c5, c6⟩, g3, g4⟩ := g
  refine ⟨⟨?_, ?_, ?_⟩, ⟨?_, ?_, ?_, ?_, ?_⟩, fun p' hp' => ?_, fun t ht => ?_⟩
  · exact (push_A (by omega) (by omega)).trans b1
  · exact (push_A (by omega) (by omega)).trans b2
  · exact (push_A (by omega) (by omega)).trans b3
  · exact (push_I (by omega)).trans c1
  · exact (push_I (by omega)).trans c2
  · exact (push_I (by omega)).trans c4
  · exact (push_I (by omega)).trans c5
  · exact (push_I (by omega)).trans c6
  · have hp2 : p' < cP c := hp'
    obtain ⟨d1, d2, d3, d4, l, d5, d6⟩ := g3 p' hp2
    have hch : Ch (pushH h p x y) (hA h 1 p' 2) l := Ch_fr (fun i s q => push_I (by omega)) (fun i s q => push_A (by omega) (by omega)) (by rw [push_C3]; omega) _ _ d5
    refine ⟨(push_A (by omega) (by omega)).trans d1, (push_I (by omega)).trans d2, (push_I (by omega)).trans d3, (push_A (by omega) (by omega)).trans d4, ?_⟩
    by_cases e : p' = p
    · subst e
      refine ⟨(x, y) :: l, ⟨hC h 3, push_o, by rw [push_C3]; omega, push_0, push_1, by rw [push_2]; exact hch⟩, fun v => ?_⟩
      rw [List.mem_cons, d6]
      constructor
      · rintro (q | ⟨s, q1, q2⟩)
        · exact ⟨cS c, Nat.lt_succ_self _, (if_pos rfl).trans (by rw [q])⟩
        · exact ⟨s, Nat.lt_succ_of_lt q1, (if_neg (by omega)).trans q2⟩
      · rintro ⟨s, q1, q2⟩
        have q1 : s < cS c + 1 := q1
        by_cases es : s = cS c
        · subst es
          have q3 : (p', x, y) = (p', v) := (if_pos rfl).symm.trans q2
          injection q3 with _ q3
          exact .inl q3.symm
        · exact .inr ⟨s, by omega, (if_neg es).symm.trans q2⟩
    · refine ⟨l, by rw [push_A (by omega) (by omega)]; exact hch, fun v => ?_⟩
      rw [d6]
      constructor
      · rintro ⟨s, q1, q2⟩
        exact ⟨s, Nat.lt_succ_of_lt q1, (if_neg (by omega)).trans q2⟩
      · rintro ⟨s, q1, q2⟩
        have q1 : s < cS c + 1 := q1
        by_cases es : s = cS c
        · subst es
          have q3 : (p, x, y) = (p', v) := (if_pos rfl).symm.trans q2
          injection q3 with q3 _
          exact absurd q3.symm e
        · exact ⟨s, by omega, (if_neg es).symm.trans q2⟩
  · obtain ⟨d1, d2, d3, d4, d5, d6⟩ := g4 t ht
    exact ⟨(push_A (by omega) (by omega)).trans d1, (push_I (by omega)).trans d2, (push_I (by omega)).trans d3, (push_I (by omega)).trans d4, (push_I (by omega)).trans d5, (push_A (by omega) (by omega)).trans d6⟩
theorem push_FC : FC h (pushH h p x y) := ⟨fun k i s q => push_I (by omega), fun i s => push_A (by omega) (by omega), push_C (by omega), by show hZ h + 1 ≤ _; omega, by show hS h + 3 ≤ _; omega⟩
theorem spn_t (e : spn y z = true) : ∃ f t, f < t ∧ t ≤ 96 ∧ y = nI f ∧ z = nI t := by
  simp only [spn, Bool.and_eq_true, Bool.not_eq_true', decide_eq_false_iff_not, decide_eq_true_eq] at e
  obtain ⟨⟨e1, e2⟩, e3⟩ := e
  have e4 : ¬ z < 0 := fun q => e1 (Int32.lt_trans e2 q)
  obtain ⟨t, ht, rfl⟩ := nI_of2 (M := 96) (n := 96) rfl e4 e3
  obtain ⟨f, hf, rfl⟩ := nI_of e1
  exact ⟨f, t, (nI_ltI (by omega) (by omega)).1 e2, ht, rfl, rfl⟩
theorem RG_eqS {v : Int32} (g : RG c pl h) : RG c pl (sI h 0 0 5 v) := by
  obtain ⟨⟨b1, b2, b3⟩, ⟨c1, c2, c4, c5, c6⟩, g3, g4⟩ := g
  refine ⟨⟨b1, b2, b3⟩, ⟨(hI_so (by omega)).trans c1, (hI_so (by omega)).trans c2, (hI_so (by omega)).trans c4, (hI_so (by omega)).trans c5, (hI_so (by omega)).trans c6⟩, fun p hp => ?_, fun t ht => ?_⟩
  · obtain ⟨d1, d2, d3, d4, l, d5, d6⟩ := g3 p hp
    exact ⟨d1, (hI_so (by omega)).trans d2, (hI_so (by omega)).trans d3, d4, l, Ch_fr (fun i s _ => hI_so (by omega)) (fun _ _ _ => rfl) (Nat.le_refl _) _ _ d5, d6⟩
  · obtain ⟨d1, d2, d3, d4, d5, d6⟩ := g4 t ht
    exact ⟨d1, (hI_so (by omega)).trans d2, (hI_so (by omega)).trans d3, (hI_so (by omega)).trans d4, (hI_so (by omega)).trans d5, d6⟩
theorem FC_t {h2 : AH} {a b : Nat} (q : FC h h') (r : FC h' h2) (hz : hZ h2 ≤ hZ h + 4) (hs : hS h2 ≤ hS h + 100) : FC h h2 := ⟨fun k i s e => (r.1 k i s e).trans (q.1 k i s e), fun i s => (r.2.1 i s).trans (q.2.1 i s), r.2.2.1.trans q.2.2.1, hz, hs⟩
theorem S_off (hd : 3 ≤ d) (w : Wf c) (g : KS c pl pd told chs h) (kt : ∀ p h', p < cP c → x = nI p → spn y z = true → cS c < 20 → KS (wS c p y z) pl pd told chs h' → FC h h' → Q (.inl (some (vi (nI (cS c + 1))))) h')
    (k1 : bel x (nI (cP c)) = false → Q (.inr (14, hC h 14)) (al h 14 6)) (k2 : ∀ p, p < cP c → x = nI p → spn y z = false → Q (.inr (12, hC h 12)) (al h 12 6)) (k3 : ∀ p, p < cP c → x = nI p → spn y z = true → ¬ cS c < 20 → Q (.inr (13, hC h 13)) (al h 13 6)) : WP d 9 0 [some (vr 0 0), some (vi x), some (vi y), some (vi z), none] [] h Q := by
  have wS := Wf_S w
  iterate 2 refine wp_s rfl ?_
  refine wp_cc rfl (by omega) (S_who (by omega) w g.1 (fun p hp ex => ?_) k1)
  iterate 3 refine wp_s rfl ?_
  refine wp_cc rfl (by omega) (S_isSpan ?_)
  refine wp_cc rfl (by omega) (S_allow (fun e => ?_) (k2 p hp ex))
  iterate 3 refine wp_s rfl ?_
  rw [g.2.2.2.2.2]
  refine wp_s rfl ?_
  refine br_ge (fun e2 => ?_) (fun e2 => ?_)
  · have : ¬ cS c < 20 := fun q => nI_ge (b := 20) q (by omega) e2
    refine wp_s rfl ?_
    exact wp_cc rfl (by omega) (S_must (b := false) (fun q => absurd q (by simp)) (fun _ => k3 p hp ex e this))
  have hS' : cS c < 20 := by
    rcases Nat.lt_or_ge (cS c) 20 with q | q
    · exact q
    · exact absurd (nI_le (a := 20) q (by omega)) e2
  iterate 2 refine wp_s rfl ?_
  refine wp_cc rfl (by omega) (S_must (b := true) (fun _ => ?_) (fun q => absurd q (by simp)))
  repeat refine wp_s rfl ?_
  rw [show hA (al h 3 (kN 3)) 1 p 2 = hA h 1 p 2 from hA_ao (by omega)]
  refine wp_cc rfl (by omega) (S_sinit ?_)
  refine wp_s rfl ?_
  show WP d 9 51 _ [] (pushH h p y z) Q
  iterate 4 refine wp_s rfl ?_
  rw [show hI (pushH h p y z) 0 0 5 = nI (cS c) from (push_I (by omega)).trans g.2.2.2.2.2]
  iterate 1 refine wp_s rfl ?_
  rw [nI_1]
  iterate 2 refine wp_s rfl ?_
  refine wp_e rfl (kt p _ hp ex e hS' ⟨RG_eqS (push_RG hp g.1), KX_eq (fun s hs => (hI_so (by omega)).trans (push_I (by omega))) (fun s => (hI_so (by omega)).trans (push_I (by omega))) g.2.1, (push_C (by omega)).trans g.2.2.1, (push_C (by omega)).trans g.2.2.2.1, (push_C (by omega)).trans g.2.2.2.2.1, hI_ss⟩ ?_)
  exact FC_t (a := 0) (b := 0) push_FC (FC_sI (by omega)) (by show hZ h + 1 ≤ _; omega) (by show hS h + 3 ≤ _; omega)
theorem S_task (hd : 3 ≤ d) (w : Wf c) (g : KS c pl pd told chs h) (kt : ∀ f t h', bel x 8 = true → f < t → t ≤ 96 → y = nI f → z = nI t → cN c < 6 → KS (wT c x f t b) (upd1 pl (cN c) none) pd told chs h' → FC h h' → Q (.inl (some (vi (nI (cN c))))) h')
    (k1 : bel x 8 = false → Q (.inr (14, hC h 14)) (al h 14 6)) (k2 : bel x 8 = true → spn y z = false → Q (.inr (12, hC h 12)) (al h 12 6)) (k3 : bel x 8 = true → spn y z = true → ¬ cN c < 6 → Q (.inr (13, hC h 13)) (al h 13 6)) : WP d 10 0 [some (vr 0 0), some (vi x), some (vi y), some (vi z), some (vi (B01 b))] [] h Q := by
  have wN := Wf_N w
  iterate 2 refine wp_s rfl ?_
  refine wp_cc rfl (by omega) (S_below ?_)
  refine wp_cc rfl (by omega) (S_exists (fun e0 => ?_) k1)
  iterate 2 refine wp_s rfl ?_
  refine wp_cc rfl (by omega) (S_isSpan ?_)
  refine wp_cc rfl (by omega) (S_allow (fun e => ?_) (k2 e0))
  iterate 3 refine wp_s rfl ?_
  rw [RG_N g.1]
  refine wp_s rfl ?_
  refine br_ge (fun e2 => ?_) (fun e2 => ?_)
  · have : ¬ cN c < 6 := fun q => nI_ge (b := 6) q (by omega) e2
    refine wp_s rfl ?_
    exact wp_cc rfl (by omega) (S_must (b := false) (fun q => absurd q (by simp)) (fun _ => k3 e0 e this))
  have hN : cN c < 6 := by
    rcases Nat.lt_or_ge (cN c) 6 with q | q
    · exact q
    · exact absurd (nI_le (a := 6) q (by omega)) e2
  obtain ⟨f, t, hft, ht96, rfl, rfl⟩ := spn_t e
  iterate 2 refine wp_s rfl ?_
  refine wp_cc rfl (by omega) (S_must (b := true) (fun _ => ?_) (fun q => absurd q (by simp)))
  have eC : hC h 2 = cN c := g.2.2.2.1
  repeat refine wp_s rfl ?_
  rw [RG_a1 g.1, RG_N g.1, eC]
  refine wp_cc rfl (by omega) (S_tinit ?_)
  refine wp_aast rfl rfl (by decide) (by show cN c < 6; omega) ?_
  repeat refine wp_s rfl ?_
  have fI : ∀ k i s, ¬ (k = 2 ∧ i = cN c) → hI (sA (sI (sI (sI (sI (al h 2 (kN 2)) 2 (cN c) 0 x) 2 (cN c) 1 (nI f)) 2 (cN c) 2 (nI t)) 2 (cN c) 3 (B01 b)) 6 0 (cN c) (some (2, cN c))) k i s = hI h k i s := by
    intro k i s q1
    simp only [hI_sI, hA_sA, hI_sA, hA_sI, hI_al, hA_al, hC_al, hC_sI, hC_sA, eC]
    (repeat' split) <;> first | rfl | omega
  have fA : ∀ k i s, ¬ (k = 2 ∧ i = cN c) → ¬ (k = 6 ∧ i = 0 ∧ s = cN c) → hA (sA (sI (sI (sI (sI (al h 2 (kN 2)) 2 (cN c) 0 x) 2 (cN c) 1 (nI f)) 2 (cN c) 2 (nI t)) 2 (cN c) 3 (B01 b)) 6 0 (cN c) (some (2, cN c))) k i s = hA h k i s := by
    intro k i s q1 q2
    simp only [hI_sI, hA_sA, hI_sA, hA_sI, hI_al, hA_al, hC_al, hC_sI, hC_sA, eC]
    (repeat' split) <;> first | rfl | omega
  have f0' : hI (sA (sI (sI (sI (sI (al h 2 (kN 2)) 2 (cN c) 0 x) 2 (cN c) 1 (nI f)) 2 (cN c) 2 (nI t)) 2 (cN c) 3 (B01 b)) 6 0 (cN c) (some (2, cN c))) 2 (cN c) 0 = x := by simp [hI_sI, hA_sA, hI_sA, hA_sI, hI_al, hA_al, hC_al, hC_sI, hC_sA]
  have f1' : hI (sA (sI (sI (sI (sI (al h 2 (kN 2)) 2 (cN c) 0 x) 2 (cN c) 1 (nI f)) 2 (cN c) 2 (nI t)) 2 (cN c) 3 (B01 b)) 6 0 (cN c) (some (2, cN c))) 2 (cN c) 1 = nI f := by simp [hI_sI, hA_sA, hI_sA, hA_sI, hI_al, hA_al, hC_al, hC_sI, hC_sA]
  have f2' : hI (sA (sI (sI (sI (sI (al h 2 (kN 2)) 2 (cN c) 0 x) 2 (cN c) 1 (nI f)) 2 (cN c) 2 (nI t)) 2 (cN c) 3 (B01 b)) 6 0 (cN c) (some (2, cN c))) 2 (cN c) 2 = nI t := by simp [hI_sI, hA_sA, hI_sA, hA_sI, hI_al, hA_al, hC_al, hC_sI, hC_sA]
  have f3' : hI (sA (sI (sI (sI (sI (al h 2 (kN 2)) 2 (cN c) 0 x) 2 (cN c) 1 (nI f)) 2 (cN c) 2 (nI t)) 2 (cN c) 3 (B01 b)) 6 0 (cN c) (some (2, cN c))) 2 (cN c) 3 = B01 b := by simp [hI_sI, hA_sA, hI_sA, hA_sI, hI_al, hA_al, hC_al, hC_sI, hC_sA]
  have f4' : hA (sA (sI (sI (sI (sI (al h 2 (kN 2)) 2 (cN c) 0 x) 2 (cN c) 1 (nI f)) 2 (cN c) 2 (nI t)) 2 (cN c) 3 (B01 b)) 6 0 (cN c) (some (2, cN c))) 2 (cN c) 4 = none := by simp [hI_sI, hA_sA, hI_sA, hA_sI, hI_al, hA_al, hC_al, hC_sI, hC_sA, eC]
  have f6' : hA (sA (sI (sI (sI (sI (al h 2 (kN 2)) 2 (cN c) 0 x) 2 (cN c) 1 (nI f)) 2 (cN c) 2 (nI t)) 2 (cN c) 3 (B01 b)) 6 0 (cN c) (some (2, cN c))) 6 0 (cN c) = some (2, cN c) := by simp [hI_sI, hA_sA, hI_sA, hA_sI, hI_al, hA_al, hC_al, hC_sI, hC_sA]
  have fC : ∀ k, hC (sA (sI (sI (sI (sI (al h 2 (kN 2)) 2 (cN c) 0 x) 2 (cN c) 1 (nI f)) 2 (cN c) 2 (nI t)) 2 (cN c) 3 (B01 b)) 6 0 (cN c) (some (2, cN c))) k = if k = 2 then cN c + 1 else hC h k := by
    intro k
    simp only [hI_sI, hA_sA, hI_sA, hA_sI, hI_al, hA_al, hC_al, hC_sI, hC_sA, eC]
  have fZ : hZ (sA (sI (sI (sI (sI (al h 2 (kN 2)) 2 (cN c) 0 x) 2 (cN c) 1 (nI f)) 2 (cN c) 2 (nI t)) 2 (cN c) 3 (B01 b)) 6 0 (cN c) (some (2, cN c))) = hZ h + 1 := rfl
  have fS : hS (sA (sI (sI (sI (sI (al h 2 (kN 2)) 2 (cN c) 0 x) 2 (cN c) 1 (nI f)) 2 (cN c) 2 (nI t)) 2 (cN c) 3 (B01 b)) 6 0 (cN c) (some (2, cN c))) = hS h + 7 := rfl
  generalize sA (sI (sI (sI (sI (al h 2 (kN 2)) 2 (cN c) 0 x) 2 (cN c) 1 (nI f)) 2 (cN c) 2 (nI t)) 2 (cN c) 3 (B01 b)) 6 0 (cN c) (some (2, cN c)) = h1 at *
  rw [show hI h1 0 0 4 = nI (cN c) from (fI 0 0 4 (by omega)).trans (RG_N g.1), nI_1]
  obtain ⟨⟨b1, b2, b3⟩, ⟨c1, c2, c4, c5, c6⟩, g3, g4⟩ := g.1
  refine wp_e rfl (kt f t _ e0 hft ht96 rfl rfl hN ⟨⟨⟨?_, ?_, ?_⟩, ⟨?_, hI_ss, ?_, ?_, ?_⟩, fun p hp => ?_, fun t ht => ?_⟩, ?_, ?_, ?_, ?_, ?_⟩ ⟨fun k i s q => ?_, fun i s => ?_, ?_, ?_, ?_⟩)
  · exact (fA 0 0 0 (by omega) (by omega)).trans b1
  · exact (fA 0 0 1 (by omega) (by omega)).trans b2
  · exact (fA 0 0 2 (by omega) (by omega)).trans b3
  · exact (hI_so (by omega)).trans ((fI 0 0 3 (by omega)).trans c1)
  · exact (hI_so (by omega)).trans ((fI 0 0 7 (by omega)).trans c4)
  · exact (hI_so (by omega)).trans ((fI 0 0 8 (by omega)).trans c5)
  · exact (hI_so (by omega)).trans ((fI 0 0 9 (by omega)).trans c6)
  · obtain ⟨d1, d2, d3, d4, l, d5, d6⟩ := g3 p hp
    refine ⟨(fA 5 0 p (by omega) (by omega)).trans d1, (hI_so (by omega)).trans ((fI 1 p 0 (by omega)).trans d2), (hI_so (by omega)).trans ((fI 1 p 1 (by omega)).trans d3), (fA 1 p 3 (by omega) (by omega)).trans d4, l, ?_, d6⟩
    rw [show hA (sI h1 0 0 4 (nI (cN c + 1))) 1 p 2 = hA h 1 p 2 from fA 1 p 2 (by omega) (by omega)]
    exact Ch_fr (fun i s _ => (hI_so (by omega)).trans (fI 3 i s (by omega))) (fun i s _ => fA 3 i s (by omega) (by omega)) (by show hC h 3 ≤ hC h1 3; rw [fC]; exact Nat.le_refl _) _ _ d5
  · by_cases et : t = cN c
    · subst et
      exact ⟨f6', ((hI_so (by omega)).trans f0').trans (if_pos rfl).symm, ((hI_so (by omega)).trans f1').trans (congrArg nI (if_pos rfl).symm), ((hI_so (by omega)).trans f2').trans (congrArg nI (if_pos rfl).symm), ((hI_so (by omega)).trans f3').trans (congrArg B01 (if_pos rfl).symm), (show hA h1 2 (cN c) 4 = none from f4').trans (show none = oR (upd1 pl (cN c) none (cN c)) by rw [upd_k]; rfl)⟩
    · have ht' : t < cN c := by have : t < cN c + 1 := ht; omega
      obtain ⟨d1, d2, d3, d4, d5, d6⟩ := g4 t ht'
      exact ⟨(fA 6 0 t (by omega) (by omega)).trans d1, ((hI_so (by omega)).trans ((fI 2 t 0 (by omega)).trans d2)).trans (if_neg et).symm, ((hI_so (by omega)).trans ((fI 2 t 1 (by omega)).trans d3)).trans (congrArg nI (if_neg et).symm), ((hI_so (by omega)).trans ((fI 2 t 2 (by omega)).trans d4)).trans (congrArg nI (if_neg et).symm), ((hI_so (by omega)).trans ((fI 2 t 3 (by omega)).trans d5)).trans (congrArg B01 (if_neg et).symm), ((fA 2 t 4 (by omega) (by omega)).trans d6).trans (congrArg oR (if_neg et).symm)⟩
  · exact KX_eq (fun s hs => (hI_so (by omega)).trans (fI 0 0 s (by omega))) (fun s => (hI_so (by omega)).trans (fI 8 0 s (by omega))) g.2.1
  · exact (fC 1).trans g.2.2.1
  · exact (fC 2).trans rfl
  · exact (fC 6).trans g.2.2.2.2.1
  · exact (hI_so (by omega)).trans ((fI 0 0 5 (by omega)).trans g.2.2.2.2.2)
  · exact (hI_so (by omega)).trans (fI k i s (by omega))
  · exact fA 4 i s (by omega) (by omega)
  · exact fC 16
  · show hZ h1 ≤ _; omega
  · show hS h1 ≤ _; omega
end OFFT
end
section
-- WHAT ONLY READS: of, tasksOf, cost, changed, quartersOf, work, fair, count, lieClear
def cnt (c : Cf) (pl : Pl) (x : Option Nat) : Nat := sumN (cN c) (fun t => if pl t = x then 1 else 0)
def qua (c : Cf) (pl : Pl) (x : Option Nat) : Nat := sumN (cN c) (fun t => if pl t = x then sz c t else 0)
section READ
variable {c : Cf} {pl : Pl} {pd : Bool} {told : Int32} {chs : List Nat} {d p : Nat} {h h' : AH} {Q : Oc → AH → Prop} {x y z : Int32} {b : Bool}
theorem S_told (g : KS c pl pd told chs h) (k : Q (.inl (some (vi told))) h) : WP d 25 0 [some (vr 0 0)] [] h Q := by
  repeat refine wp_s rfl ?_
  rw [g.2.1.2.1]
  exact wp_e rfl k
theorem S_of (hd : 3 ≤ d) (w : Wf c) (hpl : ∀ t p, t < cN c → pl t = some p → p < cP c) (g : RG c pl h) (kt : ∀ t, t < cN c → x = nI t → Q (.inl (some (vi (oI (pl t))))) h) (kf : bel x (nI (cN c)) = false → Q (.inr (14, hC h 14)) (al h 14 6)) : WP d 26 0 [some (vr 0 0), some (vi x), none] [] h Q := by
  iterate 2 refine wp_s rfl ?_
  refine wp_cc rfl (by omega) (S_the (by omega) w g (fun t ht ex => ?_) kf)
  have k := kt t ht ex
  iterate 3 refine wp_s rfl ?_
  rw [RG_tw g ht]
  cases e : pl t with
  | none =>
    rw [e] at k
    repeat refine wp_s rfl ?_
    exact wp_e rfl k
  | some p =>
    rw [e] at k
    repeat refine wp_s rfl ?_
    rw [RG_pn g (hpl t p ht e)]
    exact wp_e rfl k
theorem tasksOf_loop (w : Wf c) (g : RG c pl h) {v : Option Nat} (kk : Q (.inl (some (vi (nI (cnt c pl v))))) h) : ∀ (m j : Nat), j + m = cN c → WP d 27 4 [some (vr 0 0), some (vo (oR v)), some (vi (nI (sumN j (fun t => if pl t = v then 1 else 0)))), some (vi (nI j))] [] h Q := by
  have wN := Wf_N w
  intro m
  induction m with
  | zero =>
    intro j hj
    obtain rfl : j = cN c := by omega
    iterate 3 refine wp_s rfl ?_
    rw [RG_N g]
    refine wp_s rfl ?_
    refine br_ge (fun e => ?_) (fun e => absurd (nI_le (Nat.le_refl _) (by omega)) e)
    refine wp_s rfl ?_
    exact wp_e rfl kk
  | succ m ih =>
    intro j hj
    have hj' : j < cN c := by omega
    iterate 3 refine wp_s rfl ?_
    rw [RG_N g]
    refine wp_s rfl ?_
    refine br_ge (fun e => absurd e (nI_ge hj' (by omega))) (fun e => ?_)
    repeat refine wp_s rfl ?_
    rw [RG_a1 g]
    refine wp_aald rfl rfl (by show j < 6; omega) ?_
    rw [RG_t g hj']
    iterate 3 refine wp_s rfl ?_
    rw [RG_tw g hj']
    have ih' := ih (j + 1) (by omega)
    have es : sumN (j + 1) (fun t => if pl t = v then 1 else 0) = sumN j (fun t => if pl t = v then 1 else 0) + (if pl j = v then 1 else 0) := rfl
    rw [es] at ih'
    refine br_if (fun e2 => ?_) (fun e2 => ?_)
    · rw [if_pos (oR_inj.1 e2)] at ih'
      iterate 3 refine wp_s rfl ?_
      rw [nI_1, nI_1]
      exact ih'
    · rw [if_neg (fun q => e2 (by rw [q])), Nat.add_zero] at ih'
      iterate 2 refine wp_s rfl ?_
      rw [nI_1]
      exact ih'
theorem S_tasksOf (w : Wf c) (g : RG c pl h) {v : Option Nat} (kk : Q (.inl (some (vi (nI (cnt c pl v))))) h) : WP d 27 0 [some (vr 0 0), some (vo (oR v)), none, none] [] h Q := by
  iterate 4 refine wp_s rfl ?_
  exact tasksOf_loop w g kk (cN c) 0 (by omega)
theorem quartersOf_loop (w : Wf c) (hd : 1 ≤ d) (g : RG c pl h) {v : Option Nat} (kk : Q (.inl (some (vi (nI (qua c pl v))))) h) : ∀ (m j : Nat), j + m = cN c → WP d 32 4 [some (vr 0 0), some (vo (oR v)), some (vi (nI (sumN j (fun t => if pl t = v then sz c t else 0)))), some (vi (nI j))] [] h Q := by
  have wN := Wf_N w
  intro m
  induction m with
  | zero =>
    intro j hj
    obtain rfl : j = cN c := by omega
    iterate 3 refine wp_s rfl ?_
    rw [RG_N g]
    refine wp_s rfl ?_
    refine br_ge (fun e => ?_) (fun e => absurd (nI_le (Nat.le_refl _) (by omega)) e)
    refine wp_s rfl ?_
    exact wp_e rfl kk
  | succ m ih =>
    intro j hj
    have hj' : j < cN c := by omega
    iterate 3 refine wp_s rfl ?_
    rw [RG_N g]
    refine wp_s rfl ?_
    refine br_ge (fun e => absurd e (nI_ge hj' (by omega))) (fun e => ?_)
    repeat refine wp_s rfl ?_
    rw [RG_a1 g]
    refine wp_aald rfl rfl (by show j < 6; omega) ?_
    rw [RG_t g hj']
    iterate 3 refine wp_s rfl ?_
    rw [RG_tw g hj']
    have ih' := ih (j + 1) (by omega)
    have es : sumN (j + 1) (fun t => if pl t = v then sz c t else 0) = sumN j (fun t => if pl t = v then sz c t else 0) + (if pl j = v then sz c j else 0) := rfl
    rw [es] at ih'
    refine br_if (fun e2 => ?_) (fun e2 => ?_)
    · rw [if_pos (oR_inj.1 e2)] at ih'
      repeat refine wp_s rfl ?_
      rw [RG_a1 g]
      refine wp_aald rfl rfl (by show j < 6; omega) ?_
      rw [RG_t g hj']
      refine wp_cc rfl (by omega) (S_size w g hj' ?_)
      iterate 4 refine wp_s rfl ?_
      rw [nI_1, nI_add]
      exact ih'
    · rw [if_neg (fun q => e2 (by rw [q])), Nat.add_zero] at ih'
      iterate 2 refine wp_s rfl ?_
      rw [nI_1]
      exact ih'
theorem S_quartersOf (w : Wf c) (hd : 1 ≤ d) (g : RG c pl h) {v : Option Nat} (kk : Q (.inl (some (vi (nI (qua c pl v))))) h) : WP d 32 0 [some (vr 0 0), some (vo (oR v)), none, none] [] h Q := by
  iterate 4 refine wp_s rfl ?_
  exact quartersOf_loop w hd g kk (cN c) 0 (by omega)
theorem S_work (hd : 3 ≤ d) (w : Wf c) (g : RG c pl h) (kt : ∀ p, p < cP c → x = nI p → Q (.inl (some (vi (nI (qua c pl (some p)))))) h) (kf : bel x (nI (cP c)) = false → Q (.inr (14, hC h 14)) (al h 14 6)) : WP d 36 0 [some (vr 0 0), some (vi x)] [] h Q := by
  iterate 3 refine wp_s rfl ?_
  refine wp_cc rfl (by omega) (S_who (by omega) w g (fun p hp ex => ?_) kf)
  refine wp_cc rfl (by omega) (S_quartersOf (v := some p) w (by omega) g ?_)
  exact wp_e rfl (kt p hp ex)
def costP (c : Cf) (pl : Pl) : Nat := 100 * cnt c pl none + sumN (cP c) (fun p => cnt c pl (some p) * cnt c pl (some p))
theorem cost_loop (w : Wf c) (hd : 1 ≤ d) (g : RG c pl h) {a : Nat} (kk : Q (.inl (some (vi (nI (a + sumN (cP c) (fun p => cnt c pl (some p) * cnt c pl (some p))))))) h) : ∀ (m j : Nat), j + m = cP c → WP d 28 18 [some (vr 0 0), some (vi (nI (a + sumN j (fun p => cnt c pl (some p) * cnt c pl (some p))))), some (vi (nI j))] [] h Q := by
  have wP := Wf_P w
  intro m
  induction m with
  | zero =>
    intro j hj
    obtain rfl : j = cP c := by omega
    iterate 3 refine wp_s rfl ?_
    rw [RG_P g]
    refine wp_s rfl ?_
    refine br_ge (fun e => ?_) (fun e => absurd (nI_le (Nat.le_refl _) (by omega)) e)
    refine wp_s rfl ?_
    exact wp_e rfl kk
  | succ m ih =>
    intro j hj
    have hj' : j < cP c := by omega
    iterate 3 refine wp_s rfl ?_
    rw [RG_P g]
    refine wp_s rfl ?_
    refine br_ge (fun e => absurd e (nI_ge hj' (by omega))) (fun e => ?_)
    repeat refine wp_s rfl ?_
    rw [RG_a0 g]
    refine wp_aald rfl rfl (by show j < 4; omega) ?_
    rw [RG_p g hj']
    refine wp_cc rfl (by omega) (S_tasksOf (v := some j) w g ?_)
    repeat refine wp_s rfl ?_
    rw [RG_a0 g]
    refine wp_aald rfl rfl (by show j < 4; omega) ?_
    rw [RG_p g hj']
    refine wp_cc rfl (by omega) (S_tasksOf (v := some j) w g ?_)
    iterate 5 refine wp_s rfl ?_
    rw [pk_mul, nI_add, nI_1, Nat.add_assoc]
    exact ih (j + 1) (by omega)
theorem S_cost (hd : 1 ≤ d) (w : Wf c) (g : KS c pl pd told chs h) (kt : pd = true → Q (.inl (some (vi (nI (costP c pl))))) h) (kf : pd = false → Q (.inr (13, hC h 13)) (al h 13 6)) : WP d 28 0 [some (vr 0 0), none, none] [] h Q := by
  iterate 2 refine wp_s rfl ?_
  rw [g.2.1.1]
  refine wp_cc rfl (by omega) (S_must (fun e => ?_) kf)
  iterate 3 refine wp_s rfl ?_
  refine wp_cc rfl (by omega) (S_tasksOf (v := none) w g.1 ?_)
  iterate 4 refine wp_s rfl ?_
  rw [show (100 : Int32) = nI 100 from rfl, pk_mul]
  exact cost_loop w hd g.1 (kt e) (cP c) 0 (by omega)
theorem S_changed (hd : 1 ≤ d) (g : KS c pl pd told chs h) (kt : ∀ s (hs : s < chs.length), x = nI s → Q (.inl (some (vi (nI chs[s])))) h) (kf : bel x (nI chs.length) = false → Q (.inr (14, hC h 14)) (al h 14 6)) : WP d 30 0 [some (vr 0 0), some (vi x)] [] h Q := by
  have h6 := g.2.1.2.2.1
  iterate 3 refine wp_s rfl ?_
  rw [g.2.1.2.2.2.1]
  refine wp_cc rfl (by omega) (S_below ?_)
  refine wp_cc rfl (by omega) (S_exists (fun e => ?_) kf)
  obtain ⟨s, hs, rfl⟩ := bel_t (by omega) e
  repeat refine wp_s rfl ?_
  rw [RG_a2 g.1]
  refine wp_iald rfl rfl (by decide) (by show s < 6; omega) ?_
  rw [g.2.1.2.2.2.2 s hs]
  exact wp_e rfl (kt s hs rfl)
theorem S_count (g : KS c pl pd told chs h) (k0 : x = 0 → Q (.inl (some (vi (nI (cP c))))) h) (k1 : x = 1 → Q (.inl (some (vi (nI (cN c))))) h) (k2 : x = 2 → Q (.inl (some (vi (nI (cS c))))) h) (k3 : x = 3 → Q (.inl (some (vi (nI chs.length)))) h) (kf : wth x 0 3 = false → Q (.inr (14, hC h 14)) (al h 14 6)) : WP d 38 0 [some (vr 0 0), some (vi x)] [] h Q := by
  iterate 2 refine wp_s rfl ?_
  refine br_if (fun e => ?_) (fun e => ?_)
  · exact wp_e rfl (kf (by simp [wth, e]))
  obtain ⟨n, hn, rfl⟩ := nI_of e
  rw [nI_clamp hn]
  rcases n with _ | _ | _ | _ | n
  · repeat refine wp_s rfl ?_
    rw [RG_P g.1]
    exact wp_e rfl (k0 rfl)
  · repeat refine wp_s rfl ?_
    rw [RG_N g.1]
    exact wp_e rfl (k1 rfl)
  · repeat refine wp_s rfl ?_
    rw [g.2.2.2.2.2]
    exact wp_e rfl (k2 rfl)
  · repeat refine wp_s rfl ?_
    rw [g.2.1.2.2.2.1]
    exact wp_e rfl (k3 rfl)
  · refine wp_e rfl (kf ?_)
    have : ¬ nI (n + 1 + 1 + 1 + 1) ≤ 3 := fun q => absurd ((nI_leI (b := 3) hn (by omega)).1 q) (by omega)
    simp [wth, this]
end READ
end
section
-- FAIR, LIECLEAR, WHY, EXCHANGE, SWAP
def hiF (F : Nat → Nat) : Nat → Nat
  | 0 => 0
  | j + 1 => if hiF F j < F j then F j else hiF F j
def loF (a : Nat) (F : Nat → Nat) : Nat → Nat
  | 0 => a
  | j + 1 => if F j < loF a F j then F j else loF a F j
def LC (c : Cf) (pl : Pl) (p : Nat) : Prop := ∀ k, k < cN c → ∀ j, j < k → pl k = some p → pl j = some p → near c k j = false
def W2 (c : Cf) (pl : Pl) (a b : Nat) : Prop := (cY c a = true ∧ pl a = none) ∨ (cY c b = true ∧ pl b = none)
def W3 (c : Cf) (pl : Pl) (a b : Nat) : Prop := (∃ p, pl a = some p ∧ ¬ suitP c p a) ∨ (∃ p, pl b = some p ∧ ¬ suitP c p b)
def W4 (c : Cf) (pl : Pl) (a b : Nat) : Prop := (∃ p, pl a = some p ∧ ¬ LC c pl p) ∨ (∃ p, pl b = some p ∧ ¬ LC c pl p)
def W5 (c : Cf) (pl : Pl) (a b : Nat) : Prop := (∃ p, pl a = some p ∧ cL c < qua c pl (some p)) ∨ (∃ p, pl b = some p ∧ cL c < qua c pl (some p))
def WhyIs (c : Cf) (pl : Pl) (a b n : Nat) : Prop := (n = 2 ∧ W2 c pl a b) ∨ (n = 3 ∧ ¬ W2 c pl a b ∧ W3 c pl a b) ∨ (n = 4 ∧ ¬ W2 c pl a b ∧ ¬ W3 c pl a b ∧ W4 c pl a b) ∨ (n = 5 ∧ ¬ W2 c pl a b ∧ ¬ W3 c pl a b ∧ ¬ W4 c pl a b ∧ W5 c pl a b) ∨ (n = 0 ∧ ¬ W2 c pl a b ∧ ¬ W3 c pl a b ∧ ¬ W4 c pl a b ∧ ¬ W5 c pl a b)
theorem WhyIs_u {c : Cf} {pl : Pl} {a b n m : Nat} (q : WhyIs c pl a b n) (r : WhyIs c pl a b m) : n = m := by
  unfold WhyIs at q r
  rcases q with ⟨rfl, q⟩ | ⟨rfl, q⟩ | ⟨rfl, q⟩ | ⟨rfl, q⟩ | ⟨rfl, q⟩ <;> rcases r with ⟨rfl, r⟩ | ⟨rfl, r⟩ | ⟨rfl, r⟩ | ⟨rfl, r⟩ | ⟨rfl, r⟩ <;> first | rfl | (exfalso; simp_all)
def exch (pl : Pl) (a b : Nat) : Pl := fun t => if t = b then pl a else if t = a then pl b else pl t
section SWAP
variable {c : Cf} {pl : Pl} {pd : Bool} {told : Int32} {chs : List Nat} {d p : Nat} {h h' : AH} {Q : Oc → AH → Prop} {x y z : Int32} {b : Bool}
theorem cnt_le {v : Option Nat} : cnt c pl v ≤ cN c := by
  have := sumN_bd (n := cN c) (a := 1) (F := fun t => if pl t = v then 1 else 0) (fun j _ => by split <;> omega)
  unfold cnt
  omega
theorem hiF_le {F : Nat → Nat} {a : Nat} (hF : ∀ j, F j ≤ a) : ∀ j, hiF F j ≤ a
  | 0 => Nat.zero_le _
  | j + 1 => by
    have := hiF_le hF j
    have := hF j
    unfold hiF
    split <;> omega
theorem loF_le {F : Nat → Nat} {a : Nat} : ∀ j, loF a F j ≤ a
  | 0 => Nat.le_refl _
  | j + 1 => by
    have := loF_le (F := F) (a := a) j
    unfold loF
    split <;> omega
theorem loF_eq {F : Nat → Nat} (hF : ∀ j, F j ≤ 6) : ∀ j, loF 6 F (j + 1) = loF 99 F (j + 1)
  | 0 => by
    have := hF 0
    show (if F 0 < 6 then F 0 else 6) = if F 0 < 99 then F 0 else 99
    rw [if_pos (show F 0 < 99 by omega)]
    by_cases q : F 0 < 6
    · rw [if_pos q]
    · rw [if_neg q]; omega
  | j + 1 => by
    have := loF_eq hF j
    show (if F (j + 1) < loF 6 F (j + 1) then F (j + 1) else loF 6 F (j + 1)) = (if F (j + 1) < loF 99 F (j + 1) then F (j + 1) else loF 99 F (j + 1))
    rw [this]
theorem fair_loop (w : Wf c) (hd : 1 ≤ d) (g : RG c pl h) {L4 : Option AV} (kk : Q (.inl (some (vi (if cP c = 0 then 0 else nI (hiF (fun p => cnt c pl (some p)) (cP c)) - nI (loF 6 (fun p => cnt c pl (some p)) (cP c)))))) h) : ∀ (m j : Nat) (L4 : Option AV), j + m = cP c → WP d 37 7 [some (vr 0 0), some (vi (nI (hiF (fun p => cnt c pl (some p)) j))), some (vi (nI (loF 6 (fun p => cnt c pl (some p)) j))), some (vi (nI j)), L4] [] h Q := by
  have wP := Wf_P w
  have wN := Wf_N w
  intro m
  induction m with
  | zero =>
    intro j L4 hj
    obtain rfl : j = cP c := by omega
    iterate 3 refine wp_s rfl ?_
    rw [RG_P g]
    refine wp_s rfl ?_
    refine br_ge (fun e => ?_) (fun e => absurd (nI_le (Nat.le_refl _) (by omega)) e)
    iterate 2 refine wp_s rfl ?_
    rw [RG_P g]
    refine wp_s rfl ?_
    refine br_ne (fun e => ?_) (fun e => ?_)
    · rw [if_neg (fun q => e (by rw [q]; rfl))] at kk
      repeat refine wp_s rfl ?_
      exact wp_e rfl kk
    · rw [if_pos ((nI_eq (b := 0) (by omega) (by omega)).1 e)] at kk
      repeat refine wp_s rfl ?_
      exact wp_e rfl kk
  | succ m ih =>
    intro j L4 hj
    have hj' : j < cP c := by omega
    have h1 := hiF_le (F := fun p => cnt c pl (some p)) (a := cN c) (fun p => cnt_le) j
    have h2 := loF_le (F := fun p => cnt c pl (some p)) (a := 6) j
    have h3 : cnt c pl (some j) ≤ cN c := cnt_le
    iterate 3 refine wp_s rfl ?_
    rw [RG_P g]
    refine wp_s rfl ?_
    refine br_ge (fun e => absurd e (nI_ge hj' (by omega))) (fun e => ?_)
    repeat refine wp_s rfl ?_
    rw [RG_a0 g]
    refine wp_aald rfl rfl (by show j < 4; omega) ?_
    rw [RG_p g hj']
    refine wp_cc rfl (by omega) (S_tasksOf (v := some j) w g ?_)
    iterate 4 refine wp_s rfl ?_
    have e1 : (if nI (hiF (fun p => cnt c pl (some p)) j) < nI (cnt c pl (some j)) then nI (cnt c pl (some j)) else nI (hiF (fun p => cnt c pl (some p)) j)) = nI (hiF (fun p => cnt c pl (some p)) (j + 1)) := by
      show _ = nI (if hiF (fun p => cnt c pl (some p)) j < cnt c pl (some j) then cnt c pl (some j) else hiF (fun p => cnt c pl (some p)) j)
      by_cases q : hiF (fun p => cnt c pl (some p)) j < cnt c pl (some j)
      · rw [if_pos q, if_pos ((nI_ltI (by omega) (by omega)).2 q)]
      · rw [if_neg q, if_neg (fun z => q ((nI_ltI (by omega) (by omega)).1 z))]
    have e2 : (if nI (cnt c pl (some j)) < nI (loF 6 (fun p => cnt c pl (some p)) j) then nI (cnt c pl (some j)) else nI (loF 6 (fun p => cnt c pl (some p)) j)) = nI (loF 6 (fun p => cnt c pl (some p)) (j + 1)) := by
      show _ = nI (if cnt c pl (some j) < loF 6 (fun p => cnt c pl (some p)) j then cnt c pl (some j) else loF 6 (fun p => cnt c pl (some p)) j)
      by_cases q : cnt c pl (some j) < loF 6 (fun p => cnt c pl (some p)) j
      · rw [if_pos q, if_pos ((nI_ltI (by omega) (by omega)).2 q)]
      · rw [if_neg q, if_neg (fun z => q ((nI_ltI (by omega) (by omega)).1 z))]
    rw [e1]
    iterate 4 refine wp_s rfl ?_
    rw [e2]
    iterate 3 refine wp_s rfl ?_
    rw [nI_1]
    exact ih (j + 1) _ (by omega)
theorem S_fair (w : Wf c) (hd : 1 ≤ d) (g : RG c pl h) (kk : Q (.inl (some (vi (if cP c = 0 then 0 else nI (hiF (fun p => cnt c pl (some p)) (cP c)) - nI (loF 6 (fun p => cnt c pl (some p)) (cP c)))))) h) : WP d 37 0 [some (vr 0 0), none, none, none, none] [] h Q := by
  iterate 6 refine wp_s rfl ?_
  exact fair_loop (L4 := none) w hd g kk (cP c) 0 none (by omega)
-- lieClear
theorem lie_inner (w : Wf c) (hd : 1 ≤ d) (g : RG c pl h) {k : Nat} (hk : k < cN c) (kt : (∀ j, j < k → pl k = some p → pl j = some p → near c k j = false) → WP d 31 73 [some (vr 0 0), some (vr 1 p), some (vi (nI k)), some (vi (nI k))] [] h Q) (kf : (∃ j, j < k ∧ pl k = some p ∧ pl j = some p ∧ near c k j = true) → Q (.inl (some (vi 0))) h) : ∀ (m j : Nat), j + m = k → (∀ i, i < j → pl k = some p → pl i = some p → near c k i = false) → WP d 31 12 [some (vr 0 0), some (vr 1 p), some (vi (nI k)), some (vi (nI j))] [] h Q := by
  have wN := Wf_N w
  intro m
  induction m with
  | zero =>
    intro j hj ha
    obtain rfl : j = k := by omega
    iterate 3 refine wp_s rfl ?_
    refine br_ge (fun e => ?_) (fun e => absurd (nI_le (Nat.le_refl _) (by omega)) e)
    exact kt ha
  | succ m ih =>
    intro j hj ha
    have hj' : j < cN c := by omega
    have next : (pl k = some p → pl j = some p → near c k j = false) → WP d 31 67 [some (vr 0 0), some (vr 1 p), some (vi (nI k)), some (vi (nI j))] [] h Q := by
      intro hn
      iterate 2 refine wp_s rfl ?_
      rw [nI_1]
      refine ih (j + 1) (by omega) (fun i hi => ?_)
      by_cases e : i = j
      · subst e; exact hn
      · exact ha i (by omega)
    iterate 3 refine wp_s rfl ?_
    refine br_ge (fun e => absurd e (nI_ge (show j < k by omega) (by omega))) (fun e => ?_)
    repeat refine wp_s rfl ?_
    rw [RG_a1 g]
    refine wp_aald rfl rfl (by show k < 6; omega) ?_
    rw [RG_t g hk]
    iterate 3 refine wp_s rfl ?_
    rw [RG_tw g hk]
    refine br_if (fun e1 => ?_) (fun e1 => next (fun q => absurd (show oR (pl k) = some (1, p) by rw [q]; rfl) e1))
    have e1' : pl k = some p := oR_inj.1 e1
    repeat refine wp_s rfl ?_
    rw [RG_a1 g]
    refine wp_aald rfl rfl (by show j < 6; omega) ?_
    rw [RG_t g hj']
    iterate 3 refine wp_s rfl ?_
    rw [RG_tw g hj']
    refine br_if (fun e2 => ?_) (fun e2 => next (fun _ q => absurd (show oR (pl j) = some (1, p) by rw [q]; rfl) e2))
    have e2' : pl j = some p := oR_inj.1 e2
    repeat refine wp_s rfl ?_
    rw [RG_a1 g]
    refine wp_aald rfl rfl (by show k < 6; omega) ?_
    rw [RG_t g hk]
    repeat refine wp_s rfl ?_
    rw [RG_a1 g]
    refine wp_aald rfl rfl (by show j < 6; omega) ?_
    rw [RG_t g hj']
    repeat refine wp_s rfl ?_
    rw [RG_R g]
    refine wp_cc rfl (by omega) (S_tclear w g hk hj' ?_)
    cases en : near c k j with
    | true =>
      repeat refine wp_s rfl ?_
      exact wp_e rfl (kf ⟨j, by omega, e1', e2', en⟩)
    | false =>
      refine wp_s rfl ?_
      exact next (fun _ _ => en)
theorem lie_loop (w : Wf c) (hd : 1 ≤ d) (g : RG c pl h) (kt : LC c pl p → Q (.inl (some (vi 1))) h) (kf : ¬ LC c pl p → Q (.inl (some (vi 0))) h) : ∀ (m k : Nat) (L3 : Option AV), k + m = cN c → (∀ i, i < k → ∀ j, j < i → pl i = some p → pl j = some p → near c i j = false) → WP d 31 2 [some (vr 0 0), some (vr 1 p), some (vi (nI k)), L3] [] h Q := by
  have wN := Wf_N w
  intro m
  induction m with
  | zero =>
    intro k L3 hk ha
    obtain rfl : k = cN c := by omega
    iterate 3 refine wp_s rfl ?_
    rw [RG_N g]
    refine wp_s rfl ?_
    refine br_ge (fun e => ?_) (fun e => absurd (nI_le (Nat.le_refl _) (by omega)) e)
    refine wp_s rfl ?_
    exact wp_e rfl (kt ha)
  | succ m ih =>
    intro k L3 hk ha
    have hk' : k < cN c := by omega
    iterate 3 refine wp_s rfl ?_
    rw [RG_N g]
    refine wp_s rfl ?_
    refine br_ge (fun e => absurd e (nI_ge hk' (by omega))) (fun e => ?_)
    iterate 2 refine wp_s rfl ?_
    refine lie_inner w hd g hk' (fun hn => ?_) (fun ⟨j, q1, q2, q3, q4⟩ => kf (fun q => ?_)) k 0 (by omega) (fun i hi => absurd hi (by omega))
    · iterate 2 refine wp_s rfl ?_
      rw [nI_1]
      refine ih (k + 1) _ (by omega) (fun i hi => ?_)
      by_cases e : i = k
      · subst e; exact hn
      · exact ha i (by omega)
    · have := q k hk' j q1 q2 q3
      rw [q4] at this
      exact absurd this (by simp)
theorem S_lieClear (w : Wf c) (hd : 1 ≤ d) (g : RG c pl h) (kt : LC c pl p → Q (.inl (some (vi 1))) h) (kf : ¬ LC c pl p → Q (.inl (some (vi 0))) h) : WP d 31 0 [some (vr 0 0), some (vr 1 p), none, none] [] h Q := by
  iterate 2 refine wp_s rfl ?_
  exact lie_loop w hd g kt kf (cN c) 0 none (by omega) (fun i hi => absurd hi (by omega))
end SWAP
end
section
-- WHY, EXCHANGE, SWAP
section WHY
variable {c : Cf} {pl : Pl} {pd : Bool} {told : Int32} {chs : List Nat} {d p : Nat} {h h' : AH} {Q : Oc → AH → Prop} {x y z : Int32}
theorem qua_le (w : Wf c) {v : Option Nat} : qua c pl v ≤ 576 := by
  have wN := Wf_N w
  have := sumN_bd (n := cN c) (a := 96) (F := fun t => if pl t = v then sz c t else 0) (fun j hj => by
    have := sz_le w hj
    split <;> omega)
  unfold qua
  omega
theorem S_why (w : Wf c) (hd : 3 ≤ d) (hpl : ∀ t p, t < cN c → pl t = some p → p < cP c) (g : RG c pl h) {a b : Nat} (ha : a < cN c) (hb : b < cN c) (kk : ∀ n, WhyIs c pl a b n → Q (.inl (some (vi (nI n)))) h) : WP d 33 0 [some (vr 0 0), some (vr 2 a), some (vr 2 b)] [] h Q := by
  have wL := Wf_L w
  have w5b : ¬ W2 c pl a b → ¬ W3 c pl a b → ¬ W4 c pl a b → ¬ (∃ p, pl a = some p ∧ cL c < qua c pl (some p)) → WP d 33 128 [some (vr 0 0), some (vr 2 a), some (vr 2 b)] [] h Q := by
    intro n2 n3 n4 n5
    iterate 2 refine wp_s rfl ?_
    rw [RG_tw g hb]
    cases e : pl b with
    | none =>
      repeat refine wp_s rfl ?_
      refine wp_e rfl (kk 0 (.inr (.inr (.inr (.inr ⟨rfl, n2, n3, n4, ?_⟩)))))
      rintro (q | ⟨p, q, _⟩)
      · exact n5 q
      · rw [e] at q; exact absurd q (by simp)
    | some p =>
      have hq := qua_le (pl := pl) (v := some p) w
      iterate 4 refine wp_s rfl ?_
      rw [RG_tw g hb, e]
      refine wp_cc rfl (by omega) (S_quartersOf (v := some p) w (by omega) g ?_)
      iterate 3 refine wp_s rfl ?_
      rw [RG_L g]
      refine br_le (fun e2 => ?_) (fun e2 => ?_)
      · repeat refine wp_s rfl ?_
        refine wp_e rfl (kk 0 (.inr (.inr (.inr (.inr ⟨rfl, n2, n3, n4, ?_⟩)))))
        have := (nI_leI (by omega) (by omega)).1 e2
        rintro (q | ⟨p', q, q2⟩)
        · exact n5 q
        · rw [e] at q
          injection q with q
          subst q
          omega
      · repeat refine wp_s rfl ?_
        have := (nI_ltI (by omega) (by omega)).1 (Int32.not_le.1 e2)
        exact wp_e rfl (kk 5 (.inr (.inr (.inr (.inl ⟨rfl, n2, n3, n4, .inr ⟨p, e, this⟩⟩)))))
  have w5 : ¬ W2 c pl a b → ¬ W3 c pl a b → ¬ W4 c pl a b → WP d 33 106 [some (vr 0 0), some (vr 2 a), some (vr 2 b)] [] h Q := by
    intro n2 n3 n4
    iterate 2 refine wp_s rfl ?_
    rw [RG_tw g ha]
    cases e : pl a with
    | none =>
      refine wp_s rfl ?_
      exact w5b n2 n3 n4 (fun ⟨p, q, _⟩ => absurd (e.symm.trans q) (by simp))
    | some p =>
      have hq := qua_le (pl := pl) (v := some p) w
      iterate 4 refine wp_s rfl ?_
      rw [RG_tw g ha, e]
      refine wp_cc rfl (by omega) (S_quartersOf (v := some p) w (by omega) g ?_)
      iterate 3 refine wp_s rfl ?_
      rw [RG_L g]
      refine br_gt (fun e2 => ?_) (fun e2 => ?_)
      · repeat refine wp_s rfl ?_
        have := (nI_ltI (by omega) (by omega)).1 e2
        exact wp_e rfl (kk 5 (.inr (.inr (.inr (.inl ⟨rfl, n2, n3, n4, .inl ⟨p, e, this⟩⟩)))))
      · have := (nI_leI (by omega) (by omega)).1 (Int32.not_lt.1 e2)
        refine w5b n2 n3 n4 (fun ⟨p', q, q2⟩ => ?_)
        rw [e] at q
        injection q with q
        subst q
        omega
  have w4b : ¬ W2 c pl a b → ¬ W3 c pl a b → ¬ (∃ p, pl a = some p ∧ ¬ LC c pl p) → WP d 33 86 [some (vr 0 0), some (vr 2 a), some (vr 2 b)] [] h Q := by
    intro n2 n3 n4
    iterate 2 refine wp_s rfl ?_
    rw [RG_tw g hb]
    cases e : pl b with
    | none =>
      refine wp_s rfl ?_
      refine w5 n2 n3 ?_
      rintro (q | ⟨p, q, _⟩)
      · exact n4 q
      · rw [e] at q; exact absurd q (by simp)
    | some p =>
      iterate 4 refine wp_s rfl ?_
      rw [RG_tw g hb, e]
      refine wp_cc rfl (by omega) (S_lieClear (p := p) w (by omega) g (fun e2 => ?_) (fun e2 => ?_))
      · refine wp_s rfl ?_
        refine w5 n2 n3 ?_
        rintro (q | ⟨p', q, q2⟩)
        · exact n4 q
        · rw [e] at q
          injection q with q
          subst q
          exact q2 e2
      · repeat refine wp_s rfl ?_
        exact wp_e rfl (kk 4 (.inr (.inr (.inl ⟨rfl, n2, n3, .inr ⟨p, e, e2⟩⟩))))
  have w4 : ¬ W2 c pl a b → ¬ W3 c pl a b → WP d 33 68 [some (vr 0 0), some (vr 2 a), some (vr 2 b)] [] h Q := by
    intro n2 n3
    iterate 2 refine wp_s rfl ?_
    rw [RG_tw g ha]
    cases e : pl a with
    | none =>
      refine wp_s rfl ?_
      exact w4b n2 n3 (fun ⟨p, q, _⟩ => absurd (e.symm.trans q) (by simp))
    | some p =>
      iterate 4 refine wp_s rfl ?_
      rw [RG_tw g ha, e]
      refine wp_cc rfl (by omega) (S_lieClear (p := p) w (by omega) g (fun e2 => ?_) (fun e2 => ?_))
      · refine wp_s rfl ?_
        refine w4b n2 n3 (fun ⟨p', q, q2⟩ => ?_)
        rw [e] at q
        injection q with q
        subst q
        exact q2 e2
      · repeat refine wp_s rfl ?_
        exact wp_e rfl (kk 4 (.inr (.inr (.inl ⟨rfl, n2, n3, .inl ⟨p, e, e2⟩⟩))))
  have w3b : ¬ W2 c pl a b → ¬ (∃ p, pl a = some p ∧ ¬ suitP c p a) → WP d 33 48 [some (vr 0 0), some (vr 2 a), some (vr 2 b)] [] h Q := by
    intro n2 n3
    iterate 2 refine wp_s rfl ?_
    rw [RG_tw g hb]
    cases e : pl b with
    | none =>
      refine wp_s rfl ?_
      refine w4 n2 ?_
      rintro (q | ⟨p, q, _⟩)
      · exact n3 q
      · rw [e] at q; exact absurd q (by simp)
    | some p =>
      iterate 4 refine wp_s rfl ?_
      rw [RG_tw g hb, e]
      refine wp_cc rfl (by omega) (S_suits g (hpl b p hb e) hb (fun e2 => ?_) (fun e2 => ?_))
      · refine wp_s rfl ?_
        refine w4 n2 ?_
        rintro (q | ⟨p', q, q2⟩)
        · exact n3 q
        · rw [e] at q
          injection q with q
          subst q
          exact q2 e2
      · repeat refine wp_s rfl ?_
        exact wp_e rfl (kk 3 (.inr (.inl ⟨rfl, n2, .inr ⟨p, e, e2⟩⟩)))
  have w3 : ¬ W2 c pl a b → WP d 33 30 [some (vr 0 0), some (vr 2 a), some (vr 2 b)] [] h Q := by
    intro n2
    iterate 2 refine wp_s rfl ?_
    rw [RG_tw g ha]
    cases e : pl a with
    | none =>
      refine wp_s rfl ?_
      exact w3b n2 (fun ⟨p, q, _⟩ => absurd (e.symm.trans q) (by simp))
    | some p =>
      iterate 4 refine wp_s rfl ?_
      rw [RG_tw g ha, e]
      refine wp_cc rfl (by omega) (S_suits g (hpl a p ha e) ha (fun e2 => ?_) (fun e2 => ?_))
      · refine wp_s rfl ?_
        refine w3b n2 (fun ⟨p', q, q2⟩ => ?_)
        rw [e] at q
        injection q with q
        subst q
        exact q2 e2
      · repeat refine wp_s rfl ?_
        exact wp_e rfl (kk 3 (.inr (.inl ⟨rfl, n2, .inl ⟨p, e, e2⟩⟩)))
  have w2b : ¬ (cY c a = true ∧ pl a = none) → WP d 33 14 [some (vr 0 0), some (vr 2 a), some (vr 2 b)] [] h Q := by
    intro n2
    iterate 2 refine wp_s rfl ?_
    rw [RG_tY g hb]
    cases e : cY c b with
    | false =>
      refine wp_s rfl ?_
      refine w3 ?_
      rintro (q | q)
      · exact n2 q
      · rw [e] at q; exact absurd q.1 (by simp)
    | true =>
      iterate 3 refine wp_s rfl ?_
      rw [RG_tw g hb]
      cases e2 : pl b with
      | none =>
        repeat refine wp_s rfl ?_
        exact wp_e rfl (kk 2 (.inl ⟨rfl, .inr ⟨e, e2⟩⟩))
      | some p =>
        refine wp_s rfl ?_
        refine w3 ?_
        rintro (q | q)
        · exact n2 q
        · rw [e2] at q; exact absurd q.2 (by simp)
  iterate 2 refine wp_s rfl ?_
  rw [RG_tY g ha]
  cases e : cY c a with
  | false =>
    refine wp_s rfl ?_
    exact w2b (fun q => absurd (e.symm.trans q.1) (by simp))
  | true =>
    iterate 3 refine wp_s rfl ?_
    rw [RG_tw g ha]
    cases e2 : pl a with
    | none =>
      repeat refine wp_s rfl ?_
      exact wp_e rfl (kk 2 (.inl ⟨rfl, .inl ⟨e, e2⟩⟩))
    | some p =>
      refine wp_s rfl ?_
      exact w2b (fun q => absurd (e2.symm.trans q.2) (by simp))
def exH (h : AH) (pl : Pl) (a b : Nat) : AH := sA (sA h 2 a 4 (oR (pl b))) 2 b 4 (oR (pl a))
theorem S_exch (g : RG c pl h) {a b : Nat} (ha : a < cN c) (hb : b < cN c) (k : Q (.inl none) (exH h pl a b)) : WP d 34 0 [some (vr 2 a), some (vr 2 b), none] [] h Q := by
  repeat refine wp_s rfl ?_
  rw [RG_tw g ha, RG_tw g hb]
  exact wp_e rfl k
theorem exH_A {a b k i s : Nat} (q : ¬ (k = 2 ∧ s = 4)) : hA (exH h pl a b) k i s = hA h k i s := by
  unfold exH
  exact (hA_so (by omega)).trans (hA_so (by omega))
theorem exH_RG (g : RG c pl h) {a b : Nat} : RG c (exch pl a b) (exH h pl a b) := by
  obtain ⟨⟨b1, b2, b3⟩, c0, g3, g4⟩ := g
  refine ⟨⟨(hA_so (by omega)).trans ((hA_so (by omega)).trans b1), (hA_so (by omega)).trans ((hA_so (by omega)).trans b2), (hA_so (by omega)).trans ((hA_so (by omega)).trans b3)⟩, c0, fun p hp => ?_, fun t ht => ?_⟩
  · obtain ⟨d1, d2, d3, d4, l, d5, d6⟩ := g3 p hp
    refine ⟨(hA_so (by omega)).trans ((hA_so (by omega)).trans d1), d2, d3, (hA_so (by omega)).trans ((hA_so (by omega)).trans d4), l, ?_, d6⟩
    rw [show hA (exH h pl a b) 1 p 2 = hA h 1 p 2 from (hA_so (by omega)).trans (hA_so (by omega))]
    exact Ch_fr (h := h) (h' := exH h pl a b) (fun _ _ _ => rfl) (fun i s _ => exH_A (by omega)) (Nat.le_refl _) _ _ d5
  · obtain ⟨d1, d2, d3, d4, d5, d6⟩ := g4 t ht
    refine ⟨(hA_so (by omega)).trans ((hA_so (by omega)).trans d1), d2, d3, d4, d5, ?_⟩
    unfold exH exch
    rw [hA_sA, hA_sA]
    by_cases e1 : t = b
    · rw [if_pos ⟨rfl, e1, rfl⟩, if_pos e1]
    · rw [if_neg (fun q => e1 q.2.1), if_neg e1]
      by_cases e2 : t = a
      · rw [if_pos ⟨rfl, e2, rfl⟩, if_pos e2]
      · rw [if_neg (fun q => e2 q.2.1), if_neg e2]
        exact d6
theorem exch_exch {a b : Nat} : exch (exch pl a b) a b = pl := by
  funext t
  unfold exch
  by_cases e1 : t = b
  · subst e1
    by_cases e2 : a = t
    · subst e2; simp
    · simp [e2]
  · by_cases e2 : t = a
    · subst e2
      simp [e1]
    · simp [e1, e2]
theorem exH_FC {a b : Nat} : FC h (exH h pl a b) := ⟨fun _ _ _ _ => rfl, fun i s => (hA_so (by omega)).trans (hA_so (by omega)), rfl, by show hZ h ≤ _; omega, by show hS h ≤ _; omega⟩
theorem S_swap (w : Wf c) (hd : 4 ≤ d) (hpl : ∀ t p, t < cN c → pl t = some p → p < cP c) (g : KS c pl pd told chs h)
    (kz : ∀ a b, a < cN c → b < cN c → x = nI a → y = nI b → pd = true → (cA c a < cF c ∨ cA c b < cF c) → Q (.inl (some (vi 1))) h)
    (kt : ∀ a b n h', a < cN c → b < cN c → x = nI a → y = nI b → pd = true → ¬ (cA c a < cF c ∨ cA c b < cF c) → WhyIs c (exch pl a b) a b n → KS c (if n = 0 then exch pl a b else pl) pd told chs h' → FC h h' → Q (.inl (some (vi (nI n)))) h')
    (k1 : (bel x (nI (cN c)) && bel y (nI (cN c))) = false → Q (.inr (14, hC h 14)) (al h 14 6)) (k2 : ∀ a b, a < cN c → b < cN c → x = nI a → y = nI b → pd = false → Q (.inr (13, hC h 13)) (al h 13 6)) : WP d 35 0 [some (vr 0 0), some (vi x), some (vi y), none, none, none] [] h Q := by
  have wN := Wf_N w
  have wF := Wf_F w
  iterate 2 refine wp_s rfl ?_
  refine wp_cc rfl (by omega) (S_the (by omega) w g.1 (fun a ha ex => ?_) (fun e => k1 (by rw [e]; rfl)))
  iterate 3 refine wp_s rfl ?_
  refine wp_cc rfl (by omega) (S_the (by omega) w g.1 (fun b hb ey => ?_) (fun e => k1 (by rw [e, Bool.and_false])))
  iterate 3 refine wp_s rfl ?_
  rw [g.2.1.1]
  refine wp_cc rfl (by omega) (S_must (fun ep => ?_) (fun ep => k2 a b ha hb ex ey ep))
  have za := Wf_z w ha
  have zb := Wf_z w hb
  have ta := Wf_t w ha
  have tb := Wf_t w hb
  repeat refine wp_s rfl ?_
  rw [RG_tA g.1 ha, RG_F g.1]
  refine br_lt (fun e => ?_) (fun e => ?_)
  · repeat refine wp_s rfl ?_
    exact wp_e rfl (kz a b ha hb ex ey ep (.inl ((nI_ltI (by omega) (by omega)).1 e)))
  repeat refine wp_s rfl ?_
  rw [RG_tA g.1 hb, RG_F g.1]
  refine br_ge (fun e2 => ?_) (fun e2 => ?_)
  rotate_left
  · repeat refine wp_s rfl ?_
    exact wp_e rfl (kz a b ha hb ex ey ep (.inr ((nI_ltI (by omega) (by omega)).1 (Int32.not_le.1 e2))))
  have hnf : ¬ (cA c a < cF c ∨ cA c b < cF c) := by
    have h1 := (nI_leI (by omega) (by omega)).1 e2
    have h2 : ¬ cA c a < cF c := fun q => e (nI_lt q (by omega))
    omega
  iterate 2 refine wp_s rfl ?_
  refine wp_cc rfl (by omega) (S_exch g.1 ha hb ?_)
  have g1 : RG c (exch pl a b) (exH h pl a b) := exH_RG g.1
  have hpl1 : ∀ t p, t < cN c → exch pl a b t = some p → p < cP c := by
    intro t p ht q
    unfold exch at q
    split at q
    · exact hpl a p ha q
    · split at q
      · exact hpl b p hb q
      · exact hpl t p ht q
  iterate 3 refine wp_s rfl ?_
  refine wp_cc rfl (by omega) (S_why w (by omega) hpl1 g1 ha hb (fun n hn => ?_))
  have hn5 : n ≤ 5 := by
    unfold WhyIs at hn
    omega
  iterate 2 refine wp_s rfl ?_
  refine wp_s rfl ?_
  refine br_le (fun e3 => ?_) (fun e3 => ?_)
  · have : n ≤ 0 := (nI_leI (b := 0) (by omega) (by omega)).1 e3
    obtain rfl : n = 0 := by omega
    refine wp_s rfl ?_
    refine wp_e rfl (kt a b 0 _ ha hb ex ey ep hnf hn ⟨g1, ?_, ?_⟩ exH_FC)
    · exact g.2.1
    · exact g.2.2
  · have : ¬ n = 0 := fun q => e3 (by rw [q]; exact Int32.le_refl _)
    iterate 2 refine wp_s rfl ?_
    refine wp_cc rfl (by omega) (S_exch g1 ha hb ?_)
    have g2 : RG c pl (exH (exH h pl a b) (exch pl a b) a b) := by
      have := exH_RG (a := a) (b := b) g1
      rw [exch_exch] at this
      exact this
    refine wp_s rfl ?_
    refine wp_e rfl (kt a b n _ ha hb ex ey ep hnf hn ?_ (FC_t (a := 0) (b := 0) exH_FC exH_FC (by show hZ h ≤ _; omega) (by show hS h ≤ _; omega)))
    rw [if_neg this]
    exact ⟨g2, g.2.1, g.2.2⟩
end WHY
end
section
-- ADOPT, RUN, ABSENT
section RUN
variable {c : Cf} {pl pl' : Pl} {pd kg : Bool} {told : Int32} {chs : List Nat} {d p : Nat} {h h' : AH} {Q : Oc → AH → Prop} {x y z : Int32}
/-- writes that only set who, planned -/
def FA (h h' : AH) : Prop := (∀ k i s, ¬ (k = 0 ∧ s = 11) → hI h' k i s = hI h k i s) ∧ (∀ k i s, ¬ (k = 2 ∧ s = 4) → hA h' k i s = hA h k i s) ∧ hC h' = hC h ∧ hZ h' = hZ h ∧ hS h' = hS h
theorem FA_r : FA h h := ⟨fun _ _ _ _ => rfl, fun _ _ _ _ => rfl, rfl, rfl, rfl⟩
theorem RG_FA (a : FA h h') (hw : ∀ t, t < cN c → hA h' 2 t 4 = oR (pl' t)) (g : RG c pl h) : RG c pl' h' := by
  obtain ⟨⟨b1, b2, b3⟩, ⟨c1, c2, c4, c5, c6⟩, g3, g4⟩ := g
  refine ⟨⟨(a.2.1 0 0 0 (by omega)).trans b1, (a.2.1 0 0 1 (by omega)).trans b2, (a.2.1 0 0 2 (by omega)).trans b3⟩, ⟨(a.1 0 0 3 (by omega)).trans c1, (a.1 0 0 4 (by omega)).trans c2, (a.1 0 0 7 (by omega)).trans c4, (a.1 0 0 8 (by omega)).trans c5, (a.1 0 0 9 (by omega)).trans c6⟩, fun p hp => ?_, fun t ht => ?_⟩
  · obtain ⟨d1, d2, d3, d4, l, d5, d6⟩ := g3 p hp
    refine ⟨(a.2.1 5 0 p (by omega)).trans d1, (a.1 1 p 0 (by omega)).trans d2, (a.1 1 p 1 (by omega)).trans d3, (a.2.1 1 p 3 (by omega)).trans d4, l, ?_, d6⟩
    rw [a.2.1 1 p 2 (by omega)]
    exact Ch_fr (fun i s _ => a.1 3 i s (by omega)) (fun i s _ => a.2.1 3 i s (by omega)) (by rw [a.2.2.1]; exact Nat.le_refl _) _ _ d5
  · obtain ⟨d1, d2, d3, d4, d5, d6⟩ := g4 t ht
    exact ⟨(a.2.1 6 0 t (by omega)).trans d1, (a.1 2 t 0 (by omega)).trans d2, (a.1 2 t 1 (by omega)).trans d3, (a.1 2 t 2 (by omega)).trans d4, (a.1 2 t 3 (by omega)).trans d5, hw t ht⟩
theorem adopt_loop (w : Wf c) (hb : ∀ t, t < cN c → hA h 2 t 6 = oR (pl' t)) (kk : ∀ h', FA h h' → (∀ t, t < cN c → hA h' 2 t 4 = oR (pl' t)) → hI h' 0 0 11 = 1 → Q (.inl none) h') : ∀ (m j : Nat) (h' : AH) (plx : Pl), j + m = cN c → RG c plx h' → FA h h' → (∀ t, t < j → hA h' 2 t 4 = oR (pl' t)) → WP d 23 2 [some (vr 0 0), some (vi (nI j))] [] h' Q := by
  have wN := Wf_N w
  intro m
  induction m with
  | zero =>
    intro j h' plx hj g a hw
    obtain rfl : j = cN c := by omega
    iterate 3 refine wp_s rfl ?_
    rw [RG_N g]
    refine wp_s rfl ?_
    refine br_ge (fun e => ?_) (fun e => absurd (nI_le (Nat.le_refl _) (by omega)) e)
    iterate 3 refine wp_s rfl ?_
    refine wp_e rfl (kk _ ⟨fun k i s q => (hI_so (by omega)).trans (a.1 k i s q), a.2⟩ hw hI_ss)
  | succ m ih =>
    intro j h' plx hj g a hw
    have hj' : j < cN c := by omega
    iterate 3 refine wp_s rfl ?_
    rw [RG_N g]
    refine wp_s rfl ?_
    refine br_ge (fun e => absurd e (nI_ge hj' (by omega))) (fun e => ?_)
    repeat refine wp_s rfl ?_
    rw [RG_a1 g]
    refine wp_aald rfl rfl (by show j < 6; omega) ?_
    rw [RG_t g hj']
    repeat refine wp_s rfl ?_
    rw [RG_a1 g]
    refine wp_aald rfl rfl (by show j < 6; omega) ?_
    rw [RG_t g hj']
    iterate 4 refine wp_s rfl ?_
    rw [nI_1, a.2.1 2 j 6 (by omega), hb j hj']
    have b : FA h' (sA h' 2 j 4 (oR (pl' j))) := ⟨fun _ _ _ _ => rfl, fun k i s q => hA_so (by omega), rfl, rfl, rfl⟩
    refine ih (j + 1) _ (upd1 plx j (pl' j)) (by omega) (RG_FA b (fun t ht => ?_) g) ⟨fun k i s q => (b.1 k i s q).trans (a.1 k i s q), fun k i s q => (b.2.1 k i s q).trans (a.2.1 k i s q), b.2.2.1.trans a.2.2.1, b.2.2.2.1.trans a.2.2.2.1, b.2.2.2.2.trans a.2.2.2.2⟩ (fun t ht => ?_)
    · by_cases e2 : t = j
      · subst e2; rw [upd_k]; exact hA_ss
      · rw [upd_o e2]; exact (hA_so (by omega)).trans (RG_tw g ht)
    · by_cases e2 : t = j
      · subst e2; exact hA_ss
      · exact (hA_so (by omega)).trans (hw t (by omega))
theorem S_adopt (w : Wf c) (g : RG c pl h) (hb : ∀ t, t < cN c → hA h 2 t 6 = oR (pl' t)) (kk : ∀ h', FA h h' → RG c pl' h' → hI h' 0 0 11 = 1 → Q (.inl none) h') : WP d 23 0 [some (vr 0 0), none] [] h Q := by
  iterate 2 refine wp_s rfl ?_
  exact adopt_loop w hb (fun h' a b e => kk h' a (RG_FA a b g) e) (cN c) 0 h pl (by omega) g FA_r (fun t ht => absurd ht (by omega))
theorem RG_s0 {s : Nat} {v : Int32} (hs : s = 5 ∨ s = 6 ∨ 10 ≤ s) (g : RG c pl h) : RG c pl (sI h 0 0 s v) := by
  obtain ⟨⟨b1, b2, b3⟩, ⟨c1, c2, c4, c5, c6⟩, g3, g4⟩ := g
  refine ⟨⟨b1, b2, b3⟩, ⟨(hI_so (by omega)).trans c1, (hI_so (by omega)).trans c2, (hI_so (by omega)).trans c4, (hI_so (by omega)).trans c5, (hI_so (by omega)).trans c6⟩, fun p hp => ?_, fun t ht => ?_⟩
  · obtain ⟨d1, d2, d3, d4, l, d5, d6⟩ := g3 p hp
    exact ⟨d1, (hI_so (by omega)).trans d2, (hI_so (by omega)).trans d3, d4, l, Ch_fr (fun i s _ => hI_so (by omega)) (fun _ _ _ => rfl) (Nat.le_refl _) _ _ d5, d6⟩
  · obtain ⟨d1, d2, d3, d4, d5, d6⟩ := g4 t ht
    exact ⟨d1, (hI_so (by omega)).trans d2, (hI_so (by omega)).trans d3, (hI_so (by omega)).trans d4, (hI_so (by omega)).trans d5, d6⟩
theorem FC_r : FC h h := ⟨fun _ _ _ _ => rfl, fun _ _ => rfl, rfl, by omega, by omega⟩
theorem FS_FC (a : FS h h') : FC h h' := ⟨fun k i s q => a.1 k i s (by omega) (by omega), fun i s => a.2.1 4 i s (by omega) (by omega), by rw [a.2.2.2.1], by rw [a.2.2.2.2.1]; omega, by rw [a.2.2.2.2.2]; omega⟩
theorem FA_FC (a : FA h h') : FC h h' := ⟨fun k i s q => a.1 k i s (by omega), fun i s => a.2.1 4 i s (by omega), by rw [a.2.2.1], by rw [a.2.2.2.1]; omega, by rw [a.2.2.2.2]; omega⟩
theorem S_run (w : Wf c) (hd : cN c + 7 ≤ d) (hpl : ∀ t p, t < cN c → pl t = some p → p < cP c) (g : KS c pl pd told chs h)
    (kt : ∀ h' b, Opt (Vs c pl false false (cN c)) (Ws c pl false false (cN c)) ((cP c + 1) ^ cN c) (some b) → KS c (EX c pl false (cN c) b) true (-1) chs h' → FC h h' → Q (.inl (some (vi (nI (Ws c pl false false (cN c) b))))) h')
    (kf : ∀ h' x, Opt (Vs c pl false false (cN c)) (Ws c pl false false (cN c)) ((cP c + 1) ^ cN c) none → Hr c pl false x → KS c pl pd x chs h' → FC h h' → Q (.inl (some (vi (-1)))) h') : WP d 24 0 [some (vr 0 0)] [] h Q := by
  iterate 4 refine wp_s rfl ?_
  have g1 : RG c pl (sI h 0 0 15 0) := RG_s0 (by omega) g.1
  refine wp_cc rfl (by omega) (S_plan (kg := false) w (by omega) hpl hI_ss g1 (fun h2 b a e lb op => ?_) (fun h2 x a e hr op => ?_))
  · iterate 2 refine wp_s rfl ?_
    have g2 := RG_FS a g1
    refine wp_cc rfl (by omega) (S_adopt (pl' := EX c pl false (cN c) b) w g2 lb.2 (fun h3 a3 g3 e3 => ?_))
    iterate 2 refine wp_s rfl ?_
    rw [a3.1 0 0 13 (by omega), lb.1]
    refine wp_e rfl (kt h3 b op ⟨g3, ⟨e3, ?_, g.2.1.2.2.1, ?_, fun s hs => ?_⟩, ?_, ?_, ?_, ?_⟩ ?_)
    · exact (a3.1 0 0 10 (by omega)).trans e
    · exact (a3.1 0 0 6 (by omega)).trans ((a.1 0 0 6 (by omega) (by omega)).trans ((hI_so (by omega)).trans g.2.1.2.2.2.1))
    · exact (a3.1 8 0 s (by omega)).trans ((a.1 8 0 s (by omega) (by omega)).trans ((hI_so (by omega)).trans (g.2.1.2.2.2.2 s hs)))
    · rw [a3.2.2.1, a.2.2.2.1]; exact g.2.2.1
    · rw [a3.2.2.1, a.2.2.2.1]; exact g.2.2.2.1
    · rw [a3.2.2.1, a.2.2.2.1]; exact g.2.2.2.2.1
    · exact (a3.1 0 0 5 (by omega)).trans ((a.1 0 0 5 (by omega) (by omega)).trans ((hI_so (by omega)).trans g.2.2.2.2.2))
    · have z1 : hZ h3 = hZ h := a3.2.2.2.1.trans a.2.2.2.2.1
      have z2 : hS h3 = hS h := a3.2.2.2.2.trans a.2.2.2.2.2
      exact FC_t (a := 0) (b := 0) (FC_t (a := 0) (b := 0) (FC_sI (by omega)) (FS_FC a) (by rw [a.2.2.2.2.1]; exact Nat.le_add_right _ _) (by rw [a.2.2.2.2.2]; exact Nat.le_add_right _ _)) (FA_FC a3) (by omega) (by omega)
  · iterate 2 refine wp_s rfl ?_
    refine wp_e rfl (kf h2 x op hr ⟨RG_FS a g1, ⟨?_, e, g.2.1.2.2.1, ?_, fun s hs => ?_⟩, ?_, ?_, ?_, ?_⟩ ?_)
    · exact (a.1 0 0 11 (by omega) (by omega)).trans ((hI_so (by omega)).trans g.2.1.1)
    · exact (a.1 0 0 6 (by omega) (by omega)).trans ((hI_so (by omega)).trans g.2.1.2.2.2.1)
    · exact (a.1 8 0 s (by omega) (by omega)).trans ((hI_so (by omega)).trans (g.2.1.2.2.2.2 s hs))
    · rw [a.2.2.2.1]; exact g.2.2.1
    · rw [a.2.2.2.1]; exact g.2.2.2.1
    · rw [a.2.2.2.1]; exact g.2.2.2.2.1
    · exact (a.1 0 0 5 (by omega) (by omega)).trans ((hI_so (by omega)).trans g.2.2.2.2.2)
    · exact FC_t (a := 0) (b := 0) (FC_sI (by omega)) (FS_FC a) (by rw [a.2.2.2.2.1]; exact Nat.le_add_right _ _) (by rw [a.2.2.2.2.2]; exact Nat.le_add_right _ _)
end RUN
end
section
-- ABSENT
def chL (pl pl' : Pl) (k : Nat) : List Nat := (List.range k).filter (fun t => decide (¬ pl t = pl' t))
theorem chL_s {pl pl' : Pl} {k : Nat} : chL pl pl' (k + 1) = chL pl pl' k ++ (if pl k = pl' k then [] else [k]) := by
  unfold chL
  rw [List.range_succ, List.filter_append]
  congr 1
  by_cases e : pl k = pl' k <;> simp [List.filter, e]
theorem chL_len {pl pl' : Pl} {k : Nat} : (chL pl pl' k).length ≤ k := by
  have := List.length_filter_le (fun t => decide (¬ pl t = pl' t)) (List.range k)
  rw [List.length_range] at this
  exact this
section ABS
variable {c : Cf} {pl pl' : Pl} {pd kg : Bool} {told : Int32} {chs : List Nat} {d p : Nat} {h h' : AH} {Q : Oc → AH → Prop} {x y z : Int32}
/-- writes of the list of changes -/
def FLc (h h' : AH) : Prop := (∀ k i s, ¬ (k = 0 ∧ s = 6) → ¬ (k = 8 ∧ i = 0) → hI h' k i s = hI h k i s) ∧ hA h' = hA h ∧ hC h' = hC h ∧ hZ h' = hZ h ∧ hS h' = hS h
theorem FLc_r : FLc h h := ⟨fun _ _ _ _ _ => rfl, rfl, rfl, rfl, rfl⟩
theorem RG_FLc (a : FLc h h') (g : RG c pl h) : RG c pl h' := by
  obtain ⟨⟨b1, b2, b3⟩, ⟨c1, c2, c4, c5, c6⟩, g3, g4⟩ := g
  refine ⟨by rw [a.2.1]; exact ⟨b1, b2, b3⟩, ⟨(a.1 0 0 3 (by omega) (by omega)).trans c1, (a.1 0 0 4 (by omega) (by omega)).trans c2, (a.1 0 0 7 (by omega) (by omega)).trans c4, (a.1 0 0 8 (by omega) (by omega)).trans c5, (a.1 0 0 9 (by omega) (by omega)).trans c6⟩, fun p hp => ?_, fun t ht => ?_⟩
  · obtain ⟨d1, d2, d3, d4, l, d5, d6⟩ := g3 p hp
    rw [a.2.1]
    exact ⟨d1, (a.1 1 p 0 (by omega) (by omega)).trans d2, (a.1 1 p 1 (by omega) (by omega)).trans d3, d4, l, Ch_fr (fun i s _ => a.1 3 i s (by omega) (by omega)) (fun i s _ => by rw [a.2.1]) (by rw [a.2.2.1]; exact Nat.le_refl _) _ _ d5, d6⟩
  · obtain ⟨d1, d2, d3, d4, d5, d6⟩ := g4 t ht
    rw [a.2.1]
    exact ⟨d1, (a.1 2 t 0 (by omega) (by omega)).trans d2, (a.1 2 t 1 (by omega) (by omega)).trans d3, (a.1 2 t 2 (by omega) (by omega)).trans d4, (a.1 2 t 3 (by omega) (by omega)).trans d5, d6⟩
theorem ch_loop (w : Wf c) {L1 L2 L3 L4 : Option AV} (hb : ∀ t, t < cN c → hA h 2 t 6 = oR (pl' t)) (kk : ∀ h', FLc h h' → hI h' 0 0 6 = nI (chL pl pl' (cN c)).length → (∀ s (hs : s < (chL pl pl' (cN c)).length), hI h' 8 0 s = nI (chL pl pl' (cN c))[s]) → WP d 29 155 [some (vr 0 0), L1, L2, L3, L4, some (vi (nI (cN c)))] [] h' Q) : ∀ (m j : Nat) (h' : AH), j + m = cN c → RG c pl h' → FLc h h' → hI h' 0 0 6 = nI (chL pl pl' j).length → (∀ s (hs : s < (chL pl pl' j).length), hI h' 8 0 s = nI (chL pl pl' j)[s]) → WP d 29 99 [some (vr 0 0), L1, L2, L3, L4, some (vi (nI j))] [] h' Q := by
  have wN := Wf_N w
  intro m
  induction m with
  | zero =>
    intro j h' hj g a e6 e8
    obtain rfl : j = cN c := by omega
    iterate 3 refine wp_s rfl ?_
    rw [RG_N g]
    refine wp_s rfl ?_
    refine br_ge (fun e => ?_) (fun e => absurd (nI_le (Nat.le_refl _) (by omega)) e)
    exact kk h' a e6 e8
  | succ m ih =>
    intro j h' hj g a e6 e8
    have hj' : j < cN c := by omega
    have hlen : (chL pl pl' j).length ≤ j := chL_len
    iterate 3 refine wp_s rfl ?_
    rw [RG_N g]
    refine wp_s rfl ?_
    refine br_ge (fun e => absurd e (nI_ge hj' (by omega))) (fun e => ?_)
    repeat refine wp_s rfl ?_
    rw [RG_a1 g]
    refine wp_aald rfl rfl (by show j < 6; omega) ?_
    rw [RG_t g hj']
    repeat refine wp_s rfl ?_
    rw [RG_a1 g]
    refine wp_aald rfl rfl (by show j < 6; omega) ?_
    rw [RG_t g hj']
    iterate 2 refine wp_s rfl ?_
    rw [RG_tw g hj', show hA h' 2 j 6 = oR (pl' j) from by rw [a.2.1]; exact hb j hj']
    refine br_if (fun e2 => ?_) (fun e2 => ?_)
    · have e2' : pl j = pl' j := oR_inj.1 e2
      have es : chL pl pl' (j + 1) = chL pl pl' j := by rw [chL_s, if_pos e2', List.append_nil]
      iterate 2 refine wp_s rfl ?_
      rw [nI_1]
      refine ih (j + 1) h' (by omega) g a (by rw [es]; exact e6) ?_
      rw [es]
      exact e8
    · have e2' : ¬ pl j = pl' j := fun q => e2 (by rw [q])
      have es : chL pl pl' (j + 1) = chL pl pl' j ++ [j] := by rw [chL_s, if_neg e2']
      repeat refine wp_s rfl ?_
      rw [RG_a2 g, e6, nI_1]
      refine wp_iast rfl rfl (by decide) (by show (chL pl pl' j).length < 6; omega) ?_
      iterate 2 refine wp_s rfl ?_
      rw [nI_1]
      have b : FLc h' (sI (sI h' 0 0 6 (nI ((chL pl pl' j).length + 1))) 8 0 (chL pl pl' j).length (nI j)) := ⟨fun k i s q1 q2 => (hI_so (by omega)).trans (hI_so (by omega)), rfl, rfl, rfl, rfl⟩
      refine ih (j + 1) _ (by omega) (RG_FLc b g) ⟨fun k i s q1 q2 => (b.1 k i s q1 q2).trans (a.1 k i s q1 q2), b.2.1.trans a.2.1, b.2.2.1.trans a.2.2.1, b.2.2.2.1.trans a.2.2.2.1, b.2.2.2.2.trans a.2.2.2.2⟩ ?_ ?_
      · rw [es, List.length_append]
        exact (hI_so (by omega)).trans hI_ss
      · rw [es]
        intro s hs
        rw [List.length_append, show [j].length = 1 from rfl] at hs
        by_cases e3 : s = (chL pl pl' j).length
        · subst e3
          rw [hI_ss]
          simp
        · rw [hI_so (by omega), hI_so (by omega), e8 s (by omega), List.getElem_append_left]
theorem Wf_wS (w : Wf c) (hS : cS c < 20) {f t : Int32} : Wf (wS c p f t) := ⟨w.1, w.2.1, hS, w.2.2.2⟩
theorem S_absent (w : Wf c) (hd : cN c + 7 ≤ d) (hpl : ∀ t p, t < cN c → pl t = some p → p < cP c) (g : KS c pl pd told chs h)
    (kt : ∀ p b h', p < cP c → x = nI p → bel y 96 = true → pd = true → cS c < 20 → Opt (Vs (wS c p y 96) pl true false (cN c)) (Ws (wS c p y 96) pl true false (cN c)) ((cP c + 1) ^ cN c) (some b) → KS (wS c p y 96) (EX (wS c p y 96) pl true (cN c) b) true (-1) (chL pl (EX (wS c p y 96) pl true (cN c) b) (cN c)) h' → FC h h' → Q (.inl (some (vi (nI (chL pl (EX (wS c p y 96) pl true (cN c) b) (cN c)).length)))) h')
    (kf : ∀ p v h', p < cP c → x = nI p → bel y 96 = true → pd = true → cS c < 20 → Opt (Vs (wS c p y 96) pl true false (cN c)) (Ws (wS c p y 96) pl true false (cN c)) ((cP c + 1) ^ cN c) none → Hr (wS c p y 96) pl true v → KS c pl pd v chs h' → FC h h' → Q (.inl (some (vi (-1)))) h')
    (k1 : bel x (nI (cP c)) = false → Q (.inr (14, hC h 14)) (al h 14 6)) (k2 : ∀ p, p < cP c → x = nI p → bel y 96 = false → Q (.inr (12, hC h 12)) (al h 12 6)) (k3 : ∀ p, p < cP c → x = nI p → bel y 96 = true → ¬ (pd = true ∧ cS c < 20) → Q (.inr (13, hC h 13)) (al h 13 6)) : WP d 29 0 [some (vr 0 0), some (vi x), some (vi y), none, none, none] [] h Q := by
  have wS20 := Wf_S w
  iterate 2 refine wp_s rfl ?_
  refine wp_cc rfl (by omega) (S_who (by omega) w g.1 (fun p hp ex => ?_) k1)
  iterate 3 refine wp_s rfl ?_
  refine wp_cc rfl (by omega) (S_below ?_)
  refine wp_cc rfl (by omega) (S_allow (fun e => ?_) (k2 p hp ex))
  iterate 2 refine wp_s rfl ?_
  rw [g.2.1.1]
  cases epd : pd with
  | false =>
    iterate 2 refine wp_s rfl ?_
    exact wp_cc rfl (by omega) (S_must (b := false) (fun q => absurd q (by simp)) (fun _ => k3 p hp ex e (fun q => absurd (epd.symm.trans q.1) (by simp))))
  | true =>
  iterate 4 refine wp_s rfl ?_
  rw [g.2.2.2.2.2]
  refine wp_s rfl ?_
  refine br_ge (fun e2 => ?_) (fun e2 => ?_)
  · have : ¬ cS c < 20 := fun q => nI_ge (b := 20) q (by omega) e2
    refine wp_s rfl ?_
    exact wp_cc rfl (by omega) (S_must (b := false) (fun q => absurd q (by simp)) (fun _ => k3 p hp ex e (fun q => this q.2)))
  have hS' : cS c < 20 := by
    rcases Nat.lt_or_ge (cS c) 20 with q | q
    · exact q
    · exact absurd (nI_le (a := 20) q (by omega)) e2
  iterate 2 refine wp_s rfl ?_
  refine wp_cc rfl (by omega) (S_must (b := true) (fun _ => ?_) (fun q => absurd q (by simp)))
  repeat refine wp_s rfl ?_
  refine wp_cc rfl (by omega) (S_sinit ?_)
  refine wp_s rfl ?_
  show WP d 29 61 [some (vr 0 0), some (vi x), some (vi y), some (vr 1 p), some (vo (hA h 1 p 2)), none] [] (pushH h p y 96) Q
  iterate 4 refine wp_s rfl ?_
  have g1 : RG (wS c p y 96) pl (sI (pushH h p y 96) 0 0 15 1) := RG_s0 (by omega) (push_RG hp g.1)
  have w1 : Wf (wS c p y 96) := Wf_wS w hS'
  have f1 : FC h (sI (pushH h p y 96) 0 0 15 1) := FC_t (a := 0) (b := 0) push_FC (FC_sI (by omega)) (by show hZ h + 1 ≤ _; omega) (by show hS h + 3 ≤ _; omega)
  have z1 : hZ (sI (pushH h p y 96) 0 0 15 1) = hZ h + 1 := rfl
  have z2 : hS (sI (pushH h p y 96) 0 0 15 1) = hS h + 3 := rfl
  refine wp_cc rfl (by omega) (S_plan (kg := true) w1 (by show cN c + 6 ≤ d - 1; omega) hpl hI_ss g1 (fun h2 b a e3 lb op => ?_) (fun h2 v a e3 hr op => ?_))
  · have g2 := RG_FS a g1
    have c5 : hI h2 0 0 5 = nI (cS c) := (a.1 0 0 5 (by omega) (by omega)).trans ((hI_so (by omega)).trans ((push_I (by omega)).trans g.2.2.2.2.2))
    iterate 4 refine wp_s rfl ?_
    rw [c5]
    iterate 2 refine wp_s rfl ?_
    rw [nI_1]
    iterate 6 refine wp_s rfl ?_
    have g3 : RG (wS c p y 96) pl (sI (sI h2 0 0 5 (nI (cS c + 1))) 0 0 6 0) := RG_s0 (by omega) (RG_s0 (by omega) g2)
    refine ch_loop (h := sI (sI h2 0 0 5 (nI (cS c + 1))) 0 0 6 0) (pl' := EX (wS c p y 96) pl true (cN c) b) w1 lb.2 ?_ (cN c) 0 _ (Nat.zero_add _) g3 FLc_r hI_ss (fun s hs => absurd hs (Nat.not_lt_zero _))
    intro h4 a4 e6 e8
    have g4 := RG_FLc a4 g3
    refine wp_s rfl ?_
    refine wp_cc rfl (by omega) (S_adopt (pl' := EX (wS c p y 96) pl true (cN c) b) w1 g4 (fun t ht => ?_) (fun h5 a5 g5 e11 => ?_))
    · rw [a4.2.1]; exact lb.2 t ht
    iterate 2 refine wp_s rfl ?_
    rw [a5.1 0 0 6 (by omega), e6]
    have hlen : (chL pl (EX (wS c p y 96) pl true (cN c) b) (cN c)).length ≤ cN c := chL_len
    have wN := Wf_N w
    refine wp_e rfl (kt p b h5 hp ex e epd hS' op ⟨g5, ⟨e11, ?_, by omega, ?_, fun s hs => ?_⟩, ?_, ?_, ?_, ?_⟩ ?_)
    · exact (a5.1 0 0 10 (by omega)).trans ((a4.1 0 0 10 (by omega) (by omega)).trans ((hI_so (by omega)).trans ((hI_so (by omega)).trans e3)))
    · exact (a5.1 0 0 6 (by omega)).trans e6
    · exact (a5.1 8 0 s (by omega)).trans (e8 s hs)
    · rw [a5.2.2.1, a4.2.2.1]; show hC h2 1 = _; rw [a.2.2.2.1]; exact (push_C (by omega)).trans g.2.2.1
    · rw [a5.2.2.1, a4.2.2.1]; show hC h2 2 = _; rw [a.2.2.2.1]; exact (push_C (by omega)).trans g.2.2.2.1
    · rw [a5.2.2.1, a4.2.2.1]; show hC h2 6 = _; rw [a.2.2.2.1]; exact (push_C (by omega)).trans g.2.2.2.2.1
    · exact (a5.1 0 0 5 (by omega)).trans ((a4.1 0 0 5 (by omega) (by omega)).trans ((hI_so (by omega)).trans hI_ss))
    · have y1 : hZ h5 = hZ h + 1 := a5.2.2.2.1.trans (a4.2.2.2.1.trans (a.2.2.2.2.1.trans z1))
      have y2 : hS h5 = hS h + 3 := a5.2.2.2.2.trans (a4.2.2.2.2.trans (a.2.2.2.2.2.trans z2))
      refine ⟨fun k i s q => ?_, fun i s => ?_, ?_, by omega, by omega⟩
      · exact (a5.1 k i s (by omega)).trans ((a4.1 k i s (by omega) (by omega)).trans ((hI_so (by omega)).trans ((hI_so (by omega)).trans ((a.1 k i s (by omega) (by omega)).trans (f1.1 k i s q)))))
      · refine (a5.2.1 4 i s (by omega)).trans ?_
        rw [a4.2.1]
        exact (a.2.1 4 i s (by omega) (by omega)).trans (f1.2.1 i s)
      · rw [a5.2.2.1, a4.2.2.1]; show hC h2 16 = _; rw [a.2.2.2.1]; exact push_C (by omega)
  · iterate 5 refine wp_s rfl ?_
    refine wp_e rfl (kf p v _ hp ex e epd hS' op hr ⟨?_, ⟨?_, ?_, g.2.1.2.2.1, ?_, fun s hs => ?_⟩, ?_, ?_, ?_, ?_⟩ ?_)
    · have a2 : ∀ k i s, ¬ (k = 6 ∧ 1 ≤ i) → ¬ (k = 2 ∧ (s = 5 ∨ s = 6)) → ¬ (k = 3 ∧ i = hC h 3) → hA (sA h2 1 p 2 (hA h 1 p 2)) k i s = hA h k i s := by
        intro k i s q1 q2 q3
        rw [hA_sA]
        split
        · rename_i q
          obtain ⟨rfl, rfl, rfl⟩ := q
          rfl
        · exact (a.2.1 k i s q1 q2).trans (push_A q3 (by omega))
      have a1 : ∀ k i s, ¬ (k = 1 ∧ (s = 4 ∨ s = 5)) → ¬ (k = 0 ∧ (s = 10 ∨ s = 12 ∨ s = 13 ∨ s = 14)) → ¬ (k = 3 ∧ i = hC h 3) → ¬ (k = 0 ∧ s = 15) → hI (sA h2 1 p 2 (hA h 1 p 2)) k i s = hI h k i s := by
        intro k i s q1 q2 q3 q4
        exact (a.1 k i s q1 q2).trans ((hI_so (by omega)).trans (push_I q3))
      refine RG_eq (fun s hs => a1 0 0 s (by omega) (by omega) (by omega) (by omega)) (fun s => a2 0 0 s (by omega) (by omega) (by omega)) (fun s => a2 5 0 s (by omega) (by omega) (by omega)) (fun s => a2 6 0 s (by omega) (by omega) (by omega)) (fun i s hs _ => a1 1 i s (by omega) (by omega) (by omega) (by omega)) (fun i s _ => a2 1 i s (by omega) (by omega) (by omega)) (fun i s _ => a1 2 i s (by omega) (by omega) (by omega) (by omega)) (fun i _ => a2 2 i 4 (by omega) (by omega) (by omega)) (fun i s hi => a1 3 i s (by omega) (by omega) (by omega) (by omega)) (fun i s hi => a2 3 i s (by omega) (by omega) (by omega)) ?_ g.1
      show hC h 3 ≤ hC h2 3
      rw [a.2.2.2.1]
      show hC h 3 ≤ hC (pushH h p y 96) 3
      rw [push_C3]
      omega
    · exact (a.1 0 0 11 (by omega) (by omega)).trans ((hI_so (by omega)).trans ((push_I (by omega)).trans g.2.1.1))
    · exact e3
    · exact (a.1 0 0 6 (by omega) (by omega)).trans ((hI_so (by omega)).trans ((push_I (by omega)).trans g.2.1.2.2.2.1))
    · exact (a.1 8 0 s (by omega) (by omega)).trans ((hI_so (by omega)).trans ((push_I (by omega)).trans (g.2.1.2.2.2.2 s hs)))
    · show hC h2 1 = _; rw [a.2.2.2.1]; exact (push_C (by omega)).trans g.2.2.1
    · show hC h2 2 = _; rw [a.2.2.2.1]; exact (push_C (by omega)).trans g.2.2.2.1
    · show hC h2 6 = _; rw [a.2.2.2.1]; exact (push_C (by omega)).trans g.2.2.2.2.1
    · exact (a.1 0 0 5 (by omega) (by omega)).trans ((hI_so (by omega)).trans ((push_I (by omega)).trans g.2.2.2.2.2))
    · have y1 : hZ h2 = hZ h + 1 := a.2.2.2.2.1.trans z1
      have y2 : hS h2 = hS h + 3 := a.2.2.2.2.2.trans z2
      refine ⟨fun k i s q => (a.1 k i s (by omega) (by omega)).trans (f1.1 k i s q), fun i s => (hA_so (by omega)).trans ((a.2.1 4 i s (by omega) (by omega)).trans (f1.2.1 i s)), ?_, by show hZ h2 ≤ _; omega, by show hS h2 ≤ _; omega⟩
      show hC h2 16 = _
      rw [a.2.2.2.1]
      exact push_C (by omega)
end ABS
end
section
-- THE MODEL: ITS STATE
def mA : Nat → Option (Nat × Nat)
  | 2 => some (7, 0) | 4 => some (9, 0) | 5 => some (9, 1) | 6 => some (9, 2) | 8 => some (8, 1) | 9 => some (8, 2) | 10 => some (8, 3) | 11 => some (10, 0) | 12 => some (8, 4) | 13 => some (8, 5) | 14 => some (8, 6) | 15 => some (10, 1) | 22 => some (8, 7) | _ => none
def RM (c : Cf) (pl : Pl) (h : AH) : Prop :=
  (∀ s, hA h 4 0 s = mA s) ∧
  (hI h 4 0 1 = nI (cP c) ∧ hI h 4 0 3 = nI (cS c) ∧ hI h 4 0 7 = nI (cN c) ∧ hI h 4 0 17 = nI (cR c) ∧ hI h 4 0 18 = nI (cL c) ∧ hI h 4 0 19 = nI (cF c)) ∧
  (∀ p, p < cP c → hI h 7 0 p = cK c p) ∧ (∀ s, s < cS c → hI h 9 0 s = nI (cO c s).1 ∧ hI h 9 1 s = (cO c s).2.1 ∧ hI h 9 2 s = (cO c s).2.2) ∧
  (∀ t, t < cN c → hI h 8 1 t = cD c t ∧ hI h 8 2 t = nI (cA c t) ∧ hI h 8 3 t = nI (cZ c t) ∧ hI h 10 0 t = B01 (cY c t) ∧ hI h 8 4 t = oI (pl t))
def MXs (pd : Bool) (told : Int32) (chs : List Nat) (h : AH) : Prop := hI h 4 0 16 = B01 pd ∧ hI h 4 0 20 = told ∧ chs.length ≤ 6 ∧ hI h 4 0 21 = nI chs.length ∧ ∀ s (hs : s < chs.length), hI h 8 7 s = nI chs[s]
/-- what the model's search may write -/
def FM (h h' : AH) : Prop := (∀ k i s, ¬ (k = 4 ∧ (s = 0 ∨ s = 20 ∨ 23 ≤ s)) → ¬ (k = 8 ∧ (i = 5 ∨ i = 6)) → ¬ (k = 10 ∧ i = 1) → hI h' k i s = hI h k i s) ∧ hA h' = hA h ∧ hJ h' = hJ h ∧ hC h' = hC h ∧ hZ h' = hZ h ∧ hS h' = hS h
/-- what a call to the model leaves as it is -/
def FN (h h' : AH) : Prop := (∀ k i s, k ≠ 4 → k ≠ 7 → k ≠ 9 → k ≠ 10 → ¬ (k = 8 ∧ 1 ≤ i) → hI h' k i s = hI h k i s) ∧ hA h' = hA h ∧ hJ h' = hJ h ∧ hC h' = hC h ∧ hZ h' = hZ h ∧ hS h' = hS h
def Bd (c : Cf) (f : Pl) : Prop := ∀ t p, t < cN c → f t = some p → p < cP c
def TR (c : Cf) (f : Pl) (h : AH) : Prop := ∀ t, t < cN c → hI h 8 5 t = oI (f t)
section MOD
variable {c : Cf} {pl f : Pl} {pd : Bool} {told : Int32} {chs : List Nat} {d p t : Nat} {h h' h2 : AH} {Q : Oc → AH → Prop} {x y z : Int32}
theorem FM_r : FM h h := ⟨fun _ _ _ _ _ _ => rfl, rfl, rfl, rfl, rfl, rfl⟩
theorem FM_t (a : FM h h') (b : FM h' h2) : FM h h2 := ⟨fun k i s q1 q2 q3 => (b.1 k i s q1 q2 q3).trans (a.1 k i s q1 q2 q3), b.2.1.trans a.2.1, b.2.2.1.trans a.2.2.1, b.2.2.2.1.trans a.2.2.2.1, b.2.2.2.2.1.trans a.2.2.2.2.1, b.2.2.2.2.2.trans a.2.2.2.2.2⟩
theorem FN_r : FN h h := ⟨fun _ _ _ _ _ _ _ _ => rfl, rfl, rfl, rfl, rfl, rfl⟩
theorem FN_t (a : FN h h') (b : FN h' h2) : FN h h2 := ⟨fun k i s q1 q2 q3 q4 q5 => (b.1 k i s q1 q2 q3 q4 q5).trans (a.1 k i s q1 q2 q3 q4 q5), b.2.1.trans a.2.1, b.2.2.1.trans a.2.2.1, b.2.2.2.1.trans a.2.2.2.1, b.2.2.2.2.1.trans a.2.2.2.2.1, b.2.2.2.2.2.trans a.2.2.2.2.2⟩
theorem FM_FN (a : FM h h') : FN h h' := ⟨fun k i s q1 q2 q3 q4 q5 => a.1 k i s (by omega) (by omega) (by omega), a.2⟩
theorem RM_FM (a : FM h h') (m : RM c pl h) : RM c pl h' := by
  obtain ⟨m1, ⟨e1, e2, e3, e4, e5, e6⟩, m3, m4, m5⟩ := m
  have ai := a.1
  refine ⟨fun s => by rw [a.2.1]; exact m1 s, ⟨(ai 4 0 1 (by omega) (by omega) (by omega)).trans e1, (ai 4 0 3 (by omega) (by omega) (by omega)).trans e2, (ai 4 0 7 (by omega) (by omega) (by omega)).trans e3, (ai 4 0 17 (by omega) (by omega) (by omega)).trans e4, (ai 4 0 18 (by omega) (by omega) (by omega)).trans e5, (ai 4 0 19 (by omega) (by omega) (by omega)).trans e6⟩, fun p hp => (ai 7 0 p (by omega) (by omega) (by omega)).trans (m3 p hp), fun s hs => ?_, fun t ht => ?_⟩
  · obtain ⟨q1, q2, q3⟩ := m4 s hs
    exact ⟨(ai 9 0 s (by omega) (by omega) (by omega)).trans q1, (ai 9 1 s (by omega) (by omega) (by omega)).trans q2, (ai 9 2 s (by omega) (by omega) (by omega)).trans q3⟩
  · obtain ⟨q1, q2, q3, q4, q5⟩ := m5 t ht
    exact ⟨(ai 8 1 t (by omega) (by omega) (by omega)).trans q1, (ai 8 2 t (by omega) (by omega) (by omega)).trans q2, (ai 8 3 t (by omega) (by omega) (by omega)).trans q3, (ai 10 0 t (by omega) (by omega) (by omega)).trans q4, (ai 8 4 t (by omega) (by omega) (by omega)).trans q5⟩
theorem RM_2 (m : RM c pl h) : hA h 4 0 2 = some (7, 0) := m.1 2
theorem RM_4 (m : RM c pl h) : hA h 4 0 4 = some (9, 0) := m.1 4
theorem RM_5 (m : RM c pl h) : hA h 4 0 5 = some (9, 1) := m.1 5
theorem RM_6 (m : RM c pl h) : hA h 4 0 6 = some (9, 2) := m.1 6
theorem RM_8 (m : RM c pl h) : hA h 4 0 8 = some (8, 1) := m.1 8
theorem RM_9 (m : RM c pl h) : hA h 4 0 9 = some (8, 2) := m.1 9
theorem RM_10 (m : RM c pl h) : hA h 4 0 10 = some (8, 3) := m.1 10
theorem RM_11 (m : RM c pl h) : hA h 4 0 11 = some (10, 0) := m.1 11
theorem RM_12 (m : RM c pl h) : hA h 4 0 12 = some (8, 4) := m.1 12
theorem RM_13 (m : RM c pl h) : hA h 4 0 13 = some (8, 5) := m.1 13
theorem RM_14 (m : RM c pl h) : hA h 4 0 14 = some (8, 6) := m.1 14
theorem RM_15 (m : RM c pl h) : hA h 4 0 15 = some (10, 1) := m.1 15
theorem RM_22 (m : RM c pl h) : hA h 4 0 22 = some (8, 7) := m.1 22
theorem RM_P (m : RM c pl h) : hI h 4 0 1 = nI (cP c) := m.2.1.1
theorem RM_S (m : RM c pl h) : hI h 4 0 3 = nI (cS c) := m.2.1.2.1
theorem RM_N (m : RM c pl h) : hI h 4 0 7 = nI (cN c) := m.2.1.2.2.1
theorem RM_R (m : RM c pl h) : hI h 4 0 17 = nI (cR c) := m.2.1.2.2.2.1
theorem RM_L (m : RM c pl h) : hI h 4 0 18 = nI (cL c) := m.2.1.2.2.2.2.1
theorem RM_F (m : RM c pl h) : hI h 4 0 19 = nI (cF c) := m.2.1.2.2.2.2.2
theorem RM_K (m : RM c pl h) (hp : p < cP c) : hI h 7 0 p = cK c p := m.2.2.1 p hp
theorem RM_O (m : RM c pl h) {s : Nat} (hs : s < cS c) : hI h 9 0 s = nI (cO c s).1 ∧ hI h 9 1 s = (cO c s).2.1 ∧ hI h 9 2 s = (cO c s).2.2 := m.2.2.2.1 s hs
theorem RM_D (m : RM c pl h) (ht : t < cN c) : hI h 8 1 t = cD c t := (m.2.2.2.2 t ht).1
theorem RM_A (m : RM c pl h) (ht : t < cN c) : hI h 8 2 t = nI (cA c t) := (m.2.2.2.2 t ht).2.1
theorem RM_Z (m : RM c pl h) (ht : t < cN c) : hI h 8 3 t = nI (cZ c t) := (m.2.2.2.2 t ht).2.2.1
theorem RM_Y (m : RM c pl h) (ht : t < cN c) : hI h 10 0 t = B01 (cY c t) := (m.2.2.2.2 t ht).2.2.2.1
theorem RM_p (m : RM c pl h) (ht : t < cN c) : hI h 8 4 t = oI (pl t) := (m.2.2.2.2 t ht).2.2.2.2
theorem nI_m1 {n : Nat} (hn : n < 1000) : ¬ nI n = -1 := by
  intro q
  have : (0 : Int32) ≤ -1 := q ▸ nI_pos' (n := n) (by omega)
  exact absurd this (by decide)
theorem oI_nI {v : Option Nat} (hv : ∀ q, v = some q → q < 1000) (hp : p < 1000) : oI v = nI p ↔ v = some p := by
  cases v with
  | none => exact ⟨fun q => absurd q.symm (nI_m1 hp), fun q => absurd q (by simp)⟩
  | some q =>
    have := hv q rfl
    show nI q = nI p ↔ _
    rw [nI_eq (by omega) (by omega)]
    simp
theorem oI_m1 {v : Option Nat} (hv : ∀ q, v = some q → q < 1000) : oI v = -1 ↔ v = none := by
  cases v with
  | none => exact ⟨fun _ => rfl, fun _ => rfl⟩
  | some q => exact ⟨fun z => absurd z (nI_m1 (hv q rfl)), fun z => absurd z (by simp)⟩
theorem oI_inj {v u : Option Nat} (hv : ∀ q, v = some q → q < 1000) (hu : ∀ q, u = some q → q < 1000) : oI v = oI u ↔ v = u := by
  cases u with
  | none => exact oI_m1 hv
  | some p => exact oI_nI hv (hu p rfl)
theorem Bd_1 (w : Wf c) (b : Bd c f) (ht : t < cN c) : ∀ q, f t = some q → q < 1000 := fun q e => by
  have := b t q ht e
  have := Wf_P w
  omega
-- leaves
theorem S_thrown (k : Q (.inl (some (vi (hI h 4 0 0)))) h) : WP d 40 0 [some (vr 4 0)] [] h Q := by
  repeat refine wp_s rfl ?_
  exact wp_e rfl k
def thw (a b e : Bool) : Nat := if a = false then 1 else if b = false then 2 else if e = false then 3 else 0
theorem S_goes {a b e : Bool} (k : Q (.inl (some (vi (B01 (a && b && e))))) (sI h 4 0 0 (nI (thw a b e)))) : WP d 41 0 [some (vr 4 0), some (vi (B01 a)), some (vi (B01 b)), some (vi (B01 e))] [] h Q := by
  cases a
  · repeat refine wp_s rfl ?_
    exact wp_e rfl k
  · cases b
    · repeat refine wp_s rfl ?_
      exact wp_e rfl k
    · cases e
      · repeat refine wp_s rfl ?_
        exact wp_e rfl k
      · repeat refine wp_s rfl ?_
        exact wp_e rfl k
theorem S_misPerson (m : RM c pl h) (k : Q (.inl (some (vi (B01 (bel x (nI (cP c))))))) h) : WP d 44 0 [some (vr 4 0), some (vi x)] [] h Q := by
  repeat refine wp_s rfl ?_
  refine br_lt (fun e => ?_) (fun e => ?_)
  · repeat refine wp_s rfl ?_
    exact wp_e rfl (k0 k (by simp [bel, e]))
  repeat refine wp_s rfl ?_
  rw [RM_P m]
  refine br_ge (fun e2 => ?_) (fun e2 => ?_)
  · repeat refine wp_s rfl ?_
    exact wp_e rfl (k0 k (by simp [bel, Int32.not_lt.2 e2]))
  · repeat refine wp_s rfl ?_
    exact wp_e rfl (k1 k (by simp [bel, e, Int32.not_le.1 e2]))
theorem S_misTask (m : RM c pl h) (k : Q (.inl (some (vi (B01 (bel x (nI (cN c))))))) h) : WP d 45 0 [some (vr 4 0), some (vi x)] [] h Q := by
  repeat refine wp_s rfl ?_
  refine br_lt (fun e => ?_) (fun e => ?_)
  · repeat refine wp_s rfl ?_
    exact wp_e rfl (k0 k (by simp [bel, e]))
  repeat refine wp_s rfl ?_
  rw [RM_N m]
  refine br_ge (fun e2 => ?_) (fun e2 => ?_)
  · repeat refine wp_s rfl ?_
    exact wp_e rfl (k0 k (by simp [bel, Int32.not_lt.2 e2]))
  · repeat refine wp_s rfl ?_
    exact wp_e rfl (k1 k (by simp [bel, e, Int32.not_le.1 e2]))
theorem S_mnear (w : Wf c) (m : RM c pl h) {a b : Nat} (ha : a < cN c) (hb : b < cN c) (k : Q (.inl (some (vi (B01 (near c a b))))) h) : WP d 54 0 [some (vr 4 0), some (vi (nI a)), some (vi (nI b))] [] h Q := by
  have wN := Wf_N w
  repeat refine wp_s rfl ?_
  rw [RM_9 m]
  refine wp_iald rfl rfl (by decide) (by show b < 6; omega) ?_
  repeat refine wp_s rfl ?_
  rw [RM_10 m]
  refine wp_iald rfl rfl (by decide) (by show a < 6; omega) ?_
  repeat refine wp_s rfl ?_
  rw [RM_A m hb, RM_Z m ha, RM_R m]
  refine br_ge (fun e => ?_) (fun e => ?_)
  · have e' : ¬ cA c b < cZ c a + cR c := fun q => Int32.not_lt.2 e ((near_nI w ha hb).2 q)
    repeat refine wp_s rfl ?_
    exact wp_e rfl (k0 k (by simp [near, e']))
  have e' : cA c b < cZ c a + cR c := (near_nI w ha hb).1 (Int32.not_le.1 e)
  repeat refine wp_s rfl ?_
  rw [RM_9 m]
  refine wp_iald rfl rfl (by decide) (by show a < 6; omega) ?_
  repeat refine wp_s rfl ?_
  rw [RM_10 m]
  refine wp_iald rfl rfl (by decide) (by show b < 6; omega) ?_
  repeat refine wp_s rfl ?_
  rw [RM_A m ha, RM_Z m hb, RM_R m]
  refine br_ge (fun e2 => ?_) (fun e2 => ?_)
  · have e2' : ¬ cA c a < cZ c b + cR c := fun q => Int32.not_lt.2 e2 ((near_nI w hb ha).2 q)
    repeat refine wp_s rfl ?_
    exact wp_e rfl (k0 k (by simp [near, e2']))
  · have e2' : cA c a < cZ c b + cR c := (near_nI w hb ha).1 (Int32.not_le.1 e2)
    repeat refine wp_s rfl ?_
    exact wp_e rfl (k1 k (by simp [near, e', e2']))
end MOD
end
section
-- THE MODEL: WHAT IT COUNTS OVER A TRIED PLAN
section MTRY
variable {c : Cf} {pl f : Pl} {pd : Bool} {told : Int32} {chs : List Nat} {d p t : Nat} {h h' h2 : AH} {Q : Oc → AH → Prop} {x y z : Int32}
theorem bit_01 : bit c p t = 0 ∨ bit c p t = 1 := by
  obtain ⟨j, hj, e⟩ := pk_andE (cK c p >>> (cD c t &&& 31)) (m := 1) 1 rfl
  have : j = 0 ∨ j = 1 := by omega
  unfold bit
  rw [e]
  rcases this with rfl | rfl
  · exact .inl rfl
  · exact .inr rfl
theorem msuits_loop (w : Wf c) (m : RM c pl h) (hp : p < cP c) (ht : t < cN c) (sp : Sp c) (kt : suitP c p t → Q (.inl (some (vi 1))) h) (kf : ¬ suitP c p t → Q (.inl (some (vi 0))) h) : ∀ (r s : Nat) (is : Bool), s + r = cS c → (is = true ↔ (¬ bit c p t = 0 ∧ ∀ i, i < s → (cO c i).1 = p → lap c (cO c i).2 t = false)) → WP d 53 28 [some (vr 4 0), some (vi (nI p)), some (vi (nI t)), some (vi (B01 is)), some (vi (nI s))] [] h Q := by
  have wS := Wf_S w
  have wN := Wf_N w
  have wP := Wf_P w
  intro r
  induction r with
  | zero =>
    intro s is hs hi
    obtain rfl : s = cS c := by omega
    iterate 3 refine wp_s rfl ?_
    rw [RM_S m]
    refine wp_s rfl ?_
    refine br_ge (fun e => ?_) (fun e => absurd (nI_le (Nat.le_refl _) (by omega)) e)
    cases is with
    | true =>
      refine wp_s rfl ?_
      exact wp_e rfl (kt (hi.1 rfl))
    | false =>
      refine wp_s rfl ?_
      exact wp_e rfl (kf (fun q => absurd (hi.2 q) (by simp)))
  | succ r ih =>
    intro s is hs hi
    have hs' : s < cS c := by omega
    obtain ⟨o1, o2, o3⟩ := RM_O m hs'
    have hsp := sp s hs'
    have next : ∀ is' : Bool, (is' = true ↔ (is = true ∧ ((cO c s).1 = p → lap c (cO c s).2 t = false))) → WP d 53 89 [some (vr 4 0), some (vi (nI p)), some (vi (nI t)), some (vi (B01 is)), some (vi (nI s))] [vi (B01 is')] h Q := by
      intro is' hi'
      iterate 3 refine wp_s rfl ?_
      rw [nI_1]
      refine ih (s + 1) is' (by omega) ?_
      rw [hi', hi]
      constructor
      · rintro ⟨⟨q1, q2⟩, q3⟩
        refine ⟨q1, fun i hi => ?_⟩
        by_cases e : i = s
        · subst e; exact q3
        · exact q2 i (by omega)
      · rintro ⟨q1, q2⟩
        exact ⟨⟨q1, fun i hi => q2 i (by omega)⟩, q2 s (by omega)⟩
    iterate 3 refine wp_s rfl ?_
    rw [RM_S m]
    refine wp_s rfl ?_
    refine br_ge (fun e => absurd e (nI_ge hs' (by omega))) (fun e => ?_)
    cases is with
    | false =>
      iterate 3 refine wp_s rfl ?_
      exact next false (by simp)
    | true =>
      repeat refine wp_s rfl ?_
      rw [RM_4 m]
      refine wp_iald rfl rfl (by decide) (by show s < 20; omega) ?_
      repeat refine wp_s rfl ?_
      rw [o1]
      refine br_ne (fun e1 => ?_) (fun e1 => ?_)
      · iterate 2 refine wp_s rfl ?_
        exact next true (by simp; intro q; exact absurd (by rw [q]) e1)
      have e1' : (cO c s).1 = p := (nI_eq (by omega) (by omega)).1 e1
      repeat refine wp_s rfl ?_
      rw [RM_5 m]
      refine wp_iald rfl rfl (by decide) (by show s < 20; omega) ?_
      repeat refine wp_s rfl ?_
      rw [RM_10 m]
      refine wp_iald rfl rfl (by decide) (by show t < 6; omega) ?_
      repeat refine wp_s rfl ?_
      rw [o2, RM_Z m ht]
      refine br_ge (fun e2 => ?_) (fun e2 => ?_)
      · iterate 2 refine wp_s rfl ?_
        exact next true (by simp [lap, Int32.not_lt.2 e2])
      repeat refine wp_s rfl ?_
      rw [RM_9 m]
      refine wp_iald rfl rfl (by decide) (by show t < 6; omega) ?_
      repeat refine wp_s rfl ?_
      rw [RM_6 m]
      refine wp_iald rfl rfl (by decide) (by show s < 20; omega) ?_
      repeat refine wp_s rfl ?_
      rw [o3, RM_A m ht]
      refine br_lt (fun e3 => ?_) (fun e3 => ?_)
      · refine wp_s rfl ?_
        exact next false (by simp [lap, Int32.not_le.1 e2, e3, e1'])
      · iterate 2 refine wp_s rfl ?_
        exact next true (by simp [lap, e3])
theorem S_msuits (w : Wf c) (m : RM c pl h) (hp : p < cP c) (ht : t < cN c) (sp : Sp c) (kt : suitP c p t → Q (.inl (some (vi 1))) h) (kf : ¬ suitP c p t → Q (.inl (some (vi 0))) h) : WP d 53 0 [some (vr 4 0), some (vi (nI p)), some (vi (nI t)), none, none] [] h Q := by
  have wN := Wf_N w
  have wP := Wf_P w
  repeat refine wp_s rfl ?_
  rw [RM_2 m]
  refine wp_iald rfl rfl (by decide) (by show p < 4; omega) ?_
  repeat refine wp_s rfl ?_
  rw [RM_8 m]
  refine wp_iald rfl rfl (by decide) (by show t < 6; omega) ?_
  repeat refine wp_s rfl ?_
  rw [RM_K m hp, RM_D m ht]
  refine br_ne (fun e => ?_) (fun e => ?_)
  · have e' : bit c p t = 0 := bit_01.resolve_right e
    iterate 4 refine wp_s rfl ?_
    exact msuits_loop w m hp ht sp kt kf (cS c) 0 false (by omega) ⟨fun q => absurd q (by simp), fun q => absurd e' q.1⟩
  · have e' : bit c p t = 1 := e
    iterate 5 refine wp_s rfl ?_
    exact msuits_loop w m hp ht sp kt kf (cS c) 0 true (by omega) ⟨fun _ => ⟨by rw [e']; decide, fun i hi => absurd hi (by omega)⟩, fun _ => rfl⟩
-- hasNear
theorem hn_inner (w : Wf c) (hd : 1 ≤ d) (m : RM c pl h) (bd : Bd c f) (tr : TR c f h) (hp : p < 1000) {a : Nat} (ha : a < cN c) {hb : Bool} (kk : ∀ b' : Bool, (b' = true ↔ (hb = true ∨ ∃ j, j < a ∧ f a = some p ∧ f j = some p ∧ near c a j = true)) → WP d 55 68 [some (vr 4 0), some (vi (nI p)), some (vi (B01 b')), some (vi (nI a)), some (vi (nI a))] [] h Q) : ∀ (r j : Nat) (b' : Bool), j + r = a → (b' = true ↔ (hb = true ∨ ∃ i, i < j ∧ f a = some p ∧ f i = some p ∧ near c a i = true)) → WP d 55 15 [some (vr 4 0), some (vi (nI p)), some (vi (B01 b')), some (vi (nI a)), some (vi (nI j))] [] h Q := by
  have wN := Wf_N w
  intro r
  induction r with
  | zero =>
    intro j b' hj hi
    obtain rfl : j = a := by omega
    iterate 3 refine wp_s rfl ?_
    refine br_ge (fun e => ?_) (fun e => absurd (nI_le (Nat.le_refl _) (by omega)) e)
    exact kk b' hi
  | succ r ih =>
    intro j b' hj hi
    have hj' : j < cN c := by omega
    have next : ∀ b2 : Bool, (b2 = true ↔ (b' = true ∨ (f a = some p ∧ f j = some p ∧ near c a j = true))) → WP d 55 61 [some (vr 4 0), some (vi (nI p)), some (vi (B01 b')), some (vi (nI a)), some (vi (nI j))] [vi (B01 b2)] h Q := by
      intro b2 h2
      iterate 3 refine wp_s rfl ?_
      rw [nI_1]
      refine ih (j + 1) b2 (by omega) ?_
      rw [h2, hi]
      constructor
      · rintro ((q | ⟨i, q1, q2⟩) | q)
        · exact .inl q
        · exact .inr ⟨i, by omega, q2⟩
        · exact .inr ⟨j, by omega, q⟩
      · rintro (q | ⟨i, q1, q2⟩)
        · exact .inl (.inl q)
        · by_cases e : i = j
          · subst e; exact .inr q2
          · exact .inl (.inr ⟨i, by omega, q2⟩)
    iterate 3 refine wp_s rfl ?_
    refine br_ge (fun e => absurd e (nI_ge (show j < a by omega) (by omega))) (fun e => ?_)
    cases b' with
    | true =>
      iterate 4 refine wp_s rfl ?_
      exact next true (by simp)
    | false =>
      repeat refine wp_s rfl ?_
      rw [RM_13 m]
      refine wp_iald rfl rfl (by decide) (by show a < 6; omega) ?_
      repeat refine wp_s rfl ?_
      rw [tr a ha]
      refine br_ne (fun e1 => ?_) (fun e1 => ?_)
      · refine wp_s rfl ?_
        exact next false (by simp; intro q; exact absurd ((oI_nI (Bd_1 w bd ha) hp).2 q) e1)
      have e1' := (oI_nI (Bd_1 w bd ha) hp).1 e1
      repeat refine wp_s rfl ?_
      rw [RM_13 m]
      refine wp_iald rfl rfl (by decide) (by show j < 6; omega) ?_
      repeat refine wp_s rfl ?_
      rw [tr j hj']
      refine br_ne (fun e2 => ?_) (fun e2 => ?_)
      · refine wp_s rfl ?_
        exact next false (by simp; intro _ q; exact absurd ((oI_nI (Bd_1 w bd hj') hp).2 q) e2)
      have e2' := (oI_nI (Bd_1 w bd hj') hp).1 e2
      repeat refine wp_s rfl ?_
      refine wp_cc rfl (by omega) (S_mnear w m ha hj' ?_)
      cases en : near c a j with
      | true =>
        iterate 3 refine wp_s rfl ?_
        exact next true (by simp [e1', e2', en])
      | false =>
        iterate 2 refine wp_s rfl ?_
        exact next false (by simp [en])
theorem hn_loop (w : Wf c) (hd : 1 ≤ d) (m : RM c pl h) (bd : Bd c f) (tr : TR c f h) (hp : p < 1000) (kt : ¬ LC c f p → Q (.inl (some (vi 1))) h) (kf : LC c f p → Q (.inl (some (vi 0))) h) : ∀ (r a : Nat) (hb : Bool) (L4 : Option AV), a + r = cN c → (hb = true ↔ ∃ i j, i < a ∧ j < i ∧ f i = some p ∧ f j = some p ∧ near c i j = true) → WP d 55 4 [some (vr 4 0), some (vi (nI p)), some (vi (B01 hb)), some (vi (nI a)), L4] [] h Q := by
  have wN := Wf_N w
  intro r
  induction r with
  | zero =>
    intro a hb L4 ha hi
    obtain rfl : a = cN c := by omega
    iterate 3 refine wp_s rfl ?_
    rw [RM_N m]
    refine wp_s rfl ?_
    refine br_ge (fun e => ?_) (fun e => absurd (nI_le (Nat.le_refl _) (by omega)) e)
    cases hb with
    | true =>
      refine wp_s rfl ?_
      refine wp_e rfl (kt (fun q => ?_))
      obtain ⟨i, j, q1, q2, q3, q4, q5⟩ := hi.1 rfl
      have := q i q1 j q2 q3 q4
      rw [q5] at this
      exact absurd this (by simp)
    | false =>
      refine wp_s rfl ?_
      refine wp_e rfl (kf (fun i q1 j q2 q3 q4 => ?_))
      cases en : near c i j with
      | false => rfl
      | true => exact absurd (hi.2 ⟨i, j, q1, q2, q3, q4, en⟩) (by simp)
  | succ r ih =>
    intro a hb L4 ha hi
    have ha' : a < cN c := by omega
    iterate 3 refine wp_s rfl ?_
    rw [RM_N m]
    refine wp_s rfl ?_
    refine br_ge (fun e => absurd e (nI_ge ha' (by omega))) (fun e => ?_)
    iterate 2 refine wp_s rfl ?_
    refine hn_inner (hb := hb) w hd m bd tr hp ha' (fun b' hb' => ?_) a 0 hb (by omega) ⟨fun q => .inl q, fun q => q.resolve_right (fun ⟨i, q, _⟩ => absurd q (by omega))⟩
    iterate 2 refine wp_s rfl ?_
    rw [nI_1]
    refine ih (a + 1) b' _ (by omega) ?_
    rw [hb', hi]
    constructor
    · rintro (⟨i, j, q1, q2⟩ | ⟨j, q1, q2⟩)
      · exact ⟨i, j, by omega, q2⟩
      · exact ⟨a, j, by omega, q1, q2⟩
    · rintro ⟨i, j, q1, q2, q3⟩
      by_cases e : i = a
      · subst e; exact .inr ⟨j, q2, q3⟩
      · exact .inl ⟨i, j, by omega, q2, q3⟩
theorem S_hasNear (w : Wf c) (hd : 1 ≤ d) (m : RM c pl h) (bd : Bd c f) (tr : TR c f h) (hp : p < 1000) (kt : ¬ LC c f p → Q (.inl (some (vi 1))) h) (kf : LC c f p → Q (.inl (some (vi 0))) h) : WP d 55 0 [some (vr 4 0), some (vi (nI p)), none, none, none] [] h Q := by
  iterate 4 refine wp_s rfl ?_
  exact hn_loop w hd m bd tr hp kt kf (cN c) 0 false none (by omega) ⟨fun q => absurd q (by simp), fun ⟨i, j, q, _⟩ => absurd q (by omega)⟩
-- quarters
theorem mq_loop (w : Wf c) (m : RM c pl h) (bd : Bd c f) (tr : TR c f h) (hp : p < 1000) (kk : Q (.inl (some (vi (nI (qua c f (some p)))))) h) : ∀ (r j : Nat), j + r = cN c → WP d 56 4 [some (vr 4 0), some (vi (nI p)), some (vi (nI (sumN j (fun t => if f t = some p then sz c t else 0)))), some (vi (nI j))] [] h Q := by
  have wN := Wf_N w
  intro r
  induction r with
  | zero =>
    intro j hj
    obtain rfl : j = cN c := by omega
    iterate 3 refine wp_s rfl ?_
    rw [RM_N m]
    refine wp_s rfl ?_
    refine br_ge (fun e => ?_) (fun e => absurd (nI_le (Nat.le_refl _) (by omega)) e)
    refine wp_s rfl ?_
    exact wp_e rfl kk
  | succ r ih =>
    intro j hj
    have hj' : j < cN c := by omega
    have ih' := ih (j + 1) (by omega)
    have es : sumN (j + 1) (fun t => if f t = some p then sz c t else 0) = sumN j (fun t => if f t = some p then sz c t else 0) + (if f j = some p then sz c j else 0) := rfl
    rw [es] at ih'
    iterate 3 refine wp_s rfl ?_
    rw [RM_N m]
    refine wp_s rfl ?_
    refine br_ge (fun e => absurd e (nI_ge hj' (by omega))) (fun e => ?_)
    repeat refine wp_s rfl ?_
    rw [RM_13 m]
    refine wp_iald rfl rfl (by decide) (by show j < 6; omega) ?_
    repeat refine wp_s rfl ?_
    rw [tr j hj']
    refine br_ne (fun e1 => ?_) (fun e1 => ?_)
    · rw [if_neg (fun q => e1 ((oI_nI (Bd_1 w bd hj') hp).2 q)), Nat.add_zero] at ih'
      iterate 4 refine wp_s rfl ?_
      rw [nI_1]
      exact ih'
    · rw [if_pos ((oI_nI (Bd_1 w bd hj') hp).1 e1)] at ih'
      repeat refine wp_s rfl ?_
      rw [RM_10 m]
      refine wp_iald rfl rfl (by decide) (by show j < 6; omega) ?_
      repeat refine wp_s rfl ?_
      rw [RM_9 m]
      refine wp_iald rfl rfl (by decide) (by show j < 6; omega) ?_
      iterate 5 refine wp_s rfl ?_
      have ht := Wf_t w hj'
      rw [RM_Z m hj', RM_A m hj', nI_1, nI_add, pk_sub (by omega), Nat.add_sub_assoc (Nat.le_of_lt ht)]
      exact ih'
theorem S_mquarters (w : Wf c) (m : RM c pl h) (bd : Bd c f) (tr : TR c f h) (hp : p < 1000) (kk : Q (.inl (some (vi (nI (qua c f (some p)))))) h) : WP d 56 0 [some (vr 4 0), some (vi (nI p)), none, none] [] h Q := by
  iterate 4 refine wp_s rfl ?_
  exact mq_loop w m bd tr hp kk (cN c) 0 (by omega)
end MTRY
end
section
-- THE MODEL: COSTOF, MAY, FULL, DIFFERENCES, TRYPLAN, KEEP
def MAYt (c : Cf) (pl : Pl) (kp : Nat → Bool) (f : Pl) (t : Nat) : Prop := if kp t = true then f t = pl t else ∀ p, f t = some p → suitP c p t
def MAY (c : Cf) (pl : Pl) (kp : Nat → Bool) (f : Pl) : Prop := (∀ t, t < cN c → MAYt c pl kp f t) ∧ ∀ p, p < cP c → qua c f (some p) ≤ cL c ∧ LC c f p
def fuF (c : Cf) (f : Pl) : Nat → Nat → Nat
  | 0, k => k
  | m + 1, k => if cY c k = true ∧ f k = none then k else fuF c f m (k + 1)
def fullF (c : Cf) (f : Pl) : Nat := fuF c f (cN c) 0
def dif (c : Cf) (pl f : Pl) : Nat := sumN (cN c) (fun t => if f t = pl t then 0 else 1)
section MMAY
variable {c : Cf} {pl f : Pl} {kp : Nat → Bool} {pd : Bool} {told : Int32} {chs : List Nat} {d p t : Nat} {h h' h2 : AH} {Q : Oc → AH → Prop} {x y z : Int32}
theorem co_inner (w : Wf c) (m : RM c pl h) (bd : Bd c f) (tr : TR c f h) {v : Option Nat} (hv : ∀ q, v = some q → q < 1000) {L1 : Option AV} (kk : WP d 57 51 [some (vr 4 0), L1, some (vi (oI v)), some (vi (nI (cnt c f v))), some (vi (nI (cN c)))] [] h Q) : ∀ (r j : Nat), j + r = cN c → WP d 57 17 [some (vr 4 0), L1, some (vi (oI v)), some (vi (nI (sumN j (fun t => if f t = v then 1 else 0)))), some (vi (nI j))] [] h Q := by
  have wN := Wf_N w
  intro r
  induction r with
  | zero =>
    intro j hj
    obtain rfl : j = cN c := by omega
    iterate 3 refine wp_s rfl ?_
    rw [RM_N m]
    refine wp_s rfl ?_
    refine br_ge (fun e => ?_) (fun e => absurd (nI_le (Nat.le_refl _) (by omega)) e)
    exact kk
  | succ r ih =>
    intro j hj
    have hj' : j < cN c := by omega
    have ih' := ih (j + 1) (by omega)
    have es : sumN (j + 1) (fun t => if f t = v then 1 else 0) = sumN j (fun t => if f t = v then 1 else 0) + (if f j = v then 1 else 0) := rfl
    rw [es] at ih'
    iterate 3 refine wp_s rfl ?_
    rw [RM_N m]
    refine wp_s rfl ?_
    refine br_ge (fun e => absurd e (nI_ge hj' (by omega))) (fun e => ?_)
    repeat refine wp_s rfl ?_
    rw [RM_13 m]
    refine wp_iald rfl rfl (by decide) (by show j < 6; omega) ?_
    repeat refine wp_s rfl ?_
    rw [tr j hj']
    refine br_ne (fun e1 => ?_) (fun e1 => ?_)
    · rw [if_neg (fun q => e1 (by rw [q])), Nat.add_zero] at ih'
      iterate 4 refine wp_s rfl ?_
      rw [nI_1]
      exact ih'
    · rw [if_pos ((oI_inj (Bd_1 w bd hj') hv).1 e1)] at ih'
      iterate 7 refine wp_s rfl ?_
      rw [nI_1, nI_1]
      exact ih'
theorem co_loop (w : Wf c) (m : RM c pl h) (bd : Bd c f) (tr : TR c f h) {a : Nat} (kk : Q (.inl (some (vi (nI (a + sumN (cP c) (fun p => cnt c f (some p) * cnt c f (some p))))))) h) : ∀ (r j : Nat) (L3 L4 : Option AV), j + r = cP c → WP d 57 4 [some (vr 4 0), some (vi (nI (a + sumN j (fun p => cnt c f (some p) * cnt c f (some p))))), some (vi (nI j)), L3, L4] [] h Q := by
  have wP := Wf_P w
  intro r
  induction r with
  | zero =>
    intro j L3 L4 hj
    obtain rfl : j = cP c := by omega
    iterate 3 refine wp_s rfl ?_
    rw [RM_P m]
    refine wp_s rfl ?_
    refine br_ge (fun e => ?_) (fun e => absurd (nI_le (Nat.le_refl _) (by omega)) e)
    refine wp_s rfl ?_
    exact wp_e rfl kk
  | succ r ih =>
    intro j L3 L4 hj
    have hj' : j < cP c := by omega
    iterate 3 refine wp_s rfl ?_
    rw [RM_P m]
    refine wp_s rfl ?_
    refine br_ge (fun e => absurd e (nI_ge hj' (by omega))) (fun e => ?_)
    iterate 4 refine wp_s rfl ?_
    refine co_inner (v := some j) w m bd tr (fun q e => by injection e with e; omega) ?_ (cN c) 0 (by omega)
    iterate 4 refine wp_s rfl ?_
    refine br_ne (fun e1 => ?_) (fun e1 => absurd e1 (nI_m1 (by omega)))
    iterate 7 refine wp_s rfl ?_
    rw [pk_mul, nI_add, show oI (some j) + 1 = nI (j + 1) from nI_1 j, Nat.add_assoc]
    exact ih (j + 1) _ _ (by omega)
theorem S_costOf (w : Wf c) (m : RM c pl h) (bd : Bd c f) (tr : TR c f h) (kk : Q (.inl (some (vi (nI (costP c f))))) h) : WP d 57 0 [some (vr 4 0), none, none, none, none] [] h Q := by
  have wP := Wf_P w
  iterate 4 refine wp_s rfl ?_
  iterate 3 refine wp_s rfl ?_
  rw [RM_P m]
  refine wp_s rfl ?_
  refine br_ge (fun e => absurd (Int32.le_trans (nI_pos' (n := cP c) (by omega)) e) (by decide)) (fun e => ?_)
  iterate 4 refine wp_s rfl ?_
  refine co_inner (v := none) w m bd tr (fun q e => absurd e (by simp)) ?_ (cN c) 0 (by omega)
  iterate 12 refine wp_s rfl ?_
  rw [show (0 : Int32) = nI 0 from rfl, show (100 : Int32) = nI 100 from rfl, pk_mul, nI_add, Nat.zero_add]
  exact co_loop w m bd tr kk (cP c) 0 _ _ (by omega)
-- may
theorem may_bad2 (w : Wf c) (m : RM c pl h) (kf : Q (.inl (some (vi 0))) h) {p : Nat} : WP d 58 86 [some (vr 4 0), some (vi 0), some (vi (nI p))] [] h Q := by
  iterate 3 refine wp_s rfl ?_
  rw [RM_P m]
  refine wp_s rfl ?_
  refine br_ge (fun e => ?_) (fun e => ?_)
  · refine wp_s rfl ?_
    exact wp_e rfl kf
  · iterate 3 refine wp_s rfl ?_
    exact wp_e rfl kf
theorem may_bad1 (w : Wf c) (m : RM c pl h) (kf : Q (.inl (some (vi 0))) h) {p : Nat} : WP d 58 4 [some (vr 4 0), some (vi 0), some (vi (nI p))] [] h Q := by
  iterate 3 refine wp_s rfl ?_
  rw [RM_N m]
  refine wp_s rfl ?_
  refine br_ge (fun e => ?_) (fun e => ?_)
  · iterate 2 refine wp_s rfl ?_
    exact may_bad2 (p := 0) w m kf
  · iterate 4 refine wp_s rfl ?_
    exact may_bad2 (p := 0) w m kf
theorem may_loop2 (w : Wf c) (hd : 2 ≤ d) (m : RM c pl h) (bd : Bd c f) (tr : TR c f h) (kt : (∀ p, p < cP c → qua c f (some p) ≤ cL c ∧ LC c f p) → Q (.inl (some (vi 1))) h) (kf : ¬ (∀ p, p < cP c → qua c f (some p) ≤ cL c ∧ LC c f p) → Q (.inl (some (vi 0))) h) : ∀ (r j : Nat), j + r = cP c → (∀ p, p < j → qua c f (some p) ≤ cL c ∧ LC c f p) → WP d 58 86 [some (vr 4 0), some (vi 1), some (vi (nI j))] [] h Q := by
  have wP := Wf_P w
  have wL := Wf_L w
  intro r
  induction r with
  | zero =>
    intro j hj ha
    obtain rfl : j = cP c := by omega
    iterate 3 refine wp_s rfl ?_
    rw [RM_P m]
    refine wp_s rfl ?_
    refine br_ge (fun e => ?_) (fun e => absurd (nI_le (Nat.le_refl _) (by omega)) e)
    refine wp_s rfl ?_
    exact wp_e rfl (kt ha)
  | succ r ih =>
    intro j hj ha
    have hj' : j < cP c := by omega
    have hq := qua_le (pl := f) (v := some j) w
    iterate 3 refine wp_s rfl ?_
    rw [RM_P m]
    refine wp_s rfl ?_
    refine br_ge (fun e => absurd e (nI_ge hj' (by omega))) (fun e => ?_)
    repeat refine wp_s rfl ?_
    refine wp_cc rfl (by omega) (S_mquarters (p := j) w m bd tr (by omega) ?_)
    repeat refine wp_s rfl ?_
    rw [RM_L m]
    refine br_gt (fun e1 => ?_) (fun e1 => ?_)
    · iterate 4 refine wp_s rfl ?_
      rw [nI_1]
      refine may_bad2 w m (kf (fun q => ?_))
      have := (q j hj').1
      have := (nI_ltI (by omega) (by omega)).1 e1
      omega
    have e1' := (nI_leI (by omega) (by omega)).1 (Int32.not_lt.1 e1)
    repeat refine wp_s rfl ?_
    refine wp_cc rfl (by omega) (S_hasNear (p := j) w (by omega) m bd tr (by omega) (fun e2 => ?_) (fun e2 => ?_))
    · iterate 5 refine wp_s rfl ?_
      rw [nI_1]
      exact may_bad2 w m (kf (fun q => e2 (q j hj').2))
    · iterate 6 refine wp_s rfl ?_
      rw [nI_1]
      refine ih (j + 1) (by omega) (fun p hp => ?_)
      by_cases e3 : p = j
      · subst e3; exact ⟨e1', e2⟩
      · exact ha p (by omega)
theorem may_loop1 (w : Wf c) (hd : 2 ≤ d) (sp : Sp c) (m : RM c pl h) (bp : Bd c pl) (bd : Bd c f) (tr : TR c f h) (hk : ∀ t, t < cN c → hI h 10 1 t = B01 (kp t)) (kt : MAY c pl kp f → Q (.inl (some (vi 1))) h) (kf : ¬ MAY c pl kp f → Q (.inl (some (vi 0))) h) : ∀ (r j : Nat), j + r = cN c → (∀ t, t < j → MAYt c pl kp f t) → WP d 58 4 [some (vr 4 0), some (vi 1), some (vi (nI j))] [] h Q := by
  have wN := Wf_N w
  intro r
  induction r with
  | zero =>
    intro j hj ha
    obtain rfl : j = cN c := by omega
    iterate 3 refine wp_s rfl ?_
    rw [RM_N m]
    refine wp_s rfl ?_
    refine br_ge (fun e => ?_) (fun e => absurd (nI_le (Nat.le_refl _) (by omega)) e)
    iterate 2 refine wp_s rfl ?_
    exact may_loop2 w hd m bd tr (fun q => kt ⟨ha, q⟩) (fun q => kf (fun z => q z.2)) (cP c) 0 (by omega) (fun p hp => absurd hp (by omega))
  | succ r ih =>
    intro j hj ha
    have hj' : j < cN c := by omega
    have good : MAYt c pl kp f j → WP d 58 77 [some (vr 4 0), some (vi 1), some (vi (nI j))] [vi 1] h Q := by
      intro hm
      iterate 3 refine wp_s rfl ?_
      rw [nI_1]
      refine ih (j + 1) (by omega) (fun t ht => ?_)
      by_cases e : t = j
      · subst e; exact hm
      · exact ha t (by omega)
    have bad : ¬ MAYt c pl kp f j → WP d 58 77 [some (vr 4 0), some (vi 1), some (vi (nI j))] [vi 0] h Q := by
      intro hm
      iterate 3 refine wp_s rfl ?_
      rw [nI_1]
      exact may_bad1 w m (kf (fun q => hm (q.1 j hj')))
    iterate 3 refine wp_s rfl ?_
    rw [RM_N m]
    refine wp_s rfl ?_
    refine br_ge (fun e => absurd e (nI_ge hj' (by omega))) (fun e => ?_)
    repeat refine wp_s rfl ?_
    rw [RM_15 m]
    refine wp_zald rfl (by omega) ?_
    rw [hk j hj']
    cases ek : kp j with
    | true =>
      repeat refine wp_s rfl ?_
      rw [RM_13 m]
      refine wp_iald rfl rfl (by decide) (by show j < 6; omega) ?_
      repeat refine wp_s rfl ?_
      rw [RM_12 m]
      refine wp_iald rfl rfl (by decide) (by show j < 6; omega) ?_
      refine wp_s rfl ?_
      rw [tr j hj', RM_p m hj']
      refine br_ne (fun e1 => ?_) (fun e1 => ?_)
      · iterate 2 refine wp_s rfl ?_
        refine bad (fun q => ?_)
        unfold MAYt at q
        rw [if_pos ek] at q
        exact e1 (by rw [q])
      · iterate 2 refine wp_s rfl ?_
        refine good ?_
        unfold MAYt
        rw [if_pos ek]
        exact (oI_inj (Bd_1 w bd hj') (Bd_1 w bp hj')).1 e1
    | false =>
      have en : ¬ kp j = true := by rw [ek]; simp
      repeat refine wp_s rfl ?_
      rw [RM_13 m]
      refine wp_iald rfl rfl (by decide) (by show j < 6; omega) ?_
      iterate 2 refine wp_s rfl ?_
      rw [tr j hj']
      refine br_eq (fun e1 => ?_) (fun e1 => ?_)
      · iterate 2 refine wp_s rfl ?_
        refine good ?_
        unfold MAYt
        rw [if_neg en]
        intro p q
        rw [(oI_m1 (Bd_1 w bd hj')).1 e1] at q
        exact absurd q (by simp)
      · repeat refine wp_s rfl ?_
        rw [RM_13 m]
        refine wp_iald rfl rfl (by decide) (by show j < 6; omega) ?_
        refine wp_s rfl ?_
        rw [tr j hj']
        cases ef : f j with
        | none => exact absurd (by rw [ef]; rfl) e1
        | some p =>
          refine wp_cc rfl (by omega) (S_msuits w m (bd j p hj' ef) hj' sp (fun e2 => ?_) (fun e2 => ?_))
          · iterate 3 refine wp_s rfl ?_
            refine good ?_
            unfold MAYt
            rw [if_neg en]
            intro p' q
            rw [ef] at q
            injection q with q
            rw [← q]
            exact e2
          · iterate 2 refine wp_s rfl ?_
            refine bad (fun q => ?_)
            unfold MAYt at q
            rw [if_neg en] at q
            exact e2 (q p ef)
theorem S_may (w : Wf c) (hd : 2 ≤ d) (sp : Sp c) (m : RM c pl h) (bp : Bd c pl) (bd : Bd c f) (tr : TR c f h) (hk : ∀ t, t < cN c → hI h 10 1 t = B01 (kp t)) (kt : MAY c pl kp f → Q (.inl (some (vi 1))) h) (kf : ¬ MAY c pl kp f → Q (.inl (some (vi 0))) h) : WP d 58 0 [some (vr 4 0), none, none] [] h Q := by
  iterate 4 refine wp_s rfl ?_
  exact may_loop1 w hd sp m bp bd tr hk kt kf (cN c) 0 (by omega) (fun t ht => absurd ht (by omega))
-- full
theorem full_loop (w : Wf c) (m : RM c pl h) (bd : Bd c f) (tr : TR c f h) : ∀ (r j : Nat), j + r = cN c → Q (.inl (some (vi (nI (fuF c f r j))))) h → WP d 59 2 [some (vr 4 0), some (vi (nI j))] [] h Q := by
  have wN := Wf_N w
  intro r
  induction r with
  | zero =>
    intro j hj kk
    obtain rfl : j = cN c := by omega
    iterate 3 refine wp_s rfl ?_
    rw [RM_N m]
    refine wp_s rfl ?_
    refine br_ge (fun e => ?_) (fun e => absurd (nI_le (Nat.le_refl _) (by omega)) e)
    refine wp_s rfl ?_
    exact wp_e rfl kk
  | succ r ih =>
    intro j hj kk
    have hj' : j < cN c := by omega
    iterate 3 refine wp_s rfl ?_
    rw [RM_N m]
    refine wp_s rfl ?_
    refine br_ge (fun e => absurd e (nI_ge hj' (by omega))) (fun e => ?_)
    repeat refine wp_s rfl ?_
    rw [RM_11 m]
    refine wp_zald rfl (by omega) ?_
    rw [RM_Y m hj']
    have kk' : Q (.inl (some (vi (nI (if cY c j = true ∧ f j = none then j else fuF c f r (j + 1)))))) h := kk
    cases ey : cY c j with
    | false =>
      rw [if_neg (fun q => absurd (ey.symm.trans q.1) (by simp))] at kk'
      iterate 3 refine wp_s rfl ?_
      rw [nI_1]
      exact ih (j + 1) (by omega) kk'
    | true =>
      repeat refine wp_s rfl ?_
      rw [RM_13 m]
      refine wp_iald rfl rfl (by decide) (by show j < 6; omega) ?_
      iterate 2 refine wp_s rfl ?_
      rw [tr j hj']
      refine br_eq (fun e1 => ?_) (fun e1 => ?_)
      · rw [if_pos ⟨ey, (oI_m1 (Bd_1 w bd hj')).1 e1⟩] at kk'
        refine wp_s rfl ?_
        exact wp_e rfl kk'
      · rw [if_neg (fun q => e1 (by rw [q.2]; rfl))] at kk'
        iterate 2 refine wp_s rfl ?_
        rw [nI_1]
        exact ih (j + 1) (by omega) kk'
theorem S_full (w : Wf c) (m : RM c pl h) (bd : Bd c f) (tr : TR c f h) (kk : Q (.inl (some (vi (nI (fullF c f))))) h) : WP d 59 0 [some (vr 4 0), none] [] h Q := by
  iterate 2 refine wp_s rfl ?_
  exact full_loop w m bd tr (cN c) 0 (by omega) kk
-- differences
theorem dif_loop (w : Wf c) (m : RM c pl h) (bp : Bd c pl) (bd : Bd c f) (tr : TR c f h) (kk : Q (.inl (some (vi (nI (dif c pl f))))) h) : ∀ (r j : Nat), j + r = cN c → WP d 60 4 [some (vr 4 0), some (vi (nI (sumN j (fun t => if f t = pl t then 0 else 1)))), some (vi (nI j))] [] h Q := by
  have wN := Wf_N w
  intro r
  induction r with
  | zero =>
    intro j hj
    obtain rfl : j = cN c := by omega
    iterate 3 refine wp_s rfl ?_
    rw [RM_N m]
    refine wp_s rfl ?_
    refine br_ge (fun e => ?_) (fun e => absurd (nI_le (Nat.le_refl _) (by omega)) e)
    refine wp_s rfl ?_
    exact wp_e rfl kk
  | succ r ih =>
    intro j hj
    have hj' : j < cN c := by omega
    have ih' := ih (j + 1) (by omega)
    have es : sumN (j + 1) (fun t => if f t = pl t then 0 else 1) = sumN j (fun t => if f t = pl t then 0 else 1) + (if f j = pl j then 0 else 1) := rfl
    rw [es] at ih'
    iterate 3 refine wp_s rfl ?_
    rw [RM_N m]
    refine wp_s rfl ?_
    refine br_ge (fun e => absurd e (nI_ge hj' (by omega))) (fun e => ?_)
    repeat refine wp_s rfl ?_
    rw [RM_13 m]
    refine wp_iald rfl rfl (by decide) (by show j < 6; omega) ?_
    repeat refine wp_s rfl ?_
    rw [RM_12 m]
    refine wp_iald rfl rfl (by decide) (by show j < 6; omega) ?_
    refine wp_s rfl ?_
    rw [tr j hj', RM_p m hj']
    refine br_eq (fun e1 => ?_) (fun e1 => ?_)
    · rw [if_pos ((oI_inj (Bd_1 w bd hj') (Bd_1 w bp hj')).1 e1), Nat.add_zero] at ih'
      iterate 4 refine wp_s rfl ?_
      rw [nI_1]
      exact ih'
    · rw [if_neg (fun q => e1 (by rw [q]))] at ih'
      iterate 7 refine wp_s rfl ?_
      rw [nI_1, nI_1]
      exact ih'
theorem S_dif (w : Wf c) (m : RM c pl h) (bp : Bd c pl) (bd : Bd c f) (tr : TR c f h) (kk : Q (.inl (some (vi (nI (dif c pl f))))) h) : WP d 60 0 [some (vr 4 0), none, none] [] h Q := by
  iterate 4 refine wp_s rfl ?_
  exact dif_loop w m bp bd tr kk (cN c) 0 (by omega)
end MMAY
end
section
-- THE MODEL: TRYPLAN, KEEP, SEEK, TELL
/-- what its search writes -/
def FK (h h' : AH) : Prop := (∀ k i s, ¬ (k = 4 ∧ 23 ≤ s) → ¬ (k = 8 ∧ (i = 5 ∨ i = 6)) → hI h' k i s = hI h k i s) ∧ hA h' = hA h ∧ hJ h' = hJ h ∧ hC h' = hC h ∧ hZ h' = hZ h ∧ hS h' = hS h
def dgf (c : Cf) (n : Nat) : Pl := fun t => dg (cP c) (cN c) n t
def chM (c : Cf) (pl : Pl) (cb : Bool) (n : Nat) : Nat := if cb = true then dif c pl (dgf c n) else 0
def VM (c : Cf) (pl : Pl) (kp : Nat → Bool) (n : Nat) : Prop := MAY c pl kp (dgf c n) ∧ fullF c (dgf c n) = cN c
def WM (c : Cf) (pl : Pl) (cb : Bool) (n : Nat) : Nat := 100000 * chM c pl cb n + costP c (dgf c n)
def LBM (c : Cf) (pl : Pl) (cb : Bool) (h : AH) : Option Nat → Prop
  | none => hI h 4 0 23 = 0
  | some b => hI h 4 0 23 = 1 ∧ hI h 4 0 24 = nI (chM c pl cb b) ∧ hI h 4 0 25 = nI (costP c (dgf c b)) ∧ ∀ t, t < cN c → hI h 8 6 t = oI (dgf c b t)
def FilI (c : Cf) (pl : Pl) (kp : Nat → Bool) (M : Nat) (x : Int32) : Prop := (x = -1 ∧ ∀ n, n < M → ¬ MAY c pl kp (dgf c n)) ∨ (∃ n, n < M ∧ MAY c pl kp (dgf c n) ∧ x = nI (fullF c (dgf c n)) ∧ ∀ n', n' < M → MAY c pl kp (dgf c n') → fullF c (dgf c n') ≤ fullF c (dgf c n))
def mI : Nat → Int32
  | 0 => -1
  | n + 1 => nI n
def faI (c : Cf) : Nat → Nat → Int32
  | 0, _ => -1
  | m + 1, t => if cY c t = true then nI (cA c t) else faI c m (t + 1)
section MSK
variable {c : Cf} {pl f : Pl} {kp : Nat → Bool} {pd cb : Bool} {told : Int32} {chs : List Nat} {d p t : Nat} {h h' h2 : AH} {Q : Oc → AH → Prop} {x y z : Int32}
theorem FK_r : FK h h := ⟨fun _ _ _ _ _ => rfl, rfl, rfl, rfl, rfl, rfl⟩
theorem FK_t (a : FK h h') (b : FK h' h2) : FK h h2 := ⟨fun k i s q1 q2 => (b.1 k i s q1 q2).trans (a.1 k i s q1 q2), b.2.1.trans a.2.1, b.2.2.1.trans a.2.2.1, b.2.2.2.1.trans a.2.2.2.1, b.2.2.2.2.1.trans a.2.2.2.2.1, b.2.2.2.2.2.trans a.2.2.2.2.2⟩
theorem FK_FM (a : FK h h') : FM h h' := ⟨fun k i s q1 q2 _ => a.1 k i s (by omega) q2, a.2⟩
theorem FK_s {k i s : Nat} {v : Int32} (q : (k = 4 ∧ 23 ≤ s) ∨ (k = 8 ∧ (i = 5 ∨ i = 6))) : FK h (sI h k i s v) := ⟨fun k' i' s' q1 q2 => hI_so (by omega), rfl, rfl, rfl, rfl, rfl⟩
theorem dgf_bd (n : Nat) : Bd c (dgf c n) := fun _ _ _ e => dg_lt e
theorem tp_loop (w : Wf c) (kk : ∀ h', FK h h' → TR c pl h' → (∀ i s, i ≠ 5 → hI h' 8 i s = hI h 8 i s) → (∀ s, hI h' 4 0 s = hI h 4 0 s) → Q (.inl none) h') : ∀ (r j : Nat) (h' : AH), j + r = cN c → RM c pl h' → FK h h' → (∀ t, t < j → hI h' 8 5 t = oI (pl t)) → (∀ i s, i ≠ 5 → hI h' 8 i s = hI h 8 i s) → (∀ s, hI h' 4 0 s = hI h 4 0 s) → WP d 67 2 [some (vr 4 0), some (vi (nI j))] [] h' Q := by
  have wN := Wf_N w
  intro r
  induction r with
  | zero =>
    intro j h' hj m a tr a8 a4
    obtain rfl : j = cN c := by omega
    iterate 3 refine wp_s rfl ?_
    rw [RM_N m]
    refine wp_s rfl ?_
    refine br_ge (fun e => ?_) (fun e => absurd (nI_le (Nat.le_refl _) (by omega)) e)
    exact wp_e rfl (kk h' a tr a8 a4)
  | succ r ih =>
    intro j h' hj m a tr a8 a4
    have hj' : j < cN c := by omega
    iterate 3 refine wp_s rfl ?_
    rw [RM_N m]
    refine wp_s rfl ?_
    refine br_ge (fun e => absurd e (nI_ge hj' (by omega))) (fun e => ?_)
    repeat refine wp_s rfl ?_
    rw [RM_12 m]
    refine wp_iald rfl rfl (by decide) (by show j < 6; omega) ?_
    rw [RM_13 m, RM_p m hj']
    refine wp_iast rfl rfl (by decide) (by show j < 6; omega) ?_
    iterate 2 refine wp_s rfl ?_
    rw [nI_1]
    have b : FK h' (sI h' 8 5 j (oI (pl j))) := FK_s (by omega)
    refine ih (j + 1) _ (by omega) (RM_FM (FK_FM b) m) (FK_t a b) (fun t ht => ?_) (fun i s hi => (hI_so (by omega)).trans (a8 i s hi)) (fun s => (hI_so (by omega)).trans (a4 s))
    by_cases e2 : t = j
    · subst e2; exact hI_ss
    · exact (hI_so (by omega)).trans (tr t (by omega))
theorem S_tryPlan (w : Wf c) (m : RM c pl h) (kk : ∀ h', FK h h' → TR c pl h' → (∀ i s, i ≠ 5 → hI h' 8 i s = hI h 8 i s) → (∀ s, hI h' 4 0 s = hI h 4 0 s) → Q (.inl none) h') : WP d 67 0 [some (vr 4 0), none] [] h Q := by
  iterate 2 refine wp_s rfl ?_
  exact tp_loop w kk (cN c) 0 h (by omega) m FK_r (fun t ht => absurd ht (by omega)) (fun _ _ _ => rfl) (fun _ => rfl)
theorem keep_loop (w : Wf c) (tr : TR c f h) (kk : ∀ h', FK h h' → (∀ t, t < cN c → hI h' 8 6 t = oI (f t)) → (∀ i s, hI h' 4 i s = hI h 4 i s) → Q (.inl none) h') {L1 : Option AV} : ∀ (r j : Nat) (h' : AH), j + r = cN c → RM c pl h' → FK h h' → (∀ s, hI h' 8 5 s = hI h 8 5 s) → (∀ t, t < j → hI h' 8 6 t = oI (f t)) → (∀ i s, hI h' 4 i s = hI h 4 i s) → WP d 62 20 [some (vr 4 0), L1, some (vi (nI j))] [] h' Q := by
  have wN := Wf_N w
  intro r
  induction r with
  | zero =>
    intro j h' hj m a a5 a6 a4
    obtain rfl : j = cN c := by omega
    iterate 3 refine wp_s rfl ?_
    rw [RM_N m]
    refine wp_s rfl ?_
    refine br_ge (fun e => ?_) (fun e => absurd (nI_le (Nat.le_refl _) (by omega)) e)
    exact wp_e rfl (kk h' a a6 a4)
  | succ r ih =>
    intro j h' hj m a a5 a6 a4
    have hj' : j < cN c := by omega
    iterate 3 refine wp_s rfl ?_
    rw [RM_N m]
    refine wp_s rfl ?_
    refine br_ge (fun e => absurd e (nI_ge hj' (by omega))) (fun e => ?_)
    repeat refine wp_s rfl ?_
    rw [RM_13 m]
    refine wp_iald rfl rfl (by decide) (by show j < 6; omega) ?_
    rw [RM_14 m, a5 j, tr j hj']
    refine wp_iast rfl rfl (by decide) (by show j < 6; omega) ?_
    iterate 2 refine wp_s rfl ?_
    rw [nI_1]
    have b : FK h' (sI h' 8 6 j (oI (f j))) := FK_s (by omega)
    refine ih (j + 1) _ (by omega) (RM_FM (FK_FM b) m) (FK_t a b) (fun s => (hI_so (by omega)).trans (a5 s)) (fun t ht => ?_) (fun i s => (hI_so (by omega)).trans (a4 i s))
    by_cases e2 : t = j
    · subst e2; exact hI_ss
    · exact (hI_so (by omega)).trans (a6 t (by omega))
theorem S_keep (w : Wf c) (hd : 1 ≤ d) (m : RM c pl h) (bd : Bd c f) (tr : TR c f h) (kk : ∀ h', FK h h' → (∀ t, t < cN c → hI h' 8 6 t = oI (f t)) → hI h' 4 0 23 = 1 → hI h' 4 0 24 = x → hI h' 4 0 25 = nI (costP c f) → hI h' 4 0 26 = hI h 4 0 26 → Q (.inl none) h') : WP d 62 0 [some (vr 4 0), some (vi x), none] [] h Q := by
  iterate 8 refine wp_s rfl ?_
  have a1 : FK h (sI (sI h 4 0 23 1) 4 0 24 x) := FK_t (FK_s (by omega)) (FK_s (by omega))
  have m1 := RM_FM (FK_FM a1) m
  have t1 : TR c f (sI (sI h 4 0 23 1) 4 0 24 x) := fun t ht => ((hI_so (by omega)).trans (hI_so (by omega))).trans (tr t ht)
  refine wp_cc rfl (by omega) (S_costOf w m1 bd t1 ?_)
  iterate 3 refine wp_s rfl ?_
  have a2 : FK (sI (sI h 4 0 23 1) 4 0 24 x) (sI (sI (sI h 4 0 23 1) 4 0 24 x) 4 0 25 (nI (costP c f))) := FK_s (by omega)
  refine keep_loop (f := f) (pl := pl) (h := sI (sI (sI h 4 0 23 1) 4 0 24 x) 4 0 25 (nI (costP c f))) w (fun t ht => (hI_so (by omega)).trans (t1 t ht)) ?_ (cN c) 0 _ (by omega) (RM_FM (FK_FM a2) m1) FK_r (fun _ => rfl) (fun t ht => absurd ht (by omega)) (fun _ _ => rfl)
  intro h' a b e4
  refine kk h' (FK_t a1 (FK_t a2 a)) b ?_ ?_ ?_ ?_
  · rw [e4]; exact (hI_so (by omega)).trans ((hI_so (by omega)).trans hI_ss)
  · rw [e4]; exact (hI_so (by omega)).trans hI_ss
  · rw [e4]; exact hI_ss
  · rw [e4]; exact (hI_so (by omega)).trans ((hI_so (by omega)).trans (hI_so (by omega)))
theorem mI_dec (t : Nat) : nI t + (-1) = mI t := by
  cases t with
  | zero => rfl
  | succ t => exact pk_m1 t
theorem all_le (w : Wf c) : (cP c + 1) ^ cN c ≤ 15625 := by
  have a : (cP c + 1) ^ cN c ≤ 5 ^ cN c := Nat.pow_le_pow_left (by have := Wf_P w; omega) _
  have b : 5 ^ cN c ≤ 5 ^ 6 := Nat.pow_le_pow_right (by omega) (Wf_N w)
  have : (5 : Nat) ^ 6 = 15625 := by decide
  omega
/-- the digits of a number -/
theorem dig_loop (w : Wf c) {n : Nat} (hn : n < (cP c + 1) ^ cN c) {L1 L3 L4 L7 : Option AV} (kk : ∀ h' L5 L6, FK h h' → TR c (dgf c n) h' → (∀ i s, i ≠ 5 → hI h' 8 i s = hI h 8 i s) → (∀ i s, hI h' 4 i s = hI h 4 i s) → WP d 61 105 [some (vr 4 0), L1, some (vi (nI (cP c + 1))), L3, L4, L5, L6, L7] [] h' Q) : ∀ (r : Nat) (h' : AH), r ≤ cN c → RM c pl h' → FK h h' → (∀ t, r ≤ t → t < cN c → hI h' 8 5 t = oI (dgf c n t)) → (∀ i s, i ≠ 5 → hI h' 8 i s = hI h 8 i s) → (∀ i s, hI h' 4 i s = hI h 4 i s) → WP d 61 62 [some (vr 4 0), L1, some (vi (nI (cP c + 1))), L3, L4, some (vi (nI (n / (cP c + 1) ^ (cN c - r)))), some (vi (mI r)), L7] [] h' Q := by
  have wN := Wf_N w
  have wP := Wf_P w
  have wA := all_le w
  intro r
  induction r with
  | zero =>
    intro h' _ m a tr a8 a4
    iterate 2 refine wp_s rfl ?_
    exact kk h' _ _ a (fun t ht => tr t (by omega) ht) a8 a4
  | succ t ih =>
    intro h' hr m a tr a8 a4
    have ht : t < cN c := by omega
    have hx : n / (cP c + 1) ^ (cN c - (t + 1)) < 2 ^ 31 := Nat.lt_of_le_of_lt (Nat.div_le_self _ _) (by omega)
    have hB : ¬ nI (cP c + 1) = 0 := nI_ne0 (by omega) (by omega)
    have hm := Nat.mod_lt (n / (cP c + 1) ^ (cN c - (t + 1))) (show 0 < cP c + 1 by omega)
    have hdg : dgf c n t = oD (cP c) (n / (cP c + 1) ^ (cN c - (t + 1)) % (cP c + 1)) := by
      unfold dgf dg
      rw [show cN c - 1 - t = cN c - (t + 1) by omega]
    have hdv : n / (cP c + 1) ^ (cN c - (t + 1)) / (cP c + 1) = n / (cP c + 1) ^ (cN c - t) := by
      rw [Nat.div_div_eq_div_mul, ← Nat.pow_succ, show (cN c - (t + 1)).succ = cN c - t by omega]
    have fin : ∀ v : Int32, v = oI (dgf c n t) → WP d 61 92 [some (vr 4 0), L1, some (vi (nI (cP c + 1))), L3, L4, some (vi (nI (n / (cP c + 1) ^ (cN c - (t + 1))))), some (vi (nI t)), L7] [vi v, vi (nI t), vo (hA h' 4 0 13)] h' Q := by
      intro v hv
      rw [RM_13 m]
      refine wp_iast rfl rfl (by decide) (by show t < 6; omega) ?_
      iterate 2 refine wp_s rfl ?_
      refine wp_div rfl hB ?_
      rw [pk_div hx (by omega) (by omega), hdv]
      iterate 3 refine wp_s rfl ?_
      rw [mI_dec]
      have b : FK h' (sI h' 8 5 t v) := FK_s (by omega)
      refine ih _ (by omega) (RM_FM (FK_FM b) m) (FK_t a b) (fun t' h1 h2 => ?_) (fun i s hi => (hI_so (by omega)).trans (a8 i s hi)) (fun i s => (hI_so (by omega)).trans (a4 i s))
      by_cases e2 : t' = t
      · subst e2; rw [hI_ss, hv]
      · exact (hI_so (by omega)).trans (tr t' (by omega) h2)
    iterate 2 refine wp_s rfl ?_
    refine br_lt (fun e => absurd e (nI_pos (by omega))) (fun e => ?_)
    iterate 5 refine wp_s rfl ?_
    refine wp_rem rfl hB ?_
    rw [pk_rem hx (by omega) (by omega)]
    iterate 3 refine wp_s rfl ?_
    rw [RM_P m]
    refine br_ne (fun e1 => ?_) (fun e1 => ?_)
    · have e1' : ¬ n / (cP c + 1) ^ (cN c - (t + 1)) % (cP c + 1) = cP c := fun q => e1 (by rw [q])
      iterate 2 refine wp_s rfl ?_
      refine wp_rem rfl hB ?_
      rw [pk_rem hx (by omega) (by omega)]
      refine fin _ ?_
      rw [hdg]
      unfold oD
      rw [if_neg e1']
      rfl
    · have e1' := (nI_eq (by omega) (by omega)).1 e1
      iterate 2 refine wp_s rfl ?_
      refine fin _ ?_
      rw [hdg, e1', oD_P]
      rfl
theorem cost_le (w : Wf c) : costP c f ≤ 744 := by
  have wP := Wf_P w
  have wN := Wf_N w
  have a : cnt c f none ≤ cN c := cnt_le
  have b := sumN_bd (n := cP c) (a := 36) (F := fun p => cnt c f (some p) * cnt c f (some p)) (fun p _ => by
    have : cnt c f (some p) ≤ cN c := cnt_le
    exact Nat.mul_le_mul (show _ ≤ 6 by omega) (show _ ≤ 6 by omega))
  unfold costP
  omega
theorem dif_le (w : Wf c) : dif c pl f ≤ 6 := by
  have wN := Wf_N w
  have := sumN_bd (n := cN c) (a := 1) (F := fun t => if f t = pl t then 0 else 1) (fun j _ => by split <;> omega)
  unfold dif
  omega
theorem chM_le (w : Wf c) (n : Nat) : chM c pl cb n ≤ 6 := by
  have := dif_le (pl := pl) (f := dgf c n) w
  unfold chM
  split <;> omega
theorem fuF_le {c : Cf} {f : Pl} : ∀ (m k : Nat), fuF c f m k ≤ k + m
  | 0, k => Nat.le_refl _
  | m + 1, k => by
    have := fuF_le (c := c) (f := f) m (k + 1)
    show (if _ then _ else _) ≤ _
    split <;> omega
theorem full_le : fullF c f ≤ cN c := by
  have := fuF_le (c := c) (f := f) (cN c) 0
  unfold fullF
  omega
end MSK
end
section
-- THE MODEL: SEEK'S LOOP, TELL
section MLP
variable {c : Cf} {pl f : Pl} {kp : Nat → Bool} {pd cb : Bool} {told : Int32} {chs : List Nat} {d p t : Nat} {h h' h2 : AH} {Q : Oc → AH → Prop} {x y z : Int32}
theorem LBM_eq {o : Option Nat} (h3 : ∀ s, 23 ≤ s → s ≤ 25 → hI h' 4 0 s = hI h 4 0 s) (h8 : ∀ s, hI h' 8 6 s = hI h 8 6 s) (a : LBM c pl cb h o) : LBM c pl cb h' o := by
  cases o with
  | none => exact (h3 23 (by omega) (by omega)).trans a
  | some b => exact ⟨(h3 23 (by omega) (by omega)).trans a.1, (h3 24 (by omega) (by omega)).trans a.2.1, (h3 25 (by omega) (by omega)).trans a.2.2.1, fun t ht => (h8 t).trans (a.2.2.2 t ht)⟩
theorem FilI_no {M : Nat} (a : FilI c pl kp M x) (hn : ¬ MAY c pl kp (dgf c M)) : FilI c pl kp (M + 1) x := by
  rcases a with ⟨e, a⟩ | ⟨n, h1, h2, h3, h4⟩
  · refine .inl ⟨e, fun n hn2 => ?_⟩
    by_cases e : n = M
    · subst e; exact hn
    · exact a n (by omega)
  · refine .inr ⟨n, by omega, h2, h3, fun n' hn' hm => ?_⟩
    by_cases e : n' = M
    · subst e; exact absurd hm hn
    · exact h4 n' (by omega) hm
theorem mseek_loop (w : Wf c) (hd : 4 ≤ d) (sp : Sp c) (bp : Bd c pl) (hk : ∀ t, t < cN c → hI h 10 1 t = B01 (kp t)) (kk : ∀ h' o x, FK h h' → LBM c pl cb h' o → Opt (VM c pl kp) (WM c pl cb) ((cP c + 1) ^ cN c) o → hI h' 4 0 26 = x → FilI c pl kp ((cP c + 1) ^ cN c) x → Q (.inl none) h') : ∀ (r n : Nat) (h' : AH) (o : Option Nat) (x : Int32) (L5 L6 L7 : Option AV), n + r = (cP c + 1) ^ cN c → RM c pl h' → FK h h' → LBM c pl cb h' o → Opt (VM c pl kp) (WM c pl cb) n o → hI h' 4 0 26 = x → FilI c pl kp n x →
    WP d 61 44 [some (vr 4 0), some (vi (B01 cb)), some (vi (nI (cP c + 1))), some (vi (nI ((cP c + 1) ^ cN c))), some (vi (nI n)), L5, L6, L7] [] h' Q := by
  have wN := Wf_N w
  have wA := all_le w
  intro r
  induction r with
  | zero =>
    intro n h' o x L5 L6 L7 hn m a lb op e26 fil
    obtain rfl : n = (cP c + 1) ^ cN c := by omega
    iterate 3 refine wp_s rfl ?_
    refine br_ge (fun e => ?_) (fun e => absurd (nI_le (Nat.le_refl _) (by omega)) e)
    exact wp_e rfl (kk h' o x a lb op e26 fil)
  | succ r ih =>
    intro n h' o x L5 L6 L7 hn m a lb op e26 fil
    have hn' : n < (cP c + 1) ^ cN c := by omega
    iterate 3 refine wp_s rfl ?_
    refine br_ge (fun e => absurd e (nI_ge hn' (by omega))) (fun e => ?_)
    iterate 4 refine wp_s rfl ?_
    rw [RM_N m]
    iterate 3 refine wp_s rfl ?_
    have e0 : nI (cN c) - 1 = mI (cN c) := by
      cases hN : cN c with
      | zero => rfl
      | succ k => exact nI_pred k
    rw [e0]
    have hdl := dig_loop (pl := pl) (h := h') (d := d) (Q := Q) (L1 := some (vi (B01 cb))) (L3 := some (vi (nI ((cP c + 1) ^ cN c)))) (L4 := some (vi (nI n))) (L7 := L7) w hn' ?_ (cN c) h' (Nat.le_refl _) m FK_r (fun t h1 h2 => absurd h2 (by omega)) (fun _ _ _ => rfl) (fun _ _ => rfl)
    · rw [Nat.sub_self, Nat.pow_zero, Nat.div_one] at hdl
      exact hdl
    intro h1 L5 L6 a1 tr a8 a4
    have m1 := RM_FM (FK_FM a1) m
    have a01 := FK_t a a1
    have k1 : ∀ t, t < cN c → hI h1 10 1 t = B01 (kp t) := fun t ht => (a01.1 10 1 t (by omega) (by omega)).trans (hk t ht)
    have lb1 : LBM c pl cb h1 o := LBM_eq (fun s _ _ => a4 0 s) (fun s => a8 6 s (by omega)) lb
    have e261 : hI h1 4 0 26 = x := (a4 0 26).trans e26
    refine wp_s rfl ?_
    refine wp_cc rfl (by omega) (S_may (f := dgf c n) w (by omega) sp m1 bp (dgf_bd n) tr k1 (fun em => ?_) (fun em => ?_))
    rotate_left
    · iterate 3 refine wp_s rfl ?_
      rw [nI_1]
      exact ih (n + 1) h1 o x _ _ _ (by omega) m1 a01 lb1 (opt_ext op (by omega) (fun n' q1 q2 hV => by
        obtain rfl : n' = n := by omega
        exact absurd hV.1 em)) e261 (FilI_no fil em)
    -- filled
    have hfl : fullF c (dgf c n) ≤ cN c := full_le
    have fil' : ∃ x', FilI c pl kp (n + 1) x' ∧ ((nI (fullF c (dgf c n)) ≤ x ∧ x' = x) ∨ (¬ nI (fullF c (dgf c n)) ≤ x ∧ x' = nI (fullF c (dgf c n)))) := by
      rcases fil with ⟨ex, q⟩ | ⟨b, q1, q2, q3, q4⟩
      · refine ⟨nI (fullF c (dgf c n)), .inr ⟨n, by omega, em, rfl, fun n' h1 h2 => ?_⟩, .inr ⟨?_, rfl⟩⟩
        · by_cases e : n' = n
          · subst e; exact Nat.le_refl _
          · exact absurd h2 (q n' (by omega))
        · rw [ex]
          intro z
          exact absurd (Int32.le_trans (nI_pos' (n := fullF c (dgf c n)) (by omega)) z) (by decide)
      · have hfb : fullF c (dgf c b) ≤ cN c := full_le
        by_cases e : fullF c (dgf c n) ≤ fullF c (dgf c b)
        · refine ⟨x, .inr ⟨b, by omega, q2, q3, fun n' h1 h2 => ?_⟩, .inl ⟨by rw [q3]; exact nI_le e (by omega), rfl⟩⟩
          by_cases e2 : n' = n
          · subst e2; exact e
          · exact q4 n' (by omega) h2
        · refine ⟨nI (fullF c (dgf c n)), .inr ⟨n, by omega, em, rfl, fun n' h1 h2 => ?_⟩, .inr ⟨by rw [q3]; exact nI_ge (by omega) (by omega), rfl⟩⟩
          by_cases e2 : n' = n
          · subst e2; exact Nat.le_refl _
          · have := q4 n' (by omega) h2; omega
    obtain ⟨x', fil2, hx'⟩ := fil'
    -- behind the writing of filled
    have rest : WP d 61 138 [some (vr 4 0), some (vi (B01 cb)), some (vi (nI (cP c + 1))), some (vi (nI ((cP c + 1) ^ cN c))), some (vi (nI n)), L5, L6, L7] [] (sI h1 4 0 26 x') Q := by
      have a2 : FK h1 (sI h1 4 0 26 x') := FK_s (by omega)
      have m2 := RM_FM (FK_FM a2) m1
      have tr2 : TR c (dgf c n) (sI h1 4 0 26 x') := fun t ht => (hI_so (by omega)).trans (tr t ht)
      have lb2 : LBM c pl cb (sI h1 4 0 26 x') o := LBM_eq (fun s _ _ => hI_so (by omega)) (fun s => hI_so (by omega)) lb1
      have e262 : hI (sI h1 4 0 26 x') 4 0 26 = x' := hI_ss
      have a02 := FK_t a01 a2
      generalize sI h1 4 0 26 x' = h2 at *
      have hcn := cost_le (f := dgf c n) w
      have hchn := chM_le (pl := pl) (cb := cb) w n
      have cont : WP d 61 150 [some (vr 4 0), some (vi (B01 cb)), some (vi (nI (cP c + 1))), some (vi (nI ((cP c + 1) ^ cN c))), some (vi (nI n)), L5, L6, L7] [vi (nI (chM c pl cb n))] h2 Q := by
        have no : (VM c pl kp n → ∃ b, o = some b ∧ WM c pl cb b ≤ WM c pl cb n) → WP d 61 203 [some (vr 4 0), some (vi (B01 cb)), some (vi (nI (cP c + 1))), some (vi (nI ((cP c + 1) ^ cN c))), some (vi (nI n)), L5, some (vi (nI (chM c pl cb n))), L7] [] h2 Q := by
          intro hno
          iterate 6 refine wp_s rfl ?_
          rw [nI_1]
          exact ih (n + 1) h2 o x' _ _ _ (by omega) m2 a02 lb2 (opt_ext op (by omega) (fun n' q1 q2 hV => by
            obtain rfl : n' = n := by omega
            exact hno hV)) e262 fil2
        have yes : VM c pl kp n → (∀ b, o = some b → WM c pl cb n < WM c pl cb b) → WP d 61 199 [some (vr 4 0), some (vi (B01 cb)), some (vi (nI (cP c + 1))), some (vi (nI ((cP c + 1) ^ cN c))), some (vi (nI n)), L5, some (vi (nI (chM c pl cb n))), L7] [] h2 Q := by
          intro hV hlt
          iterate 7 refine wp_s rfl ?_
          refine wp_cc rfl (by omega) (S_keep w (by omega) m2 (dgf_bd n) tr2 ?_)
          intro h3 a3 b6 b23 b24 b25 b26
          iterate 2 refine wp_s rfl ?_
          rw [nI_1]
          exact ih (n + 1) h3 (some n) x' _ _ _ (by omega) (RM_FM (FK_FM a3) m2) (FK_t a02 a3) ⟨b23, b24, b25, b6⟩ (opt_new op hV hlt) (b26.trans e262) fil2
        iterate 2 refine wp_s rfl ?_
        refine wp_cc rfl (by omega) (S_full w m2 (dgf_bd n) tr2 ?_)
        iterate 2 refine wp_s rfl ?_
        rw [RM_N m2]
        refine wp_s rfl ?_
        refine br_ne (fun e1 => no (fun hV => absurd (by rw [hV.2]) e1)) (fun e1 => ?_)
        have hV : VM c pl kp n := ⟨em, (nI_eq (by omega) (by omega)).1 e1⟩
        iterate 2 refine wp_s rfl ?_
        cases o with
        | none =>
          rw [show hI h2 4 0 23 = 0 from lb2]
          refine wp_s rfl ?_
          exact yes hV (fun b q => absurd q (by simp))
        | some b =>
          have hcb := cost_le (f := dgf c b) w
          have hchb := chM_le (pl := pl) (cb := cb) w b
          rw [lb2.1]
          iterate 4 refine wp_s rfl ?_
          rw [lb2.2.1]
          refine wp_s rfl ?_
          refine br_lt (fun e2 => ?_) (fun e2 => ?_)
          · have := (nI_ltI (by omega) (by omega)).1 e2
            refine yes hV (fun b' q => ?_)
            injection q with q
            subst q
            unfold WM
            omega
          have e2' := (nI_leI (by omega) (by omega)).1 (Int32.not_lt.1 e2)
          iterate 3 refine wp_s rfl ?_
          rw [lb2.2.1]
          refine wp_s rfl ?_
          refine br_ne (fun e3 => ?_) (fun e3 => ?_)
          · have e3' : ¬ chM c pl cb n = chM c pl cb b := fun q => e3 (by rw [q])
            refine no (fun _ => ⟨b, rfl, ?_⟩)
            unfold WM
            omega
          have e3' := (nI_eq (by omega) (by omega)).1 e3
          refine wp_s rfl ?_
          refine wp_cc rfl (by omega) (S_costOf w m2 (dgf_bd n) tr2 ?_)
          iterate 2 refine wp_s rfl ?_
          rw [lb2.2.2.1]
          refine wp_s rfl ?_
          refine br_ge (fun e4 => ?_) (fun e4 => ?_)
          · have := (nI_leI (by omega) (by omega)).1 e4
            refine no (fun _ => ⟨b, rfl, ?_⟩)
            unfold WM
            omega
          · have := (nI_ltI (by omega) (by omega)).1 (Int32.not_le.1 e4)
            refine yes hV (fun b' q => ?_)
            injection q with q
            subst q
            unfold WM
            omega
      cases ecb : cb with
      | false =>
        rw [ecb] at cont
        iterate 3 refine wp_s rfl ?_
        rw [show chM c pl false n = 0 from rfl] at cont
        exact cont
      | true =>
        rw [ecb] at cont
        iterate 3 refine wp_s rfl ?_
        refine wp_cc rfl (by omega) (S_dif w m2 bp (dgf_bd n) tr2 ?_)
        refine wp_s rfl ?_
        rw [show chM c pl true n = dif c pl (dgf c n) from rfl] at cont
        exact cont
    iterate 3 refine wp_s rfl ?_
    refine wp_cc rfl (by omega) (S_full w m1 (dgf_bd n) tr ?_)
    iterate 2 refine wp_s rfl ?_
    rw [e261]
    refine wp_s rfl ?_
    refine br_le (fun e1 => ?_) (fun e1 => ?_)
    · rcases hx' with ⟨_, q⟩ | ⟨q, _⟩
      · iterate 2 refine wp_s rfl ?_
        rw [e261, ← q]
        refine wp_s rfl ?_
        exact rest
      · exact absurd e1 q
    · rcases hx' with ⟨q, _⟩ | ⟨_, q⟩
      · exact absurd q e1
      · refine wp_s rfl ?_
        refine wp_cc rfl (by omega) (S_full w m1 (dgf_bd n) tr ?_)
        iterate 1 refine wp_s rfl ?_
        rw [← q]
        refine wp_s rfl ?_
        exact rest
theorem S_mseek (w : Wf c) (hd : 4 ≤ d) (sp : Sp c) (bp : Bd c pl) (m : RM c pl h) (hk : ∀ t, t < cN c → hI h 10 1 t = B01 (kp t)) (kk : ∀ h' o x, FK h h' → LBM c pl cb h' o → Opt (VM c pl kp) (WM c pl cb) ((cP c + 1) ^ cN c) o → hI h' 4 0 26 = x → FilI c pl kp ((cP c + 1) ^ cN c) x → Q (.inl none) h') : WP d 61 0 [some (vr 4 0), some (vi (B01 cb)), none, none, none, none, none, none] [] h Q := by
  have wN := Wf_N w
  have wP := Wf_P w
  have ploop : ∀ (r j : Nat), j + r = cN c → WP d 61 12 [some (vr 4 0), some (vi (B01 cb)), some (vi (nI (cP c + 1))), some (vi (nI ((cP c + 1) ^ j))), some (vi (nI j)), none, none, none] [] h Q := by
    intro r
    induction r with
    | zero =>
      intro j hj
      obtain rfl : j = cN c := by omega
      iterate 3 refine wp_s rfl ?_
      rw [RM_N m]
      refine wp_s rfl ?_
      refine br_ge (fun e => ?_) (fun e => absurd (nI_le (Nat.le_refl _) (by omega)) e)
      iterate 8 refine wp_s rfl ?_
      have a : FK h (sI (sI h 4 0 23 0) 4 0 26 (-1)) := FK_t (FK_s (by omega)) (FK_s (by omega))
      refine mseek_loop (kp := kp) (h := h) w hd sp bp hk kk ((cP c + 1) ^ cN c) 0 _ none (-1) _ _ _ (by omega) (RM_FM (FK_FM a) m) a ((hI_so (by omega)).trans hI_ss) (fun n hn => absurd hn (by omega)) hI_ss (.inl ⟨rfl, fun n hn => absurd hn (by omega)⟩)
    | succ r ih =>
      intro j hj
      have hj' : j < cN c := by omega
      iterate 3 refine wp_s rfl ?_
      rw [RM_N m]
      refine wp_s rfl ?_
      refine br_ge (fun e => absurd e (nI_ge hj' (by omega))) (fun e => ?_)
      iterate 6 refine wp_s rfl ?_
      rw [pk_mul, nI_1, ← Nat.pow_succ]
      exact ih (j + 1) (by omega)
  iterate 3 refine wp_s rfl ?_
  rw [RM_P m]
  refine wp_s rfl ?_
  rw [nI_1]
  iterate 5 refine wp_s rfl ?_
  exact ploop (cN c) 0 (by omega)
-- tell
theorem tell_loop (w : Wf c) {k : Nat} (hkN : k ≤ cN c) (hx : (x = -1 ∧ k = 0) ∨ x = nI k) (kk : ∀ h', FM h h' → (∀ s, s ≠ 20 → hI h' 4 0 s = hI h 4 0 s) → (∀ k i s, k ≠ 4 → hI h' k i s = hI h k i s) → hI h' 4 0 20 = faI c (cN c - k) k → Q (.inl none) h') : ∀ (t : Nat) (h' : AH), k ≤ t → t ≤ cN c → RM c pl h' → FM h h' → (∀ s, s ≠ 20 → hI h' 4 0 s = hI h 4 0 s) → (∀ k i s, k ≠ 4 → hI h' k i s = hI h k i s) → hI h' 4 0 26 = x → hI h' 4 0 20 = faI c (cN c - t) t → WP d 63 20 [some (vr 4 0), some (vi (mI t))] [] h' Q := by
  have wN := Wf_N w
  intro t
  induction t with
  | zero =>
    intro h' h1 h2 m a a4 ak e26 e20
    obtain rfl : k = 0 := by omega
    iterate 2 refine wp_s rfl ?_
    exact wp_e rfl (kk h' a a4 ak e20)
  | succ t ih =>
    intro h' h1 h2 m a a4 ak e26 e20
    iterate 2 refine wp_s rfl ?_
    refine br_lt (fun e => absurd e (nI_pos (by omega))) (fun e => ?_)
    iterate 3 refine wp_s rfl ?_
    rw [e26]
    refine wp_s rfl ?_
    have ht : t < cN c := by omega
    refine br_lt (fun e1 => ?_) (fun e1 => ?_)
    · have : k = t + 1 := by
        rcases hx with ⟨q, _⟩ | q
        · rw [q] at e1
          exact absurd (Int32.lt_of_le_of_lt (nI_pos' (n := t) (by omega)) e1) (by decide)
        · rw [q] at e1
          have := (nI_ltI (by omega) (by omega)).1 (show nI t < nI k from e1)
          omega
      subst this
      exact wp_e rfl (kk h' a a4 ak e20)
    · have hkt : k ≤ t := by
        rcases hx with ⟨_, q⟩ | q
        · omega
        · rw [q] at e1
          rcases Nat.lt_or_ge t k with z | z
          · exact absurd (nI_lt z (by omega)) e1
          · exact z
      have step : ∀ v : Int32, v = faI c (cN c - t) t → WP d 63 55 [some (vr 4 0), some (vi (nI t))] [vi v, vr 4 0] h' Q := by
        intro v hv
        iterate 3 refine wp_s rfl ?_
        rw [mI_dec]
        have b : FM h' (sI h' 4 0 20 v) := ⟨fun k i s q1 q2 q3 => hI_so (by omega), rfl, rfl, rfl, rfl, rfl⟩
        exact ih _ hkt (by omega) (RM_FM b m) (FM_t a b) (fun s hs => (hI_so (by omega)).trans (a4 s hs)) (fun k i s hk => (hI_so (by omega)).trans (ak k i s hk)) ((hI_so (by omega)).trans e26) (hI_ss.trans hv)
      have ef : faI c (cN c - t) t = if cY c t = true then nI (cA c t) else faI c (cN c - (t + 1)) (t + 1) := by
        rw [show cN c - t = (cN c - (t + 1)) + 1 by omega]
        rfl
      iterate 4 refine wp_s rfl ?_
      rw [RM_11 m]
      refine wp_zald rfl (by omega) ?_
      rw [RM_Y m ht]
      cases ey : cY c t with
      | true =>
        repeat refine wp_s rfl ?_
        rw [RM_9 m]
        refine wp_iald rfl rfl (by decide) (by show t < 6; omega) ?_
        refine wp_s rfl ?_
        exact step _ (by rw [RM_A m ht, ef, if_pos ey])
      | false =>
        iterate 3 refine wp_s rfl ?_
        refine step _ ?_
        rw [e20, ef, if_neg (by rw [ey]; simp)]
theorem S_tell (w : Wf c) (m : RM c pl h) {k : Nat} (hkN : k ≤ cN c) (hx : (hI h 4 0 26 = -1 ∧ k = 0) ∨ hI h 4 0 26 = nI k) {fb : Bool} (hf : hI h 4 0 23 = B01 fb) (kk : ∀ h', FM h h' → (∀ s, s ≠ 20 → hI h' 4 0 s = hI h 4 0 s) → (∀ k i s, k ≠ 4 → hI h' k i s = hI h k i s) → hI h' 4 0 20 = (if fb = true then -1 else faI c (cN c - k) k) → Q (.inl none) h') : WP d 63 0 [some (vr 4 0), none] [] h Q := by
  have b : FM h (sI h 4 0 20 (-1)) := ⟨fun k i s q1 q2 q3 => hI_so (by omega), rfl, rfl, rfl, rfl, rfl⟩
  have m1 := RM_FM b m
  iterate 5 refine wp_s rfl ?_
  rw [show hI (sI h 4 0 20 (-1)) 4 0 23 = B01 fb from (hI_so (by omega)).trans hf]
  cases fb with
  | true =>
    refine wp_s rfl ?_
    exact wp_e rfl (kk _ b (fun s hs => hI_so (by omega)) (fun k i s hk => hI_so (by omega)) hI_ss)
  | false =>
    iterate 3 refine wp_s rfl ?_
    rw [RM_N m1]
    iterate 3 refine wp_s rfl ?_
    have e0 : nI (cN c) - 1 = mI (cN c) := by
      cases hN : cN c with
      | zero => rfl
      | succ k => exact nI_pred k
    rw [e0]
    exact tell_loop (h := h) w hkN hx kk (cN c) _ hkN (Nat.le_refl _) m1 b (fun s hs => hI_so (by omega)) (fun k i s hk => hI_so (by omega)) (hI_so (by omega)) (by rw [Nat.sub_self]; exact hI_ss)
end MLP
end
section
-- THE SEARCH OF THE CLASS AND THAT OF THE MODEL ARE THE SAME
section EQV
variable {c : Cf} {pl f g : Pl} {kg : Bool} {n p : Nat}
theorem opt_congr {V V' : Nat → Prop} {W W' : Nat → Nat} {M : Nat} {o : Option Nat} (hV : ∀ n, n < M → (V n ↔ V' n)) (hW : ∀ n, n < M → V n → W n = W' n) (a : Opt V W M o) : Opt V' W' M o := by
  cases o with
  | none => exact fun n hn q => a n hn ((hV n hn).2 q)
  | some b =>
    refine ⟨a.1, (hV b a.1).1 a.2.1, fun n hn q => ?_⟩
    have q' := (hV n hn).2 q
    rw [← hW b a.1 a.2.1, ← hW n hn q']
    exact a.2.2 n hn q'
theorem EX_lt {K t : Nat} (ht : t < K) : EX c pl kg K n t = dg (cP c) K n t := if_pos ht
theorem EX_ge {K t : Nat} (ht : ¬ t < K) : EX c pl kg K n t = f0 c pl kg t := if_neg ht
theorem fuF_iff : ∀ (m k j : Nat), k ≤ j → j < k + m → (j < fuF c f m k ↔ ∀ i, k ≤ i → i ≤ j → ¬ (cY c i = true ∧ f i = none)) := by
  intro m
  induction m with
  | zero => intro k j h1 h2; omega
  | succ m ih =>
    intro k j h1 h2
    show j < (if cY c k = true ∧ f k = none then k else fuF c f m (k + 1)) ↔ _
    by_cases e : cY c k = true ∧ f k = none
    · rw [if_pos e]
      exact ⟨fun q => by omega, fun q => absurd e (q k (Nat.le_refl _) h1)⟩
    · rw [if_neg e]
      by_cases ej : j = k
      · subst ej
        constructor
        · intro _ i q1 q2
          obtain rfl : i = j := by omega
          exact e
        · intro _
          have : ∀ (m k : Nat), k ≤ fuF c f m k := by
            intro m
            induction m with
            | zero => intro k; exact Nat.le_refl _
            | succ m ih2 =>
              intro k
              show k ≤ (if _ then _ else _)
              split
              · exact Nat.le_refl _
              · have := ih2 (k + 1); omega
          have := this m (j + 1)
          omega
      · rw [ih (k + 1) j (by omega) (by omega)]
        constructor
        · intro q i q1 q2
          by_cases ei : i = k
          · subst ei; exact e
          · exact q i (by omega) q2
        · intro q i q1 q2
          exact q i (by omega) q2
theorem full_iff {j : Nat} (hj : j < cN c) : j < fullF c f ↔ ∀ i, i ≤ j → ¬ (cY c i = true ∧ f i = none) := by
  unfold fullF
  rw [fuF_iff (cN c) 0 j (by omega) (by omega)]
  exact ⟨fun q i h => q i (by omega) h, fun q i _ h => q i h⟩
theorem full_N : fullF c f = cN c ↔ ∀ i, i < cN c → ¬ (cY c i = true ∧ f i = none) := by
  constructor
  · intro e i hi
    exact (full_iff hi).1 (by omega) i (Nat.le_refl _)
  · intro q
    have h1 : fullF c f ≤ cN c := full_le
    rcases Nat.lt_or_ge (fullF c f) (cN c) with z | z
    · have := (full_iff z).2 (fun i hi => q i (by omega))
      omega
    · omega
theorem NF_LC (hT : ∀ j, j ∈ Tl (cN c) (kpt c kg) f (cN c) p ↔ j < cN c ∧ f j = some p) : NF (near c) (Tl (cN c) (kpt c kg) f (cN c) p) ↔ LC c f p := by
  constructor
  · intro q k hk j hj h1 h2
    exact q k j ((hT k).2 ⟨hk, h1⟩) ((hT j).2 ⟨by omega, h2⟩) (by omega)
  · intro q i j hi hj hne
    obtain ⟨h1, h2⟩ := (hT i).1 hi
    obtain ⟨h3, h4⟩ := (hT j).1 hj
    rcases Nat.lt_or_ge i j with z | z
    · rw [near_symm]; exact q j h3 i z h4 h2
    · exact q i h1 j (by omega) h2 h4
theorem Tl_memN {kp : Nat → Bool} {N j : Nat} : j ∈ Tl N kp f N p ↔ j < N ∧ f j = some p := by
  rw [Tl_mem]
  constructor
  · rintro ⟨a | a, b⟩
    · exact ⟨a.1, b⟩
    · exact ⟨a.1, b⟩
  · rintro ⟨a, b⟩
    cases e : kp j with
    | true => exact ⟨.inl ⟨a, rfl⟩, b⟩
    | false => exact ⟨.inr ⟨a, rfl⟩, b⟩
theorem LC_congr (h : ∀ t, t < cN c → f t = g t) : LC c f p ↔ LC c g p := by
  unfold LC
  constructor
  · intro q k hk j hj h1 h2
    exact q k hk j hj ((h k hk).trans h1) ((h j (by omega)).trans h2)
  · intro q k hk j hj h1 h2
    exact q k hk j hj ((h k hk).symm.trans h1) ((h j (by omega)).symm.trans h2)
theorem qua_congr (h : ∀ t, t < cN c → f t = g t) {v : Option Nat} : qua c f v = qua c g v := sumN_congr (fun t ht => by rw [h t ht])
theorem cnt_congr (h : ∀ t, t < cN c → f t = g t) {v : Option Nat} : cnt c f v = cnt c g v := sumN_congr (fun t ht => by rw [h t ht])
theorem okS_F {j : Nat} {x : Option Nat} (hx : ∀ p, x = some p → p < cP c) : okS c pl kg false j x ↔ (if kpt c kg j = true then x = pl j else ∀ p, x = some p → suitP c p j) ∧ ¬ (cY c j = true ∧ x = none) := by
  unfold okS
  cases ek : kpt c kg j with
  | true =>
    simp only [if_true]
    constructor
    · rintro ⟨rfl, h2⟩
      exact ⟨rfl, fun q => h2 q.1 q.2⟩
    · rintro ⟨rfl, h2⟩
      exact ⟨rfl, fun q z => h2 ⟨q, z⟩⟩
  | false =>
    cases x with
    | none => simp
    | some p =>
      have := hx p rfl
      simp [this]
theorem V_eq (n : Nat) : Vs c pl kg false (cN c) n ↔ VM c pl (kpt c kg) n := by
  have h : ∀ t, t < cN c → EX c pl kg (cN c) n t = dgf c n t := fun t ht => EX_lt ht
  unfold Vs VM MAY
  show ((∀ j, j < cN c → okS c pl kg false j (EX c pl kg (cN c) n j)) ∧ ∀ p, p < cP c → lq (sz c) (Tl (cN c) (kpt c kg) (EX c pl kg (cN c) n) (cN c) p) ≤ cL c ∧ NF (near c) (Tl (cN c) (kpt c kg) (EX c pl kg (cN c) n) (cN c) p)) ↔ _
  rw [full_N]
  have hq : ∀ p, lq (sz c) (Tl (cN c) (kpt c kg) (EX c pl kg (cN c) n) (cN c) p) = qua c (dgf c n) (some p) := fun p => Tl_lq.trans (qua_congr h)
  have hl : ∀ p, NF (near c) (Tl (cN c) (kpt c kg) (EX c pl kg (cN c) n) (cN c) p) ↔ LC c (dgf c n) p := fun p => (NF_LC (fun j => Tl_memN)).trans (LC_congr h)
  have hok : ∀ t, t < cN c → (okS c pl kg false t (EX c pl kg (cN c) n t) ↔ MAYt c pl (kpt c kg) (dgf c n) t ∧ ¬ (cY c t = true ∧ dgf c n t = none)) := by
    intro t ht
    rw [h t ht]
    exact okS_F (fun p e => dg_lt e)
  constructor
  · rintro ⟨a, b⟩
    exact ⟨⟨fun t ht => ((hok t ht).1 (a t ht)).1, fun p hp => ⟨by rw [← hq]; exact (b p hp).1, (hl p).1 (b p hp).2⟩⟩, fun t ht => ((hok t ht).1 (a t ht)).2⟩
  · rintro ⟨⟨a, b⟩, d⟩
    exact ⟨fun t ht => (hok t ht).2 ⟨a t ht, d t ht⟩, fun p hp => ⟨by rw [hq]; exact (b p hp).1, (hl p).2 (b p hp).2⟩⟩
theorem W_eq (n : Nat) (hV : Vs c pl kg false (cN c) n) : Ws c pl kg false (cN c) n = WM c pl kg n := by
  have h : ∀ t, t < cN c → EX c pl kg (cN c) n t = dgf c n t := fun t ht => EX_lt ht
  unfold Ws WM costP chM
  show cbS c pl kg + (sumN (cP c) (fun p => (Tl (cN c) (kpt c kg) (EX c pl kg (cN c) n) (cN c) p).length * (Tl (cN c) (kpt c kg) (EX c pl kg (cN c) n) (cN c) p).length) + sumN (cN c) (fun j => prS c pl kg false j (EX c pl kg (cN c) n j))) = _
  rw [sumN_congr (n := cP c) (G := fun p => cnt c (dgf c n) (some p) * cnt c (dgf c n) (some p)) (fun p _ => by rw [show (Tl (cN c) (kpt c kg) (EX c pl kg (cN c) n) (cN c) p).length = cnt c (dgf c n) (some p) from Tl_len.trans (cnt_congr h)])]
  have key : cbS c pl kg + sumN (cN c) (fun j => prS c pl kg false j (EX c pl kg (cN c) n j)) = 100000 * (if kg = true then dif c pl (dgf c n) else 0) + 100 * cnt c (dgf c n) none := by
    unfold cbS cnt dif
    rw [← sumN_add, ← sumN_mul (a := 100)]
    have e2 : 100000 * (if kg = true then sumN (cN c) (fun t => if dgf c n t = pl t then 0 else 1) else 0) = sumN (cN c) (fun t => 100000 * (if kg = true then (if dgf c n t = pl t then 0 else 1) else 0)) := by
      rw [sumN_mul]
      cases kg with
      | true => rfl
      | false =>
        simp only [Bool.false_eq_true, if_false]
        have : ∀ m, sumN m (fun _ => 0) = 0 := by
          intro m
          induction m with
          | zero => rfl
          | succ m ih => show sumN m (fun _ => 0) + 0 = 0; rw [ih]
        rw [this]
    rw [e2, ← sumN_add]
    refine sumN_congr (fun j hj => ?_)
    rw [h j hj]
    have hk : kpt c kg j = true → dgf c n j = pl j := by
      intro q
      have := okS_kept j _ q (hV.1 j hj)
      rw [h j hj] at this
      rw [this]
      unfold f0
      rw [if_pos q]
    unfold prS chg
    cases ek : kpt c kg j with
    | true =>
      have := hk ek
      rw [this]
      cases ep : pl j <;> cases kg <;> simp
    | false =>
      cases eg : kg with
      | false => cases ex : dgf c n j <;> simp
      | true =>
        cases ex : dgf c n j with
        | none => cases ep : pl j <;> simp
        | some p =>
          cases ep : pl j with
          | none => simp
          | some p' =>
            by_cases e : p = p'
            · subst e; simp
            · simp [e]; exact fun q => e q.symm
  omega
theorem opt_eq {M : Nat} {o o' : Option Nat} (a : Opt (Vs c pl kg false (cN c)) (Ws c pl kg false (cN c)) M o) (b : Opt (VM c pl (kpt c kg)) (WM c pl kg) M o') : o = o' :=
  opt_uniq (opt_congr (fun n _ => V_eq n) (fun n _ hV => W_eq n hV) a) b
end EQV
end
section
-- WHAT TOLD ANSWERS IS THE SAME
section TLD
variable {c : Cf} {pl f g : Pl} {kg : Bool} {n p : Nat}
theorem Tl_ext {kp : Nat → Bool} {N : Nat} : ∀ (m k : Nat), (∀ i, k ≤ i → i < k + m → kp i = false → f i = none) → Tl N kp f (k + m) p = Tl N kp f k p
  | 0, _, _ => rfl
  | m + 1, k, h => by
    have a := Tl_ext (N := N) m k (fun i h1 h2 => h i h1 (by omega))
    rw [show k + (m + 1) = (k + m) + 1 by omega, ← a]
    cases e : kp (k + m) with
    | true => exact Tl_kept e
    | false => exact Tl_none (h (k + m) (by omega) (by omega) e)
theorem f0_kept {t : Nat} (e : kpt c kg t = true) : f0 c pl kg t = pl t := by unfold f0; rw [if_pos e]
theorem f0_free {t : Nat} (e : kpt c kg t = false) : f0 c pl kg t = none := by unfold f0; rw [e]; rfl
theorem suc_1 (bp : Bd c pl) {j : Nat} (hj : j < cN c) (hV : Vs c pl kg true (j + 1) n) : ∃ n', n' < (cP c + 1) ^ cN c ∧ MAY c pl (kpt c kg) (dgf c n') ∧ j < fullF c (dgf c n') := by
  obtain ⟨n', hn', hd⟩ := dg_all (cP c) (cN c) (EX c pl kg (j + 1) n) (fun t p ht e => by
    by_cases e1 : t < j + 1
    · rw [EX_lt e1] at e; exact dg_lt e
    · rw [EX_ge e1] at e
      cases ek : kpt c kg t with
      | true => rw [f0_kept ek] at e; exact bp t p ht e
      | false => rw [f0_free ek] at e; exact absurd e (by simp))
  have hd : ∀ t, t < cN c → dgf c n' t = EX c pl kg (j + 1) n t := hd
  have hTl : ∀ p, Tl (cN c) (kpt c kg) (EX c pl kg (j + 1) n) (cN c) p = Tl (cN c) (kpt c kg) (EX c pl kg (j + 1) n) (j + 1) p := by
    intro p
    have := Tl_ext (f := EX c pl kg (j + 1) n) (kp := kpt c kg) (N := cN c) (p := p) (cN c - (j + 1)) (j + 1) (fun i h1 h2 h3 => by rw [EX_ge (by omega)]; exact f0_free h3)
    rw [show j + 1 + (cN c - (j + 1)) = cN c by omega] at this
    exact this
  have hok : ∀ t, t < cN c → kpt c kg t = true → EX c pl kg (j + 1) n t = pl t := by
    intro t ht ek
    by_cases e1 : t < j + 1
    · have := okS_kept t _ ek (hV.1 t e1)
      rw [f0_kept ek] at this
      exact this
    · rw [EX_ge e1]; exact f0_kept ek
  refine ⟨n', hn', ⟨fun t ht => ?_, fun p hp => ?_⟩, (full_iff hj).2 (fun i hi => ?_)⟩
  · unfold MAYt
    rw [hd t ht]
    by_cases ek : kpt c kg t = true
    · rw [if_pos ek]; exact hok t ht ek
    · rw [if_neg ek]
      intro p e
      have ek' : kpt c kg t = false := by simpa using ek
      by_cases e1 : t < j + 1
      · have := hV.1 t e1
        unfold okS at this
        rw [e, ek'] at this
        cases ey : (true && !cY c t) with
        | true => rw [ey] at this; simp at this
        | false => rw [ey] at this; simp at this; exact this.2
      · rw [EX_ge e1, f0_free ek'] at e
        exact absurd e (by simp)
  · obtain ⟨h1, h2⟩ := hV.2 p hp
    have hT := hTl p
    refine ⟨?_, ?_⟩
    · rw [qua_congr hd, show qua c (EX c pl kg (j + 1) n) (some p) = lq (sz c) (Tl (cN c) (kpt c kg) (EX c pl kg (j + 1) n) (cN c) p) from Tl_lq.symm, hT]
      exact h1
    · rw [LC_congr hd, ← NF_LC (kg := kg) (fun j => Tl_memN), hT]
      exact h2
  · rintro ⟨ey, en⟩
    have := hV.1 i (by omega)
    unfold okS at this
    rw [hd i (by omega)] at en
    rw [en, ey] at this
    cases ek : kpt c kg i with
    | true => rw [ek] at this; simp at this; exact this.2 this.1.symm
    | false => rw [ek] at this; simp at this
theorem suc_2 (bp : Bd c pl) {j : Nat} (hj : j < cN c) (hM : MAY c pl (kpt c kg) (dgf c n)) (hf : j < fullF c (dgf c n)) : ∃ n', n' < (cP c + 1) ^ (j + 1) ∧ Vs c pl kg true (j + 1) n' := by
  have hfull := (full_iff hj).1 hf
  let q : Pl := fun i => if kpt c kg i = true then pl i else if cY c i = true ∧ i ≤ j then dgf c n i else none
  have hbq : ∀ t p, t < cN c → q t = some p → p < cP c := by
    intro t p ht e
    show p < cP c
    simp only [q] at e
    split at e
    · exact bp t p ht e
    · split at e
      · exact dg_lt e
      · exact absurd e (by simp)
  have hqg : ∀ t p, t < cN c → q t = some p → dgf c n t = some p := by
    intro t p ht e
    have hm := hM.1 t ht
    unfold MAYt at hm
    simp only [q] at e
    split at e
    · rename_i ek
      rw [if_pos ek] at hm
      rw [hm]; exact e
    · split at e
      · exact e
      · exact absurd e (by simp)
  obtain ⟨n', hn', hd⟩ := dg_all (cP c) (j + 1) q (fun t p ht e => hbq t p (by omega) e)
  have hE : ∀ t, EX c pl kg (j + 1) n' t = q t := by
    intro t
    by_cases e1 : t < j + 1
    · rw [EX_lt e1]; exact hd t e1
    · rw [EX_ge e1]
      simp only [q]
      cases ek : kpt c kg t with
      | true => rw [if_pos rfl]; exact f0_kept ek
      | false =>
        rw [f0_free ek, if_neg (by simp), if_neg (fun z => e1 (by omega))]
  have hEq : EX c pl kg (j + 1) n' = q := funext hE
  have hT : ∀ p, Tl (cN c) (kpt c kg) q (cN c) p = Tl (cN c) (kpt c kg) q (j + 1) p := by
    intro p
    have := Tl_ext (f := q) (kp := kpt c kg) (N := cN c) (p := p) (cN c - (j + 1)) (j + 1) (fun i h1 h2 h3 => by
      simp only [q]
      rw [h3, if_neg (by simp), if_neg (fun z => by omega)])
    rw [show j + 1 + (cN c - (j + 1)) = cN c by omega] at this
    exact this
  refine ⟨n', hn', ?_⟩
  unfold Vs
  rw [hEq]
  refine ⟨fun t ht => ?_, fun p hp => ?_⟩
  · have hm := hM.1 t (by omega)
    unfold MAYt at hm
    have hfu := hfull t (by omega)
    unfold okS
    simp only [q]
    cases ek : kpt c kg t with
    | true =>
      rw [if_pos ek] at hm
      simp only [if_true]
      exact ⟨trivial, fun ey en => hfu ⟨ey, by rw [hm]; exact en⟩⟩
    | false =>
      rw [if_neg (by rw [ek]; simp)] at hm
      cases ey : cY c t with
      | false => simp
      | true =>
        have htj : t ≤ j := by omega
        simp [htj]
        cases eg : dgf c n t with
        | none => exact absurd ⟨ey, eg⟩ hfu
        | some p => exact ⟨dg_lt eg, hm p eg⟩
  · obtain ⟨h1, h2⟩ := hM.2 p hp
    have hT := hT p
    refine ⟨?_, ?_⟩
    · rw [← hT, Tl_lq]
      refine Nat.le_trans (sumN_le (fun t ht => ?_)) h1
      by_cases e : q t = some p
      · rw [if_pos e, if_pos (hqg t p ht e)]; exact Nat.le_refl _
      · rw [if_neg e]; exact Nat.zero_le _
    · rw [← hT, NF_LC (fun j => Tl_memN)]
      intro k hk i hi e1 e2
      exact h2 k hk i hi (hqg k p hk e1) (hqg i p (by omega) e2)
theorem faI_eq : ∀ (m t k : Nat), t + m = cN c → t ≤ k → k ≤ cN c → (∀ j, t ≤ j → j < k → cY c j = false) → (k < cN c → cY c k = true) → faI c m t = if k < cN c then nI (cA c k) else -1
  | 0, t, k, h1, h2, h3, _, _ => by
    rw [if_neg (by omega)]
    rfl
  | m + 1, t, k, h1, h2, h3, h4, h5 => by
    show (if cY c t = true then nI (cA c t) else faI c m (t + 1)) = _
    by_cases e : k = t
    · subst e
      rw [if_pos (h5 (by omega)), if_pos (by omega)]
    · rw [if_neg (by rw [h4 t (Nat.le_refl _) (by omega)]; simp)]
      exact faI_eq m (t + 1) k (by omega) (by omega) h3 (fun j q1 q2 => h4 j (by omega) q2) h5
/-- both tell the same -/
theorem told_eq (bp : Bd c pl) {x y : Int32} (hr : Hr c pl kg x) (fil : FilI c pl (kpt c kg) ((cP c + 1) ^ cN c) y) : ∃ k, k ≤ cN c ∧ ((y = -1 ∧ k = 0) ∨ y = nI k) ∧ x = faI c (cN c - k) k := by
  have main : ∀ k0, k0 ≤ cN c → (∀ j, j < cN c → ((∃ n, n < (cP c + 1) ^ (j + 1) ∧ Vs c pl kg true (j + 1) n) ↔ j < k0)) → x = faI c (cN c - k0) k0 := by
    intro k0 hk0 hs
    obtain ⟨k, hk, ha, hb⟩ := hr
    have hk0k : k0 ≤ k := by
      rcases hb with ⟨q1, q2, q3, q4⟩ | ⟨q1, _⟩
      · rcases Nat.lt_or_ge k k0 with z | z
        · obtain ⟨n, q5, q6⟩ := (hs k q1).2 z
          exact absurd q6 (q3 n q5)
        · exact z
      · omega
    rw [faI_eq (cN c - k0) k0 k (by omega) hk0k hk (fun j q1 q2 => ?_) (fun z => ?_)]
    · rcases hb with ⟨q1, q2, q3, q4⟩ | ⟨q1, q4⟩
      · rw [if_pos q1]; exact q4
      · rw [if_neg (by omega)]; exact q4
    · cases ey : cY c j with
      | false => rfl
      | true =>
        have := (hs j (by omega)).1 (ha j q2 ey)
        omega
    · rcases hb with ⟨q1, q2, q3, q4⟩ | ⟨q1, q4⟩
      · exact q2
      · omega
  rcases fil with ⟨ey, hno⟩ | ⟨b, hb, hM, ey, hmax⟩
  · refine ⟨0, by omega, .inl ⟨ey, rfl⟩, main 0 (by omega) (fun j hj => ⟨fun ⟨n, _, hV⟩ => ?_, fun z => by omega⟩)⟩
    obtain ⟨n', q1, q2, _⟩ := suc_1 bp hj hV
    exact absurd q2 (hno n' q1)
  · refine ⟨fullF c (dgf c b), full_le, .inr ey, main _ full_le (fun j hj => ⟨fun ⟨n, _, hV⟩ => ?_, fun z => suc_2 bp hj hM z⟩)⟩
    obtain ⟨n', q1, q2, q3⟩ := suc_1 bp hj hV
    have := hmax n' q1 q2
    omega
end TLD
end
section
-- THE MODEL'S CALLS
def MS (c : Cf) (pl : Pl) (pd : Bool) (told : Int32) (chs : List Nat) (h : AH) : Prop := RM c pl h ∧ MXs pd told chs h
section MOPS
variable {c : Cf} {pl f : Pl} {kp : Nat → Bool} {pd cb : Bool} {told : Int32} {chs : List Nat} {d p t : Nat} {h h' h2 : AH} {Q : Oc → AH → Prop} {x y z : Int32}
theorem MX_eq (i4 : ∀ s, s = 16 ∨ s = 20 ∨ s = 21 → hI h' 4 0 s = hI h 4 0 s) (i8 : ∀ s, hI h' 8 7 s = hI h 8 7 s) (k : MXs pd told chs h) : MXs pd told chs h' := by
  unfold MXs
  rw [i4 16 (by omega), i4 20 (by omega), i4 21 (by omega)]
  exact ⟨k.1, k.2.1, k.2.2.1, k.2.2.2.1, fun s hs => by rw [i8]; exact k.2.2.2.2 s hs⟩
theorem FM_0 {v : Int32} : FM h (sI h 4 0 0 v) := ⟨fun k i s q1 q2 q3 => hI_so (by omega), rfl, rfl, rfl, rfl, rfl⟩
theorem MS_0 {v : Int32} (m : MS c pl pd told chs h) : MS c pl pd told chs (sI h 4 0 0 v) := ⟨RM_FM FM_0 m.1, MX_eq (fun s hs => hI_so (by omega)) (fun s => hI_so (by omega)) m.2⟩
theorem FN_s {k i s : Nat} {v : Int32} (q : k = 4 ∨ k = 7 ∨ k = 9 ∨ k = 10 ∨ (k = 8 ∧ 1 ≤ i)) : FN h (sI h k i s v) := ⟨fun k' i' s' q1 q2 q3 q4 q5 => hI_so (by omega), rfl, rfl, rfl, rfl, rfl⟩
theorem MS_FK (a : FK h h') (m : MS c pl pd told chs h) : MS c pl pd told chs h' := ⟨RM_FM (FK_FM a) m.1, MX_eq (fun s hs => a.1 4 0 s (by omega) (by omega)) (fun s => a.1 8 7 s (by omega) (by omega)) m.2⟩
-- rest, limit, freeze
theorem S_mrest (hd : 1 ≤ d) (m : MS c pl pd told chs h) (kt : ∀ v h', v ≤ 96 → x = nI v → MS (wR c v) pl pd told chs h' → FN h h' → hI h' 4 0 0 = 0 → Q (.inl (some (vi (nI (cR c))))) h') (kf : ∀ h', wth x 0 96 = false → MS c pl pd told chs h' → FN h h' → hI h' 4 0 0 = 1 → Q (.inl (some (vi 0))) h') : WP d 50 0 [some (vr 4 0), some (vi x), none] [] h Q := by
  iterate 4 refine wp_s rfl ?_
  refine wp_cc rfl (by omega) (S_within ?_)
  iterate 2 refine wp_s rfl ?_
  refine wp_cc rfl (by omega) (S_goes (b := true) (e := true) ?_)
  cases e : wth x 0 96 with
  | false =>
    repeat refine wp_s rfl ?_
    exact wp_e rfl (kf _ e (MS_0 m) (FM_FN FM_0) hI_ss)
  | true =>
    obtain ⟨v, hv, rfl⟩ := wth_t e
    have m1 : MS c pl pd told chs (sI h 4 0 0 (nI (thw true true true))) := MS_0 m
    repeat refine wp_s rfl ?_
    rw [RM_R m1.1]
    obtain ⟨q1, ⟨e1, e2, e3, e4, e5, e6⟩, q3, q4, q5⟩ := m1.1
    refine wp_e rfl (kt v _ hv rfl ⟨⟨q1, ⟨(hI_so (by omega)).trans e1, (hI_so (by omega)).trans e2, (hI_so (by omega)).trans e3, hI_ss, (hI_so (by omega)).trans e5, (hI_so (by omega)).trans e6⟩, fun p hp => (hI_so (by omega)).trans (q3 p hp), fun s hs => ⟨(hI_so (by omega)).trans (q4 s hs).1, (hI_so (by omega)).trans (q4 s hs).2.1, (hI_so (by omega)).trans (q4 s hs).2.2⟩, fun t ht => ⟨(hI_so (by omega)).trans (q5 t ht).1, (hI_so (by omega)).trans (q5 t ht).2.1, (hI_so (by omega)).trans (q5 t ht).2.2.1, (hI_so (by omega)).trans (q5 t ht).2.2.2.1, (hI_so (by omega)).trans (q5 t ht).2.2.2.2⟩⟩, MX_eq (fun s hs => hI_so (by omega)) (fun s => hI_so (by omega)) m1.2⟩ (FN_t (FM_FN FM_0) (FN_s (by omega))) ((hI_so (by omega)).trans hI_ss))
theorem S_mlimit (hd : 1 ≤ d) (m : MS c pl pd told chs h) (kt : ∀ v h', v ≤ 96 → x = nI v → MS (wL c v) pl pd told chs h' → FN h h' → hI h' 4 0 0 = 0 → Q (.inl (some (vi (nI (cL c))))) h') (kf : ∀ h', wth x 0 96 = false → MS c pl pd told chs h' → FN h h' → hI h' 4 0 0 = 1 → Q (.inl (some (vi 0))) h') : WP d 51 0 [some (vr 4 0), some (vi x), none] [] h Q := by
  iterate 4 refine wp_s rfl ?_
  refine wp_cc rfl (by omega) (S_within ?_)
  iterate 2 refine wp_s rfl ?_
  refine wp_cc rfl (by omega) (S_goes (b := true) (e := true) ?_)
  cases e : wth x 0 96 with
  | false =>
    repeat refine wp_s rfl ?_
    exact wp_e rfl (kf _ e (MS_0 m) (FM_FN FM_0) hI_ss)
  | true =>
    obtain ⟨v, hv, rfl⟩ := wth_t e
    have m1 : MS c pl pd told chs (sI h 4 0 0 (nI (thw true true true))) := MS_0 m
    repeat refine wp_s rfl ?_
    rw [RM_L m1.1]
    obtain ⟨q1, ⟨e1, e2, e3, e4, e5, e6⟩, q3, q4, q5⟩ := m1.1
    refine wp_e rfl (kt v _ hv rfl ⟨⟨q1, ⟨(hI_so (by omega)).trans e1, (hI_so (by omega)).trans e2, (hI_so (by omega)).trans e3, (hI_so (by omega)).trans e4, hI_ss, (hI_so (by omega)).trans e6⟩, fun p hp => (hI_so (by omega)).trans (q3 p hp), fun s hs => ⟨(hI_so (by omega)).trans (q4 s hs).1, (hI_so (by omega)).trans (q4 s hs).2.1, (hI_so (by omega)).trans (q4 s hs).2.2⟩, fun t ht => ⟨(hI_so (by omega)).trans (q5 t ht).1, (hI_so (by omega)).trans (q5 t ht).2.1, (hI_so (by omega)).trans (q5 t ht).2.2.1, (hI_so (by omega)).trans (q5 t ht).2.2.2.1, (hI_so (by omega)).trans (q5 t ht).2.2.2.2⟩⟩, MX_eq (fun s hs => hI_so (by omega)) (fun s => hI_so (by omega)) m1.2⟩ (FN_t (FM_FN FM_0) (FN_s (by omega))) ((hI_so (by omega)).trans hI_ss))
theorem S_mfreeze (hd : 1 ≤ d) (m : MS c pl pd told chs h) (kt : ∀ v h', v ≤ 96 → x = nI v → MS (wF c v) pl pd told chs h' → FN h h' → hI h' 4 0 0 = 0 → Q (.inl (some (vi (nI (cF c))))) h') (kf : ∀ h', wth x 0 96 = false → MS c pl pd told chs h' → FN h h' → hI h' 4 0 0 = 1 → Q (.inl (some (vi 0))) h') : WP d 52 0 [some (vr 4 0), some (vi x), none] [] h Q := by
  iterate 4 refine wp_s rfl ?_
  refine wp_cc rfl (by omega) (S_within ?_)
  iterate 2 refine wp_s rfl ?_
  refine wp_cc rfl (by omega) (S_goes (b := true) (e := true) ?_)
  cases e : wth x 0 96 with
  | false =>
    repeat refine wp_s rfl ?_
    exact wp_e rfl (kf _ e (MS_0 m) (FM_FN FM_0) hI_ss)
  | true =>
    obtain ⟨v, hv, rfl⟩ := wth_t e
    have m1 : MS c pl pd told chs (sI h 4 0 0 (nI (thw true true true))) := MS_0 m
    repeat refine wp_s rfl ?_
    rw [RM_F m1.1]
    obtain ⟨q1, ⟨e1, e2, e3, e4, e5, e6⟩, q3, q4, q5⟩ := m1.1
    refine wp_e rfl (kt v _ hv rfl ⟨⟨q1, ⟨(hI_so (by omega)).trans e1, (hI_so (by omega)).trans e2, (hI_so (by omega)).trans e3, (hI_so (by omega)).trans e4, (hI_so (by omega)).trans e5, hI_ss⟩, fun p hp => (hI_so (by omega)).trans (q3 p hp), fun s hs => ⟨(hI_so (by omega)).trans (q4 s hs).1, (hI_so (by omega)).trans (q4 s hs).2.1, (hI_so (by omega)).trans (q4 s hs).2.2⟩, fun t ht => ⟨(hI_so (by omega)).trans (q5 t ht).1, (hI_so (by omega)).trans (q5 t ht).2.1, (hI_so (by omega)).trans (q5 t ht).2.2.1, (hI_so (by omega)).trans (q5 t ht).2.2.2.1, (hI_so (by omega)).trans (q5 t ht).2.2.2.2⟩⟩, MX_eq (fun s hs => hI_so (by omega)) (fun s => hI_so (by omega)) m1.2⟩ (FN_t (FM_FN FM_0) (FN_s (by omega))) ((hI_so (by omega)).trans hI_ss))
-- person
theorem wth_bel8 : wth x 0 7 = bel x 8 := by
  unfold wth bel
  congr 1
  have : x ≤ 7 ↔ x < 8 := by
    rw [Int32.le_iff_toInt_le, Int32.lt_iff_toInt_lt, show (7 : Int32).toInt = 7 from rfl, show (8 : Int32).toInt = 8 from rfl]
    omega
  exact decide_eq_decide.2 this
theorem wth_bel256 : wth x 0 255 = bel x 256 := by
  unfold wth bel
  congr 1
  have : x ≤ 255 ↔ x < 256 := by
    rw [Int32.le_iff_toInt_le, Int32.lt_iff_toInt_lt, show (255 : Int32).toInt = 255 from rfl, show (256 : Int32).toInt = 256 from rfl]
    omega
  exact decide_eq_decide.2 this
theorem wth_bel96 : wth x 0 95 = bel x 96 := by
  unfold wth bel
  congr 1
  have : x ≤ 95 ↔ x < 96 := by
    rw [Int32.le_iff_toInt_le, Int32.lt_iff_toInt_lt, show (95 : Int32).toInt = 95 from rfl, show (96 : Int32).toInt = 96 from rfl]
    omega
  exact decide_eq_decide.2 this
theorem S_mperson (hd : 1 ≤ d) (w : Wf c) (m : MS c pl pd told chs h) (kt : ∀ h', bel x 256 = true → cP c < 4 → MS (wP c x) pl pd told chs h' → FN h h' → hI h' 4 0 0 = 0 → Q (.inl (some (vi (nI (cP c))))) h') (k1 : ∀ h', bel x 256 = false → MS c pl pd told chs h' → FN h h' → hI h' 4 0 0 = 1 → Q (.inl (some (vi 0))) h') (k2 : ∀ h', bel x 256 = true → ¬ cP c < 4 → MS c pl pd told chs h' → FN h h' → hI h' 4 0 0 = 2 → Q (.inl (some (vi 0))) h') : WP d 46 0 [some (vr 4 0), some (vi x)] [] h Q := by
  have wP4 := Wf_P w
  iterate 4 refine wp_s rfl ?_
  refine wp_cc rfl (by omega) (S_within ?_)
  rw [wth_bel256]
  iterate 3 refine wp_s rfl ?_
  rw [RM_P m.1]
  refine wp_s rfl ?_
  refine br_ge (fun e2 => ?_) (fun e2 => ?_)
  · have hP : ¬ cP c < 4 := fun q => nI_ge (b := 4) q (by omega) e2
    iterate 2 refine wp_s rfl ?_
    refine wp_cc rfl (by omega) (S_goes (b := false) (e := true) ?_)
    cases e : bel x 256 with
    | false =>
      repeat refine wp_s rfl ?_
      exact wp_e rfl (k1 _ e (MS_0 m) (FM_FN FM_0) hI_ss)
    | true =>
      repeat refine wp_s rfl ?_
      exact wp_e rfl (k2 _ e hP (MS_0 m) (FM_FN FM_0) hI_ss)
  · have hP : cP c < 4 := by
      rcases Nat.lt_or_ge (cP c) 4 with q | q
      · exact q
      · exact absurd (nI_le (a := 4) q (by omega)) e2
    iterate 3 refine wp_s rfl ?_
    refine wp_cc rfl (by omega) (S_goes (b := true) (e := true) ?_)
    cases e : bel x 256 with
    | false =>
      repeat refine wp_s rfl ?_
      exact wp_e rfl (k1 _ e (MS_0 m) (FM_FN FM_0) hI_ss)
    | true =>
      have m1 : MS c pl pd told chs (sI h 4 0 0 (nI (thw true true true))) := MS_0 m
      repeat refine wp_s rfl ?_
      rw [RM_2 m1.1, RM_P m1.1]
      refine wp_iast rfl rfl (by decide) (by show cP c < 4; omega) ?_
      iterate 5 refine wp_s rfl ?_
      rw [show hI (sI (sI h 4 0 0 (nI (thw true true true))) 7 0 (cP c) x) 4 0 1 = nI (cP c) from (hI_so (by omega)).trans (RM_P m1.1), nI_1]
      iterate 3 refine wp_s rfl ?_
      rw [hI_ss]
      iterate 2 refine wp_s rfl ?_
      rw [nI_pred]
      obtain ⟨q1, ⟨e1, e2, e3, e4, e5, e6⟩, q3, q4, q5⟩ := m1.1
      refine wp_e rfl (kt _ e hP ⟨⟨q1, ⟨hI_ss, (hI_so (by omega)).trans ((hI_so (by omega)).trans e2), (hI_so (by omega)).trans ((hI_so (by omega)).trans e3), (hI_so (by omega)).trans ((hI_so (by omega)).trans e4), (hI_so (by omega)).trans ((hI_so (by omega)).trans e5), (hI_so (by omega)).trans ((hI_so (by omega)).trans e6)⟩, fun p hp => ?_, fun s hs => ⟨(hI_so (by omega)).trans ((hI_so (by omega)).trans (q4 s hs).1), (hI_so (by omega)).trans ((hI_so (by omega)).trans (q4 s hs).2.1), (hI_so (by omega)).trans ((hI_so (by omega)).trans (q4 s hs).2.2)⟩, fun t ht => ⟨(hI_so (by omega)).trans ((hI_so (by omega)).trans (q5 t ht).1), (hI_so (by omega)).trans ((hI_so (by omega)).trans (q5 t ht).2.1), (hI_so (by omega)).trans ((hI_so (by omega)).trans (q5 t ht).2.2.1), (hI_so (by omega)).trans ((hI_so (by omega)).trans (q5 t ht).2.2.2.1), (hI_so (by omega)).trans ((hI_so (by omega)).trans (q5 t ht).2.2.2.2)⟩⟩, MX_eq (fun s hs => (hI_so (by omega)).trans (hI_so (by omega))) (fun s => (hI_so (by omega)).trans (hI_so (by omega))) m1.2⟩ (FN_t (FM_FN FM_0) (FN_t (FN_s (by omega)) (FN_s (by omega)))) ((hI_so (by omega)).trans ((hI_so (by omega)).trans hI_ss)))
      by_cases ep : p = cP c
      · subst ep
        exact ((hI_so (by omega)).trans hI_ss).trans (if_pos rfl).symm
      · have : p < cP c := by have : p < cP c + 1 := hp; omega
        exact ((hI_so (by omega)).trans ((hI_so (by omega)).trans (q3 p this))).trans (if_neg ep).symm
end MOPS
end
section
-- THE MODEL'S CALLS: OFF, TASK, OF, COST, CHANGED, COUNT, WORK, TOLD
section MOP2
variable {c : Cf} {pl f : Pl} {kp : Nat → Bool} {pd cb b : Bool} {told : Int32} {chs : List Nat} {d p t : Nat} {h h' h2 : AH} {Q : Oc → AH → Prop} {x y z : Int32}
def leaveH (c : Cf) (h : AH) (x y z : Int32) : AH := sI (sI (sI (sI h 9 0 (cS c) x) 9 1 (cS c) y) 9 2 (cS c) z) 4 0 3 (nI (cS c + 1))
theorem leave_I {k i s : Nat} (q : ¬ (k = 9 ∧ s = cS c)) (q2 : ¬ (k = 4 ∧ s = 3)) : hI (leaveH c h x y z) k i s = hI h k i s := by
  unfold leaveH
  exact (hI_so (by omega)).trans ((hI_so (by omega)).trans ((hI_so (by omega)).trans (hI_so (by omega))))
theorem leave_RM (m : RM c pl h) : RM (wS c p y z) pl (leaveH c h (nI p) y z) := by
  obtain ⟨q1, ⟨e1, e2, e3, e4, e5, e6⟩, q3, q4, q5⟩ := m
  refine ⟨q1, ⟨(leave_I (by omega) (by omega)).trans e1, hI_ss, (leave_I (by omega) (by omega)).trans e3, (leave_I (by omega) (by omega)).trans e4, (leave_I (by omega) (by omega)).trans e5, (leave_I (by omega) (by omega)).trans e6⟩, fun p hp => (leave_I (by omega) (by omega)).trans (q3 p hp), fun s hs => ?_, fun t ht => ⟨(leave_I (by omega) (by omega)).trans (q5 t ht).1, (leave_I (by omega) (by omega)).trans (q5 t ht).2.1, (leave_I (by omega) (by omega)).trans (q5 t ht).2.2.1, (leave_I (by omega) (by omega)).trans (q5 t ht).2.2.2.1, (leave_I (by omega) (by omega)).trans (q5 t ht).2.2.2.2⟩⟩
  have hs : s < cS c + 1 := hs
  by_cases e : s = cS c
  · subst e
    rw [show cO (wS c p y z) (cS c) = (p, y, z) from if_pos rfl]
    unfold leaveH
    exact ⟨(hI_so (by omega)).trans ((hI_so (by omega)).trans ((hI_so (by omega)).trans hI_ss)), (hI_so (by omega)).trans ((hI_so (by omega)).trans hI_ss), (hI_so (by omega)).trans hI_ss⟩
  · rw [show cO (wS c p y z) s = cO c s from if_neg e]
    obtain ⟨o1, o2, o3⟩ := q4 s (by omega)
    exact ⟨(leave_I (by omega) (by omega)).trans o1, (leave_I (by omega) (by omega)).trans o2, (leave_I (by omega) (by omega)).trans o3⟩
theorem leave_FN : FN h (leaveH c h x y z) := ⟨fun k i s q1 q2 q3 q4 q5 => leave_I (by omega) (by omega), rfl, rfl, rfl, rfl, rfl⟩
theorem leave_MX (k : MXs pd told chs h) : MXs pd told chs (leaveH c h x y z) := MX_eq (fun s hs => leave_I (by omega) (by omega)) (fun s => leave_I (by omega) (by omega)) k
theorem S_leave (m : RM c pl h) (hS : cS c < 20) (k : Q (.inl none) (leaveH c h x y z)) : WP d 47 0 [some (vr 4 0), some (vi x), some (vi y), some (vi z)] [] h Q := by
  repeat refine wp_s rfl ?_
  rw [RM_4 m, RM_S m]
  refine wp_iast rfl rfl (by decide) (by show cS c < 20; omega) ?_
  repeat refine wp_s rfl ?_
  rw [show hA (sI h 9 0 (cS c) x) 4 0 5 = some (9, 1) from (RM_5 m : hA h 4 0 5 = _), show hI (sI h 9 0 (cS c) x) 4 0 3 = nI (cS c) from (hI_so (by omega)).trans (RM_S m)]
  refine wp_iast rfl rfl (by decide) (by show cS c < 20; omega) ?_
  repeat refine wp_s rfl ?_
  rw [show hA (sI (sI h 9 0 (cS c) x) 9 1 (cS c) y) 4 0 6 = some (9, 2) from (RM_6 m : hA h 4 0 6 = _), show hI (sI (sI h 9 0 (cS c) x) 9 1 (cS c) y) 4 0 3 = nI (cS c) from (hI_so (by omega)).trans ((hI_so (by omega)).trans (RM_S m))]
  refine wp_iast rfl rfl (by decide) (by show cS c < 20; omega) ?_
  iterate 5 refine wp_s rfl ?_
  rw [show hI (sI (sI (sI h 9 0 (cS c) x) 9 1 (cS c) y) 9 2 (cS c) z) 4 0 3 = nI (cS c) from (hI_so (by omega)).trans ((hI_so (by omega)).trans ((hI_so (by omega)).trans (RM_S m))), nI_1]
  refine wp_s rfl ?_
  exact wp_e rfl k
theorem S_moff (hd : 1 ≤ d) (w : Wf c) (m : MS c pl pd told chs h) (kt : ∀ p h', p < cP c → x = nI p → spn y z = true → cS c < 20 → MS (wS c p y z) pl pd told chs h' → FN h h' → hI h' 4 0 0 = 0 → Q (.inl (some (vi (nI (cS c + 1))))) h')
    (kf : ∀ h' n, n = thw (bel x (nI (cP c))) (spn y z) (decide (cS c < 20)) → ¬ n = 0 → MS c pl pd told chs h' → FN h h' → hI h' 4 0 0 = nI n → Q (.inl (some (vi 0))) h') : WP d 48 0 [some (vr 4 0), some (vi x), some (vi y), some (vi z)] [] h Q := by
  have wS := Wf_S w
  have wP := Wf_P w
  iterate 3 refine wp_s rfl ?_
  refine wp_cc rfl (by omega) (S_misPerson m.1 ?_)
  iterate 2 refine wp_s rfl ?_
  refine wp_cc rfl (by omega) (S_misSpan ?_)
  iterate 3 refine wp_s rfl ?_
  rw [RM_S m.1]
  refine wp_s rfl ?_
  have main : ∀ e3 : Bool, e3 = decide (cS c < 20) → WP d 48 25 [some (vr 4 0), some (vi x), some (vi y), some (vi z)] [vi (B01 e3), vi (B01 (spn y z)), vi (B01 (bel x (nI (cP c)))), vr 4 0] h Q := by
    intro e3 he3
    refine wp_cc rfl (by omega) (S_goes ?_)
    have kf' := fun hn => kf _ _ rfl hn (MS_0 (v := nI (thw (bel x (nI (cP c))) (spn y z) e3)) m) (FM_FN FM_0) (by rw [he3]; exact hI_ss)
    cases e1 : bel x (nI (cP c)) with
    | false =>
      rw [e1] at kf'
      repeat refine wp_s rfl ?_
      exact wp_e rfl (kf' (by simp [thw]))
    | true =>
      cases e2 : spn y z with
      | false =>
        rw [e1, e2] at kf'
        repeat refine wp_s rfl ?_
        exact wp_e rfl (kf' (by simp [thw]))
      | true =>
        cases e3 with
        | false =>
          rw [e1, e2, ← he3] at kf'
          repeat refine wp_s rfl ?_
          exact wp_e rfl (kf' (by simp [thw]))
        | true =>
          obtain ⟨p, hp, rfl⟩ := bel_t (by omega) e1
          have hS : cS c < 20 := of_decide_eq_true he3.symm
          have m1 : MS c pl pd told chs (sI h 4 0 0 (nI (thw true true true))) := MS_0 m
          iterate 5 refine wp_s rfl ?_
          refine wp_cc rfl (by omega) (S_leave m1.1 hS ?_)
          iterate 2 refine wp_s rfl ?_
          rw [show hI (leaveH c (sI h 4 0 0 (nI (thw true true true))) (nI p) y z) 4 0 3 = nI (cS c + 1) from hI_ss]
          exact wp_e rfl (kt p _ hp rfl e2 hS ⟨leave_RM m1.1, leave_MX m1.2⟩ (FN_t (FM_FN FM_0) leave_FN) ((leave_I (by omega) (by omega)).trans hI_ss))
  refine br_ge (fun e2 => ?_) (fun e2 => ?_)
  · have : ¬ cS c < 20 := fun q => nI_ge (b := 20) q (by omega) e2
    refine wp_s rfl ?_
    exact main false (decide_eq_false this).symm
  · have hS' : cS c < 20 := by
      rcases Nat.lt_or_ge (cS c) 20 with q | q
      · exact q
      · exact absurd (nI_le (a := 20) q (by omega)) e2
    iterate 2 refine wp_s rfl ?_
    exact main true (decide_eq_true hS').symm
def mtaskH (c : Cf) (h : AH) (x y z : Int32) (b : Bool) : AH := sI (sI (sI (sI (sI (sI h 8 1 (cN c) x) 8 2 (cN c) y) 8 3 (cN c) z) 10 0 (cN c) (B01 b)) 8 4 (cN c) (-1)) 4 0 7 (nI (cN c + 1))
theorem mtask_I {k i s : Nat} (q : ¬ ((k = 8 ∧ 1 ≤ i ∧ i ≤ 4 ∨ k = 10 ∧ i = 0) ∧ s = cN c)) (q2 : ¬ (k = 4 ∧ s = 7)) : hI (mtaskH c h x y z b) k i s = hI h k i s := by
  unfold mtaskH
  exact (hI_so (by omega)).trans ((hI_so (by omega)).trans ((hI_so (by omega)).trans ((hI_so (by omega)).trans ((hI_so (by omega)).trans (hI_so (by omega))))))
theorem mtask_RM {f t : Nat} (m : RM c pl h) : RM (wT c x f t b) (upd1 pl (cN c) none) (mtaskH c h x (nI f) (nI t) b) := by
  obtain ⟨q1, ⟨e1, e2, e3, e4, e5, e6⟩, q3, q4, q5⟩ := m
  refine ⟨q1, ⟨(mtask_I (by omega) (by omega)).trans e1, (mtask_I (by omega) (by omega)).trans e2, hI_ss, (mtask_I (by omega) (by omega)).trans e4, (mtask_I (by omega) (by omega)).trans e5, (mtask_I (by omega) (by omega)).trans e6⟩, fun p hp => (mtask_I (by omega) (by omega)).trans (q3 p hp), fun s hs => ⟨(mtask_I (by omega) (by omega)).trans (q4 s hs).1, (mtask_I (by omega) (by omega)).trans (q4 s hs).2.1, (mtask_I (by omega) (by omega)).trans (q4 s hs).2.2⟩, fun j hj => ?_⟩
  have hj : j < cN c + 1 := hj
  by_cases e : j = cN c
  · subst e
    rw [show cD (wT c x f t b) (cN c) = x from if_pos rfl, show cA (wT c x f t b) (cN c) = f from if_pos rfl, show cZ (wT c x f t b) (cN c) = t from if_pos rfl, show cY (wT c x f t b) (cN c) = b from if_pos rfl, upd_k]
    unfold mtaskH
    exact ⟨(hI_so (by omega)).trans ((hI_so (by omega)).trans ((hI_so (by omega)).trans ((hI_so (by omega)).trans ((hI_so (by omega)).trans hI_ss)))), (hI_so (by omega)).trans ((hI_so (by omega)).trans ((hI_so (by omega)).trans ((hI_so (by omega)).trans hI_ss))), (hI_so (by omega)).trans ((hI_so (by omega)).trans ((hI_so (by omega)).trans hI_ss)), (hI_so (by omega)).trans ((hI_so (by omega)).trans hI_ss), (hI_so (by omega)).trans hI_ss⟩
  · rw [show cD (wT c x f t b) j = cD c j from if_neg e, show cA (wT c x f t b) j = cA c j from if_neg e, show cZ (wT c x f t b) j = cZ c j from if_neg e, show cY (wT c x f t b) j = cY c j from if_neg e, upd_o e]
    obtain ⟨o1, o2, o3, o4, o5⟩ := q5 j (by omega)
    exact ⟨(mtask_I (by omega) (by omega)).trans o1, (mtask_I (by omega) (by omega)).trans o2, (mtask_I (by omega) (by omega)).trans o3, (mtask_I (by omega) (by omega)).trans o4, (mtask_I (by omega) (by omega)).trans o5⟩
theorem S_mtask (hd : 1 ≤ d) (w : Wf c) (m : MS c pl pd told chs h) (kt : ∀ f t h', bel x 8 = true → f < t → t ≤ 96 → y = nI f → z = nI t → cN c < 6 → MS (wT c x f t b) (upd1 pl (cN c) none) pd told chs h' → FN h h' → hI h' 4 0 0 = 0 → Q (.inl (some (vi (nI (cN c))))) h')
    (kf : ∀ h' n, n = thw (bel x 8) (spn y z) (decide (cN c < 6)) → ¬ n = 0 → MS c pl pd told chs h' → FN h h' → hI h' 4 0 0 = nI n → Q (.inl (some (vi 0))) h') : WP d 49 0 [some (vr 4 0), some (vi x), some (vi y), some (vi z), some (vi (B01 b))] [] h Q := by
  have wN := Wf_N w
  iterate 4 refine wp_s rfl ?_
  refine wp_cc rfl (by omega) (S_within ?_)
  rw [wth_bel8]
  iterate 2 refine wp_s rfl ?_
  refine wp_cc rfl (by omega) (S_misSpan ?_)
  iterate 3 refine wp_s rfl ?_
  rw [RM_N m.1]
  refine wp_s rfl ?_
  have main : ∀ e3 : Bool, e3 = decide (cN c < 6) → WP d 49 27 [some (vr 4 0), some (vi x), some (vi y), some (vi z), some (vi (B01 b))] [vi (B01 e3), vi (B01 (spn y z)), vi (B01 (bel x 8)), vr 4 0] h Q := by
    intro e3 he3
    refine wp_cc rfl (by omega) (S_goes ?_)
    have kf' := fun hn => kf _ _ rfl hn (MS_0 (v := nI (thw (bel x 8) (spn y z) e3)) m) (FM_FN FM_0) (by rw [he3]; exact hI_ss)
    cases e1 : bel x 8 with
    | false =>
      rw [e1] at kf'
      repeat refine wp_s rfl ?_
      exact wp_e rfl (kf' (by simp [thw]))
    | true =>
      cases e2 : spn y z with
      | false =>
        rw [e1, e2] at kf'
        repeat refine wp_s rfl ?_
        exact wp_e rfl (kf' (by simp [thw]))
      | true =>
        cases e3 with
        | false =>
          rw [e1, e2, ← he3] at kf'
          repeat refine wp_s rfl ?_
          exact wp_e rfl (kf' (by simp [thw]))
        | true =>
          obtain ⟨f, t, hft, ht, rfl, rfl⟩ := spn_t e2
          have hN : cN c < 6 := of_decide_eq_true he3.symm
          have m1 : MS c pl pd told chs (sI h 4 0 0 (nI (thw true true true))) := MS_0 m
          have t1 : hI (sI h 4 0 0 (nI (thw true true true))) 4 0 0 = 0 := hI_ss
          have fn1 : FN h (sI h 4 0 0 (nI (thw true true true))) := FM_FN FM_0
          repeat refine wp_s rfl ?_
          generalize sI h 4 0 0 (nI (thw true true true)) = h1 at *
          rw [RM_8 m1.1, RM_N m1.1]
          refine wp_iast rfl rfl (by decide) (by show cN c < 6; omega) ?_
          repeat refine wp_s rfl ?_
          rw [show hA (sI h1 8 1 (cN c) x) 4 0 9 = some (8, 2) from (RM_9 m1.1 : hA h1 4 0 9 = _), show hI (sI h1 8 1 (cN c) x) 4 0 7 = nI (cN c) from (hI_so (by omega)).trans (RM_N m1.1)]
          refine wp_iast rfl rfl (by decide) (by show cN c < 6; omega) ?_
          repeat refine wp_s rfl ?_
          rw [show hA (sI (sI h1 8 1 (cN c) x) 8 2 (cN c) (nI f)) 4 0 10 = some (8, 3) from (RM_10 m1.1 : hA h1 4 0 10 = _), show hI (sI (sI h1 8 1 (cN c) x) 8 2 (cN c) (nI f)) 4 0 7 = nI (cN c) from (hI_so (by omega)).trans ((hI_so (by omega)).trans (RM_N m1.1))]
          refine wp_iast rfl rfl (by decide) (by show cN c < 6; omega) ?_
          repeat refine wp_s rfl ?_
          rw [show hA (sI (sI (sI h1 8 1 (cN c) x) 8 2 (cN c) (nI f)) 8 3 (cN c) (nI t)) 4 0 11 = some (10, 0) from (RM_11 m1.1 : hA h1 4 0 11 = _), show hI (sI (sI (sI h1 8 1 (cN c) x) 8 2 (cN c) (nI f)) 8 3 (cN c) (nI t)) 4 0 7 = nI (cN c) from (hI_so (by omega)).trans ((hI_so (by omega)).trans ((hI_so (by omega)).trans (RM_N m1.1)))]
          refine wp_zast rfl (by omega) (B01_or _) ?_
          repeat refine wp_s rfl ?_
          rw [show hA (sI (sI (sI (sI h1 8 1 (cN c) x) 8 2 (cN c) (nI f)) 8 3 (cN c) (nI t)) 10 0 (cN c) (B01 b)) 4 0 12 = some (8, 4) from (RM_12 m1.1 : hA h1 4 0 12 = _), show hI (sI (sI (sI (sI h1 8 1 (cN c) x) 8 2 (cN c) (nI f)) 8 3 (cN c) (nI t)) 10 0 (cN c) (B01 b)) 4 0 7 = nI (cN c) from (hI_so (by omega)).trans ((hI_so (by omega)).trans ((hI_so (by omega)).trans ((hI_so (by omega)).trans (RM_N m1.1))))]
          refine wp_iast rfl rfl (by decide) (by show cN c < 6; omega) ?_
          iterate 5 refine wp_s rfl ?_
          rw [show hI (sI (sI (sI (sI (sI h1 8 1 (cN c) x) 8 2 (cN c) (nI f)) 8 3 (cN c) (nI t)) 10 0 (cN c) (B01 b)) 8 4 (cN c) (-1)) 4 0 7 = nI (cN c) from (hI_so (by omega)).trans ((hI_so (by omega)).trans ((hI_so (by omega)).trans ((hI_so (by omega)).trans ((hI_so (by omega)).trans (RM_N m1.1))))), nI_1]
          iterate 3 refine wp_s rfl ?_
          rw [hI_ss]
          iterate 2 refine wp_s rfl ?_
          rw [nI_pred]
          refine wp_e rfl (kt f t (mtaskH c h1 x (nI f) (nI t) b) e1 hft ht rfl rfl hN ⟨mtask_RM m1.1, MX_eq (fun s hs => mtask_I (by omega) (by omega)) (fun s => mtask_I (by omega) (by omega)) m1.2⟩ (FN_t fn1 ⟨fun k i s q1 q2 q3 q4 q5 => mtask_I (by omega) (by omega), rfl, rfl, rfl, rfl, rfl⟩) ((mtask_I (by omega) (by omega)).trans t1))
  refine br_ge (fun e2 => ?_) (fun e2 => ?_)
  · have : ¬ cN c < 6 := fun q => nI_ge (b := 6) q (by omega) e2
    refine wp_s rfl ?_
    exact main false (decide_eq_false this).symm
  · have hN' : cN c < 6 := by
      rcases Nat.lt_or_ge (cN c) 6 with q | q
      · exact q
      · exact absurd (nI_le (a := 6) q (by omega)) e2
    iterate 2 refine wp_s rfl ?_
    exact main true (decide_eq_true hN').symm
end MOP2
end
section
-- THE MODEL'S CALLS: TOLD, OF, COST, CHANGED, COUNT, WORK, FAIR
section MOP3
variable {c : Cf} {pl f : Pl} {kp : Nat → Bool} {pd cb b : Bool} {told : Int32} {chs : List Nat} {d p t : Nat} {h h' h2 : AH} {Q : Oc → AH → Prop} {x y z : Int32}
theorem S_mtold (m : MS c pl pd told chs h) (k : ∀ h', MS c pl pd told chs h' → FN h h' → Q (.inl (some (vi told))) h') : WP d 65 0 [some (vr 4 0)] [] h Q := by
  repeat refine wp_s rfl ?_
  rw [(MS_0 (v := 0) m).2.2.1]
  exact wp_e rfl (k _ (MS_0 m) (FM_FN FM_0))
theorem S_mof (hd : 1 ≤ d) (w : Wf c) (m : MS c pl pd told chs h) (kt : ∀ t h', t < cN c → x = nI t → MS c pl pd told chs h' → FN h h' → hI h' 4 0 0 = 0 → Q (.inl (some (vi (oI (pl t))))) h') (kf : ∀ h', bel x (nI (cN c)) = false → MS c pl pd told chs h' → FN h h' → hI h' 4 0 0 = 1 → Q (.inl (some (vi 0))) h') : WP d 66 0 [some (vr 4 0), some (vi x)] [] h Q := by
  have wN := Wf_N w
  iterate 3 refine wp_s rfl ?_
  refine wp_cc rfl (by omega) (S_misTask m.1 ?_)
  iterate 2 refine wp_s rfl ?_
  refine wp_cc rfl (by omega) (S_goes (b := true) (e := true) ?_)
  cases e : bel x (nI (cN c)) with
  | false =>
    repeat refine wp_s rfl ?_
    exact wp_e rfl (kf _ e (MS_0 m) (FM_FN FM_0) hI_ss)
  | true =>
    obtain ⟨t, ht, rfl⟩ := bel_t (by omega) e
    have m1 : MS c pl pd told chs (sI h 4 0 0 (nI (thw true true true))) := MS_0 m
    repeat refine wp_s rfl ?_
    rw [RM_12 m1.1]
    refine wp_iald rfl rfl (by decide) (by show t < 6; omega) ?_
    rw [RM_p m1.1 ht]
    refine wp_s rfl ?_
    exact wp_e rfl (kt t _ ht rfl m1 (FM_FN FM_0) hI_ss)
theorem S_mcost (hd : 1 ≤ d) (w : Wf c) (bp : Bd c pl) (m : MS c pl pd told chs h) (kt : ∀ h', pd = true → MS c pl pd told chs h' → FN h h' → hI h' 4 0 0 = 0 → Q (.inl (some (vi (nI (costP c pl))))) h') (kf : ∀ h', pd = false → MS c pl pd told chs h' → FN h h' → hI h' 4 0 0 = 1 → Q (.inl (some (vi 0))) h') : WP d 68 0 [some (vr 4 0)] [] h Q := by
  iterate 3 refine wp_s rfl ?_
  rw [m.2.1]
  iterate 2 refine wp_s rfl ?_
  refine wp_cc rfl (by omega) (S_goes (b := true) (e := true) ?_)
  cases e : pd with
  | false =>
    rw [e] at m kf
    repeat refine wp_s rfl ?_
    exact wp_e rfl (kf _ rfl (MS_0 m) (FM_FN FM_0) hI_ss)
  | true =>
    rw [e] at m kt
    have m1 : MS c pl true told chs (sI h 4 0 0 (nI (thw true true true))) := MS_0 m
    iterate 2 refine wp_s rfl ?_
    refine wp_cc rfl (by omega) (S_tryPlan w m1.1 (fun h2 a tr a8 a4 => ?_))
    refine wp_s rfl ?_
    have m2 := MS_FK a m1
    refine wp_cc rfl (by omega) (S_costOf w m2.1 bp tr ?_)
    exact wp_e rfl (kt _ rfl m2 (FN_t (FM_FN FM_0) (FM_FN (FK_FM a))) ((a4 0).trans hI_ss))
theorem S_mchanged (hd : 1 ≤ d) (m : MS c pl pd told chs h) (kt : ∀ s h' (hs : s < chs.length), x = nI s → MS c pl pd told chs h' → FN h h' → hI h' 4 0 0 = 0 → Q (.inl (some (vi (nI chs[s])))) h') (kf : ∀ h', bel x (nI chs.length) = false → MS c pl pd told chs h' → FN h h' → hI h' 4 0 0 = 1 → Q (.inl (some (vi 0))) h') : WP d 70 0 [some (vr 4 0), some (vi x)] [] h Q := by
  have h6 := m.2.2.2.1
  have main : ∀ e : Bool, e = bel x (nI chs.length) → WP d 70 18 [some (vr 4 0), some (vi x)] [vi (B01 e), vr 4 0] h Q := by
    intro e he
    iterate 2 refine wp_s rfl ?_
    refine wp_cc rfl (by omega) (S_goes (b := true) (e := true) ?_)
    cases e with
    | false =>
      repeat refine wp_s rfl ?_
      exact wp_e rfl (kf _ he.symm (MS_0 m) (FM_FN FM_0) hI_ss)
    | true =>
      obtain ⟨s, hs, rfl⟩ := bel_t (by omega) he.symm
      have m1 : MS c pl pd told chs (sI h 4 0 0 (nI (thw true true true))) := MS_0 m
      repeat refine wp_s rfl ?_
      rw [RM_22 m1.1]
      refine wp_iald rfl rfl (by decide) (by show s < 6; omega) ?_
      rw [m1.2.2.2.2.2 s hs]
      refine wp_s rfl ?_
      exact wp_e rfl (kt s _ hs rfl m1 (FM_FN FM_0) hI_ss)
  iterate 3 refine wp_s rfl ?_
  refine br_lt (fun e => ?_) (fun e => ?_)
  · refine wp_s rfl ?_
    exact main false (by simp [bel, e])
  iterate 3 refine wp_s rfl ?_
  rw [m.2.2.2.2.1]
  refine wp_s rfl ?_
  refine br_ge (fun e2 => ?_) (fun e2 => ?_)
  · refine wp_s rfl ?_
    exact main false (by simp [bel, Int32.not_lt.2 e2])
  · iterate 2 refine wp_s rfl ?_
    exact main true (by simp [bel, e, Int32.not_le.1 e2])
theorem S_mcount (hd : 1 ≤ d) (m : MS c pl pd told chs h) (kk : ∀ h', MS c pl pd told chs h' → FN h h' → hI h' 4 0 0 = 0 → (x = 0 → Q (.inl (some (vi (nI (cP c))))) h') ∧ (x = 1 → Q (.inl (some (vi (nI (cN c))))) h') ∧ (x = 2 → Q (.inl (some (vi (nI (cS c))))) h') ∧ (x = 3 → Q (.inl (some (vi (nI chs.length)))) h')) (kf : ∀ h', wth x 0 3 = false → MS c pl pd told chs h' → FN h h' → hI h' 4 0 0 = 1 → Q (.inl (some (vi 0))) h') : WP d 76 0 [some (vr 4 0), some (vi x)] [] h Q := by
  iterate 4 refine wp_s rfl ?_
  refine wp_cc rfl (by omega) (S_within ?_)
  iterate 2 refine wp_s rfl ?_
  refine wp_cc rfl (by omega) (S_goes (b := true) (e := true) ?_)
  cases e : wth x 0 3 with
  | false =>
    repeat refine wp_s rfl ?_
    exact wp_e rfl (kf _ e (MS_0 m) (FM_FN FM_0) hI_ss)
  | true =>
    have m1 : MS c pl pd told chs (sI h 4 0 0 (nI (thw true true true))) := MS_0 m
    obtain ⟨k0, k1, k2, k3⟩ := kk _ m1 (FM_FN FM_0) hI_ss
    simp only [wth, Bool.and_eq_true, Bool.not_eq_true', decide_eq_false_iff_not, decide_eq_true_eq] at e
    obtain ⟨j, hj, rfl⟩ := nI_of2 (M := 3) (n := 3) rfl e.1 e.2
    rcases (show j = 0 ∨ j = 1 ∨ j = 2 ∨ j = 3 by omega) with rfl | rfl | rfl | rfl
    · repeat refine wp_s rfl ?_
      rw [RM_P m1.1]
      exact wp_e rfl (k0 rfl)
    · repeat refine wp_s rfl ?_
      rw [RM_N m1.1]
      exact wp_e rfl (k1 rfl)
    · repeat refine wp_s rfl ?_
      rw [RM_S m1.1]
      exact wp_e rfl (k2 rfl)
    · repeat refine wp_s rfl ?_
      rw [m1.2.2.2.2.1]
      exact wp_e rfl (k3 rfl)
theorem S_mwork (hd : 1 ≤ d) (w : Wf c) (bp : Bd c pl) (m : MS c pl pd told chs h) (kt : ∀ p h', p < cP c → x = nI p → MS c pl pd told chs h' → FN h h' → hI h' 4 0 0 = 0 → Q (.inl (some (vi (nI (qua c pl (some p)))))) h') (kf : ∀ h', bel x (nI (cP c)) = false → MS c pl pd told chs h' → FN h h' → hI h' 4 0 0 = 1 → Q (.inl (some (vi 0))) h') : WP d 74 0 [some (vr 4 0), some (vi x)] [] h Q := by
  have wP := Wf_P w
  iterate 3 refine wp_s rfl ?_
  refine wp_cc rfl (by omega) (S_misPerson m.1 ?_)
  iterate 2 refine wp_s rfl ?_
  refine wp_cc rfl (by omega) (S_goes (b := true) (e := true) ?_)
  cases e : bel x (nI (cP c)) with
  | false =>
    repeat refine wp_s rfl ?_
    exact wp_e rfl (kf _ e (MS_0 m) (FM_FN FM_0) hI_ss)
  | true =>
    obtain ⟨p, hp, rfl⟩ := bel_t (by omega) e
    have m1 : MS c pl pd told chs (sI h 4 0 0 (nI (thw true true true))) := MS_0 m
    iterate 2 refine wp_s rfl ?_
    refine wp_cc rfl (by omega) (S_tryPlan w m1.1 (fun h2 a tr a8 a4 => ?_))
    iterate 2 refine wp_s rfl ?_
    have m2 := MS_FK a m1
    refine wp_cc rfl (by omega) (S_mquarters w m2.1 bp tr (by omega) ?_)
    exact wp_e rfl (kt p _ hp rfl m2 (FN_t (FM_FN FM_0) (FM_FN (FK_FM a))) ((a4 0).trans hI_ss))
theorem mf_inner (w : Wf c) (m : RM c pl h) (bp : Bd c pl) (hp : p < 1000) {L1 L2 : Option AV} (kk : WP d 75 63 [some (vr 4 0), L1, L2, some (vi (nI p)), some (vi (nI (cnt c pl (some p)))), some (vi (nI (cN c)))] [] h Q) : ∀ (r j : Nat), j + r = cN c → WP d 75 26 [some (vr 4 0), L1, L2, some (vi (nI p)), some (vi (nI (sumN j (fun t => if pl t = some p then 1 else 0)))), some (vi (nI j))] [] h Q := by
  have wN := Wf_N w
  intro r
  induction r with
  | zero =>
    intro j hj
    obtain rfl : j = cN c := by omega
    iterate 3 refine wp_s rfl ?_
    rw [RM_N m]
    refine wp_s rfl ?_
    refine br_ge (fun e => ?_) (fun e => absurd (nI_le (Nat.le_refl _) (by omega)) e)
    exact kk
  | succ r ih =>
    intro j hj
    have hj' : j < cN c := by omega
    have ih' := ih (j + 1) (by omega)
    have es : sumN (j + 1) (fun t => if pl t = some p then 1 else 0) = sumN j (fun t => if pl t = some p then 1 else 0) + (if pl j = some p then 1 else 0) := rfl
    rw [es] at ih'
    iterate 3 refine wp_s rfl ?_
    rw [RM_N m]
    refine wp_s rfl ?_
    refine br_ge (fun e => absurd e (nI_ge hj' (by omega))) (fun e => ?_)
    repeat refine wp_s rfl ?_
    rw [RM_12 m]
    refine wp_iald rfl rfl (by decide) (by show j < 6; omega) ?_
    iterate 2 refine wp_s rfl ?_
    rw [RM_p m hj']
    refine br_ne (fun e1 => ?_) (fun e1 => ?_)
    · rw [if_neg (fun q => e1 (by rw [q]; rfl)), Nat.add_zero] at ih'
      iterate 4 refine wp_s rfl ?_
      rw [nI_1]
      exact ih'
    · rw [if_pos ((oI_nI (Bd_1 w bp hj') hp).1 e1)] at ih'
      iterate 7 refine wp_s rfl ?_
      rw [nI_1, nI_1]
      exact ih'
theorem mf_loop (w : Wf c) (m : RM c pl h) (bp : Bd c pl) (kk : Q (.inl (some (vi (if cP c = 0 then 0 else nI (hiF (fun p => cnt c pl (some p)) (cP c)) - nI (loF 99 (fun p => cnt c pl (some p)) (cP c)))))) h) : ∀ (r j : Nat) (L4 L5 : Option AV), j + r = cP c → WP d 75 12 [some (vr 4 0), some (vi (nI (hiF (fun p => cnt c pl (some p)) j))), some (vi (nI (loF 99 (fun p => cnt c pl (some p)) j))), some (vi (nI j)), L4, L5] [] h Q := by
  have wP := Wf_P w
  have wN := Wf_N w
  intro r
  induction r with
  | zero =>
    intro j L4 L5 hj
    obtain rfl : j = cP c := by omega
    iterate 3 refine wp_s rfl ?_
    rw [RM_P m]
    refine wp_s rfl ?_
    refine br_ge (fun e => ?_) (fun e => absurd (nI_le (Nat.le_refl _) (by omega)) e)
    iterate 2 refine wp_s rfl ?_
    rw [RM_P m]
    refine wp_s rfl ?_
    refine br_ne (fun e => ?_) (fun e => ?_)
    · rw [if_neg (fun q => e (by rw [q]; rfl))] at kk
      repeat refine wp_s rfl ?_
      exact wp_e rfl kk
    · rw [if_pos ((nI_eq (b := 0) (by omega) (by omega)).1 e)] at kk
      repeat refine wp_s rfl ?_
      exact wp_e rfl kk
  | succ r ih =>
    intro j L4 L5 hj
    have hj' : j < cP c := by omega
    have h1 := hiF_le (F := fun p => cnt c pl (some p)) (a := cN c) (fun p => cnt_le) j
    have h2 := loF_le (F := fun p => cnt c pl (some p)) (a := 99) j
    have h3 : cnt c pl (some j) ≤ cN c := cnt_le
    have es1 : hiF (fun p => cnt c pl (some p)) (j + 1) = if hiF (fun p => cnt c pl (some p)) j < cnt c pl (some j) then cnt c pl (some j) else hiF (fun p => cnt c pl (some p)) j := rfl
    have es2 : loF 99 (fun p => cnt c pl (some p)) (j + 1) = if cnt c pl (some j) < loF 99 (fun p => cnt c pl (some p)) j then cnt c pl (some j) else loF 99 (fun p => cnt c pl (some p)) j := rfl
    have ih' := fun L4 L5 => ih (j + 1) L4 L5 (by omega)
    rw [es1, es2] at ih'
    have low : ∀ v : Nat, v = (if hiF (fun p => cnt c pl (some p)) j < cnt c pl (some j) then cnt c pl (some j) else hiF (fun p => cnt c pl (some p)) j) → WP d 75 75 [some (vr 4 0), some (vi (nI (hiF (fun p => cnt c pl (some p)) j))), some (vi (nI (loF 99 (fun p => cnt c pl (some p)) j))), some (vi (nI j)), some (vi (nI (cnt c pl (some j)))), some (vi (nI (cN c)))] [vi (nI v)] h Q := by
      intro v hv
      rw [← hv] at ih'
      iterate 3 refine wp_s rfl ?_
      refine wp_s rfl ?_
      refine br_ge (fun e1 => ?_) (fun e1 => ?_)
      · rw [if_neg (fun q => absurd (nI_lt q (by omega)) (Int32.not_lt.2 e1))] at ih'
        iterate 4 refine wp_s rfl ?_
        rw [nI_1]
        exact ih' _ _
      · rw [if_pos ((nI_ltI (by omega) (by omega)).1 (Int32.not_le.1 e1))] at ih'
        iterate 5 refine wp_s rfl ?_
        rw [nI_1]
        exact ih' _ _
    iterate 3 refine wp_s rfl ?_
    rw [RM_P m]
    refine wp_s rfl ?_
    refine br_ge (fun e => absurd e (nI_ge hj' (by omega))) (fun e => ?_)
    iterate 4 refine wp_s rfl ?_
    refine mf_inner (p := j) w m bp (by omega) ?_ (cN c) 0 (by omega)
    iterate 3 refine wp_s rfl ?_
    refine br_le (fun e1 => ?_) (fun e1 => ?_)
    · refine wp_s rfl ?_
      exact low _ (by rw [if_neg (fun q => absurd (nI_lt q (by omega)) (Int32.not_lt.2 e1))])
    · iterate 2 refine wp_s rfl ?_
      exact low _ (by rw [if_pos ((nI_ltI (by omega) (by omega)).1 (Int32.not_le.1 e1))])
theorem S_mfair (w : Wf c) (bp : Bd c pl) (m : MS c pl pd told chs h) (kk : ∀ h', MS c pl pd told chs h' → FN h h' → Q (.inl (some (vi (if cP c = 0 then 0 else nI (hiF (fun p => cnt c pl (some p)) (cP c)) - nI (loF 6 (fun p => cnt c pl (some p)) (cP c)))))) h') : WP d 75 0 [some (vr 4 0), none, none, none, none, none] [] h Q := by
  have m1 : MS c pl pd told chs (sI h 4 0 0 0) := MS_0 m
  have wN := Wf_N w
  iterate 9 refine wp_s rfl ?_
  refine mf_loop w m1.1 bp ?_ (cP c) 0 none none (by omega)
  have := kk _ m1 (FM_FN FM_0)
  by_cases e : cP c = 0
  · rw [if_pos e] at this ⊢; exact this
  · rw [if_neg e] at this ⊢
    obtain ⟨j, hj⟩ : ∃ j, cP c = j + 1 := ⟨cP c - 1, by omega⟩
    rw [hj] at this ⊢
    rw [← loF_eq (F := fun p => cnt c pl (some p)) (fun p => by
      show cnt c pl (some p) ≤ 6
      have : cnt c pl (some p) ≤ cN c := cnt_le
      omega) j]
    exact this
end MOP3
end
section
-- THE MODEL'S CALLS: RUN, ABSENT, SWAP
section MRUN
variable {c : Cf} {pl pl' f : Pl} {kp : Nat → Bool} {pd cb b : Bool} {told : Int32} {chs : List Nat} {d p t : Nat} {h h' h2 : AH} {Q : Oc → AH → Prop} {x y z : Int32}
theorem FilI_k (a : FilI c pl kp ((cP c + 1) ^ cN c) y) : ∃ k, k ≤ cN c ∧ ((y = -1 ∧ k = 0) ∨ y = nI k) := by
  rcases a with ⟨e, _⟩ | ⟨n, _, _, e, _⟩
  · exact ⟨0, by omega, .inl ⟨e, rfl⟩⟩
  · exact ⟨_, full_le, .inr e⟩
theorem RM_congr (hq : ∀ t, t < cN c → pl t = pl' t) (m : RM c pl h) : RM c pl' h := ⟨m.1, m.2.1, m.2.2.1, m.2.2.2.1, fun t ht => by rw [← hq t ht]; exact m.2.2.2.2 t ht⟩
theorem RG_congr (hq : ∀ t, t < cN c → pl t = pl' t) (g : RG c pl h) : RG c pl' h := ⟨g.1, g.2.1, g.2.2.1, fun t ht => by rw [← hq t ht]; exact g.2.2.2 t ht⟩
/-- nothing is kept -/
theorem nokeep_loop (kk : ∀ h', FM h h' → (∀ k i s, ¬ (k = 10 ∧ i = 1) → hI h' k i s = hI h k i s) → (∀ t, t < 6 → hI h' 10 1 t = 0) → WP d 64 26 [some (vr 4 0), some (vi 6)] [] h' Q) : ∀ (r j : Nat) (h' : AH), j + r = 6 → hA h' 4 0 15 = some (10, 1) → FM h h' → (∀ k i s, ¬ (k = 10 ∧ i = 1) → hI h' k i s = hI h k i s) → (∀ t, t < j → hI h' 10 1 t = 0) → WP d 64 7 [some (vr 4 0), some (vi (nI j))] [] h' Q := by
  intro r
  induction r with
  | zero =>
    intro j h' hj m a ai az
    obtain rfl : j = 6 := by omega
    iterate 3 refine wp_s rfl ?_
    exact kk h' a ai az
  | succ r ih =>
    intro j h' hj m a ai az
    iterate 3 refine wp_s rfl ?_
    refine br_ge (fun e => absurd e (nI_ge (b := 6) (show j < 6 by omega) (by omega))) (fun e => ?_)
    repeat refine wp_s rfl ?_
    rw [m]
    refine wp_zast rfl (by omega) (.inl rfl) ?_
    iterate 2 refine wp_s rfl ?_
    rw [nI_1]
    refine ih (j + 1) _ (by omega) m (FM_t a ⟨fun k i s q1 q2 q3 => hI_so (by omega), rfl, rfl, rfl, rfl, rfl⟩) (fun k i s q => (hI_so (by omega)).trans (ai k i s q)) (fun t ht => ?_)
    by_cases e2 : t = j
    · subst e2; exact hI_ss
    · exact (hI_so (by omega)).trans (az t (by omega))
theorem mplan_loop (w : Wf c) (hb : ∀ t, t < cN c → hI h 8 6 t = oI (pl' t)) (kk : ∀ h', (∀ k i s, ¬ (k = 8 ∧ i = 4) → hI h' k i s = hI h k i s) → hA h' = hA h → hJ h' = hJ h → hC h' = hC h → hZ h' = hZ h → hS h' = hS h → RM c pl' h' → WP d 64 72 [some (vr 4 0), some (vi (nI (cN c)))] [] h' Q) : ∀ (r j : Nat) (h' : AH) (plx : Pl), j + r = cN c → RM c plx h' → (∀ t, t < j → plx t = pl' t) → (∀ k i s, ¬ (k = 8 ∧ i = 4) → hI h' k i s = hI h k i s) → hA h' = hA h → hJ h' = hJ h → hC h' = hC h → hZ h' = hZ h → hS h' = hS h → WP d 64 46 [some (vr 4 0), some (vi (nI j))] [] h' Q := by
  have wN := Wf_N w
  intro r
  induction r with
  | zero =>
    intro j h' plx hj m hx a1 a2 a3 a4 a5 a6
    obtain rfl : j = cN c := by omega
    iterate 3 refine wp_s rfl ?_
    rw [RM_N m]
    refine wp_s rfl ?_
    refine br_ge (fun e => ?_) (fun e => absurd (nI_le (Nat.le_refl _) (by omega)) e)
    exact kk h' a1 a2 a3 a4 a5 a6 (RM_congr hx m)
  | succ r ih =>
    intro j h' plx hj m hx a1 a2 a3 a4 a5 a6
    have hj' : j < cN c := by omega
    iterate 3 refine wp_s rfl ?_
    rw [RM_N m]
    refine wp_s rfl ?_
    refine br_ge (fun e => absurd e (nI_ge hj' (by omega))) (fun e => ?_)
    repeat refine wp_s rfl ?_
    rw [RM_14 m]
    refine wp_iald rfl rfl (by decide) (by show j < 6; omega) ?_
    rw [RM_12 m, a1 8 6 j (by omega), hb j hj']
    refine wp_iast rfl rfl (by decide) (by show j < 6; omega) ?_
    iterate 2 refine wp_s rfl ?_
    rw [nI_1]
    refine ih (j + 1) _ (upd1 plx j (pl' j)) (by omega) ?_ (fun t ht => ?_) (fun k i s q => (hI_so (by omega)).trans (a1 k i s q)) a2 a3 a4 a5 a6
    · obtain ⟨q1, ⟨e1, e2, e3, e4, e5, e6⟩, q3, q4, q5⟩ := m
      refine ⟨q1, ⟨(hI_so (by omega)).trans e1, (hI_so (by omega)).trans e2, (hI_so (by omega)).trans e3, (hI_so (by omega)).trans e4, (hI_so (by omega)).trans e5, (hI_so (by omega)).trans e6⟩, fun p hp => (hI_so (by omega)).trans (q3 p hp), fun s hs => ⟨(hI_so (by omega)).trans (q4 s hs).1, (hI_so (by omega)).trans (q4 s hs).2.1, (hI_so (by omega)).trans (q4 s hs).2.2⟩, fun t ht => ⟨(hI_so (by omega)).trans (q5 t ht).1, (hI_so (by omega)).trans (q5 t ht).2.1, (hI_so (by omega)).trans (q5 t ht).2.2.1, (hI_so (by omega)).trans (q5 t ht).2.2.2.1, ?_⟩⟩
      by_cases e2 : t = j
      · subst e2; rw [upd_k]; exact hI_ss
      · rw [upd_o e2]; exact (hI_so (by omega)).trans (q5 t ht).2.2.2.2
    · by_cases e2 : t = j
      · subst e2; exact upd_k
      · rw [upd_o e2]; exact hx t (by omega)
theorem LBM_fb {o : Option Nat} (lb : LBM c pl cb h o) : hI h 4 0 23 = B01 o.isSome := by
  cases o with
  | none => exact lb
  | some b => exact lb.1
theorem S_mrun (w : Wf c) (hd : 6 ≤ d) (sp : Sp c) (bp : Bd c pl) (m : MS c pl pd told chs h)
    (kt : ∀ h' b, Opt (VM c pl (kpt c false)) (WM c pl false) ((cP c + 1) ^ cN c) (some b) → MS c (dgf c b) true (-1) chs h' → FN h h' → Q (.inl (some (vi (nI (costP c (dgf c b)))))) h')
    (kf : ∀ h' y k, Opt (VM c pl (kpt c false)) (WM c pl false) ((cP c + 1) ^ cN c) none → FilI c pl (kpt c false) ((cP c + 1) ^ cN c) y → k ≤ cN c → ((y = -1 ∧ k = 0) ∨ y = nI k) → MS c pl pd (faI c (cN c - k) k) chs h' → FN h h' → Q (.inl (some (vi (-1)))) h') : WP d 64 0 [some (vr 4 0), none] [] h Q := by
  have wN := Wf_N w
  have m0 : MS c pl pd told chs (sI h 4 0 0 0) := MS_0 m
  iterate 5 refine wp_s rfl ?_
  refine nokeep_loop (h := sI h 4 0 0 0) ?_ 6 0 _ (by omega) (RM_15 m0.1) FM_r (fun _ _ _ _ => rfl) (fun t ht => absurd ht (by omega))
  intro h1 a1 ai az
  have m1 : MS c pl pd told chs h1 := ⟨RM_FM a1 m0.1, MX_eq (fun s hs => ai 4 0 s (by omega)) (fun s => ai 8 7 s (by omega)) m0.2⟩
  have n1 : FN h h1 := FN_t (FM_FN FM_0) (FM_FN a1)
  iterate 2 refine wp_s rfl ?_
  refine wp_cc rfl (by omega) (S_mseek (kp := kpt c false) (cb := false) w (by omega) sp bp m1.1 (fun t ht => (az t (by omega)).trans rfl) ?_)
  intro h2 o y a2 lb op e26 fil
  have m2 := MS_FK a2 m1
  obtain ⟨k, hk, hy⟩ := FilI_k fil
  refine wp_s rfl ?_
  refine wp_cc rfl (by omega) (S_tell w m2.1 hk (by rw [e26]; exact hy) (LBM_fb lb) ?_)
  intro h3 a3 b4 bk e20
  have m3 : RM c pl h3 := RM_FM a3 m2.1
  have n3 : FN h h3 := FN_t n1 (FN_t (FM_FN (FK_FM a2)) (FM_FN a3))
  iterate 2 refine wp_s rfl ?_
  rw [b4 23 (by omega), LBM_fb lb]
  cases o with
  | none =>
    iterate 2 refine wp_s rfl ?_
    refine wp_e rfl (kf h3 y k op fil hk hy ⟨m3, ?_, e20, m.2.2.2.1, ?_, fun s hs => ?_⟩ n3)
    · exact (b4 16 (by omega)).trans m2.2.1
    · exact (b4 21 (by omega)).trans m2.2.2.2.2.1
    · exact (bk 8 7 s (by omega)).trans (m2.2.2.2.2.2 s hs)
  | some b =>
    iterate 3 refine wp_s rfl ?_
    refine mplan_loop (h := h3) (pl' := dgf c b) w (fun t ht => (bk 8 6 t (by omega)).trans (lb.2.2.2 t ht)) ?_ (cN c) 0 h3 pl (by omega) m3 (fun t ht => absurd ht (by omega)) (fun _ _ _ _ => rfl) rfl rfl rfl rfl rfl
    intro h4 c1 c2 c3 c4 c5 c6 m4
    iterate 5 refine wp_s rfl ?_
    rw [show hI (sI h4 4 0 16 1) 4 0 25 = nI (costP c (dgf c b)) from (hI_so (by omega)).trans ((c1 4 0 25 (by omega)).trans ((b4 25 (by omega)).trans lb.2.2.1))]
    refine wp_e rfl (kt _ b op ⟨?_, hI_ss, ?_, m.2.2.2.1, ?_, fun s hs => ?_⟩ (FN_t n3 (FN_t ⟨fun k i s q1 q2 q3 q4 q5 => c1 k i s (by omega), c2, c3, c4, c5, c6⟩ (FN_s (by omega)))))
    · obtain ⟨q1, ⟨e1, e2, e3, e4, e5, e6⟩, q3, q4, q5⟩ := m4
      exact ⟨q1, ⟨(hI_so (by omega)).trans e1, (hI_so (by omega)).trans e2, (hI_so (by omega)).trans e3, (hI_so (by omega)).trans e4, (hI_so (by omega)).trans e5, (hI_so (by omega)).trans e6⟩, fun p hp => (hI_so (by omega)).trans (q3 p hp), fun s hs => ⟨(hI_so (by omega)).trans (q4 s hs).1, (hI_so (by omega)).trans (q4 s hs).2.1, (hI_so (by omega)).trans (q4 s hs).2.2⟩, fun t ht => ⟨(hI_so (by omega)).trans (q5 t ht).1, (hI_so (by omega)).trans (q5 t ht).2.1, (hI_so (by omega)).trans (q5 t ht).2.2.1, (hI_so (by omega)).trans (q5 t ht).2.2.2.1, (hI_so (by omega)).trans (q5 t ht).2.2.2.2⟩⟩
    · exact (hI_so (by omega)).trans ((c1 4 0 20 (by omega)).trans e20)
    · exact (hI_so (by omega)).trans ((c1 4 0 21 (by omega)).trans ((b4 21 (by omega)).trans m2.2.2.2.2.1))
    · exact (hI_so (by omega)).trans ((c1 8 7 s (by omega)).trans ((bk 8 7 s (by omega)).trans (m2.2.2.2.2.2 s hs)))
end MRUN
end
section
-- THE MODEL'S CALLS: ABSENT, SWAP
section MABS
variable {c : Cf} {pl pl' f : Pl} {kp : Nat → Bool} {pd cb b : Bool} {told : Int32} {chs : List Nat} {d p t : Nat} {h h' h2 : AH} {Q : Oc → AH → Prop} {x y z : Int32}
theorem RM_s {k i s : Nat} {v : Int32} (hk : (k = 10 ∧ i = 1) ∨ (k = 8 ∧ (5 ≤ i)) ∨ (k = 4 ∧ (s = 0 ∨ s = 16 ∨ 20 ≤ s))) (m : RM c pl h) : RM c pl (sI h k i s v) := by
  obtain ⟨q1, ⟨e1, e2, e3, e4, e5, e6⟩, q3, q4, q5⟩ := m
  exact ⟨q1, ⟨(hI_so (by omega)).trans e1, (hI_so (by omega)).trans e2, (hI_so (by omega)).trans e3, (hI_so (by omega)).trans e4, (hI_so (by omega)).trans e5, (hI_so (by omega)).trans e6⟩, fun p hp => (hI_so (by omega)).trans (q3 p hp), fun s hs => ⟨(hI_so (by omega)).trans (q4 s hs).1, (hI_so (by omega)).trans (q4 s hs).2.1, (hI_so (by omega)).trans (q4 s hs).2.2⟩, fun t ht => ⟨(hI_so (by omega)).trans (q5 t ht).1, (hI_so (by omega)).trans (q5 t ht).2.1, (hI_so (by omega)).trans (q5 t ht).2.2.1, (hI_so (by omega)).trans (q5 t ht).2.2.2.1, (hI_so (by omega)).trans (q5 t ht).2.2.2.2⟩⟩
theorem RM_plan {j : Nat} {v : Option Nat} (m : RM c pl h) : RM c (upd1 pl j v) (sI h 8 4 j (oI v)) := by
  obtain ⟨q1, ⟨e1, e2, e3, e4, e5, e6⟩, q3, q4, q5⟩ := m
  refine ⟨q1, ⟨(hI_so (by omega)).trans e1, (hI_so (by omega)).trans e2, (hI_so (by omega)).trans e3, (hI_so (by omega)).trans e4, (hI_so (by omega)).trans e5, (hI_so (by omega)).trans e6⟩, fun p hp => (hI_so (by omega)).trans (q3 p hp), fun s hs => ⟨(hI_so (by omega)).trans (q4 s hs).1, (hI_so (by omega)).trans (q4 s hs).2.1, (hI_so (by omega)).trans (q4 s hs).2.2⟩, fun t ht => ⟨(hI_so (by omega)).trans (q5 t ht).1, (hI_so (by omega)).trans (q5 t ht).2.1, (hI_so (by omega)).trans (q5 t ht).2.2.1, (hI_so (by omega)).trans (q5 t ht).2.2.2.1, ?_⟩⟩
  by_cases e2 : t = j
  · subst e2; rw [upd_k]; exact hI_ss
  · rw [upd_o e2]; exact (hI_so (by omega)).trans (q5 t ht).2.2.2.2
theorem kept_loop (w : Wf c) {L1 L2 : Option AV} (kk : ∀ h', FM h h' → (∀ k i s, ¬ (k = 10 ∧ i = 1) → hI h' k i s = hI h k i s) → (∀ t, t < cN c → hI h' 10 1 t = B01 (kpt c true t)) → WP d 69 90 [some (vr 4 0), L1, L2, some (vi (nI (cN c)))] [] h' Q) : ∀ (r j : Nat) (h' : AH), j + r = cN c → RM c pl h' → FM h h' → (∀ k i s, ¬ (k = 10 ∧ i = 1) → hI h' k i s = hI h k i s) → (∀ t, t < j → hI h' 10 1 t = B01 (kpt c true t)) → WP d 69 52 [some (vr 4 0), L1, L2, some (vi (nI j))] [] h' Q := by
  have wN := Wf_N w
  have wF := Wf_F w
  intro r
  induction r with
  | zero =>
    intro j h' hj m a ai az
    obtain rfl : j = cN c := by omega
    iterate 3 refine wp_s rfl ?_
    rw [RM_N m]
    refine wp_s rfl ?_
    refine br_ge (fun e => ?_) (fun e => absurd (nI_le (Nat.le_refl _) (by omega)) e)
    exact kk h' a ai az
  | succ r ih =>
    intro j h' hj m a ai az
    have hj' : j < cN c := by omega
    have hz := Wf_z w hj'
    have ht := Wf_t w hj'
    have fin : ∀ b : Bool, b = kpt c true j → WP d 69 83 [some (vr 4 0), L1, L2, some (vi (nI j))] [vi (B01 b), vi (nI j), vr 10 1] h' Q := by
      intro b hb
      refine wp_zast rfl (by omega) (B01_or _) ?_
      iterate 2 refine wp_s rfl ?_
      rw [nI_1]
      refine ih (j + 1) _ (by omega) (RM_s (by omega) m) (FM_t a ⟨fun k i s q1 q2 q3 => hI_so (by omega), rfl, rfl, rfl, rfl, rfl⟩) (fun k i s q => (hI_so (by omega)).trans (ai k i s q)) (fun t ht => ?_)
      by_cases e2 : t = j
      · subst e2; rw [hI_ss, hb]
      · exact (hI_so (by omega)).trans (az t (by omega))
    iterate 3 refine wp_s rfl ?_
    rw [RM_N m]
    refine wp_s rfl ?_
    refine br_ge (fun e => absurd e (nI_ge hj' (by omega))) (fun e => ?_)
    repeat refine wp_s rfl ?_
    rw [RM_9 m]
    refine wp_iald rfl rfl (by decide) (by show j < 6; omega) ?_
    repeat refine wp_s rfl ?_
    rw [RM_15 m, RM_A m hj', RM_F m]
    refine br_ge (fun e1 => ?_) (fun e1 => ?_)
    · have := (nI_leI (by omega) (by omega)).1 e1
      refine wp_s rfl ?_
      exact fin false (by simp [kpt]; omega)
    · have := (nI_ltI (by omega) (by omega)).1 (Int32.not_le.1 e1)
      iterate 2 refine wp_s rfl ?_
      exact fin true (by simp [kpt]; omega)
/-- what the last loop writes -/
def FQ (h h' : AH) : Prop := (∀ k i s, ¬ (k = 8 ∧ (i = 4 ∨ i = 7)) → ¬ (k = 4 ∧ s = 21) → hI h' k i s = hI h k i s) ∧ hA h' = hA h ∧ hJ h' = hJ h ∧ hC h' = hC h ∧ hZ h' = hZ h ∧ hS h' = hS h
theorem FQ_r : FQ h h := ⟨fun _ _ _ _ _ => rfl, rfl, rfl, rfl, rfl, rfl⟩
theorem FQ_t (a : FQ h h') (b : FQ h' h2) : FQ h h2 := ⟨fun k i s q1 q2 => (b.1 k i s q1 q2).trans (a.1 k i s q1 q2), b.2.1.trans a.2.1, b.2.2.1.trans a.2.2.1, b.2.2.2.1.trans a.2.2.2.1, b.2.2.2.2.1.trans a.2.2.2.2.1, b.2.2.2.2.2.trans a.2.2.2.2.2⟩
theorem FQ_s {k i s : Nat} {v : Int32} (q : (k = 8 ∧ (i = 4 ∨ i = 7)) ∨ (k = 4 ∧ s = 21)) : FQ h (sI h k i s v) := ⟨fun k' i' s' q1 q2 => hI_so (by omega), rfl, rfl, rfl, rfl, rfl⟩
theorem mch_loop (w : Wf c) (bp : Bd c pl) (bp' : Bd c pl') {L1 L2 : Option AV} (hb : ∀ t, t < cN c → hI h 8 6 t = oI (pl' t)) (kk : ∀ h', FQ h h' → RM c pl' h' → hI h' 4 0 21 = nI (chL pl pl' (cN c)).length → (∀ s (hs : s < (chL pl pl' (cN c)).length), hI h' 8 7 s = nI (chL pl pl' (cN c))[s]) → WP d 69 186 [some (vr 4 0), L1, L2, some (vi (nI (cN c)))] [] h' Q) : ∀ (r j : Nat) (h' : AH) (plx : Pl), j + r = cN c → RM c plx h' → (∀ t, t < j → plx t = pl' t) → (∀ t, j ≤ t → plx t = pl t) → FQ h h' → hI h' 4 0 21 = nI (chL pl pl' j).length → (∀ s (hs : s < (chL pl pl' j).length), hI h' 8 7 s = nI (chL pl pl' j)[s]) → WP d 69 125 [some (vr 4 0), L1, L2, some (vi (nI j))] [] h' Q := by
  have wN := Wf_N w
  intro r
  induction r with
  | zero =>
    intro j h' plx hj m hx hx2 a e21 e7
    obtain rfl : j = cN c := by omega
    iterate 3 refine wp_s rfl ?_
    rw [RM_N m]
    refine wp_s rfl ?_
    refine br_ge (fun e => ?_) (fun e => absurd (nI_le (Nat.le_refl _) (by omega)) e)
    exact kk h' a (RM_congr hx m) e21 e7
  | succ r ih =>
    intro j h' plx hj m hx hx2 a e21 e7
    have hj' : j < cN c := by omega
    have hlen : (chL pl pl' j).length ≤ j := chL_len
    have fin : ∀ h1, RM c plx h1 → FQ h h1 → hI h1 4 0 21 = nI (chL pl pl' (j + 1)).length → (∀ s (hs : s < (chL pl pl' (j + 1)).length), hI h1 8 7 s = nI (chL pl pl' (j + 1))[s]) → WP d 69 168 [some (vr 4 0), L1, L2, some (vi (nI j))] [] h1 Q := by
      intro h1 m1 a1 e1 e2
      repeat refine wp_s rfl ?_
      rw [RM_14 m1]
      refine wp_iald rfl rfl (by decide) (by show j < 6; omega) ?_
      rw [RM_12 m1, a1.1 8 6 j (by omega) (by omega), hb j hj']
      refine wp_iast rfl rfl (by decide) (by show j < 6; omega) ?_
      iterate 2 refine wp_s rfl ?_
      rw [nI_1]
      refine ih (j + 1) _ (upd1 plx j (pl' j)) (by omega) (RM_plan m1) (fun t ht => ?_) (fun t ht => ?_) (FQ_t a1 (FQ_s (by omega))) ((hI_so (by omega)).trans e1) (fun s hs => (hI_so (by omega)).trans (e2 s hs))
      · by_cases e3 : t = j
        · subst e3; exact upd_k
        · rw [upd_o e3]; exact hx t (by omega)
      · rw [upd_o (by omega)]; exact hx2 t (by omega)
    iterate 3 refine wp_s rfl ?_
    rw [RM_N m]
    refine wp_s rfl ?_
    refine br_ge (fun e => absurd e (nI_ge hj' (by omega))) (fun e => ?_)
    repeat refine wp_s rfl ?_
    rw [RM_14 m]
    refine wp_iald rfl rfl (by decide) (by show j < 6; omega) ?_
    repeat refine wp_s rfl ?_
    rw [RM_12 m]
    refine wp_iald rfl rfl (by decide) (by show j < 6; omega) ?_
    refine wp_s rfl ?_
    rw [a.1 8 6 j (by omega) (by omega), hb j hj', RM_p m hj', hx2 j (Nat.le_refl _)]
    refine br_eq (fun e1 => ?_) (fun e1 => ?_)
    · have e1' : pl j = pl' j := ((oI_inj (Bd_1 w bp' hj') (Bd_1 w bp hj')).1 e1).symm
      have es : chL pl pl' (j + 1) = chL pl pl' j := by rw [chL_s, if_pos e1', List.append_nil]
      refine fin h' m a (by rw [es]; exact e21) ?_
      rw [es]; exact e7
    · have e1' : ¬ pl j = pl' j := fun q => e1 (by rw [q])
      have es : chL pl pl' (j + 1) = chL pl pl' j ++ [j] := by rw [chL_s, if_neg e1']
      repeat refine wp_s rfl ?_
      rw [RM_22 m, e21]
      refine wp_iast rfl rfl (by decide) (by show (chL pl pl' j).length < 6; omega) ?_
      iterate 5 refine wp_s rfl ?_
      rw [show hI (sI h' 8 7 (chL pl pl' j).length (nI j)) 4 0 21 = nI (chL pl pl' j).length from (hI_so (by omega)).trans e21, nI_1]
      refine wp_s rfl ?_
      refine fin _ (RM_s (by omega) (RM_s (by omega) m)) (FQ_t a (FQ_t (FQ_s (by omega)) (FQ_s (by omega)))) ?_ ?_
      · rw [es, List.length_append]; exact hI_ss
      · rw [es]
        intro s hs
        rw [List.length_append, show [j].length = 1 from rfl] at hs
        rw [hI_so (by omega)]
        by_cases e3 : s = (chL pl pl' j).length
        · subst e3
          rw [hI_ss]
          simp
        · rw [hI_so (by omega), e7 s (by omega), List.getElem_append_left]
theorem Sp_wS (sp : Sp c) (hp : p < cP c) {f t : Int32} : Sp (wS c p f t) := by
  intro s hs
  have hs : s < cS c + 1 := hs
  by_cases e : s = cS c
  · rw [show cO (wS c p f t) s = (p, f, t) from if_pos e]; exact hp
  · rw [show cO (wS c p f t) s = cO c s from if_neg e]; exact sp s (by omega)
theorem S_mabsent (w : Wf c) (hd : 6 ≤ d) (sp : Sp c) (bp : Bd c pl) (m : MS c pl pd told chs h)
    (kt : ∀ p b h', p < cP c → x = nI p → bel y 96 = true → pd = true → cS c < 20 → Opt (VM (wS c p y 96) pl (kpt (wS c p y 96) true)) (WM (wS c p y 96) pl true) ((cP c + 1) ^ cN c) (some b) → MS (wS c p y 96) (dgf (wS c p y 96) b) true (-1) (chL pl (dgf (wS c p y 96) b) (cN c)) h' → FN h h' → hI h' 4 0 0 = 0 → Q (.inl (some (vi (nI (chL pl (dgf (wS c p y 96) b) (cN c)).length)))) h')
    (kf : ∀ p v k h', p < cP c → x = nI p → bel y 96 = true → pd = true → cS c < 20 → Opt (VM (wS c p y 96) pl (kpt (wS c p y 96) true)) (WM (wS c p y 96) pl true) ((cP c + 1) ^ cN c) none → FilI (wS c p y 96) pl (kpt (wS c p y 96) true) ((cP c + 1) ^ cN c) v → k ≤ cN c → ((v = -1 ∧ k = 0) ∨ v = nI k) → MS c pl pd (faI (wS c p y 96) (cN c - k) k) chs h' → FN h h' → hI h' 4 0 0 = 0 → Q (.inl (some (vi (-1)))) h')
    (ke : ∀ h' n, n = thw (bel x (nI (cP c))) (bel y 96) (pd && decide (cS c < 20)) → ¬ n = 0 → MS c pl pd told chs h' → FN h h' → hI h' 4 0 0 = nI n → Q (.inl (some (vi 0))) h') : WP d 69 0 [some (vr 4 0), some (vi x), some (vi y), none] [] h Q := by
  have wS20 := Wf_S w
  have wP := Wf_P w
  have wN := Wf_N w
  iterate 3 refine wp_s rfl ?_
  refine wp_cc rfl (by omega) (S_misPerson m.1 ?_)
  iterate 3 refine wp_s rfl ?_
  refine wp_cc rfl (by omega) (S_within ?_)
  rw [wth_bel96]
  have main : ∀ e3 : Bool, e3 = (pd && decide (cS c < 20)) → WP d 69 34 [some (vr 4 0), some (vi x), some (vi y), none] [vi (B01 e3), vi (B01 (bel y 96)), vi (B01 (bel x (nI (cP c)))), vr 4 0] h Q := by
    intro e3 he3
    refine wp_cc rfl (by omega) (S_goes ?_)
    have kf' := fun hn => ke _ _ rfl hn (MS_0 (v := nI (thw (bel x (nI (cP c))) (bel y 96) e3)) m) (FM_FN FM_0) (by rw [he3]; exact hI_ss)
    cases e1 : bel x (nI (cP c)) with
    | false =>
      rw [e1] at kf'
      repeat refine wp_s rfl ?_
      exact wp_e rfl (kf' (by simp [thw]))
    | true =>
      cases e2 : bel y 96 with
      | false =>
        rw [e1, e2] at kf'
        repeat refine wp_s rfl ?_
        exact wp_e rfl (kf' (by simp [thw]))
      | true =>
        cases e3 with
        | false =>
          rw [e1, e2, ← he3] at kf'
          repeat refine wp_s rfl ?_
          exact wp_e rfl (kf' (by simp [thw]))
        | true =>
          obtain ⟨p, hp, rfl⟩ := bel_t (by omega) e1
          have hpd : pd = true := by cases hq : pd with
            | true => rfl
            | false => rw [hq] at he3; exact absurd he3 (by simp)
          have hS : cS c < 20 := by rw [hpd] at he3; exact of_decide_eq_true (by simpa using he3.symm)
          have m1 : MS c pl pd told chs (sI h 4 0 0 (nI (thw true true true))) := MS_0 m
          have t1 : hI (sI h 4 0 0 (nI (thw true true true))) 4 0 0 = 0 := hI_ss
          have n1 : FN h (sI h 4 0 0 (nI (thw true true true))) := FM_FN FM_0
          iterate 5 refine wp_s rfl ?_
          generalize sI h 4 0 0 (nI (thw true true true)) = h1 at *
          refine wp_cc rfl (by omega) (S_leave m1.1 hS ?_)
          have w1 : Wf (wS c p y 96) := Wf_wS w hS
          have sp1 : Sp (wS c p y 96) := Sp_wS sp hp
          have m2 : MS (wS c p y 96) pl pd told chs (leaveH c h1 (nI p) y 96) := ⟨leave_RM m1.1, leave_MX m1.2⟩
          have t2 : hI (leaveH c h1 (nI p) y 96) 4 0 0 = 0 := (leave_I (by omega) (by omega)).trans t1
          have n2 : FN h (leaveH c h1 (nI p) y 96) := FN_t n1 leave_FN
          generalize leaveH c h1 (nI p) y 96 = h2 at *
          iterate 2 refine wp_s rfl ?_
          refine kept_loop (h := h2) (c := wS c p y 96) (pl := pl) w1 ?_ (cN c) 0 h2 (Nat.zero_add _) m2.1 FM_r (fun _ _ _ _ => rfl) (fun t ht => absurd ht (by omega))
          intro h3 a3 ai az
          have m3 : MS (wS c p y 96) pl pd told chs h3 := ⟨RM_FM a3 m2.1, MX_eq (fun s hs => ai 4 0 s (by omega)) (fun s => ai 8 7 s (by omega)) m2.2⟩
          have t3 : hI h3 4 0 0 = 0 := (ai 4 0 0 (by omega)).trans t2
          have n3 : FN h h3 := FN_t n2 (FM_FN a3)
          iterate 2 refine wp_s rfl ?_
          refine wp_cc rfl (by omega) (S_mseek (kp := kpt (wS c p y 96) true) (cb := true) w1 (by omega) sp1 bp m3.1 az ?_)
          intro h4 o v a4 lb op e26 fil
          have m4 := MS_FK a4 m3
          have t4 : hI h4 4 0 0 = 0 := (a4.1 4 0 0 (by omega) (by omega)).trans t3
          obtain ⟨k, hk, hy⟩ := FilI_k fil
          refine wp_s rfl ?_
          refine wp_cc rfl (by omega) (S_tell w1 m4.1 hk (by rw [e26]; exact hy) (LBM_fb lb) ?_)
          intro h5 a5 b4 bk e20
          have m5 : RM (wS c p y 96) pl h5 := RM_FM a5 m4.1
          have t5 : hI h5 4 0 0 = 0 := (b4 0 (by omega)).trans t4
          have n5 : FN h h5 := FN_t n3 (FN_t (FM_FN (FK_FM a4)) (FM_FN a5))
          iterate 2 refine wp_s rfl ?_
          rw [b4 23 (by omega), LBM_fb lb]
          cases o with
          | none =>
            iterate 6 refine wp_s rfl ?_
            rw [RM_S m5, show nI (cS (wS c p y 96)) - 1 = nI (cS c) from nI_pred _]
            iterate 2 refine wp_s rfl ?_
            refine wp_e rfl (kf p v k _ hp rfl e2 hpd hS op fil hk hy ⟨?_, ?_, ?_, m.2.2.2.1, ?_, fun s hs => ?_⟩ (FN_t n5 (FN_s (by omega))) ((hI_so (by omega)).trans t5))
            · obtain ⟨q1, ⟨e1, e2, e3, e4, e5, e6⟩, q3, q4, q5⟩ := m5
              refine ⟨q1, ⟨(hI_so (by omega)).trans e1, hI_ss, (hI_so (by omega)).trans e3, (hI_so (by omega)).trans e4, (hI_so (by omega)).trans e5, (hI_so (by omega)).trans e6⟩, fun p hp => (hI_so (by omega)).trans (q3 p hp), fun s hs => ?_, fun t ht => ⟨(hI_so (by omega)).trans (q5 t ht).1, (hI_so (by omega)).trans (q5 t ht).2.1, (hI_so (by omega)).trans (q5 t ht).2.2.1, (hI_so (by omega)).trans (q5 t ht).2.2.2.1, (hI_so (by omega)).trans (q5 t ht).2.2.2.2⟩⟩
              have := q4 s (show s < cS c + 1 by omega)
              rw [show cO (wS c p y 96) s = cO c s from if_neg (by omega)] at this
              exact ⟨(hI_so (by omega)).trans this.1, (hI_so (by omega)).trans this.2.1, (hI_so (by omega)).trans this.2.2⟩
            · exact (hI_so (by omega)).trans ((b4 16 (by omega)).trans m4.2.1)
            · exact (hI_so (by omega)).trans e20
            · exact (hI_so (by omega)).trans ((b4 21 (by omega)).trans m4.2.2.2.2.1)
            · exact (hI_so (by omega)).trans ((bk 8 7 s (by omega)).trans (m4.2.2.2.2.2 s hs))
          | some b =>
            iterate 6 refine wp_s rfl ?_
            have m6 : RM (wS c p y 96) pl (sI h5 4 0 21 0) := RM_s (by omega) m5
            refine mch_loop (c := wS c p y 96) (pl := pl) (pl' := dgf (wS c p y 96) b) (h := sI h5 4 0 21 0) w1 bp (dgf_bd b) (fun t ht => (hI_so (by omega)).trans ((bk 8 6 t (by omega)).trans (lb.2.2.2 t ht))) ?_ (cN c) 0 _ pl (Nat.zero_add _) m6 (fun t ht => absurd ht (by omega)) (fun _ _ => rfl) FQ_r hI_ss (fun s hs => absurd hs (Nat.not_lt_zero _))
            intro h7 a7 m7 e21 e7
            have hlen : (chL pl (dgf (wS c p y 96) b) (cN c)).length ≤ cN c := chL_len
            iterate 2 refine wp_s rfl ?_
            rw [e21]
            refine wp_e rfl (kt p b h7 hp rfl e2 hpd hS op ⟨m7, ?_, ?_, by omega, e21, e7⟩ (FN_t n5 (FN_t (FN_s (by omega)) ⟨fun k i s q1 q2 q3 q4 q5 => a7.1 k i s (by omega) (by omega), a7.2⟩)) ?_)
            · exact (a7.1 4 0 16 (by omega) (by omega)).trans ((hI_so (by omega)).trans ((b4 16 (by omega)).trans (m4.2.1.trans (by rw [hpd]))))
            · exact (a7.1 4 0 20 (by omega) (by omega)).trans ((hI_so (by omega)).trans e20)
            · exact (a7.1 4 0 0 (by omega) (by omega)).trans ((hI_so (by omega)).trans t5)
  iterate 2 refine wp_s rfl ?_
  rw [m.2.1]
  cases epd : pd with
  | false =>
    iterate 2 refine wp_s rfl ?_
    exact main false (by rw [epd]; rfl)
  | true =>
    iterate 4 refine wp_s rfl ?_
    rw [RM_S m.1]
    refine wp_s rfl ?_
    refine br_ge (fun e2 => ?_) (fun e2 => ?_)
    · have : ¬ cS c < 20 := fun q => nI_ge (b := 20) q (by omega) e2
      refine wp_s rfl ?_
      exact main false (by rw [epd, decide_eq_false this]; rfl)
    · have hS' : cS c < 20 := by
        rcases Nat.lt_or_ge (cS c) 20 with q | q
        · exact q
        · exact absurd (nI_le (a := 20) q (by omega)) e2
      iterate 2 refine wp_s rfl ?_
      exact main true (by rw [epd, decide_eq_true hS']; rfl)
end MABS
end
section
-- THE MODEL'S CALLS: SWAP
section MSW
variable {c : Cf} {pl pl' f : Pl} {kp : Nat → Bool} {pd cb b : Bool} {told : Int32} {chs : List Nat} {d p t : Nat} {h h' h2 : AH} {Q : Oc → AH → Prop} {x y z : Int32}
theorem S_isEmptied (w : Wf c) (m : RM c pl h) (ht : t < cN c) {v : Option Nat} (hv : ∀ q, v = some q → q < 1000) (kt : cY c t = true ∧ v = none → Q (.inl (some (vi 1))) h) (kf : ¬ (cY c t = true ∧ v = none) → Q (.inl (some (vi 0))) h) : WP d 71 0 [some (vr 4 0), some (vi (nI t)), some (vi (oI v))] [] h Q := by
  have wN := Wf_N w
  repeat refine wp_s rfl ?_
  rw [RM_11 m]
  refine wp_zald rfl (by omega) ?_
  rw [RM_Y m ht]
  cases ey : cY c t with
  | false =>
    repeat refine wp_s rfl ?_
    exact wp_e rfl (kf (fun q => absurd (ey.symm.trans q.1) (by simp)))
  | true =>
    iterate 4 refine wp_s rfl ?_
    refine br_ne (fun e => ?_) (fun e => ?_)
    · repeat refine wp_s rfl ?_
      exact wp_e rfl (kf (fun q => e (by rw [q.2]; rfl)))
    · repeat refine wp_s rfl ?_
      exact wp_e rfl (kt ⟨ey, (oI_m1 hv).1 e⟩)
theorem S_isUnfit (w : Wf c) (hd : 1 ≤ d) (sp : Sp c) (m : RM c pl h) (ht : t < cN c) {v : Option Nat} (hv : ∀ q, v = some q → q < cP c) (kt : (∃ p, v = some p ∧ ¬ suitP c p t) → Q (.inl (some (vi 1))) h) (kf : ¬ (∃ p, v = some p ∧ ¬ suitP c p t) → Q (.inl (some (vi 0))) h) : WP d 72 0 [some (vr 4 0), some (vi (nI t)), some (vi (oI v))] [] h Q := by
  have wP := Wf_P w
  cases v with
  | none =>
    repeat refine wp_s rfl ?_
    exact wp_e rfl (kf (fun ⟨p, q, _⟩ => absurd q (by simp)))
  | some p =>
    have hp := hv p rfl
    iterate 3 refine wp_s rfl ?_
    refine br_eq (fun e => absurd e (nI_m1 (by omega))) (fun e => ?_)
    iterate 3 refine wp_s rfl ?_
    refine wp_cc rfl (by omega) (S_msuits w m hp ht sp (fun e2 => ?_) (fun e2 => ?_))
    · repeat refine wp_s rfl ?_
      refine wp_e rfl (kf (fun ⟨p', q, q2⟩ => ?_))
      injection q with q
      subst q
      exact q2 e2
    · repeat refine wp_s rfl ?_
      exact wp_e rfl (kt ⟨p, rfl, e2⟩)
theorem exch_a {a b : Nat} : exch pl a b a = pl b := by
  unfold exch
  by_cases e : a = b
  · rw [if_pos e, e]
  · rw [if_neg e, if_pos rfl]
theorem exch_b {a b : Nat} : exch pl a b b = pl a := if_pos rfl
theorem S_mswap (w : Wf c) (hd : 4 ≤ d) (sp : Sp c) (bp : Bd c pl) (m : MS c pl pd told chs h)
    (kz : ∀ a b h', a < cN c → b < cN c → x = nI a → y = nI b → pd = true → (cA c a < cF c ∨ cA c b < cF c) → MS c pl pd told chs h' → FN h h' → hI h' 4 0 0 = 0 → Q (.inl (some (vi 1))) h')
    (kt : ∀ a b n h', a < cN c → b < cN c → x = nI a → y = nI b → pd = true → ¬ (cA c a < cF c ∨ cA c b < cF c) → WhyIs c (exch pl a b) a b n → MS c (if n = 0 then exch pl a b else pl) pd told chs h' → FN h h' → hI h' 4 0 0 = 0 → Q (.inl (some (vi (nI n)))) h')
    (ke : ∀ h' n, n = thw (bel x (nI (cN c)) && bel y (nI (cN c))) pd true → ¬ n = 0 → MS c pl pd told chs h' → FN h h' → hI h' 4 0 0 = nI n → Q (.inl (some (vi 0))) h') : WP d 73 0 [some (vr 4 0), some (vi x), some (vi y), none, none] [] h Q := by
  have wN := Wf_N w
  have wP := Wf_P w
  have wF := Wf_F w
  have wL := Wf_L w
  have main : ∀ e1 : Bool, e1 = (bel x (nI (cN c)) && bel y (nI (cN c))) → WP d 73 22 [some (vr 4 0), some (vi x), some (vi y), none, none] [vi (B01 e1), vr 4 0] h Q := by
    intro e1 he1
    iterate 2 refine wp_s rfl ?_
    rw [m.2.1]
    refine wp_s rfl ?_
    refine wp_cc rfl (by omega) (S_goes (e := true) ?_)
    have ke' := fun hn => ke _ _ rfl hn (MS_0 (v := nI (thw e1 pd true)) m) (FM_FN FM_0) (by rw [he1]; exact hI_ss)
    cases e1 with
    | false =>
      rw [← he1] at ke'
      repeat refine wp_s rfl ?_
      exact wp_e rfl (ke' (by simp [thw]))
    | true =>
      cases epd : pd with
      | false =>
        rw [← he1, epd] at ke'
        rw [epd] at m
        repeat refine wp_s rfl ?_
        exact wp_e rfl (ke' (by simp [thw]))
      | true =>
        have hb2 : bel x (nI (cN c)) = true ∧ bel y (nI (cN c)) = true := by
          have := he1.symm
          simpa using this
        obtain ⟨a, ha, rfl⟩ := bel_t (by omega) hb2.1
        obtain ⟨b, hb, rfl⟩ := bel_t (by omega) hb2.2
        have za := Wf_z w ha
        have zb := Wf_z w hb
        have ta := Wf_t w ha
        have tb := Wf_t w hb
        have m1 : MS c pl pd told chs (sI h 4 0 0 (nI (thw true true true))) := MS_0 m
        have t1 : hI (sI h 4 0 0 (nI (thw true true true))) 4 0 0 = 0 := hI_ss
        have n1 : FN h (sI h 4 0 0 (nI (thw true true true))) := FM_FN FM_0
        iterate 2 refine wp_s rfl ?_
        generalize sI h 4 0 0 (nI (thw true true true)) = h1 at *
        refine wp_cc rfl (by omega) (S_tryPlan w m1.1 (fun h2 a2 tr a8 a4 => ?_))
        have m2 := MS_FK a2 m1
        repeat refine wp_s rfl ?_
        rw [RM_12 m2.1]
        refine wp_iald rfl rfl (by decide) (by show b < 6; omega) ?_
        rw [RM_13 m2.1, RM_p m2.1 hb]
        refine wp_iast rfl rfl (by decide) (by show a < 6; omega) ?_
        repeat refine wp_s rfl ?_
        have m3 : RM c pl (sI h2 8 5 a (oI (pl b))) := RM_s (by omega) m2.1
        rw [RM_12 m3]
        refine wp_iald rfl rfl (by decide) (by show a < 6; omega) ?_
        rw [RM_13 m3, RM_p m3 ha]
        refine wp_iast rfl rfl (by decide) (by show b < 6; omega) ?_
        have f4 : FK h2 (sI (sI h2 8 5 a (oI (pl b))) 8 5 b (oI (pl a))) := FK_t (FK_s (by omega)) (FK_s (by omega))
        have m4 : MS c pl pd told chs (sI (sI h2 8 5 a (oI (pl b))) 8 5 b (oI (pl a))) := MS_FK f4 m2
        have t4 : hI (sI (sI h2 8 5 a (oI (pl b))) 8 5 b (oI (pl a))) 4 0 0 = 0 := (f4.1 4 0 0 (by omega) (by omega)).trans ((a4 0).trans t1)
        have n4 : FN h (sI (sI h2 8 5 a (oI (pl b))) 8 5 b (oI (pl a))) := FN_t n1 (FN_t (FM_FN (FK_FM a2)) (FM_FN (FK_FM f4)))
        have bx : Bd c (exch pl a b) := by
          intro t p ht q
          unfold exch at q
          split at q
          · exact bp a p ha q
          · split at q
            · exact bp b p hb q
            · exact bp t p ht q
        have tr4 : TR c (exch pl a b) (sI (sI h2 8 5 a (oI (pl b))) 8 5 b (oI (pl a))) := by
          intro t ht
          unfold exch
          by_cases e1 : t = b
          · subst e1; rw [if_pos rfl]; exact hI_ss
          · rw [if_neg e1, hI_so (by omega)]
            by_cases e2 : t = a
            · subst e2; rw [if_pos rfl]; exact hI_ss
            · rw [if_neg e2, hI_so (by omega)]; exact tr t ht
        generalize sI (sI h2 8 5 a (oI (pl b))) 8 5 b (oI (pl a)) = h4 at *
        repeat refine wp_s rfl ?_
        rw [RM_12 m4.1]
        refine wp_iald rfl rfl (by decide) (by show a < 6; omega) ?_
        rw [RM_p m4.1 ha]
        repeat refine wp_s rfl ?_
        rw [RM_12 m4.1]
        refine wp_iald rfl rfl (by decide) (by show b < 6; omega) ?_
        rw [RM_p m4.1 hb]
        repeat refine wp_s rfl ?_
        rw [RM_9 m4.1]
        refine wp_iald rfl rfl (by decide) (by show a < 6; omega) ?_
        repeat refine wp_s rfl ?_
        rw [RM_A m4.1 ha, RM_F m4.1]
        refine br_lt (fun e => ?_) (fun e => ?_)
        · repeat refine wp_s rfl ?_
          exact wp_e rfl (kz a b h4 ha hb rfl rfl epd (.inl ((nI_ltI (by omega) (by omega)).1 e)) m4 n4 t4)
        repeat refine wp_s rfl ?_
        rw [RM_9 m4.1]
        refine wp_iald rfl rfl (by decide) (by show b < 6; omega) ?_
        repeat refine wp_s rfl ?_
        rw [RM_A m4.1 hb, RM_F m4.1]
        refine br_ge (fun e2 => ?_) (fun e2 => ?_)
        rotate_left
        · repeat refine wp_s rfl ?_
          exact wp_e rfl (kz a b h4 ha hb rfl rfl epd (.inr ((nI_ltI (by omega) (by omega)).1 (Int32.not_le.1 e2))) m4 n4 t4)
        have hnf : ¬ (cA c a < cF c ∨ cA c b < cF c) := by
          have h1 := (nI_leI (by omega) (by omega)).1 e2
          have h2 : ¬ cA c a < cF c := fun q => e (nI_lt q (by omega))
          omega
        have ret : ∀ n, ¬ n = 0 → WhyIs c (exch pl a b) a b n → Q (.inl (some (vi (nI n)))) h4 := fun n hn hw => kt a b n h4 ha hb rfl rfl epd hnf hw (by rw [if_neg hn]; exact m4) n4 t4
        have hqb : ∀ q, pl b = some q → q < 1000 := fun q e => by have := bp b q hb e; omega
        have hqa : ∀ q, pl a = some q → q < 1000 := fun q e => by have := bp a q ha e; omega
        have ea : exch pl a b a = pl b := exch_a
        have eb : exch pl a b b = pl a := exch_b
        -- 2
        iterate 3 refine wp_s rfl ?_
        have two : W2 c (exch pl a b) a b → WP d 73 125 [some (vr 4 0), some (vi (nI a)), some (vi (nI b)), some (vi (oI (pl a))), some (vi (oI (pl b)))] [] h4 Q := by
          intro hw
          repeat refine wp_s rfl ?_
          exact wp_e rfl (ret 2 (by omega) (.inl ⟨rfl, hw⟩))
        refine wp_cc rfl (by omega) (S_isEmptied w m4.1 ha hqb (fun q => ?_) (fun n2a => ?_))
        · refine wp_s rfl ?_
          exact two (.inl (by rw [ea]; exact q))
        iterate 4 refine wp_s rfl ?_
        refine wp_cc rfl (by omega) (S_isEmptied w m4.1 hb hqa (fun q => ?_) (fun n2b => ?_))
        · refine wp_s rfl ?_
          exact two (.inr (by rw [eb]; exact q))
        have n2 : ¬ W2 c (exch pl a b) a b := by
          unfold W2
          rw [ea, eb]
          rintro (q | q)
          · exact n2a q
          · exact n2b q
        refine wp_s rfl ?_
        -- 3
        have three : W3 c (exch pl a b) a b → WP d 73 146 [some (vr 4 0), some (vi (nI a)), some (vi (nI b)), some (vi (oI (pl a))), some (vi (oI (pl b)))] [] h4 Q := by
          intro hw
          repeat refine wp_s rfl ?_
          exact wp_e rfl (ret 3 (by omega) (.inr (.inl ⟨rfl, n2, hw⟩)))
        iterate 3 refine wp_s rfl ?_
        refine wp_cc rfl (by omega) (S_isUnfit w (by omega) sp m4.1 ha (fun q => bp b q hb) (fun q => ?_) (fun n3a => ?_))
        · refine wp_s rfl ?_
          exact three (.inl (by rw [ea]; exact q))
        iterate 4 refine wp_s rfl ?_
        refine wp_cc rfl (by omega) (S_isUnfit w (by omega) sp m4.1 hb (fun q => bp a q ha) (fun q => ?_) (fun n3b => ?_))
        · refine wp_s rfl ?_
          exact three (.inr (by rw [eb]; exact q))
        have n3 : ¬ W3 c (exch pl a b) a b := by
          unfold W3
          rw [ea, eb]
          rintro (q | q)
          · exact n3a q
          · exact n3b q
        refine wp_s rfl ?_
        -- the end
        have zero : ¬ W4 c (exch pl a b) a b → ¬ W5 c (exch pl a b) a b → WP d 73 216 [some (vr 4 0), some (vi (nI a)), some (vi (nI b)), some (vi (oI (pl a))), some (vi (oI (pl b)))] [] h4 Q := by
          intro n4' n5'
          repeat refine wp_s rfl ?_
          rw [RM_12 m4.1]
          refine wp_iast rfl rfl (by decide) (by show a < 6; omega) ?_
          have m5 : RM c (upd1 pl a (pl b)) (sI h4 8 4 a (oI (pl b))) := RM_plan m4.1
          repeat refine wp_s rfl ?_
          rw [RM_12 m5]
          refine wp_iast rfl rfl (by decide) (by show b < 6; omega) ?_
          have m6 : RM c (upd1 (upd1 pl a (pl b)) b (pl a)) (sI (sI h4 8 4 a (oI (pl b))) 8 4 b (oI (pl a))) := RM_plan m5
          have eu : upd1 (upd1 pl a (pl b)) b (pl a) = exch pl a b := rfl
          rw [eu] at m6
          repeat refine wp_s rfl ?_
          refine wp_e rfl (kt a b 0 _ ha hb rfl rfl epd hnf (.inr (.inr (.inr (.inr ⟨rfl, n2, n3, n4', n5'⟩)))) ⟨by rw [if_pos rfl]; exact m6, MX_eq (fun s hs => (hI_so (by omega)).trans (hI_so (by omega))) (fun s => (hI_so (by omega)).trans (hI_so (by omega))) m4.2⟩ (FN_t n4 (FN_t (FN_s (by omega)) (FN_s (by omega)))) ((hI_so (by omega)).trans ((hI_so (by omega)).trans t4)))
        -- 5
        have five : ¬ W4 c (exch pl a b) a b → W5 c (exch pl a b) a b → WP d 73 214 [some (vr 4 0), some (vi (nI a)), some (vi (nI b)), some (vi (oI (pl a))), some (vi (oI (pl b)))] [] h4 Q := by
          intro n4' hw
          repeat refine wp_s rfl ?_
          exact wp_e rfl (ret 5 (by omega) (.inr (.inr (.inr (.inl ⟨rfl, n2, n3, n4', hw⟩)))))
        have five_b : ¬ W4 c (exch pl a b) a b → ¬ (∃ p, pl a = some p ∧ cL c < qua c (exch pl a b) (some p)) → WP d 73 195 [some (vr 4 0), some (vi (nI a)), some (vi (nI b)), some (vi (oI (pl a))), some (vi (oI (pl b)))] [] h4 Q := by
          intro n4' n5a
          have z : ¬ (∃ p, pl b = some p ∧ cL c < qua c (exch pl a b) (some p)) → ¬ W5 c (exch pl a b) a b := by
            intro n5b
            unfold W5
            rw [ea, eb]
            rintro (q | q)
            · exact n5b q
            · exact n5a q
          iterate 3 refine wp_s rfl ?_
          refine br_eq (fun e => ?_) (fun e => ?_)
          · exact zero n4' (z (fun ⟨p, q, _⟩ => by rw [(oI_m1 hqb).1 e] at q; exact absurd q (by simp)))
          · cases ep : pl b with
            | none => exact absurd (by rw [ep]; rfl) e
            | some p =>
              have hq := qua_le (pl := exch pl a b) (v := some p) w
              iterate 2 refine wp_s rfl ?_
              refine wp_cc rfl (by omega) (S_mquarters (p := p) w m4.1 bx tr4 (hqb p ep) ?_)
              iterate 3 refine wp_s rfl ?_
              rw [RM_L m4.1]
              refine br_le (fun e2 => ?_) (fun e2 => ?_)
              · rw [← ep]
                have := (nI_leI (by omega) (by omega)).1 e2
                exact zero n4' (z (fun ⟨p', q, q2⟩ => by rw [ep] at q; injection q with q; subst q; omega))
              · rw [← ep]
                have := (nI_ltI (by omega) (by omega)).1 (Int32.not_le.1 e2)
                exact five n4' (.inl ⟨p, by rw [ea]; exact ep, this⟩)
        have five_a : ¬ W4 c (exch pl a b) a b → WP d 73 178 [some (vr 4 0), some (vi (nI a)), some (vi (nI b)), some (vi (oI (pl a))), some (vi (oI (pl b)))] [] h4 Q := by
          intro n4'
          iterate 3 refine wp_s rfl ?_
          refine br_eq (fun e => ?_) (fun e => ?_)
          · exact five_b n4' (fun ⟨p, q, _⟩ => by rw [(oI_m1 hqa).1 e] at q; exact absurd q (by simp))
          · cases ep : pl a with
            | none => exact absurd (by rw [ep]; rfl) e
            | some p =>
              have hq := qua_le (pl := exch pl a b) (v := some p) w
              iterate 2 refine wp_s rfl ?_
              refine wp_cc rfl (by omega) (S_mquarters (p := p) w m4.1 bx tr4 (hqa p ep) ?_)
              iterate 3 refine wp_s rfl ?_
              rw [RM_L m4.1]
              refine br_gt (fun e2 => ?_) (fun e2 => ?_)
              · rw [← ep]
                have := (nI_ltI (by omega) (by omega)).1 e2
                exact five n4' (.inr ⟨p, by rw [eb]; exact ep, this⟩)
              · rw [← ep]
                have := (nI_leI (by omega) (by omega)).1 (Int32.not_lt.1 e2)
                exact five_b n4' (fun ⟨p', q, q2⟩ => by rw [ep] at q; injection q with q; subst q; omega)
        -- 4
        have four : W4 c (exch pl a b) a b → WP d 73 176 [some (vr 4 0), some (vi (nI a)), some (vi (nI b)), some (vi (oI (pl a))), some (vi (oI (pl b)))] [] h4 Q := by
          intro hw
          repeat refine wp_s rfl ?_
          exact wp_e rfl (ret 4 (by omega) (.inr (.inr (.inl ⟨rfl, n2, n3, hw⟩))))
        have four_b : ¬ (∃ p, pl a = some p ∧ ¬ LC c (exch pl a b) p) → WP d 73 161 [some (vr 4 0), some (vi (nI a)), some (vi (nI b)), some (vi (oI (pl a))), some (vi (oI (pl b)))] [] h4 Q := by
          intro n4a
          have z : ¬ (∃ p, pl b = some p ∧ ¬ LC c (exch pl a b) p) → ¬ W4 c (exch pl a b) a b := by
            intro n4b
            unfold W4
            rw [ea, eb]
            rintro (q | q)
            · exact n4b q
            · exact n4a q
          iterate 3 refine wp_s rfl ?_
          refine br_eq (fun e => ?_) (fun e => ?_)
          · exact five_a (z (fun ⟨p, q, _⟩ => by rw [(oI_m1 hqb).1 e] at q; exact absurd q (by simp)))
          · cases ep : pl b with
            | none => exact absurd (by rw [ep]; rfl) e
            | some p =>
              iterate 2 refine wp_s rfl ?_
              refine wp_cc rfl (by omega) (S_hasNear (p := p) w (by omega) m4.1 bx tr4 (hqb p ep) (fun e2 => ?_) (fun e2 => ?_))
              · rw [← ep]
                refine wp_s rfl ?_
                exact four (.inl ⟨p, by rw [ea]; exact ep, e2⟩)
              · rw [← ep]
                refine wp_s rfl ?_
                exact five_a (z (fun ⟨p', q, q2⟩ => by rw [ep] at q; injection q with q; subst q; exact q2 e2))
        iterate 3 refine wp_s rfl ?_
        refine br_eq (fun e => ?_) (fun e => ?_)
        · exact four_b (fun ⟨p, q, _⟩ => by rw [(oI_m1 hqa).1 e] at q; exact absurd q (by simp))
        · cases ep : pl a with
          | none => exact absurd (by rw [ep]; rfl) e
          | some p =>
            iterate 2 refine wp_s rfl ?_
            refine wp_cc rfl (by omega) (S_hasNear (p := p) w (by omega) m4.1 bx tr4 (hqa p ep) (fun e2 => ?_) (fun e2 => ?_))
            · rw [← ep]
              refine wp_s rfl ?_
              exact four (.inr ⟨p, by rw [eb]; exact ep, e2⟩)
            · rw [← ep]
              refine wp_s rfl ?_
              exact four_b (fun ⟨p', q, q2⟩ => by rw [ep] at q; injection q with q; subst q; exact q2 e2)
  iterate 3 refine wp_s rfl ?_
  refine wp_cc rfl (by omega) (S_misTask m.1 ?_)
  cases ex : bel x (nI (cN c)) with
  | false =>
    iterate 2 refine wp_s rfl ?_
    exact main false (by rw [ex]; rfl)
  | true =>
    iterate 3 refine wp_s rfl ?_
    refine wp_cc rfl (by omega) (S_misTask m.1 ?_)
    cases ey : bel y (nI (cN c)) with
    | false =>
      iterate 2 refine wp_s rfl ?_
      exact main false (by rw [ey, Bool.and_false])
    | true =>
      iterate 3 refine wp_s rfl ?_
      exact main true (by rw [ex, ey]; rfl)
end MSW
end
section
-- THE MAKING OF BOTH
def c00 : Cf := (0, 0, 0, fun _ => 0, fun _ => 0, fun _ => 0, fun _ => 0, fun _ => false, fun _ => (0, 0, 0), 0, 96, 0)
section INIT
variable {d : Nat} {h h' : AH} {Q : Oc → AH → Prop}
theorem S_init0 (e5 : hC h 5 = 0) (e6 : hC h 6 = 0) (e8 : hC h 8 = 0) (z : ∀ s, hI h 0 0 s = 0) (k : ∀ h', (∀ s, hI h' 0 0 s = if s = 9 then 96 else if s = 10 then -1 else 0) → hA h' 0 0 0 = some (5, 0) → hA h' 0 0 1 = some (6, 0) → hA h' 0 0 2 = some (8, 0) → (∀ k, hC h' k = if k = 5 ∨ k = 6 ∨ k = 8 then 1 else hC h k) → hZ h' = hZ h + 3 → hS h' = hS h + 16 → Q (.inl none) h') : WP d 0 0 [some (vr 0 0)] [] h Q := by
  repeat refine wp_s rfl ?_
  refine wp_e rfl (k _ (fun s => ?_) ?_ ?_ ?_ (fun k => ?_) rfl rfl)
  · simp only [hI_sI, hA_sA, hI_sA, hA_sI, hI_al, hA_al, hC_al, hC_sI, hC_sA]
    by_cases e1 : s = 10
    · subst e1; simp
    · by_cases e2 : s = 9
      · subst e2; simp
      · simp [e1, e2, z]
  · simp [hI_sI, hA_sA, hI_sA, hA_sI, hI_al, hA_al, hC_al, hC_sI, hC_sA, e5, e6, e8]
  · simp [hI_sI, hA_sA, hI_sA, hA_sI, hI_al, hA_al, hC_al, hC_sI, hC_sA, e5, e6, e8]
  · simp [hI_sI, hA_sA, hI_sA, hA_sI, hI_al, hA_al, hC_al, hC_sI, hC_sA, e5, e6, e8]
  · simp only [hI_sI, hA_sA, hI_sA, hA_sI, hI_al, hA_al, hC_al, hC_sI, hC_sA, e5, e6, e8]
    by_cases a1 : k = 5
    · subst a1; simp
    · by_cases a2 : k = 6
      · subst a2; simp
      · by_cases a3 : k = 8
        · subst a3; simp
        · simp [a1, a2, a3]
theorem minit_loop (kk : ∀ h', (∀ k i s, k ≠ 8 → hI h' k i s = hI h k i s) → hA h' = hA h → hC h' = hC h → hZ h' = hZ h → hS h' = hS h → Q (.inl none) h') : ∀ (r j : Nat) (h' : AH), j + r = 6 → hA h' 4 0 12 = some (8, 4) → (∀ k i s, k ≠ 8 → hI h' k i s = hI h k i s) → hA h' = hA h → hC h' = hC h → hZ h' = hZ h → hS h' = hS h → WP d 39 120 [some (vr 4 0), some (vi (nI j))] [] h' Q := by
  intro r
  induction r with
  | zero =>
    intro j h' hj m a1 a2 a3 a4 a5
    obtain rfl : j = 6 := by omega
    iterate 3 refine wp_s rfl ?_
    exact wp_e rfl (kk h' a1 a2 a3 a4 a5)
  | succ r ih =>
    intro j h' hj m a1 a2 a3 a4 a5
    iterate 3 refine wp_s rfl ?_
    refine br_ge (fun e => absurd e (nI_ge (b := 6) (show j < 6 by omega) (by omega))) (fun e => ?_)
    repeat refine wp_s rfl ?_
    rw [m]
    refine wp_iast rfl rfl (by decide) (by show j < 6; omega) ?_
    iterate 2 refine wp_s rfl ?_
    rw [nI_1]
    exact ih (j + 1) _ (by omega) m (fun k i s hk => (hI_so (by omega)).trans (a1 k i s hk)) a2 a3 a4 a5
def updT (tab : Nat → Option (Nat × Nat)) (i : Nat) (v : Option (Nat × Nat)) : Nat → Option (Nat × Nat) := fun s => if s = i then v else tab s
def updC (cn : Nat → Nat) (k : Nat) : Nat → Nat := fun k' => if k' = k then cn k + 1 else cn k'
def MI (h : AH) (tab : Nat → Option (Nat × Nat)) (cn : Nat → Nat) (z s : Nat) (g : AH) : Prop := (∀ s, hA g 4 0 s = tab s) ∧ (∀ k, hC g k = cn k) ∧ (∀ s, hI g 4 0 s = hI h 4 0 s) ∧ (∀ s, hI g 0 0 s = hI h 0 0 s) ∧ (∀ s, hA g 0 0 s = hA h 0 0 s) ∧ hZ g = z ∧ hS g = s
theorem mi_step {tab : Nat → Option (Nat × Nat)} {cn : Nat → Nat} {z s : Nat} {g : AH} (K S m : Nat) (hK : 4 < K) (b : MI h tab cn z s g) : MI h (updT tab S (some (K, cn K))) (updC cn K) (z + 1) (s + m) (sA (al g K m) 4 0 S (some (K, hC g K))) := by
  obtain ⟨b1, b2, b3, b4, b5, b6, b7⟩ := b
  refine ⟨fun s => ?_, fun k => ?_, fun s => ?_, fun s => ?_, fun s => ?_, ?_, ?_⟩
  · unfold updT
    rw [hA_sA, b2]
    by_cases e : s = S
    · rw [if_pos ⟨rfl, rfl, e⟩, if_pos e]
    · rw [if_neg (fun q => e q.2.2), if_neg e, hA_ao (by omega)]
      exact b1 s
  · unfold updC
    rw [hC_sA, hC_al, b2, b2]
  · exact (hI_ao (n := m) (by omega)).trans (b3 s)
  · exact (hI_ao (n := m) (by omega)).trans (b4 s)
  · exact (hA_so (by omega)).trans ((hA_ao (by omega)).trans (b5 s))
  · show hZ g + 1 = _
    rw [b6]
  · show hS g + m = _
    rw [b7]
theorem mA_none {s : Nat} (q1 : s ≠ 2) (q2 : s ≠ 4) (q3 : s ≠ 5) (q4 : s ≠ 6) (q5 : s ≠ 8) (q6 : s ≠ 9) (q7 : s ≠ 10) (q8 : s ≠ 11) (q9 : s ≠ 12) (q10 : s ≠ 13) (q11 : s ≠ 14) (q12 : s ≠ 15) (q13 : s ≠ 22) : mA s = none := by
  by_cases h : s < 23
  · rcases (show s = 0 ∨ s = 1 ∨ s = 3 ∨ s = 7 ∨ s = 16 ∨ s = 17 ∨ s = 18 ∨ s = 19 ∨ s = 20 ∨ s = 21 by omega) with rfl | rfl | rfl | rfl | rfl | rfl | rfl | rfl | rfl | rfl <;> rfl
  · obtain ⟨n, rfl⟩ : ∃ n, s = n + 23 := ⟨s - 23, by omega⟩
    rfl
theorem uT_s {tab : Nat → Option (Nat × Nat)} {i : Nat} {v : Option (Nat × Nat)} : updT tab i v i = v := if_pos rfl
theorem uT_o {tab : Nat → Option (Nat × Nat)} {i s : Nat} {v : Option (Nat × Nat)} (e : s ≠ i) : updT tab i v s = tab s := if_neg e
theorem uC_s {cn : Nat → Nat} {k : Nat} : updC cn k k = cn k + 1 := if_pos rfl
theorem uC_o {cn : Nat → Nat} {k k' : Nat} (e : k' ≠ k) : updC cn k k' = cn k' := if_neg e
theorem tab_all {cn : Nat → Nat} (e7 : cn 7 = 0) (e9 : cn 9 = 0) (e8 : cn 8 = 1) (e10 : cn 10 = 0) (s : Nat) : (updT (updT (updT (updT (updT (updT (updT (updT (updT (updT (updT (updT (updT (fun _ => none) 2 (some (7, cn 7))) 4 (some (9, (updC cn 7) 9))) 5 (some (9, (updC (updC cn 7) 9) 9))) 6 (some (9, (updC (updC (updC cn 7) 9) 9) 9))) 8 (some (8, (updC (updC (updC (updC cn 7) 9) 9) 9) 8))) 9 (some (8, (updC (updC (updC (updC (updC cn 7) 9) 9) 9) 8) 8))) 10 (some (8, (updC (updC (updC (updC (updC (updC cn 7) 9) 9) 9) 8) 8) 8))) 11 (some (10, (updC (updC (updC (updC (updC (updC (updC cn 7) 9) 9) 9) 8) 8) 8) 10))) 12 (some (8, (updC (updC (updC (updC (updC (updC (updC (updC cn 7) 9) 9) 9) 8) 8) 8) 10) 8))) 13 (some (8, (updC (updC (updC (updC (updC (updC (updC (updC (updC cn 7) 9) 9) 9) 8) 8) 8) 10) 8) 8))) 14 (some (8, (updC (updC (updC (updC (updC (updC (updC (updC (updC (updC cn 7) 9) 9) 9) 8) 8) 8) 10) 8) 8) 8))) 15 (some (10, (updC (updC (updC (updC (updC (updC (updC (updC (updC (updC (updC cn 7) 9) 9) 9) 8) 8) 8) 10) 8) 8) 8) 10))) 22 (some (8, (updC (updC (updC (updC (updC (updC (updC (updC (updC (updC (updC (updC cn 7) 9) 9) 9) 8) 8) 8) 10) 8) 8) 8) 10) 8))) s = mA s := by
  by_cases a12 : s = 22
  · subst a12
    rw [uT_s]
    rw [uC_o (by omega), uC_s, uC_s, uC_s, uC_o (by omega), uC_s, uC_s, uC_s, uC_o (by omega), uC_o (by omega), uC_o (by omega), uC_o (by omega), e8]
    rfl
  rw [uT_o a12]
  by_cases a11 : s = 15
  · subst a11
    rw [uT_s]
    rw [uC_o (by omega), uC_o (by omega), uC_o (by omega), uC_s, uC_o (by omega), uC_o (by omega), uC_o (by omega), uC_o (by omega), uC_o (by omega), uC_o (by omega), uC_o (by omega), e10]
    rfl
  rw [uT_o a11]
  by_cases a10 : s = 14
  · subst a10
    rw [uT_s]
    rw [uC_s, uC_s, uC_o (by omega), uC_s, uC_s, uC_s, uC_o (by omega), uC_o (by omega), uC_o (by omega), uC_o (by omega), e8]
    rfl
  rw [uT_o a10]
  by_cases a9 : s = 13
  · subst a9
    rw [uT_s]
    rw [uC_s, uC_o (by omega), uC_s, uC_s, uC_s, uC_o (by omega), uC_o (by omega), uC_o (by omega), uC_o (by omega), e8]
    rfl
  rw [uT_o a9]
  by_cases a8 : s = 12
  · subst a8
    rw [uT_s]
    rw [uC_o (by omega), uC_s, uC_s, uC_s, uC_o (by omega), uC_o (by omega), uC_o (by omega), uC_o (by omega), e8]
    rfl
  rw [uT_o a8]
  by_cases a7 : s = 11
  · subst a7
    rw [uT_s]
    rw [uC_o (by omega), uC_o (by omega), uC_o (by omega), uC_o (by omega), uC_o (by omega), uC_o (by omega), uC_o (by omega), e10]
    rfl
  rw [uT_o a7]
  by_cases a6 : s = 10
  · subst a6
    rw [uT_s]
    rw [uC_s, uC_s, uC_o (by omega), uC_o (by omega), uC_o (by omega), uC_o (by omega), e8]
    rfl
  rw [uT_o a6]
  by_cases a5 : s = 9
  · subst a5
    rw [uT_s]
    rw [uC_s, uC_o (by omega), uC_o (by omega), uC_o (by omega), uC_o (by omega), e8]
    rfl
  rw [uT_o a5]
  by_cases a4 : s = 8
  · subst a4
    rw [uT_s]
    rw [uC_o (by omega), uC_o (by omega), uC_o (by omega), uC_o (by omega), e8]
    rfl
  rw [uT_o a4]
  by_cases a3 : s = 6
  · subst a3
    rw [uT_s]
    rw [uC_s, uC_s, uC_o (by omega), e9]
    rfl
  rw [uT_o a3]
  by_cases a2 : s = 5
  · subst a2
    rw [uT_s]
    rw [uC_s, uC_o (by omega), e9]
    rfl
  rw [uT_o a2]
  by_cases a1 : s = 4
  · subst a1
    rw [uT_s]
    rw [uC_o (by omega), e9]
    rfl
  rw [uT_o a1]
  by_cases a0 : s = 2
  · subst a0
    rw [uT_s]
    rw [e7]
    rfl
  rw [uT_o a0]
  exact (mA_none a0 a1 a2 a3 a4 a5 a6 a7 a8 a9 a10 a11 a12).symm
theorem minit_end {tab : Nat → Option (Nat × Nat)} {cn : Nat → Nat} {z s : Nat} {g : AH} (b : MI h tab cn z s g) (z0 : ∀ s, hI h 4 0 s = 0) (ht : ∀ s, updT tab 22 (some (8, cn 8)) s = mA s) (k : ∀ h', (∀ s, hI h' 4 0 s = if s = 18 then 96 else if s = 20 then -1 else 0) → (∀ s, hA h' 4 0 s = mA s) → (∀ s, hI h' 0 0 s = hI h 0 0 s) → (∀ s, hA h' 0 0 s = hA h 0 0 s) → (∀ k, hC h' k = updC cn 8 k) → hZ h' = z + 1 → hS h' = s + 6 → Q (.inl none) h') : WP d 39 99 [some (vr 4 0), none] [] g Q := by
  iterate 6 refine wp_s rfl ?_
  have c0 : (∀ s, hI (sI (sI g 4 0 18 96) 4 0 20 (-1)) 4 0 s = if s = 18 then 96 else if s = 20 then -1 else 0) := by
    intro s
    by_cases e1 : s = 20
    · subst e1
      rw [hI_ss, if_neg (by omega), if_pos rfl]
    · rw [hI_so (by omega)]
      by_cases e2 : s = 18
      · subst e2
        rw [hI_ss, if_pos rfl]
      · rw [hI_so (by omega), if_neg e2, if_neg e1, b.2.2.1, z0]
  have d0 : MI (sI (sI g 4 0 18 96) 4 0 20 (-1)) tab cn z s (sI (sI g 4 0 18 96) 4 0 20 (-1)) := ⟨b.1, b.2.1, fun _ => rfl, fun _ => rfl, fun _ => rfl, b.2.2.2.2.2.1, b.2.2.2.2.2.2⟩
  have d1 : (∀ s, hI (sI (sI g 4 0 18 96) 4 0 20 (-1)) 0 0 s = hI h 0 0 s) := fun s => (hI_so (by omega)).trans ((hI_so (by omega)).trans (b.2.2.2.1 s))
  have d2 : (∀ s, hA (sI (sI g 4 0 18 96) 4 0 20 (-1)) 0 0 s = hA h 0 0 s) := b.2.2.2.2.1
  generalize sI (sI g 4 0 18 96) 4 0 20 (-1) = g0 at c0 d0 d1 d2 ⊢
  iterate 4 refine wp_s rfl ?_
  have d3 := mi_step 8 22 (kM 8) (by omega) d0
  generalize sA (al g0 8 (kM 8)) 4 0 22 (some (8, hC g0 8)) = g' at d3 ⊢
  iterate 2 refine wp_s rfl ?_
  have tabE : ∀ s, hA g' 4 0 s = mA s := fun s => (d3.1 s).trans (ht s)
  refine minit_loop (h := g') ?_ 6 0 g' rfl (tabE 12) (fun _ _ _ _ => rfl) rfl rfl rfl rfl
  intro h' a1 a2 a3 a4 a5
  refine k h' (fun s => ?_) (fun s => ?_) (fun s => ?_) (fun s => ?_) (fun k => ?_) ?_ ?_
  · rw [a1 4 0 s (by omega), d3.2.2.1]; exact c0 s
  · rw [a2]; exact tabE s
  · rw [a1 0 0 s (by omega), d3.2.2.2.1]; exact d1 s
  · rw [a2, d3.2.2.2.2.1]; exact d2 s
  · rw [a3, d3.2.1]
  · exact a4.trans d3.2.2.2.2.2.1
  · exact a5.trans d3.2.2.2.2.2.2
theorem S_minit {cn : Nat → Nat} (ec : ∀ k, hC h k = cn k) (e7 : cn 7 = 0) (e9 : cn 9 = 0) (e8 : cn 8 = 1) (e10 : cn 10 = 0) (z : ∀ s, hI h 4 0 s = 0) (za : ∀ s, hA h 4 0 s = none) (k : ∀ h', (∀ s, hI h' 4 0 s = if s = 18 then 96 else if s = 20 then -1 else 0) → (∀ s, hA h' 4 0 s = mA s) → (∀ s, hI h' 0 0 s = hI h 0 0 s) → (∀ s, hA h' 0 0 s = hA h 0 0 s) → (∀ k, k < 7 ∨ 10 < k → hC h' k = cn k) → hZ h' = hZ h + 13 → hS h' = hS h + 118 → Q (.inl none) h') : WP d 39 0 [some (vr 4 0), none] [] h Q := by
  have b0 : MI h (fun _ => none) cn (hZ h) (hS h) h := ⟨za, ec, fun _ => rfl, fun _ => rfl, fun _ => rfl, rfl, rfl⟩
  iterate 2 refine wp_s rfl ?_
  iterate 4 refine wp_s rfl ?_
  have b1 := mi_step 7 2 (kM 7) (by omega) b0
  generalize sA (al h 7 (kM 7)) 4 0 2 (some (7, hC h 7)) = g1 at b1 ⊢
  iterate 4 refine wp_s rfl ?_
  have b2 := mi_step 9 4 (kM 9) (by omega) b1
  generalize sA (al g1 9 (kM 9)) 4 0 4 (some (9, hC g1 9)) = g2 at b2 ⊢
  iterate 4 refine wp_s rfl ?_
  have b3 := mi_step 9 5 (kM 9) (by omega) b2
  generalize sA (al g2 9 (kM 9)) 4 0 5 (some (9, hC g2 9)) = g3 at b3 ⊢
  iterate 4 refine wp_s rfl ?_
  have b4 := mi_step 9 6 (kM 9) (by omega) b3
  generalize sA (al g3 9 (kM 9)) 4 0 6 (some (9, hC g3 9)) = g4 at b4 ⊢
  iterate 4 refine wp_s rfl ?_
  have b5 := mi_step 8 8 (kM 8) (by omega) b4
  generalize sA (al g4 8 (kM 8)) 4 0 8 (some (8, hC g4 8)) = g5 at b5 ⊢
  iterate 4 refine wp_s rfl ?_
  have b6 := mi_step 8 9 (kM 8) (by omega) b5
  generalize sA (al g5 8 (kM 8)) 4 0 9 (some (8, hC g5 8)) = g6 at b6 ⊢
  iterate 4 refine wp_s rfl ?_
  have b7 := mi_step 8 10 (kM 8) (by omega) b6
  generalize sA (al g6 8 (kM 8)) 4 0 10 (some (8, hC g6 8)) = g7 at b7 ⊢
  iterate 4 refine wp_s rfl ?_
  have b8 := mi_step 10 11 (kM 10) (by omega) b7
  generalize sA (al g7 10 (kM 10)) 4 0 11 (some (10, hC g7 10)) = g8 at b8 ⊢
  iterate 4 refine wp_s rfl ?_
  have b9 := mi_step 8 12 (kM 8) (by omega) b8
  generalize sA (al g8 8 (kM 8)) 4 0 12 (some (8, hC g8 8)) = g9 at b9 ⊢
  iterate 4 refine wp_s rfl ?_
  have b10 := mi_step 8 13 (kM 8) (by omega) b9
  generalize sA (al g9 8 (kM 8)) 4 0 13 (some (8, hC g9 8)) = g10 at b10 ⊢
  iterate 4 refine wp_s rfl ?_
  have b11 := mi_step 8 14 (kM 8) (by omega) b10
  generalize sA (al g10 8 (kM 8)) 4 0 14 (some (8, hC g10 8)) = g11 at b11 ⊢
  iterate 4 refine wp_s rfl ?_
  have b12 := mi_step 10 15 (kM 10) (by omega) b11
  generalize sA (al g11 10 (kM 10)) 4 0 15 (some (10, hC g11 10)) = g12 at b12 ⊢
  refine minit_end b12 z (tab_all e7 e9 e8 e10) ?_
  intro h' q1 q2 q3 q4 q5 q6 q7
  refine k h' q1 q2 q3 q4 (fun k hk => ?_) q6 q7
  rw [q5 k, uC_o (by omega), uC_o (by omega), uC_o (by omega), uC_o (by omega), uC_o (by omega), uC_o (by omega), uC_o (by omega), uC_o (by omega), uC_o (by omega), uC_o (by omega), uC_o (by omega), uC_o (by omega), uC_o (by omega)]
end INIT
end
section
-- WHAT THE OTHER'S CALL LEAVES; THE LAW'S WRAPPERS
section WRP
variable {c : Cf} {pl : Pl} {pd b : Bool} {told : Int32} {chs : List Nat} {d : Nat} {h h' : AH} {Q : Oc → AH → Prop} {x y z : Int32} {v : Int64}
theorem MS_FC (a : FC h h') (m : MS c pl pd told chs h) : MS c pl pd told chs h' := by
  have ai := a.1
  obtain ⟨⟨q1, ⟨e1, e2, e3, e4, e5, e6⟩, q3, q4, q5⟩, mx⟩ := m
  refine ⟨⟨fun s => (a.2.1 0 s).trans (q1 s), ⟨(ai 4 0 1 (by omega)).trans e1, (ai 4 0 3 (by omega)).trans e2, (ai 4 0 7 (by omega)).trans e3, (ai 4 0 17 (by omega)).trans e4, (ai 4 0 18 (by omega)).trans e5, (ai 4 0 19 (by omega)).trans e6⟩, fun p hp => (ai 7 0 p (by omega)).trans (q3 p hp), fun s hs => ⟨(ai 9 0 s (by omega)).trans (q4 s hs).1, (ai 9 1 s (by omega)).trans (q4 s hs).2.1, (ai 9 2 s (by omega)).trans (q4 s hs).2.2⟩, fun t ht => ⟨(ai 8 1 t (by omega)).trans (q5 t ht).1, (ai 8 2 t (by omega)).trans (q5 t ht).2.1, (ai 8 3 t (by omega)).trans (q5 t ht).2.2.1, (ai 10 0 t (by omega)).trans (q5 t ht).2.2.2.1, (ai 8 4 t (by omega)).trans (q5 t ht).2.2.2.2⟩⟩, MX_eq (fun s _ => ai 4 0 s (by omega)) (fun s => ai 8 7 s (by omega)) mx⟩
theorem KS_FN (a : FN h h') (g : KS c pl pd told chs h) : KS c pl pd told chs h' := by
  have ai := a.1
  have aa : ∀ k i s, hA h' k i s = hA h k i s := fun k i s => by rw [a.2.1]
  refine ⟨RG_eq (fun s _ => ai 0 0 s (by omega) (by omega) (by omega) (by omega) (by omega)) (fun s => aa 0 0 s) (fun s => aa 5 0 s) (fun s => aa 6 0 s) (fun i s _ _ => ai 1 i s (by omega) (by omega) (by omega) (by omega) (by omega)) (fun i s _ => aa 1 i s) (fun i s _ => ai 2 i s (by omega) (by omega) (by omega) (by omega) (by omega)) (fun i _ => aa 2 i 4) (fun i s _ => ai 3 i s (by omega) (by omega) (by omega) (by omega) (by omega)) (fun i s _ => aa 3 i s) (by rw [a.2.2.2.1]; exact Nat.le_refl _) g.1, KX_eq (fun s _ => ai 0 0 s (by omega) (by omega) (by omega) (by omega) (by omega)) (fun s => ai 8 0 s (by omega) (by omega) (by omega) (by omega) (by omega)) g.2.1, ?_⟩
  unfold KN
  rw [a.2.2.2.1, ai 0 0 5 (by omega) (by omega) (by omega) (by omega) (by omega)]
  exact g.2.2
theorem KS_sJ (g : KS c pl pd told chs h) : KS c pl pd told chs (sJ h 11 0 0 v) :=
  ⟨RG_eq (h := h) (fun _ _ => rfl) (fun _ => rfl) (fun _ => rfl) (fun _ => rfl) (fun _ _ _ _ => rfl) (fun _ _ _ => rfl) (fun _ _ _ => rfl) (fun _ _ => rfl) (fun _ _ _ => rfl) (fun _ _ _ => rfl) (Nat.le_refl _) g.1, KX_eq (h := h) (fun _ _ => rfl) (fun _ => rfl) g.2.1, g.2.2⟩
theorem FC_sJ (a : FC h h') : FC h (sJ h' 11 0 0 v) := a
theorem hJ_sJ0 : hJ (sJ h 11 0 0 v) 11 0 0 = v := by
  rw [hJ_sJ]
  exact if_pos ⟨rfl, rfl, rfl⟩
theorem lg_self (x : Int64) : lg_cmp x x = 0 := by
  unfold lg_cmp
  simp
-- wrappers
theorem W_person (hd : 4 ≤ d) (w : Wf c) (sp : Sp c) (g : KS c pl pd told chs h) (kt : ∀ h', bel x 256 = true → cP c < 4 → KS (wP c x) pl pd told chs h' → FC h h' → Q (.inl (some (vi 0))) (sJ h' 11 0 0 (nI (cP c)).toInt64)) (k1 : bel x 256 = false → Q (.inl (some (vi 1))) (al h 12 6)) (k2 : bel x 256 = true → ¬ cP c < 4 → Q (.inl (some (vi 2))) (al h 13 6)) : WP d 88 0 [some (vr 0 0), some (vi x), some (vr 11 0), none] [] h Q := by
  iterate 4 refine wp_s rfl ?_
  refine wp_cc rfl (by omega) (S_person (by omega) w sp g (fun h' e1 e2 g' a => ?_) (fun e => ?_) (fun e1 e2 => ?_))
  · refine wp_s rfl ?_
    refine wp_last rfl ?_
    iterate 2 refine wp_s rfl ?_
    exact wp_e rfl (kt h' e1 e2 g' a)
  · iterate 2 refine wp_s rfl ?_
    exact wp_e rfl (k1 e)
  · iterate 2 refine wp_s rfl ?_
    exact wp_e rfl (k2 e1 e2)
theorem W_rest (hd : 3 ≤ d) (g : KS c pl pd told chs h) (kt : ∀ v h', v ≤ 96 → x = nI v → KS (wR c v) pl pd told chs h' → FC h h' → Q (.inl (some (vi 0))) (sJ h' 11 0 0 (nI (cR c)).toInt64)) (kf : wth x 0 96 = false → Q (.inl (some (vi 1))) (al h 12 6)) : WP d 91 0 [some (vr 0 0), some (vi x), some (vr 11 0), none] [] h Q := by
  iterate 4 refine wp_s rfl ?_
  refine wp_cc rfl (by omega) (S_rest (by omega) g (fun v h' e1 e2 g' a => ?_) (fun e => ?_))
  · refine wp_s rfl ?_
    refine wp_last rfl ?_
    iterate 2 refine wp_s rfl ?_
    exact wp_e rfl (kt v h' e1 e2 g' a)
  · iterate 2 refine wp_s rfl ?_
    exact wp_e rfl (kf e)
theorem W_limit (hd : 3 ≤ d) (g : KS c pl pd told chs h) (kt : ∀ v h', v ≤ 96 → x = nI v → KS (wL c v) pl pd told chs h' → FC h h' → Q (.inl (some (vi 0))) (sJ h' 11 0 0 (nI (cL c)).toInt64)) (kf : wth x 0 96 = false → Q (.inl (some (vi 1))) (al h 12 6)) : WP d 92 0 [some (vr 0 0), some (vi x), some (vr 11 0), none] [] h Q := by
  iterate 4 refine wp_s rfl ?_
  refine wp_cc rfl (by omega) (S_limit (by omega) g (fun v h' e1 e2 g' a => ?_) (fun e => ?_))
  · refine wp_s rfl ?_
    refine wp_last rfl ?_
    iterate 2 refine wp_s rfl ?_
    exact wp_e rfl (kt v h' e1 e2 g' a)
  · iterate 2 refine wp_s rfl ?_
    exact wp_e rfl (kf e)
theorem W_freeze (hd : 3 ≤ d) (g : KS c pl pd told chs h) (kt : ∀ v h', v ≤ 96 → x = nI v → KS (wF c v) pl pd told chs h' → FC h h' → Q (.inl (some (vi 0))) (sJ h' 11 0 0 (nI (cF c)).toInt64)) (kf : wth x 0 96 = false → Q (.inl (some (vi 1))) (al h 12 6)) : WP d 93 0 [some (vr 0 0), some (vi x), some (vr 11 0), none] [] h Q := by
  iterate 4 refine wp_s rfl ?_
  refine wp_cc rfl (by omega) (S_freeze (by omega) g (fun v h' e1 e2 g' a => ?_) (fun e => ?_))
  · refine wp_s rfl ?_
    refine wp_last rfl ?_
    iterate 2 refine wp_s rfl ?_
    exact wp_e rfl (kt v h' e1 e2 g' a)
  · iterate 2 refine wp_s rfl ?_
    exact wp_e rfl (kf e)
theorem W_off (hd : 4 ≤ d) (w : Wf c) (g : KS c pl pd told chs h) (kt : ∀ p h', p < cP c → x = nI p → spn y z = true → cS c < 20 → KS (wS c p y z) pl pd told chs h' → FC h h' → Q (.inl (some (vi 0))) (sJ h' 11 0 0 (nI (cS c + 1)).toInt64))
    (k1 : bel x (nI (cP c)) = false → Q (.inl (some (vi 1))) (al h 14 6)) (k2 : ∀ p, p < cP c → x = nI p → spn y z = false → Q (.inl (some (vi 2))) (al h 12 6)) (k3 : ∀ p, p < cP c → x = nI p → spn y z = true → ¬ cS c < 20 → Q (.inl (some (vi 3))) (al h 13 6)) : WP d 89 0 [some (vr 0 0), some (vi x), some (vi y), some (vi z), some (vr 11 0), none] [] h Q := by
  iterate 6 refine wp_s rfl ?_
  refine wp_cc rfl (by omega) (S_off (by omega) w g (fun p h' e1 e2 e3 e4 g' a => ?_) (fun e => ?_) (fun p e1 e2 e3 => ?_) (fun p e1 e2 e3 e4 => ?_))
  · refine wp_s rfl ?_
    refine wp_last rfl ?_
    iterate 2 refine wp_s rfl ?_
    exact wp_e rfl (kt p h' e1 e2 e3 e4 g' a)
  · iterate 2 refine wp_s rfl ?_
    exact wp_e rfl (k1 e)
  · iterate 2 refine wp_s rfl ?_
    exact wp_e rfl (k2 p e1 e2 e3)
  · iterate 2 refine wp_s rfl ?_
    exact wp_e rfl (k3 p e1 e2 e3 e4)
theorem W_task (hd : 4 ≤ d) (w : Wf c) (g : KS c pl pd told chs h) (kt : ∀ f t h', bel x 8 = true → f < t → t ≤ 96 → y = nI f → z = nI t → cN c < 6 → KS (wT c x f t b) (upd1 pl (cN c) none) pd told chs h' → FC h h' → Q (.inl (some (vi 0))) (sJ h' 11 0 0 (nI (cN c)).toInt64))
    (k1 : bel x 8 = false → Q (.inl (some (vi 1))) (al h 14 6)) (k2 : bel x 8 = true → spn y z = false → Q (.inl (some (vi 2))) (al h 12 6)) (k3 : bel x 8 = true → spn y z = true → ¬ cN c < 6 → Q (.inl (some (vi 3))) (al h 13 6)) : WP d 90 0 [some (vr 0 0), some (vi x), some (vi y), some (vi z), some (vi (B01 b)), some (vr 11 0), none] [] h Q := by
  iterate 7 refine wp_s rfl ?_
  refine wp_cc rfl (by omega) (S_task (by omega) w g (fun f t h' e1 e2 e3 e4 e5 e6 g' a => ?_) (fun e => ?_) (fun e1 e2 => ?_) (fun e1 e2 e3 => ?_))
  · refine wp_s rfl ?_
    refine wp_last rfl ?_
    iterate 2 refine wp_s rfl ?_
    exact wp_e rfl (kt f t h' e1 e2 e3 e4 e5 e6 g' a)
  · iterate 2 refine wp_s rfl ?_
    exact wp_e rfl (k1 e)
  · iterate 2 refine wp_s rfl ?_
    exact wp_e rfl (k2 e1 e2)
  · iterate 2 refine wp_s rfl ?_
    exact wp_e rfl (k3 e1 e2 e3)
theorem W_of (hd : 4 ≤ d) (w : Wf c) (bp : Bd c pl) (g : KS c pl pd told chs h) (kt : ∀ t, t < cN c → x = nI t → Q (.inl (some (vi 0))) (sJ h 11 0 0 (oI (pl t)).toInt64)) (kf : bel x (nI (cN c)) = false → Q (.inl (some (vi 1))) (al h 14 6)) : WP d 94 0 [some (vr 0 0), some (vi x), some (vr 11 0), none] [] h Q := by
  iterate 4 refine wp_s rfl ?_
  refine wp_cc rfl (by omega) (S_of (by omega) w bp g.1 (fun t e1 e2 => ?_) (fun e => ?_))
  · refine wp_s rfl ?_
    refine wp_last rfl ?_
    iterate 2 refine wp_s rfl ?_
    exact wp_e rfl (kt t e1 e2)
  · iterate 2 refine wp_s rfl ?_
    exact wp_e rfl (kf e)
theorem W_cost (hd : 2 ≤ d) (w : Wf c) (g : KS c pl pd told chs h) (kt : pd = true → Q (.inl (some (vi 0))) (sJ h 11 0 0 (nI (costP c pl)).toInt64)) (kf : pd = false → Q (.inl (some (vi 1))) (al h 13 6)) : WP d 95 0 [some (vr 0 0), some (vr 11 0), none] [] h Q := by
  iterate 3 refine wp_s rfl ?_
  refine wp_cc rfl (by omega) (S_cost (by omega) w g (fun e => ?_) (fun e => ?_))
  · refine wp_s rfl ?_
    refine wp_last rfl ?_
    iterate 2 refine wp_s rfl ?_
    exact wp_e rfl (kt e)
  · iterate 2 refine wp_s rfl ?_
    exact wp_e rfl (kf e)
theorem W_changed (hd : 2 ≤ d) (g : KS c pl pd told chs h) (kt : ∀ s (hs : s < chs.length), x = nI s → Q (.inl (some (vi 0))) (sJ h 11 0 0 (nI chs[s]).toInt64)) (kf : bel x (nI chs.length) = false → Q (.inl (some (vi 1))) (al h 14 6)) : WP d 97 0 [some (vr 0 0), some (vi x), some (vr 11 0), none] [] h Q := by
  iterate 4 refine wp_s rfl ?_
  refine wp_cc rfl (by omega) (S_changed (by omega) g (fun s hs e => ?_) (fun e => ?_))
  · refine wp_s rfl ?_
    refine wp_last rfl ?_
    iterate 2 refine wp_s rfl ?_
    exact wp_e rfl (kt s hs e)
  · iterate 2 refine wp_s rfl ?_
    exact wp_e rfl (kf e)
theorem W_work (hd : 4 ≤ d) (w : Wf c) (g : KS c pl pd told chs h) (kt : ∀ p, p < cP c → x = nI p → Q (.inl (some (vi 0))) (sJ h 11 0 0 (nI (qua c pl (some p))).toInt64)) (kf : bel x (nI (cP c)) = false → Q (.inl (some (vi 1))) (al h 14 6)) : WP d 99 0 [some (vr 0 0), some (vi x), some (vr 11 0), none] [] h Q := by
  iterate 4 refine wp_s rfl ?_
  refine wp_cc rfl (by omega) (S_work (by omega) w g.1 (fun p e1 e2 => ?_) (fun e => ?_))
  · refine wp_s rfl ?_
    refine wp_last rfl ?_
    iterate 2 refine wp_s rfl ?_
    exact wp_e rfl (kt p e1 e2)
  · iterate 2 refine wp_s rfl ?_
    exact wp_e rfl (kf e)
theorem W_count (hd : 1 ≤ d) (g : KS c pl pd told chs h) (k0 : x = 0 → Q (.inl (some (vi 0))) (sJ h 11 0 0 (nI (cP c)).toInt64)) (k1 : x = 1 → Q (.inl (some (vi 0))) (sJ h 11 0 0 (nI (cN c)).toInt64)) (k2 : x = 2 → Q (.inl (some (vi 0))) (sJ h 11 0 0 (nI (cS c)).toInt64)) (k3 : x = 3 → Q (.inl (some (vi 0))) (sJ h 11 0 0 (nI chs.length).toInt64)) (kf : wth x 0 3 = false → Q (.inl (some (vi 1))) (al h 14 6)) : WP d 100 0 [some (vr 0 0), some (vi x), some (vr 11 0), none] [] h Q := by
  iterate 4 refine wp_s rfl ?_
  refine wp_cc rfl (by omega) (S_count g (fun e => ?_) (fun e => ?_) (fun e => ?_) (fun e => ?_) (fun e => ?_))
  · refine wp_s rfl ?_
    refine wp_last rfl ?_
    iterate 2 refine wp_s rfl ?_
    exact wp_e rfl (k0 e)
  · refine wp_s rfl ?_
    refine wp_last rfl ?_
    iterate 2 refine wp_s rfl ?_
    exact wp_e rfl (k1 e)
  · refine wp_s rfl ?_
    refine wp_last rfl ?_
    iterate 2 refine wp_s rfl ?_
    exact wp_e rfl (k2 e)
  · refine wp_s rfl ?_
    refine wp_last rfl ?_
    iterate 2 refine wp_s rfl ?_
    exact wp_e rfl (k3 e)
  · iterate 2 refine wp_s rfl ?_
    exact wp_e rfl (kf e)
theorem W_swap (hd : 5 ≤ d) (w : Wf c) (bp : Bd c pl) (g : KS c pl pd told chs h)
    (kz : ∀ a b, a < cN c → b < cN c → x = nI a → y = nI b → pd = true → (cA c a < cF c ∨ cA c b < cF c) → Q (.inl (some (vi 0))) (sJ h 11 0 0 (1 : Int32).toInt64))
    (kt : ∀ a b n h', a < cN c → b < cN c → x = nI a → y = nI b → pd = true → ¬ (cA c a < cF c ∨ cA c b < cF c) → WhyIs c (exch pl a b) a b n → KS c (if n = 0 then exch pl a b else pl) pd told chs h' → FC h h' → Q (.inl (some (vi 0))) (sJ h' 11 0 0 (nI n).toInt64))
    (k1 : (bel x (nI (cN c)) && bel y (nI (cN c))) = false → Q (.inl (some (vi 1))) (al h 14 6)) (k2 : ∀ a b, a < cN c → b < cN c → x = nI a → y = nI b → pd = false → Q (.inl (some (vi 2))) (al h 13 6)) : WP d 98 0 [some (vr 0 0), some (vi x), some (vi y), some (vr 11 0), none] [] h Q := by
  iterate 5 refine wp_s rfl ?_
  refine wp_cc rfl (by omega) (S_swap w (by omega) bp g (fun a b e1 e2 e3 e4 e5 e6 => ?_) (fun a b n h' e1 e2 e3 e4 e5 e6 e7 g' f => ?_) (fun e => ?_) (fun a b e1 e2 e3 e4 e5 => ?_))
  · refine wp_s rfl ?_
    refine wp_last rfl ?_
    iterate 2 refine wp_s rfl ?_
    exact wp_e rfl (kz a b e1 e2 e3 e4 e5 e6)
  · refine wp_s rfl ?_
    refine wp_last rfl ?_
    iterate 2 refine wp_s rfl ?_
    exact wp_e rfl (kt a b n h' e1 e2 e3 e4 e5 e6 e7 g' f)
  · iterate 2 refine wp_s rfl ?_
    exact wp_e rfl (k1 e)
  · iterate 2 refine wp_s rfl ?_
    exact wp_e rfl (k2 a b e1 e2 e3 e4 e5)
theorem W_absent (hd : 14 ≤ d) (w : Wf c) (bp : Bd c pl) (g : KS c pl pd told chs h)
    (kt : ∀ p b h', p < cP c → x = nI p → bel y 96 = true → pd = true → cS c < 20 → Opt (Vs (wS c p y 96) pl true false (cN c)) (Ws (wS c p y 96) pl true false (cN c)) ((cP c + 1) ^ cN c) (some b) → KS (wS c p y 96) (EX (wS c p y 96) pl true (cN c) b) true (-1) (chL pl (EX (wS c p y 96) pl true (cN c) b) (cN c)) h' → FC h h' → Q (.inl (some (vi 0))) (sJ h' 11 0 0 (nI (chL pl (EX (wS c p y 96) pl true (cN c) b) (cN c)).length).toInt64))
    (kf : ∀ p v h', p < cP c → x = nI p → bel y 96 = true → pd = true → cS c < 20 → Opt (Vs (wS c p y 96) pl true false (cN c)) (Ws (wS c p y 96) pl true false (cN c)) ((cP c + 1) ^ cN c) none → Hr (wS c p y 96) pl true v → KS c pl pd v chs h' → FC h h' → Q (.inl (some (vi 0))) (sJ h' 11 0 0 (-1 : Int32).toInt64))
    (k1 : bel x (nI (cP c)) = false → Q (.inl (some (vi 1))) (al h 14 6)) (k2 : ∀ p, p < cP c → x = nI p → bel y 96 = false → Q (.inl (some (vi 2))) (al h 12 6)) (k3 : ∀ p, p < cP c → x = nI p → bel y 96 = true → ¬ (pd = true ∧ cS c < 20) → Q (.inl (some (vi 3))) (al h 13 6)) : WP d 96 0 [some (vr 0 0), some (vi x), some (vi y), some (vr 11 0), none] [] h Q := by
  have wN := Wf_N w
  iterate 5 refine wp_s rfl ?_
  refine wp_cc rfl (by omega) (S_absent w (by omega) bp g (fun p b h' e1 e2 e3 e4 e5 e6 g' f => ?_) (fun p v h' e1 e2 e3 e4 e5 e6 e7 g' f => ?_) (fun e => ?_) (fun p e1 e2 e3 => ?_) (fun p e1 e2 e3 e4 => ?_))
  · refine wp_s rfl ?_
    refine wp_last rfl ?_
    iterate 2 refine wp_s rfl ?_
    exact wp_e rfl (kt p b h' e1 e2 e3 e4 e5 e6 g' f)
  · refine wp_s rfl ?_
    refine wp_last rfl ?_
    iterate 2 refine wp_s rfl ?_
    exact wp_e rfl (kf p v h' e1 e2 e3 e4 e5 e6 e7 g' f)
  · iterate 2 refine wp_s rfl ?_
    exact wp_e rfl (k1 e)
  · iterate 2 refine wp_s rfl ?_
    exact wp_e rfl (k2 p e1 e2 e3)
  · iterate 2 refine wp_s rfl ?_
    exact wp_e rfl (k3 p e1 e2 e3 e4)
end WRP
end
section
-- THE LAW: WHAT FOLLOWS A CALL; THE INVARIANT
section TAIL
variable {d : Nat} {h : AH} {Q : Oc → AH → Prop} {k b x : Int32} {L6 : Option AV}
set_option maxRecDepth 100000 in
theorem T_person (hd : 1 ≤ d) (hth : hI h 4 0 0 = k) (hk : k = 0 → hJ h 11 0 0 = b.toInt64) (kk : WP d 101 971 [some (vr 15 0), some (vr 0 0), some (vr 4 0), some (vr 11 0), some (vi x), some (vi k), some (vi b)] [] h Q) : WP d 101 139 [some (vr 15 0), some (vr 0 0), some (vr 4 0), some (vr 11 0), some (vi x), some (vi k), L6] [vi b] h Q := by
  iterate 2 refine wp_s rfl ?_
  refine wp_cc rfl (by omega) (S_thrown ?_)
  rw [hth]
  iterate 2 refine wp_s rfl ?_
  refine br_eq (fun _ => ?_) (fun e => absurd rfl e)
  iterate 2 refine wp_s rfl ?_
  refine br_ne (fun e => ?_) (fun e => ?_)
  · refine wp_s rfl ?_
    exact kk
  · iterate 2 refine wp_s rfl ?_
    refine wp_lald rfl ?_
    rw [hk e]
    iterate 3 refine wp_s rfl ?_
    rw [lg_self]
    iterate 2 refine wp_s rfl ?_
    exact kk
set_option maxRecDepth 100000 in
theorem T_off (hd : 1 ≤ d) (hth : hI h 4 0 0 = k) (hk : k = 0 → hJ h 11 0 0 = b.toInt64) (kk : WP d 101 971 [some (vr 15 0), some (vr 0 0), some (vr 4 0), some (vr 11 0), some (vi x), some (vi k), some (vi b)] [] h Q) : WP d 101 219 [some (vr 15 0), some (vr 0 0), some (vr 4 0), some (vr 11 0), some (vi x), some (vi k), L6] [vi b] h Q := by
  iterate 2 refine wp_s rfl ?_
  refine wp_cc rfl (by omega) (S_thrown ?_)
  rw [hth]
  iterate 2 refine wp_s rfl ?_
  refine br_eq (fun _ => ?_) (fun e => absurd rfl e)
  iterate 2 refine wp_s rfl ?_
  refine br_ne (fun e => ?_) (fun e => ?_)
  · refine wp_s rfl ?_
    exact kk
  · iterate 2 refine wp_s rfl ?_
    refine wp_lald rfl ?_
    rw [hk e]
    iterate 3 refine wp_s rfl ?_
    rw [lg_self]
    iterate 2 refine wp_s rfl ?_
    exact kk
set_option maxRecDepth 100000 in
theorem T_task (hd : 1 ≤ d) (hth : hI h 4 0 0 = k) (hk : k = 0 → hJ h 11 0 0 = b.toInt64) (kk : WP d 101 971 [some (vr 15 0), some (vr 0 0), some (vr 4 0), some (vr 11 0), some (vi x), some (vi k), some (vi b)] [] h Q) : WP d 101 327 [some (vr 15 0), some (vr 0 0), some (vr 4 0), some (vr 11 0), some (vi x), some (vi k), L6] [vi b] h Q := by
  iterate 2 refine wp_s rfl ?_
  refine wp_cc rfl (by omega) (S_thrown ?_)
  rw [hth]
  iterate 2 refine wp_s rfl ?_
  refine br_eq (fun _ => ?_) (fun e => absurd rfl e)
  iterate 2 refine wp_s rfl ?_
  refine br_ne (fun e => ?_) (fun e => ?_)
  · refine wp_s rfl ?_
    exact kk
  · iterate 2 refine wp_s rfl ?_
    refine wp_lald rfl ?_
    rw [hk e]
    iterate 3 refine wp_s rfl ?_
    rw [lg_self]
    iterate 2 refine wp_s rfl ?_
    exact kk
set_option maxRecDepth 100000 in
theorem T_rest (hd : 1 ≤ d) (hth : hI h 4 0 0 = k) (hk : k = 0 → hJ h 11 0 0 = b.toInt64) (kk : WP d 101 971 [some (vr 15 0), some (vr 0 0), some (vr 4 0), some (vr 11 0), some (vi x), some (vi k), some (vi b)] [] h Q) : WP d 101 383 [some (vr 15 0), some (vr 0 0), some (vr 4 0), some (vr 11 0), some (vi x), some (vi k), L6] [vi b] h Q := by
  iterate 2 refine wp_s rfl ?_
  refine wp_cc rfl (by omega) (S_thrown ?_)
  rw [hth]
  iterate 2 refine wp_s rfl ?_
  refine br_eq (fun _ => ?_) (fun e => absurd rfl e)
  iterate 2 refine wp_s rfl ?_
  refine br_ne (fun e => ?_) (fun e => ?_)
  · refine wp_s rfl ?_
    exact kk
  · iterate 2 refine wp_s rfl ?_
    refine wp_lald rfl ?_
    rw [hk e]
    iterate 3 refine wp_s rfl ?_
    rw [lg_self]
    iterate 2 refine wp_s rfl ?_
    exact kk
set_option maxRecDepth 100000 in
theorem T_limit (hd : 1 ≤ d) (hth : hI h 4 0 0 = k) (hk : k = 0 → hJ h 11 0 0 = b.toInt64) (kk : WP d 101 971 [some (vr 15 0), some (vr 0 0), some (vr 4 0), some (vr 11 0), some (vi x), some (vi k), some (vi b)] [] h Q) : WP d 101 439 [some (vr 15 0), some (vr 0 0), some (vr 4 0), some (vr 11 0), some (vi x), some (vi k), L6] [vi b] h Q := by
  iterate 2 refine wp_s rfl ?_
  refine wp_cc rfl (by omega) (S_thrown ?_)
  rw [hth]
  iterate 2 refine wp_s rfl ?_
  refine br_eq (fun _ => ?_) (fun e => absurd rfl e)
  iterate 2 refine wp_s rfl ?_
  refine br_ne (fun e => ?_) (fun e => ?_)
  · refine wp_s rfl ?_
    exact kk
  · iterate 2 refine wp_s rfl ?_
    refine wp_lald rfl ?_
    rw [hk e]
    iterate 3 refine wp_s rfl ?_
    rw [lg_self]
    iterate 2 refine wp_s rfl ?_
    exact kk
set_option maxRecDepth 100000 in
theorem T_freeze (hd : 1 ≤ d) (hth : hI h 4 0 0 = k) (hk : k = 0 → hJ h 11 0 0 = b.toInt64) (kk : WP d 101 971 [some (vr 15 0), some (vr 0 0), some (vr 4 0), some (vr 11 0), some (vi x), some (vi k), some (vi b)] [] h Q) : WP d 101 495 [some (vr 15 0), some (vr 0 0), some (vr 4 0), some (vr 11 0), some (vi x), some (vi k), L6] [vi b] h Q := by
  iterate 2 refine wp_s rfl ?_
  refine wp_cc rfl (by omega) (S_thrown ?_)
  rw [hth]
  iterate 2 refine wp_s rfl ?_
  refine br_eq (fun _ => ?_) (fun e => absurd rfl e)
  iterate 2 refine wp_s rfl ?_
  refine br_ne (fun e => ?_) (fun e => ?_)
  · refine wp_s rfl ?_
    exact kk
  · iterate 2 refine wp_s rfl ?_
    refine wp_lald rfl ?_
    rw [hk e]
    iterate 3 refine wp_s rfl ?_
    rw [lg_self]
    iterate 2 refine wp_s rfl ?_
    exact kk
set_option maxRecDepth 100000 in
theorem T_of (hd : 1 ≤ d) (hth : hI h 4 0 0 = k) (hk : k = 0 → hJ h 11 0 0 = b.toInt64) (kk : WP d 101 971 [some (vr 15 0), some (vr 0 0), some (vr 4 0), some (vr 11 0), some (vi x), some (vi k), some (vi b)] [] h Q) : WP d 101 577 [some (vr 15 0), some (vr 0 0), some (vr 4 0), some (vr 11 0), some (vi x), some (vi k), L6] [vi b] h Q := by
  iterate 2 refine wp_s rfl ?_
  refine wp_cc rfl (by omega) (S_thrown ?_)
  rw [hth]
  iterate 2 refine wp_s rfl ?_
  refine br_eq (fun _ => ?_) (fun e => absurd rfl e)
  iterate 2 refine wp_s rfl ?_
  refine br_ne (fun e => ?_) (fun e => ?_)
  · refine wp_s rfl ?_
    exact kk
  · iterate 2 refine wp_s rfl ?_
    refine wp_lald rfl ?_
    rw [hk e]
    iterate 3 refine wp_s rfl ?_
    rw [lg_self]
    iterate 2 refine wp_s rfl ?_
    exact kk
set_option maxRecDepth 100000 in
theorem T_cost (hd : 1 ≤ d) (hth : hI h 4 0 0 = k) (hk : k = 0 → hJ h 11 0 0 = b.toInt64) (kk : WP d 101 971 [some (vr 15 0), some (vr 0 0), some (vr 4 0), some (vr 11 0), some (vi x), some (vi k), some (vi b)] [] h Q) : WP d 101 621 [some (vr 15 0), some (vr 0 0), some (vr 4 0), some (vr 11 0), some (vi x), some (vi k), L6] [vi b] h Q := by
  iterate 2 refine wp_s rfl ?_
  refine wp_cc rfl (by omega) (S_thrown ?_)
  rw [hth]
  iterate 2 refine wp_s rfl ?_
  refine br_eq (fun _ => ?_) (fun e => absurd rfl e)
  iterate 2 refine wp_s rfl ?_
  refine br_ne (fun e => ?_) (fun e => ?_)
  · refine wp_s rfl ?_
    exact kk
  · iterate 2 refine wp_s rfl ?_
    refine wp_lald rfl ?_
    rw [hk e]
    iterate 3 refine wp_s rfl ?_
    rw [lg_self]
    iterate 2 refine wp_s rfl ?_
    exact kk
set_option maxRecDepth 100000 in
theorem T_absent (hd : 1 ≤ d) (hth : hI h 4 0 0 = k) (hk : k = 0 → hJ h 11 0 0 = b.toInt64) (kk : WP d 101 971 [some (vr 15 0), some (vr 0 0), some (vr 4 0), some (vr 11 0), some (vi x), some (vi k), some (vi b)] [] h Q) : WP d 101 689 [some (vr 15 0), some (vr 0 0), some (vr 4 0), some (vr 11 0), some (vi x), some (vi k), L6] [vi b] h Q := by
  iterate 2 refine wp_s rfl ?_
  refine wp_cc rfl (by omega) (S_thrown ?_)
  rw [hth]
  iterate 2 refine wp_s rfl ?_
  refine br_eq (fun _ => ?_) (fun e => absurd rfl e)
  iterate 2 refine wp_s rfl ?_
  refine br_ne (fun e => ?_) (fun e => ?_)
  · refine wp_s rfl ?_
    exact kk
  · iterate 2 refine wp_s rfl ?_
    refine wp_lald rfl ?_
    rw [hk e]
    iterate 3 refine wp_s rfl ?_
    rw [lg_self]
    iterate 2 refine wp_s rfl ?_
    exact kk
set_option maxRecDepth 100000 in
theorem T_changed (hd : 1 ≤ d) (hth : hI h 4 0 0 = k) (hk : k = 0 → hJ h 11 0 0 = b.toInt64) (kk : WP d 101 971 [some (vr 15 0), some (vr 0 0), some (vr 4 0), some (vr 11 0), some (vi x), some (vi k), some (vi b)] [] h Q) : WP d 101 745 [some (vr 15 0), some (vr 0 0), some (vr 4 0), some (vr 11 0), some (vi x), some (vi k), L6] [vi b] h Q := by
  iterate 2 refine wp_s rfl ?_
  refine wp_cc rfl (by omega) (S_thrown ?_)
  rw [hth]
  iterate 2 refine wp_s rfl ?_
  refine br_eq (fun _ => ?_) (fun e => absurd rfl e)
  iterate 2 refine wp_s rfl ?_
  refine br_ne (fun e => ?_) (fun e => ?_)
  · refine wp_s rfl ?_
    exact kk
  · iterate 2 refine wp_s rfl ?_
    refine wp_lald rfl ?_
    rw [hk e]
    iterate 3 refine wp_s rfl ?_
    rw [lg_self]
    iterate 2 refine wp_s rfl ?_
    exact kk
set_option maxRecDepth 100000 in
theorem T_swap (hd : 1 ≤ d) (hth : hI h 4 0 0 = k) (hk : k = 0 → hJ h 11 0 0 = b.toInt64) (kk : WP d 101 971 [some (vr 15 0), some (vr 0 0), some (vr 4 0), some (vr 11 0), some (vi x), some (vi k), some (vi b)] [] h Q) : WP d 101 813 [some (vr 15 0), some (vr 0 0), some (vr 4 0), some (vr 11 0), some (vi x), some (vi k), L6] [vi b] h Q := by
  iterate 2 refine wp_s rfl ?_
  refine wp_cc rfl (by omega) (S_thrown ?_)
  rw [hth]
  iterate 2 refine wp_s rfl ?_
  refine br_eq (fun _ => ?_) (fun e => absurd rfl e)
  iterate 2 refine wp_s rfl ?_
  refine br_ne (fun e => ?_) (fun e => ?_)
  · refine wp_s rfl ?_
    exact kk
  · iterate 2 refine wp_s rfl ?_
    refine wp_lald rfl ?_
    rw [hk e]
    iterate 3 refine wp_s rfl ?_
    rw [lg_self]
    iterate 2 refine wp_s rfl ?_
    exact kk
set_option maxRecDepth 100000 in
theorem T_work (hd : 1 ≤ d) (hth : hI h 4 0 0 = k) (hk : k = 0 → hJ h 11 0 0 = b.toInt64) (kk : WP d 101 971 [some (vr 15 0), some (vr 0 0), some (vr 4 0), some (vr 11 0), some (vi x), some (vi k), some (vi b)] [] h Q) : WP d 101 869 [some (vr 15 0), some (vr 0 0), some (vr 4 0), some (vr 11 0), some (vi x), some (vi k), L6] [vi b] h Q := by
  iterate 2 refine wp_s rfl ?_
  refine wp_cc rfl (by omega) (S_thrown ?_)
  rw [hth]
  iterate 2 refine wp_s rfl ?_
  refine br_eq (fun _ => ?_) (fun e => absurd rfl e)
  iterate 2 refine wp_s rfl ?_
  refine br_ne (fun e => ?_) (fun e => ?_)
  · refine wp_s rfl ?_
    exact kk
  · iterate 2 refine wp_s rfl ?_
    refine wp_lald rfl ?_
    rw [hk e]
    iterate 3 refine wp_s rfl ?_
    rw [lg_self]
    iterate 2 refine wp_s rfl ?_
    exact kk
set_option maxRecDepth 100000 in
theorem T_count (hd : 1 ≤ d) (hth : hI h 4 0 0 = k) (hk : k = 0 → hJ h 11 0 0 = b.toInt64) (kk : WP d 101 971 [some (vr 15 0), some (vr 0 0), some (vr 4 0), some (vr 11 0), some (vi x), some (vi k), some (vi b)] [] h Q) : WP d 101 938 [some (vr 15 0), some (vr 0 0), some (vr 4 0), some (vr 11 0), some (vi x), some (vi k), L6] [vi b] h Q := by
  iterate 2 refine wp_s rfl ?_
  refine wp_cc rfl (by omega) (S_thrown ?_)
  rw [hth]
  iterate 2 refine wp_s rfl ?_
  refine br_eq (fun _ => ?_) (fun e => absurd rfl e)
  iterate 2 refine wp_s rfl ?_
  refine br_ne (fun e => ?_) (fun e => ?_)
  · refine wp_s rfl ?_
    exact kk
  · iterate 2 refine wp_s rfl ?_
    refine wp_lald rfl ?_
    rw [hk e]
    iterate 3 refine wp_s rfl ?_
    rw [lg_self]
    iterate 2 refine wp_s rfl ?_
    exact kk
end TAIL
def INV (L sz j : Nat) (h : AH) : Prop := hC h 16 = L ∧ hZ h ≤ sz + 40 + 4 * j ∧ hS h ≤ 1000 + 100 * j ∧ ∃ c pl pd told chs, Wf c ∧ Sp c ∧ Bd c pl ∧ KS c pl pd told chs h ∧ MS c pl pd told chs h
theorem INV_n {L sz j : Nat} {h h1 h2 : AH} {c : Cf} {pl : Pl} {pd : Bool} {told : Int32} {chs : List Nat} (i : INV L sz j h) (a : FC h h1) (b : FN h1 h2) (w : Wf c) (sp : Sp c) (bp : Bd c pl) (g : KS c pl pd told chs h2) (m : MS c pl pd told chs h2) : INV L sz (j + 1) h2 := by
  obtain ⟨i1, i2, i3, -⟩ := i
  refine ⟨?_, ?_, ?_, c, pl, pd, told, chs, w, sp, bp, g, m⟩
  · rw [b.2.2.2.1, a.2.2.1]; exact i1
  · have := a.2.2.2.1
    rw [b.2.2.2.2.1]
    omega
  · have := a.2.2.2.2
    rw [b.2.2.2.2.2]
    omega
theorem bel_nI {p n : Nat} (h : p < n) (hn : n < 1000) : bel (nI p) (nI n) = true := by
  unfold bel
  rw [decide_eq_true (nI_lt h (by omega)), decide_eq_false (nI_pos (by omega))]
  rfl
end
section
-- THE LAW'S CASES
abbrev LL (j : Nat) (L5 L6 : Option AV) : AL := [some (vr 15 0), some (vr 0 0), some (vr 4 0), some (vr 11 0), some (vi (nI (5 * j))), L5, L6]
section CASES
variable {L sz j : Nat} {h : AH} {Q : Oc → AH → Prop} {L5 L6 : Option AV}
set_option maxRecDepth 100000 in
theorem C_rest (hj : 5 * j + 5 ≤ L) (hL : L ≤ 2560) (i : INV L sz j h) (kk : ∀ h' L5 L6, INV L sz (j + 1) h' → WP 40 101 971 (LL j L5 L6) [] h' Q) : WP 40 101 360 (LL j L5 L6) [] h Q := by
  obtain ⟨c, pl, pd, told, chs, w, sp, bp, g, m⟩ := i.2.2.2
  have wP := Wf_P w
  have wN := Wf_N w
  have snd : ∀ (h1 : AH) (k : Int32), FC h h1 → WP 40 101 380 (LL j (some (vi k)) L6) [vi (hI h 15 0 (5 * j + 1)), vr 4 0] h1 Q → WP 40 101 371 (LL j L5 L6) [vi k] h1 Q := by
    intro h1 k a p
    iterate 6 refine wp_s rfl ?_
    rw [show nI (5 * j) + 1 = nI (5 * j + 1) from nI_add (5 * j) 1]
    refine wp_sald rfl (by rw [a.2.2.1, i.1]; omega) (by rw [a.2.2.1, i.1]; exact hL) ?_
    rw [show hI h1 15 0 (5 * j + 1) = hI h 15 0 (5 * j + 1) from a.1 15 0 _ (by omega)]
    exact p
  iterate 5 refine wp_s rfl ?_
  rw [show nI (5 * j) + 1 = nI (5 * j + 1) from nI_add (5 * j) 1]
  refine wp_sald rfl (by rw [i.1]; omega) (by rw [i.1]; exact hL) ?_
  refine wp_s rfl ?_
  refine wp_cc rfl (by omega) (W_rest (by omega) g (fun v h1 e1 e2 g1 a => ?_) (fun e => ?_))
  · refine snd _ 0 (FC_sJ a) ?_
    refine wp_cc rfl (by omega) (S_mrest (by omega) (MS_FC (FC_sJ a) m) (fun v' h2 f1 f2 m2 b t => ?_) (fun h2 f m2 b t => ?_))
    · have : v' = v := by
        rw [e2] at f2
        exact ((nI_eq (by omega) (by omega)).1 f2).symm
      subst this
      refine T_rest (by omega) t (fun _ => (by rw [b.2.2.1]; exact hJ_sJ0)) (kk _ _ _ (INV_n (c := wR c v') i (FC_sJ a) b ?_ sp bp (KS_FN b (KS_sJ g1)) m2))
      exact ⟨w.1, w.2.1, w.2.2.1, w.2.2.2.1, e1, w.2.2.2.2.2⟩
    · rw [e2] at f
      rw [show wth (nI v) 0 96 = true from by unfold wth; rw [decide_eq_false (nI_pos (by omega)), decide_eq_true (show nI v ≤ 96 from nI_le (b := 96) e1 (by omega))]; rfl] at f
      exact absurd f (by simp)
  · have a : FC h (al h 12 6) := FC_al (by omega) (by omega) (by omega)
    refine snd _ 1 a ?_
    refine wp_cc rfl (by omega) (S_mrest (by omega) (MS_FC a m) (fun v' h2 f1 f2 m2 b t => ?_) (fun h2 f m2 b t => ?_))
    · rw [f2] at e
      rw [show wth (nI v') 0 96 = true from by unfold wth; rw [decide_eq_false (nI_pos (by omega)), decide_eq_true (show nI v' ≤ 96 from nI_le (b := 96) f1 (by omega))]; rfl] at e
      exact absurd e (by simp)
    · exact T_rest (by omega) t (fun q => absurd q (by decide)) (kk _ _ _ (INV_n i a b w sp bp (KS_FN b (KS_al (by omega) g)) m2))
set_option maxRecDepth 100000 in
theorem C_limit (hj : 5 * j + 5 ≤ L) (hL : L ≤ 2560) (i : INV L sz j h) (kk : ∀ h' L5 L6, INV L sz (j + 1) h' → WP 40 101 971 (LL j L5 L6) [] h' Q) : WP 40 101 416 (LL j L5 L6) [] h Q := by
  obtain ⟨c, pl, pd, told, chs, w, sp, bp, g, m⟩ := i.2.2.2
  have wP := Wf_P w
  have wN := Wf_N w
  have snd : ∀ (h1 : AH) (k : Int32), FC h h1 → WP 40 101 436 (LL j (some (vi k)) L6) [vi (hI h 15 0 (5 * j + 1)), vr 4 0] h1 Q → WP 40 101 427 (LL j L5 L6) [vi k] h1 Q := by
    intro h1 k a p
    iterate 6 refine wp_s rfl ?_
    rw [show nI (5 * j) + 1 = nI (5 * j + 1) from nI_add (5 * j) 1]
    refine wp_sald rfl (by rw [a.2.2.1, i.1]; omega) (by rw [a.2.2.1, i.1]; exact hL) ?_
    rw [show hI h1 15 0 (5 * j + 1) = hI h 15 0 (5 * j + 1) from a.1 15 0 _ (by omega)]
    exact p
  iterate 5 refine wp_s rfl ?_
  rw [show nI (5 * j) + 1 = nI (5 * j + 1) from nI_add (5 * j) 1]
  refine wp_sald rfl (by rw [i.1]; omega) (by rw [i.1]; exact hL) ?_
  refine wp_s rfl ?_
  refine wp_cc rfl (by omega) (W_limit (by omega) g (fun v h1 e1 e2 g1 a => ?_) (fun e => ?_))
  · refine snd _ 0 (FC_sJ a) ?_
    refine wp_cc rfl (by omega) (S_mlimit (by omega) (MS_FC (FC_sJ a) m) (fun v' h2 f1 f2 m2 b t => ?_) (fun h2 f m2 b t => ?_))
    · have : v' = v := by
        rw [e2] at f2
        exact ((nI_eq (by omega) (by omega)).1 f2).symm
      subst this
      refine T_limit (by omega) t (fun _ => (by rw [b.2.2.1]; exact hJ_sJ0)) (kk _ _ _ (INV_n (c := wL c v') i (FC_sJ a) b ?_ sp bp (KS_FN b (KS_sJ g1)) m2))
      exact ⟨w.1, w.2.1, w.2.2.1, w.2.2.2.1, w.2.2.2.2.1, e1, w.2.2.2.2.2.2⟩
    · rw [e2] at f
      rw [show wth (nI v) 0 96 = true from by unfold wth; rw [decide_eq_false (nI_pos (by omega)), decide_eq_true (show nI v ≤ 96 from nI_le (b := 96) e1 (by omega))]; rfl] at f
      exact absurd f (by simp)
  · have a : FC h (al h 12 6) := FC_al (by omega) (by omega) (by omega)
    refine snd _ 1 a ?_
    refine wp_cc rfl (by omega) (S_mlimit (by omega) (MS_FC a m) (fun v' h2 f1 f2 m2 b t => ?_) (fun h2 f m2 b t => ?_))
    · rw [f2] at e
      rw [show wth (nI v') 0 96 = true from by unfold wth; rw [decide_eq_false (nI_pos (by omega)), decide_eq_true (show nI v' ≤ 96 from nI_le (b := 96) f1 (by omega))]; rfl] at e
      exact absurd e (by simp)
    · exact T_limit (by omega) t (fun q => absurd q (by decide)) (kk _ _ _ (INV_n i a b w sp bp (KS_FN b (KS_al (by omega) g)) m2))
set_option maxRecDepth 100000 in
theorem C_freeze (hj : 5 * j + 5 ≤ L) (hL : L ≤ 2560) (i : INV L sz j h) (kk : ∀ h' L5 L6, INV L sz (j + 1) h' → WP 40 101 971 (LL j L5 L6) [] h' Q) : WP 40 101 472 (LL j L5 L6) [] h Q := by
  obtain ⟨c, pl, pd, told, chs, w, sp, bp, g, m⟩ := i.2.2.2
  have wP := Wf_P w
  have wN := Wf_N w
  have snd : ∀ (h1 : AH) (k : Int32), FC h h1 → WP 40 101 492 (LL j (some (vi k)) L6) [vi (hI h 15 0 (5 * j + 1)), vr 4 0] h1 Q → WP 40 101 483 (LL j L5 L6) [vi k] h1 Q := by
    intro h1 k a p
    iterate 6 refine wp_s rfl ?_
    rw [show nI (5 * j) + 1 = nI (5 * j + 1) from nI_add (5 * j) 1]
    refine wp_sald rfl (by rw [a.2.2.1, i.1]; omega) (by rw [a.2.2.1, i.1]; exact hL) ?_
    rw [show hI h1 15 0 (5 * j + 1) = hI h 15 0 (5 * j + 1) from a.1 15 0 _ (by omega)]
    exact p
  iterate 5 refine wp_s rfl ?_
  rw [show nI (5 * j) + 1 = nI (5 * j + 1) from nI_add (5 * j) 1]
  refine wp_sald rfl (by rw [i.1]; omega) (by rw [i.1]; exact hL) ?_
  refine wp_s rfl ?_
  refine wp_cc rfl (by omega) (W_freeze (by omega) g (fun v h1 e1 e2 g1 a => ?_) (fun e => ?_))
  · refine snd _ 0 (FC_sJ a) ?_
    refine wp_cc rfl (by omega) (S_mfreeze (by omega) (MS_FC (FC_sJ a) m) (fun v' h2 f1 f2 m2 b t => ?_) (fun h2 f m2 b t => ?_))
    · have : v' = v := by
        rw [e2] at f2
        exact ((nI_eq (by omega) (by omega)).1 f2).symm
      subst this
      refine T_freeze (by omega) t (fun _ => (by rw [b.2.2.1]; exact hJ_sJ0)) (kk _ _ _ (INV_n (c := wF c v') i (FC_sJ a) b ?_ sp bp (KS_FN b (KS_sJ g1)) m2))
      exact ⟨w.1, w.2.1, w.2.2.1, w.2.2.2.1, w.2.2.2.2.1, w.2.2.2.2.2.1, e1⟩
    · rw [e2] at f
      rw [show wth (nI v) 0 96 = true from by unfold wth; rw [decide_eq_false (nI_pos (by omega)), decide_eq_true (show nI v ≤ 96 from nI_le (b := 96) e1 (by omega))]; rfl] at f
      exact absurd f (by simp)
  · have a : FC h (al h 12 6) := FC_al (by omega) (by omega) (by omega)
    refine snd _ 1 a ?_
    refine wp_cc rfl (by omega) (S_mfreeze (by omega) (MS_FC a m) (fun v' h2 f1 f2 m2 b t => ?_) (fun h2 f m2 b t => ?_))
    · rw [f2] at e
      rw [show wth (nI v') 0 96 = true from by unfold wth; rw [decide_eq_false (nI_pos (by omega)), decide_eq_true (show nI v' ≤ 96 from nI_le (b := 96) f1 (by omega))]; rfl] at e
      exact absurd e (by simp)
    · exact T_freeze (by omega) t (fun q => absurd q (by decide)) (kk _ _ _ (INV_n i a b w sp bp (KS_FN b (KS_al (by omega) g)) m2))
set_option maxRecDepth 100000 in
theorem C_person (hj : 5 * j + 5 ≤ L) (hL : L ≤ 2560) (i : INV L sz j h) (kk : ∀ h' L5 L6, INV L sz (j + 1) h' → WP 40 101 971 (LL j L5 L6) [] h' Q) : WP 40 101 116 (LL j L5 L6) [] h Q := by
  obtain ⟨c, pl, pd, told, chs, w, sp, bp, g, m⟩ := i.2.2.2
  have wP := Wf_P w
  have wN := Wf_N w
  have snd : ∀ (h1 : AH) (k : Int32), FC h h1 → WP 40 101 136 (LL j (some (vi k)) L6) [vi (hI h 15 0 (5 * j + 1)), vr 4 0] h1 Q → WP 40 101 127 (LL j L5 L6) [vi k] h1 Q := by
    intro h1 k a p
    iterate 6 refine wp_s rfl ?_
    rw [show nI (5 * j) + 1 = nI (5 * j + 1) from nI_add (5 * j) 1]
    refine wp_sald rfl (by rw [a.2.2.1, i.1]; omega) (by rw [a.2.2.1, i.1]; exact hL) ?_
    rw [show hI h1 15 0 (5 * j + 1) = hI h 15 0 (5 * j + 1) from a.1 15 0 _ (by omega)]
    exact p
  iterate 5 refine wp_s rfl ?_
  rw [show nI (5 * j) + 1 = nI (5 * j + 1) from nI_add (5 * j) 1]
  refine wp_sald rfl (by rw [i.1]; omega) (by rw [i.1]; exact hL) ?_
  refine wp_s rfl ?_
  refine wp_cc rfl (by omega) (W_person (by omega) w sp g (fun h1 e1 e2 g1 a => ?_) (fun e => ?_) (fun e1 e2 => ?_))
  · refine snd _ 0 (FC_sJ a) ?_
    refine wp_cc rfl (by omega) (S_mperson (by omega) w (MS_FC (FC_sJ a) m) (fun h2 f1 f2 m2 b t => ?_) (fun h2 f m2 b t => absurd (f.symm.trans e1) (by simp)) (fun h2 f f2 m2 b t => absurd e2 f2))
    refine T_person (by omega) t (fun _ => (by rw [b.2.2.1]; exact hJ_sJ0)) (kk _ _ _ (INV_n i (FC_sJ a) b ?_ ?_ ?_ (KS_FN b (KS_sJ g1)) m2))
    · exact ⟨e2, w.2⟩
    · intro s hs
      exact Nat.lt_succ_of_lt (sp s hs)
    · intro t p ht e
      exact Nat.lt_succ_of_lt (bp t p ht e)
  · have a : FC h (al h 12 6) := FC_al (by omega) (by omega) (by omega)
    refine snd _ 1 a ?_
    refine wp_cc rfl (by omega) (S_mperson (by omega) w (MS_FC a m) (fun h2 f1 f2 m2 b t => absurd (f1.symm.trans e) (by simp)) (fun h2 f m2 b t => ?_) (fun h2 f f2 m2 b t => absurd (f.symm.trans e) (by simp)))
    exact T_person (by omega) t (fun q => absurd q (by decide)) (kk _ _ _ (INV_n i a b w sp bp (KS_FN b (KS_al (by omega) g)) m2))
  · have a : FC h (al h 13 6) := FC_al (by omega) (by omega) (by omega)
    refine snd _ 2 a ?_
    refine wp_cc rfl (by omega) (S_mperson (by omega) w (MS_FC a m) (fun h2 f1 f2 m2 b t => absurd f2 e2) (fun h2 f m2 b t => absurd (f.symm.trans e1) (by simp)) (fun h2 f f2 m2 b t => ?_))
    exact T_person (by omega) t (fun q => absurd q (by decide)) (kk _ _ _ (INV_n i a b w sp bp (KS_FN b (KS_al (by omega) g)) m2))
set_option maxRecDepth 100000 in
theorem C_of (hj : 5 * j + 5 ≤ L) (hL : L ≤ 2560) (i : INV L sz j h) (kk : ∀ h' L5 L6, INV L sz (j + 1) h' → WP 40 101 971 (LL j L5 L6) [] h' Q) : WP 40 101 554 (LL j L5 L6) [] h Q := by
  obtain ⟨c, pl, pd, told, chs, w, sp, bp, g, m⟩ := i.2.2.2
  have wP := Wf_P w
  have wN := Wf_N w
  have snd : ∀ (h1 : AH) (k : Int32), FC h h1 → WP 40 101 574 (LL j (some (vi k)) L6) [vi (hI h 15 0 (5 * j + 1)), vr 4 0] h1 Q → WP 40 101 565 (LL j L5 L6) [vi k] h1 Q := by
    intro h1 k a p
    iterate 6 refine wp_s rfl ?_
    rw [show nI (5 * j) + 1 = nI (5 * j + 1) from nI_add (5 * j) 1]
    refine wp_sald rfl (by rw [a.2.2.1, i.1]; omega) (by rw [a.2.2.1, i.1]; exact hL) ?_
    rw [show hI h1 15 0 (5 * j + 1) = hI h 15 0 (5 * j + 1) from a.1 15 0 _ (by omega)]
    exact p
  iterate 5 refine wp_s rfl ?_
  rw [show nI (5 * j) + 1 = nI (5 * j + 1) from nI_add (5 * j) 1]
  refine wp_sald rfl (by rw [i.1]; omega) (by rw [i.1]; exact hL) ?_
  refine wp_s rfl ?_
  refine wp_cc rfl (by omega) (W_of (by omega) w bp g (fun t ht ex => ?_) (fun e => ?_))
  · have a : ∀ v, FC h (sJ h 11 0 0 v) := fun v => FC_sJ FC_r
    refine snd _ 0 (a _) ?_
    refine wp_cc rfl (by omega) (S_mof (by omega) w (MS_FC (a _) m) (fun t' h2 f1 f2 m2 b t0 => ?_) (fun h2 f m2 b t0 => ?_))
    · have : t' = t := by
        rw [ex] at f2
        exact ((nI_eq (by omega) (by omega)).1 f2).symm
      subst this
      exact T_of (by omega) t0 (fun _ => (by rw [b.2.2.1]; exact hJ_sJ0)) (kk _ _ _ (INV_n i (a _) b w sp bp (KS_FN b (KS_sJ g)) m2))
    · rw [ex, bel_nI ht (by omega)] at f
      exact absurd f (by simp)
  · have a : FC h (al h 14 6) := FC_al (by omega) (by omega) (by omega)
    refine snd _ 1 a ?_
    refine wp_cc rfl (by omega) (S_mof (by omega) w (MS_FC a m) (fun t' h2 f1 f2 m2 b t0 => ?_) (fun h2 f m2 b t0 => ?_))
    · rw [f2, bel_nI f1 (by omega)] at e
      exact absurd e (by simp)
    · exact T_of (by omega) t0 (fun q => absurd q (by decide)) (kk _ _ _ (INV_n i a b w sp bp (KS_FN b (KS_al (by omega) g)) m2))
set_option maxRecDepth 100000 in
theorem C_work (hj : 5 * j + 5 ≤ L) (hL : L ≤ 2560) (i : INV L sz j h) (kk : ∀ h' L5 L6, INV L sz (j + 1) h' → WP 40 101 971 (LL j L5 L6) [] h' Q) : WP 40 101 846 (LL j L5 L6) [] h Q := by
  obtain ⟨c, pl, pd, told, chs, w, sp, bp, g, m⟩ := i.2.2.2
  have wP := Wf_P w
  have wN := Wf_N w
  have snd : ∀ (h1 : AH) (k : Int32), FC h h1 → WP 40 101 866 (LL j (some (vi k)) L6) [vi (hI h 15 0 (5 * j + 1)), vr 4 0] h1 Q → WP 40 101 857 (LL j L5 L6) [vi k] h1 Q := by
    intro h1 k a p
    iterate 6 refine wp_s rfl ?_
    rw [show nI (5 * j) + 1 = nI (5 * j + 1) from nI_add (5 * j) 1]
    refine wp_sald rfl (by rw [a.2.2.1, i.1]; omega) (by rw [a.2.2.1, i.1]; exact hL) ?_
    rw [show hI h1 15 0 (5 * j + 1) = hI h 15 0 (5 * j + 1) from a.1 15 0 _ (by omega)]
    exact p
  iterate 5 refine wp_s rfl ?_
  rw [show nI (5 * j) + 1 = nI (5 * j + 1) from nI_add (5 * j) 1]
  refine wp_sald rfl (by rw [i.1]; omega) (by rw [i.1]; exact hL) ?_
  refine wp_s rfl ?_
  refine wp_cc rfl (by omega) (W_work (by omega) w g (fun t ht ex => ?_) (fun e => ?_))
  · have a : ∀ v, FC h (sJ h 11 0 0 v) := fun v => FC_sJ FC_r
    refine snd _ 0 (a _) ?_
    refine wp_cc rfl (by omega) (S_mwork (by omega) w bp (MS_FC (a _) m) (fun t' h2 f1 f2 m2 b t0 => ?_) (fun h2 f m2 b t0 => ?_))
    · have : t' = t := by
        rw [ex] at f2
        exact ((nI_eq (by omega) (by omega)).1 f2).symm
      subst this
      exact T_work (by omega) t0 (fun _ => (by rw [b.2.2.1]; exact hJ_sJ0)) (kk _ _ _ (INV_n i (a _) b w sp bp (KS_FN b (KS_sJ g)) m2))
    · rw [ex, bel_nI ht (by omega)] at f
      exact absurd f (by simp)
  · have a : FC h (al h 14 6) := FC_al (by omega) (by omega) (by omega)
    refine snd _ 1 a ?_
    refine wp_cc rfl (by omega) (S_mwork (by omega) w bp (MS_FC a m) (fun t' h2 f1 f2 m2 b t0 => ?_) (fun h2 f m2 b t0 => ?_))
    · rw [f2, bel_nI f1 (by omega)] at e
      exact absurd e (by simp)
    · exact T_work (by omega) t0 (fun q => absurd q (by decide)) (kk _ _ _ (INV_n i a b w sp bp (KS_FN b (KS_al (by omega) g)) m2))
set_option maxRecDepth 100000 in
theorem C_changed (hj : 5 * j + 5 ≤ L) (hL : L ≤ 2560) (i : INV L sz j h) (kk : ∀ h' L5 L6, INV L sz (j + 1) h' → WP 40 101 971 (LL j L5 L6) [] h' Q) : WP 40 101 722 (LL j L5 L6) [] h Q := by
  obtain ⟨c, pl, pd, told, chs, w, sp, bp, g, m⟩ := i.2.2.2
  have wP := Wf_P w
  have wN := Wf_N w
  have snd : ∀ (h1 : AH) (k : Int32), FC h h1 → WP 40 101 742 (LL j (some (vi k)) L6) [vi (hI h 15 0 (5 * j + 1)), vr 4 0] h1 Q → WP 40 101 733 (LL j L5 L6) [vi k] h1 Q := by
    intro h1 k a p
    iterate 6 refine wp_s rfl ?_
    rw [show nI (5 * j) + 1 = nI (5 * j + 1) from nI_add (5 * j) 1]
    refine wp_sald rfl (by rw [a.2.2.1, i.1]; omega) (by rw [a.2.2.1, i.1]; exact hL) ?_
    rw [show hI h1 15 0 (5 * j + 1) = hI h 15 0 (5 * j + 1) from a.1 15 0 _ (by omega)]
    exact p
  iterate 5 refine wp_s rfl ?_
  rw [show nI (5 * j) + 1 = nI (5 * j + 1) from nI_add (5 * j) 1]
  refine wp_sald rfl (by rw [i.1]; omega) (by rw [i.1]; exact hL) ?_
  refine wp_s rfl ?_
  have h6 := g.2.1.2.2.1
  refine wp_cc rfl (by omega) (W_changed (by omega) g (fun t ht ex => ?_) (fun e => ?_))
  · have a : ∀ v, FC h (sJ h 11 0 0 v) := fun v => FC_sJ FC_r
    refine snd _ 0 (a _) ?_
    refine wp_cc rfl (by omega) (S_mchanged (by omega) (MS_FC (a _) m) (fun t' h2 f1 f2 m2 b t0 => ?_) (fun h2 f m2 b t0 => ?_))
    · have : t' = t := by
        rw [ex] at f2
        exact ((nI_eq (by omega) (by omega)).1 f2).symm
      subst this
      exact T_changed (by omega) t0 (fun _ => (by rw [b.2.2.1]; exact hJ_sJ0)) (kk _ _ _ (INV_n i (a _) b w sp bp (KS_FN b (KS_sJ g)) m2))
    · rw [ex, bel_nI ht (by omega)] at f
      exact absurd f (by simp)
  · have a : FC h (al h 14 6) := FC_al (by omega) (by omega) (by omega)
    refine snd _ 1 a ?_
    refine wp_cc rfl (by omega) (S_mchanged (by omega) (MS_FC a m) (fun t' h2 f1 f2 m2 b t0 => ?_) (fun h2 f m2 b t0 => ?_))
    · rw [f2, bel_nI f1 (by omega)] at e
      exact absurd e (by simp)
    · exact T_changed (by omega) t0 (fun q => absurd q (by decide)) (kk _ _ _ (INV_n i a b w sp bp (KS_FN b (KS_al (by omega) g)) m2))
set_option maxRecDepth 100000 in
theorem C_count (hj : 5 * j + 5 ≤ L) (hL : L ≤ 2560) (i : INV L sz j h) (kk : ∀ h' L5 L6, INV L sz (j + 1) h' → WP 40 101 971 (LL j L5 L6) [] h' Q) : WP 40 101 915 (LL j L5 L6) [] h Q := by
  obtain ⟨c, pl, pd, told, chs, w, sp, bp, g, m⟩ := i.2.2.2
  have wP := Wf_P w
  have wN := Wf_N w
  have snd : ∀ (h1 : AH) (k : Int32), FC h h1 → WP 40 101 935 (LL j (some (vi k)) L6) [vi (hI h 15 0 (5 * j + 1)), vr 4 0] h1 Q → WP 40 101 926 (LL j L5 L6) [vi k] h1 Q := by
    intro h1 k a p
    iterate 6 refine wp_s rfl ?_
    rw [show nI (5 * j) + 1 = nI (5 * j + 1) from nI_add (5 * j) 1]
    refine wp_sald rfl (by rw [a.2.2.1, i.1]; omega) (by rw [a.2.2.1, i.1]; exact hL) ?_
    rw [show hI h1 15 0 (5 * j + 1) = hI h 15 0 (5 * j + 1) from a.1 15 0 _ (by omega)]
    exact p
  iterate 5 refine wp_s rfl ?_
  rw [show nI (5 * j) + 1 = nI (5 * j + 1) from nI_add (5 * j) 1]
  refine wp_sald rfl (by rw [i.1]; omega) (by rw [i.1]; exact hL) ?_
  refine wp_s rfl ?_
  refine wp_cc rfl (by omega) (W_count (by omega) g (fun e => ?_) (fun e => ?_) (fun e => ?_) (fun e => ?_) (fun e => ?_))
  · have a : ∀ v, FC h (sJ h 11 0 0 v) := fun v => FC_sJ FC_r
    refine snd _ 0 (a _) ?_
    refine wp_cc rfl (by omega) (S_mcount (by omega) (MS_FC (a _) m) (fun h2 m2 b t0 => ⟨fun q => ?_, fun q => ?_, fun q => ?_, fun q => ?_⟩) (fun h2 f m2 b t0 => ?_))
    · exact T_count (by omega) t0 (fun _ => (by rw [b.2.2.1]; exact hJ_sJ0)) (kk _ _ _ (INV_n i (a _) b w sp bp (KS_FN b (KS_sJ g)) m2))
    · exact absurd (q.symm.trans e) (by decide)
    · exact absurd (q.symm.trans e) (by decide)
    · exact absurd (q.symm.trans e) (by decide)
    · rw [e] at f; exact absurd f (by decide)
  · have a : ∀ v, FC h (sJ h 11 0 0 v) := fun v => FC_sJ FC_r
    refine snd _ 0 (a _) ?_
    refine wp_cc rfl (by omega) (S_mcount (by omega) (MS_FC (a _) m) (fun h2 m2 b t0 => ⟨fun q => ?_, fun q => ?_, fun q => ?_, fun q => ?_⟩) (fun h2 f m2 b t0 => ?_))
    · exact absurd (q.symm.trans e) (by decide)
    · exact T_count (by omega) t0 (fun _ => (by rw [b.2.2.1]; exact hJ_sJ0)) (kk _ _ _ (INV_n i (a _) b w sp bp (KS_FN b (KS_sJ g)) m2))
    · exact absurd (q.symm.trans e) (by decide)
    · exact absurd (q.symm.trans e) (by decide)
    · rw [e] at f; exact absurd f (by decide)
  · have a : ∀ v, FC h (sJ h 11 0 0 v) := fun v => FC_sJ FC_r
    refine snd _ 0 (a _) ?_
    refine wp_cc rfl (by omega) (S_mcount (by omega) (MS_FC (a _) m) (fun h2 m2 b t0 => ⟨fun q => ?_, fun q => ?_, fun q => ?_, fun q => ?_⟩) (fun h2 f m2 b t0 => ?_))
    · exact absurd (q.symm.trans e) (by decide)
    · exact absurd (q.symm.trans e) (by decide)
    · exact T_count (by omega) t0 (fun _ => (by rw [b.2.2.1]; exact hJ_sJ0)) (kk _ _ _ (INV_n i (a _) b w sp bp (KS_FN b (KS_sJ g)) m2))
    · exact absurd (q.symm.trans e) (by decide)
    · rw [e] at f; exact absurd f (by decide)
  · have a : ∀ v, FC h (sJ h 11 0 0 v) := fun v => FC_sJ FC_r
    refine snd _ 0 (a _) ?_
    refine wp_cc rfl (by omega) (S_mcount (by omega) (MS_FC (a _) m) (fun h2 m2 b t0 => ⟨fun q => ?_, fun q => ?_, fun q => ?_, fun q => ?_⟩) (fun h2 f m2 b t0 => ?_))
    · exact absurd (q.symm.trans e) (by decide)
    · exact absurd (q.symm.trans e) (by decide)
    · exact absurd (q.symm.trans e) (by decide)
    · exact T_count (by omega) t0 (fun _ => (by rw [b.2.2.1]; exact hJ_sJ0)) (kk _ _ _ (INV_n i (a _) b w sp bp (KS_FN b (KS_sJ g)) m2))
    · rw [e] at f; exact absurd f (by decide)
  · have a : FC h (al h 14 6) := FC_al (by omega) (by omega) (by omega)
    refine snd _ 1 a ?_
    refine wp_cc rfl (by omega) (S_mcount (by omega) (MS_FC a m) (fun h2 m2 b t0 => ⟨fun q => ?_, fun q => ?_, fun q => ?_, fun q => ?_⟩) (fun h2 f m2 b t0 => ?_))
    · rw [q] at e; exact absurd e (by decide)
    · rw [q] at e; exact absurd e (by decide)
    · rw [q] at e; exact absurd e (by decide)
    · rw [q] at e; exact absurd e (by decide)
    · exact T_count (by omega) t0 (fun q => absurd q (by decide)) (kk _ _ _ (INV_n i a b w sp bp (KS_FN b (KS_al (by omega) g)) m2))
set_option maxRecDepth 100000 in
theorem C_cost (hj : 5 * j + 5 ≤ L) (hL : L ≤ 2560) (i : INV L sz j h) (kk : ∀ h' L5 L6, INV L sz (j + 1) h' → WP 40 101 971 (LL j L5 L6) [] h' Q) : WP 40 101 610 (LL j L5 L6) [] h Q := by
  obtain ⟨c, pl, pd, told, chs, w, sp, bp, g, m⟩ := i.2.2.2
  have wP := Wf_P w
  have wN := Wf_N w
  have snd : ∀ (h1 : AH) (k : Int32), FC h h1 → WP 40 101 618 (LL j (some (vi k)) L6) [vr 4 0] h1 Q → WP 40 101 615 (LL j L5 L6) [vi k] h1 Q := by
    intro h1 k a p
    iterate 2 refine wp_s rfl ?_
    exact p
  refine wp_s rfl ?_
  refine wp_s rfl ?_
  refine wp_cc rfl (by omega) (W_cost (by omega) w g (fun e => ?_) (fun e => ?_))
  · have a : ∀ v, FC h (sJ h 11 0 0 v) := fun v => FC_sJ FC_r
    refine snd _ 0 (a _) ?_
    refine wp_cc rfl (by omega) (S_mcost (by omega) w bp (MS_FC (a _) m) (fun h2 f m2 b t0 => ?_) (fun h2 f m2 b t0 => absurd (f.symm.trans e) (by simp)))
    exact T_cost (by omega) t0 (fun _ => (by rw [b.2.2.1]; exact hJ_sJ0)) (kk _ _ _ (INV_n i (a _) b w sp bp (KS_FN b (KS_sJ g)) m2))
  · have a : FC h (al h 13 6) := FC_al (by omega) (by omega) (by omega)
    refine snd _ 1 a ?_
    refine wp_cc rfl (by omega) (S_mcost (by omega) w bp (MS_FC a m) (fun h2 f m2 b t0 => absurd (f.symm.trans e) (by simp)) (fun h2 f m2 b t0 => ?_))
    exact T_cost (by omega) t0 (fun q => absurd q (by decide)) (kk _ _ _ (INV_n i a b w sp bp (KS_FN b (KS_al (by omega) g)) m2))
end CASES
end
section
-- THE LAW'S CASES, MORE
theorem chL_congr {c : Cf} {pl p1 p2 : Pl} : ∀ {k : Nat}, (∀ t, t < k → p1 t = p2 t) → chL pl p1 k = chL pl p2 k := by
  intro k hq
  unfold chL
  refine List.filter_congr (fun t ht => ?_)
  rw [hq t (List.mem_range.1 ht)]
theorem k_uniq {y : Int32} {k k' : Nat} (h : k < 1000) (h' : k' < 1000) (a : (y = -1 ∧ k = 0) ∨ y = nI k) (b : (y = -1 ∧ k' = 0) ∨ y = nI k') : k = k' := by
  rcases a with ⟨a1, a2⟩ | a <;> rcases b with ⟨b1, b2⟩ | b
  · omega
  · exact absurd (b.symm.trans a1) (nI_m1 h')
  · exact absurd (a.symm.trans b1) (nI_m1 h)
  · exact (nI_eq (by omega) (by omega)).1 (a.symm.trans b)
theorem EX_bd {c : Cf} {pl : Pl} {kg : Bool} {n : Nat} : Bd c (EX c pl kg (cN c) n) := fun t p ht e => by
  rw [EX_lt ht] at e
  exact dg_lt e
theorem MS_congr {c : Cf} {pl pl' : Pl} {pd : Bool} {told : Int32} {chs : List Nat} {h : AH} (hq : ∀ t, t < cN c → pl t = pl' t) (m : MS c pl pd told chs h) : MS c pl' pd told chs h := ⟨RM_congr hq m.1, m.2⟩
section CASES2
variable {L sz j : Nat} {h : AH} {Q : Oc → AH → Prop} {L5 L6 : Option AV}
set_option maxRecDepth 100000 in
theorem C_off (hj : 5 * j + 5 ≤ L) (hL : L ≤ 2560) (i : INV L sz j h) (kk : ∀ h' L5 L6, INV L sz (j + 1) h' → WP 40 101 971 (LL j L5 L6) [] h' Q) : WP 40 101 172 (LL j L5 L6) [] h Q := by
  obtain ⟨c, pl, pd, told, chs, w, sp, bp, g, m⟩ := i.2.2.2
  have wP := Wf_P w
  have wN := Wf_N w
  have snd : ∀ (h1 : AH) (k : Int32), FC h h1 → WP 40 101 216 (LL j (some (vi k)) L6) [vi (hI h 15 0 (5 * j + 3)), vi (hI h 15 0 (5 * j + 2)), vi (hI h 15 0 (5 * j + 1)), vr 4 0] h1 Q → WP 40 101 195 (LL j L5 L6) [vi k] h1 Q := by
    intro h1 k a p
    iterate 6 refine wp_s rfl ?_
    rw [show nI (5 * j) + 1 = nI (5 * j + 1) from nI_add (5 * j) 1]
    refine wp_sald rfl (by rw [a.2.2.1, i.1]; omega) (by rw [a.2.2.1, i.1]; exact hL) ?_
    rw [show hI h1 15 0 (5 * j + 1) = hI h 15 0 (5 * j + 1) from a.1 15 0 _ (by omega)]
    iterate 4 refine wp_s rfl ?_
    rw [show nI (5 * j) + 2 = nI (5 * j + 2) from nI_add (5 * j) 2]
    refine wp_sald rfl (by rw [a.2.2.1, i.1]; omega) (by rw [a.2.2.1, i.1]; exact hL) ?_
    rw [show hI h1 15 0 (5 * j + 2) = hI h 15 0 (5 * j + 2) from a.1 15 0 _ (by omega)]
    iterate 4 refine wp_s rfl ?_
    rw [show nI (5 * j) + 3 = nI (5 * j + 3) from nI_add (5 * j) 3]
    refine wp_sald rfl (by rw [a.2.2.1, i.1]; omega) (by rw [a.2.2.1, i.1]; exact hL) ?_
    rw [show hI h1 15 0 (5 * j + 3) = hI h 15 0 (5 * j + 3) from a.1 15 0 _ (by omega)]
    exact p
  iterate 5 refine wp_s rfl ?_
  rw [show nI (5 * j) + 1 = nI (5 * j + 1) from nI_add (5 * j) 1]
  refine wp_sald rfl (by rw [i.1]; omega) (by rw [i.1]; exact hL) ?_
  iterate 4 refine wp_s rfl ?_
  rw [show nI (5 * j) + 2 = nI (5 * j + 2) from nI_add (5 * j) 2]
  refine wp_sald rfl (by rw [i.1]; omega) (by rw [i.1]; exact hL) ?_
  iterate 4 refine wp_s rfl ?_
  rw [show nI (5 * j) + 3 = nI (5 * j + 3) from nI_add (5 * j) 3]
  refine wp_sald rfl (by rw [i.1]; omega) (by rw [i.1]; exact hL) ?_
  refine wp_s rfl ?_
  refine wp_cc rfl (by omega) (W_off (by omega) w g (fun p h1 e1 e2 e3 e4 g1 a => ?_) (fun e => ?_) (fun p e1 e2 e3 => ?_) (fun p e1 e2 e3 e4 => ?_))
  · refine snd _ 0 (FC_sJ a) ?_
    refine wp_cc rfl (by omega) (S_moff (by omega) w (MS_FC (FC_sJ a) m) (fun p' h2 f1 f2 f3 f4 m2 b t => ?_) (fun h2 n f1 f2 m2 b t => ?_))
    · have : p' = p := ((nI_eq (by omega) (by omega)).1 (e2.symm.trans f2)).symm
      subst this
      exact T_off (by omega) t (fun _ => (by rw [b.2.2.1]; exact hJ_sJ0)) (kk _ _ _ (INV_n (c := wS c p' _ _) i (FC_sJ a) b (Wf_wS w e4) (Sp_wS sp e1) bp (KS_FN b (KS_sJ g1)) m2))
    · rw [e2, bel_nI e1 (by omega), e3, decide_eq_true e4] at f1
      exact absurd f1 f2
  · have a : FC h (al h 14 6) := FC_al (by omega) (by omega) (by omega)
    refine snd _ 1 a ?_
    refine wp_cc rfl (by omega) (S_moff (by omega) w (MS_FC a m) (fun p' h2 f1 f2 f3 f4 m2 b t => ?_) (fun h2 n f1 f2 m2 b t => ?_))
    · rw [f2, bel_nI f1 (by omega)] at e
      exact absurd e (by simp)
    · rw [e] at f1
      obtain rfl : n = 1 := f1
      exact T_off (by omega) t (fun q => absurd q (by decide)) (kk _ _ _ (INV_n i a b w sp bp (KS_FN b (KS_al (by omega) g)) m2))
  · have a : FC h (al h 12 6) := FC_al (by omega) (by omega) (by omega)
    refine snd _ 2 a ?_
    refine wp_cc rfl (by omega) (S_moff (by omega) w (MS_FC a m) (fun p' h2 f1 f2 f3 f4 m2 b t => absurd (f3.symm.trans e3) (by simp)) (fun h2 n f1 f2 m2 b t => ?_))
    rw [e2, bel_nI e1 (by omega), e3] at f1
    obtain rfl : n = 2 := f1
    exact T_off (by omega) t (fun q => absurd q (by decide)) (kk _ _ _ (INV_n i a b w sp bp (KS_FN b (KS_al (by omega) g)) m2))
  · have a : FC h (al h 13 6) := FC_al (by omega) (by omega) (by omega)
    refine snd _ 3 a ?_
    refine wp_cc rfl (by omega) (S_moff (by omega) w (MS_FC a m) (fun p' h2 f1 f2 f3 f4 m2 b t => absurd f4 e4) (fun h2 n f1 f2 m2 b t => ?_))
    rw [e2, bel_nI e1 (by omega), e3, decide_eq_false e4] at f1
    obtain rfl : n = 3 := f1
    exact T_off (by omega) t (fun q => absurd q (by decide)) (kk _ _ _ (INV_n i a b w sp bp (KS_FN b (KS_al (by omega) g)) m2))
set_option maxRecDepth 100000 in
theorem C_swap (hj : 5 * j + 5 ≤ L) (hL : L ≤ 2560) (i : INV L sz j h) (kk : ∀ h' L5 L6, INV L sz (j + 1) h' → WP 40 101 971 (LL j L5 L6) [] h' Q) : WP 40 101 778 (LL j L5 L6) [] h Q := by
  obtain ⟨c, pl, pd, told, chs, w, sp, bp, g, m⟩ := i.2.2.2
  have wP := Wf_P w
  have wN := Wf_N w
  have snd : ∀ (h1 : AH) (k : Int32), FC h h1 → WP 40 101 810 (LL j (some (vi k)) L6) [vi (hI h 15 0 (5 * j + 2)), vi (hI h 15 0 (5 * j + 1)), vr 4 0] h1 Q → WP 40 101 795 (LL j L5 L6) [vi k] h1 Q := by
    intro h1 k a p
    iterate 6 refine wp_s rfl ?_
    rw [show nI (5 * j) + 1 = nI (5 * j + 1) from nI_add (5 * j) 1]
    refine wp_sald rfl (by rw [a.2.2.1, i.1]; omega) (by rw [a.2.2.1, i.1]; exact hL) ?_
    rw [show hI h1 15 0 (5 * j + 1) = hI h 15 0 (5 * j + 1) from a.1 15 0 _ (by omega)]
    iterate 4 refine wp_s rfl ?_
    rw [show nI (5 * j) + 2 = nI (5 * j + 2) from nI_add (5 * j) 2]
    refine wp_sald rfl (by rw [a.2.2.1, i.1]; omega) (by rw [a.2.2.1, i.1]; exact hL) ?_
    rw [show hI h1 15 0 (5 * j + 2) = hI h 15 0 (5 * j + 2) from a.1 15 0 _ (by omega)]
    exact p
  iterate 5 refine wp_s rfl ?_
  rw [show nI (5 * j) + 1 = nI (5 * j + 1) from nI_add (5 * j) 1]
  refine wp_sald rfl (by rw [i.1]; omega) (by rw [i.1]; exact hL) ?_
  iterate 4 refine wp_s rfl ?_
  rw [show nI (5 * j) + 2 = nI (5 * j + 2) from nI_add (5 * j) 2]
  refine wp_sald rfl (by rw [i.1]; omega) (by rw [i.1]; exact hL) ?_
  refine wp_s rfl ?_
  refine wp_cc rfl (by omega) (W_swap (by omega) w bp g (fun a b e1 e2 e3 e4 e5 e6 => ?_) (fun a b n h1 e1 e2 e3 e4 e5 e6 e7 g1 f => ?_) (fun e => ?_) (fun a b e1 e2 e3 e4 e5 => ?_))
  · have fc : ∀ v, FC h (sJ h 11 0 0 v) := fun v => FC_sJ FC_r
    refine snd _ 0 (fc _) ?_
    refine wp_cc rfl (by omega) (S_mswap w (by omega) sp bp (MS_FC (fc _) m) (fun a' b' h2 f1 f2 f3 f4 f5 f6 m2 bb t => ?_) (fun a' b' n h2 f1 f2 f3 f4 f5 f6 f7 m2 bb t => ?_) (fun h2 n f1 f2 m2 bb t => ?_))
    · exact T_swap (by omega) t (fun _ => (by rw [bb.2.2.1]; exact hJ_sJ0)) (kk _ _ _ (INV_n i (fc _) bb w sp bp (KS_FN bb (KS_sJ g)) m2))
    · have : a' = a := ((nI_eq (by omega) (by omega)).1 (e3.symm.trans f3)).symm
      subst this
      have : b' = b := ((nI_eq (by omega) (by omega)).1 (e4.symm.trans f4)).symm
      subst this
      exact absurd e6 f6
    · rw [e3, e4, bel_nI e1 (by omega), bel_nI e2 (by omega), e5] at f1
      exact absurd f1 f2
  · refine snd _ 0 (FC_sJ f) ?_
    refine wp_cc rfl (by omega) (S_mswap w (by omega) sp bp (MS_FC (FC_sJ f) m) (fun a' b' h2 f1 f2 f3 f4 f5 f6 m2 bb t => ?_) (fun a' b' n' h2 f1 f2 f3 f4 f5 f6 f7 m2 bb t => ?_) (fun h2 n f1 f2 m2 bb t => ?_))
    · have : a' = a := ((nI_eq (by omega) (by omega)).1 (e3.symm.trans f3)).symm
      subst this
      have : b' = b := ((nI_eq (by omega) (by omega)).1 (e4.symm.trans f4)).symm
      subst this
      exact absurd f6 e6
    · have : a' = a := ((nI_eq (by omega) (by omega)).1 (e3.symm.trans f3)).symm
      subst this
      have : b' = b := ((nI_eq (by omega) (by omega)).1 (e4.symm.trans f4)).symm
      subst this
      have : n' = n := WhyIs_u f7 e7
      subst this
      refine T_swap (by omega) t (fun _ => (by rw [bb.2.2.1]; exact hJ_sJ0)) (kk _ _ _ (INV_n i (FC_sJ f) bb w sp ?_ (KS_FN bb (KS_sJ g1)) m2))
      intro t p ht q
      split at q
      · unfold exch at q
        split at q
        · exact bp a' p e1 q
        · split at q
          · exact bp b' p e2 q
          · exact bp t p ht q
      · exact bp t p ht q
    · rw [e3, e4, bel_nI e1 (by omega), bel_nI e2 (by omega), e5] at f1
      exact absurd f1 f2
  · have a : FC h (al h 14 6) := FC_al (by omega) (by omega) (by omega)
    refine snd _ 1 a ?_
    refine wp_cc rfl (by omega) (S_mswap w (by omega) sp bp (MS_FC a m) (fun a' b' h2 f1 f2 f3 f4 f5 f6 m2 bb t => ?_) (fun a' b' n h2 f1 f2 f3 f4 f5 f6 f7 m2 bb t => ?_) (fun h2 n f1 f2 m2 bb t => ?_))
    · rw [f3, f4, bel_nI f1 (by omega), bel_nI f2 (by omega)] at e
      exact absurd e (by simp)
    · rw [f3, f4, bel_nI f1 (by omega), bel_nI f2 (by omega)] at e
      exact absurd e (by simp)
    · rw [e] at f1
      obtain rfl : n = 1 := f1
      exact T_swap (by omega) t (fun q => absurd q (by decide)) (kk _ _ _ (INV_n i a bb w sp bp (KS_FN bb (KS_al (by omega) g)) m2))
  · have fc : FC h (al h 13 6) := FC_al (by omega) (by omega) (by omega)
    refine snd _ 2 fc ?_
    refine wp_cc rfl (by omega) (S_mswap w (by omega) sp bp (MS_FC fc m) (fun a' b' h2 f1 f2 f3 f4 f5 f6 m2 bb t => absurd (f5.symm.trans e5) (by simp)) (fun a' b' n h2 f1 f2 f3 f4 f5 f6 f7 m2 bb t => absurd (f5.symm.trans e5) (by simp)) (fun h2 n f1 f2 m2 bb t => ?_))
    rw [e3, e4, bel_nI e1 (by omega), bel_nI e2 (by omega), e5] at f1
    obtain rfl : n = 2 := f1
    exact T_swap (by omega) t (fun q => absurd q (by decide)) (kk _ _ _ (INV_n i fc bb w sp bp (KS_FN bb (KS_al (by omega) g)) m2))
set_option maxRecDepth 100000 in
theorem C_absent (hj : 5 * j + 5 ≤ L) (hL : L ≤ 2560) (i : INV L sz j h) (kk : ∀ h' L5 L6, INV L sz (j + 1) h' → WP 40 101 971 (LL j L5 L6) [] h' Q) : WP 40 101 654 (LL j L5 L6) [] h Q := by
  obtain ⟨c, pl, pd, told, chs, w, sp, bp, g, m⟩ := i.2.2.2
  have wP := Wf_P w
  have wN := Wf_N w
  have snd : ∀ (h1 : AH) (k : Int32), FC h h1 → WP 40 101 686 (LL j (some (vi k)) L6) [vi (hI h 15 0 (5 * j + 2)), vi (hI h 15 0 (5 * j + 1)), vr 4 0] h1 Q → WP 40 101 671 (LL j L5 L6) [vi k] h1 Q := by
    intro h1 k a p
    iterate 6 refine wp_s rfl ?_
    rw [show nI (5 * j) + 1 = nI (5 * j + 1) from nI_add (5 * j) 1]
    refine wp_sald rfl (by rw [a.2.2.1, i.1]; omega) (by rw [a.2.2.1, i.1]; exact hL) ?_
    rw [show hI h1 15 0 (5 * j + 1) = hI h 15 0 (5 * j + 1) from a.1 15 0 _ (by omega)]
    iterate 4 refine wp_s rfl ?_
    rw [show nI (5 * j) + 2 = nI (5 * j + 2) from nI_add (5 * j) 2]
    refine wp_sald rfl (by rw [a.2.2.1, i.1]; omega) (by rw [a.2.2.1, i.1]; exact hL) ?_
    rw [show hI h1 15 0 (5 * j + 2) = hI h 15 0 (5 * j + 2) from a.1 15 0 _ (by omega)]
    exact p
  iterate 5 refine wp_s rfl ?_
  rw [show nI (5 * j) + 1 = nI (5 * j + 1) from nI_add (5 * j) 1]
  refine wp_sald rfl (by rw [i.1]; omega) (by rw [i.1]; exact hL) ?_
  iterate 4 refine wp_s rfl ?_
  rw [show nI (5 * j) + 2 = nI (5 * j + 2) from nI_add (5 * j) 2]
  refine wp_sald rfl (by rw [i.1]; omega) (by rw [i.1]; exact hL) ?_
  refine wp_s rfl ?_
  refine wp_cc rfl (by omega) (W_absent (by omega) w bp g (fun p b h1 e1 e2 e3 e4 e5 e6 g1 f => ?_) (fun p v h1 e1 e2 e3 e4 e5 e6 e7 g1 f => ?_) (fun e => ?_) (fun p e1 e2 e3 => ?_) (fun p e1 e2 e3 e4 => ?_))
  · refine snd _ 0 (FC_sJ f) ?_
    refine wp_cc rfl (by omega) (S_mabsent w (by omega) sp bp (MS_FC (FC_sJ f) m) (fun p' b' h2 f1 f2 f3 f4 f5 f6 m2 bb t => ?_) (fun p' v k h2 f1 f2 f3 f4 f5 f6 f7 f8 f9 m2 bb t => ?_) (fun h2 n f1 f2 m2 bb t => ?_))
    · have : p' = p := ((nI_eq (by omega) (by omega)).1 (e2.symm.trans f2)).symm
      subst this
      have hb := opt_eq (c := wS c p' (hI h 15 0 (5 * j + 2)) 96) e6 f6
      injection hb with hb
      subst hb
      have hq : ∀ t, t < cN c → dgf (wS c p' (hI h 15 0 (5 * j + 2)) 96) b t = EX (wS c p' (hI h 15 0 (5 * j + 2)) 96) pl true (cN c) b t := fun t ht => (EX_lt (c := wS c p' (hI h 15 0 (5 * j + 2)) 96) ht).symm
      have hc := chL_congr (c := c) (pl := pl) (k := cN c) hq
      rw [hc] at m2 ⊢
      exact T_absent (by omega) t (fun _ => (by rw [bb.2.2.1]; exact hJ_sJ0)) (kk _ _ _ (INV_n (c := wS c p' (hI h 15 0 (5 * j + 2)) 96) i (FC_sJ f) bb (Wf_wS w e5) (Sp_wS sp e1) (EX_bd (c := wS c p' (hI h 15 0 (5 * j + 2)) 96)) (KS_FN bb (KS_sJ g1)) (MS_congr hq m2)))
    · have : p' = p := ((nI_eq (by omega) (by omega)).1 (e2.symm.trans f2)).symm
      subst this
      exact absurd (opt_eq (c := wS c p' (hI h 15 0 (5 * j + 2)) 96) e6 f6) (by simp)
    · rw [e2, bel_nI e1 (by omega), e3, e4, decide_eq_true e5] at f1
      exact absurd f1 f2
  · refine snd _ 0 (FC_sJ f) ?_
    refine wp_cc rfl (by omega) (S_mabsent w (by omega) sp bp (MS_FC (FC_sJ f) m) (fun p' b' h2 f1 f2 f3 f4 f5 f6 m2 bb t => ?_) (fun p' y k h2 f1 f2 f3 f4 f5 f6 f7 f8 f9 m2 bb t => ?_) (fun h2 n f1 f2 m2 bb t => ?_))
    · have : p' = p := ((nI_eq (by omega) (by omega)).1 (e2.symm.trans f2)).symm
      subst this
      exact absurd (opt_eq (c := wS c p' (hI h 15 0 (5 * j + 2)) 96) e6 f6) (by simp)
    · have : p' = p := ((nI_eq (by omega) (by omega)).1 (e2.symm.trans f2)).symm
      subst this
      obtain ⟨k', hk', hy', hx⟩ := told_eq (c := wS c p' (hI h 15 0 (5 * j + 2)) 96) bp e7 f7
      have hk' : k' ≤ cN c := hk'
      have : k = k' := k_uniq (by omega) (by omega) f9 hy'
      subst this
      have hx : v = faI (wS c p' (hI h 15 0 (5 * j + 2)) 96) (cN c - k) k := hx
      rw [← hx] at m2
      exact T_absent (by omega) t (fun _ => (by rw [bb.2.2.1]; exact hJ_sJ0)) (kk _ _ _ (INV_n i (FC_sJ f) bb w sp bp (KS_FN bb (KS_sJ g1)) m2))
    · rw [e2, bel_nI e1 (by omega), e3, e4, decide_eq_true e5] at f1
      exact absurd f1 f2
  · have a : FC h (al h 14 6) := FC_al (by omega) (by omega) (by omega)
    refine snd _ 1 a ?_
    refine wp_cc rfl (by omega) (S_mabsent w (by omega) sp bp (MS_FC a m) (fun p' b' h2 f1 f2 f3 f4 f5 f6 m2 bb t => ?_) (fun p' y k h2 f1 f2 f3 f4 f5 f6 f7 f8 f9 m2 bb t => ?_) (fun h2 n f1 f2 m2 bb t => ?_))
    · rw [f2, bel_nI f1 (by omega)] at e
      exact absurd e (by simp)
    · rw [f2, bel_nI f1 (by omega)] at e
      exact absurd e (by simp)
    · rw [e] at f1
      obtain rfl : n = 1 := f1
      exact T_absent (by omega) t (fun q => absurd q (by decide)) (kk _ _ _ (INV_n i a bb w sp bp (KS_FN bb (KS_al (by omega) g)) m2))
  · have a : FC h (al h 12 6) := FC_al (by omega) (by omega) (by omega)
    refine snd _ 2 a ?_
    refine wp_cc rfl (by omega) (S_mabsent w (by omega) sp bp (MS_FC a m) (fun p' b' h2 f1 f2 f3 f4 f5 f6 m2 bb t => absurd (f3.symm.trans e3) (by simp)) (fun p' y k h2 f1 f2 f3 f4 f5 f6 f7 f8 f9 m2 bb t => absurd (f3.symm.trans e3) (by simp)) (fun h2 n f1 f2 m2 bb t => ?_))
    rw [e2, bel_nI e1 (by omega), e3] at f1
    obtain rfl : n = 2 := f1
    exact T_absent (by omega) t (fun q => absurd q (by decide)) (kk _ _ _ (INV_n i a bb w sp bp (KS_FN bb (KS_al (by omega) g)) m2))
  · have a : FC h (al h 13 6) := FC_al (by omega) (by omega) (by omega)
    refine snd _ 3 a ?_
    refine wp_cc rfl (by omega) (S_mabsent w (by omega) sp bp (MS_FC a m) (fun p' b' h2 f1 f2 f3 f4 f5 f6 m2 bb t => absurd ⟨f4, f5⟩ e4) (fun p' y k h2 f1 f2 f3 f4 f5 f6 f7 f8 f9 m2 bb t => absurd ⟨f4, f5⟩ e4) (fun h2 n f1 f2 m2 bb t => ?_))
    rw [e2, bel_nI e1 (by omega), e3, show (pd && decide (cS c < 20)) = false by
      cases hq : pd with
      | false => rfl
      | true => exact (decide_eq_false (fun z => e4 ⟨hq, z⟩))] at f1
    obtain rfl : n = 3 := f1
    exact T_absent (by omega) t (fun q => absurd q (by decide)) (kk _ _ _ (INV_n i a bb w sp bp (KS_FN bb (KS_al (by omega) g)) m2))
end CASES2
end
section
-- THE LAW'S CASES: TASK, RUN, TOLD, FAIR; THE LOOP
section LOOP
variable {L sz j : Nat} {h : AH} {Q : Oc → AH → Prop} {L5 L6 : Option AV}
set_option maxRecDepth 100000 in
theorem C_task (hj : 5 * j + 5 ≤ L) (hL : L ≤ 2560) (i : INV L sz j h) (kk : ∀ h' L5 L6, INV L sz (j + 1) h' → WP 40 101 971 (LL j L5 L6) [] h' Q) : WP 40 101 252 (LL j L5 L6) [] h Q := by
  obtain ⟨c, pl, pd, told, chs, w, sp, bp, g, m⟩ := i.2.2.2
  have wP := Wf_P w
  have wN := Wf_N w
  have z1 : ∀ (st : List AV) (x : Int32), WP 40 101 285 (LL j L5 L6) (vi (B01 (!decide (x = 0))) :: st) h Q → WP 40 101 277 (LL j L5 L6) (vi x :: st) h Q := by
    intro st x p
    refine wp_s rfl ?_
    refine br_eq (fun e => ?_) (fun e => ?_)
    · refine wp_s rfl ?_
      rw [show (!decide (x = 0)) = false by simp [e]] at p
      exact p
    · iterate 2 refine wp_s rfl ?_
      rw [show (!decide (x = 0)) = true by simp [e]] at p
      exact p
  have z2 : ∀ (h1 : AH) (k : Int32) (st : List AV) (x : Int32), WP 40 101 324 (LL j (some (vi k)) L6) (vi (B01 (!decide (x = 0))) :: st) h1 Q → WP 40 101 316 (LL j (some (vi k)) L6) (vi x :: st) h1 Q := by
    intro h1 k st x p
    refine wp_s rfl ?_
    refine br_eq (fun e => ?_) (fun e => ?_)
    · refine wp_s rfl ?_
      rw [show (!decide (x = 0)) = false by simp [e]] at p
      exact p
    · iterate 2 refine wp_s rfl ?_
      rw [show (!decide (x = 0)) = true by simp [e]] at p
      exact p
  have snd : ∀ (h1 : AH) (k : Int32), FC h h1 → WP 40 101 324 (LL j (some (vi k)) L6) [vi (B01 (!decide (hI h 15 0 (5 * j + 4) = 0))), vi (hI h 15 0 (5 * j + 3)), vi (hI h 15 0 (5 * j + 2)), vi (hI h 15 0 (5 * j + 1)), vr 4 0] h1 Q → WP 40 101 289 (LL j L5 L6) [vi k] h1 Q := by
    intro h1 k a p
    iterate 6 refine wp_s rfl ?_
    rw [show nI (5 * j) + 1 = nI (5 * j + 1) from nI_add (5 * j) 1]
    refine wp_sald rfl (by rw [a.2.2.1, i.1]; omega) (by rw [a.2.2.1, i.1]; exact hL) ?_
    rw [show hI h1 15 0 (5 * j + 1) = hI h 15 0 (5 * j + 1) from a.1 15 0 _ (by omega)]
    iterate 4 refine wp_s rfl ?_
    rw [show nI (5 * j) + 2 = nI (5 * j + 2) from nI_add (5 * j) 2]
    refine wp_sald rfl (by rw [a.2.2.1, i.1]; omega) (by rw [a.2.2.1, i.1]; exact hL) ?_
    rw [show hI h1 15 0 (5 * j + 2) = hI h 15 0 (5 * j + 2) from a.1 15 0 _ (by omega)]
    iterate 4 refine wp_s rfl ?_
    rw [show nI (5 * j) + 3 = nI (5 * j + 3) from nI_add (5 * j) 3]
    refine wp_sald rfl (by rw [a.2.2.1, i.1]; omega) (by rw [a.2.2.1, i.1]; exact hL) ?_
    rw [show hI h1 15 0 (5 * j + 3) = hI h 15 0 (5 * j + 3) from a.1 15 0 _ (by omega)]
    iterate 4 refine wp_s rfl ?_
    rw [show nI (5 * j) + 4 = nI (5 * j + 4) from nI_add (5 * j) 4]
    refine wp_sald rfl (by rw [a.2.2.1, i.1]; omega) (by rw [a.2.2.1, i.1]; exact hL) ?_
    rw [show hI h1 15 0 (5 * j + 4) = hI h 15 0 (5 * j + 4) from a.1 15 0 _ (by omega)]
    exact z2 h1 k _ _ p
  iterate 5 refine wp_s rfl ?_
  rw [show nI (5 * j) + 1 = nI (5 * j + 1) from nI_add (5 * j) 1]
  refine wp_sald rfl (by rw [i.1]; omega) (by rw [i.1]; exact hL) ?_
  iterate 4 refine wp_s rfl ?_
  rw [show nI (5 * j) + 2 = nI (5 * j + 2) from nI_add (5 * j) 2]
  refine wp_sald rfl (by rw [i.1]; omega) (by rw [i.1]; exact hL) ?_
  iterate 4 refine wp_s rfl ?_
  rw [show nI (5 * j) + 3 = nI (5 * j + 3) from nI_add (5 * j) 3]
  refine wp_sald rfl (by rw [i.1]; omega) (by rw [i.1]; exact hL) ?_
  iterate 4 refine wp_s rfl ?_
  rw [show nI (5 * j) + 4 = nI (5 * j + 4) from nI_add (5 * j) 4]
  refine wp_sald rfl (by rw [i.1]; omega) (by rw [i.1]; exact hL) ?_
  refine z1 _ _ ?_
  refine wp_s rfl ?_
  refine wp_cc rfl (by omega) (W_task (by omega) w g (fun f t h1 e1 e2 e3 e4 e5 e6 g1 a => ?_) (fun e => ?_) (fun e1 e2 => ?_) (fun e1 e2 e3 => ?_))
  · refine snd _ 0 (FC_sJ a) ?_
    have hsp : spn (hI h 15 0 (5 * j + 2)) (hI h 15 0 (5 * j + 3)) = true := by
      rw [e4, e5]
      unfold spn
      rw [decide_eq_false (nI_pos (by omega)), decide_eq_true (nI_lt e2 (by omega)), decide_eq_true (show nI t ≤ 96 from nI_le (b := 96) e3 (by omega))]
      rfl
    refine wp_cc rfl (by omega) (S_mtask (by omega) w (MS_FC (FC_sJ a) m) (fun f' t' h2 f1 f2 f3 f4 f5 f6 m2 b t0 => ?_) (fun h2 n f1 f2 m2 b t0 => ?_))
    · have : f' = f := ((nI_eq (by omega) (by omega)).1 (e4.symm.trans f4)).symm
      subst this
      have : t' = t := ((nI_eq (by omega) (by omega)).1 (e5.symm.trans f5)).symm
      subst this
      refine T_task (by omega) t0 (fun _ => (by rw [b.2.2.1]; exact hJ_sJ0)) (kk _ _ _ (INV_n (c := wT c _ f' t' _) i (FC_sJ a) b ?_ sp ?_ (KS_FN b (KS_sJ g1)) m2))
      · refine ⟨w.1, e6, w.2.2.1, fun q hq => ?_, w.2.2.2.2⟩
        have hq : q < cN c + 1 := hq
        by_cases eq : q = cN c
        · rw [show cA (wT c (hI h 15 0 (5 * j + 1)) f' t' (!decide (hI h 15 0 (5 * j + 4) = 0))) q = f' from if_pos eq, show cZ (wT c (hI h 15 0 (5 * j + 1)) f' t' (!decide (hI h 15 0 (5 * j + 4) = 0))) q = t' from if_pos eq]
          exact ⟨e2, e3⟩
        · rw [show cA (wT c (hI h 15 0 (5 * j + 1)) f' t' (!decide (hI h 15 0 (5 * j + 4) = 0))) q = cA c q from if_neg eq, show cZ (wT c (hI h 15 0 (5 * j + 1)) f' t' (!decide (hI h 15 0 (5 * j + 4) = 0))) q = cZ c q from if_neg eq]
          exact w.2.2.2.1 q (by omega)
      · intro q p hq e
        have hq : q < cN c + 1 := hq
        by_cases eq : q = cN c
        · rw [eq, upd_k] at e; exact absurd e (by simp)
        · rw [upd_o eq] at e; exact bp q p (by omega) e
    · rw [e1, hsp, decide_eq_true e6] at f1
      exact absurd f1 f2
  · have a : FC h (al h 14 6) := FC_al (by omega) (by omega) (by omega)
    refine snd _ 1 a ?_
    refine wp_cc rfl (by omega) (S_mtask (by omega) w (MS_FC a m) (fun f' t' h2 f1 f2 f3 f4 f5 f6 m2 b t0 => absurd (f1.symm.trans e) (by simp)) (fun h2 n f1 f2 m2 b t0 => ?_))
    rw [e] at f1
    obtain rfl : n = 1 := f1
    exact T_task (by omega) t0 (fun q => absurd q (by decide)) (kk _ _ _ (INV_n i a b w sp bp (KS_FN b (KS_al (by omega) g)) m2))
  · have a : FC h (al h 12 6) := FC_al (by omega) (by omega) (by omega)
    refine snd _ 2 a ?_
    refine wp_cc rfl (by omega) (S_mtask (by omega) w (MS_FC a m) (fun f' t' h2 f1 f2 f3 f4 f5 f6 m2 b t0 => ?_) (fun h2 n f1 f2 m2 b t0 => ?_))
    · rw [f4, f5] at e2
      rw [show spn (nI f') (nI t') = true by
        unfold spn
        rw [decide_eq_false (nI_pos (by omega)), decide_eq_true (nI_lt f2 (by omega)), decide_eq_true (show nI t' ≤ 96 from nI_le (b := 96) f3 (by omega))]
        rfl] at e2
      exact absurd e2 (by simp)
    · rw [e1, e2] at f1
      obtain rfl : n = 2 := f1
      exact T_task (by omega) t0 (fun q => absurd q (by decide)) (kk _ _ _ (INV_n i a b w sp bp (KS_FN b (KS_al (by omega) g)) m2))
  · have a : FC h (al h 13 6) := FC_al (by omega) (by omega) (by omega)
    refine snd _ 3 a ?_
    refine wp_cc rfl (by omega) (S_mtask (by omega) w (MS_FC a m) (fun f' t' h2 f1 f2 f3 f4 f5 f6 m2 b t0 => absurd f6 e3) (fun h2 n f1 f2 m2 b t0 => ?_))
    rw [e1, e2, decide_eq_false e3] at f1
    obtain rfl : n = 3 := f1
    exact T_task (by omega) t0 (fun q => absurd q (by decide)) (kk _ _ _ (INV_n i a b w sp bp (KS_FN b (KS_al (by omega) g)) m2))
set_option maxRecDepth 100000 in
theorem C_run (i : INV L sz j h) (kk : ∀ h' L5 L6, INV L sz (j + 1) h' → WP 40 101 971 (LL j L5 L6) [] h' Q) : WP 40 101 528 (LL j L5 L6) [] h Q := by
  obtain ⟨c, pl, pd, told, chs, w, sp, bp, g, m⟩ := i.2.2.2
  have wN := Wf_N w
  refine wp_s rfl ?_
  refine wp_cc rfl (by omega) (S_run w (by omega) bp g (fun h1 b op g1 a => ?_) (fun h1 x op hr g1 a => ?_))
  · refine wp_s rfl ?_
    refine wp_cc rfl (by omega) (S_mrun w (by omega) sp bp (MS_FC a m) (fun h2 b' op' m2 f => ?_) (fun h2 y k op' fil e1 e2 m2 f => absurd (opt_eq op op') (by simp)))
    have hb := opt_eq op op'
    injection hb with hb
    subst hb
    rw [show Ws c pl false false (cN c) b = costP c (dgf c b) from (W_eq b op.2.1).trans (Nat.zero_add _)]
    refine wp_s rfl ?_
    refine br_eq (fun _ => ?_) (fun e => absurd rfl e)
    exact kk h2 _ _ (INV_n i a f w sp EX_bd (KS_FN f g1) (MS_congr (fun t ht => (EX_lt ht).symm) m2))
  · refine wp_s rfl ?_
    refine wp_cc rfl (by omega) (S_mrun w (by omega) sp bp (MS_FC a m) (fun h2 b' op' m2 f => absurd (opt_eq op op') (by simp)) (fun h2 y k op' fil e1 e2 m2 f => ?_))
    obtain ⟨k', hk', hy', hx⟩ := told_eq bp hr fil
    have : k = k' := k_uniq (by omega) (by omega) e2 hy'
    subst this
    rw [← hx] at m2
    iterate 1 refine wp_s rfl ?_
    refine br_eq (fun _ => ?_) (fun e => absurd rfl e)
    exact kk h2 _ _ (INV_n i a f w sp bp (KS_FN f g1) m2)
set_option maxRecDepth 100000 in
theorem C_told (i : INV L sz j h) (kk : ∀ h' L5 L6, INV L sz (j + 1) h' → WP 40 101 971 (LL j L5 L6) [] h' Q) : WP 40 101 541 (LL j L5 L6) [] h Q := by
  obtain ⟨c, pl, pd, told, chs, w, sp, bp, g, m⟩ := i.2.2.2
  refine wp_s rfl ?_
  refine wp_cc rfl (by omega) (S_told g ?_)
  refine wp_s rfl ?_
  refine wp_cc rfl (by omega) (S_mtold m (fun h2 m2 f => ?_))
  refine wp_s rfl ?_
  refine br_eq (fun _ => ?_) (fun e => absurd rfl e)
  exact kk h2 _ _ (INV_n i FC_r f w sp bp (KS_FN f g) m2)
set_option maxRecDepth 100000 in
theorem C_fair (i : INV L sz j h) (kk : ∀ h' L5 L6, INV L sz (j + 1) h' → WP 40 101 971 (LL j L5 L6) [] h' Q) : WP 40 101 902 (LL j L5 L6) [] h Q := by
  obtain ⟨c, pl, pd, told, chs, w, sp, bp, g, m⟩ := i.2.2.2
  refine wp_s rfl ?_
  refine wp_cc rfl (by omega) (S_fair w (by omega) g.1 ?_)
  refine wp_s rfl ?_
  refine wp_cc rfl (by omega) (S_mfair w bp m (fun h2 m2 f => ?_))
  refine wp_s rfl ?_
  refine br_eq (fun _ => ?_) (fun e => absurd rfl e)
  exact kk h2 _ _ (INV_n i FC_r f w sp bp (KS_FN f g) m2)
set_option maxRecDepth 100000 in
theorem law_loop (hL : L ≤ 2560) (kk : ∀ h', (∃ j, j ≤ 512 ∧ INV L sz j h') → Q (.inl (some (vi 1))) h') : ∀ (r j : Nat) (h : AH) (L5 L6 : Option AV), L < 5 * (j + r) → j + r ≤ 513 → 5 * j ≤ L → INV L sz j h → WP 40 101 23 (LL j L5 L6) [] h Q := by
  intro r
  induction r with
  | zero => intro j h L5 L6 h1 h2 h3 i; omega
  | succ r ih =>
    intro j h L5 L6 h1 h2 h3 i
    iterate 3 refine wp_s rfl ?_
    rw [i.1]
    iterate 3 refine wp_s rfl ?_
    by_cases hj : 5 * j + 5 ≤ L
    · rw [show nI L - 5 = nI (L - 5) from pk_sub (b := 5) (by omega)]
      refine br_gt (fun e => absurd ((nI_ltI (by omega) (by omega)).1 e) (by omega)) (fun e => ?_)
      have next : ∀ h' L5 L6, INV L sz (j + 1) h' → WP 40 101 971 (LL j L5 L6) [] h' Q := by
        intro h' L5 L6 i'
        iterate 2 refine wp_s rfl ?_
        rw [show nI (5 * j) + 5 = nI (5 * (j + 1)) from nI_add (5 * j) 5]
        exact ih (j + 1) h' L5 L6 (by omega) (by omega) (by omega) i'
      iterate 2 refine wp_s rfl ?_
      refine wp_sald rfl (by rw [i.1]; omega) (by rw [i.1]; exact hL) ?_
      iterate 2 refine wp_s rfl ?_
      obtain ⟨q, hq, eq⟩ := pk_andE (hI h 15 0 (5 * j)) (m := 15) 4 rfl
      rw [eq]
      refine wp_s rfl ?_
      rw [if_neg (nI_pos (by omega)), nI_clamp (by omega)]
      rcases (show q = 0 ∨ q = 1 ∨ q = 2 ∨ q = 3 ∨ q = 4 ∨ q = 5 ∨ q = 6 ∨ q = 7 ∨ q = 8 ∨ q = 9 ∨ q = 10 ∨ q = 11 ∨ q = 12 ∨ q = 13 ∨ q = 14 ∨ q = 15 by omega) with rfl | rfl | rfl | rfl | rfl | rfl | rfl | rfl | rfl | rfl | rfl | rfl | rfl | rfl | rfl | rfl
      · exact C_person hj hL i next
      · exact C_off hj hL i next
      · exact C_task hj hL i next
      · exact C_rest hj hL i next
      · exact C_limit hj hL i next
      · exact C_freeze hj hL i next
      · exact C_run i next
      · exact C_told i next
      · exact C_of hj hL i next
      · exact C_cost hj hL i next
      · exact C_absent hj hL i next
      · exact C_changed hj hL i next
      · exact C_swap hj hL i next
      · exact C_work hj hL i next
      · exact C_fair i next
      · exact C_count hj hL i next
    · have hgt : nI L - 5 < nI (5 * j) := by
        by_cases h5 : 5 ≤ L
        · rw [show nI L - 5 = nI (L - 5) from pk_sub (b := 5) h5]
          exact nI_lt (by omega) (by omega)
        · exact Int32.lt_of_lt_of_le (pk_sneg (a := L) (b := 5) (by omega) (by omega)) (nI_pos' (by omega))
      refine br_gt (fun _ => ?_) (fun e => absurd hgt e)
      refine wp_s rfl ?_
      exact wp_e rfl (kk h ⟨j, by omega, i⟩)
end LOOP
end
section
/-- the heap at the law's entry -/
def h_init (L : Nat) (xs : Nat → Int32) (sz : Nat) : AH := (fun k i j => if k = 15 ∧ i = 0 then xs j else 0, fun _ _ _ => none, fun _ _ _ => 0, fun k => if k = 15 then 1 else if k = 16 then L else 0, fun _ => 0, sz, 0)
end
section
set_option maxRecDepth 100000 in
theorem law_pure (L : Nat) (hL : L ≤ 2560) (xs : Nat → Int32) (sz : Nat) : WP 40 101 0 [some (.inr (.inr (some (15, 0)))), none, none, none, none, none, none] [] (h_init L xs sz) (fun o h' => o = .inl (some (.inl 1)) ∧ hZ h' ≤ sz + 601024 ∧ hS h' ≤ 7293034) := by
  iterate 2 refine wp_s rfl ?_
  rw [show hC (h_init L xs sz) 0 = 0 from rfl]
  refine wp_cc rfl (by omega) (S_init0 rfl rfl rfl (fun s => hI_as rfl) ?_)
  intro h1 a1 a2 a3 a4 a5 a6 a7
  have c1 : ∀ k, k ≠ 0 → k ≠ 5 → k ≠ 6 → k ≠ 8 → hC h1 k = hC (h_init L xs sz) k := by
    intro k k0 k5 k6 k8
    rw [a5 k, if_neg (by omega), hC_ao k0]
  have c4 : hC h1 4 = 0 := c1 4 (by omega) (by omega) (by omega) (by omega)
  iterate 3 refine wp_s rfl ?_
  rw [c4]
  refine wp_cc rfl (by omega) (S_minit (cn := hC (al h1 4 (kN 4))) (fun _ => rfl) ?_ ?_ ?_ ?_ (fun s => hI_as c4.symm) (fun s => hA_as c4.symm) ?_)
  · exact (hC_ao (by omega)).trans (c1 7 (by omega) (by omega) (by omega) (by omega))
  · exact (hC_ao (by omega)).trans (c1 9 (by omega) (by omega) (by omega) (by omega))
  · exact (hC_ao (by omega)).trans (a5 8)
  · exact (hC_ao (by omega)).trans (c1 10 (by omega) (by omega) (by omega) (by omega))
  intro h2 b1 b2 b3 b4 b5 b6 b7
  have d11 : hC h2 11 = 0 := (b5 11 (by omega)).trans ((hC_ao (by omega)).trans (c1 11 (by omega) (by omega) (by omega) (by omega)))
  iterate 3 refine wp_s rfl ?_
  rw [d11]
  iterate 3 refine wp_s rfl ?_
  have eA : ∀ s, hA (al h2 11 (kM 11)) 0 0 s = hA h1 0 0 s := fun s => (hA_ao (by omega)).trans ((b4 s).trans (hA_ao (by omega)))
  have eI : ∀ s, hI (al h2 11 (kM 11)) 0 0 s = if s = 9 then 96 else if s = 10 then -1 else 0 := fun s => (hI_ao (by omega)).trans ((b3 s).trans ((hI_ao (by omega)).trans (a1 s)))
  have eM : ∀ s, hI (al h2 11 (kM 11)) 4 0 s = if s = 18 then 96 else if s = 20 then -1 else 0 := fun s => (hI_ao (by omega)).trans (b1 s)
  have eC : ∀ k, k < 7 → k ≠ 4 → hC (al h2 11 (kM 11)) k = hC h1 k := fun k hk h4 => (hC_ao (by omega)).trans ((b5 k (by omega)).trans (hC_ao h4))
  refine law_loop (L := L) (sz := sz) hL ?_ (L / 5 + 1) 0 (al h2 11 (kM 11)) none none (by omega) (by omega) (by omega) ?_
  · rintro h' ⟨j, hj, i⟩
    have i2 := i.2.1
    have i3 := i.2.2.1
    exact ⟨rfl, by omega, by omega⟩
  · refine ⟨?_, ?_, ?_, c00, fun _ => none, false, -1, [], ?_, ?_, ?_, ⟨⟨?_, ?_, ?_, ?_⟩, ?_, ?_⟩, ⟨?_, ?_, ?_, ?_, ?_⟩, ?_⟩
    · exact (hC_ao (by omega)).trans ((b5 16 (by omega)).trans ((hC_ao (by omega)).trans (c1 16 (by omega) (by omega) (by omega) (by omega))))
    · show hZ h2 + 1 ≤ _
      rw [b6]
      show hZ h1 + 1 + 13 + 1 ≤ _
      rw [a6]
      show sz + 1 + 3 + 1 + 13 + 1 ≤ _
      omega
    · show hS h2 + 1 ≤ _
      rw [b7]
      show hS h1 + 27 + 118 + 1 ≤ _
      rw [a7]
      show 0 + 16 + 16 + 27 + 118 + 1 ≤ _
      omega
    · exact ⟨by decide, by decide, by decide, fun t ht => absurd ht (Nat.not_lt_zero _), by decide, by decide, by decide⟩
    · exact fun s hs => absurd hs (Nat.not_lt_zero _)
    · exact fun t p ht => absurd ht (Nat.not_lt_zero _)
    · exact ⟨(eA 0).trans a2, (eA 1).trans a3, (eA 2).trans a4⟩
    · exact ⟨eI 3, eI 4, eI 7, eI 8, eI 9⟩
    · exact fun p hp => absurd hp (Nat.not_lt_zero _)
    · exact fun t ht => absurd ht (Nat.not_lt_zero _)
    · exact ⟨eI 11, eI 10, Nat.zero_le _, eI 6, fun s hs => absurd hs (Nat.not_lt_zero _)⟩
    · exact ⟨(eC 1 (by omega) (by omega)).trans (c1 1 (by omega) (by omega) (by omega) (by omega)), (eC 2 (by omega) (by omega)).trans (c1 2 (by omega) (by omega) (by omega) (by omega)), (eC 6 (by omega) (by omega)).trans (a5 6), eI 5⟩
    · exact fun s => (hA_ao (by omega)).trans (b2 s)
    · exact ⟨eM 1, eM 3, eM 7, eM 17, eM 18, eM 19⟩
    · exact fun p hp => absurd hp (Nat.not_lt_zero _)
    · exact fun s hs => absurd hs (Nat.not_lt_zero _)
    · exact fun t ht => absurd ht (Nat.not_lt_zero _)
    · exact ⟨eM 16, eM 20, Nat.zero_le _, eM 21, fun s hs => absurd hs (Nat.not_lt_zero _)⟩
end
section
/-! THE CLAIM OUT OF ONE WALK OF THE LAW'S BODY. Your part is whole_start (and what it stands on); all else here is the same for every law, but numbers. -/
def R_law : String := "GuidePlansLaw"
def lw_P (b : Addr) (xs : List Int32) (args : Array Value) (s : State) : Prop := args = #[.ref b] ∧ s.IntsAt b xs ∧ xs.length ≤ 2560 ∧ (Jvm.Cond.and given_1 narrow_1).before args s = true
def lw_Q (_ : Array Value) (s : State) (o : Outcome) (t : State) : Prop := o = .returned (some (.int 1)) ∧ Framed s o t [] 601024 7293034
def lw_Z (below : List Frame) (a : Array Value) (s : State) : State → Prop := fun t => ∃ o, t.status = .running ∧ Ended t below o ∧ lw_Q a s o t
theorem arr_at {args : Array Value} {s : State} {ty : FieldType} (h : (Cond.arrayClass ty).before args s = true) : ∃ cAA, ArrOfT s cAA ty ∧ s.vm.findClass ("[" ++ ty.toString) = some cAA := by
  simp only [Cond.before, Cond.holds, Cond.value] at h
  cases hf : s.vm.findClass ("[" ++ ty.toString) with
  | none => rw [hf] at h; simp at h
  | some cAA =>
    rw [hf] at h
    cases hk : s.vm.classes[cAA]? with
    | none => simp [hk] at h
    | some k =>
      cases hkk : k.kind <;> simp [hk, hkk] at h
      rename_i comp t
      subst h
      exact ⟨cAA, fun N z => ⟨(fun q hq => by cases hq), k, hk, comp, hkk⟩, rfl⟩
theorem arro_at {args : Array Value} {s : State} {C : String} (h : (Cond.arrayOver (.object C)).before args s = true) : ∃ cAA, ArrOfT s cAA (.object C) ∧ va_RA s cAA (.object C) := by
  obtain ⟨comp, c, k, h1, h2, h3, h4, h5⟩ := Cond.arrayOver_spec h
  exact ⟨c, fun N z => ⟨(fun q hq => by cases hq), k, h3, comp, h4⟩, k, comp, h3, h4, h1, h5⟩
/-- THE LAW, from its entry -/
theorem whole_start {p : Program} {e : Env} {s : State} {m : MethodId} {below : List Frame} {meth : Method} {c : Code} (l : Launch) {b L : Nat} {xs : Nat → Int32} (hL : L ≤ 2560)
    (hx : p.tables.exec = Jvm.exec) (hb : c.code = code) (hr : meth.sig.returnType = ret) (hml : c.maxLocals = 7) (hown : s.vm.findClass R_law = some m.cls) (hts : ∀ w ∈ lw_tbl, w.before #[Value.ref b] s = true) (hX : va_X b L xs s s.heap) (hbl : b < s.heap.size) (hlocks : meth.locks = false) (hgv : (Jvm.Cond.and given_1 narrow_1).before #[Value.ref b] s = true)
    (hnm : meth.name = "law") (hxt : c.exceptionTable.isEmpty = true) (htr : e.platform.stackTraces = false) :
    W p l e room_1 s m #[Value.ref b] below meth c s.heap [] 0 0 (lw_Z below #[Value.ref b] s) (entryFrame m ([Value.ref b] : List Value).toArray 7) := by
  obtain ⟨n, o, h', ex, rfl, hz1, hz2⟩ := law_pure L hL xs s.heap.size
  have hfl := flat_of_before _ hgv
  have hz : Z00 #[Value.ref b] s := by
    refine ⟨hts, hfl _ (by decide +kernel), hfl _ (by decide +kernel), fun k k' h1 h2 h3 h4 h5 => ?_⟩
    rcases (show k = 12 ∨ k = 13 ∨ k = 14 by omega) with rfl | rfl | rfl <;> rcases (show k' = 12 ∨ k' = 13 ∨ k' = 14 by omega) with rfl | rfl | rfl <;> first | (exact absurd rfl h5) | exact hfl _ (by decide +kernel)
  have hkn : ∀ k : Nat, ∃ (cC : ClassId) (iS : Nat → Nat), k < 5 → u_Kn s (cn k) (kF k) (kN k) cC iS := by
    intro k
    by_cases hk : k < 5
    · obtain ⟨cC, iS, q⟩ := u_known (C := cn k) (T := kF k) (N := kN k) (n := kN k) hts (in_k hk) (hts _ (in_ins k hk))
      exact ⟨cC, iS, fun _ => q⟩
    · exact ⟨0, fun _ => 0, fun q => absurd q hk⟩
  obtain ⟨dC, dI, hD⟩ : ∃ (dC : Nat → ClassId) (dI : Nat → Nat → Nat), ∀ k, k < 5 → u_Kn s (cn k) (kF k) (kN k) (dC k) (dI k) := ⟨fun k => Classical.choose (hkn k), fun k => Classical.choose (Classical.choose_spec (hkn k)), fun k hk => Classical.choose_spec (Classical.choose_spec (hkn k)) hk⟩
  obtain ⟨ci, ai1, ai2⟩ := arr_at (hts _ in_arr.1)
  obtain ⟨cb, ab1, ab2⟩ := arr_at (hts _ in_arr.2.1)
  obtain ⟨cl, al1, al2⟩ := arr_at (hts _ in_arr.2.2.1)
  obtain ⟨cp, ap1, ap2⟩ := arro_at (hts _ in_arr.2.2.2.1)
  obtain ⟨ct, at1, at2⟩ := arro_at (hts _ in_arr.2.2.2.2)
  obtain ⟨cA, hA5, hA6, hA7, hA8, hA9, hA10, hA11⟩ : ∃ cA : Nat → ClassId, cA 5 = cp ∧ cA 6 = ct ∧ cA 7 = ci ∧ cA 8 = ci ∧ cA 9 = ci ∧ cA 10 = cb ∧ cA 11 = cl := ⟨fun k => if k = 5 then cp else if k = 6 then ct else if k = 10 then cb else if k = 11 then cl else ci, rfl, rfl, rfl, rfl, rfl, rfl, rfl⟩
  have hK : va_K (dC, dI) classes (tyl cA) s := by
    refine ⟨fun k q hq => ?_, fun k q hq => ?_⟩
    · have hk : k < 5 := (List.getElem?_eq_some_iff.mp hq).1
      rw [cl_at hk] at hq
      cases hq
      exact hD k hk
    · have hk : k < 7 := (List.getElem?_eq_some_iff.mp hq).1
      rw [show k = (k + 5) - 5 by omega, tyl_at (by omega) (by omega)] at hq
      cases hq
      rcases (show k = 0 ∨ k = 1 ∨ k = 2 ∨ k = 3 ∨ k = 4 ∨ k = 5 ∨ k = 6 by omega) with rfl | rfl | rfl | rfl | rfl | rfl | rfl
      · show ArrOfT s (cA 5) _ ∧ va_RA s (cA 5) _; rw [hA5]; exact ⟨ap1, ap2⟩
      · show ArrOfT s (cA 6) _ ∧ va_RA s (cA 6) _; rw [hA6]; exact ⟨at1, at2⟩
      · show ArrOfT s (cA 7) _ ∧ va_RA s (cA 7) _; rw [hA7]; exact ⟨ai1, ai2⟩
      · show ArrOfT s (cA 8) _ ∧ va_RA s (cA 8) _; rw [hA8]; exact ⟨ai1, ai2⟩
      · show ArrOfT s (cA 9) _ ∧ va_RA s (cA 9) _; rw [hA9]; exact ⟨ai1, ai2⟩
      · show ArrOfT s (cA 10) _ ∧ va_RA s (cA 10) _; rw [hA10]; exact ⟨ab1, ab2⟩
      · show ArrOfT s (cA 11) _ ∧ va_RA s (cA 11) _; rw [hA11]; exact ⟨al1, al2⟩
  have hxt2 : c.exceptionTable.toList = [] := by
    have h0 : c.exceptionTable.size = 0 := by simpa [Array.isEmpty] using hxt
    exact List.eq_nil_of_length_eq_zero (by simpa using h0)
  have C : CX s (dC, dI) cA 101 p e s m #[Value.ref b] meth c := ⟨hx, hb, hml, hr, hlocks, hown, hnm, State.WarmedH.refl s, hts, hK, hxt2, htr⟩
  have G := sound (p := p) (l := l) hz (D := (dC, dI)) (cA := cA) (ad := fun q => if q.1 = 15 then b else hR h' q) n 40 101 0 _ _ _ _ _ ex (fun k i hk _ => by dsimp only; rw [if_neg (by omega)]) e room_1 s m #[Value.ref b] below meth c (h_init L xs s.heap.size) C rfl (fun q _ => rfl) (Nat.le_refl _) (Nat.le_refl _) (by decide) (by decide) (by show hZ h' - s.heap.size ≤ 601024; omega) (by show hS h' - 0 ≤ 7293034; omega)
  have hRP : RP s (dC, dI) cA (fun q => if q.1 = 15 then b else hR h' q) (h_init L xs s.heap.size) s.heap := by
    refine ⟨rfl, Nat.le_refl _, fun q _ => rfl, fun q x hq hx => ?_, fun k i hk hi => ?_, fun k i k2 i2 hk hk2 hi _ _ => ?_, ⟨hbl, ?_⟩, fun k i j k2 i2 hz => by cases hz⟩
    · have := (Array.getElem?_eq_some_iff.mp hx).1
      omega
    · have : hC (h_init L xs s.heap.size) k = 0 := by show (if k = 15 then 1 else if k = 16 then L else 0) = 0; rw [if_neg (by omega), if_neg (by omega)]
      omega
    · have : hC (h_init L xs s.heap.size) k = 0 := by show (if k = 15 then 1 else if k = 16 then L else 0) = 0; rw [if_neg (by omega), if_neg (by omega)]
      omega
    · exact hX
  have hlr : LR (fun q => if q.1 = 15 then b else hR h' q) 7 [some (.inr (.inr (some (15, 0)))), none, none, none, none, none, none] ((lg_sl ([.ref b] : List Value) ++ List.replicate (7 - (lg_sl ([.ref b] : List Value)).length) Slot.unset).toArray) := ent_lr (as := [.inr (.inr (some (15, 0)))]) (n := 7) (fun v hv => by rcases List.mem_singleton.mp hv with rfl; rfl) (by decide)
  have K := G s.heap [] _ hlr (fun i v hv => by
    rcases i with _ | _ | _ | _ | _ | _ | _ | i
    · cases hv; exact fun k i hz => by cases hz; exact Or.inr ⟨rfl, rfl⟩
    all_goals cases hv) (fun v hv => by cases hv) hRP (fun q hq => by cases hq) (fun _ => ⟨rfl, rfl⟩)
  rw [Nat.sub_self, Nat.sub_self] at K
  rw [lg_entry_eq]
  refine W.mn (fun t q => ?_) K
  obtain ⟨z, q1, q2, q3, -, -, q4, Lc, q5, q6⟩ := q
  obtain rfl : z = .returned (some (.int 1)) := q3
  refine ⟨_, q1, q2, rfl, ⟨_, rfl⟩, q4, q5.weaken (fun y hy hlt => ?_) (by show hZ h' - s.heap.size ≤ 601024; omega) (by show hS h' - 0 ≤ 7293034; omega)⟩
  exact absurd hlt (Nat.not_lt.mpr (q6 y hy))
-- ===== YOUR PART ENDS =====
set_option maxHeartbeats 4000000 in
theorem lw_walk (l : Launch) (hfl : l.flags = flags0) (b : Addr) (xs : List Int32) : MetFree l x (headSpec (Jvm.Cond.code x code maxLocals ret :: tables_1) room_1) (lw_P b xs) (fun _ _ _ _ _ => True) lw_Q := by
  refine MetFree.of_bodyS (code := code) (maxLocals := maxLocals) (ret := ret) (by decide) ?_ ?_
  · intro args s m h hn
    obtain ⟨meth, c, h1, h2, h3, h4, h5, h6, -, -⟩ := Cond.code_spec hn (atoms_spec (ws := Jvm.Cond.code x code maxLocals ret :: tables_1) h _ List.mem_cons_self)
    exact ⟨meth, c, h1, h2, h3, h4, h5, h6⟩
  · intro p e s m args below meth c s₁ B hml0 hP _
    obtain ⟨rfl, hx, hbd, hgv⟩ := hP
    obtain ⟨scr, harrAt, hlist, hof, hsmall⟩ := hx
    obtain ⟨hcb, hkn, -, -⟩ := State.arrayAt?_spec harrAt
    have hown : s.vm.findClass R_law = some m.cls := findClass_of_methodNamed B.named
    have hts0 : ∀ c ∈ (Jvm.Cond.code x code maxLocals ret :: tables_1), c.before #[Value.ref b] s = true := atoms_spec (ws := Jvm.Cond.code x code maxLocals ret :: tables_1) B.pre
    have hts : ∀ w ∈ lw_tbl, w.before #[Value.ref b] s = true := k2_hts_sels lw_privs (fun w hw => hts0 w (List.mem_cons_of_mem _ hw)) lw_privs_ok
    have hml : c.maxLocals = 7 := B.maxLocals_eq (hts0 _ List.mem_cons_self)
    have X₀ : Stand p l e room_1 s m #[Value.ref b] below meth c s₁ [] 0 0 := Stand.of_body B
    have hh0 : s₁.heap = s.heap := by rw [B.state]; rfl
    have hsz : scr.slots.size = xs.length := by rw [← Array.length_toList, hlist, List.length_map]
    have hval : ∀ j : Nat, j < xs.length → scr.slots[j]? = some (.int (xs.getD j 0)) := fun j hj => by
      rw [← Array.getElem?_toList, hlist]
      simp [hj]
    have hbl : b < s.heap.size := (Array.getElem?_eq_some_iff.mp hcb).1
    have hX : va_X b xs.length (fun j => xs.getD j 0) s s.heap := ⟨scr, hcb, hof, hkn, hsz, hval⟩
    have K : W p l e room_1 s m #[Value.ref b] below meth c s₁.heap [] 0 0 (lw_Z below #[Value.ref b] s) (entryFrame m ([Value.ref b] : List Value).toArray 7) := by
      rw [hh0]
      obtain ⟨meth', c', hm', hc', -, -, -, -, hxt, -⟩ := Cond.code_spec B.named (hts0 _ List.mem_cons_self)
      cases B.method.symm.trans hm'
      cases (Stand.of_body B).code.symm.trans hc'
      have htr : e.platform.stackTraces = false := by
        rw [B.admits.platform]
        show l.stackTraces = false
        unfold Launch.stackTraces
        rw [hfl]
        decide +kernel
      exact whole_start l hbd B.exec B.bytes B.returns hml hown hts hX hbl B.notSynchronized hgv (name_of_methodNamed B.named B.method).1 hxt htr
    obtain ⟨t, a1, o, b1, b2, b3⟩ := K s₁ rfl X₀
    exact ⟨t, o, a1, b1, b2, b3⟩
theorem lw_pre_spec {args : Array Value} {s : State} (h : (Jvm.Cond.and given_1 narrow_1).before args s = true) (hr : rest_1_c.before args s = true) : ∃ (b : Addr) (xs : List Int32), lw_P b xs args s := by
  have hs := flat_of_before _ h
  have hq := flat_of_before _ hr
  have hc : (Cond.count 1).before args s = true := hs _ (by decide +kernel)
  have harr : (Cond.arrayOf (.arg 0) .int).before args s = true := hs _ (by decide +kernel)
  have hle : (Cond.le (.length (.arg 0)) (.int 2560)).before args s = true := hs _ (by decide +kernel)
  have hlen : (Cond.isInt (.length (.arg 0))).before args s = true := hq _ (by decide +kernel)
  have hall : (Cond.all (.arg 0) (.isInt (.elem (.arg 0) (.index 0)))).before args s = true := hq _ (by decide +kernel)
  obtain ⟨b, xs, hb, hx⟩ := State.ints_of_pre rfl harr hlen hall
  have hsm : xs.length < 2 ^ 31 := hx.choose_spec.2.2.2
  have hev : (Term.length (.arg 0)).eval args s none [] s = some (.int xs.length.toInt32) := hx.length_eval hb
  have hv := Cond.le_ints hev (show (Term.int 2560).eval args s none [] s = some (.int 2560) from rfl)
  have hd : xs.length.toInt32 ≤ 2560 := by
    simpa [Cond.before, Cond.holds, hv] using hle
  have hN : xs.length ≤ 2560 := (Int32.ofNat_le_ofNat hsm (by decide)).mp (show Int32.ofNat xs.length ≤ Int32.ofNat 2560 from hd)
  exact ⟨b, xs, Cond.one_arg hc (show args[0]? = some (.ref b) from hb), hx, hN, h⟩
theorem lw_comes (l : Launch) (hfl : l.flags = flags0) : Comes l x (Jvm.Cond.code x code maxLocals ret :: tables_1) room_1 (fun tb e args s => Calls_1 tb e args s ∧ rest_1 tb e args s ∧ Pre_1 tb e args s)
    (fun _ _ args s o t => lw_Q args s o t) := by
  intro p e ha hc hk s m args below hf hfit hheap happ hpre
  obtain ⟨b, xs, hP⟩ := lw_pre_spec hpre.2.2 hpre.2.1
  obtain ⟨k, o, h1, h2, h3, hQ⟩ := lw_walk l hfl b xs p e ha hc hk s m args below hf ((Spec.applies_iff_loose hf).mp happ).1 hP trivial
  exact ⟨k, o, h1, h2, h3, hQ⟩
theorem lw_frame {s t : State} {o : Outcome} {args : Array Value} (h : Framed s o t [] 601024 7293034) :
    Framed s o t (fieldLocs frame_1_writes args s ++ arrayLocs frame_1_arrays args s ++ staticLocs frame_1_statics s) 601024 7293034 := h
theorem lw_limb (L : Cond) (hL : ∀ (args : Array Value) (s t : State), L.after args s (.returned (some (.int 1))) t = true) :
    ArmFor flags0 classFile x code maxLocals ret World_1 tables_1 room_1 Calls_1 rest_1 Pre_1
      (fun tb e a s o t => postC L tb e a s o t ∧ Framed s o t (fieldLocs frame_1_writes a s ++ arrayLocs frame_1_arrays a s ++ staticLocs frame_1_statics s) 601024 7293034) := by
  intro l hfl _ _ p e ha hc hk s m args below hf hfit hheap happ hpre
  obtain ⟨k, o, h1, h2, h3, rfl, hF⟩ := lw_comes l hfl p e ha hc hk s m args below hf hfit hheap happ hpre
  exact ⟨k, _, h1, h2, h3, hL args s _, lw_frame hF⟩
theorem i_vc : Claimed_1_1 ∧ Claimed_1_2 := ⟨lw_limb limb_1_1 (fun args s t => by simp [limb_1_1, Cond.after, Cond.holds, Cond.value]), lw_limb limb_1_2 (fun args s t => Cond.after_iff.mpr (by
  first | (rw [show limb_1_2 = Cond.eq .result (.int 1) from rfl, Cond.eq_ints (x := 1) (y := 1) rfl rfl]; simp; done) | (simp [limb_1_2, Cond.value, Term.eval]; done)))⟩
end
