section
/-- a private method of a class that the tables say can be made, by its rows of tables_1 -/
def lw_okq (q : MethodName × Nat) : Prop := (q.1.cls ≠ "java/lang/invoke/MethodHandle" ∧ q.1.cls ≠ "java/lang/invoke/VarHandle") ∧ Cond.instantiable q.1.cls q.2 ∈ tables_1 ∧ Cond.privateMethod q.1 ∈ tables_1 ∧ Cond.instanceMethod q.1 ∈ tables_1
theorem lw_p0 : lw_okq (⟨"RedoShelf", "idle", "()Z"⟩, 8) := ⟨⟨by decide +kernel, by decide +kernel⟩, List.mem_of_getElem? (i := 16) (by decide +kernel), List.mem_of_getElem? (i := 290) (by decide +kernel), List.mem_of_getElem? (i := 291) (by decide +kernel)⟩
theorem lw_p1 : lw_okq (⟨"RedoShelf", "look", "(I)V"⟩, 8) := ⟨⟨by decide +kernel, by decide +kernel⟩, List.mem_of_getElem? (i := 16) (by decide +kernel), List.mem_of_getElem? (i := 307) (by decide +kernel), List.mem_of_getElem? (i := 308) (by decide +kernel)⟩
theorem lw_p2 : lw_okq (⟨"RedoShelf$CommitJob", "group", "(I)I"⟩, 6) := ⟨⟨by decide +kernel, by decide +kernel⟩, List.mem_of_getElem? (i := 142) (by decide +kernel), List.mem_of_getElem? (i := 372) (by decide +kernel), List.mem_of_getElem? (i := 373) (by decide +kernel)⟩
theorem lw_p3 : lw_okq (⟨"RedoShelf$CommitJob", "sheet", "()LRedoShelf$Sheet;"⟩, 6) := ⟨⟨by decide +kernel, by decide +kernel⟩, List.mem_of_getElem? (i := 142) (by decide +kernel), List.mem_of_getElem? (i := 376) (by decide +kernel), List.mem_of_getElem? (i := 377) (by decide +kernel)⟩
theorem lw_p4 : lw_okq (⟨"RedoShelf$RecoveryJob", "scan", "()I"⟩, 12) := ⟨⟨by decide +kernel, by decide +kernel⟩, List.mem_of_getElem? (i := 198) (by decide +kernel), List.mem_of_getElem? (i := 427) (by decide +kernel), List.mem_of_getElem? (i := 428) (by decide +kernel)⟩
theorem lw_p5 : lw_okq (⟨"RedoShelf$RecoveryJob", "transaction", "(I)Z"⟩, 12) := ⟨⟨by decide +kernel, by decide +kernel⟩, List.mem_of_getElem? (i := 198) (by decide +kernel), List.mem_of_getElem? (i := 431) (by decide +kernel), List.mem_of_getElem? (i := 432) (by decide +kernel)⟩
theorem lw_p6 : lw_okq (⟨"RedoShelf$RecoveryJob", "look", "(I)V"⟩, 12) := ⟨⟨by decide +kernel, by decide +kernel⟩, List.mem_of_getElem? (i := 198) (by decide +kernel), List.mem_of_getElem? (i := 435) (by decide +kernel), List.mem_of_getElem? (i := 436) (by decide +kernel)⟩
theorem lw_p7 : lw_okq (⟨"RedoShelf$RecoveryJob", "image", "(III)V"⟩, 12) := ⟨⟨by decide +kernel, by decide +kernel⟩, List.mem_of_getElem? (i := 198) (by decide +kernel), List.mem_of_getElem? (i := 446) (by decide +kernel), List.mem_of_getElem? (i := 447) (by decide +kernel)⟩
theorem lw_p8 : lw_okq (⟨"RedoShelf$Device", "settle", "(LRedoShelf$Sheet;I)V"⟩, 2) := ⟨⟨by decide +kernel, by decide +kernel⟩, List.mem_of_getElem? (i := 34) (by decide +kernel), List.mem_of_getElem? (i := 479) (by decide +kernel), List.mem_of_getElem? (i := 480) (by decide +kernel)⟩
theorem lw_p9 : lw_okq (⟨"RedoShelfModel", "idle", "()Z"⟩, 23) := ⟨⟨by decide +kernel, by decide +kernel⟩, List.mem_of_getElem? (i := 583) (by decide +kernel), List.mem_of_getElem? (i := 688) (by decide +kernel), List.mem_of_getElem? (i := 689) (by decide +kernel)⟩
theorem lw_p10 : lw_okq (⟨"RedoShelfModel", "countOf", "(I)I"⟩, 23) := ⟨⟨by decide +kernel, by decide +kernel⟩, List.mem_of_getElem? (i := 583) (by decide +kernel), List.mem_of_getElem? (i := 692) (by decide +kernel), List.mem_of_getElem? (i := 693) (by decide +kernel)⟩
theorem lw_p11 : lw_okq (⟨"RedoShelfModel", "writeOut", "(I)V"⟩, 23) := ⟨⟨by decide +kernel, by decide +kernel⟩, List.mem_of_getElem? (i := 583) (by decide +kernel), List.mem_of_getElem? (i := 705) (by decide +kernel), List.mem_of_getElem? (i := 706) (by decide +kernel)⟩
theorem lw_p12 : lw_okq (⟨"RedoShelfModel", "rowLength", "()I"⟩, 23) := ⟨⟨by decide +kernel, by decide +kernel⟩, List.mem_of_getElem? (i := 583) (by decide +kernel), List.mem_of_getElem? (i := 717) (by decide +kernel), List.mem_of_getElem? (i := 718) (by decide +kernel)⟩
theorem lw_p13 : lw_okq (⟨"RedoShelfModel", "countPending", "()I"⟩, 23) := ⟨⟨by decide +kernel, by decide +kernel⟩, List.mem_of_getElem? (i := 583) (by decide +kernel), List.mem_of_getElem? (i := 725) (by decide +kernel), List.mem_of_getElem? (i := 726) (by decide +kernel)⟩
theorem lw_p14 : lw_okq (⟨"RedoShelfModel", "replay", "(I)I"⟩, 23) := ⟨⟨by decide +kernel, by decide +kernel⟩, List.mem_of_getElem? (i := 583) (by decide +kernel), List.mem_of_getElem? (i := 733) (by decide +kernel), List.mem_of_getElem? (i := 734) (by decide +kernel)⟩
theorem lw_p15 : lw_okq (⟨"RedoShelfModel", "findRevocations", "()V"⟩, 23) := ⟨⟨by decide +kernel, by decide +kernel⟩, List.mem_of_getElem? (i := 583) (by decide +kernel), List.mem_of_getElem? (i := 737) (by decide +kernel), List.mem_of_getElem? (i := 738) (by decide +kernel)⟩
def lw_privs_1 : List (MethodName × Nat) := [(⟨"RedoShelf", "idle", "()Z"⟩, 8), (⟨"RedoShelf", "look", "(I)V"⟩, 8), (⟨"RedoShelf$CommitJob", "group", "(I)I"⟩, 6), (⟨"RedoShelf$CommitJob", "sheet", "()LRedoShelf$Sheet;"⟩, 6), (⟨"RedoShelf$RecoveryJob", "scan", "()I"⟩, 12), (⟨"RedoShelf$RecoveryJob", "transaction", "(I)Z"⟩, 12), (⟨"RedoShelf$RecoveryJob", "look", "(I)V"⟩, 12), (⟨"RedoShelf$RecoveryJob", "image", "(III)V"⟩, 12), (⟨"RedoShelf$Device", "settle", "(LRedoShelf$Sheet;I)V"⟩, 2), (⟨"RedoShelfModel", "idle", "()Z"⟩, 23), (⟨"RedoShelfModel", "countOf", "(I)I"⟩, 23), (⟨"RedoShelfModel", "writeOut", "(I)V"⟩, 23), (⟨"RedoShelfModel", "rowLength", "()I"⟩, 23), (⟨"RedoShelfModel", "countPending", "()I"⟩, 23), (⟨"RedoShelfModel", "replay", "(I)I"⟩, 23), (⟨"RedoShelfModel", "findRevocations", "()V"⟩, 23)]
theorem lw_r1 : ∀ q ∈ lw_privs_1, lw_okq q := List.forall_mem_cons.mpr ⟨lw_p0, List.forall_mem_cons.mpr ⟨lw_p1, List.forall_mem_cons.mpr ⟨lw_p2, List.forall_mem_cons.mpr ⟨lw_p3, List.forall_mem_cons.mpr ⟨lw_p4, List.forall_mem_cons.mpr ⟨lw_p5, List.forall_mem_cons.mpr ⟨lw_p6, List.forall_mem_cons.mpr ⟨lw_p7, List.forall_mem_cons.mpr ⟨lw_p8, List.forall_mem_cons.mpr ⟨lw_p9, List.forall_mem_cons.mpr ⟨lw_p10, List.forall_mem_cons.mpr ⟨lw_p11, List.forall_mem_cons.mpr ⟨lw_p12, List.forall_mem_cons.mpr ⟨lw_p13, List.forall_mem_cons.mpr ⟨lw_p14, List.forall_mem_cons.mpr ⟨lw_p15, fun _ h => absurd h List.not_mem_nil⟩⟩⟩⟩⟩⟩⟩⟩⟩⟩⟩⟩⟩⟩⟩⟩
theorem lw_p16 : lw_okq (⟨"RedoShelfModel", "findHead", "()V"⟩, 23) := ⟨⟨by decide +kernel, by decide +kernel⟩, List.mem_of_getElem? (i := 583) (by decide +kernel), List.mem_of_getElem? (i := 741) (by decide +kernel), List.mem_of_getElem? (i := 742) (by decide +kernel)⟩
theorem lw_p17 : lw_okq (⟨"RedoShelfModel", "validAt", "(II)I"⟩, 23) := ⟨⟨by decide +kernel, by decide +kernel⟩, List.mem_of_getElem? (i := 583) (by decide +kernel), List.mem_of_getElem? (i := 745) (by decide +kernel), List.mem_of_getElem? (i := 746) (by decide +kernel)⟩
theorem lw_p18 : lw_okq (⟨"RedoShelfModel", "logWord", "(II)I"⟩, 23) := ⟨⟨by decide +kernel, by decide +kernel⟩, List.mem_of_getElem? (i := 583) (by decide +kernel), List.mem_of_getElem? (i := 749) (by decide +kernel), List.mem_of_getElem? (i := 750) (by decide +kernel)⟩
theorem lw_p19 : lw_okq (⟨"RedoShelfModel", "mixSector", "(II)I"⟩, 23) := ⟨⟨by decide +kernel, by decide +kernel⟩, List.mem_of_getElem? (i := 583) (by decide +kernel), List.mem_of_getElem? (i := 753) (by decide +kernel), List.mem_of_getElem? (i := 754) (by decide +kernel)⟩
theorem lw_p20 : lw_okq (⟨"RedoShelfModel", "isRevocation", "(II)Z"⟩, 23) := ⟨⟨by decide +kernel, by decide +kernel⟩, List.mem_of_getElem? (i := 583) (by decide +kernel), List.mem_of_getElem? (i := 761) (by decide +kernel), List.mem_of_getElem? (i := 762) (by decide +kernel)⟩
theorem lw_p21 : lw_okq (⟨"RedoShelfModel", "say", "(IIII)V"⟩, 23) := ⟨⟨by decide +kernel, by decide +kernel⟩, List.mem_of_getElem? (i := 583) (by decide +kernel), List.mem_of_getElem? (i := 765) (by decide +kernel), List.mem_of_getElem? (i := 766) (by decide +kernel)⟩
theorem lw_p22 : lw_okq (⟨"RedoShelfModel", "commitAction", "(I)V"⟩, 23) := ⟨⟨by decide +kernel, by decide +kernel⟩, List.mem_of_getElem? (i := 583) (by decide +kernel), List.mem_of_getElem? (i := 773) (by decide +kernel), List.mem_of_getElem? (i := 774) (by decide +kernel)⟩
theorem lw_p23 : lw_okq (⟨"RedoShelfModel", "body", "(I)V"⟩, 23) := ⟨⟨by decide +kernel, by decide +kernel⟩, List.mem_of_getElem? (i := 583) (by decide +kernel), List.mem_of_getElem? (i := 777) (by decide +kernel), List.mem_of_getElem? (i := 778) (by decide +kernel)⟩
theorem lw_p24 : lw_okq (⟨"RedoShelfModel", "revocationWord", "()I"⟩, 23) := ⟨⟨by decide +kernel, by decide +kernel⟩, List.mem_of_getElem? (i := 583) (by decide +kernel), List.mem_of_getElem? (i := 781) (by decide +kernel), List.mem_of_getElem? (i := 782) (by decide +kernel)⟩
theorem lw_p25 : lw_okq (⟨"RedoShelfModel", "groupWord", "(II)I"⟩, 23) := ⟨⟨by decide +kernel, by decide +kernel⟩, List.mem_of_getElem? (i := 583) (by decide +kernel), List.mem_of_getElem? (i := 785) (by decide +kernel), List.mem_of_getElem? (i := 786) (by decide +kernel)⟩
theorem lw_p26 : lw_okq (⟨"RedoShelfModel", "imageBlock", "(I)I"⟩, 23) := ⟨⟨by decide +kernel, by decide +kernel⟩, List.mem_of_getElem? (i := 583) (by decide +kernel), List.mem_of_getElem? (i := 789) (by decide +kernel), List.mem_of_getElem? (i := 790) (by decide +kernel)⟩
theorem lw_p27 : lw_okq (⟨"RedoShelfModel", "sum", "(I)I"⟩, 23) := ⟨⟨by decide +kernel, by decide +kernel⟩, List.mem_of_getElem? (i := 583) (by decide +kernel), List.mem_of_getElem? (i := 793) (by decide +kernel), List.mem_of_getElem? (i := 794) (by decide +kernel)⟩
theorem lw_p28 : lw_okq (⟨"RedoShelfModel", "flush", "()V"⟩, 23) := ⟨⟨by decide +kernel, by decide +kernel⟩, List.mem_of_getElem? (i := 583) (by decide +kernel), List.mem_of_getElem? (i := 797) (by decide +kernel), List.mem_of_getElem? (i := 798) (by decide +kernel)⟩
theorem lw_p29 : lw_okq (⟨"RedoShelfModel", "settle", "(II)V"⟩, 23) := ⟨⟨by decide +kernel, by decide +kernel⟩, List.mem_of_getElem? (i := 583) (by decide +kernel), List.mem_of_getElem? (i := 801) (by decide +kernel), List.mem_of_getElem? (i := 802) (by decide +kernel)⟩
theorem lw_p30 : lw_okq (⟨"RedoShelfModel", "checkpointAction", "(I)V"⟩, 23) := ⟨⟨by decide +kernel, by decide +kernel⟩, List.mem_of_getElem? (i := 583) (by decide +kernel), List.mem_of_getElem? (i := 805) (by decide +kernel), List.mem_of_getElem? (i := 806) (by decide +kernel)⟩
theorem lw_p31 : lw_okq (⟨"RedoShelfModel", "recoveryAction", "(I)V"⟩, 23) := ⟨⟨by decide +kernel, by decide +kernel⟩, List.mem_of_getElem? (i := 583) (by decide +kernel), List.mem_of_getElem? (i := 809) (by decide +kernel), List.mem_of_getElem? (i := 810) (by decide +kernel)⟩
def lw_privs_2 : List (MethodName × Nat) := [(⟨"RedoShelfModel", "findHead", "()V"⟩, 23), (⟨"RedoShelfModel", "validAt", "(II)I"⟩, 23), (⟨"RedoShelfModel", "logWord", "(II)I"⟩, 23), (⟨"RedoShelfModel", "mixSector", "(II)I"⟩, 23), (⟨"RedoShelfModel", "isRevocation", "(II)Z"⟩, 23), (⟨"RedoShelfModel", "say", "(IIII)V"⟩, 23), (⟨"RedoShelfModel", "commitAction", "(I)V"⟩, 23), (⟨"RedoShelfModel", "body", "(I)V"⟩, 23), (⟨"RedoShelfModel", "revocationWord", "()I"⟩, 23), (⟨"RedoShelfModel", "groupWord", "(II)I"⟩, 23), (⟨"RedoShelfModel", "imageBlock", "(I)I"⟩, 23), (⟨"RedoShelfModel", "sum", "(I)I"⟩, 23), (⟨"RedoShelfModel", "flush", "()V"⟩, 23), (⟨"RedoShelfModel", "settle", "(II)V"⟩, 23), (⟨"RedoShelfModel", "checkpointAction", "(I)V"⟩, 23), (⟨"RedoShelfModel", "recoveryAction", "(I)V"⟩, 23)]
theorem lw_r2 : ∀ q ∈ lw_privs_2, lw_okq q := List.forall_mem_cons.mpr ⟨lw_p16, List.forall_mem_cons.mpr ⟨lw_p17, List.forall_mem_cons.mpr ⟨lw_p18, List.forall_mem_cons.mpr ⟨lw_p19, List.forall_mem_cons.mpr ⟨lw_p20, List.forall_mem_cons.mpr ⟨lw_p21, List.forall_mem_cons.mpr ⟨lw_p22, List.forall_mem_cons.mpr ⟨lw_p23, List.forall_mem_cons.mpr ⟨lw_p24, List.forall_mem_cons.mpr ⟨lw_p25, List.forall_mem_cons.mpr ⟨lw_p26, List.forall_mem_cons.mpr ⟨lw_p27, List.forall_mem_cons.mpr ⟨lw_p28, List.forall_mem_cons.mpr ⟨lw_p29, List.forall_mem_cons.mpr ⟨lw_p30, List.forall_mem_cons.mpr ⟨lw_p31, fun _ h => absurd h List.not_mem_nil⟩⟩⟩⟩⟩⟩⟩⟩⟩⟩⟩⟩⟩⟩⟩⟩
theorem lw_p32 : lw_okq (⟨"RedoShelfModel", "finish", "()V"⟩, 23) := ⟨⟨by decide +kernel, by decide +kernel⟩, List.mem_of_getElem? (i := 583) (by decide +kernel), List.mem_of_getElem? (i := 813) (by decide +kernel), List.mem_of_getElem? (i := 814) (by decide +kernel)⟩
theorem lw_p33 : lw_okq (⟨"RedoShelfModel", "committed", "()V"⟩, 23) := ⟨⟨by decide +kernel, by decide +kernel⟩, List.mem_of_getElem? (i := 583) (by decide +kernel), List.mem_of_getElem? (i := 817) (by decide +kernel), List.mem_of_getElem? (i := 818) (by decide +kernel)⟩
theorem lw_p34 : lw_okq (⟨"RedoShelfModel", "checkpointed", "()V"⟩, 23) := ⟨⟨by decide +kernel, by decide +kernel⟩, List.mem_of_getElem? (i := 583) (by decide +kernel), List.mem_of_getElem? (i := 821) (by decide +kernel), List.mem_of_getElem? (i := 822) (by decide +kernel)⟩
theorem lw_p35 : lw_okq (⟨"RedoShelfModel", "recovered", "()V"⟩, 23) := ⟨⟨by decide +kernel, by decide +kernel⟩, List.mem_of_getElem? (i := 583) (by decide +kernel), List.mem_of_getElem? (i := 825) (by decide +kernel), List.mem_of_getElem? (i := 826) (by decide +kernel)⟩
def lw_privs_3 : List (MethodName × Nat) := [(⟨"RedoShelfModel", "finish", "()V"⟩, 23), (⟨"RedoShelfModel", "committed", "()V"⟩, 23), (⟨"RedoShelfModel", "checkpointed", "()V"⟩, 23), (⟨"RedoShelfModel", "recovered", "()V"⟩, 23)]
theorem lw_r3 : ∀ q ∈ lw_privs_3, lw_okq q := List.forall_mem_cons.mpr ⟨lw_p32, List.forall_mem_cons.mpr ⟨lw_p33, List.forall_mem_cons.mpr ⟨lw_p34, List.forall_mem_cons.mpr ⟨lw_p35, fun _ h => absurd h List.not_mem_nil⟩⟩⟩⟩
def lw_privs : List (MethodName × Nat) := lw_privs_1 ++ (lw_privs_2 ++ (lw_privs_3))
def lw_tbl : List Cond := k2_sels lw_privs ++ tables_1
theorem lw_privs_ok : ∀ q ∈ lw_privs, lw_okq q := by
  show ∀ q ∈ lw_privs_1 ++ (lw_privs_2 ++ (lw_privs_3)), lw_okq q
  exact List.forall_mem_append.mpr ⟨lw_r1, List.forall_mem_append.mpr ⟨lw_r2, lw_r3⟩⟩
end
section
/-! PROGRAM TABLES, printed by wip/gen/tables.py -/
abbrev am_H : Type := (Nat → Nat → Int32) × (Nat → Nat → Nat) × Nat
abbrev am_I : Type := Instr × Nat × Nat × Nat × Int32 × Nat
def pg_F0 : u_T := fun k => match k with
  | 0 => ("RedoShelf", "store", "LRedoShelf$Store;", true)
  | 1 => ("RedoShelf", "device", "LRedoShelf$Device;", true)
  | 2 => ("RedoShelf", "memory", "LRedoShelf$Memory;", true)
  | 3 => ("RedoShelf", "committing", "LRedoShelf$CommitJob;", true)
  | 4 => ("RedoShelf", "checkpointing", "LRedoShelf$CheckpointJob;", true)
  | 5 => ("RedoShelf", "recovering", "LRedoShelf$RecoveryJob;", true)
  | 6 => ("RedoShelf", "seen", "LRedoShelf$Sheet;", true)
  | _ => ("RedoShelf", "job", "LRedoShelf$Job;", false)
def pg_t0 : Nat → FieldType := fun k => match k with
  | 0 => .object "RedoShelf$Store"
  | 1 => .object "RedoShelf$Device"
  | 2 => .object "RedoShelf$Memory"
  | 3 => .object "RedoShelf$CommitJob"
  | 4 => .object "RedoShelf$CheckpointJob"
  | 5 => .object "RedoShelf$RecoveryJob"
  | 6 => .object "RedoShelf$Sheet"
  | _ => .object "RedoShelf$Job"
def pg_F1 : u_T := fun k => match k with
  | _ => ("RedoShelf$Store", "free", "LRedoShelf$Sheet;", false)
def pg_t1 : Nat → FieldType := fun k => match k with
  | _ => .object "RedoShelf$Sheet"
def pg_F2 : u_T := fun k => match k with
  | 0 => ("RedoShelf$Device", "cells", "[I", true)
  | _ => ("RedoShelf$Device", "cache", "LRedoShelf$Chain;", true)
def pg_t2 : Nat → FieldType := fun k => match k with
  | 0 => .array .int
  | _ => .object "RedoShelf$Chain"
def pg_F3 : u_T := fun k => match k with
  | 0 => ("RedoShelf$Chain", "store", "LRedoShelf$Store;", true)
  | 1 => ("RedoShelf$Chain", "first", "LRedoShelf$Sheet;", false)
  | 2 => ("RedoShelf$Chain", "last", "LRedoShelf$Sheet;", false)
  | _ => ("RedoShelf$Chain", "count", "I", false)
def pg_t3 : Nat → FieldType := fun k => match k with
  | 0 => .object "RedoShelf$Store"
  | 1 => .object "RedoShelf$Sheet"
  | 2 => .object "RedoShelf$Sheet"
  | _ => .int
def pg_F4 : u_T := fun k => match k with
  | 0 => ("RedoShelf$Memory", "up", "Z", false)
  | 1 => ("RedoShelf$Memory", "number", "I", false)
  | 2 => ("RedoShelf$Memory", "next", "I", false)
  | 3 => ("RedoShelf$Memory", "used", "I", false)
  | 4 => ("RedoShelf$Memory", "running", "LRedoShelf$Images;", true)
  | 5 => ("RedoShelf$Memory", "pending", "LRedoShelf$Images;", true)
  | _ => ("RedoShelf$Memory", "revoked", "I", false)
def pg_t4 : Nat → FieldType := fun k => match k with
  | 0 => .boolean
  | 1 => .int
  | 2 => .int
  | 3 => .int
  | 4 => .object "RedoShelf$Images"
  | 5 => .object "RedoShelf$Images"
  | _ => .int
def pg_F5 : u_T := fun k => match k with
  | 0 => ("RedoShelf$Images", "words", "[I", true)
  | _ => ("RedoShelf$Images", "set", "I", false)
def pg_t5 : Nat → FieldType := fun k => match k with
  | 0 => .array .int
  | _ => .int
def pg_F6 : u_T := fun k => match k with
  | 0 => ("RedoShelf$Job", "device", "LRedoShelf$Device;", true)
  | 1 => ("RedoShelf$Job", "memory", "LRedoShelf$Memory;", true)
  | 2 => ("RedoShelf$Job", "plan", "LRedoShelf$Chain;", true)
  | 3 => ("RedoShelf$Job", "left", "I", false)
  | 4 => ("RedoShelf$CommitJob", "row", "I", false)
  | _ => ("RedoShelf$CommitJob", "place", "I", false)
def pg_t6 : Nat → FieldType := fun k => match k with
  | 0 => .object "RedoShelf$Device"
  | 1 => .object "RedoShelf$Memory"
  | 2 => .object "RedoShelf$Chain"
  | 3 => .int
  | 4 => .int
  | _ => .int
def pg_F7 : u_T := fun k => match k with
  | 0 => ("RedoShelf$Job", "device", "LRedoShelf$Device;", true)
  | 1 => ("RedoShelf$Job", "memory", "LRedoShelf$Memory;", true)
  | 2 => ("RedoShelf$Job", "plan", "LRedoShelf$Chain;", true)
  | _ => ("RedoShelf$Job", "left", "I", false)
def pg_t7 : Nat → FieldType := fun k => match k with
  | 0 => .object "RedoShelf$Device"
  | 1 => .object "RedoShelf$Memory"
  | 2 => .object "RedoShelf$Chain"
  | _ => .int
def pg_F8 : u_T := fun k => match k with
  | 0 => ("RedoShelf$Job", "device", "LRedoShelf$Device;", true)
  | 1 => ("RedoShelf$Job", "memory", "LRedoShelf$Memory;", true)
  | 2 => ("RedoShelf$Job", "plan", "LRedoShelf$Chain;", true)
  | 3 => ("RedoShelf$Job", "left", "I", false)
  | 4 => ("RedoShelf$RecoveryJob", "sheet", "LRedoShelf$Sheet;", true)
  | 5 => ("RedoShelf$RecoveryJob", "start", "I", false)
  | 6 => ("RedoShelf$RecoveryJob", "number", "I", false)
  | 7 => ("RedoShelf$RecoveryJob", "valid", "I", false)
  | 8 => ("RedoShelf$RecoveryJob", "at", "I", false)
  | 9 => ("RedoShelf$RecoveryJob", "revoked", "[I", true)
  | 10 => ("RedoShelf$RecoveryJob", "revocations", "I", false)
  | _ => ("RedoShelf$RecoveryJob", "latest", "I", false)
def pg_t8 : Nat → FieldType := fun k => match k with
  | 0 => .object "RedoShelf$Device"
  | 1 => .object "RedoShelf$Memory"
  | 2 => .object "RedoShelf$Chain"
  | 3 => .int
  | 4 => .object "RedoShelf$Sheet"
  | 5 => .int
  | 6 => .int
  | 7 => .int
  | 8 => .int
  | 9 => .array .int
  | 10 => .int
  | _ => .int
def pg_F9 : u_T := fun k => match k with
  | 0 => ("RedoShelf$Sheet", "words", "[I", true)
  | 1 => ("RedoShelf$Sheet", "sector", "I", false)
  | _ => ("RedoShelf$Sheet", "next", "LRedoShelf$Sheet;", false)
def pg_t9 : Nat → FieldType := fun k => match k with
  | 0 => .array .int
  | 1 => .int
  | _ => .object "RedoShelf$Sheet"
def pg_F10 : u_T := fun k => match k with
  | 0 => ("RedoShelfModel", "disk", "[I", true)
  | 1 => ("RedoShelfModel", "entries", "I", false)
  | 2 => ("RedoShelfModel", "sectorOf", "[I", true)
  | 3 => ("RedoShelfModel", "words", "[I", true)
  | 4 => ("RedoShelfModel", "up", "Z", false)
  | 5 => ("RedoShelfModel", "number", "I", false)
  | 6 => ("RedoShelfModel", "next", "I", false)
  | 7 => ("RedoShelfModel", "used", "I", false)
  | 8 => ("RedoShelfModel", "kinds", "[I", true)
  | 9 => ("RedoShelfModel", "running", "[I", true)
  | 10 => ("RedoShelfModel", "isPending", "[Z", true)
  | 11 => ("RedoShelfModel", "pending", "[I", true)
  | 12 => ("RedoShelfModel", "job", "I", false)
  | 13 => ("RedoShelfModel", "done", "I", false)
  | 14 => ("RedoShelfModel", "total", "I", false)
  | 15 => ("RedoShelfModel", "out", "[I", true)
  | 16 => ("RedoShelfModel", "target", "I", false)
  | 17 => ("RedoShelfModel", "place", "I", false)
  | 18 => ("RedoShelfModel", "first", "I", false)
  | 19 => ("RedoShelfModel", "after", "I", false)
  | 20 => ("RedoShelfModel", "length", "I", false)
  | 21 => ("RedoShelfModel", "revoker", "[I", true)
  | _ => ("RedoShelfModel", "revoked", "[Z", true)
def pg_t10 : Nat → FieldType := fun k => match k with
  | 0 => .array .int
  | 1 => .int
  | 2 => .array .int
  | 3 => .array .int
  | 4 => .boolean
  | 5 => .int
  | 6 => .int
  | 7 => .int
  | 8 => .array .int
  | 9 => .array .int
  | 10 => .array .boolean
  | 11 => .array .int
  | 12 => .int
  | 13 => .int
  | 14 => .int
  | 15 => .array .int
  | 16 => .int
  | 17 => .int
  | 18 => .int
  | 19 => .int
  | 20 => .int
  | 21 => .array .int
  | _ => .array .boolean
abbrev pg_cls : List vw_C := [("RedoShelf", pg_F0, 8), ("RedoShelf$Store", pg_F1, 1), ("RedoShelf$Device", pg_F2, 2), ("RedoShelf$Chain", pg_F3, 4), ("RedoShelf$Memory", pg_F4, 7), ("RedoShelf$Images", pg_F5, 2), ("RedoShelf$CommitJob", pg_F6, 6), ("RedoShelf$CheckpointJob", pg_F7, 4), ("RedoShelf$RecoveryJob", pg_F8, 12), ("RedoShelf$Sheet", pg_F9, 3), ("RedoShelfModel", pg_F10, 23)]
/-- is slot k of class ci a reference -/
def pg_rf (ci k : Nat) : Bool := (([[true, true, true, true, true, true, true, true], [true], [true, true], [true, true, true, false], [false, false, false, false, true, true, false], [true, false], [true, true, true, false, false, false], [true, true, true, false], [true, true, true, false, true, false, false, false, false, true, false, false], [true, false, true], [true, false, true, true, false, false, false, false, true, true, true, true, false, false, false, true, false, false, false, false, false, true, true]] : List (List Bool)).getD ci []).getD k false
def pg_t (ci : Nat) : Nat → FieldType := match ci with
  | 0 => pg_t0
  | 1 => pg_t1
  | 2 => pg_t2
  | 3 => pg_t3
  | 4 => pg_t4
  | 5 => pg_t5
  | 6 => pg_t6
  | 7 => pg_t7
  | 8 => pg_t8
  | 9 => pg_t9
  | _ => pg_t10
def pg_F (ci : Nat) : u_T := match ci with
  | 0 => pg_F0
  | 1 => pg_F1
  | 2 => pg_F2
  | 3 => pg_F3
  | 4 => pg_F4
  | 5 => pg_F5
  | 6 => pg_F6
  | 7 => pg_F7
  | 8 => pg_F8
  | 9 => pg_F9
  | _ => pg_F10
def pg_N (ci : Nat) : Nat := ([8, 1, 2, 4, 7, 2, 6, 4, 12, 3, 23] : List Nat).getD ci 0
def pg_C (ci : Nat) : String := (["RedoShelf", "RedoShelf$Store", "RedoShelf$Device", "RedoShelf$Chain", "RedoShelf$Memory", "RedoShelf$Images", "RedoShelf$CommitJob", "RedoShelf$CheckpointJob", "RedoShelf$RecoveryJob", "RedoShelf$Sheet", "RedoShelfModel"] : List String).getD ci ""
abbrev pg_M : Type := MethodName × ByteArray × Nat × Option FieldType × Nat × Nat × Nat
def pg_ms : List pg_M := [
  (⟨"RedoShelf", "<init>", "()V"⟩, prog_1_method_2_code, 1, none, 4, 87, 58),
  (⟨"RedoShelf$Store", "<init>", "()V"⟩, prog_11_method_1_code, 1, none, 1, 20, 66),
  (⟨"RedoShelf$Device", "<init>", "(LRedoShelf$Store;)V"⟩, prog_5_method_1_code, 2, none, 2, 41, 76),
  (⟨"RedoShelf$Chain", "<init>", "(LRedoShelf$Store;)V"⟩, prog_2_method_1_code, 2, none, 1, 20, 82),
  (⟨"RedoShelf$Memory", "<init>", "()V"⟩, prog_8_method_1_code, 1, none, 2, 40, 118),
  (⟨"RedoShelf$Images", "<init>", "()V"⟩, prog_6_method_1_code, 1, none, 1, 20, 124),
  (⟨"RedoShelf$CommitJob", "<init>", "(LRedoShelf$Device;LRedoShelf$Memory;LRedoShelf$Store;)V"⟩, prog_4_method_1_code, 4, none, 3, 64, 184),
  (⟨"RedoShelf$Job", "<init>", "(LRedoShelf$Device;LRedoShelf$Memory;LRedoShelf$Store;)V"⟩, prog_7_method_1_code, 4, none, 2, 41, 187),
  (⟨"RedoShelf$CheckpointJob", "<init>", "(LRedoShelf$Device;LRedoShelf$Memory;LRedoShelf$Store;)V"⟩, prog_3_method_1_code, 4, none, 3, 64, 229),
  (⟨"RedoShelf$RecoveryJob", "<init>", "(LRedoShelf$Device;LRedoShelf$Memory;LRedoShelf$Store;)V"⟩, prog_9_method_1_code, 4, none, 3, 64, 240),
  (⟨"RedoShelf$Sheet", "<init>", "()V"⟩, prog_10_method_1_code, 1, none, 1, 20, 246),
  (⟨"RedoShelf", "put", "(III)Z"⟩, prog_1_method_6_code, 5, (some .boolean), 4, 126, 327),
  (⟨"RedoShelf", "idle", "()Z"⟩, prog_1_method_4_code, 1, (some .boolean), 0, 0, 331),
  (⟨"RedoShelf", "isWord", "(II)Z"⟩, prog_1_method_3_code, 2, (some .boolean), 0, 0, 334),
  (⟨"RedoShelf$Images", "has", "(I)Z"⟩, prog_6_method_2_code, 2, (some .boolean), 0, 0, 338),
  (⟨"java/lang/Integer", "bitCount", "(I)I"⟩, prog_14_method_49_code, 1, (some .int), 0, 0, 341),
  (⟨"RedoShelf", "look", "(I)V"⟩, prog_1_method_5_code, 2, none, 3, 105, 348),
  (⟨"RedoShelf$Sheet", "copy", "([II)V"⟩, prog_10_method_3_code, 3, none, 1, 60, 352),
  (⟨"RedoShelf$Device", "read", "(ILRedoShelf$Sheet;)V"⟩, prog_5_method_5_code, 4, none, 2, 82, 359),
  (⟨"RedoShelf$Images", "put", "(I[II)V"⟩, prog_6_method_3_code, 4, none, 1, 60, 364),
  (⟨"RedoShelf", "revoke", "(I)Z"⟩, prog_1_method_7_code, 2, (some .boolean), 1, 21, 369),
  (⟨"RedoShelf$Images", "drop", "(I)V"⟩, prog_6_method_4_code, 2, none, 0, 0, 373),
  (⟨"RedoShelf", "direct", "(III)Z"⟩, prog_1_method_8_code, 4, (some .boolean), 5, 105, 377),
  (⟨"RedoShelf$Device", "write", "(I)LRedoShelf$Sheet;"⟩, prog_5_method_2_code, 2, (some (.object "RedoShelf$Sheet")), 4, 83, 381),
  (⟨"RedoShelf$Chain", "add", "(I)LRedoShelf$Sheet;"⟩, prog_2_method_2_code, 3, (some (.object "RedoShelf$Sheet")), 3, 61, 385),
  (⟨"RedoShelf$Store", "take", "()LRedoShelf$Sheet;"⟩, prog_11_method_2_code, 2, (some (.object "RedoShelf$Sheet")), 2, 40, 389),
  (⟨"RedoShelf", "commit", "()I"⟩, prog_1_method_9_code, 2, (some .int), 7, 155, 395),
  (⟨"RedoShelf$CommitJob", "length", "(LRedoShelf$Memory;)I"⟩, prog_4_method_3_code, 2, (some .int), 1, 20, 398),
  (⟨"RedoShelf$CommitJob", "prepare", "()V"⟩, prog_4_method_6_code, 4, none, 6, 132, 403),
  (⟨"RedoShelf$Images", "from", "(I)I"⟩, prog_6_method_5_code, 3, (some .int), 1, 21, 408),
  (⟨"RedoShelf$CommitJob", "group", "(I)I"⟩, prog_4_method_5_code, 9, (some .int), 5, 104, 413),
  (⟨"RedoShelf$CommitJob", "sheet", "()LRedoShelf$Sheet;"⟩, prog_4_method_4_code, 2, (some (.object "RedoShelf$Sheet")), 4, 83, 417),
  (⟨"RedoShelf$Sheet", "fill", "(IIII)V"⟩, prog_10_method_2_code, 5, none, 0, 0, 424),
  (⟨"RedoShelf$Sheet", "mixed", "(I)I"⟩, prog_10_method_5_code, 7, (some .int), 1, 22, 428),
  (⟨"RedoShelf", "mix", "(II)I"⟩, prog_1_method_1_code, 3, (some .int), 0, 0, 431),
  (⟨"RedoShelf$Job", "begin", "()V"⟩, prog_7_method_5_code, 1, none, 0, 0, 438),
  (⟨"RedoShelf", "checkpoint", "()I"⟩, prog_1_method_10_code, 1, (some .int), 5, 104, 442),
  (⟨"RedoShelf$CheckpointJob", "prepare", "()V"⟩, prog_3_method_3_code, 2, none, 4, 83, 446),
  (⟨"RedoShelf", "recover", "()I"⟩, prog_1_method_11_code, 2, (some .int), 7, 200, 458),
  (⟨"RedoShelf$RecoveryJob", "prepare", "()I"⟩, prog_9_method_7_code, 7, (some .int), 6, 174, 462),
  (⟨"RedoShelf$RecoveryJob", "scan", "()I"⟩, prog_9_method_5_code, 3, (some .int), 5, 152, 468),
  (⟨"RedoShelf$RecoveryJob", "transaction", "(I)Z"⟩, prog_9_method_4_code, 7, (some .boolean), 4, 126, 472),
  (⟨"RedoShelf$RecoveryJob", "look", "(I)V"⟩, prog_9_method_3_code, 2, none, 3, 105, 476),
  (⟨"RedoShelf$Sheet", "is", "(II)Z"⟩, prog_10_method_4_code, 3, (some .boolean), 0, 0, 480),
  (⟨"RedoShelf$RecoveryJob", "image", "(III)V"⟩, prog_9_method_6_code, 6, none, 4, 83, 487),
  (⟨"RedoShelf", "step", "(I)I"⟩, prog_1_method_12_code, 3, (some .int), 7, 151, 497),
  (⟨"RedoShelf$Job", "act", "()V"⟩, prog_7_method_6_code, 2, none, 6, 130, 504),
  (⟨"RedoShelf$Device", "flush", "()V"⟩, prog_5_method_4_code, 1, none, 2, 82, 508),
  (⟨"RedoShelf$Chain", "drop", "()LRedoShelf$Sheet;"⟩, prog_2_method_3_code, 2, (some (.object "RedoShelf$Sheet")), 1, 21, 512),
  (⟨"RedoShelf$Store", "give", "(LRedoShelf$Sheet;)V"⟩, prog_11_method_3_code, 2, none, 0, 0, 516),
  (⟨"RedoShelf$Device", "settle", "(LRedoShelf$Sheet;I)V"⟩, prog_5_method_3_code, 3, none, 1, 60, 520),
  (⟨"RedoShelf$Job", "writeNext", "()V"⟩, prog_7_method_4_code, 7, none, 5, 104, 525),
  (⟨"RedoShelf$CheckpointJob", "end", "()V"⟩, prog_3_method_4_code, 1, none, 0, 0, 534),
  (⟨"RedoShelf$CommitJob", "end", "()V"⟩, prog_4_method_7_code, 3, none, 2, 83, 537),
  (⟨"RedoShelf$RecoveryJob", "end", "()V"⟩, prog_9_method_8_code, 1, none, 1, 20, 543),
  (⟨"RedoShelf$Memory", "clear", "()V"⟩, prog_8_method_2_code, 1, none, 0, 0, 547),
  (⟨"RedoShelf", "crash", "(II)I"⟩, prog_1_method_13_code, 3, (some .int), 4, 109, 551),
  (⟨"RedoShelf$Job", "stop", "()V"⟩, prog_7_method_7_code, 1, none, 3, 62, 558),
  (⟨"RedoShelf$Chain", "clear", "()V"⟩, prog_2_method_4_code, 1, none, 2, 42, 562),
  (⟨"RedoShelf$Device", "crash", "(II)I"⟩, prog_5_method_6_code, 8, (some .int), 2, 82, 568),
  (⟨"java/lang/Integer", "numberOfLeadingZeros", "(I)I"⟩, prog_14_method_47_code, 2, (some .int), 0, 0, 571),
  (⟨"RedoShelf", "get", "(II)I"⟩, prog_1_method_14_code, 3, (some .int), 4, 126, 576),
  (⟨"RedoShelf", "read", "(II)I"⟩, prog_1_method_15_code, 3, (some .int), 3, 105, 580),
  (⟨"RedoShelf", "stored", "(II)I"⟩, prog_1_method_16_code, 3, (some .int), 0, 0, 584),
  (⟨"RedoShelf", "cached", "()I"⟩, prog_1_method_17_code, 1, (some .int), 0, 0, 588),
  (⟨"RedoShelf", "state", "()I"⟩, prog_1_method_18_code, 1, (some .int), 1, 20, 592),
  (⟨"RedoShelf$CheckpointJob", "code", "()I"⟩, prog_3_method_2_code, 1, (some .int), 0, 0, 598),
  (⟨"RedoShelf$CommitJob", "code", "()I"⟩, prog_4_method_2_code, 1, (some .int), 0, 0, 601),
  (⟨"RedoShelf$RecoveryJob", "code", "()I"⟩, prog_9_method_2_code, 1, (some .int), 0, 0, 604),
  (⟨"RedoShelf", "number", "()I"⟩, prog_1_method_19_code, 1, (some .int), 0, 0, 608),
  (⟨"RedoShelf", "used", "()I"⟩, prog_1_method_20_code, 1, (some .int), 0, 0, 612),
  (⟨"RedoShelf", "changed", "(I)I"⟩, prog_1_method_21_code, 3, (some .int), 1, 21, 616),
  (⟨"RedoShelf", "left", "()I"⟩, prog_1_method_22_code, 1, (some .int), 0, 0, 620),
  (⟨"RedoShelfModel", "<init>", "()V"⟩, prog_13_method_1_code, 1, none, 1, 20, 625),
  (⟨"RedoShelfModel", "read", "(II)I"⟩, prog_13_method_2_code, 5, (some .int), 0, 0, 702),
  (⟨"RedoShelfModel", "stored", "(II)I"⟩, prog_13_method_3_code, 3, (some .int), 0, 0, 706),
  (⟨"RedoShelfModel", "cached", "()I"⟩, prog_13_method_4_code, 1, (some .int), 0, 0, 710),
  (⟨"RedoShelfModel", "get", "(II)I"⟩, prog_13_method_13_code, 3, (some .int), 1, 24, 714),
  (⟨"RedoShelfModel", "isBlock", "(I)Z"⟩, prog_13_method_10_code, 1, (some .boolean), 0, 0, 717),
  (⟨"RedoShelfModel", "isWord", "(I)Z"⟩, prog_13_method_11_code, 1, (some .boolean), 0, 0, 720),
  (⟨"RedoShelfModel", "put", "(III)Z"⟩, prog_13_method_15_code, 5, (some .boolean), 2, 46, 725),
  (⟨"RedoShelfModel", "idle", "()Z"⟩, prog_13_method_14_code, 1, (some .boolean), 0, 0, 729),
  (⟨"RedoShelfModel", "countOf", "(I)I"⟩, prog_13_method_12_code, 4, (some .int), 0, 0, 733),
  (⟨"RedoShelfModel", "revoke", "(I)Z"⟩, prog_13_method_16_code, 2, (some .boolean), 1, 20, 738),
  (⟨"RedoShelfModel", "direct", "(III)Z"⟩, prog_13_method_17_code, 5, (some .boolean), 1, 24, 742),
  (⟨"RedoShelfModel", "writeOut", "(I)V"⟩, prog_13_method_5_code, 3, none, 0, 0, 746),
  (⟨"RedoShelfModel", "changed", "(I)I"⟩, prog_13_method_18_code, 2, (some .int), 1, 20, 750),
  (⟨"RedoShelfModel", "commit", "()I"⟩, prog_13_method_25_code, 2, (some .int), 2, 44, 754),
  (⟨"RedoShelfModel", "rowLength", "()I"⟩, prog_13_method_19_code, 2, (some .int), 1, 23, 758),
  (⟨"RedoShelfModel", "checkpoint", "()I"⟩, prog_13_method_29_code, 1, (some .int), 1, 22, 762),
  (⟨"RedoShelfModel", "countPending", "()I"⟩, prog_13_method_28_code, 3, (some .int), 0, 0, 766),
  (⟨"RedoShelfModel", "recover", "()I"⟩, prog_13_method_39_code, 1, (some .int), 6, 152, 770),
  (⟨"RedoShelfModel", "replay", "(I)I"⟩, prog_13_method_38_code, 9, (some .int), 5, 124, 774),
  (⟨"RedoShelfModel", "findRevocations", "()V"⟩, prog_13_method_36_code, 5, none, 4, 100, 778),
  (⟨"RedoShelfModel", "findHead", "()V"⟩, prog_13_method_35_code, 2, none, 1, 24, 782),
  (⟨"RedoShelfModel", "validAt", "(II)I"⟩, prog_13_method_34_code, 11, (some .int), 3, 70, 786),
  (⟨"RedoShelfModel", "logWord", "(II)I"⟩, prog_13_method_32_code, 3, (some .int), 1, 24, 790),
  (⟨"RedoShelfModel", "mixSector", "(II)I"⟩, prog_13_method_33_code, 5, (some .int), 2, 46, 794),
  (⟨"RedoShelfModel", "mix", "(II)I"⟩, prog_13_method_9_code, 3, (some .int), 0, 0, 797),
  (⟨"RedoShelfModel", "isRevocation", "(II)Z"⟩, prog_13_method_37_code, 4, (some .boolean), 2, 46, 802),
  (⟨"RedoShelfModel", "say", "(IIII)V"⟩, prog_13_method_8_code, 5, none, 0, 0, 806),
  (⟨"RedoShelfModel", "step", "(I)I"⟩, prog_13_method_43_code, 3, (some .int), 7, 174, 810),
  (⟨"RedoShelfModel", "commitAction", "(I)V"⟩, prog_13_method_26_code, 4, none, 4, 98, 814),
  (⟨"RedoShelfModel", "body", "(I)V"⟩, prog_13_method_23_code, 4, none, 2, 51, 818),
  (⟨"RedoShelfModel", "revocationWord", "()I"⟩, prog_13_method_22_code, 3, (some .int), 0, 0, 822),
  (⟨"RedoShelfModel", "groupWord", "(II)I"⟩, prog_13_method_21_code, 8, (some .int), 1, 24, 826),
  (⟨"RedoShelfModel", "imageBlock", "(I)I"⟩, prog_13_method_20_code, 5, (some .int), 0, 0, 830),
  (⟨"RedoShelfModel", "sum", "(I)I"⟩, prog_13_method_24_code, 5, (some .int), 3, 74, 834),
  (⟨"RedoShelfModel", "flush", "()V"⟩, prog_13_method_7_code, 2, none, 1, 23, 838),
  (⟨"RedoShelfModel", "settle", "(II)V"⟩, prog_13_method_6_code, 4, none, 0, 0, 842),
  (⟨"RedoShelfModel", "checkpointAction", "(I)V"⟩, prog_13_method_30_code, 5, none, 2, 44, 846),
  (⟨"RedoShelfModel", "recoveryAction", "(I)V"⟩, prog_13_method_40_code, 3, none, 6, 152, 850),
  (⟨"RedoShelfModel", "finish", "()V"⟩, prog_13_method_42_code, 2, none, 2, 45, 854),
  (⟨"RedoShelfModel", "committed", "()V"⟩, prog_13_method_27_code, 4, none, 0, 0, 858),
  (⟨"RedoShelfModel", "checkpointed", "()V"⟩, prog_13_method_31_code, 2, none, 0, 0, 862),
  (⟨"RedoShelfModel", "recovered", "()V"⟩, prog_13_method_41_code, 2, none, 1, 24, 866),
  (⟨"RedoShelfModel", "crash", "(II)I"⟩, prog_13_method_44_code, 7, (some .int), 1, 23, 870),
  (⟨"RedoShelfModel", "state", "()I"⟩, prog_13_method_45_code, 1, (some .int), 0, 0, 874),
  (⟨"RedoShelfModel", "number", "()I"⟩, prog_13_method_46_code, 1, (some .int), 0, 0, 878),
  (⟨"RedoShelfModel", "used", "()I"⟩, prog_13_method_47_code, 1, (some .int), 0, 0, 882),
  (⟨"RedoShelfModel", "left", "()I"⟩, prog_13_method_48_code, 1, (some .int), 0, 0, 886),
  (⟨"RedoShelfLaw", "law", "([I)Z"⟩, code, 4, (some .boolean), 8, 221, 0)]
def pg_m (M : Nat) : pg_M := pg_ms.getD M (⟨"", "", ""⟩, ⟨#[]⟩, 0, none, 0, 0, 0)
def pg_nm (M : Nat) : MethodName := (pg_m M).1
def pg_by (M : Nat) : ByteArray := (pg_m M).2.1
def pg_ml (M : Nat) : Nat := (pg_m M).2.2.1
def pg_rt (M : Nat) : Option FieldType := (pg_m M).2.2.2.1
def pg_fr (M : Nat) : Nat := (pg_m M).2.2.2.2.1
def pg_lw (M : Nat) : Nat := (pg_m M).2.2.2.2.2.1
def pg_cw (M : Nat) : Nat := (pg_m M).2.2.2.2.2.2
/-- R_init -/
def pg_L0 : List (Nat × am_I) := [(0, .aload_n 0, 1, 0, 0, 0, 0), (1, .invokespecial 2, 4, 999, 0, 0, 59), (4, .aload_n 0, 5, 0, 0, 0, 0), (5, .new 8, 8, 1, 0, 0, 62), (8, .dup, 9, 0, 0, 0, 0), (9, .invokespecial 10, 12, 1, 0, 1, 0), (12, .putfield 11, 15, 0, 0, 1, 299), (15, .aload_n 0, 16, 0, 0, 0, 0), (16, .new 17, 19, 2, 0, 0, 72), (19, .dup, 20, 0, 0, 0, 0), (20, .aload_n 0, 21, 0, 0, 0, 0), (21, .getfield 11, 24, 0, 0, 1, 299), (24, .invokespecial 19, 27, 2, 1, 0, 74), (27, .putfield 22, 30, 0, 1, 1, 300), (30, .aload_n 0, 31, 0, 0, 0, 0), (31, .new 26, 34, 4, 0, 0, 114), (34, .dup, 35, 0, 0, 0, 0), (35, .invokespecial 28, 38, 4, 0, 1, 1), (38, .putfield 29, 41, 0, 2, 1, 301), (41, .aload_n 0, 42, 0, 0, 0, 0), (42, .new 33, 45, 6, 0, 0, 180), (45, .dup, 46, 0, 0, 0, 0), (46, .aload_n 0, 47, 0, 0, 0, 0), (47, .getfield 22, 50, 0, 1, 1, 300), (50, .aload_n 0, 51, 0, 0, 0, 0), (51, .getfield 29, 54, 0, 2, 1, 301), (54, .aload_n 0, 55, 0, 0, 0, 0), (55, .getfield 11, 58, 0, 0, 1, 299), (58, .invokespecial 35, 61, 6, 3, 0, 182), (61, .putfield 38, 64, 0, 3, 1, 302), (64, .aload_n 0, 65, 0, 0, 0, 0), (65, .new 42, 68, 7, 0, 0, 225), (68, .dup, 69, 0, 0, 0, 0), (69, .aload_n 0, 70, 0, 0, 0, 0), (70, .getfield 22, 73, 0, 1, 1, 300), (73, .aload_n 0, 74, 0, 0, 0, 0), (74, .getfield 29, 77, 0, 2, 1, 301), (77, .aload_n 0, 78, 0, 0, 0, 0), (78, .getfield 11, 81, 0, 0, 1, 299), (81, .invokespecial 44, 84, 8, 3, 0, 227), (84, .putfield 45, 87, 0, 4, 1, 303), (87, .aload_n 0, 88, 0, 0, 0, 0), (88, .new 49, 91, 8, 0, 0, 236), (91, .dup, 92, 0, 0, 0, 0), (92, .aload_n 0, 93, 0, 0, 0, 0), (93, .getfield 22, 96, 0, 1, 1, 300), (96, .aload_n 0, 97, 0, 0, 0, 0), (97, .getfield 29, 100, 0, 2, 1, 301), (100, .aload_n 0, 101, 0, 0, 0, 0), (101, .getfield 11, 104, 0, 0, 1, 299), (104, .invokespecial 51, 107, 9, 3, 0, 238), (107, .putfield 52, 110, 0, 5, 1, 304), (110, .aload_n 0, 111, 0, 0, 0, 0), (111, .new 56, 114, 9, 0, 0, 297), (114, .dup, 115, 0, 0, 0, 0), (115, .invokespecial 58, 118, 10, 0, 1, 4), (118, .putfield 59, 121, 0, 6, 1, 305), (121, .return_, 122, 0, 0, 0, 0)]
/-- Store_init -/
def pg_L1 : List (Nat × am_I) := [(0, .aload_n 0, 1, 0, 0, 0, 0), (1, .invokespecial 1, 4, 999, 0, 0, 67), (4, .return_, 5, 0, 0, 0, 0)]
/-- Device_init -/
def pg_L2 : List (Nat × am_I) := [(0, .aload_n 0, 1, 0, 0, 0, 0), (1, .invokespecial 3, 4, 999, 0, 0, 77), (4, .aload_n 0, 5, 0, 0, 0, 0), (5, .sipush 164, 8, 0, 0, 164, 0), (8, .newarray .int, 10, 30, 0, 0, 0), (10, .putfield 9, 13, 2, 0, 1, 105), (13, .aload_n 0, 14, 0, 0, 0, 0), (14, .new 15, 17, 3, 0, 0, 78), (17, .dup, 18, 0, 0, 0, 0), (18, .aload_n 1, 19, 1, 0, 0, 0), (19, .invokespecial 17, 22, 3, 1, 0, 80), (22, .putfield 20, 25, 2, 1, 1, 107), (25, .aload_n 0, 26, 0, 0, 0, 0), (26, .getfield 9, 29, 2, 0, 1, 105), (29, .bipush 64, 31, 0, 0, 64, 0), (31, .ldc 24, 33, 0, 0, 77001, 104), (33, .iastore, 34, 0, 0, 0, 0), (34, .aload_n 0, 35, 0, 0, 0, 0), (35, .getfield 9, 38, 2, 0, 1, 105), (38, .bipush 65, 40, 0, 0, 65, 0), (40, .iconst 1, 41, 0, 0, 1, 0), (41, .iastore, 42, 0, 0, 0, 0), (42, .return_, 43, 0, 0, 0, 0)]
/-- Chain_init -/
def pg_L3 : List (Nat × am_I) := [(0, .aload_n 0, 1, 0, 0, 0, 0), (1, .invokespecial 1, 4, 999, 0, 0, 83), (4, .aload_n 0, 5, 0, 0, 0, 0), (5, .aload_n 1, 6, 1, 0, 0, 0), (6, .putfield 7, 9, 3, 0, 1, 84), (9, .return_, 10, 0, 0, 0, 0)]
/-- Memory_init -/
def pg_L4 : List (Nat × am_I) := [(0, .aload_n 0, 1, 0, 0, 0, 0), (1, .invokespecial 1, 4, 999, 0, 0, 119), (4, .aload_n 0, 5, 0, 0, 0, 0), (5, .iconst 1, 6, 0, 0, 1, 0), (6, .putfield 7, 9, 4, 0, 2, 140), (9, .aload_n 0, 10, 0, 0, 0, 0), (10, .iconst 1, 11, 0, 0, 1, 0), (11, .putfield 13, 14, 4, 1, 0, 143), (14, .aload_n 0, 15, 0, 0, 0, 0), (15, .new 17, 18, 5, 0, 0, 120), (18, .dup, 19, 0, 0, 0, 0), (19, .invokespecial 19, 22, 5, 0, 1, 2), (22, .putfield 20, 25, 4, 4, 1, 155), (25, .aload_n 0, 26, 0, 0, 0, 0), (26, .new 17, 29, 5, 0, 0, 120), (29, .dup, 30, 0, 0, 0, 0), (30, .invokespecial 19, 33, 5, 0, 1, 2), (33, .putfield 24, 36, 4, 5, 1, 158), (36, .return_, 37, 0, 0, 0, 0)]
/-- Images_init -/
def pg_L5 : List (Nat × am_I) := [(0, .aload_n 0, 1, 0, 0, 0, 0), (1, .invokespecial 3, 4, 999, 0, 0, 125), (4, .aload_n 0, 5, 0, 0, 0, 0), (5, .bipush 64, 7, 0, 0, 64, 0), (7, .newarray .int, 9, 30, 0, 0, 0), (9, .putfield 9, 12, 5, 0, 1, 126), (12, .return_, 13, 0, 0, 0, 0)]
/-- CJ_init -/
def pg_L6 : List (Nat × am_I) := [(0, .aload_n 0, 1, 0, 0, 0, 0), (1, .aload_n 1, 2, 1, 0, 0, 0), (2, .aload_n 2, 3, 2, 0, 0, 0), (3, .aload_n 3, 4, 3, 0, 0, 0), (4, .invokespecial 3, 7, 7, 3, 0, 185), (7, .return_, 8, 0, 0, 0, 0)]
/-- Job_init -/
def pg_L7 : List (Nat × am_I) := [(0, .aload_n 0, 1, 0, 0, 0, 0), (1, .invokespecial 1, 4, 999, 0, 0, 188), (4, .aload_n 0, 5, 0, 0, 0, 0), (5, .aload_n 1, 6, 1, 0, 0, 0), (6, .putfield 7, 9, 20, 0, 1, 193), (9, .aload_n 0, 10, 0, 0, 0, 0), (10, .aload_n 2, 11, 2, 0, 0, 0), (11, .putfield 13, 14, 20, 1, 1, 196), (14, .aload_n 0, 15, 0, 0, 0, 0), (15, .new 17, 18, 3, 0, 0, 189), (18, .dup, 19, 0, 0, 0, 0), (19, .aload_n 3, 20, 3, 0, 0, 0), (20, .invokespecial 19, 23, 3, 1, 0, 190), (23, .putfield 22, 26, 20, 2, 1, 203), (26, .return_, 27, 0, 0, 0, 0)]
/-- KJ_init -/
def pg_L8 : List (Nat × am_I) := [(0, .aload_n 0, 1, 0, 0, 0, 0), (1, .aload_n 1, 2, 1, 0, 0, 0), (2, .aload_n 2, 3, 2, 0, 0, 0), (3, .aload_n 3, 4, 3, 0, 0, 0), (4, .invokespecial 3, 7, 7, 3, 0, 230), (7, .return_, 8, 0, 0, 0, 0)]
/-- RJ_init -/
def pg_L9 : List (Nat × am_I) := [(0, .aload_n 0, 1, 0, 0, 0, 0), (1, .aload_n 1, 2, 1, 0, 0, 0), (2, .aload_n 2, 3, 2, 0, 0, 0), (3, .aload_n 3, 4, 3, 0, 0, 0), (4, .invokespecial 3, 7, 7, 3, 0, 241), (7, .aload_n 0, 8, 0, 0, 0, 0), (8, .new 9, 11, 9, 0, 0, 242), (11, .dup, 12, 0, 0, 0, 0), (12, .invokespecial 11, 15, 10, 0, 1, 3), (15, .putfield 14, 18, 8, 4, 1, 268), (18, .aload_n 0, 19, 0, 0, 0, 0), (19, .bipush 16, 21, 0, 0, 16, 0), (21, .newarray .int, 23, 30, 0, 0, 0), (23, .putfield 20, 26, 8, 9, 1, 273), (26, .return_, 27, 0, 0, 0, 0)]
/-- Sheet_init -/
def pg_L10 : List (Nat × am_I) := [(0, .aload_n 0, 1, 0, 0, 0, 0), (1, .invokespecial 3, 4, 999, 0, 0, 247), (4, .aload_n 0, 5, 0, 0, 0, 0), (5, .iconst 4, 6, 0, 0, 4, 0), (6, .newarray .int, 8, 30, 0, 0, 0), (8, .putfield 9, 11, 9, 0, 1, 248), (11, .return_, 12, 0, 0, 0, 0)]
/-- R_put -/
def pg_L11 : List (Nat × am_I) := [(0, .aload_n 0, 1, 0, 0, 0, 0), (1, .invokevirtual 96, 4, 0, 0, 0, 0), (4, .ifCond .eq 11, 7, 15, 0, 0, 0), (7, .iload_n 1, 8, 1, 0, 0, 0), (8, .iload_n 2, 9, 2, 0, 0, 0), (9, .invokestatic 100, 12, 13, 2, 0, 332), (12, .ifCond .ne 5, 15, 17, 0, 0, 0), (15, .iconst 0, 16, 0, 0, 0, 0), (16, .ireturn, 17, 0, 0, 0, 0), (17, .aload_n 0, 18, 0, 0, 0, 0), (18, .getfield 29, 21, 0, 2, 1, 301), (21, .getfield 71, 24, 4, 4, 1, 157), (24, .astore 4, 26, 4, 0, 0, 0), (26, .aload 4, 28, 4, 0, 0, 0), (28, .iload_n 1, 29, 1, 0, 0, 0), (29, .invokevirtual 75, 32, 1, 1, 0, 0), (32, .ifCond .ne 37, 35, 69, 0, 0, 0), (35, .aload 4, 37, 4, 0, 0, 0), (37, .getfield 104, 40, 5, 1, 0, 134), (40, .invokestatic 108, 43, 15, 1, 0, 339), (43, .bipush 8, 45, 0, 0, 8, 0), (45, .if_icmp .lt 5, 48, 50, 0, 0, 0), (48, .iconst 0, 49, 0, 0, 0, 0), (49, .ireturn, 50, 0, 0, 0, 0), (50, .aload_n 0, 51, 0, 0, 0, 0), (51, .iload_n 1, 52, 1, 0, 0, 0), (52, .invokevirtual 114, 55, 2, 1, 0, 0), (55, .aload 4, 57, 4, 0, 0, 0), (57, .iload_n 1, 58, 1, 0, 0, 0), (58, .aload_n 0, 59, 0, 0, 0, 0), (59, .getfield 59, 62, 0, 6, 1, 305), (62, .getfield 118, 65, 9, 0, 1, 253), (65, .iconst 0, 66, 0, 0, 0, 0), (66, .invokevirtual 119, 69, 3, 3, 0, 0), (69, .aload_n 0, 70, 0, 0, 0, 0), (70, .getfield 29, 73, 0, 2, 1, 301), (73, .dup, 74, 0, 0, 0, 0), (74, .getfield 123, 77, 4, 6, 0, 164), (77, .iconst 1, 78, 0, 0, 1, 0), (78, .iload_n 1, 79, 1, 0, 0, 0), (79, .ishl, 80, 0, 0, 0, 0), (80, .iconst (-1), 81, 0, 0, (-1), 0), (81, .ixor, 82, 0, 0, 0, 0), (82, .iand, 83, 0, 0, 0, 0), (83, .putfield 123, 86, 4, 6, 0, 164), (86, .aload 4, 88, 4, 0, 0, 0), (88, .getfield 81, 91, 5, 0, 1, 128), (91, .iconst 4, 92, 0, 0, 4, 0), (92, .iload_n 1, 93, 1, 0, 0, 0), (93, .imul, 94, 0, 0, 0, 0), (94, .iload_n 2, 95, 2, 0, 0, 0), (95, .iadd, 96, 0, 0, 0, 0), (96, .iload_n 3, 97, 3, 0, 0, 0), (97, .iastore, 98, 0, 0, 0, 0), (98, .iconst 1, 99, 0, 0, 1, 0), (99, .ireturn, 100, 0, 0, 0, 0)]
/-- R_idle -/
def pg_L12 : List (Nat × am_I) := [(0, .aload_n 0, 1, 0, 0, 0, 0), (1, .getfield 29, 4, 0, 2, 1, 301), (4, .getfield 63, 7, 4, 0, 2, 141), (7, .ifCond .eq 14, 10, 21, 0, 0, 0), (10, .aload_n 0, 11, 0, 0, 0, 0), (11, .getfield 67, 14, 0, 7, 1, 306), (14, .ifnonnull 7, 17, 21, 0, 0, 0), (17, .iconst 1, 18, 0, 0, 1, 0), (18, .goto 4, 21, 22, 0, 0, 0), (21, .iconst 0, 22, 0, 0, 0, 0), (22, .ireturn, 23, 0, 0, 0, 0)]
/-- R_isWord -/
def pg_L13 : List (Nat × am_I) := [(0, .iload_n 0, 1, 0, 0, 0, 0), (1, .ifCond .lt 22, 4, 23, 0, 0, 0), (4, .iload_n 0, 5, 0, 0, 0, 0), (5, .bipush 16, 7, 0, 0, 16, 0), (7, .if_icmp .ge 16, 10, 23, 0, 0, 0), (10, .iload_n 1, 11, 1, 0, 0, 0), (11, .ifCond .lt 12, 14, 23, 0, 0, 0), (14, .iload_n 1, 15, 1, 0, 0, 0), (15, .iconst 4, 16, 0, 0, 4, 0), (16, .if_icmp .ge 7, 19, 23, 0, 0, 0), (19, .iconst 1, 20, 0, 0, 1, 0), (20, .goto 4, 23, 24, 0, 0, 0), (23, .iconst 0, 24, 0, 0, 0, 0), (24, .ireturn, 25, 0, 0, 0, 0)]
/-- Images_has -/
def pg_L14 : List (Nat × am_I) := [(0, .aload_n 0, 1, 0, 0, 0, 0), (1, .getfield 15, 4, 5, 1, 0, 130), (4, .iload_n 1, 5, 1, 0, 0, 0), (5, .ishr, 6, 0, 0, 0, 0), (6, .iconst 1, 7, 0, 0, 1, 0), (7, .iand, 8, 0, 0, 0, 0), (8, .ifCond .eq 7, 11, 15, 0, 0, 0), (11, .iconst 1, 12, 0, 0, 1, 0), (12, .goto 4, 15, 16, 0, 0, 0), (15, .iconst 0, 16, 0, 0, 0, 0), (16, .ireturn, 17, 0, 0, 0, 0)]
/-- Integer_bitCount -/
def pg_L15 : List (Nat × am_I) := [(0, .iload_n 0, 1, 0, 0, 0, 0), (1, .iload_n 0, 2, 0, 0, 0, 0), (2, .iconst 1, 3, 0, 0, 1, 0), (3, .iushr, 4, 0, 0, 0, 0), (4, .ldc_w 265, 7, 0, 0, 1431655765, 342), (7, .iand, 8, 0, 0, 0, 0), (8, .isub, 9, 0, 0, 0, 0), (9, .istore_n 0, 10, 0, 0, 0, 0), (10, .iload_n 0, 11, 0, 0, 0, 0), (11, .ldc_w 266, 14, 0, 0, 858993459, 343), (14, .iand, 15, 0, 0, 0, 0), (15, .iload_n 0, 16, 0, 0, 0, 0), (16, .iconst 2, 17, 0, 0, 2, 0), (17, .iushr, 18, 0, 0, 0, 0), (18, .ldc_w 266, 21, 0, 0, 858993459, 343), (21, .iand, 22, 0, 0, 0, 0), (22, .iadd, 23, 0, 0, 0, 0), (23, .istore_n 0, 24, 0, 0, 0, 0), (24, .iload_n 0, 25, 0, 0, 0, 0), (25, .iload_n 0, 26, 0, 0, 0, 0), (26, .iconst 4, 27, 0, 0, 4, 0), (27, .iushr, 28, 0, 0, 0, 0), (28, .iadd, 29, 0, 0, 0, 0), (29, .ldc_w 267, 32, 0, 0, 252645135, 344), (32, .iand, 33, 0, 0, 0, 0), (33, .istore_n 0, 34, 0, 0, 0, 0), (34, .iload_n 0, 35, 0, 0, 0, 0), (35, .iload_n 0, 36, 0, 0, 0, 0), (36, .bipush 8, 38, 0, 0, 8, 0), (38, .iushr, 39, 0, 0, 0, 0), (39, .iadd, 40, 0, 0, 0, 0), (40, .istore_n 0, 41, 0, 0, 0, 0), (41, .iload_n 0, 42, 0, 0, 0, 0), (42, .iload_n 0, 43, 0, 0, 0, 0), (43, .bipush 16, 45, 0, 0, 16, 0), (45, .iushr, 46, 0, 0, 0, 0), (46, .iadd, 47, 0, 0, 0, 0), (47, .istore_n 0, 48, 0, 0, 0, 0), (48, .iload_n 0, 49, 0, 0, 0, 0), (49, .bipush 63, 51, 0, 0, 63, 0), (51, .iand, 52, 0, 0, 0, 0), (52, .ireturn, 53, 0, 0, 0, 0)]
/-- R_look -/
def pg_L16 : List (Nat × am_I) := [(0, .aload_n 0, 1, 0, 0, 0, 0), (1, .getfield 29, 4, 0, 2, 1, 301), (4, .getfield 71, 7, 4, 4, 1, 157), (7, .iload_n 1, 8, 1, 0, 0, 0), (8, .invokevirtual 75, 11, 1, 1, 0, 0), (11, .ifCond .eq 26, 14, 37, 0, 0, 0), (14, .aload_n 0, 15, 0, 0, 0, 0), (15, .getfield 59, 18, 0, 6, 1, 305), (18, .aload_n 0, 19, 0, 0, 0, 0), (19, .getfield 29, 22, 0, 2, 1, 301), (22, .getfield 71, 25, 4, 4, 1, 157), (25, .getfield 81, 28, 5, 0, 1, 128), (28, .iconst 4, 29, 0, 0, 4, 0), (29, .iload_n 1, 30, 1, 0, 0, 0), (30, .imul, 31, 0, 0, 0, 0), (31, .invokevirtual 85, 34, 4, 2, 0, 0), (34, .goto 52, 37, 86, 0, 0, 0), (37, .aload_n 0, 38, 0, 0, 0, 0), (38, .getfield 29, 41, 0, 2, 1, 301), (41, .getfield 89, 44, 4, 5, 1, 160), (44, .iload_n 1, 45, 1, 0, 0, 0), (45, .invokevirtual 75, 48, 1, 1, 0, 0), (48, .ifCond .eq 26, 51, 74, 0, 0, 0), (51, .aload_n 0, 52, 0, 0, 0, 0), (52, .getfield 59, 55, 0, 6, 1, 305), (55, .aload_n 0, 56, 0, 0, 0, 0), (56, .getfield 29, 59, 0, 2, 1, 301), (59, .getfield 89, 62, 4, 5, 1, 160), (62, .getfield 81, 65, 5, 0, 1, 128), (65, .iconst 4, 66, 0, 0, 4, 0), (66, .iload_n 1, 67, 1, 0, 0, 0), (67, .imul, 68, 0, 0, 0, 0), (68, .invokevirtual 85, 71, 4, 2, 0, 0), (71, .goto 15, 74, 86, 0, 0, 0), (74, .aload_n 0, 75, 0, 0, 0, 0), (75, .getfield 22, 78, 0, 1, 1, 300), (78, .iload_n 1, 79, 1, 0, 0, 0), (79, .aload_n 0, 80, 0, 0, 0, 0), (80, .getfield 59, 83, 0, 6, 1, 305), (83, .invokevirtual 92, 86, 5, 2, 0, 0), (86, .return_, 87, 0, 0, 0, 0)]
/-- Sheet_copy -/
def pg_L17 : List (Nat × am_I) := [(0, .aload_n 1, 1, 1, 0, 0, 0), (1, .iload_n 2, 2, 2, 0, 0, 0), (2, .aload_n 0, 3, 0, 0, 0, 0), (3, .getfield 9, 6, 9, 0, 1, 248), (6, .iconst 0, 7, 0, 0, 0, 0), (7, .iconst 4, 8, 0, 0, 4, 0), (8, .invokestatic 15, 11, 998, 0, 0, 353), (11, .return_, 12, 0, 0, 0, 0)]
/-- Device_read -/
def pg_L18 : List (Nat × am_I) := [(0, .aload_n 2, 1, 2, 0, 0, 0), (1, .aload_n 0, 2, 0, 0, 0, 0), (2, .getfield 9, 5, 2, 0, 1, 105), (5, .iconst 4, 6, 0, 0, 4, 0), (6, .iload_n 1, 7, 1, 0, 0, 0), (7, .imul, 8, 0, 0, 0, 0), (8, .invokevirtual 55, 11, 6, 2, 0, 0), (11, .aload_n 0, 12, 0, 0, 0, 0), (12, .getfield 20, 15, 2, 1, 1, 107), (15, .getfield 59, 18, 3, 1, 1, 86), (18, .astore_n 3, 19, 3, 0, 0, 0), (19, .aload_n 3, 20, 3, 0, 0, 0), (20, .ifnull 28, 23, 48, 0, 0, 0), (23, .aload_n 3, 24, 3, 0, 0, 0), (24, .getfield 34, 27, 9, 1, 0, 255), (27, .iload_n 1, 28, 1, 0, 0, 0), (28, .if_icmp .ne 12, 31, 40, 0, 0, 0), (31, .aload_n 2, 32, 2, 0, 0, 0), (32, .aload_n 3, 33, 3, 0, 0, 0), (33, .getfield 29, 36, 9, 0, 1, 249), (36, .iconst 0, 37, 0, 0, 0, 0), (37, .invokevirtual 55, 40, 6, 2, 0, 0), (40, .aload_n 3, 41, 3, 0, 0, 0), (41, .getfield 63, 44, 9, 2, 1, 259), (44, .astore_n 3, 45, 3, 0, 0, 0), (45, .goto (-26), 48, 19, 0, 0, 0), (48, .aload_n 2, 49, 2, 0, 0, 0), (49, .iload_n 1, 50, 1, 0, 0, 0), (50, .putfield 34, 53, 9, 1, 0, 255), (53, .return_, 54, 0, 0, 0, 0)]
/-- Images_put -/
def pg_L19 : List (Nat × am_I) := [(0, .aload_n 2, 1, 2, 0, 0, 0), (1, .iload_n 3, 2, 3, 0, 0, 0), (2, .aload_n 0, 3, 0, 0, 0, 0), (3, .getfield 9, 6, 5, 0, 1, 126), (6, .iconst 4, 7, 0, 0, 4, 0), (7, .iload_n 1, 8, 1, 0, 0, 0), (8, .imul, 9, 0, 0, 0, 0), (9, .iconst 4, 10, 0, 0, 4, 0), (10, .invokestatic 19, 13, 998, 0, 0, 365), (13, .aload_n 0, 14, 0, 0, 0, 0), (14, .dup, 15, 0, 0, 0, 0), (15, .getfield 15, 18, 5, 1, 0, 130), (18, .iconst 1, 19, 0, 0, 1, 0), (19, .iload_n 1, 20, 1, 0, 0, 0), (20, .ishl, 21, 0, 0, 0, 0), (21, .ior, 22, 0, 0, 0, 0), (22, .putfield 15, 25, 5, 1, 0, 130), (25, .return_, 26, 0, 0, 0, 0)]
/-- R_revoke -/
def pg_L20 : List (Nat × am_I) := [(0, .aload_n 0, 1, 0, 0, 0, 0), (1, .invokevirtual 96, 4, 0, 0, 0, 0), (4, .ifCond .eq 13, 7, 17, 0, 0, 0), (7, .iload_n 1, 8, 1, 0, 0, 0), (8, .ifCond .lt 9, 11, 17, 0, 0, 0), (11, .iload_n 1, 12, 1, 0, 0, 0), (12, .bipush 16, 14, 0, 0, 16, 0), (14, .if_icmp .lt 5, 17, 19, 0, 0, 0), (17, .iconst 0, 18, 0, 0, 0, 0), (18, .ireturn, 19, 0, 0, 0, 0), (19, .aload_n 0, 20, 0, 0, 0, 0), (20, .getfield 29, 23, 0, 2, 1, 301), (23, .getfield 71, 26, 4, 4, 1, 157), (26, .iload_n 1, 27, 1, 0, 0, 0), (27, .invokevirtual 126, 30, 7, 1, 0, 0), (30, .aload_n 0, 31, 0, 0, 0, 0), (31, .getfield 29, 34, 0, 2, 1, 301), (34, .dup, 35, 0, 0, 0, 0), (35, .getfield 123, 38, 4, 6, 0, 164), (38, .iconst 1, 39, 0, 0, 1, 0), (39, .iload_n 1, 40, 1, 0, 0, 0), (40, .ishl, 41, 0, 0, 0, 0), (41, .ior, 42, 0, 0, 0, 0), (42, .putfield 123, 45, 4, 6, 0, 164), (45, .iconst 1, 46, 0, 0, 1, 0), (46, .ireturn, 47, 0, 0, 0, 0)]
/-- Images_drop -/
def pg_L21 : List (Nat × am_I) := [(0, .aload_n 0, 1, 0, 0, 0, 0), (1, .dup, 2, 0, 0, 0, 0), (2, .getfield 15, 5, 5, 1, 0, 130), (5, .iconst 1, 6, 0, 0, 1, 0), (6, .iload_n 1, 7, 1, 0, 0, 0), (7, .ishl, 8, 0, 0, 0, 0), (8, .iconst (-1), 9, 0, 0, (-1), 0), (9, .ixor, 10, 0, 0, 0, 0), (10, .iand, 11, 0, 0, 0, 0), (11, .putfield 15, 14, 5, 1, 0, 130), (14, .return_, 15, 0, 0, 0, 0)]
/-- R_direct -/
def pg_L22 : List (Nat × am_I) := [(0, .aload_n 0, 1, 0, 0, 0, 0), (1, .invokevirtual 96, 4, 0, 0, 0, 0), (4, .ifCond .eq 54, 7, 58, 0, 0, 0), (7, .iload_n 1, 8, 1, 0, 0, 0), (8, .iload_n 2, 9, 2, 0, 0, 0), (9, .invokestatic 100, 12, 13, 2, 0, 332), (12, .ifCond .eq 46, 15, 58, 0, 0, 0), (15, .aload_n 0, 16, 0, 0, 0, 0), (16, .getfield 29, 19, 0, 2, 1, 301), (19, .getfield 71, 22, 4, 4, 1, 157), (22, .iload_n 1, 23, 1, 0, 0, 0), (23, .invokevirtual 75, 26, 1, 1, 0, 0), (26, .ifCond .ne 32, 29, 58, 0, 0, 0), (29, .aload_n 0, 30, 0, 0, 0, 0), (30, .getfield 29, 33, 0, 2, 1, 301), (33, .getfield 89, 36, 4, 5, 1, 160), (36, .iload_n 1, 37, 1, 0, 0, 0), (37, .invokevirtual 75, 40, 1, 1, 0, 0), (40, .ifCond .ne 18, 43, 58, 0, 0, 0), (43, .aload_n 0, 44, 0, 0, 0, 0), (44, .getfield 22, 47, 0, 1, 1, 300), (47, .getfield 129, 50, 2, 1, 1, 108), (50, .getfield 133, 53, 3, 3, 0, 93), (53, .bipush 12, 55, 0, 0, 12, 0), (55, .if_icmp .lt 5, 58, 60, 0, 0, 0), (58, .iconst 0, 59, 0, 0, 0, 0), (59, .ireturn, 60, 0, 0, 0, 0), (60, .aload_n 0, 61, 0, 0, 0, 0), (61, .getfield 22, 64, 0, 1, 1, 300), (64, .iload_n 1, 65, 1, 0, 0, 0), (65, .aload_n 0, 66, 0, 0, 0, 0), (66, .getfield 59, 69, 0, 6, 1, 305), (69, .invokevirtual 92, 72, 5, 2, 0, 0), (72, .aload_n 0, 73, 0, 0, 0, 0), (73, .getfield 59, 76, 0, 6, 1, 305), (76, .getfield 118, 79, 9, 0, 1, 253), (79, .iload_n 2, 80, 2, 0, 0, 0), (80, .iload_n 3, 81, 3, 0, 0, 0), (81, .iastore, 82, 0, 0, 0, 0), (82, .aload_n 0, 83, 0, 0, 0, 0), (83, .getfield 22, 86, 0, 1, 1, 300), (86, .iload_n 1, 87, 1, 0, 0, 0), (87, .invokevirtual 138, 90, 8, 1, 0, 0), (90, .aload_n 0, 91, 0, 0, 0, 0), (91, .getfield 59, 94, 0, 6, 1, 305), (94, .getfield 118, 97, 9, 0, 1, 253), (97, .iconst 0, 98, 0, 0, 0, 0), (98, .invokevirtual 85, 101, 4, 2, 0, 0), (101, .iconst 1, 102, 0, 0, 1, 0), (102, .ireturn, 103, 0, 0, 0, 0)]
/-- Device_write -/
def pg_L23 : List (Nat × am_I) := [(0, .aload_n 0, 1, 0, 0, 0, 0), (1, .getfield 20, 4, 2, 1, 1, 107), (4, .iload_n 1, 5, 1, 0, 0, 0), (5, .invokevirtual 25, 8, 9, 1, 0, 0), (8, .areturn, 9, 0, 0, 0, 0)]
/-- Chain_add -/
def pg_L24 : List (Nat × am_I) := [(0, .aload_n 0, 1, 0, 0, 0, 0), (1, .getfield 7, 4, 3, 0, 1, 84), (4, .invokevirtual 13, 7, 10, 0, 0, 0), (7, .astore_n 2, 8, 2, 0, 0, 0), (8, .aload_n 2, 9, 2, 0, 0, 0), (9, .iload_n 1, 10, 1, 0, 0, 0), (10, .putfield 19, 13, 9, 1, 0, 254), (13, .aload_n 0, 14, 0, 0, 0, 0), (14, .getfield 25, 17, 3, 2, 1, 88), (17, .ifnonnull 11, 20, 28, 0, 0, 0), (20, .aload_n 0, 21, 0, 0, 0, 0), (21, .aload_n 2, 22, 2, 0, 0, 0), (22, .putfield 29, 25, 3, 1, 1, 85), (25, .goto 11, 28, 36, 0, 0, 0), (28, .aload_n 0, 29, 0, 0, 0, 0), (29, .getfield 25, 32, 3, 2, 1, 88), (32, .aload_n 2, 33, 2, 0, 0, 0), (33, .putfield 32, 36, 9, 2, 1, 258), (36, .aload_n 0, 37, 0, 0, 0, 0), (37, .aload_n 2, 38, 2, 0, 0, 0), (38, .putfield 25, 41, 3, 2, 1, 88), (41, .aload_n 0, 42, 0, 0, 0, 0), (42, .dup, 43, 0, 0, 0, 0), (43, .getfield 35, 46, 3, 3, 0, 89), (46, .iconst 1, 47, 0, 0, 1, 0), (47, .iadd, 48, 0, 0, 0, 0), (48, .putfield 35, 51, 3, 3, 0, 89), (51, .aload_n 2, 52, 2, 0, 0, 0), (52, .areturn, 53, 0, 0, 0, 0)]
/-- Store_take -/
def pg_L25 : List (Nat × am_I) := [(0, .aload_n 0, 1, 0, 0, 0, 0), (1, .getfield 7, 4, 1, 0, 1, 68), (4, .astore_n 1, 5, 1, 0, 0, 0), (5, .aload_n 1, 6, 1, 0, 0, 0), (6, .ifnonnull 11, 9, 17, 0, 0, 0), (9, .new 13, 12, 9, 0, 0, 390), (12, .dup, 13, 0, 0, 0, 0), (13, .invokespecial 15, 16, 10, 0, 1, 5), (16, .areturn, 17, 0, 0, 0, 0), (17, .aload_n 0, 18, 0, 0, 0, 0), (18, .aload_n 1, 19, 1, 0, 0, 0), (19, .getfield 16, 22, 9, 2, 1, 257), (22, .putfield 7, 25, 1, 0, 1, 68), (25, .aload_n 1, 26, 1, 0, 0, 0), (26, .aconst_null, 27, 0, 0, 0, 0), (27, .putfield 16, 30, 9, 2, 1, 257), (30, .aload_n 1, 31, 1, 0, 0, 0), (31, .areturn, 32, 0, 0, 0, 0)]
/-- R_commit -/
def pg_L26 : List (Nat × am_I) := [(0, .aload_n 0, 1, 0, 0, 0, 0), (1, .invokevirtual 96, 4, 0, 0, 0, 0), (4, .ifCond .eq 26, 7, 30, 0, 0, 0), (7, .aload_n 0, 8, 0, 0, 0, 0), (8, .getfield 29, 11, 0, 2, 1, 301), (11, .getfield 71, 14, 4, 4, 1, 157), (14, .getfield 104, 17, 5, 1, 0, 134), (17, .ifCond .ne 15, 20, 32, 0, 0, 0), (20, .aload_n 0, 21, 0, 0, 0, 0), (21, .getfield 29, 24, 0, 2, 1, 301), (24, .getfield 123, 27, 4, 6, 0, 164), (27, .ifCond .ne 5, 30, 32, 0, 0, 0), (30, .iconst (-1), 31, 0, 0, (-1), 0), (31, .ireturn, 32, 0, 0, 0, 0), (32, .aload_n 0, 33, 0, 0, 0, 0), (33, .getfield 29, 36, 0, 2, 1, 301), (36, .invokestatic 142, 39, 27, 1, 0, 396), (39, .istore_n 1, 40, 1, 0, 0, 0), (40, .aload_n 0, 41, 0, 0, 0, 0), (41, .getfield 29, 44, 0, 2, 1, 301), (44, .getfield 146, 47, 4, 3, 0, 154), (47, .iload_n 1, 48, 1, 0, 0, 0), (48, .iadd, 49, 0, 0, 0, 0), (49, .bipush 24, 51, 0, 0, 24, 0), (51, .if_icmp .lt 6, 54, 57, 0, 0, 0), (54, .bipush (-2), 56, 0, 0, (-2), 0), (56, .ireturn, 57, 0, 0, 0, 0), (57, .aload_n 0, 58, 0, 0, 0, 0), (58, .getfield 38, 61, 0, 3, 1, 302), (61, .invokevirtual 149, 64, 11, 0, 0, 0), (64, .aload_n 0, 65, 0, 0, 0, 0), (65, .aload_n 0, 66, 0, 0, 0, 0), (66, .getfield 38, 69, 0, 3, 1, 302), (69, .putfield 67, 72, 0, 7, 1, 306), (72, .iload_n 1, 73, 1, 0, 0, 0), (73, .ireturn, 74, 0, 0, 0, 0)]
/-- CJ_length -/
def pg_L27 : List (Nat × am_I) := [(0, .aload_n 0, 1, 0, 0, 0, 0), (1, .getfield 9, 4, 4, 4, 1, 156), (4, .getfield 15, 7, 5, 1, 0, 132), (7, .invokestatic 21, 10, 15, 1, 0, 399), (10, .istore_n 1, 11, 1, 0, 0, 0), (11, .iload_n 1, 12, 1, 0, 0, 0), (12, .iload_n 1, 13, 1, 0, 0, 0), (13, .iconst 3, 14, 0, 0, 3, 0), (14, .iadd, 15, 0, 0, 0, 0), (15, .iconst 4, 16, 0, 0, 4, 0), (16, .idiv, 17, 0, 0, 0, 0), (17, .iadd, 18, 0, 0, 0, 0), (18, .aload_n 0, 19, 0, 0, 0, 0), (19, .getfield 27, 22, 4, 6, 0, 163), (22, .ifCond .eq 7, 25, 29, 0, 0, 0), (25, .iconst 1, 26, 0, 0, 1, 0), (26, .goto 4, 29, 30, 0, 0, 0), (29, .iconst 0, 30, 0, 0, 0, 0), (30, .iadd, 31, 0, 0, 0, 0), (31, .iconst 1, 32, 0, 0, 1, 0), (32, .iadd, 33, 0, 0, 0, 0), (33, .ireturn, 34, 0, 0, 0, 0)]
/-- CJ_prepare -/
def pg_L28 : List (Nat × am_I) := [(0, .aload_n 0, 1, 0, 0, 0, 0), (1, .aload_n 0, 2, 0, 0, 0, 0), (2, .getfield 45, 5, 6, 1, 1, 199), (5, .invokestatic 75, 8, 27, 1, 0, 404), (8, .putfield 79, 11, 6, 4, 0, 191), (11, .aload_n 0, 12, 0, 0, 0, 0), (12, .aload_n 0, 13, 0, 0, 0, 0), (13, .getfield 45, 16, 6, 1, 1, 199), (16, .getfield 82, 19, 4, 2, 0, 149), (19, .putfield 36, 22, 6, 5, 0, 192), (22, .aload_n 0, 23, 0, 0, 0, 0), (23, .getfield 45, 26, 6, 1, 1, 199), (26, .getfield 9, 29, 4, 4, 1, 156), (29, .iconst 0, 30, 0, 0, 0, 0), (30, .invokevirtual 49, 33, 12, 1, 0, 0), (33, .istore_n 1, 34, 1, 0, 0, 0), (34, .iload_n 1, 35, 1, 0, 0, 0), (35, .bipush 16, 37, 0, 0, 16, 0), (37, .if_icmp .ge 12, 40, 49, 0, 0, 0), (40, .aload_n 0, 41, 0, 0, 0, 0), (41, .iload_n 1, 42, 1, 0, 0, 0), (42, .invokevirtual 85, 45, 13, 1, 0, 0), (45, .istore_n 1, 46, 1, 0, 0, 0), (46, .goto (-12), 49, 34, 0, 0, 0), (49, .aload_n 0, 50, 0, 0, 0, 0), (50, .getfield 45, 53, 6, 1, 1, 199), (53, .getfield 27, 56, 4, 6, 0, 163), (56, .ifCond .eq 27, 59, 83, 0, 0, 0), (59, .aload_n 0, 60, 0, 0, 0, 0), (60, .invokevirtual 52, 63, 14, 0, 0, 0), (63, .ldc 67, 65, 0, 0, 77001, 420), (65, .iconst 2, 66, 0, 0, 2, 0), (66, .aload_n 0, 67, 0, 0, 0, 0), (67, .getfield 45, 70, 6, 1, 1, 199), (70, .getfield 68, 73, 4, 1, 0, 145), (73, .aload_n 0, 74, 0, 0, 0, 0), (74, .getfield 45, 77, 6, 1, 1, 199), (77, .getfield 27, 80, 4, 6, 0, 163), (80, .invokevirtual 71, 83, 15, 4, 0, 0), (83, .aload_n 0, 84, 0, 0, 0, 0), (84, .getfield 45, 87, 6, 1, 1, 199), (87, .getfield 68, 90, 4, 1, 0, 145), (90, .istore_n 2, 91, 2, 0, 0, 0), (91, .aload_n 0, 92, 0, 0, 0, 0), (92, .getfield 30, 95, 6, 2, 1, 206), (95, .getfield 88, 98, 3, 1, 1, 87), (98, .astore_n 3, 99, 3, 0, 0, 0), (99, .aload_n 3, 100, 3, 0, 0, 0), (100, .ifnull 17, 103, 117, 0, 0, 0), (103, .aload_n 3, 104, 3, 0, 0, 0), (104, .iload_n 2, 105, 2, 0, 0, 0), (105, .invokevirtual 92, 108, 16, 1, 0, 0), (108, .istore_n 2, 109, 2, 0, 0, 0), (109, .aload_n 3, 110, 3, 0, 0, 0), (110, .getfield 95, 113, 9, 2, 1, 260), (113, .astore_n 3, 114, 3, 0, 0, 0), (114, .goto (-15), 117, 99, 0, 0, 0), (117, .aload_n 0, 118, 0, 0, 0, 0), (118, .invokevirtual 52, 121, 14, 0, 0, 0), (121, .ldc 67, 123, 0, 0, 77001, 420), (123, .iconst 3, 124, 0, 0, 3, 0), (124, .aload_n 0, 125, 0, 0, 0, 0), (125, .getfield 45, 128, 6, 1, 1, 199), (128, .getfield 68, 131, 4, 1, 0, 145), (131, .iload_n 2, 132, 2, 0, 0, 0), (132, .invokevirtual 71, 135, 15, 4, 0, 0), (135, .aload_n 0, 136, 0, 0, 0, 0), (136, .invokevirtual 97, 139, 17, 0, 0, 0), (139, .return_, 140, 0, 0, 0, 0)]
/-- Images_from -/
def pg_L29 : List (Nat × am_I) := [(0, .iload_n 1, 1, 1, 0, 0, 0), (1, .istore_n 2, 2, 2, 0, 0, 0), (2, .iload_n 2, 3, 2, 0, 0, 0), (3, .bipush 16, 5, 0, 0, 16, 0), (5, .if_icmp .ge 17, 8, 22, 0, 0, 0), (8, .aload_n 0, 9, 0, 0, 0, 0), (9, .iload_n 2, 10, 2, 0, 0, 0), (10, .invokevirtual 25, 13, 18, 1, 0, 0), (13, .ifCond .ne 9, 16, 22, 0, 0, 0), (16, .iinc 2 1, 19, 2, 0, 1, 0), (19, .goto (-17), 22, 2, 0, 0, 0), (22, .iload_n 2, 23, 2, 0, 0, 0), (23, .ireturn, 24, 0, 0, 0, 0)]
/-- CJ_group -/
def pg_L30 : List (Nat × am_I) := [(0, .aload_n 0, 1, 0, 0, 0, 0), (1, .getfield 45, 4, 6, 1, 1, 199), (4, .getfield 9, 7, 4, 4, 1, 156), (7, .astore_n 2, 8, 2, 0, 0, 0), (8, .iconst 0, 9, 0, 0, 0, 0), (9, .istore_n 3, 10, 3, 0, 0, 0), (10, .aload_n 2, 11, 2, 0, 0, 0), (11, .iload_n 1, 12, 1, 0, 0, 0), (12, .invokevirtual 49, 15, 12, 1, 0, 0), (15, .istore 4, 17, 4, 0, 0, 0), (17, .iconst 0, 18, 0, 0, 0, 0), (18, .istore 5, 20, 5, 0, 0, 0), (20, .aload_n 0, 21, 0, 0, 0, 0), (21, .invokevirtual 52, 24, 14, 0, 0, 0), (24, .astore 6, 26, 6, 0, 0, 0), (26, .iload 4, 28, 4, 0, 0, 0), (28, .bipush 16, 30, 0, 0, 16, 0), (30, .if_icmp .ge 111, 33, 141, 0, 0, 0), (33, .iload 5, 35, 5, 0, 0, 0), (35, .iconst 4, 36, 0, 0, 4, 0), (36, .if_icmp .ge 105, 39, 141, 0, 0, 0), (39, .aload_n 0, 40, 0, 0, 0, 0), (40, .invokevirtual 52, 43, 14, 0, 0, 0), (43, .astore 7, 45, 7, 0, 0, 0), (45, .aload 7, 47, 7, 0, 0, 0), (47, .aload_n 2, 48, 2, 0, 0, 0), (48, .getfield 56, 51, 5, 0, 1, 129), (51, .iconst 4, 52, 0, 0, 4, 0), (52, .iload 4, 54, 4, 0, 0, 0), (54, .imul, 55, 0, 0, 0, 0), (55, .invokevirtual 60, 58, 19, 2, 0, 0), (58, .aload 7, 60, 7, 0, 0, 0), (60, .getfield 66, 63, 9, 0, 1, 252), (63, .iconst 0, 64, 0, 0, 0, 0), (64, .iaload, 65, 0, 0, 0, 0), (65, .ldc 67, 67, 0, 0, 77001, 420), (67, .if_icmp .ne 7, 70, 74, 0, 0, 0), (70, .iconst 1, 71, 0, 0, 1, 0), (71, .goto 4, 74, 75, 0, 0, 0), (74, .iconst 0, 75, 0, 0, 0, 0), (75, .istore 8, 77, 8, 0, 0, 0), (77, .aload 7, 79, 7, 0, 0, 0), (79, .getfield 66, 82, 9, 0, 1, 252), (82, .iconst 0, 83, 0, 0, 0, 0), (83, .iload 8, 85, 8, 0, 0, 0), (85, .ifCond .eq 7, 88, 92, 0, 0, 0), (88, .iconst 0, 89, 0, 0, 0, 0), (89, .goto 10, 92, 99, 0, 0, 0), (92, .aload 7, 94, 7, 0, 0, 0), (94, .getfield 66, 97, 9, 0, 1, 252), (97, .iconst 0, 98, 0, 0, 0, 0), (98, .iaload, 99, 0, 0, 0, 0), (99, .iastore, 100, 0, 0, 0, 0), (100, .iload_n 3, 101, 3, 0, 0, 0), (101, .iload 8, 103, 8, 0, 0, 0), (103, .ifCond .eq 11, 106, 114, 0, 0, 0), (106, .iload 4, 108, 4, 0, 0, 0), (108, .bipush 16, 110, 0, 0, 16, 0), (110, .ior, 111, 0, 0, 0, 0), (111, .goto 5, 114, 116, 0, 0, 0), (114, .iload 4, 116, 4, 0, 0, 0), (116, .iconst 3, 117, 0, 0, 3, 0), (117, .iconst 5, 118, 0, 0, 5, 0), (118, .iload 5, 120, 5, 0, 0, 0), (120, .iinc 5 1, 123, 5, 0, 1, 0), (123, .imul, 124, 0, 0, 0, 0), (124, .iadd, 125, 0, 0, 0, 0), (125, .ishl, 126, 0, 0, 0, 0), (126, .ior, 127, 0, 0, 0, 0), (127, .istore_n 3, 128, 3, 0, 0, 0), (128, .aload_n 2, 129, 2, 0, 0, 0), (129, .iload 4, 131, 4, 0, 0, 0), (131, .iconst 1, 132, 0, 0, 1, 0), (132, .iadd, 133, 0, 0, 0, 0), (133, .invokevirtual 49, 136, 12, 1, 0, 0), (136, .istore 4, 138, 4, 0, 0, 0), (138, .goto (-112), 141, 26, 0, 0, 0), (141, .aload 6, 143, 6, 0, 0, 0), (143, .ldc 67, 145, 0, 0, 77001, 420), (145, .iconst 1, 146, 0, 0, 1, 0), (146, .aload_n 0, 147, 0, 0, 0, 0), (147, .getfield 45, 150, 6, 1, 1, 199), (150, .getfield 68, 153, 4, 1, 0, 145), (153, .iload_n 3, 154, 3, 0, 0, 0), (154, .iload 5, 156, 5, 0, 0, 0), (156, .ior, 157, 0, 0, 0, 0), (157, .invokevirtual 71, 160, 15, 4, 0, 0), (160, .iload 4, 162, 4, 0, 0, 0), (162, .ireturn, 163, 0, 0, 0, 0)]
/-- CJ_sheet -/
def pg_L31 : List (Nat × am_I) := [(0, .aload_n 0, 1, 0, 0, 0, 0), (1, .getfield 30, 4, 6, 2, 1, 206), (4, .bipush 17, 6, 0, 0, 17, 0), (6, .aload_n 0, 7, 0, 0, 0, 0), (7, .getfield 36, 10, 6, 5, 0, 192), (10, .iadd, 11, 0, 0, 0, 0), (11, .invokevirtual 39, 14, 20, 1, 0, 0), (14, .astore_n 1, 15, 1, 0, 0, 0), (15, .aload_n 0, 16, 0, 0, 0, 0), (16, .aload_n 0, 17, 0, 0, 0, 0), (17, .getfield 36, 20, 6, 5, 0, 192), (20, .iconst 1, 21, 0, 0, 1, 0), (21, .iadd, 22, 0, 0, 0, 0), (22, .bipush 24, 24, 0, 0, 24, 0), (24, .irem, 25, 0, 0, 0, 0), (25, .putfield 36, 28, 6, 5, 0, 192), (28, .aload_n 1, 29, 1, 0, 0, 0), (29, .areturn, 30, 0, 0, 0, 0)]
/-- Sheet_fill -/
def pg_L32 : List (Nat × am_I) := [(0, .aload_n 0, 1, 0, 0, 0, 0), (1, .getfield 9, 4, 9, 0, 1, 248), (4, .iconst 0, 5, 0, 0, 0, 0), (5, .iload_n 1, 6, 1, 0, 0, 0), (6, .iastore, 7, 0, 0, 0, 0), (7, .aload_n 0, 8, 0, 0, 0, 0), (8, .getfield 9, 11, 9, 0, 1, 248), (11, .iconst 1, 12, 0, 0, 1, 0), (12, .iload_n 2, 13, 2, 0, 0, 0), (13, .iastore, 14, 0, 0, 0, 0), (14, .aload_n 0, 15, 0, 0, 0, 0), (15, .getfield 9, 18, 9, 0, 1, 248), (18, .iconst 2, 19, 0, 0, 2, 0), (19, .iload_n 3, 20, 3, 0, 0, 0), (20, .iastore, 21, 0, 0, 0, 0), (21, .aload_n 0, 22, 0, 0, 0, 0), (22, .getfield 9, 25, 9, 0, 1, 248), (25, .iconst 3, 26, 0, 0, 3, 0), (26, .iload 4, 28, 4, 0, 0, 0), (28, .iastore, 29, 0, 0, 0, 0), (29, .return_, 30, 0, 0, 0, 0)]
/-- Sheet_mixed -/
def pg_L33 : List (Nat × am_I) := [(0, .iload_n 1, 1, 1, 0, 0, 0), (1, .istore_n 2, 2, 2, 0, 0, 0), (2, .aload_n 0, 3, 0, 0, 0, 0), (3, .getfield 9, 6, 9, 0, 1, 248), (6, .astore_n 3, 7, 3, 0, 0, 0), (7, .aload_n 3, 8, 3, 0, 0, 0), (8, .arraylength, 9, 0, 0, 0, 0), (9, .istore 4, 11, 4, 0, 0, 0), (11, .iconst 0, 12, 0, 0, 0, 0), (12, .istore 5, 14, 5, 0, 0, 0), (14, .iload 5, 16, 5, 0, 0, 0), (16, .iload 4, 18, 4, 0, 0, 0), (18, .if_icmp .ge 22, 21, 40, 0, 0, 0), (21, .aload_n 3, 22, 3, 0, 0, 0), (22, .iload 5, 24, 5, 0, 0, 0), (24, .iaload, 25, 0, 0, 0, 0), (25, .istore 6, 27, 6, 0, 0, 0), (27, .iload_n 2, 28, 2, 0, 0, 0), (28, .iload 6, 30, 6, 0, 0, 0), (30, .invokestatic 22, 33, 34, 2, 1, 6), (33, .istore_n 2, 34, 2, 0, 0, 0), (34, .iinc 5 1, 37, 5, 0, 1, 0), (37, .goto (-23), 40, 14, 0, 0, 0), (40, .iload_n 2, 41, 2, 0, 0, 0), (41, .ireturn, 42, 0, 0, 0, 0)]
/-- R_mix -/
def pg_L34 : List (Nat × am_I) := [(0, .iload_n 0, 1, 0, 0, 0, 0), (1, .iload_n 1, 2, 1, 0, 0, 0), (2, .ixor, 3, 0, 0, 0, 0), (3, .ldc 1, 5, 0, 0, 40503, 432), (5, .imul, 6, 0, 0, 0, 0), (6, .bipush 7, 8, 0, 0, 7, 0), (8, .iadd, 9, 0, 0, 0, 0), (9, .istore_n 2, 10, 2, 0, 0, 0), (10, .iload_n 2, 11, 2, 0, 0, 0), (11, .iload_n 2, 12, 2, 0, 0, 0), (12, .bipush 15, 14, 0, 0, 15, 0), (14, .iushr, 15, 0, 0, 0, 0), (15, .ixor, 16, 0, 0, 0, 0), (16, .ireturn, 17, 0, 0, 0, 0)]
/-- Job_begin -/
def pg_L35 : List (Nat × am_I) := [(0, .aload_n 0, 1, 0, 0, 0, 0), (1, .aload_n 0, 2, 0, 0, 0, 0), (2, .getfield 22, 5, 20, 2, 1, 203), (5, .getfield 50, 8, 3, 3, 0, 91), (8, .iconst 2, 9, 0, 0, 2, 0), (9, .iadd, 10, 0, 0, 0, 0), (10, .putfield 53, 13, 20, 3, 0, 210), (13, .return_, 14, 0, 0, 0, 0)]
/-- R_checkpoint -/
def pg_L36 : List (Nat × am_I) := [(0, .aload_n 0, 1, 0, 0, 0, 0), (1, .invokevirtual 96, 4, 0, 0, 0, 0), (4, .ifCond .ne 5, 7, 9, 0, 0, 0), (7, .iconst (-1), 8, 0, 0, (-1), 0), (8, .ireturn, 9, 0, 0, 0, 0), (9, .aload_n 0, 10, 0, 0, 0, 0), (10, .getfield 45, 13, 0, 4, 1, 303), (13, .invokevirtual 152, 16, 21, 0, 0, 0), (16, .aload_n 0, 17, 0, 0, 0, 0), (17, .aload_n 0, 18, 0, 0, 0, 0), (18, .getfield 45, 21, 0, 4, 1, 303), (21, .putfield 67, 24, 0, 7, 1, 306), (24, .aload_n 0, 25, 0, 0, 0, 0), (25, .getfield 29, 28, 0, 2, 1, 301), (28, .getfield 89, 31, 4, 5, 1, 160), (31, .getfield 104, 34, 5, 1, 0, 134), (34, .invokestatic 108, 37, 15, 1, 0, 339), (37, .ireturn, 38, 0, 0, 0, 0)]
/-- KJ_prepare -/
def pg_L37 : List (Nat × am_I) := [(0, .aload_n 0, 1, 0, 0, 0, 0), (1, .getfield 9, 4, 7, 1, 1, 197), (4, .getfield 15, 7, 4, 5, 1, 159), (7, .iconst 0, 8, 0, 0, 0, 0), (8, .invokevirtual 21, 11, 22, 1, 0, 0), (11, .istore_n 1, 12, 1, 0, 0, 0), (12, .iload_n 1, 13, 1, 0, 0, 0), (13, .bipush 16, 15, 0, 0, 16, 0), (15, .if_icmp .ge 44, 18, 59, 0, 0, 0), (18, .aload_n 0, 19, 0, 0, 0, 0), (19, .getfield 27, 22, 7, 2, 1, 204), (22, .iload_n 1, 23, 1, 0, 0, 0), (23, .invokevirtual 31, 26, 23, 1, 0, 0), (26, .aload_n 0, 27, 0, 0, 0, 0), (27, .getfield 9, 30, 7, 1, 1, 197), (30, .getfield 15, 33, 4, 5, 1, 159), (33, .getfield 37, 36, 5, 0, 1, 127), (36, .iconst 4, 37, 0, 0, 4, 0), (37, .iload_n 1, 38, 1, 0, 0, 0), (38, .imul, 39, 0, 0, 0, 0), (39, .invokevirtual 41, 42, 24, 2, 0, 0), (42, .aload_n 0, 43, 0, 0, 0, 0), (43, .getfield 9, 46, 7, 1, 1, 197), (46, .getfield 15, 49, 4, 5, 1, 159), (49, .iload_n 1, 50, 1, 0, 0, 0), (50, .iconst 1, 51, 0, 0, 1, 0), (51, .iadd, 52, 0, 0, 0, 0), (52, .invokevirtual 21, 55, 22, 1, 0, 0), (55, .istore_n 1, 56, 1, 0, 0, 0), (56, .goto (-44), 59, 12, 0, 0, 0), (59, .aload_n 0, 60, 0, 0, 0, 0), (60, .getfield 27, 63, 7, 2, 1, 204), (63, .bipush 16, 65, 0, 0, 16, 0), (65, .invokevirtual 31, 68, 23, 1, 0, 0), (68, .ldc 47, 70, 0, 0, 77001, 450), (70, .aload_n 0, 71, 0, 0, 0, 0), (71, .getfield 9, 74, 7, 1, 1, 197), (74, .getfield 48, 77, 4, 1, 0, 144), (77, .aload_n 0, 78, 0, 0, 0, 0), (78, .getfield 9, 81, 7, 1, 1, 197), (81, .getfield 52, 84, 4, 2, 0, 148), (84, .iconst 0, 85, 0, 0, 0, 0), (85, .invokevirtual 55, 88, 25, 4, 0, 0), (88, .aload_n 0, 89, 0, 0, 0, 0), (89, .invokevirtual 59, 92, 26, 0, 0, 0), (92, .return_, 93, 0, 0, 0, 0)]
/-- R_recover -/
def pg_L38 : List (Nat × am_I) := [(0, .aload_n 0, 1, 0, 0, 0, 0), (1, .getfield 29, 4, 0, 2, 1, 301), (4, .getfield 63, 7, 4, 0, 2, 141), (7, .ifCond .ne 10, 10, 17, 0, 0, 0), (10, .aload_n 0, 11, 0, 0, 0, 0), (11, .getfield 67, 14, 0, 7, 1, 306), (14, .ifnull 5, 17, 19, 0, 0, 0), (17, .iconst (-1), 18, 0, 0, (-1), 0), (18, .ireturn, 19, 0, 0, 0, 0), (19, .aload_n 0, 20, 0, 0, 0, 0), (20, .getfield 52, 23, 0, 5, 1, 304), (23, .invokevirtual 153, 26, 27, 0, 0, 0), (26, .istore_n 1, 27, 1, 0, 0, 0), (27, .aload_n 0, 28, 0, 0, 0, 0), (28, .aload_n 0, 29, 0, 0, 0, 0), (29, .getfield 52, 32, 0, 5, 1, 304), (32, .putfield 67, 35, 0, 7, 1, 306), (35, .iload_n 1, 36, 1, 0, 0, 0), (36, .ireturn, 37, 0, 0, 0, 0)]
/-- RJ_prepare -/
def pg_L39 : List (Nat × am_I) := [(0, .aload_n 0, 1, 0, 0, 0, 0), (1, .getfield 24, 4, 8, 0, 1, 194), (4, .bipush 16, 6, 0, 0, 16, 0), (6, .aload_n 0, 7, 0, 0, 0, 0), (7, .getfield 14, 10, 8, 4, 1, 268), (10, .invokevirtual 32, 13, 28, 2, 0, 0), (13, .aload_n 0, 14, 0, 0, 0, 0), (14, .getfield 14, 17, 8, 4, 1, 268), (17, .getfield 52, 20, 9, 0, 1, 251), (20, .iconst 0, 21, 0, 0, 0, 0), (21, .iaload, 22, 0, 0, 0, 0), (22, .ldc 87, 24, 0, 0, 77001, 464), (24, .if_icmp .ne 33, 27, 57, 0, 0, 0), (27, .aload_n 0, 28, 0, 0, 0, 0), (28, .getfield 14, 31, 8, 4, 1, 268), (31, .getfield 52, 34, 9, 0, 1, 251), (34, .iconst 2, 35, 0, 0, 2, 0), (35, .iaload, 36, 0, 0, 0, 0), (36, .ifCond .lt 21, 39, 57, 0, 0, 0), (39, .aload_n 0, 40, 0, 0, 0, 0), (40, .getfield 14, 43, 8, 4, 1, 268), (43, .getfield 52, 46, 9, 0, 1, 251), (46, .iconst 2, 47, 0, 0, 2, 0), (47, .iaload, 48, 0, 0, 0, 0), (48, .bipush 24, 50, 0, 0, 24, 0), (50, .if_icmp .ge 7, 53, 57, 0, 0, 0), (53, .iconst 1, 54, 0, 0, 1, 0), (54, .goto 4, 57, 58, 0, 0, 0), (57, .iconst 0, 58, 0, 0, 0, 0), (58, .istore_n 1, 59, 1, 0, 0, 0), (59, .aload_n 0, 60, 0, 0, 0, 0), (60, .iload_n 1, 61, 1, 0, 0, 0), (61, .ifCond .eq 15, 64, 76, 0, 0, 0), (64, .aload_n 0, 65, 0, 0, 0, 0), (65, .getfield 14, 68, 8, 4, 1, 268), (68, .getfield 52, 71, 9, 0, 1, 251), (71, .iconst 1, 72, 0, 0, 1, 0), (72, .iaload, 73, 0, 0, 0, 0), (73, .goto 4, 76, 77, 0, 0, 0), (76, .iconst 1, 77, 0, 0, 1, 0), (77, .putfield 59, 80, 8, 6, 0, 270), (80, .aload_n 0, 81, 0, 0, 0, 0), (81, .iload_n 1, 82, 1, 0, 0, 0), (82, .ifCond .eq 15, 85, 97, 0, 0, 0), (85, .aload_n 0, 86, 0, 0, 0, 0), (86, .getfield 14, 89, 8, 4, 1, 268), (89, .getfield 52, 92, 9, 0, 1, 251), (92, .iconst 2, 93, 0, 0, 2, 0), (93, .iaload, 94, 0, 0, 0, 0), (94, .goto 4, 97, 98, 0, 0, 0), (97, .iconst 0, 98, 0, 0, 0, 0), (98, .putfield 28, 101, 8, 5, 0, 269), (101, .aload_n 0, 102, 0, 0, 0, 0), (102, .invokevirtual 88, 105, 29, 0, 0, 0), (105, .istore_n 2, 106, 2, 0, 0, 0), (106, .aload_n 0, 107, 0, 0, 0, 0), (107, .getfield 59, 110, 8, 6, 0, 270), (110, .istore_n 3, 111, 3, 0, 0, 0), (111, .iconst 0, 112, 0, 0, 0, 0), (112, .istore 4, 114, 4, 0, 0, 0), (114, .iload 4, 116, 4, 0, 0, 0), (116, .aload_n 0, 117, 0, 0, 0, 0), (117, .getfield 62, 120, 8, 7, 0, 271), (120, .if_icmp .ge 95, 123, 215, 0, 0, 0), (123, .aload_n 0, 124, 0, 0, 0, 0), (124, .iload 4, 126, 4, 0, 0, 0), (126, .iinc 4 1, 129, 4, 0, 1, 0), (129, .invokevirtual 44, 132, 30, 1, 0, 0), (132, .aload_n 0, 133, 0, 0, 0, 0), (133, .getfield 14, 136, 8, 4, 1, 268), (136, .getfield 52, 139, 9, 0, 1, 251), (139, .iconst 3, 140, 0, 0, 3, 0), (140, .iaload, 141, 0, 0, 0, 0), (141, .istore 5, 143, 5, 0, 0, 0), (143, .aload_n 0, 144, 0, 0, 0, 0), (144, .getfield 14, 147, 8, 4, 1, 268), (147, .getfield 52, 150, 9, 0, 1, 251), (150, .iconst 1, 151, 0, 0, 1, 0), (151, .iaload, 152, 0, 0, 0, 0), (152, .iconst 1, 153, 0, 0, 1, 0), (153, .if_icmp .ne 43, 156, 196, 0, 0, 0), (156, .iconst 0, 157, 0, 0, 0, 0), (157, .istore 6, 159, 6, 0, 0, 0), (159, .iload 6, 161, 6, 0, 0, 0), (161, .iload 5, 163, 5, 0, 0, 0), (163, .bipush 7, 165, 0, 0, 7, 0), (165, .iand, 166, 0, 0, 0, 0), (166, .if_icmp .ge 27, 169, 193, 0, 0, 0), (169, .aload_n 0, 170, 0, 0, 0, 0), (170, .iload 4, 172, 4, 0, 0, 0), (172, .iinc 4 1, 175, 4, 0, 1, 0), (175, .invokevirtual 44, 178, 30, 1, 0, 0), (178, .aload_n 0, 179, 0, 0, 0, 0), (179, .iload 5, 181, 5, 0, 0, 0), (181, .iload 6, 183, 6, 0, 0, 0), (183, .iload_n 3, 184, 3, 0, 0, 0), (184, .invokevirtual 92, 187, 31, 3, 0, 0), (187, .iinc 6 1, 190, 6, 0, 1, 0), (190, .goto (-31), 193, 159, 0, 0, 0), (193, .goto 19, 196, 212, 0, 0, 0), (196, .aload_n 0, 197, 0, 0, 0, 0), (197, .getfield 14, 200, 8, 4, 1, 268), (200, .getfield 52, 203, 9, 0, 1, 251), (203, .iconst 1, 204, 0, 0, 1, 0), (204, .iaload, 205, 0, 0, 0, 0), (205, .iconst 3, 206, 0, 0, 3, 0), (206, .if_icmp .ne 6, 209, 212, 0, 0, 0), (209, .iinc 3 1, 212, 3, 0, 1, 0), (212, .goto (-98), 215, 114, 0, 0, 0), (215, .aload_n 0, 216, 0, 0, 0, 0), (216, .getfield 73, 219, 8, 2, 1, 208), (219, .getfield 96, 222, 3, 3, 0, 92), (222, .istore 5, 224, 5, 0, 0, 0), (224, .aload_n 0, 225, 0, 0, 0, 0), (225, .iload_n 2, 226, 2, 0, 0, 0), (226, .putfield 59, 229, 8, 6, 0, 270), (229, .aload_n 0, 230, 0, 0, 0, 0), (230, .aload_n 0, 231, 0, 0, 0, 0), (231, .getfield 28, 234, 8, 5, 0, 269), (234, .aload_n 0, 235, 0, 0, 0, 0), (235, .getfield 62, 238, 8, 7, 0, 271), (238, .iadd, 239, 0, 0, 0, 0), (239, .bipush 24, 241, 0, 0, 24, 0), (241, .irem, 242, 0, 0, 0, 0), (242, .putfield 28, 245, 8, 5, 0, 269), (245, .aload_n 0, 246, 0, 0, 0, 0), (246, .getfield 73, 249, 8, 2, 1, 208), (249, .bipush 16, 251, 0, 0, 16, 0), (251, .invokevirtual 77, 254, 32, 1, 0, 0), (254, .ldc 87, 256, 0, 0, 77001, 464), (256, .aload_n 0, 257, 0, 0, 0, 0), (257, .getfield 59, 260, 8, 6, 0, 270), (260, .aload_n 0, 261, 0, 0, 0, 0), (261, .getfield 28, 264, 8, 5, 0, 269), (264, .iconst 0, 265, 0, 0, 0, 0), (265, .invokevirtual 99, 268, 33, 4, 0, 0), (268, .aload_n 0, 269, 0, 0, 0, 0), (269, .invokevirtual 103, 272, 34, 0, 0, 0), (272, .iload 5, 274, 5, 0, 0, 0), (274, .ireturn, 275, 0, 0, 0, 0)]
/-- RJ_scan -/
def pg_L40 : List (Nat × am_I) := [(0, .aload_n 0, 1, 0, 0, 0, 0), (1, .getfield 59, 4, 8, 6, 0, 270), (4, .istore_n 1, 5, 1, 0, 0, 0), (5, .aload_n 0, 6, 0, 0, 0, 0), (6, .iconst 0, 7, 0, 0, 0, 0), (7, .putfield 62, 10, 8, 7, 0, 271), (10, .aload_n 0, 11, 0, 0, 0, 0), (11, .iconst 0, 12, 0, 0, 0, 0), (12, .putfield 41, 15, 8, 8, 0, 272), (15, .aload_n 0, 16, 0, 0, 0, 0), (16, .iconst 0, 17, 0, 0, 0, 0), (17, .putfield 65, 20, 8, 10, 0, 274), (20, .aload_n 0, 21, 0, 0, 0, 0), (21, .iload_n 1, 22, 1, 0, 0, 0), (22, .invokevirtual 68, 25, 35, 1, 0, 0), (25, .ifCond .eq 74, 28, 99, 0, 0, 0), (28, .iconst 0, 29, 0, 0, 0, 0), (29, .istore_n 2, 30, 2, 0, 0, 0), (30, .iload_n 2, 31, 2, 0, 0, 0), (31, .bipush 16, 33, 0, 0, 16, 0), (33, .if_icmp .ge 36, 36, 69, 0, 0, 0), (36, .aload_n 0, 37, 0, 0, 0, 0), (37, .getfield 20, 40, 8, 9, 1, 273), (40, .iload_n 2, 41, 2, 0, 0, 0), (41, .aload_n 0, 42, 0, 0, 0, 0), (42, .getfield 38, 45, 8, 11, 0, 275), (45, .iload_n 2, 46, 2, 0, 0, 0), (46, .ishr, 47, 0, 0, 0, 0), (47, .iconst 1, 48, 0, 0, 1, 0), (48, .iand, 49, 0, 0, 0, 0), (49, .ifCond .eq 7, 52, 56, 0, 0, 0), (52, .iload_n 1, 53, 1, 0, 0, 0), (53, .goto 9, 56, 62, 0, 0, 0), (56, .aload_n 0, 57, 0, 0, 0, 0), (57, .getfield 20, 60, 8, 9, 1, 273), (60, .iload_n 2, 61, 2, 0, 0, 0), (61, .iaload, 62, 0, 0, 0, 0), (62, .iastore, 63, 0, 0, 0, 0), (63, .iinc 2 1, 66, 2, 0, 1, 0), (66, .goto (-36), 69, 30, 0, 0, 0), (69, .aload_n 0, 70, 0, 0, 0, 0), (70, .dup, 71, 0, 0, 0, 0), (71, .getfield 65, 74, 8, 10, 0, 274), (74, .aload_n 0, 75, 0, 0, 0, 0), (75, .getfield 38, 78, 8, 11, 0, 275), (78, .ldc 72, 80, 0, 0, 65535, 483), (80, .iand, 81, 0, 0, 0, 0), (81, .ior, 82, 0, 0, 0, 0), (82, .putfield 65, 85, 8, 10, 0, 274), (85, .aload_n 0, 86, 0, 0, 0, 0), (86, .aload_n 0, 87, 0, 0, 0, 0), (87, .getfield 41, 90, 8, 8, 0, 272), (90, .putfield 62, 93, 8, 7, 0, 271), (93, .iinc 1 1, 96, 1, 0, 1, 0), (96, .goto (-76), 99, 20, 0, 0, 0), (99, .iload_n 1, 100, 1, 0, 0, 0), (100, .ireturn, 101, 0, 0, 0, 0)]
/-- RJ_transaction -/
def pg_L41 : List (Nat × am_I) := [(0, .iload_n 1, 1, 1, 0, 0, 0), (1, .istore_n 2, 2, 2, 0, 0, 0), (2, .iconst 1, 3, 0, 0, 1, 0), (3, .istore_n 3, 4, 3, 0, 0, 0), (4, .aload_n 0, 5, 0, 0, 0, 0), (5, .iconst 0, 6, 0, 0, 0, 0), (6, .putfield 38, 9, 8, 11, 0, 275), (9, .aload_n 0, 10, 0, 0, 0, 0), (10, .getfield 41, 13, 8, 8, 0, 272), (13, .bipush 24, 15, 0, 0, 24, 0), (15, .if_icmp .ge 217, 18, 232, 0, 0, 0), (18, .aload_n 0, 19, 0, 0, 0, 0), (19, .aload_n 0, 20, 0, 0, 0, 0), (20, .dup, 21, 0, 0, 0, 0), (21, .getfield 41, 24, 8, 8, 0, 272), (24, .dup_x1, 25, 0, 0, 0, 0), (25, .iconst 1, 26, 0, 0, 1, 0), (26, .iadd, 27, 0, 0, 0, 0), (27, .putfield 41, 30, 8, 8, 0, 272), (30, .invokevirtual 44, 33, 30, 1, 0, 0), (33, .aload_n 0, 34, 0, 0, 0, 0), (34, .getfield 14, 37, 8, 4, 1, 268), (37, .iconst 3, 38, 0, 0, 3, 0), (38, .iload_n 1, 39, 1, 0, 0, 0), (39, .invokevirtual 48, 42, 36, 2, 0, 0), (42, .ifCond .eq 22, 45, 64, 0, 0, 0), (45, .aload_n 0, 46, 0, 0, 0, 0), (46, .getfield 14, 49, 8, 4, 1, 268), (49, .getfield 52, 52, 9, 0, 1, 251), (52, .iconst 3, 53, 0, 0, 3, 0), (53, .iaload, 54, 0, 0, 0, 0), (54, .iload_n 2, 55, 2, 0, 0, 0), (55, .if_icmp .ne 7, 58, 62, 0, 0, 0), (58, .iconst 1, 59, 0, 0, 1, 0), (59, .goto 4, 62, 63, 0, 0, 0), (62, .iconst 0, 63, 0, 0, 0, 0), (63, .ireturn, 64, 0, 0, 0, 0), (64, .aload_n 0, 65, 0, 0, 0, 0), (65, .getfield 14, 68, 8, 4, 1, 268), (68, .getfield 52, 71, 9, 0, 1, 251), (71, .iconst 3, 72, 0, 0, 3, 0), (72, .iaload, 73, 0, 0, 0, 0), (73, .bipush 7, 75, 0, 0, 7, 0), (75, .iand, 76, 0, 0, 0, 0), (76, .istore 4, 78, 4, 0, 0, 0), (78, .iload_n 3, 79, 3, 0, 0, 0), (79, .ifCond .eq 31, 82, 110, 0, 0, 0), (82, .aload_n 0, 83, 0, 0, 0, 0), (83, .getfield 14, 86, 8, 4, 1, 268), (86, .iconst 1, 87, 0, 0, 1, 0), (87, .iload_n 1, 88, 1, 0, 0, 0), (88, .invokevirtual 48, 91, 36, 2, 0, 0), (91, .ifCond .eq 19, 94, 110, 0, 0, 0), (94, .iload 4, 96, 4, 0, 0, 0), (96, .iconst 1, 97, 0, 0, 1, 0), (97, .if_icmp .lt 13, 100, 110, 0, 0, 0), (100, .iload 4, 102, 4, 0, 0, 0), (102, .iconst 4, 103, 0, 0, 4, 0), (103, .if_icmp .gt 7, 106, 110, 0, 0, 0), (106, .iconst 1, 107, 0, 0, 1, 0), (107, .goto 4, 110, 111, 0, 0, 0), (110, .iconst 0, 111, 0, 0, 0, 0), (111, .istore 5, 113, 5, 0, 0, 0), (113, .iload 5, 115, 5, 0, 0, 0), (115, .ifCond .ne 21, 118, 136, 0, 0, 0), (118, .iload_n 3, 119, 3, 0, 0, 0), (119, .ifCond .eq 15, 122, 134, 0, 0, 0), (122, .aload_n 0, 123, 0, 0, 0, 0), (123, .getfield 14, 126, 8, 4, 1, 268), (126, .iconst 2, 127, 0, 0, 2, 0), (127, .iload_n 1, 128, 1, 0, 0, 0), (128, .invokevirtual 48, 131, 36, 2, 0, 0), (131, .ifCond .ne 5, 134, 136, 0, 0, 0), (134, .iconst 0, 135, 0, 0, 0, 0), (135, .ireturn, 136, 0, 0, 0, 0), (136, .iload 5, 138, 5, 0, 0, 0), (138, .istore_n 3, 139, 3, 0, 0, 0), (139, .aload_n 0, 140, 0, 0, 0, 0), (140, .iload 5, 142, 5, 0, 0, 0), (142, .ifCond .eq 10, 145, 152, 0, 0, 0), (145, .aload_n 0, 146, 0, 0, 0, 0), (146, .getfield 38, 149, 8, 11, 0, 275), (149, .goto 12, 152, 161, 0, 0, 0), (152, .aload_n 0, 153, 0, 0, 0, 0), (153, .getfield 14, 156, 8, 4, 1, 268), (156, .getfield 52, 159, 9, 0, 1, 251), (159, .iconst 3, 160, 0, 0, 3, 0), (160, .iaload, 161, 0, 0, 0, 0), (161, .putfield 38, 164, 8, 11, 0, 275), (164, .aload_n 0, 165, 0, 0, 0, 0), (165, .getfield 14, 168, 8, 4, 1, 268), (168, .iload_n 2, 169, 2, 0, 0, 0), (169, .invokevirtual 55, 172, 37, 1, 0, 0), (172, .istore_n 2, 173, 2, 0, 0, 0), (173, .iconst 0, 174, 0, 0, 0, 0), (174, .istore 6, 176, 6, 0, 0, 0), (176, .iload 5, 178, 5, 0, 0, 0), (178, .ifCond .eq 51, 181, 229, 0, 0, 0), (181, .iload 6, 183, 6, 0, 0, 0), (183, .iload 4, 185, 4, 0, 0, 0), (185, .if_icmp .ge 44, 188, 229, 0, 0, 0), (188, .aload_n 0, 189, 0, 0, 0, 0), (189, .getfield 41, 192, 8, 8, 0, 272), (192, .bipush 24, 194, 0, 0, 24, 0), (194, .if_icmp .lt 5, 197, 199, 0, 0, 0), (197, .iconst 0, 198, 0, 0, 0, 0), (198, .ireturn, 199, 0, 0, 0, 0), (199, .aload_n 0, 200, 0, 0, 0, 0), (200, .aload_n 0, 201, 0, 0, 0, 0), (201, .dup, 202, 0, 0, 0, 0), (202, .getfield 41, 205, 8, 8, 0, 272), (205, .dup_x1, 206, 0, 0, 0, 0), (206, .iconst 1, 207, 0, 0, 1, 0), (207, .iadd, 208, 0, 0, 0, 0), (208, .putfield 41, 211, 8, 8, 0, 272), (211, .invokevirtual 44, 214, 30, 1, 0, 0), (214, .aload_n 0, 215, 0, 0, 0, 0), (215, .getfield 14, 218, 8, 4, 1, 268), (218, .iload_n 2, 219, 2, 0, 0, 0), (219, .invokevirtual 55, 222, 37, 1, 0, 0), (222, .istore_n 2, 223, 2, 0, 0, 0), (223, .iinc 6 1, 226, 6, 0, 1, 0), (226, .goto (-50), 229, 176, 0, 0, 0), (229, .goto (-220), 232, 9, 0, 0, 0), (232, .iconst 0, 233, 0, 0, 0, 0), (233, .ireturn, 234, 0, 0, 0, 0)]
/-- RJ_look -/
def pg_L42 : List (Nat × am_I) := [(0, .aload_n 0, 1, 0, 0, 0, 0), (1, .getfield 24, 4, 8, 0, 1, 194), (4, .bipush 17, 6, 0, 0, 17, 0), (6, .aload_n 0, 7, 0, 0, 0, 0), (7, .getfield 28, 10, 8, 5, 0, 269), (10, .iload_n 1, 11, 1, 0, 0, 0), (11, .iadd, 12, 0, 0, 0, 0), (12, .bipush 24, 14, 0, 0, 24, 0), (14, .irem, 15, 0, 0, 0, 0), (15, .iadd, 16, 0, 0, 0, 0), (16, .aload_n 0, 17, 0, 0, 0, 0), (17, .getfield 14, 20, 8, 4, 1, 268), (20, .invokevirtual 32, 23, 28, 2, 0, 0), (23, .return_, 24, 0, 0, 0, 0)]
/-- Sheet_is -/
def pg_L43 : List (Nat × am_I) := [(0, .aload_n 0, 1, 0, 0, 0, 0), (1, .getfield 9, 4, 9, 0, 1, 248), (4, .iconst 0, 5, 0, 0, 0, 0), (5, .iaload, 6, 0, 0, 0, 0), (6, .ldc 21, 8, 0, 0, 77001, 481), (8, .if_icmp .ne 27, 11, 35, 0, 0, 0), (11, .aload_n 0, 12, 0, 0, 0, 0), (12, .getfield 9, 15, 9, 0, 1, 248), (15, .iconst 1, 16, 0, 0, 1, 0), (16, .iaload, 17, 0, 0, 0, 0), (17, .iload_n 1, 18, 1, 0, 0, 0), (18, .if_icmp .ne 17, 21, 35, 0, 0, 0), (21, .aload_n 0, 22, 0, 0, 0, 0), (22, .getfield 9, 25, 9, 0, 1, 248), (25, .iconst 2, 26, 0, 0, 2, 0), (26, .iaload, 27, 0, 0, 0, 0), (27, .iload_n 2, 28, 2, 0, 0, 0), (28, .if_icmp .ne 7, 31, 35, 0, 0, 0), (31, .iconst 1, 32, 0, 0, 1, 0), (32, .goto 4, 35, 36, 0, 0, 0), (35, .iconst 0, 36, 0, 0, 0, 0), (36, .ireturn, 37, 0, 0, 0, 0)]
/-- RJ_image -/
def pg_L44 : List (Nat × am_I) := [(0, .iload_n 1, 1, 1, 0, 0, 0), (1, .iconst 3, 2, 0, 0, 3, 0), (2, .iconst 5, 3, 0, 0, 5, 0), (3, .iload_n 2, 4, 2, 0, 0, 0), (4, .imul, 5, 0, 0, 0, 0), (5, .iadd, 6, 0, 0, 0, 0), (6, .iushr, 7, 0, 0, 0, 0), (7, .bipush 15, 9, 0, 0, 15, 0), (9, .iand, 10, 0, 0, 0, 0), (10, .istore 4, 12, 4, 0, 0, 0), (12, .aload_n 0, 13, 0, 0, 0, 0), (13, .getfield 65, 16, 8, 10, 0, 274), (16, .iload 4, 18, 4, 0, 0, 0), (18, .ishr, 19, 0, 0, 0, 0), (19, .iconst 1, 20, 0, 0, 1, 0), (20, .iand, 21, 0, 0, 0, 0), (21, .ifCond .eq 15, 24, 36, 0, 0, 0), (24, .aload_n 0, 25, 0, 0, 0, 0), (25, .getfield 20, 28, 8, 9, 1, 273), (28, .iload 4, 30, 4, 0, 0, 0), (30, .iaload, 31, 0, 0, 0, 0), (31, .iload_n 3, 32, 3, 0, 0, 0), (32, .if_icmp .le 4, 35, 36, 0, 0, 0), (35, .return_, 36, 0, 0, 0, 0), (36, .aload_n 0, 37, 0, 0, 0, 0), (37, .getfield 73, 40, 8, 2, 1, 208), (40, .iload 4, 42, 4, 0, 0, 0), (42, .invokevirtual 77, 45, 32, 1, 0, 0), (45, .astore 5, 47, 5, 0, 0, 0), (47, .aload 5, 49, 5, 0, 0, 0), (49, .aload_n 0, 50, 0, 0, 0, 0), (50, .getfield 14, 53, 8, 4, 1, 268), (53, .getfield 52, 56, 9, 0, 1, 251), (56, .iconst 0, 57, 0, 0, 0, 0), (57, .invokevirtual 83, 60, 38, 2, 0, 0), (60, .aload 5, 62, 5, 0, 0, 0), (62, .getfield 52, 65, 9, 0, 1, 251), (65, .iconst 0, 66, 0, 0, 0, 0), (66, .iload_n 1, 67, 1, 0, 0, 0), (67, .bipush 7, 69, 0, 0, 7, 0), (69, .iconst 5, 70, 0, 0, 5, 0), (70, .iload_n 2, 71, 2, 0, 0, 0), (71, .imul, 72, 0, 0, 0, 0), (72, .iadd, 73, 0, 0, 0, 0), (73, .iushr, 74, 0, 0, 0, 0), (74, .iconst 1, 75, 0, 0, 1, 0), (75, .iand, 76, 0, 0, 0, 0), (76, .ifCond .eq 8, 79, 84, 0, 0, 0), (79, .ldc 87, 81, 0, 0, 77001, 464), (81, .goto 10, 84, 91, 0, 0, 0), (84, .aload 5, 86, 5, 0, 0, 0), (86, .getfield 52, 89, 9, 0, 1, 251), (89, .iconst 0, 90, 0, 0, 0, 0), (90, .iaload, 91, 0, 0, 0, 0), (91, .iastore, 92, 0, 0, 0, 0), (92, .return_, 93, 0, 0, 0, 0)]
/-- R_step -/
def pg_L45 : List (Nat × am_I) := [(0, .aload_n 0, 1, 0, 0, 0, 0), (1, .getfield 67, 4, 0, 7, 1, 306), (4, .ifnull 14, 7, 18, 0, 0, 0), (7, .iload_n 1, 8, 1, 0, 0, 0), (8, .iconst 1, 9, 0, 0, 1, 0), (9, .if_icmp .lt 9, 12, 18, 0, 0, 0), (12, .iload_n 1, 13, 1, 0, 0, 0), (13, .bipush 10, 15, 0, 0, 10, 0), (15, .if_icmp .le 5, 18, 20, 0, 0, 0), (18, .iconst (-1), 19, 0, 0, (-1), 0), (19, .ireturn, 20, 0, 0, 0, 0), (20, .iconst 0, 21, 0, 0, 0, 0), (21, .istore_n 2, 22, 2, 0, 0, 0), (22, .aload_n 0, 23, 0, 0, 0, 0), (23, .getfield 67, 26, 0, 7, 1, 306), (26, .ifnull 43, 29, 69, 0, 0, 0), (29, .iload_n 2, 30, 2, 0, 0, 0), (30, .iload_n 1, 31, 1, 0, 0, 0), (31, .if_icmp .ge 38, 34, 69, 0, 0, 0), (34, .aload_n 0, 35, 0, 0, 0, 0), (35, .getfield 67, 38, 0, 7, 1, 306), (38, .invokevirtual 156, 41, 39, 0, 0, 0), (41, .aload_n 0, 42, 0, 0, 0, 0), (42, .aload_n 0, 43, 0, 0, 0, 0), (43, .getfield 67, 46, 0, 7, 1, 306), (46, .getfield 161, 49, 20, 3, 0, 211), (49, .ifCond .ne 7, 52, 56, 0, 0, 0), (52, .aconst_null, 53, 0, 0, 0, 0), (53, .goto 7, 56, 60, 0, 0, 0), (56, .aload_n 0, 57, 0, 0, 0, 0), (57, .getfield 67, 60, 0, 7, 1, 306), (60, .putfield 67, 63, 0, 7, 1, 306), (63, .iinc 2 1, 66, 2, 0, 1, 0), (66, .goto (-44), 69, 22, 0, 0, 0), (69, .iload_n 2, 70, 2, 0, 0, 0), (70, .ireturn, 71, 0, 0, 0, 0)]
/-- Job_act -/
def pg_L46 : List (Nat × am_I) := [(0, .aload_n 0, 1, 0, 0, 0, 0), (1, .getfield 53, 4, 20, 3, 0, 210), (4, .iconst 1, 5, 0, 0, 1, 0), (5, .if_icmp .eq 22, 8, 27, 0, 0, 0), (8, .aload_n 0, 9, 0, 0, 0, 0), (9, .getfield 53, 12, 20, 3, 0, 210), (12, .iconst 3, 13, 0, 0, 3, 0), (13, .if_icmp .ne 18, 16, 31, 0, 0, 0), (16, .aload_n 0, 17, 0, 0, 0, 0), (17, .getfield 22, 20, 20, 2, 1, 203), (20, .getfield 50, 23, 3, 3, 0, 91), (23, .iconst 1, 24, 0, 0, 1, 0), (24, .if_icmp .ne 7, 27, 31, 0, 0, 0), (27, .iconst 1, 28, 0, 0, 1, 0), (28, .goto 4, 31, 32, 0, 0, 0), (31, .iconst 0, 32, 0, 0, 0, 0), (32, .istore_n 1, 33, 1, 0, 0, 0), (33, .iload_n 1, 34, 1, 0, 0, 0), (34, .ifCond .eq 13, 37, 47, 0, 0, 0), (37, .aload_n 0, 38, 0, 0, 0, 0), (38, .getfield 7, 41, 20, 0, 1, 193), (41, .invokevirtual 56, 44, 40, 0, 0, 0), (44, .goto 7, 47, 51, 0, 0, 0), (47, .aload_n 0, 48, 0, 0, 0, 0), (48, .invokevirtual 59, 51, 41, 0, 0, 0), (51, .aload_n 0, 52, 0, 0, 0, 0), (52, .dup, 53, 0, 0, 0, 0), (53, .getfield 53, 56, 20, 3, 0, 210), (56, .iconst 1, 57, 0, 0, 1, 0), (57, .isub, 58, 0, 0, 0, 0), (58, .putfield 53, 61, 20, 3, 0, 210), (61, .aload_n 0, 62, 0, 0, 0, 0), (62, .getfield 53, 65, 20, 3, 0, 210), (65, .ifCond .ne 7, 68, 72, 0, 0, 0), (68, .aload_n 0, 69, 0, 0, 0, 0), (69, .invokevirtual 62, 72, 42, 0, 0, 0), (72, .return_, 73, 0, 0, 0, 0)]
/-- Device_flush -/
def pg_L47 : List (Nat × am_I) := [(0, .aload_n 0, 1, 0, 0, 0, 0), (1, .getfield 20, 4, 2, 1, 1, 107), (4, .getfield 44, 7, 3, 3, 0, 90), (7, .ifCond .le 18, 10, 25, 0, 0, 0), (10, .aload_n 0, 11, 0, 0, 0, 0), (11, .aload_n 0, 12, 0, 0, 0, 0), (12, .getfield 20, 15, 2, 1, 1, 107), (15, .invokevirtual 47, 18, 43, 0, 0, 0), (18, .iconst 4, 19, 0, 0, 4, 0), (19, .invokevirtual 51, 22, 44, 2, 0, 0), (22, .goto (-22), 25, 0, 0, 0, 0), (25, .return_, 26, 0, 0, 0, 0)]
/-- Chain_drop -/
def pg_L48 : List (Nat × am_I) := [(0, .aload_n 0, 1, 0, 0, 0, 0), (1, .getfield 29, 4, 3, 1, 1, 85), (4, .astore_n 1, 5, 1, 0, 0, 0), (5, .aload_n 0, 6, 0, 0, 0, 0), (6, .aload_n 1, 7, 1, 0, 0, 0), (7, .getfield 32, 10, 9, 2, 1, 258), (10, .putfield 29, 13, 3, 1, 1, 85), (13, .aload_n 0, 14, 0, 0, 0, 0), (14, .aload_n 0, 15, 0, 0, 0, 0), (15, .getfield 29, 18, 3, 1, 1, 85), (18, .ifnonnull 7, 21, 25, 0, 0, 0), (21, .aconst_null, 22, 0, 0, 0, 0), (22, .goto 7, 25, 29, 0, 0, 0), (25, .aload_n 0, 26, 0, 0, 0, 0), (26, .getfield 25, 29, 3, 2, 1, 88), (29, .putfield 25, 32, 3, 2, 1, 88), (32, .aload_n 0, 33, 0, 0, 0, 0), (33, .dup, 34, 0, 0, 0, 0), (34, .getfield 35, 37, 3, 3, 0, 89), (37, .iconst 1, 38, 0, 0, 1, 0), (38, .isub, 39, 0, 0, 0, 0), (39, .putfield 35, 42, 3, 3, 0, 89), (42, .aload_n 0, 43, 0, 0, 0, 0), (43, .getfield 7, 46, 3, 0, 1, 84), (46, .aload_n 1, 47, 1, 0, 0, 0), (47, .invokevirtual 38, 50, 45, 1, 0, 0), (50, .aload_n 1, 51, 1, 0, 0, 0), (51, .areturn, 52, 0, 0, 0, 0)]
/-- Store_give -/
def pg_L49 : List (Nat × am_I) := [(0, .aload_n 1, 1, 1, 0, 0, 0), (1, .aload_n 0, 2, 0, 0, 0, 0), (2, .getfield 7, 5, 1, 0, 1, 68), (5, .putfield 16, 8, 9, 2, 1, 257), (8, .aload_n 0, 9, 0, 0, 0, 0), (9, .aload_n 1, 10, 1, 0, 0, 0), (10, .putfield 7, 13, 1, 0, 1, 68), (13, .return_, 14, 0, 0, 0, 0)]
/-- Device_settle -/
def pg_L50 : List (Nat × am_I) := [(0, .aload_n 1, 1, 1, 0, 0, 0), (1, .getfield 29, 4, 9, 0, 1, 249), (4, .iconst 0, 5, 0, 0, 0, 0), (5, .aload_n 0, 6, 0, 0, 0, 0), (6, .getfield 9, 9, 2, 0, 1, 105), (9, .iconst 4, 10, 0, 0, 4, 0), (10, .aload_n 1, 11, 1, 0, 0, 0), (11, .getfield 34, 14, 9, 1, 0, 255), (14, .imul, 15, 0, 0, 0, 0), (15, .iload_n 2, 16, 2, 0, 0, 0), (16, .invokestatic 38, 19, 998, 0, 0, 521), (19, .return_, 20, 0, 0, 0, 0)]
/-- Job_writeNext -/
def pg_L51 : List (Nat × am_I) := [(0, .aload_n 0, 1, 0, 0, 0, 0), (1, .getfield 22, 4, 20, 2, 1, 203), (4, .invokevirtual 26, 7, 46, 0, 0, 0), (7, .astore_n 1, 8, 1, 0, 0, 0), (8, .aload_n 1, 9, 1, 0, 0, 0), (9, .getfield 30, 12, 9, 1, 0, 256), (12, .istore_n 2, 13, 2, 0, 0, 0), (13, .aload_n 1, 14, 1, 0, 0, 0), (14, .getfield 36, 17, 9, 0, 1, 250), (17, .iconst 0, 18, 0, 0, 0, 0), (18, .iaload, 19, 0, 0, 0, 0), (19, .istore_n 3, 20, 3, 0, 0, 0), (20, .aload_n 1, 21, 1, 0, 0, 0), (21, .getfield 36, 24, 9, 0, 1, 250), (24, .iconst 1, 25, 0, 0, 1, 0), (25, .iaload, 26, 0, 0, 0, 0), (26, .istore 4, 28, 4, 0, 0, 0), (28, .aload_n 1, 29, 1, 0, 0, 0), (29, .getfield 36, 32, 9, 0, 1, 250), (32, .iconst 2, 33, 0, 0, 2, 0), (33, .iaload, 34, 0, 0, 0, 0), (34, .istore 5, 36, 5, 0, 0, 0), (36, .aload_n 1, 37, 1, 0, 0, 0), (37, .getfield 36, 40, 9, 0, 1, 250), (40, .iconst 3, 41, 0, 0, 3, 0), (41, .iaload, 42, 0, 0, 0, 0), (42, .istore 6, 44, 6, 0, 0, 0), (44, .aload_n 0, 45, 0, 0, 0, 0), (45, .getfield 7, 48, 20, 0, 1, 193), (48, .iload_n 2, 49, 2, 0, 0, 0), (49, .invokevirtual 40, 52, 47, 1, 0, 0), (52, .iload_n 3, 53, 3, 0, 0, 0), (53, .iload 4, 55, 4, 0, 0, 0), (55, .iload 5, 57, 5, 0, 0, 0), (57, .iload 6, 59, 6, 0, 0, 0), (59, .invokevirtual 46, 62, 48, 4, 0, 0), (62, .return_, 63, 0, 0, 0, 0)]
/-- KJ_end -/
def pg_L52 : List (Nat × am_I) := [(0, .aload_n 0, 1, 0, 0, 0, 0), (1, .getfield 9, 4, 7, 1, 1, 197), (4, .getfield 15, 7, 4, 5, 1, 159), (7, .iconst 0, 8, 0, 0, 0, 0), (8, .putfield 63, 11, 5, 1, 0, 133), (11, .aload_n 0, 12, 0, 0, 0, 0), (12, .getfield 9, 15, 7, 1, 1, 197), (15, .iconst 0, 16, 0, 0, 0, 0), (16, .putfield 66, 19, 4, 3, 0, 152), (19, .return_, 20, 0, 0, 0, 0)]
/-- CJ_end -/
def pg_L53 : List (Nat × am_I) := [(0, .aload_n 0, 1, 0, 0, 0, 0), (1, .getfield 45, 4, 6, 1, 1, 199), (4, .astore_n 1, 5, 1, 0, 0, 0), (5, .iconst 0, 6, 0, 0, 0, 0), (6, .istore_n 2, 7, 2, 0, 0, 0), (7, .iload_n 2, 8, 2, 0, 0, 0), (8, .bipush 16, 10, 0, 0, 16, 0), (10, .if_icmp .ge 60, 13, 70, 0, 0, 0), (13, .aload_n 1, 14, 1, 0, 0, 0), (14, .getfield 9, 17, 4, 4, 1, 156), (17, .iload_n 2, 18, 2, 0, 0, 0), (18, .invokevirtual 101, 21, 49, 1, 0, 0), (21, .ifCond .eq 24, 24, 45, 0, 0, 0), (24, .aload_n 1, 25, 1, 0, 0, 0), (25, .getfield 105, 28, 4, 5, 1, 161), (28, .iload_n 2, 29, 2, 0, 0, 0), (29, .aload_n 1, 30, 1, 0, 0, 0), (30, .getfield 9, 33, 4, 4, 1, 156), (33, .getfield 56, 36, 5, 0, 1, 129), (36, .iconst 4, 37, 0, 0, 4, 0), (37, .iload_n 2, 38, 2, 0, 0, 0), (38, .imul, 39, 0, 0, 0, 0), (39, .invokevirtual 108, 42, 50, 3, 0, 0), (42, .goto 22, 45, 64, 0, 0, 0), (45, .aload_n 1, 46, 1, 0, 0, 0), (46, .getfield 27, 49, 4, 6, 0, 163), (49, .iload_n 2, 50, 2, 0, 0, 0), (50, .ishr, 51, 0, 0, 0, 0), (51, .iconst 1, 52, 0, 0, 1, 0), (52, .iand, 53, 0, 0, 0, 0), (53, .ifCond .eq 11, 56, 64, 0, 0, 0), (56, .aload_n 1, 57, 1, 0, 0, 0), (57, .getfield 105, 60, 4, 5, 1, 161), (60, .iload_n 2, 61, 2, 0, 0, 0), (61, .invokevirtual 112, 64, 51, 1, 0, 0), (64, .iinc 2 1, 67, 2, 0, 1, 0), (67, .goto (-60), 70, 7, 0, 0, 0), (70, .aload_n 1, 71, 1, 0, 0, 0), (71, .getfield 9, 74, 4, 4, 1, 156), (74, .iconst 0, 75, 0, 0, 0, 0), (75, .putfield 15, 78, 5, 1, 0, 132), (78, .aload_n 1, 79, 1, 0, 0, 0), (79, .iconst 0, 80, 0, 0, 0, 0), (80, .putfield 27, 83, 4, 6, 0, 163), (83, .aload_n 1, 84, 1, 0, 0, 0), (84, .aload_n 1, 85, 1, 0, 0, 0), (85, .getfield 82, 88, 4, 2, 0, 149), (88, .aload_n 0, 89, 0, 0, 0, 0), (89, .getfield 79, 92, 6, 4, 0, 191), (92, .iadd, 93, 0, 0, 0, 0), (93, .bipush 24, 95, 0, 0, 24, 0), (95, .irem, 96, 0, 0, 0, 0), (96, .putfield 82, 99, 4, 2, 0, 149), (99, .aload_n 1, 100, 1, 0, 0, 0), (100, .dup, 101, 0, 0, 0, 0), (101, .getfield 116, 104, 4, 3, 0, 153), (104, .aload_n 0, 105, 0, 0, 0, 0), (105, .getfield 79, 108, 6, 4, 0, 191), (108, .iadd, 109, 0, 0, 0, 0), (109, .putfield 116, 112, 4, 3, 0, 153), (112, .aload_n 1, 113, 1, 0, 0, 0), (113, .dup, 114, 0, 0, 0, 0), (114, .getfield 68, 117, 4, 1, 0, 145), (117, .iconst 1, 118, 0, 0, 1, 0), (118, .iadd, 119, 0, 0, 0, 0), (119, .putfield 68, 122, 4, 1, 0, 145), (122, .return_, 123, 0, 0, 0, 0)]
/-- RJ_end -/
def pg_L54 : List (Nat × am_I) := [(0, .aload_n 0, 1, 0, 0, 0, 0), (1, .getfield 106, 4, 8, 1, 1, 201), (4, .invokevirtual 110, 7, 52, 0, 0, 0), (7, .aload_n 0, 8, 0, 0, 0, 0), (8, .getfield 106, 11, 8, 1, 1, 201), (11, .iconst 1, 12, 0, 0, 1, 0), (12, .putfield 115, 15, 4, 0, 2, 142), (15, .aload_n 0, 16, 0, 0, 0, 0), (16, .getfield 106, 19, 8, 1, 1, 201), (19, .aload_n 0, 20, 0, 0, 0, 0), (20, .getfield 59, 23, 8, 6, 0, 270), (23, .putfield 119, 26, 4, 1, 0, 146), (26, .aload_n 0, 27, 0, 0, 0, 0), (27, .getfield 106, 30, 8, 1, 1, 201), (30, .aload_n 0, 31, 0, 0, 0, 0), (31, .getfield 28, 34, 8, 5, 0, 269), (34, .putfield 120, 37, 4, 2, 0, 150), (37, .return_, 38, 0, 0, 0, 0)]
/-- Memory_clear -/
def pg_L55 : List (Nat × am_I) := [(0, .aload_n 0, 1, 0, 0, 0, 0), (1, .iconst 0, 2, 0, 0, 0, 0), (2, .putfield 27, 5, 4, 3, 0, 151), (5, .aload_n 0, 6, 0, 0, 0, 0), (6, .getfield 20, 9, 4, 4, 1, 155), (9, .iconst 0, 10, 0, 0, 0, 0), (10, .putfield 30, 13, 5, 1, 0, 131), (13, .aload_n 0, 14, 0, 0, 0, 0), (14, .getfield 24, 17, 4, 5, 1, 158), (17, .iconst 0, 18, 0, 0, 0, 0), (18, .putfield 30, 21, 5, 1, 0, 131), (21, .aload_n 0, 22, 0, 0, 0, 0), (22, .iconst 0, 23, 0, 0, 0, 0), (23, .putfield 33, 26, 4, 6, 0, 162), (26, .return_, 27, 0, 0, 0, 0)]
/-- R_crash -/
def pg_L56 : List (Nat × am_I) := [(0, .aload_n 0, 1, 0, 0, 0, 0), (1, .getfield 67, 4, 0, 7, 1, 306), (4, .ifnull 10, 7, 14, 0, 0, 0), (7, .aload_n 0, 8, 0, 0, 0, 0), (8, .getfield 67, 11, 0, 7, 1, 306), (11, .invokevirtual 164, 14, 53, 0, 0, 0), (14, .aload_n 0, 15, 0, 0, 0, 0), (15, .aconst_null, 16, 0, 0, 0, 0), (16, .putfield 67, 19, 0, 7, 1, 306), (19, .aload_n 0, 20, 0, 0, 0, 0), (20, .getfield 29, 23, 0, 2, 1, 301), (23, .invokevirtual 167, 26, 54, 0, 0, 0), (26, .aload_n 0, 27, 0, 0, 0, 0), (27, .getfield 29, 30, 0, 2, 1, 301), (30, .iconst 0, 31, 0, 0, 0, 0), (31, .putfield 63, 34, 4, 0, 2, 141), (34, .aload_n 0, 35, 0, 0, 0, 0), (35, .getfield 22, 38, 0, 1, 1, 300), (38, .iload_n 1, 39, 1, 0, 0, 0), (39, .iload_n 2, 40, 2, 0, 0, 0), (40, .invokevirtual 170, 43, 55, 2, 0, 0), (43, .ireturn, 44, 0, 0, 0, 0)]
/-- Job_stop -/
def pg_L57 : List (Nat × am_I) := [(0, .aload_n 0, 1, 0, 0, 0, 0), (1, .getfield 22, 4, 20, 2, 1, 203), (4, .invokevirtual 65, 7, 56, 0, 0, 0), (7, .aload_n 0, 8, 0, 0, 0, 0), (8, .iconst 0, 9, 0, 0, 0, 0), (9, .putfield 53, 12, 20, 3, 0, 210), (12, .return_, 13, 0, 0, 0, 0)]
/-- Chain_clear -/
def pg_L58 : List (Nat × am_I) := [(0, .aload_n 0, 1, 0, 0, 0, 0), (1, .getfield 35, 4, 3, 3, 0, 89), (4, .ifCond .le 11, 7, 15, 0, 0, 0), (7, .aload_n 0, 8, 0, 0, 0, 0), (8, .invokevirtual 42, 11, 57, 0, 0, 0), (11, .pop, 12, 0, 0, 0, 0), (12, .goto (-12), 15, 0, 0, 0, 0), (15, .return_, 16, 0, 0, 0, 0)]
/-- Device_crash -/
def pg_L59 : List (Nat × am_I) := [(0, .iload_n 1, 1, 1, 0, 0, 0), (1, .iconst 1, 2, 0, 0, 1, 0), (2, .aload_n 0, 3, 0, 0, 0, 0), (3, .getfield 20, 6, 2, 1, 1, 107), (6, .getfield 44, 9, 3, 3, 0, 90), (9, .ishl, 10, 0, 0, 0, 0), (10, .iconst 1, 11, 0, 0, 1, 0), (11, .isub, 12, 0, 0, 0, 0), (12, .iand, 13, 0, 0, 0, 0), (13, .istore_n 3, 14, 3, 0, 0, 0), (14, .bipush 31, 16, 0, 0, 31, 0), (16, .iload_n 3, 17, 3, 0, 0, 0), (17, .invokestatic 66, 20, 60, 1, 0, 569), (20, .isub, 21, 0, 0, 0, 0), (21, .istore 4, 23, 4, 0, 0, 0), (23, .iconst 0, 24, 0, 0, 0, 0), (24, .istore 5, 26, 5, 0, 0, 0), (26, .iconst 0, 27, 0, 0, 0, 0), (27, .istore 6, 29, 6, 0, 0, 0), (29, .aload_n 0, 30, 0, 0, 0, 0), (30, .getfield 20, 33, 2, 1, 1, 107), (33, .getfield 44, 36, 3, 3, 0, 90), (36, .ifCond .le 60, 39, 96, 0, 0, 0), (39, .aload_n 0, 40, 0, 0, 0, 0), (40, .getfield 20, 43, 2, 1, 1, 107), (43, .invokevirtual 47, 46, 43, 0, 0, 0), (46, .astore 7, 48, 7, 0, 0, 0), (48, .iload_n 3, 49, 3, 0, 0, 0), (49, .iload 6, 51, 6, 0, 0, 0), (51, .ishr, 52, 0, 0, 0, 0), (52, .iconst 1, 53, 0, 0, 1, 0), (53, .iand, 54, 0, 0, 0, 0), (54, .ifCond .ne 9, 57, 63, 0, 0, 0), (57, .iinc 5 1, 60, 5, 0, 1, 0), (60, .goto 30, 63, 90, 0, 0, 0), (63, .aload_n 0, 64, 0, 0, 0, 0), (64, .aload 7, 66, 7, 0, 0, 0), (66, .iload 6, 68, 6, 0, 0, 0), (68, .iload 4, 70, 4, 0, 0, 0), (70, .if_icmp .ne 16, 73, 86, 0, 0, 0), (73, .iload_n 2, 74, 2, 0, 0, 0), (74, .ifCond .lt 12, 77, 86, 0, 0, 0), (77, .iload_n 2, 78, 2, 0, 0, 0), (78, .iconst 4, 79, 0, 0, 4, 0), (79, .if_icmp .ge 7, 82, 86, 0, 0, 0), (82, .iload_n 2, 83, 2, 0, 0, 0), (83, .goto 4, 86, 87, 0, 0, 0), (86, .iconst 4, 87, 0, 0, 4, 0), (87, .invokevirtual 51, 90, 44, 2, 0, 0), (90, .iinc 6 1, 93, 6, 0, 1, 0), (93, .goto (-64), 96, 29, 0, 0, 0), (96, .iload 5, 98, 5, 0, 0, 0), (98, .ireturn, 99, 0, 0, 0, 0)]
/-- Integer_numberOfLeadingZeros -/
def pg_L60 : List (Nat × am_I) := [(0, .iload_n 0, 1, 0, 0, 0, 0), (1, .ifCond .gt 14, 4, 15, 0, 0, 0), (4, .iload_n 0, 5, 0, 0, 0, 0), (5, .ifCond .ne 8, 8, 13, 0, 0, 0), (8, .bipush 32, 10, 0, 0, 32, 0), (10, .goto 4, 13, 14, 0, 0, 0), (13, .iconst 0, 14, 0, 0, 0, 0), (14, .ireturn, 15, 0, 0, 0, 0), (15, .bipush 31, 17, 0, 0, 31, 0), (17, .istore_n 1, 18, 1, 0, 0, 0), (18, .iload_n 0, 19, 0, 0, 0, 0), (19, .ldc_w 264, 22, 0, 0, 65536, 572), (22, .if_icmp .lt 11, 25, 33, 0, 0, 0), (25, .iinc 1 (-16), 28, 1, 0, (-16), 0), (28, .iload_n 0, 29, 0, 0, 0, 0), (29, .bipush 16, 31, 0, 0, 16, 0), (31, .iushr, 32, 0, 0, 0, 0), (32, .istore_n 0, 33, 0, 0, 0, 0), (33, .iload_n 0, 34, 0, 0, 0, 0), (34, .sipush 256, 37, 0, 0, 256, 0), (37, .if_icmp .lt 11, 40, 48, 0, 0, 0), (40, .iinc 1 (-8), 43, 1, 0, (-8), 0), (43, .iload_n 0, 44, 0, 0, 0, 0), (44, .bipush 8, 46, 0, 0, 8, 0), (46, .iushr, 47, 0, 0, 0, 0), (47, .istore_n 0, 48, 0, 0, 0, 0), (48, .iload_n 0, 49, 0, 0, 0, 0), (49, .bipush 16, 51, 0, 0, 16, 0), (51, .if_icmp .lt 10, 54, 61, 0, 0, 0), (54, .iinc 1 (-4), 57, 1, 0, (-4), 0), (57, .iload_n 0, 58, 0, 0, 0, 0), (58, .iconst 4, 59, 0, 0, 4, 0), (59, .iushr, 60, 0, 0, 0, 0), (60, .istore_n 0, 61, 0, 0, 0, 0), (61, .iload_n 0, 62, 0, 0, 0, 0), (62, .iconst 4, 63, 0, 0, 4, 0), (63, .if_icmp .lt 10, 66, 73, 0, 0, 0), (66, .iinc 1 (-2), 69, 1, 0, (-2), 0), (69, .iload_n 0, 70, 0, 0, 0, 0), (70, .iconst 2, 71, 0, 0, 2, 0), (71, .iushr, 72, 0, 0, 0, 0), (72, .istore_n 0, 73, 0, 0, 0, 0), (73, .iload_n 1, 74, 1, 0, 0, 0), (74, .iload_n 0, 75, 0, 0, 0, 0), (75, .iconst 1, 76, 0, 0, 1, 0), (76, .iushr, 77, 0, 0, 0, 0), (77, .isub, 78, 0, 0, 0, 0), (78, .ireturn, 79, 0, 0, 0, 0)]
/-- R_get -/
def pg_L61 : List (Nat × am_I) := [(0, .aload_n 0, 1, 0, 0, 0, 0), (1, .getfield 29, 4, 0, 2, 1, 301), (4, .getfield 63, 7, 4, 0, 2, 141), (7, .ifCond .eq 11, 10, 18, 0, 0, 0), (10, .iload_n 1, 11, 1, 0, 0, 0), (11, .iload_n 2, 12, 2, 0, 0, 0), (12, .invokestatic 100, 15, 13, 2, 0, 332), (15, .ifCond .ne 5, 18, 20, 0, 0, 0), (18, .iconst 0, 19, 0, 0, 0, 0), (19, .ireturn, 20, 0, 0, 0, 0), (20, .aload_n 0, 21, 0, 0, 0, 0), (21, .iload_n 1, 22, 1, 0, 0, 0), (22, .invokevirtual 114, 25, 2, 1, 0, 0), (25, .aload_n 0, 26, 0, 0, 0, 0), (26, .getfield 59, 29, 0, 6, 1, 305), (29, .getfield 118, 32, 9, 0, 1, 253), (32, .iload_n 2, 33, 2, 0, 0, 0), (33, .iaload, 34, 0, 0, 0, 0), (34, .ireturn, 35, 0, 0, 0, 0)]
/-- R_read -/
def pg_L62 : List (Nat × am_I) := [(0, .iload_n 1, 1, 1, 0, 0, 0), (1, .ifCond .lt 18, 4, 19, 0, 0, 0), (4, .iload_n 1, 5, 1, 0, 0, 0), (5, .bipush 41, 7, 0, 0, 41, 0), (7, .if_icmp .ge 12, 10, 19, 0, 0, 0), (10, .iload_n 2, 11, 2, 0, 0, 0), (11, .ifCond .lt 8, 14, 19, 0, 0, 0), (14, .iload_n 2, 15, 2, 0, 0, 0), (15, .iconst 4, 16, 0, 0, 4, 0), (16, .if_icmp .lt 5, 19, 21, 0, 0, 0), (19, .iconst 0, 20, 0, 0, 0, 0), (20, .ireturn, 21, 0, 0, 0, 0), (21, .aload_n 0, 22, 0, 0, 0, 0), (22, .getfield 22, 25, 0, 1, 1, 300), (25, .iload_n 1, 26, 1, 0, 0, 0), (26, .aload_n 0, 27, 0, 0, 0, 0), (27, .getfield 59, 30, 0, 6, 1, 305), (30, .invokevirtual 92, 33, 5, 2, 0, 0), (33, .aload_n 0, 34, 0, 0, 0, 0), (34, .getfield 59, 37, 0, 6, 1, 305), (37, .getfield 118, 40, 9, 0, 1, 253), (40, .iload_n 2, 41, 2, 0, 0, 0), (41, .iaload, 42, 0, 0, 0, 0), (42, .ireturn, 43, 0, 0, 0, 0)]
/-- R_stored -/
def pg_L63 : List (Nat × am_I) := [(0, .iload_n 1, 1, 1, 0, 0, 0), (1, .ifCond .lt 18, 4, 19, 0, 0, 0), (4, .iload_n 1, 5, 1, 0, 0, 0), (5, .bipush 41, 7, 0, 0, 41, 0), (7, .if_icmp .ge 12, 10, 19, 0, 0, 0), (10, .iload_n 2, 11, 2, 0, 0, 0), (11, .ifCond .lt 8, 14, 19, 0, 0, 0), (14, .iload_n 2, 15, 2, 0, 0, 0), (15, .iconst 4, 16, 0, 0, 4, 0), (16, .if_icmp .lt 7, 19, 23, 0, 0, 0), (19, .iconst 0, 20, 0, 0, 0, 0), (20, .goto 16, 23, 36, 0, 0, 0), (23, .aload_n 0, 24, 0, 0, 0, 0), (24, .getfield 22, 27, 0, 1, 1, 300), (27, .getfield 174, 30, 2, 0, 1, 106), (30, .iconst 4, 31, 0, 0, 4, 0), (31, .iload_n 1, 32, 1, 0, 0, 0), (32, .imul, 33, 0, 0, 0, 0), (33, .iload_n 2, 34, 2, 0, 0, 0), (34, .iadd, 35, 0, 0, 0, 0), (35, .iaload, 36, 0, 0, 0, 0), (36, .ireturn, 37, 0, 0, 0, 0)]
/-- R_cached -/
def pg_L64 : List (Nat × am_I) := [(0, .aload_n 0, 1, 0, 0, 0, 0), (1, .getfield 22, 4, 0, 1, 1, 300), (4, .getfield 129, 7, 2, 1, 1, 108), (7, .getfield 133, 10, 3, 3, 0, 93), (10, .ireturn, 11, 0, 0, 0, 0)]
/-- R_state -/
def pg_L65 : List (Nat × am_I) := [(0, .aload_n 0, 1, 0, 0, 0, 0), (1, .getfield 67, 4, 0, 7, 1, 306), (4, .ifnull 13, 7, 17, 0, 0, 0), (7, .aload_n 0, 8, 0, 0, 0, 0), (8, .getfield 67, 11, 0, 7, 1, 306), (11, .invokevirtual 177, 14, 58, 0, 0, 0), (14, .goto 18, 17, 32, 0, 0, 0), (17, .aload_n 0, 18, 0, 0, 0, 0), (18, .getfield 29, 21, 0, 2, 1, 301), (21, .getfield 63, 24, 4, 0, 2, 141), (24, .ifCond .eq 7, 27, 31, 0, 0, 0), (27, .iconst 1, 28, 0, 0, 1, 0), (28, .goto 4, 31, 32, 0, 0, 0), (31, .iconst 0, 32, 0, 0, 0, 0), (32, .ireturn, 33, 0, 0, 0, 0)]
/-- KJ_code -/
def pg_L66 : List (Nat × am_I) := [(0, .iconst 3, 1, 0, 0, 3, 0), (1, .ireturn, 2, 0, 0, 0, 0)]
/-- CJ_code -/
def pg_L67 : List (Nat × am_I) := [(0, .iconst 2, 1, 0, 0, 2, 0), (1, .ireturn, 2, 0, 0, 0, 0)]
/-- RJ_code -/
def pg_L68 : List (Nat × am_I) := [(0, .iconst 4, 1, 0, 0, 4, 0), (1, .ireturn, 2, 0, 0, 0, 0)]
/-- R_number -/
def pg_L69 : List (Nat × am_I) := [(0, .aload_n 0, 1, 0, 0, 0, 0), (1, .getfield 29, 4, 0, 2, 1, 301), (4, .getfield 63, 7, 4, 0, 2, 141), (7, .ifCond .eq 13, 10, 20, 0, 0, 0), (10, .aload_n 0, 11, 0, 0, 0, 0), (11, .getfield 29, 14, 0, 2, 1, 301), (14, .getfield 180, 17, 4, 1, 0, 147), (17, .goto 4, 20, 21, 0, 0, 0), (20, .iconst (-1), 21, 0, 0, (-1), 0), (21, .ireturn, 22, 0, 0, 0, 0)]
/-- R_used -/
def pg_L70 : List (Nat × am_I) := [(0, .aload_n 0, 1, 0, 0, 0, 0), (1, .getfield 29, 4, 0, 2, 1, 301), (4, .getfield 63, 7, 4, 0, 2, 141), (7, .ifCond .eq 13, 10, 20, 0, 0, 0), (10, .aload_n 0, 11, 0, 0, 0, 0), (11, .getfield 29, 14, 0, 2, 1, 301), (14, .getfield 146, 17, 4, 3, 0, 154), (17, .goto 4, 20, 21, 0, 0, 0), (20, .iconst (-1), 21, 0, 0, (-1), 0), (21, .ireturn, 22, 0, 0, 0, 0)]
/-- R_changed -/
def pg_L71 : List (Nat × am_I) := [(0, .aload_n 0, 1, 0, 0, 0, 0), (1, .getfield 29, 4, 0, 2, 1, 301), (4, .getfield 63, 7, 4, 0, 2, 141), (7, .ifCond .eq 13, 10, 20, 0, 0, 0), (10, .iload_n 1, 11, 1, 0, 0, 0), (11, .ifCond .lt 9, 14, 20, 0, 0, 0), (14, .iload_n 1, 15, 1, 0, 0, 0), (15, .bipush 16, 17, 0, 0, 16, 0), (17, .if_icmp .lt 5, 20, 22, 0, 0, 0), (20, .iconst (-1), 21, 0, 0, (-1), 0), (21, .ireturn, 22, 0, 0, 0, 0), (22, .aload_n 0, 23, 0, 0, 0, 0), (23, .getfield 29, 26, 0, 2, 1, 301), (26, .getfield 71, 29, 4, 4, 1, 157), (29, .iload_n 1, 30, 1, 0, 0, 0), (30, .invokevirtual 75, 33, 1, 1, 0, 0), (33, .ifCond .eq 7, 36, 40, 0, 0, 0), (36, .iconst 1, 37, 0, 0, 1, 0), (37, .goto 16, 40, 53, 0, 0, 0), (40, .aload_n 0, 41, 0, 0, 0, 0), (41, .getfield 29, 44, 0, 2, 1, 301), (44, .getfield 123, 47, 4, 6, 0, 164), (47, .iload_n 1, 48, 1, 0, 0, 0), (48, .ishr, 49, 0, 0, 0, 0), (49, .iconst 1, 50, 0, 0, 1, 0), (50, .iand, 51, 0, 0, 0, 0), (51, .iconst 1, 52, 0, 0, 1, 0), (52, .ishl, 53, 0, 0, 0, 0), (53, .istore_n 2, 54, 2, 0, 0, 0), (54, .aload_n 0, 55, 0, 0, 0, 0), (55, .getfield 29, 58, 0, 2, 1, 301), (58, .getfield 89, 61, 4, 5, 1, 160), (61, .iload_n 1, 62, 1, 0, 0, 0), (62, .invokevirtual 75, 65, 1, 1, 0, 0), (65, .ifCond .eq 9, 68, 74, 0, 0, 0), (68, .iload_n 2, 69, 2, 0, 0, 0), (69, .iconst 4, 70, 0, 0, 4, 0), (70, .iadd, 71, 0, 0, 0, 0), (71, .goto 4, 74, 75, 0, 0, 0), (74, .iload_n 2, 75, 2, 0, 0, 0), (75, .ireturn, 76, 0, 0, 0, 0)]
/-- R_left -/
def pg_L72 : List (Nat × am_I) := [(0, .aload_n 0, 1, 0, 0, 0, 0), (1, .getfield 67, 4, 0, 7, 1, 306), (4, .ifnonnull 7, 7, 11, 0, 0, 0), (7, .iconst 0, 8, 0, 0, 0, 0), (8, .goto 10, 11, 18, 0, 0, 0), (11, .aload_n 0, 12, 0, 0, 0, 0), (12, .getfield 67, 15, 0, 7, 1, 306), (15, .getfield 161, 18, 20, 3, 0, 211), (18, .ireturn, 19, 0, 0, 0, 0)]
/-- T_init -/
def pg_L73 : List (Nat × am_I) := [(0, .aload_n 0, 1, 0, 0, 0, 0), (1, .invokespecial 1, 4, 999, 0, 0, 626), (4, .aload_n 0, 5, 0, 0, 0, 0), (5, .sipush 164, 8, 0, 0, 164, 0), (8, .newarray .int, 10, 30, 0, 0, 0), (10, .putfield 7, 13, 10, 0, 1, 628), (13, .aload_n 0, 14, 0, 0, 0, 0), (14, .bipush 32, 16, 0, 0, 32, 0), (16, .newarray .int, 18, 30, 0, 0, 0), (18, .putfield 13, 21, 10, 2, 1, 630), (21, .aload_n 0, 22, 0, 0, 0, 0), (22, .sipush 128, 25, 0, 0, 128, 0), (25, .newarray .int, 27, 30, 0, 0, 0), (27, .putfield 16, 30, 10, 3, 1, 631), (30, .aload_n 0, 31, 0, 0, 0, 0), (31, .iconst 1, 32, 0, 0, 1, 0), (32, .putfield 19, 35, 10, 4, 2, 632), (35, .aload_n 0, 36, 0, 0, 0, 0), (36, .iconst 1, 37, 0, 0, 1, 0), (37, .putfield 23, 40, 10, 5, 0, 633), (40, .aload_n 0, 41, 0, 0, 0, 0), (41, .bipush 16, 43, 0, 0, 16, 0), (43, .newarray .int, 45, 30, 0, 0, 0), (45, .putfield 27, 48, 10, 8, 1, 636), (48, .aload_n 0, 49, 0, 0, 0, 0), (49, .bipush 64, 51, 0, 0, 64, 0), (51, .newarray .int, 53, 30, 0, 0, 0), (53, .putfield 30, 56, 10, 9, 1, 637), (56, .aload_n 0, 57, 0, 0, 0, 0), (57, .bipush 16, 59, 0, 0, 16, 0), (59, .newarray .boolean, 61, 31, 0, 0, 0), (61, .putfield 33, 64, 10, 10, 1, 638), (64, .aload_n 0, 65, 0, 0, 0, 0), (65, .bipush 64, 67, 0, 0, 64, 0), (67, .newarray .int, 69, 30, 0, 0, 0), (69, .putfield 37, 72, 10, 11, 1, 639), (72, .aload_n 0, 73, 0, 0, 0, 0), (73, .iconst 4, 74, 0, 0, 4, 0), (74, .newarray .int, 76, 30, 0, 0, 0), (76, .putfield 40, 79, 10, 15, 1, 643), (79, .aload_n 0, 80, 0, 0, 0, 0), (80, .bipush 16, 82, 0, 0, 16, 0), (82, .newarray .int, 84, 30, 0, 0, 0), (84, .putfield 43, 87, 10, 21, 1, 649), (87, .aload_n 0, 88, 0, 0, 0, 0), (88, .bipush 16, 90, 0, 0, 16, 0), (90, .newarray .boolean, 92, 31, 0, 0, 0), (92, .putfield 46, 95, 10, 22, 1, 650), (95, .aload_n 0, 96, 0, 0, 0, 0), (96, .getfield 7, 99, 10, 0, 1, 628), (99, .bipush 64, 101, 0, 0, 64, 0), (101, .ldc 49, 103, 0, 0, 77001, 627), (103, .iastore, 104, 0, 0, 0, 0), (104, .aload_n 0, 105, 0, 0, 0, 0), (105, .getfield 7, 108, 10, 0, 1, 628), (108, .bipush 65, 110, 0, 0, 65, 0), (110, .iconst 1, 111, 0, 0, 1, 0), (111, .iastore, 112, 0, 0, 0, 0), (112, .return_, 113, 0, 0, 0, 0)]
/-- T_read -/
def pg_L74 : List (Nat × am_I) := [(0, .iload_n 1, 1, 1, 0, 0, 0), (1, .ifCond .lt 18, 4, 19, 0, 0, 0), (4, .iload_n 1, 5, 1, 0, 0, 0), (5, .bipush 40, 7, 0, 0, 40, 0), (7, .if_icmp .gt 12, 10, 19, 0, 0, 0), (10, .iload_n 2, 11, 2, 0, 0, 0), (11, .ifCond .lt 8, 14, 19, 0, 0, 0), (14, .iload_n 2, 15, 2, 0, 0, 0), (15, .iconst 3, 16, 0, 0, 3, 0), (16, .if_icmp .le 5, 19, 21, 0, 0, 0), (19, .iconst 0, 20, 0, 0, 0, 0), (20, .ireturn, 21, 0, 0, 0, 0), (21, .aload_n 0, 22, 0, 0, 0, 0), (22, .getfield 7, 25, 10, 0, 1, 628), (25, .iconst 4, 26, 0, 0, 4, 0), (26, .iload_n 1, 27, 1, 0, 0, 0), (27, .imul, 28, 0, 0, 0, 0), (28, .iload_n 2, 29, 2, 0, 0, 0), (29, .iadd, 30, 0, 0, 0, 0), (30, .iaload, 31, 0, 0, 0, 0), (31, .istore_n 3, 32, 3, 0, 0, 0), (32, .iconst 0, 33, 0, 0, 0, 0), (33, .istore 4, 35, 4, 0, 0, 0), (35, .iload 4, 37, 4, 0, 0, 0), (37, .aload_n 0, 38, 0, 0, 0, 0), (38, .getfield 50, 41, 10, 1, 0, 629), (41, .if_icmp .ge 36, 44, 77, 0, 0, 0), (44, .aload_n 0, 45, 0, 0, 0, 0), (45, .getfield 13, 48, 10, 2, 1, 630), (48, .iload 4, 50, 4, 0, 0, 0), (50, .iaload, 51, 0, 0, 0, 0), (51, .iload_n 1, 52, 1, 0, 0, 0), (52, .if_icmp .ne 17, 55, 69, 0, 0, 0), (55, .aload_n 0, 56, 0, 0, 0, 0), (56, .getfield 16, 59, 10, 3, 1, 631), (59, .iconst 4, 60, 0, 0, 4, 0), (60, .iload 4, 62, 4, 0, 0, 0), (62, .imul, 63, 0, 0, 0, 0), (63, .iload_n 2, 64, 2, 0, 0, 0), (64, .iadd, 65, 0, 0, 0, 0), (65, .iaload, 66, 0, 0, 0, 0), (66, .goto 4, 69, 70, 0, 0, 0), (69, .iload_n 3, 70, 3, 0, 0, 0), (70, .istore_n 3, 71, 3, 0, 0, 0), (71, .iinc 4 1, 74, 4, 0, 1, 0), (74, .goto (-39), 77, 35, 0, 0, 0), (77, .iload_n 3, 78, 3, 0, 0, 0), (78, .ireturn, 79, 0, 0, 0, 0)]
/-- T_stored -/
def pg_L75 : List (Nat × am_I) := [(0, .iload_n 1, 1, 1, 0, 0, 0), (1, .ifCond .lt 18, 4, 19, 0, 0, 0), (4, .iload_n 1, 5, 1, 0, 0, 0), (5, .bipush 40, 7, 0, 0, 40, 0), (7, .if_icmp .gt 12, 10, 19, 0, 0, 0), (10, .iload_n 2, 11, 2, 0, 0, 0), (11, .ifCond .lt 8, 14, 19, 0, 0, 0), (14, .iload_n 2, 15, 2, 0, 0, 0), (15, .iconst 3, 16, 0, 0, 3, 0), (16, .if_icmp .le 7, 19, 23, 0, 0, 0), (19, .iconst 0, 20, 0, 0, 0, 0), (20, .goto 13, 23, 33, 0, 0, 0), (23, .aload_n 0, 24, 0, 0, 0, 0), (24, .getfield 7, 27, 10, 0, 1, 628), (27, .iconst 4, 28, 0, 0, 4, 0), (28, .iload_n 1, 29, 1, 0, 0, 0), (29, .imul, 30, 0, 0, 0, 0), (30, .iload_n 2, 31, 2, 0, 0, 0), (31, .iadd, 32, 0, 0, 0, 0), (32, .iaload, 33, 0, 0, 0, 0), (33, .ireturn, 34, 0, 0, 0, 0)]
/-- T_cached -/
def pg_L76 : List (Nat × am_I) := [(0, .aload_n 0, 1, 0, 0, 0, 0), (1, .getfield 50, 4, 10, 1, 0, 629), (4, .ireturn, 5, 0, 0, 0, 0)]
/-- T_get -/
def pg_L77 : List (Nat × am_I) := [(0, .aload_n 0, 1, 0, 0, 0, 0), (1, .getfield 19, 4, 10, 4, 2, 632), (4, .ifCond .eq 17, 7, 21, 0, 0, 0), (7, .iload_n 1, 8, 1, 0, 0, 0), (8, .invokestatic 58, 11, 78, 1, 0, 715), (11, .ifCond .eq 10, 14, 21, 0, 0, 0), (14, .iload_n 2, 15, 2, 0, 0, 0), (15, .invokestatic 62, 18, 79, 1, 0, 718), (18, .ifCond .ne 5, 21, 23, 0, 0, 0), (21, .iconst 0, 22, 0, 0, 0, 0), (22, .ireturn, 23, 0, 0, 0, 0), (23, .aload_n 0, 24, 0, 0, 0, 0), (24, .getfield 27, 27, 10, 8, 1, 636), (27, .iload_n 1, 28, 1, 0, 0, 0), (28, .iaload, 29, 0, 0, 0, 0), (29, .iconst 1, 30, 0, 0, 1, 0), (30, .if_icmp .ne 16, 33, 46, 0, 0, 0), (33, .aload_n 0, 34, 0, 0, 0, 0), (34, .getfield 30, 37, 10, 9, 1, 637), (37, .iconst 4, 38, 0, 0, 4, 0), (38, .iload_n 1, 39, 1, 0, 0, 0), (39, .imul, 40, 0, 0, 0, 0), (40, .iload_n 2, 41, 2, 0, 0, 0), (41, .iadd, 42, 0, 0, 0, 0), (42, .iaload, 43, 0, 0, 0, 0), (43, .goto 31, 46, 74, 0, 0, 0), (46, .aload_n 0, 47, 0, 0, 0, 0), (47, .getfield 33, 50, 10, 10, 1, 638), (50, .iload_n 1, 51, 1, 0, 0, 0), (51, .baload, 52, 0, 0, 0, 0), (52, .ifCond .eq 16, 55, 68, 0, 0, 0), (55, .aload_n 0, 56, 0, 0, 0, 0), (56, .getfield 37, 59, 10, 11, 1, 639), (59, .iconst 4, 60, 0, 0, 4, 0), (60, .iload_n 1, 61, 1, 0, 0, 0), (61, .imul, 62, 0, 0, 0, 0), (62, .iload_n 2, 63, 2, 0, 0, 0), (63, .iadd, 64, 0, 0, 0, 0), (64, .iaload, 65, 0, 0, 0, 0), (65, .goto 9, 68, 74, 0, 0, 0), (68, .aload_n 0, 69, 0, 0, 0, 0), (69, .iload_n 1, 70, 1, 0, 0, 0), (70, .iload_n 2, 71, 2, 0, 0, 0), (71, .invokevirtual 65, 74, 59, 2, 0, 0), (74, .ireturn, 75, 0, 0, 0, 0)]
/-- T_isBlock -/
def pg_L78 : List (Nat × am_I) := [(0, .iload_n 0, 1, 0, 0, 0, 0), (1, .ifCond .lt 13, 4, 14, 0, 0, 0), (4, .iload_n 0, 5, 0, 0, 0, 0), (5, .bipush 15, 7, 0, 0, 15, 0), (7, .if_icmp .gt 7, 10, 14, 0, 0, 0), (10, .iconst 1, 11, 0, 0, 1, 0), (11, .goto 4, 14, 15, 0, 0, 0), (14, .iconst 0, 15, 0, 0, 0, 0), (15, .ireturn, 16, 0, 0, 0, 0)]
/-- T_isWord -/
def pg_L79 : List (Nat × am_I) := [(0, .iload_n 0, 1, 0, 0, 0, 0), (1, .ifCond .lt 12, 4, 13, 0, 0, 0), (4, .iload_n 0, 5, 0, 0, 0, 0), (5, .iconst 3, 6, 0, 0, 3, 0), (6, .if_icmp .gt 7, 9, 13, 0, 0, 0), (9, .iconst 1, 10, 0, 0, 1, 0), (10, .goto 4, 13, 14, 0, 0, 0), (13, .iconst 0, 14, 0, 0, 0, 0), (14, .ireturn, 15, 0, 0, 0, 0)]
/-- T_put -/
def pg_L80 : List (Nat × am_I) := [(0, .aload_n 0, 1, 0, 0, 0, 0), (1, .invokevirtual 72, 4, 60, 0, 0, 0), (4, .ifCond .eq 37, 7, 41, 0, 0, 0), (7, .iload_n 1, 8, 1, 0, 0, 0), (8, .invokestatic 58, 11, 78, 1, 0, 715), (11, .ifCond .eq 30, 14, 41, 0, 0, 0), (14, .iload_n 2, 15, 2, 0, 0, 0), (15, .invokestatic 62, 18, 79, 1, 0, 718), (18, .ifCond .eq 23, 21, 41, 0, 0, 0), (21, .aload_n 0, 22, 0, 0, 0, 0), (22, .getfield 27, 25, 10, 8, 1, 636), (25, .iload_n 1, 26, 1, 0, 0, 0), (26, .iaload, 27, 0, 0, 0, 0), (27, .iconst 1, 28, 0, 0, 1, 0), (28, .if_icmp .eq 15, 31, 43, 0, 0, 0), (31, .aload_n 0, 32, 0, 0, 0, 0), (32, .iconst 1, 33, 0, 0, 1, 0), (33, .invokevirtual 76, 36, 61, 1, 0, 0), (36, .bipush 8, 38, 0, 0, 8, 0), (38, .if_icmp .lt 5, 41, 43, 0, 0, 0), (41, .iconst 0, 42, 0, 0, 0, 0), (42, .ireturn, 43, 0, 0, 0, 0), (43, .iconst 0, 44, 0, 0, 0, 0), (44, .istore 4, 46, 4, 0, 0, 0), (46, .iload 4, 48, 4, 0, 0, 0), (48, .iconst 4, 49, 0, 0, 4, 0), (49, .if_icmp .ge 27, 52, 76, 0, 0, 0), (52, .aload_n 0, 53, 0, 0, 0, 0), (53, .getfield 30, 56, 10, 9, 1, 637), (56, .iconst 4, 57, 0, 0, 4, 0), (57, .iload_n 1, 58, 1, 0, 0, 0), (58, .imul, 59, 0, 0, 0, 0), (59, .iload 4, 61, 4, 0, 0, 0), (61, .iadd, 62, 0, 0, 0, 0), (62, .aload_n 0, 63, 0, 0, 0, 0), (63, .iload_n 1, 64, 1, 0, 0, 0), (64, .iload 4, 66, 4, 0, 0, 0), (66, .invokevirtual 80, 69, 62, 2, 0, 0), (69, .iastore, 70, 0, 0, 0, 0), (70, .iinc 4 1, 73, 4, 0, 1, 0), (73, .goto (-27), 76, 46, 0, 0, 0), (76, .aload_n 0, 77, 0, 0, 0, 0), (77, .getfield 27, 80, 10, 8, 1, 636), (80, .iload_n 1, 81, 1, 0, 0, 0), (81, .iconst 1, 82, 0, 0, 1, 0), (82, .iastore, 83, 0, 0, 0, 0), (83, .aload_n 0, 84, 0, 0, 0, 0), (84, .getfield 30, 87, 10, 9, 1, 637), (87, .iconst 4, 88, 0, 0, 4, 0), (88, .iload_n 1, 89, 1, 0, 0, 0), (89, .imul, 90, 0, 0, 0, 0), (90, .iload_n 2, 91, 2, 0, 0, 0), (91, .iadd, 92, 0, 0, 0, 0), (92, .iload_n 3, 93, 3, 0, 0, 0), (93, .iastore, 94, 0, 0, 0, 0), (94, .iconst 1, 95, 0, 0, 1, 0), (95, .ireturn, 96, 0, 0, 0, 0)]
/-- T_idle -/
def pg_L81 : List (Nat × am_I) := [(0, .aload_n 0, 1, 0, 0, 0, 0), (1, .getfield 19, 4, 10, 4, 2, 632), (4, .ifCond .eq 14, 7, 18, 0, 0, 0), (7, .aload_n 0, 8, 0, 0, 0, 0), (8, .getfield 69, 11, 10, 12, 0, 640), (11, .ifCond .ne 7, 14, 18, 0, 0, 0), (14, .iconst 1, 15, 0, 0, 1, 0), (15, .goto 4, 18, 19, 0, 0, 0), (18, .iconst 0, 19, 0, 0, 0, 0), (19, .ireturn, 20, 0, 0, 0, 0)]
/-- T_countOf -/
def pg_L82 : List (Nat × am_I) := [(0, .iconst 0, 1, 0, 0, 0, 0), (1, .istore_n 2, 2, 2, 0, 0, 0), (2, .iconst 0, 3, 0, 0, 0, 0), (3, .istore_n 3, 4, 3, 0, 0, 0), (4, .iload_n 3, 5, 3, 0, 0, 0), (5, .bipush 16, 7, 0, 0, 16, 0), (7, .if_icmp .ge 27, 10, 34, 0, 0, 0), (10, .aload_n 0, 11, 0, 0, 0, 0), (11, .getfield 27, 14, 10, 8, 1, 636), (14, .iload_n 3, 15, 3, 0, 0, 0), (15, .iaload, 16, 0, 0, 0, 0), (16, .iload_n 1, 17, 1, 0, 0, 0), (17, .if_icmp .ne 9, 20, 26, 0, 0, 0), (20, .iload_n 2, 21, 2, 0, 0, 0), (21, .iconst 1, 22, 0, 0, 1, 0), (22, .iadd, 23, 0, 0, 0, 0), (23, .goto 4, 26, 27, 0, 0, 0), (26, .iload_n 2, 27, 2, 0, 0, 0), (27, .istore_n 2, 28, 2, 0, 0, 0), (28, .iinc 3 1, 31, 3, 0, 1, 0), (31, .goto (-27), 34, 4, 0, 0, 0), (34, .iload_n 2, 35, 2, 0, 0, 0), (35, .ireturn, 36, 0, 0, 0, 0)]
/-- T_revoke -/
def pg_L83 : List (Nat × am_I) := [(0, .aload_n 0, 1, 0, 0, 0, 0), (1, .invokevirtual 72, 4, 60, 0, 0, 0), (4, .ifCond .eq 10, 7, 14, 0, 0, 0), (7, .iload_n 1, 8, 1, 0, 0, 0), (8, .invokestatic 58, 11, 78, 1, 0, 715), (11, .ifCond .ne 5, 14, 16, 0, 0, 0), (14, .iconst 0, 15, 0, 0, 0, 0), (15, .ireturn, 16, 0, 0, 0, 0), (16, .aload_n 0, 17, 0, 0, 0, 0), (17, .getfield 27, 20, 10, 8, 1, 636), (20, .iload_n 1, 21, 1, 0, 0, 0), (21, .iconst 2, 22, 0, 0, 2, 0), (22, .iastore, 23, 0, 0, 0, 0), (23, .iconst 1, 24, 0, 0, 1, 0), (24, .ireturn, 25, 0, 0, 0, 0)]
/-- T_direct -/
def pg_L84 : List (Nat × am_I) := [(0, .aload_n 0, 1, 0, 0, 0, 0), (1, .invokevirtual 72, 4, 60, 0, 0, 0), (4, .ifCond .eq 45, 7, 49, 0, 0, 0), (7, .iload_n 1, 8, 1, 0, 0, 0), (8, .invokestatic 58, 11, 78, 1, 0, 715), (11, .ifCond .eq 38, 14, 49, 0, 0, 0), (14, .iload_n 2, 15, 2, 0, 0, 0), (15, .invokestatic 62, 18, 79, 1, 0, 718), (18, .ifCond .eq 31, 21, 49, 0, 0, 0), (21, .aload_n 0, 22, 0, 0, 0, 0), (22, .getfield 27, 25, 10, 8, 1, 636), (25, .iload_n 1, 26, 1, 0, 0, 0), (26, .iaload, 27, 0, 0, 0, 0), (27, .iconst 1, 28, 0, 0, 1, 0), (28, .if_icmp .eq 21, 31, 49, 0, 0, 0), (31, .aload_n 0, 32, 0, 0, 0, 0), (32, .getfield 33, 35, 10, 10, 1, 638), (35, .iload_n 1, 36, 1, 0, 0, 0), (36, .baload, 37, 0, 0, 0, 0), (37, .ifCond .ne 12, 40, 49, 0, 0, 0), (40, .aload_n 0, 41, 0, 0, 0, 0), (41, .getfield 50, 44, 10, 1, 0, 629), (44, .bipush 12, 46, 0, 0, 12, 0), (46, .if_icmp .lt 5, 49, 51, 0, 0, 0), (49, .iconst 0, 50, 0, 0, 0, 0), (50, .ireturn, 51, 0, 0, 0, 0), (51, .iconst 0, 52, 0, 0, 0, 0), (52, .istore 4, 54, 4, 0, 0, 0), (54, .iload 4, 56, 4, 0, 0, 0), (56, .iconst 4, 57, 0, 0, 4, 0), (57, .if_icmp .ge 23, 60, 80, 0, 0, 0), (60, .aload_n 0, 61, 0, 0, 0, 0), (61, .getfield 40, 64, 10, 15, 1, 643), (64, .iload 4, 66, 4, 0, 0, 0), (66, .aload_n 0, 67, 0, 0, 0, 0), (67, .iload_n 1, 68, 1, 0, 0, 0), (68, .iload 4, 70, 4, 0, 0, 0), (70, .invokevirtual 65, 73, 59, 2, 0, 0), (73, .iastore, 74, 0, 0, 0, 0), (74, .iinc 4 1, 77, 4, 0, 1, 0), (77, .goto (-23), 80, 54, 0, 0, 0), (80, .aload_n 0, 81, 0, 0, 0, 0), (81, .getfield 40, 84, 10, 15, 1, 643), (84, .iload_n 2, 85, 2, 0, 0, 0), (85, .iload_n 3, 86, 3, 0, 0, 0), (86, .iastore, 87, 0, 0, 0, 0), (87, .aload_n 0, 88, 0, 0, 0, 0), (88, .iload_n 1, 89, 1, 0, 0, 0), (89, .invokevirtual 83, 92, 63, 1, 0, 0), (92, .iconst 1, 93, 0, 0, 1, 0), (93, .ireturn, 94, 0, 0, 0, 0)]
/-- T_writeOut -/
def pg_L85 : List (Nat × am_I) := [(0, .aload_n 0, 1, 0, 0, 0, 0), (1, .getfield 13, 4, 10, 2, 1, 630), (4, .aload_n 0, 5, 0, 0, 0, 0), (5, .getfield 50, 8, 10, 1, 0, 629), (8, .iload_n 1, 9, 1, 0, 0, 0), (9, .iastore, 10, 0, 0, 0, 0), (10, .iconst 0, 11, 0, 0, 0, 0), (11, .istore_n 2, 12, 2, 0, 0, 0), (12, .iload_n 2, 13, 2, 0, 0, 0), (13, .iconst 4, 14, 0, 0, 4, 0), (14, .if_icmp .ge 28, 17, 42, 0, 0, 0), (17, .aload_n 0, 18, 0, 0, 0, 0), (18, .getfield 16, 21, 10, 3, 1, 631), (21, .iconst 4, 22, 0, 0, 4, 0), (22, .aload_n 0, 23, 0, 0, 0, 0), (23, .getfield 50, 26, 10, 1, 0, 629), (26, .imul, 27, 0, 0, 0, 0), (27, .iload_n 2, 28, 2, 0, 0, 0), (28, .iadd, 29, 0, 0, 0, 0), (29, .aload_n 0, 30, 0, 0, 0, 0), (30, .getfield 40, 33, 10, 15, 1, 643), (33, .iload_n 2, 34, 2, 0, 0, 0), (34, .iaload, 35, 0, 0, 0, 0), (35, .iastore, 36, 0, 0, 0, 0), (36, .iinc 2 1, 39, 2, 0, 1, 0), (39, .goto (-27), 42, 12, 0, 0, 0), (42, .aload_n 0, 43, 0, 0, 0, 0), (43, .aload_n 0, 44, 0, 0, 0, 0), (44, .getfield 50, 47, 10, 1, 0, 629), (47, .iconst 1, 48, 0, 0, 1, 0), (48, .iadd, 49, 0, 0, 0, 0), (49, .putfield 50, 52, 10, 1, 0, 629), (52, .return_, 53, 0, 0, 0, 0)]
/-- T_changed -/
def pg_L86 : List (Nat × am_I) := [(0, .aload_n 0, 1, 0, 0, 0, 0), (1, .getfield 19, 4, 10, 4, 2, 632), (4, .ifCond .eq 34, 7, 38, 0, 0, 0), (7, .iload_n 1, 8, 1, 0, 0, 0), (8, .invokestatic 58, 11, 78, 1, 0, 715), (11, .ifCond .eq 27, 14, 38, 0, 0, 0), (14, .aload_n 0, 15, 0, 0, 0, 0), (15, .getfield 27, 18, 10, 8, 1, 636), (18, .iload_n 1, 19, 1, 0, 0, 0), (19, .iaload, 20, 0, 0, 0, 0), (20, .aload_n 0, 21, 0, 0, 0, 0), (21, .getfield 33, 24, 10, 10, 1, 638), (24, .iload_n 1, 25, 1, 0, 0, 0), (25, .baload, 26, 0, 0, 0, 0), (26, .ifCond .eq 7, 29, 33, 0, 0, 0), (29, .iconst 4, 30, 0, 0, 4, 0), (30, .goto 4, 33, 34, 0, 0, 0), (33, .iconst 0, 34, 0, 0, 0, 0), (34, .iadd, 35, 0, 0, 0, 0), (35, .goto 4, 38, 39, 0, 0, 0), (38, .iconst (-1), 39, 0, 0, (-1), 0), (39, .ireturn, 40, 0, 0, 0, 0)]
/-- T_commit -/
def pg_L87 : List (Nat × am_I) := [(0, .aload_n 0, 1, 0, 0, 0, 0), (1, .invokevirtual 72, 4, 60, 0, 0, 0), (4, .ifCond .eq 13, 7, 17, 0, 0, 0), (7, .aload_n 0, 8, 0, 0, 0, 0), (8, .iconst 0, 9, 0, 0, 0, 0), (9, .invokevirtual 76, 12, 61, 1, 0, 0), (12, .bipush 16, 14, 0, 0, 16, 0), (14, .if_icmp .ne 5, 17, 19, 0, 0, 0), (17, .iconst (-1), 18, 0, 0, (-1), 0), (18, .ireturn, 19, 0, 0, 0, 0), (19, .aload_n 0, 20, 0, 0, 0, 0), (20, .invokevirtual 107, 23, 64, 0, 0, 0), (23, .istore_n 1, 24, 1, 0, 0, 0), (24, .aload_n 0, 25, 0, 0, 0, 0), (25, .getfield 110, 28, 10, 7, 0, 635), (28, .iload_n 1, 29, 1, 0, 0, 0), (29, .iadd, 30, 0, 0, 0, 0), (30, .bipush 23, 32, 0, 0, 23, 0), (32, .if_icmp .le 6, 35, 38, 0, 0, 0), (35, .bipush (-2), 37, 0, 0, (-2), 0), (37, .ireturn, 38, 0, 0, 0, 0), (38, .aload_n 0, 39, 0, 0, 0, 0), (39, .iconst 2, 40, 0, 0, 2, 0), (40, .putfield 69, 43, 10, 12, 0, 640), (43, .aload_n 0, 44, 0, 0, 0, 0), (44, .iconst 0, 45, 0, 0, 0, 0), (45, .putfield 113, 48, 10, 13, 0, 641), (48, .aload_n 0, 49, 0, 0, 0, 0), (49, .iload_n 1, 50, 1, 0, 0, 0), (50, .iconst 2, 51, 0, 0, 2, 0), (51, .iadd, 52, 0, 0, 0, 0), (52, .putfield 116, 55, 10, 14, 0, 642), (55, .iload_n 1, 56, 1, 0, 0, 0), (56, .ireturn, 57, 0, 0, 0, 0)]
/-- T_rowLength -/
def pg_L88 : List (Nat × am_I) := [(0, .aload_n 0, 1, 0, 0, 0, 0), (1, .iconst 1, 2, 0, 0, 1, 0), (2, .invokevirtual 76, 5, 61, 1, 0, 0), (5, .istore_n 1, 6, 1, 0, 0, 0), (6, .iload_n 1, 7, 1, 0, 0, 0), (7, .iload_n 1, 8, 1, 0, 0, 0), (8, .iconst 3, 9, 0, 0, 3, 0), (9, .iadd, 10, 0, 0, 0, 0), (10, .iconst 4, 11, 0, 0, 4, 0), (11, .idiv, 12, 0, 0, 0, 0), (12, .iadd, 13, 0, 0, 0, 0), (13, .aload_n 0, 14, 0, 0, 0, 0), (14, .iconst 2, 15, 0, 0, 2, 0), (15, .invokevirtual 76, 18, 61, 1, 0, 0), (18, .ifCond .le 7, 21, 25, 0, 0, 0), (21, .iconst 1, 22, 0, 0, 1, 0), (22, .goto 4, 25, 26, 0, 0, 0), (25, .iconst 0, 26, 0, 0, 0, 0), (26, .iadd, 27, 0, 0, 0, 0), (27, .iconst 1, 28, 0, 0, 1, 0), (28, .iadd, 29, 0, 0, 0, 0), (29, .ireturn, 30, 0, 0, 0, 0)]
/-- T_checkpoint -/
def pg_L89 : List (Nat × am_I) := [(0, .aload_n 0, 1, 0, 0, 0, 0), (1, .invokevirtual 72, 4, 60, 0, 0, 0), (4, .ifCond .ne 5, 7, 9, 0, 0, 0), (7, .iconst (-1), 8, 0, 0, (-1), 0), (8, .ireturn, 9, 0, 0, 0, 0), (9, .aload_n 0, 10, 0, 0, 0, 0), (10, .iconst 3, 11, 0, 0, 3, 0), (11, .putfield 69, 14, 10, 12, 0, 640), (14, .aload_n 0, 15, 0, 0, 0, 0), (15, .iconst 0, 16, 0, 0, 0, 0), (16, .putfield 113, 19, 10, 13, 0, 641), (19, .aload_n 0, 20, 0, 0, 0, 0), (20, .aload_n 0, 21, 0, 0, 0, 0), (21, .invokevirtual 128, 24, 65, 0, 0, 0), (24, .iconst 3, 25, 0, 0, 3, 0), (25, .iadd, 26, 0, 0, 0, 0), (26, .putfield 116, 29, 10, 14, 0, 642), (29, .aload_n 0, 30, 0, 0, 0, 0), (30, .getfield 116, 33, 10, 14, 0, 642), (33, .iconst 3, 34, 0, 0, 3, 0), (34, .isub, 35, 0, 0, 0, 0), (35, .ireturn, 36, 0, 0, 0, 0)]
/-- T_countPending -/
def pg_L90 : List (Nat × am_I) := [(0, .iconst 0, 1, 0, 0, 0, 0), (1, .istore_n 1, 2, 1, 0, 0, 0), (2, .iconst 0, 3, 0, 0, 0, 0), (3, .istore_n 2, 4, 2, 0, 0, 0), (4, .iload_n 2, 5, 2, 0, 0, 0), (5, .bipush 16, 7, 0, 0, 16, 0), (7, .if_icmp .ge 26, 10, 33, 0, 0, 0), (10, .aload_n 0, 11, 0, 0, 0, 0), (11, .getfield 33, 14, 10, 10, 1, 638), (14, .iload_n 2, 15, 2, 0, 0, 0), (15, .baload, 16, 0, 0, 0, 0), (16, .ifCond .eq 9, 19, 25, 0, 0, 0), (19, .iload_n 1, 20, 1, 0, 0, 0), (20, .iconst 1, 21, 0, 0, 1, 0), (21, .iadd, 22, 0, 0, 0, 0), (22, .goto 4, 25, 26, 0, 0, 0), (25, .iload_n 1, 26, 1, 0, 0, 0), (26, .istore_n 1, 27, 1, 0, 0, 0), (27, .iinc 2 1, 30, 2, 0, 1, 0), (30, .goto (-26), 33, 4, 0, 0, 0), (33, .iload_n 1, 34, 1, 0, 0, 0), (34, .ireturn, 35, 0, 0, 0, 0)]
/-- T_recover -/
def pg_L91 : List (Nat × am_I) := [(0, .aload_n 0, 1, 0, 0, 0, 0), (1, .getfield 19, 4, 10, 4, 2, 632), (4, .ifCond .ne 10, 7, 14, 0, 0, 0), (7, .aload_n 0, 8, 0, 0, 0, 0), (8, .getfield 69, 11, 10, 12, 0, 640), (11, .ifCond .eq 5, 14, 16, 0, 0, 0), (14, .iconst (-1), 15, 0, 0, (-1), 0), (15, .ireturn, 16, 0, 0, 0, 0), (16, .aload_n 0, 17, 0, 0, 0, 0), (17, .iconst 4, 18, 0, 0, 4, 0), (18, .putfield 69, 21, 10, 12, 0, 640), (21, .aload_n 0, 22, 0, 0, 0, 0), (22, .iconst 0, 23, 0, 0, 0, 0), (23, .putfield 113, 26, 10, 13, 0, 641), (26, .aload_n 0, 27, 0, 0, 0, 0), (27, .aload_n 0, 28, 0, 0, 0, 0), (28, .iconst (-1), 29, 0, 0, (-1), 0), (29, .invokevirtual 165, 32, 66, 1, 0, 0), (32, .iconst 3, 33, 0, 0, 3, 0), (33, .iadd, 34, 0, 0, 0, 0), (34, .putfield 116, 37, 10, 14, 0, 642), (37, .aload_n 0, 38, 0, 0, 0, 0), (38, .getfield 116, 41, 10, 14, 0, 642), (41, .iconst 3, 42, 0, 0, 3, 0), (42, .isub, 43, 0, 0, 0, 0), (43, .ireturn, 44, 0, 0, 0, 0)]
/-- T_replay -/
def pg_L92 : List (Nat × am_I) := [(0, .aload_n 0, 1, 0, 0, 0, 0), (1, .invokevirtual 162, 4, 67, 0, 0, 0), (4, .iconst 0, 5, 0, 0, 0, 0), (5, .istore_n 2, 6, 2, 0, 0, 0), (6, .iconst 0, 7, 0, 0, 0, 0), (7, .istore_n 3, 8, 3, 0, 0, 0), (8, .aload_n 0, 9, 0, 0, 0, 0), (9, .getfield 143, 12, 10, 18, 0, 646), (12, .istore 4, 14, 4, 0, 0, 0), (14, .iload_n 3, 15, 3, 0, 0, 0), (15, .aload_n 0, 16, 0, 0, 0, 0), (16, .getfield 149, 19, 10, 20, 0, 648), (19, .if_icmp .ge 213, 22, 232, 0, 0, 0), (22, .aload_n 0, 23, 0, 0, 0, 0), (23, .iload_n 3, 24, 3, 0, 0, 0), (24, .iconst 1, 25, 0, 0, 1, 0), (25, .invokevirtual 137, 28, 68, 2, 0, 0), (28, .iconst 1, 29, 0, 0, 1, 0), (29, .if_icmp .ne 175, 32, 204, 0, 0, 0), (32, .aload_n 0, 33, 0, 0, 0, 0), (33, .iload_n 3, 34, 3, 0, 0, 0), (34, .iconst 3, 35, 0, 0, 3, 0), (35, .invokevirtual 137, 38, 68, 2, 0, 0), (38, .istore 5, 40, 5, 0, 0, 0), (40, .iconst 0, 41, 0, 0, 0, 0), (41, .istore 6, 43, 6, 0, 0, 0), (43, .iload 6, 45, 6, 0, 0, 0), (45, .iload 5, 47, 5, 0, 0, 0), (47, .bipush 7, 49, 0, 0, 7, 0), (49, .iand, 50, 0, 0, 0, 0), (50, .if_icmp .ge 141, 53, 191, 0, 0, 0), (53, .iload 5, 55, 5, 0, 0, 0), (55, .iconst 3, 56, 0, 0, 3, 0), (56, .iconst 5, 57, 0, 0, 5, 0), (57, .iload 6, 59, 6, 0, 0, 0), (59, .imul, 60, 0, 0, 0, 0), (60, .iadd, 61, 0, 0, 0, 0), (61, .iushr, 62, 0, 0, 0, 0), (62, .bipush 15, 64, 0, 0, 15, 0), (64, .iand, 65, 0, 0, 0, 0), (65, .istore 7, 67, 7, 0, 0, 0), (67, .aload_n 0, 68, 0, 0, 0, 0), (68, .getfield 46, 71, 10, 22, 1, 650), (71, .iload 7, 73, 7, 0, 0, 0), (73, .baload, 74, 0, 0, 0, 0), (74, .ifCond .eq 15, 77, 89, 0, 0, 0), (77, .aload_n 0, 78, 0, 0, 0, 0), (78, .getfield 43, 81, 10, 21, 1, 649), (81, .iload 7, 83, 7, 0, 0, 0), (83, .iaload, 84, 0, 0, 0, 0), (84, .iload 4, 86, 4, 0, 0, 0), (86, .if_icmp .gt 99, 89, 185, 0, 0, 0), (89, .iload_n 2, 90, 2, 0, 0, 0), (90, .iload_n 1, 91, 1, 0, 0, 0), (91, .if_icmp .ne 90, 94, 181, 0, 0, 0), (94, .iload 5, 96, 5, 0, 0, 0), (96, .bipush 7, 98, 0, 0, 7, 0), (98, .iconst 5, 99, 0, 0, 5, 0), (99, .iload 6, 101, 6, 0, 0, 0), (101, .imul, 102, 0, 0, 0, 0), (102, .iadd, 103, 0, 0, 0, 0), (103, .iushr, 104, 0, 0, 0, 0), (104, .iconst 1, 105, 0, 0, 1, 0), (105, .iand, 106, 0, 0, 0, 0), (106, .iconst 1, 107, 0, 0, 1, 0), (107, .if_icmp .ne 7, 110, 114, 0, 0, 0), (110, .iconst 1, 111, 0, 0, 1, 0), (111, .goto 4, 114, 115, 0, 0, 0), (114, .iconst 0, 115, 0, 0, 0, 0), (115, .istore 8, 117, 8, 0, 0, 0), (117, .aload_n 0, 118, 0, 0, 0, 0), (118, .iload 8, 120, 8, 0, 0, 0), (120, .ifCond .eq 8, 123, 128, 0, 0, 0), (123, .ldc 49, 125, 0, 0, 77001, 627), (125, .goto 14, 128, 139, 0, 0, 0), (128, .aload_n 0, 129, 0, 0, 0, 0), (129, .iload_n 3, 130, 3, 0, 0, 0), (130, .iconst 1, 131, 0, 0, 1, 0), (131, .iadd, 132, 0, 0, 0, 0), (132, .iload 6, 134, 6, 0, 0, 0), (134, .iadd, 135, 0, 0, 0, 0), (135, .iconst 0, 136, 0, 0, 0, 0), (136, .invokevirtual 137, 139, 68, 2, 0, 0), (139, .aload_n 0, 140, 0, 0, 0, 0), (140, .iload_n 3, 141, 3, 0, 0, 0), (141, .iconst 1, 142, 0, 0, 1, 0), (142, .iadd, 143, 0, 0, 0, 0), (143, .iload 6, 145, 6, 0, 0, 0), (145, .iadd, 146, 0, 0, 0, 0), (146, .iconst 1, 147, 0, 0, 1, 0), (147, .invokevirtual 137, 150, 68, 2, 0, 0), (150, .aload_n 0, 151, 0, 0, 0, 0), (151, .iload_n 3, 152, 3, 0, 0, 0), (152, .iconst 1, 153, 0, 0, 1, 0), (153, .iadd, 154, 0, 0, 0, 0), (154, .iload 6, 156, 6, 0, 0, 0), (156, .iadd, 157, 0, 0, 0, 0), (157, .iconst 2, 158, 0, 0, 2, 0), (158, .invokevirtual 137, 161, 68, 2, 0, 0), (161, .aload_n 0, 162, 0, 0, 0, 0), (162, .iload_n 3, 163, 3, 0, 0, 0), (163, .iconst 1, 164, 0, 0, 1, 0), (164, .iadd, 165, 0, 0, 0, 0), (165, .iload 6, 167, 6, 0, 0, 0), (167, .iadd, 168, 0, 0, 0, 0), (168, .iconst 3, 169, 0, 0, 3, 0), (169, .invokevirtual 137, 172, 68, 2, 0, 0), (172, .invokevirtual 94, 175, 69, 4, 0, 0), (175, .aload_n 0, 176, 0, 0, 0, 0), (176, .iload 7, 178, 7, 0, 0, 0), (178, .putfield 131, 181, 10, 16, 0, 644), (181, .iload_n 2, 182, 2, 0, 0, 0), (182, .iconst 1, 183, 0, 0, 1, 0), (183, .iadd, 184, 0, 0, 0, 0), (184, .istore_n 2, 185, 2, 0, 0, 0), (185, .iinc 6 1, 188, 6, 0, 1, 0), (188, .goto (-145), 191, 43, 0, 0, 0), (191, .iload_n 3, 192, 3, 0, 0, 0), (192, .iconst 1, 193, 0, 0, 1, 0), (193, .iadd, 194, 0, 0, 0, 0), (194, .iload 5, 196, 5, 0, 0, 0), (196, .bipush 7, 198, 0, 0, 7, 0), (198, .iand, 199, 0, 0, 0, 0), (199, .iadd, 200, 0, 0, 0, 0), (200, .istore_n 3, 201, 3, 0, 0, 0), (201, .goto (-187), 204, 14, 0, 0, 0), (204, .aload_n 0, 205, 0, 0, 0, 0), (205, .iload_n 3, 206, 3, 0, 0, 0), (206, .iconst 1, 207, 0, 0, 1, 0), (207, .invokevirtual 137, 210, 68, 2, 0, 0), (210, .iconst 3, 211, 0, 0, 3, 0), (211, .if_icmp .ne 10, 214, 221, 0, 0, 0), (214, .iload 4, 216, 4, 0, 0, 0), (216, .iconst 1, 217, 0, 0, 1, 0), (217, .iadd, 218, 0, 0, 0, 0), (218, .goto 5, 221, 223, 0, 0, 0), (221, .iload 4, 223, 4, 0, 0, 0), (223, .istore 4, 225, 4, 0, 0, 0), (225, .iload_n 3, 226, 3, 0, 0, 0), (226, .iconst 1, 227, 0, 0, 1, 0), (227, .iadd, 228, 0, 0, 0, 0), (228, .istore_n 3, 229, 3, 0, 0, 0), (229, .goto (-215), 232, 14, 0, 0, 0), (232, .iload_n 2, 233, 2, 0, 0, 0), (233, .ireturn, 234, 0, 0, 0, 0)]
/-- T_findRevocations -/
def pg_L93 : List (Nat × am_I) := [(0, .aload_n 0, 1, 0, 0, 0, 0), (1, .invokevirtual 146, 4, 70, 0, 0, 0), (4, .iconst 0, 5, 0, 0, 0, 0), (5, .istore_n 1, 6, 1, 0, 0, 0), (6, .iload_n 1, 7, 1, 0, 0, 0), (7, .bipush 16, 9, 0, 0, 16, 0), (9, .if_icmp .ge 16, 12, 25, 0, 0, 0), (12, .aload_n 0, 13, 0, 0, 0, 0), (13, .getfield 46, 16, 10, 22, 1, 650), (16, .iload_n 1, 17, 1, 0, 0, 0), (17, .iconst 0, 18, 0, 0, 0, 0), (18, .bastore, 19, 0, 0, 0, 0), (19, .iinc 1 1, 22, 1, 0, 1, 0), (22, .goto (-16), 25, 6, 0, 0, 0), (25, .aload_n 0, 26, 0, 0, 0, 0), (26, .iconst 0, 27, 0, 0, 0, 0), (27, .putfield 149, 30, 10, 20, 0, 648), (30, .aload_n 0, 31, 0, 0, 0, 0), (31, .aload_n 0, 32, 0, 0, 0, 0), (32, .getfield 143, 35, 10, 18, 0, 646), (35, .putfield 152, 38, 10, 19, 0, 647), (38, .aload_n 0, 39, 0, 0, 0, 0), (39, .iconst 0, 40, 0, 0, 0, 0), (40, .aload_n 0, 41, 0, 0, 0, 0), (41, .getfield 152, 44, 10, 19, 0, 647), (44, .invokevirtual 155, 47, 71, 2, 0, 0), (47, .istore_n 1, 48, 1, 0, 0, 0), (48, .iload_n 1, 49, 1, 0, 0, 0), (49, .ifCond .le 159, 52, 208, 0, 0, 0), (52, .aload_n 0, 53, 0, 0, 0, 0), (53, .getfield 149, 56, 10, 20, 0, 648), (56, .iload_n 1, 57, 1, 0, 0, 0), (57, .iadd, 58, 0, 0, 0, 0), (58, .iconst 2, 59, 0, 0, 2, 0), (59, .isub, 60, 0, 0, 0, 0), (60, .istore_n 2, 61, 2, 0, 0, 0), (61, .iload_n 1, 62, 1, 0, 0, 0), (62, .iconst 1, 63, 0, 0, 1, 0), (63, .if_icmp .le 53, 66, 116, 0, 0, 0), (66, .aload_n 0, 67, 0, 0, 0, 0), (67, .iload_n 2, 68, 2, 0, 0, 0), (68, .iconst 0, 69, 0, 0, 0, 0), (69, .invokevirtual 137, 72, 68, 2, 0, 0), (72, .ldc 49, 74, 0, 0, 77001, 627), (74, .if_icmp .ne 42, 77, 116, 0, 0, 0), (77, .aload_n 0, 78, 0, 0, 0, 0), (78, .iload_n 2, 79, 2, 0, 0, 0), (79, .iconst 1, 80, 0, 0, 1, 0), (80, .invokevirtual 137, 83, 68, 2, 0, 0), (83, .iconst 2, 84, 0, 0, 2, 0), (84, .if_icmp .ne 32, 87, 116, 0, 0, 0), (87, .aload_n 0, 88, 0, 0, 0, 0), (88, .iload_n 2, 89, 2, 0, 0, 0), (89, .iconst 2, 90, 0, 0, 2, 0), (90, .invokevirtual 137, 93, 68, 2, 0, 0), (93, .aload_n 0, 94, 0, 0, 0, 0), (94, .getfield 152, 97, 10, 19, 0, 647), (97, .if_icmp .ne 19, 100, 116, 0, 0, 0), (100, .aload_n 0, 101, 0, 0, 0, 0), (101, .aload_n 0, 102, 0, 0, 0, 0), (102, .getfield 149, 105, 10, 20, 0, 648), (105, .iload_n 2, 106, 2, 0, 0, 0), (106, .invokevirtual 158, 109, 72, 2, 0, 0), (109, .ifCond .eq 7, 112, 116, 0, 0, 0), (112, .iconst 1, 113, 0, 0, 1, 0), (113, .goto 4, 116, 117, 0, 0, 0), (116, .iconst 0, 117, 0, 0, 0, 0), (117, .istore_n 3, 118, 3, 0, 0, 0), (118, .iconst 0, 119, 0, 0, 0, 0), (119, .istore 4, 121, 4, 0, 0, 0), (121, .iload 4, 123, 4, 0, 0, 0), (123, .bipush 16, 125, 0, 0, 16, 0), (125, .if_icmp .ge 47, 128, 172, 0, 0, 0), (128, .iload_n 3, 129, 3, 0, 0, 0), (129, .ifCond .eq 43, 132, 172, 0, 0, 0), (132, .aload_n 0, 133, 0, 0, 0, 0), (133, .iload_n 2, 134, 2, 0, 0, 0), (134, .iconst 3, 135, 0, 0, 3, 0), (135, .invokevirtual 137, 138, 68, 2, 0, 0), (138, .iload 4, 140, 4, 0, 0, 0), (140, .ishr, 141, 0, 0, 0, 0), (141, .iconst 1, 142, 0, 0, 1, 0), (142, .iand, 143, 0, 0, 0, 0), (143, .iconst 1, 144, 0, 0, 1, 0), (144, .if_icmp .ne 22, 147, 166, 0, 0, 0), (147, .aload_n 0, 148, 0, 0, 0, 0), (148, .getfield 46, 151, 10, 22, 1, 650), (151, .iload 4, 153, 4, 0, 0, 0), (153, .iconst 1, 154, 0, 0, 1, 0), (154, .bastore, 155, 0, 0, 0, 0), (155, .aload_n 0, 156, 0, 0, 0, 0), (156, .getfield 43, 159, 10, 21, 1, 649), (159, .iload 4, 161, 4, 0, 0, 0), (161, .aload_n 0, 162, 0, 0, 0, 0), (162, .getfield 152, 165, 10, 19, 0, 647), (165, .iastore, 166, 0, 0, 0, 0), (166, .iinc 4 1, 169, 4, 0, 1, 0), (169, .goto (-48), 172, 121, 0, 0, 0), (172, .aload_n 0, 173, 0, 0, 0, 0), (173, .aload_n 0, 174, 0, 0, 0, 0), (174, .getfield 149, 177, 10, 20, 0, 648), (177, .iload_n 1, 178, 1, 0, 0, 0), (178, .iadd, 179, 0, 0, 0, 0), (179, .putfield 149, 182, 10, 20, 0, 648), (182, .aload_n 0, 183, 0, 0, 0, 0), (183, .aload_n 0, 184, 0, 0, 0, 0), (184, .getfield 152, 187, 10, 19, 0, 647), (187, .iconst 1, 188, 0, 0, 1, 0), (188, .iadd, 189, 0, 0, 0, 0), (189, .putfield 152, 192, 10, 19, 0, 647), (192, .aload_n 0, 193, 0, 0, 0, 0), (193, .aload_n 0, 194, 0, 0, 0, 0), (194, .getfield 149, 197, 10, 20, 0, 648), (197, .aload_n 0, 198, 0, 0, 0, 0), (198, .getfield 152, 201, 10, 19, 0, 647), (201, .invokevirtual 155, 204, 71, 2, 0, 0), (204, .istore_n 1, 205, 1, 0, 0, 0), (205, .goto (-157), 208, 48, 0, 0, 0), (208, .return_, 209, 0, 0, 0, 0)]
/-- T_findHead -/
def pg_L94 : List (Nat × am_I) := [(0, .aload_n 0, 1, 0, 0, 0, 0), (1, .bipush 16, 3, 0, 0, 16, 0), (3, .iconst 0, 4, 0, 0, 0, 0), (4, .invokevirtual 65, 7, 59, 2, 0, 0), (7, .ldc 49, 9, 0, 0, 77001, 627), (9, .if_icmp .ne 29, 12, 38, 0, 0, 0), (12, .aload_n 0, 13, 0, 0, 0, 0), (13, .bipush 16, 15, 0, 0, 16, 0), (15, .iconst 2, 16, 0, 0, 2, 0), (16, .invokevirtual 65, 19, 59, 2, 0, 0), (19, .ifCond .lt 19, 22, 38, 0, 0, 0), (22, .aload_n 0, 23, 0, 0, 0, 0), (23, .bipush 16, 25, 0, 0, 16, 0), (25, .iconst 2, 26, 0, 0, 2, 0), (26, .invokevirtual 65, 29, 59, 2, 0, 0), (29, .bipush 23, 31, 0, 0, 23, 0), (31, .if_icmp .gt 7, 34, 38, 0, 0, 0), (34, .iconst 1, 35, 0, 0, 1, 0), (35, .goto 4, 38, 39, 0, 0, 0), (38, .iconst 0, 39, 0, 0, 0, 0), (39, .istore_n 1, 40, 1, 0, 0, 0), (40, .aload_n 0, 41, 0, 0, 0, 0), (41, .iload_n 1, 42, 1, 0, 0, 0), (42, .ifCond .eq 13, 45, 55, 0, 0, 0), (45, .aload_n 0, 46, 0, 0, 0, 0), (46, .bipush 16, 48, 0, 0, 16, 0), (48, .iconst 2, 49, 0, 0, 2, 0), (49, .invokevirtual 65, 52, 59, 2, 0, 0), (52, .goto 4, 55, 56, 0, 0, 0), (55, .iconst 0, 56, 0, 0, 0, 0), (56, .putfield 134, 59, 10, 17, 0, 645), (59, .aload_n 0, 60, 0, 0, 0, 0), (60, .iload_n 1, 61, 1, 0, 0, 0), (61, .ifCond .eq 13, 64, 74, 0, 0, 0), (64, .aload_n 0, 65, 0, 0, 0, 0), (65, .bipush 16, 67, 0, 0, 16, 0), (67, .iconst 1, 68, 0, 0, 1, 0), (68, .invokevirtual 65, 71, 59, 2, 0, 0), (71, .goto 4, 74, 75, 0, 0, 0), (74, .iconst 1, 75, 0, 0, 1, 0), (75, .putfield 143, 78, 10, 18, 0, 646), (78, .return_, 79, 0, 0, 0, 0)]
/-- T_validAt -/
def pg_L95 : List (Nat × am_I) := [(0, .iload_n 2, 1, 2, 0, 0, 0), (1, .istore_n 3, 2, 3, 0, 0, 0), (2, .iload_n 1, 3, 1, 0, 0, 0), (3, .istore 4, 5, 4, 0, 0, 0), (5, .iconst 1, 6, 0, 0, 1, 0), (6, .istore 5, 8, 5, 0, 0, 0), (8, .iload 4, 10, 4, 0, 0, 0), (10, .bipush 24, 12, 0, 0, 24, 0), (12, .if_icmp .ge 189, 15, 201, 0, 0, 0), (15, .aload_n 0, 16, 0, 0, 0, 0), (16, .iload 4, 18, 4, 0, 0, 0), (18, .iconst 0, 19, 0, 0, 0, 0), (19, .invokevirtual 137, 22, 68, 2, 0, 0), (22, .ldc 49, 24, 0, 0, 77001, 627), (24, .if_icmp .ne 177, 27, 201, 0, 0, 0), (27, .aload_n 0, 28, 0, 0, 0, 0), (28, .iload 4, 30, 4, 0, 0, 0), (30, .iconst 2, 31, 0, 0, 2, 0), (31, .invokevirtual 137, 34, 68, 2, 0, 0), (34, .iload_n 2, 35, 2, 0, 0, 0), (35, .if_icmp .ne 166, 38, 201, 0, 0, 0), (38, .aload_n 0, 39, 0, 0, 0, 0), (39, .iload 4, 41, 4, 0, 0, 0), (41, .iconst 1, 42, 0, 0, 1, 0), (42, .invokevirtual 137, 45, 68, 2, 0, 0), (45, .istore 6, 47, 6, 0, 0, 0), (47, .aload_n 0, 48, 0, 0, 0, 0), (48, .iload 4, 50, 4, 0, 0, 0), (50, .iconst 3, 51, 0, 0, 3, 0), (51, .invokevirtual 137, 54, 68, 2, 0, 0), (54, .bipush 7, 56, 0, 0, 7, 0), (56, .iand, 57, 0, 0, 0, 0), (57, .istore 7, 59, 7, 0, 0, 0), (59, .iload 6, 61, 6, 0, 0, 0), (61, .iconst 3, 62, 0, 0, 3, 0), (62, .if_icmp .ne 25, 65, 87, 0, 0, 0), (65, .aload_n 0, 66, 0, 0, 0, 0), (66, .iload 4, 68, 4, 0, 0, 0), (68, .iconst 3, 69, 0, 0, 3, 0), (69, .invokevirtual 137, 72, 68, 2, 0, 0), (72, .iload_n 3, 73, 3, 0, 0, 0), (73, .if_icmp .ne 12, 76, 85, 0, 0, 0), (76, .iload 4, 78, 4, 0, 0, 0), (78, .iconst 1, 79, 0, 0, 1, 0), (79, .iadd, 80, 0, 0, 0, 0), (80, .iload_n 1, 81, 1, 0, 0, 0), (81, .isub, 82, 0, 0, 0, 0), (82, .goto 4, 85, 86, 0, 0, 0), (85, .iconst 0, 86, 0, 0, 0, 0), (86, .ireturn, 87, 0, 0, 0, 0), (87, .iload 6, 89, 6, 0, 0, 0), (89, .iconst 1, 90, 0, 0, 1, 0), (90, .if_icmp .ne 34, 93, 124, 0, 0, 0), (93, .iload 5, 95, 5, 0, 0, 0), (95, .ifCond .eq 29, 98, 124, 0, 0, 0), (98, .iload 7, 100, 7, 0, 0, 0), (100, .iconst 1, 101, 0, 0, 1, 0), (101, .if_icmp .lt 23, 104, 124, 0, 0, 0), (104, .iload 7, 106, 7, 0, 0, 0), (106, .iconst 4, 107, 0, 0, 4, 0), (107, .if_icmp .gt 17, 110, 124, 0, 0, 0), (110, .iload 4, 112, 4, 0, 0, 0), (112, .iload 7, 114, 7, 0, 0, 0), (114, .iadd, 115, 0, 0, 0, 0), (115, .bipush 24, 117, 0, 0, 24, 0), (117, .if_icmp .ge 7, 120, 124, 0, 0, 0), (120, .iconst 1, 121, 0, 0, 1, 0), (121, .goto 4, 124, 125, 0, 0, 0), (124, .iconst 0, 125, 0, 0, 0, 0), (125, .istore 8, 127, 8, 0, 0, 0), (127, .iload 8, 129, 8, 0, 0, 0), (129, .ifCond .ne 16, 132, 145, 0, 0, 0), (132, .iload 6, 134, 6, 0, 0, 0), (134, .iconst 2, 135, 0, 0, 2, 0), (135, .if_icmp .ne 8, 138, 143, 0, 0, 0), (138, .iload 5, 140, 5, 0, 0, 0), (140, .ifCond .ne 5, 143, 145, 0, 0, 0), (143, .iconst 0, 144, 0, 0, 0, 0), (144, .ireturn, 145, 0, 0, 0, 0), (145, .iload 8, 147, 8, 0, 0, 0), (147, .ifCond .eq 10, 150, 157, 0, 0, 0), (150, .iconst 1, 151, 0, 0, 1, 0), (151, .iload 7, 153, 7, 0, 0, 0), (153, .iadd, 154, 0, 0, 0, 0), (154, .goto 4, 157, 158, 0, 0, 0), (157, .iconst 1, 158, 0, 0, 1, 0), (158, .istore 9, 160, 9, 0, 0, 0), (160, .iconst 0, 161, 0, 0, 0, 0), (161, .istore 10, 163, 10, 0, 0, 0), (163, .iload 10, 165, 10, 0, 0, 0), (165, .iload 9, 167, 9, 0, 0, 0), (167, .if_icmp .ge 20, 170, 187, 0, 0, 0), (170, .aload_n 0, 171, 0, 0, 0, 0), (171, .iload_n 3, 172, 3, 0, 0, 0), (172, .iload 4, 174, 4, 0, 0, 0), (174, .iload 10, 176, 10, 0, 0, 0), (176, .iadd, 177, 0, 0, 0, 0), (177, .invokevirtual 140, 180, 73, 2, 0, 0), (180, .istore_n 3, 181, 3, 0, 0, 0), (181, .iinc 10 1, 184, 10, 0, 1, 0), (184, .goto (-21), 187, 163, 0, 0, 0), (187, .iload 4, 189, 4, 0, 0, 0), (189, .iload 9, 191, 9, 0, 0, 0), (191, .iadd, 192, 0, 0, 0, 0), (192, .istore 4, 194, 4, 0, 0, 0), (194, .iload 8, 196, 8, 0, 0, 0), (196, .istore 5, 198, 5, 0, 0, 0), (198, .goto (-190), 201, 8, 0, 0, 0), (201, .iconst 0, 202, 0, 0, 0, 0), (202, .ireturn, 203, 0, 0, 0, 0)]
/-- T_logWord -/
def pg_L96 : List (Nat × am_I) := [(0, .aload_n 0, 1, 0, 0, 0, 0), (1, .bipush 17, 3, 0, 0, 17, 0), (3, .aload_n 0, 4, 0, 0, 0, 0), (4, .getfield 134, 7, 10, 17, 0, 645), (7, .iload_n 1, 8, 1, 0, 0, 0), (8, .iadd, 9, 0, 0, 0, 0), (9, .bipush 24, 11, 0, 0, 24, 0), (11, .irem, 12, 0, 0, 0, 0), (12, .iadd, 13, 0, 0, 0, 0), (13, .iload_n 2, 14, 2, 0, 0, 0), (14, .invokevirtual 65, 17, 59, 2, 0, 0), (17, .ireturn, 18, 0, 0, 0, 0)]
/-- T_mixSector -/
def pg_L97 : List (Nat × am_I) := [(0, .iload_n 1, 1, 1, 0, 0, 0), (1, .istore_n 3, 2, 3, 0, 0, 0), (2, .iconst 0, 3, 0, 0, 0, 0), (3, .istore 4, 5, 4, 0, 0, 0), (5, .iload 4, 7, 4, 0, 0, 0), (7, .iconst 4, 8, 0, 0, 4, 0), (8, .if_icmp .ge 21, 11, 29, 0, 0, 0), (11, .iload_n 3, 12, 3, 0, 0, 0), (12, .aload_n 0, 13, 0, 0, 0, 0), (13, .iload_n 2, 14, 2, 0, 0, 0), (14, .iload 4, 16, 4, 0, 0, 0), (16, .invokevirtual 137, 19, 68, 2, 0, 0), (19, .invokestatic 104, 22, 98, 2, 0, 795), (22, .istore_n 3, 23, 3, 0, 0, 0), (23, .iinc 4 1, 26, 4, 0, 1, 0), (26, .goto (-21), 29, 5, 0, 0, 0), (29, .iload_n 3, 30, 3, 0, 0, 0), (30, .ireturn, 31, 0, 0, 0, 0)]
/-- T_mix -/
def pg_L98 : List (Nat × am_I) := [(0, .iload_n 0, 1, 0, 0, 0, 0), (1, .iload_n 1, 2, 1, 0, 0, 0), (2, .ixor, 3, 0, 0, 0, 0), (3, .ldc 57, 5, 0, 0, 40503, 798), (5, .imul, 6, 0, 0, 0, 0), (6, .bipush 7, 8, 0, 0, 7, 0), (8, .iadd, 9, 0, 0, 0, 0), (9, .istore_n 2, 10, 2, 0, 0, 0), (10, .iload_n 2, 11, 2, 0, 0, 0), (11, .iload_n 2, 12, 2, 0, 0, 0), (12, .bipush 15, 14, 0, 0, 15, 0), (14, .iushr, 15, 0, 0, 0, 0), (15, .ixor, 16, 0, 0, 0, 0), (16, .ireturn, 17, 0, 0, 0, 0)]
/-- T_isRevocation -/
def pg_L99 : List (Nat × am_I) := [(0, .iload_n 1, 1, 1, 0, 0, 0), (1, .istore_n 3, 2, 3, 0, 0, 0), (2, .iload_n 3, 3, 3, 0, 0, 0), (3, .iload_n 2, 4, 2, 0, 0, 0), (4, .if_icmp .ge 30, 7, 34, 0, 0, 0), (7, .aload_n 0, 8, 0, 0, 0, 0), (8, .iload_n 3, 9, 3, 0, 0, 0), (9, .iconst 1, 10, 0, 0, 1, 0), (10, .invokevirtual 137, 13, 68, 2, 0, 0), (13, .iconst 1, 14, 0, 0, 1, 0), (14, .if_icmp .ne 20, 17, 34, 0, 0, 0), (17, .iload_n 3, 18, 3, 0, 0, 0), (18, .iconst 1, 19, 0, 0, 1, 0), (19, .iadd, 20, 0, 0, 0, 0), (20, .aload_n 0, 21, 0, 0, 0, 0), (21, .iload_n 3, 22, 3, 0, 0, 0), (22, .iconst 3, 23, 0, 0, 3, 0), (23, .invokevirtual 137, 26, 68, 2, 0, 0), (26, .bipush 7, 28, 0, 0, 7, 0), (28, .iand, 29, 0, 0, 0, 0), (29, .iadd, 30, 0, 0, 0, 0), (30, .istore_n 3, 31, 3, 0, 0, 0), (31, .goto (-29), 34, 2, 0, 0, 0), (34, .iload_n 3, 35, 3, 0, 0, 0), (35, .iload_n 2, 36, 2, 0, 0, 0), (36, .if_icmp .ne 7, 39, 43, 0, 0, 0), (39, .iconst 1, 40, 0, 0, 1, 0), (40, .goto 4, 43, 44, 0, 0, 0), (43, .iconst 0, 44, 0, 0, 0, 0), (44, .ireturn, 45, 0, 0, 0, 0)]
/-- T_say -/
def pg_L100 : List (Nat × am_I) := [(0, .aload_n 0, 1, 0, 0, 0, 0), (1, .getfield 40, 4, 10, 15, 1, 643), (4, .iconst 0, 5, 0, 0, 0, 0), (5, .iload_n 1, 6, 1, 0, 0, 0), (6, .iastore, 7, 0, 0, 0, 0), (7, .aload_n 0, 8, 0, 0, 0, 0), (8, .getfield 40, 11, 10, 15, 1, 643), (11, .iconst 1, 12, 0, 0, 1, 0), (12, .iload_n 2, 13, 2, 0, 0, 0), (13, .iastore, 14, 0, 0, 0, 0), (14, .aload_n 0, 15, 0, 0, 0, 0), (15, .getfield 40, 18, 10, 15, 1, 643), (18, .iconst 2, 19, 0, 0, 2, 0), (19, .iload_n 3, 20, 3, 0, 0, 0), (20, .iastore, 21, 0, 0, 0, 0), (21, .aload_n 0, 22, 0, 0, 0, 0), (22, .getfield 40, 25, 10, 15, 1, 643), (25, .iconst 3, 26, 0, 0, 3, 0), (26, .iload 4, 28, 4, 0, 0, 0), (28, .iastore, 29, 0, 0, 0, 0), (29, .return_, 30, 0, 0, 0, 0)]
/-- T_step -/
def pg_L101 : List (Nat × am_I) := [(0, .aload_n 0, 1, 0, 0, 0, 0), (1, .getfield 69, 4, 10, 12, 0, 640), (4, .ifCond .eq 14, 7, 18, 0, 0, 0), (7, .iload_n 1, 8, 1, 0, 0, 0), (8, .iconst 1, 9, 0, 0, 1, 0), (9, .if_icmp .lt 9, 12, 18, 0, 0, 0), (12, .iload_n 1, 13, 1, 0, 0, 0), (13, .bipush 10, 15, 0, 0, 10, 0), (15, .if_icmp .le 5, 18, 20, 0, 0, 0), (18, .iconst (-1), 19, 0, 0, (-1), 0), (19, .ireturn, 20, 0, 0, 0, 0), (20, .iconst 0, 21, 0, 0, 0, 0), (21, .istore_n 2, 22, 2, 0, 0, 0), (22, .iload_n 2, 23, 2, 0, 0, 0), (23, .iload_n 1, 24, 1, 0, 0, 0), (24, .if_icmp .ge 88, 27, 112, 0, 0, 0), (27, .aload_n 0, 28, 0, 0, 0, 0), (28, .getfield 69, 31, 10, 12, 0, 640), (31, .ifCond .eq 81, 34, 112, 0, 0, 0), (34, .aload_n 0, 35, 0, 0, 0, 0), (35, .getfield 69, 38, 10, 12, 0, 640), (38, .iconst 2, 39, 0, 0, 2, 0), (39, .if_icmp .ne 14, 42, 53, 0, 0, 0), (42, .aload_n 0, 43, 0, 0, 0, 0), (43, .aload_n 0, 44, 0, 0, 0, 0), (44, .getfield 113, 47, 10, 13, 0, 641), (47, .invokevirtual 177, 50, 74, 1, 0, 0), (50, .goto 30, 53, 80, 0, 0, 0), (53, .aload_n 0, 54, 0, 0, 0, 0), (54, .getfield 69, 57, 10, 12, 0, 640), (57, .iconst 3, 58, 0, 0, 3, 0), (58, .if_icmp .ne 14, 61, 72, 0, 0, 0), (61, .aload_n 0, 62, 0, 0, 0, 0), (62, .aload_n 0, 63, 0, 0, 0, 0), (63, .getfield 113, 66, 10, 13, 0, 641), (66, .invokevirtual 180, 69, 75, 1, 0, 0), (69, .goto 11, 72, 80, 0, 0, 0), (72, .aload_n 0, 73, 0, 0, 0, 0), (73, .aload_n 0, 74, 0, 0, 0, 0), (74, .getfield 113, 77, 10, 13, 0, 641), (77, .invokevirtual 183, 80, 76, 1, 0, 0), (80, .aload_n 0, 81, 0, 0, 0, 0), (81, .aload_n 0, 82, 0, 0, 0, 0), (82, .getfield 113, 85, 10, 13, 0, 641), (85, .iconst 1, 86, 0, 0, 1, 0), (86, .iadd, 87, 0, 0, 0, 0), (87, .putfield 113, 90, 10, 13, 0, 641), (90, .iload_n 2, 91, 2, 0, 0, 0), (91, .iconst 1, 92, 0, 0, 1, 0), (92, .iadd, 93, 0, 0, 0, 0), (93, .istore_n 2, 94, 2, 0, 0, 0), (94, .aload_n 0, 95, 0, 0, 0, 0), (95, .getfield 113, 98, 10, 13, 0, 641), (98, .aload_n 0, 99, 0, 0, 0, 0), (99, .getfield 116, 102, 10, 14, 0, 642), (102, .if_icmp .ne (-80), 105, 22, 0, 0, 0), (105, .aload_n 0, 106, 0, 0, 0, 0), (106, .invokevirtual 186, 109, 77, 0, 0, 0), (109, .goto (-87), 112, 22, 0, 0, 0), (112, .iload_n 2, 113, 2, 0, 0, 0), (113, .ireturn, 114, 0, 0, 0, 0)]
/-- T_commitAction -/
def pg_L102 : List (Nat × am_I) := [(0, .aload_n 0, 1, 0, 0, 0, 0), (1, .getfield 116, 4, 10, 14, 0, 642), (4, .iconst 2, 5, 0, 0, 2, 0), (5, .isub, 6, 0, 0, 0, 0), (6, .istore_n 2, 7, 2, 0, 0, 0), (7, .iload_n 1, 8, 1, 0, 0, 0), (8, .iload_n 2, 9, 2, 0, 0, 0), (9, .iconst 1, 10, 0, 0, 1, 0), (10, .isub, 11, 0, 0, 0, 0), (11, .if_icmp .ge 27, 14, 38, 0, 0, 0), (14, .aload_n 0, 15, 0, 0, 0, 0), (15, .iload_n 1, 16, 1, 0, 0, 0), (16, .invokevirtual 101, 19, 78, 1, 0, 0), (19, .aload_n 0, 20, 0, 0, 0, 0), (20, .bipush 17, 22, 0, 0, 17, 0), (22, .aload_n 0, 23, 0, 0, 0, 0), (23, .getfield 119, 26, 10, 6, 0, 634), (26, .iload_n 1, 27, 1, 0, 0, 0), (27, .iadd, 28, 0, 0, 0, 0), (28, .bipush 24, 30, 0, 0, 24, 0), (30, .irem, 31, 0, 0, 0, 0), (31, .iadd, 32, 0, 0, 0, 0), (32, .invokevirtual 83, 35, 63, 1, 0, 0), (35, .goto 53, 38, 88, 0, 0, 0), (38, .iload_n 1, 39, 1, 0, 0, 0), (39, .iload_n 2, 40, 2, 0, 0, 0), (40, .if_icmp .ne 44, 43, 84, 0, 0, 0), (43, .aload_n 0, 44, 0, 0, 0, 0), (44, .iload_n 2, 45, 2, 0, 0, 0), (45, .iconst 1, 46, 0, 0, 1, 0), (46, .isub, 47, 0, 0, 0, 0), (47, .invokevirtual 122, 50, 79, 1, 0, 0), (50, .istore_n 3, 51, 3, 0, 0, 0), (51, .aload_n 0, 52, 0, 0, 0, 0), (52, .ldc 49, 54, 0, 0, 77001, 627), (54, .iconst 3, 55, 0, 0, 3, 0), (55, .aload_n 0, 56, 0, 0, 0, 0), (56, .getfield 23, 59, 10, 5, 0, 633), (59, .iload_n 3, 60, 3, 0, 0, 0), (60, .invokevirtual 94, 63, 69, 4, 0, 0), (63, .aload_n 0, 64, 0, 0, 0, 0), (64, .bipush 17, 66, 0, 0, 17, 0), (66, .aload_n 0, 67, 0, 0, 0, 0), (67, .getfield 119, 70, 10, 6, 0, 634), (70, .iload_n 2, 71, 2, 0, 0, 0), (71, .iadd, 72, 0, 0, 0, 0), (72, .iconst 1, 73, 0, 0, 1, 0), (73, .isub, 74, 0, 0, 0, 0), (74, .bipush 24, 76, 0, 0, 24, 0), (76, .irem, 77, 0, 0, 0, 0), (77, .iadd, 78, 0, 0, 0, 0), (78, .invokevirtual 83, 81, 63, 1, 0, 0), (81, .goto 7, 84, 88, 0, 0, 0), (84, .aload_n 0, 85, 0, 0, 0, 0), (85, .invokevirtual 125, 88, 80, 0, 0, 0), (88, .return_, 89, 0, 0, 0, 0)]
/-- T_body -/
def pg_L103 : List (Nat × am_I) := [(0, .aload_n 0, 1, 0, 0, 0, 0), (1, .iconst 1, 2, 0, 0, 1, 0), (2, .invokevirtual 76, 5, 61, 1, 0, 0), (5, .istore_n 2, 6, 2, 0, 0, 0), (6, .iload_n 1, 7, 1, 0, 0, 0), (7, .iload_n 2, 8, 2, 0, 0, 0), (8, .iload_n 2, 9, 2, 0, 0, 0), (9, .iconst 3, 10, 0, 0, 3, 0), (10, .iadd, 11, 0, 0, 0, 0), (11, .iconst 4, 12, 0, 0, 4, 0), (12, .idiv, 13, 0, 0, 0, 0), (13, .iadd, 14, 0, 0, 0, 0), (14, .if_icmp .lt 21, 17, 35, 0, 0, 0), (17, .aload_n 0, 18, 0, 0, 0, 0), (18, .ldc 49, 20, 0, 0, 77001, 627), (20, .iconst 2, 21, 0, 0, 2, 0), (21, .aload_n 0, 22, 0, 0, 0, 0), (22, .getfield 23, 25, 10, 5, 0, 633), (25, .aload_n 0, 26, 0, 0, 0, 0), (26, .invokevirtual 90, 29, 81, 0, 0, 0), (29, .invokevirtual 94, 32, 69, 4, 0, 0), (32, .goto 116, 35, 148, 0, 0, 0), (35, .iload_n 1, 36, 1, 0, 0, 0), (36, .iconst 5, 37, 0, 0, 5, 0), (37, .irem, 38, 0, 0, 0, 0), (38, .ifCond .ne 25, 41, 63, 0, 0, 0), (41, .aload_n 0, 42, 0, 0, 0, 0), (42, .ldc 49, 44, 0, 0, 77001, 627), (44, .iconst 1, 45, 0, 0, 1, 0), (45, .aload_n 0, 46, 0, 0, 0, 0), (46, .getfield 23, 49, 10, 5, 0, 633), (49, .aload_n 0, 50, 0, 0, 0, 0), (50, .iload_n 1, 51, 1, 0, 0, 0), (51, .iconst 5, 52, 0, 0, 5, 0), (52, .idiv, 53, 0, 0, 0, 0), (53, .iload_n 2, 54, 2, 0, 0, 0), (54, .invokevirtual 98, 57, 82, 2, 0, 0), (57, .invokevirtual 94, 60, 69, 4, 0, 0), (60, .goto 88, 63, 148, 0, 0, 0), (63, .aload_n 0, 64, 0, 0, 0, 0), (64, .iload_n 1, 65, 1, 0, 0, 0), (65, .iconst 5, 66, 0, 0, 5, 0), (66, .idiv, 67, 0, 0, 0, 0), (67, .iconst 4, 68, 0, 0, 4, 0), (68, .imul, 69, 0, 0, 0, 0), (69, .iload_n 1, 70, 1, 0, 0, 0), (70, .iconst 5, 71, 0, 0, 5, 0), (71, .irem, 72, 0, 0, 0, 0), (72, .iadd, 73, 0, 0, 0, 0), (73, .iconst 1, 74, 0, 0, 1, 0), (74, .isub, 75, 0, 0, 0, 0), (75, .invokevirtual 87, 78, 83, 1, 0, 0), (78, .istore_n 3, 79, 3, 0, 0, 0), (79, .aload_n 0, 80, 0, 0, 0, 0), (80, .aload_n 0, 81, 0, 0, 0, 0), (81, .getfield 30, 84, 10, 9, 1, 637), (84, .iconst 4, 85, 0, 0, 4, 0), (85, .iload_n 3, 86, 3, 0, 0, 0), (86, .imul, 87, 0, 0, 0, 0), (87, .iaload, 88, 0, 0, 0, 0), (88, .aload_n 0, 89, 0, 0, 0, 0), (89, .getfield 30, 92, 10, 9, 1, 637), (92, .iconst 4, 93, 0, 0, 4, 0), (93, .iload_n 3, 94, 3, 0, 0, 0), (94, .imul, 95, 0, 0, 0, 0), (95, .iconst 1, 96, 0, 0, 1, 0), (96, .iadd, 97, 0, 0, 0, 0), (97, .iaload, 98, 0, 0, 0, 0), (98, .aload_n 0, 99, 0, 0, 0, 0), (99, .getfield 30, 102, 10, 9, 1, 637), (102, .iconst 4, 103, 0, 0, 4, 0), (103, .iload_n 3, 104, 3, 0, 0, 0), (104, .imul, 105, 0, 0, 0, 0), (105, .iconst 2, 106, 0, 0, 2, 0), (106, .iadd, 107, 0, 0, 0, 0), (107, .iaload, 108, 0, 0, 0, 0), (108, .aload_n 0, 109, 0, 0, 0, 0), (109, .getfield 30, 112, 10, 9, 1, 637), (112, .iconst 4, 113, 0, 0, 4, 0), (113, .iload_n 3, 114, 3, 0, 0, 0), (114, .imul, 115, 0, 0, 0, 0), (115, .iconst 3, 116, 0, 0, 3, 0), (116, .iadd, 117, 0, 0, 0, 0), (117, .iaload, 118, 0, 0, 0, 0), (118, .invokevirtual 94, 121, 69, 4, 0, 0), (121, .aload_n 0, 122, 0, 0, 0, 0), (122, .getfield 40, 125, 10, 15, 1, 643), (125, .iconst 0, 126, 0, 0, 0, 0), (126, .aload_n 0, 127, 0, 0, 0, 0), (127, .getfield 40, 130, 10, 15, 1, 643), (130, .iconst 0, 131, 0, 0, 0, 0), (131, .iaload, 132, 0, 0, 0, 0), (132, .ldc 49, 134, 0, 0, 77001, 627), (134, .if_icmp .ne 7, 137, 141, 0, 0, 0), (137, .iconst 0, 138, 0, 0, 0, 0), (138, .goto 9, 141, 147, 0, 0, 0), (141, .aload_n 0, 142, 0, 0, 0, 0), (142, .getfield 40, 145, 10, 15, 1, 643), (145, .iconst 0, 146, 0, 0, 0, 0), (146, .iaload, 147, 0, 0, 0, 0), (147, .iastore, 148, 0, 0, 0, 0), (148, .return_, 149, 0, 0, 0, 0)]
/-- T_revocationWord -/
def pg_L104 : List (Nat × am_I) := [(0, .iconst 0, 1, 0, 0, 0, 0), (1, .istore_n 1, 2, 1, 0, 0, 0), (2, .iconst 0, 3, 0, 0, 0, 0), (3, .istore_n 2, 4, 2, 0, 0, 0), (4, .iload_n 2, 5, 2, 0, 0, 0), (5, .bipush 16, 7, 0, 0, 16, 0), (7, .if_icmp .ge 29, 10, 36, 0, 0, 0), (10, .aload_n 0, 11, 0, 0, 0, 0), (11, .getfield 27, 14, 10, 8, 1, 636), (14, .iload_n 2, 15, 2, 0, 0, 0), (15, .iaload, 16, 0, 0, 0, 0), (16, .iconst 2, 17, 0, 0, 2, 0), (17, .if_icmp .ne 11, 20, 28, 0, 0, 0), (20, .iload_n 1, 21, 1, 0, 0, 0), (21, .iconst 1, 22, 0, 0, 1, 0), (22, .iload_n 2, 23, 2, 0, 0, 0), (23, .ishl, 24, 0, 0, 0, 0), (24, .ior, 25, 0, 0, 0, 0), (25, .goto 4, 28, 29, 0, 0, 0), (28, .iload_n 1, 29, 1, 0, 0, 0), (29, .istore_n 1, 30, 1, 0, 0, 0), (30, .iinc 2 1, 33, 2, 0, 1, 0), (33, .goto (-29), 36, 4, 0, 0, 0), (36, .iload_n 1, 37, 1, 0, 0, 0), (37, .ireturn, 38, 0, 0, 0, 0)]
/-- T_groupWord -/
def pg_L105 : List (Nat × am_I) := [(0, .iload_n 2, 1, 2, 0, 0, 0), (1, .iconst 4, 2, 0, 0, 4, 0), (2, .iload_n 1, 3, 1, 0, 0, 0), (3, .imul, 4, 0, 0, 0, 0), (4, .isub, 5, 0, 0, 0, 0), (5, .iconst 4, 6, 0, 0, 4, 0), (6, .if_icmp .ge 11, 9, 17, 0, 0, 0), (9, .iload_n 2, 10, 2, 0, 0, 0), (10, .iconst 4, 11, 0, 0, 4, 0), (11, .iload_n 1, 12, 1, 0, 0, 0), (12, .imul, 13, 0, 0, 0, 0), (13, .isub, 14, 0, 0, 0, 0), (14, .goto 4, 17, 18, 0, 0, 0), (17, .iconst 4, 18, 0, 0, 4, 0), (18, .istore_n 3, 19, 3, 0, 0, 0), (19, .iload_n 3, 20, 3, 0, 0, 0), (20, .istore 4, 22, 4, 0, 0, 0), (22, .iconst 0, 23, 0, 0, 0, 0), (23, .istore 5, 25, 5, 0, 0, 0), (25, .iload 5, 27, 5, 0, 0, 0), (27, .iload_n 3, 28, 3, 0, 0, 0), (28, .if_icmp .ge 61, 31, 89, 0, 0, 0), (31, .aload_n 0, 32, 0, 0, 0, 0), (32, .iconst 4, 33, 0, 0, 4, 0), (33, .iload_n 1, 34, 1, 0, 0, 0), (34, .imul, 35, 0, 0, 0, 0), (35, .iload 5, 37, 5, 0, 0, 0), (37, .iadd, 38, 0, 0, 0, 0), (38, .invokevirtual 87, 41, 83, 1, 0, 0), (41, .istore 6, 43, 6, 0, 0, 0), (43, .aload_n 0, 44, 0, 0, 0, 0), (44, .getfield 30, 47, 10, 9, 1, 637), (47, .iconst 4, 48, 0, 0, 4, 0), (48, .iload 6, 50, 6, 0, 0, 0), (50, .imul, 51, 0, 0, 0, 0), (51, .iaload, 52, 0, 0, 0, 0), (52, .ldc 49, 54, 0, 0, 77001, 627), (54, .if_icmp .ne 11, 57, 65, 0, 0, 0), (57, .iload 6, 59, 6, 0, 0, 0), (59, .bipush 16, 61, 0, 0, 16, 0), (61, .iadd, 62, 0, 0, 0, 0), (62, .goto 5, 65, 67, 0, 0, 0), (65, .iload 6, 67, 6, 0, 0, 0), (67, .istore 7, 69, 7, 0, 0, 0), (69, .iload 4, 71, 4, 0, 0, 0), (71, .iload 7, 73, 7, 0, 0, 0), (73, .iconst 3, 74, 0, 0, 3, 0), (74, .iconst 5, 75, 0, 0, 5, 0), (75, .iload 5, 77, 5, 0, 0, 0), (77, .imul, 78, 0, 0, 0, 0), (78, .iadd, 79, 0, 0, 0, 0), (79, .ishl, 80, 0, 0, 0, 0), (80, .iadd, 81, 0, 0, 0, 0), (81, .istore 4, 83, 4, 0, 0, 0), (83, .iinc 5 1, 86, 5, 0, 1, 0), (86, .goto (-61), 89, 25, 0, 0, 0), (89, .iload 4, 91, 4, 0, 0, 0), (91, .ireturn, 92, 0, 0, 0, 0)]
/-- T_imageBlock -/
def pg_L106 : List (Nat × am_I) := [(0, .iconst 0, 1, 0, 0, 0, 0), (1, .istore_n 2, 2, 2, 0, 0, 0), (2, .iconst 0, 3, 0, 0, 0, 0), (3, .istore_n 3, 4, 3, 0, 0, 0), (4, .iconst 0, 5, 0, 0, 0, 0), (5, .istore 4, 7, 4, 0, 0, 0), (7, .iload 4, 9, 4, 0, 0, 0), (9, .bipush 16, 11, 0, 0, 16, 0), (11, .if_icmp .ge 36, 14, 47, 0, 0, 0), (14, .aload_n 0, 15, 0, 0, 0, 0), (15, .getfield 27, 18, 10, 8, 1, 636), (18, .iload 4, 20, 4, 0, 0, 0), (20, .iaload, 21, 0, 0, 0, 0), (21, .iconst 1, 22, 0, 0, 1, 0), (22, .if_icmp .ne 19, 25, 41, 0, 0, 0), (25, .iload_n 2, 26, 2, 0, 0, 0), (26, .iload_n 1, 27, 1, 0, 0, 0), (27, .if_icmp .ne 8, 30, 35, 0, 0, 0), (30, .iload 4, 32, 4, 0, 0, 0), (32, .goto 4, 35, 36, 0, 0, 0), (35, .iload_n 3, 36, 3, 0, 0, 0), (36, .istore_n 3, 37, 3, 0, 0, 0), (37, .iload_n 2, 38, 2, 0, 0, 0), (38, .iconst 1, 39, 0, 0, 1, 0), (39, .iadd, 40, 0, 0, 0, 0), (40, .istore_n 2, 41, 2, 0, 0, 0), (41, .iinc 4 1, 44, 4, 0, 1, 0), (44, .goto (-37), 47, 7, 0, 0, 0), (47, .iload_n 3, 48, 3, 0, 0, 0), (48, .ireturn, 49, 0, 0, 0, 0)]
/-- T_sum -/
def pg_L107 : List (Nat × am_I) := [(0, .aload_n 0, 1, 0, 0, 0, 0), (1, .getfield 23, 4, 10, 5, 0, 633), (4, .istore_n 2, 5, 2, 0, 0, 0), (5, .iconst 0, 6, 0, 0, 0, 0), (6, .istore_n 3, 7, 3, 0, 0, 0), (7, .iload_n 3, 8, 3, 0, 0, 0), (8, .iload_n 1, 9, 1, 0, 0, 0), (9, .if_icmp .ge 41, 12, 50, 0, 0, 0), (12, .aload_n 0, 13, 0, 0, 0, 0), (13, .iload_n 3, 14, 3, 0, 0, 0), (14, .invokevirtual 101, 17, 78, 1, 0, 0), (17, .iconst 0, 18, 0, 0, 0, 0), (18, .istore 4, 20, 4, 0, 0, 0), (20, .iload 4, 22, 4, 0, 0, 0), (22, .iconst 4, 23, 0, 0, 4, 0), (23, .if_icmp .ge 21, 26, 44, 0, 0, 0), (26, .iload_n 2, 27, 2, 0, 0, 0), (27, .aload_n 0, 28, 0, 0, 0, 0), (28, .getfield 40, 31, 10, 15, 1, 643), (31, .iload 4, 33, 4, 0, 0, 0), (33, .iaload, 34, 0, 0, 0, 0), (34, .invokestatic 104, 37, 98, 2, 0, 795), (37, .istore_n 2, 38, 2, 0, 0, 0), (38, .iinc 4 1, 41, 4, 0, 1, 0), (41, .goto (-21), 44, 20, 0, 0, 0), (44, .iinc 3 1, 47, 3, 0, 1, 0), (47, .goto (-40), 50, 7, 0, 0, 0), (50, .iload_n 2, 51, 2, 0, 0, 0), (51, .ireturn, 52, 0, 0, 0, 0)]
/-- T_flush -/
def pg_L108 : List (Nat × am_I) := [(0, .iconst 0, 1, 0, 0, 0, 0), (1, .istore_n 1, 2, 1, 0, 0, 0), (2, .iload_n 1, 3, 1, 0, 0, 0), (3, .aload_n 0, 4, 0, 0, 0, 0), (4, .getfield 50, 7, 10, 1, 0, 629), (7, .if_icmp .ge 15, 10, 22, 0, 0, 0), (10, .aload_n 0, 11, 0, 0, 0, 0), (11, .iload_n 1, 12, 1, 0, 0, 0), (12, .iconst 4, 13, 0, 0, 4, 0), (13, .invokevirtual 53, 16, 84, 2, 0, 0), (16, .iinc 1 1, 19, 1, 0, 1, 0), (19, .goto (-17), 22, 2, 0, 0, 0), (22, .aload_n 0, 23, 0, 0, 0, 0), (23, .iconst 0, 24, 0, 0, 0, 0), (24, .putfield 50, 27, 10, 1, 0, 629), (27, .return_, 28, 0, 0, 0, 0)]
/-- T_settle -/
def pg_L109 : List (Nat × am_I) := [(0, .iconst 0, 1, 0, 0, 0, 0), (1, .istore_n 3, 2, 3, 0, 0, 0), (2, .iload_n 3, 3, 3, 0, 0, 0), (3, .iload_n 2, 4, 2, 0, 0, 0), (4, .if_icmp .ge 34, 7, 38, 0, 0, 0), (7, .aload_n 0, 8, 0, 0, 0, 0), (8, .getfield 7, 11, 10, 0, 1, 628), (11, .iconst 4, 12, 0, 0, 4, 0), (12, .aload_n 0, 13, 0, 0, 0, 0), (13, .getfield 13, 16, 10, 2, 1, 630), (16, .iload_n 1, 17, 1, 0, 0, 0), (17, .iaload, 18, 0, 0, 0, 0), (18, .imul, 19, 0, 0, 0, 0), (19, .iload_n 3, 20, 3, 0, 0, 0), (20, .iadd, 21, 0, 0, 0, 0), (21, .aload_n 0, 22, 0, 0, 0, 0), (22, .getfield 16, 25, 10, 3, 1, 631), (25, .iconst 4, 26, 0, 0, 4, 0), (26, .iload_n 1, 27, 1, 0, 0, 0), (27, .imul, 28, 0, 0, 0, 0), (28, .iload_n 3, 29, 3, 0, 0, 0), (29, .iadd, 30, 0, 0, 0, 0), (30, .iaload, 31, 0, 0, 0, 0), (31, .iastore, 32, 0, 0, 0, 0), (32, .iinc 3 1, 35, 3, 0, 1, 0), (35, .goto (-33), 38, 2, 0, 0, 0), (38, .return_, 39, 0, 0, 0, 0)]
/-- T_checkpointAction -/
def pg_L110 : List (Nat × am_I) := [(0, .aload_n 0, 1, 0, 0, 0, 0), (1, .getfield 116, 4, 10, 14, 0, 642), (4, .iconst 3, 5, 0, 0, 3, 0), (5, .isub, 6, 0, 0, 0, 0), (6, .istore_n 2, 7, 2, 0, 0, 0), (7, .iload_n 1, 8, 1, 0, 0, 0), (8, .iload_n 2, 9, 2, 0, 0, 0), (9, .if_icmp .ge 117, 12, 126, 0, 0, 0), (12, .iconst 0, 13, 0, 0, 0, 0), (13, .istore_n 3, 14, 3, 0, 0, 0), (14, .iconst 0, 15, 0, 0, 0, 0), (15, .istore 4, 17, 4, 0, 0, 0), (17, .iload 4, 19, 4, 0, 0, 0), (19, .bipush 16, 21, 0, 0, 16, 0), (21, .if_icmp .ge 94, 24, 115, 0, 0, 0), (24, .aload_n 0, 25, 0, 0, 0, 0), (25, .getfield 33, 28, 10, 10, 1, 638), (28, .iload 4, 30, 4, 0, 0, 0), (30, .baload, 31, 0, 0, 0, 0), (31, .ifCond .eq 60, 34, 91, 0, 0, 0), (34, .iload_n 3, 35, 3, 0, 0, 0), (35, .iload_n 1, 36, 1, 0, 0, 0), (36, .if_icmp .ne 55, 39, 91, 0, 0, 0), (39, .aload_n 0, 40, 0, 0, 0, 0), (40, .aload_n 0, 41, 0, 0, 0, 0), (41, .getfield 37, 44, 10, 11, 1, 639), (44, .iconst 4, 45, 0, 0, 4, 0), (45, .iload 4, 47, 4, 0, 0, 0), (47, .imul, 48, 0, 0, 0, 0), (48, .iaload, 49, 0, 0, 0, 0), (49, .aload_n 0, 50, 0, 0, 0, 0), (50, .getfield 37, 53, 10, 11, 1, 639), (53, .iconst 4, 54, 0, 0, 4, 0), (54, .iload 4, 56, 4, 0, 0, 0), (56, .imul, 57, 0, 0, 0, 0), (57, .iconst 1, 58, 0, 0, 1, 0), (58, .iadd, 59, 0, 0, 0, 0), (59, .iaload, 60, 0, 0, 0, 0), (60, .aload_n 0, 61, 0, 0, 0, 0), (61, .getfield 37, 64, 10, 11, 1, 639), (64, .iconst 4, 65, 0, 0, 4, 0), (65, .iload 4, 67, 4, 0, 0, 0), (67, .imul, 68, 0, 0, 0, 0), (68, .iconst 2, 69, 0, 0, 2, 0), (69, .iadd, 70, 0, 0, 0, 0), (70, .iaload, 71, 0, 0, 0, 0), (71, .aload_n 0, 72, 0, 0, 0, 0), (72, .getfield 37, 75, 10, 11, 1, 639), (75, .iconst 4, 76, 0, 0, 4, 0), (76, .iload 4, 78, 4, 0, 0, 0), (78, .imul, 79, 0, 0, 0, 0), (79, .iconst 3, 80, 0, 0, 3, 0), (80, .iadd, 81, 0, 0, 0, 0), (81, .iaload, 82, 0, 0, 0, 0), (82, .invokevirtual 94, 85, 69, 4, 0, 0), (85, .aload_n 0, 86, 0, 0, 0, 0), (86, .iload 4, 88, 4, 0, 0, 0), (88, .putfield 131, 91, 10, 16, 0, 644), (91, .aload_n 0, 92, 0, 0, 0, 0), (92, .getfield 33, 95, 10, 10, 1, 638), (95, .iload 4, 97, 4, 0, 0, 0), (97, .baload, 98, 0, 0, 0, 0), (98, .ifCond .eq 9, 101, 107, 0, 0, 0), (101, .iload_n 3, 102, 3, 0, 0, 0), (102, .iconst 1, 103, 0, 0, 1, 0), (103, .iadd, 104, 0, 0, 0, 0), (104, .goto 4, 107, 108, 0, 0, 0), (107, .iload_n 3, 108, 3, 0, 0, 0), (108, .istore_n 3, 109, 3, 0, 0, 0), (109, .iinc 4 1, 112, 4, 0, 1, 0), (112, .goto (-95), 115, 17, 0, 0, 0), (115, .aload_n 0, 116, 0, 0, 0, 0), (116, .aload_n 0, 117, 0, 0, 0, 0), (117, .getfield 131, 120, 10, 16, 0, 644), (120, .invokevirtual 83, 123, 63, 1, 0, 0), (123, .goto 38, 126, 161, 0, 0, 0), (126, .iload_n 1, 127, 1, 0, 0, 0), (127, .iload_n 2, 128, 2, 0, 0, 0), (128, .iconst 1, 129, 0, 0, 1, 0), (129, .iadd, 130, 0, 0, 0, 0), (130, .if_icmp .ne 27, 133, 157, 0, 0, 0), (133, .aload_n 0, 134, 0, 0, 0, 0), (134, .ldc 49, 136, 0, 0, 77001, 627), (136, .aload_n 0, 137, 0, 0, 0, 0), (137, .getfield 23, 140, 10, 5, 0, 633), (140, .aload_n 0, 141, 0, 0, 0, 0), (141, .getfield 119, 144, 10, 6, 0, 634), (144, .iconst 0, 145, 0, 0, 0, 0), (145, .invokevirtual 94, 148, 69, 4, 0, 0), (148, .aload_n 0, 149, 0, 0, 0, 0), (149, .bipush 16, 151, 0, 0, 16, 0), (151, .invokevirtual 83, 154, 63, 1, 0, 0), (154, .goto 7, 157, 161, 0, 0, 0), (157, .aload_n 0, 158, 0, 0, 0, 0), (158, .invokevirtual 125, 161, 80, 0, 0, 0), (161, .return_, 162, 0, 0, 0, 0)]
/-- T_recoveryAction -/
def pg_L111 : List (Nat × am_I) := [(0, .aload_n 0, 1, 0, 0, 0, 0), (1, .getfield 116, 4, 10, 14, 0, 642), (4, .iconst 3, 5, 0, 0, 3, 0), (5, .isub, 6, 0, 0, 0, 0), (6, .istore_n 2, 7, 2, 0, 0, 0), (7, .iload_n 1, 8, 1, 0, 0, 0), (8, .iload_n 2, 9, 2, 0, 0, 0), (9, .if_icmp .ge 20, 12, 29, 0, 0, 0), (12, .aload_n 0, 13, 0, 0, 0, 0), (13, .iload_n 1, 14, 1, 0, 0, 0), (14, .invokevirtual 165, 17, 66, 1, 0, 0), (17, .pop, 18, 0, 0, 0, 0), (18, .aload_n 0, 19, 0, 0, 0, 0), (19, .aload_n 0, 20, 0, 0, 0, 0), (20, .getfield 131, 23, 10, 16, 0, 644), (23, .invokevirtual 83, 26, 63, 1, 0, 0), (26, .goto 50, 29, 76, 0, 0, 0), (29, .iload_n 1, 30, 1, 0, 0, 0), (30, .iload_n 2, 31, 2, 0, 0, 0), (31, .iconst 1, 32, 0, 0, 1, 0), (32, .iadd, 33, 0, 0, 0, 0), (33, .if_icmp .ne 39, 36, 72, 0, 0, 0), (36, .aload_n 0, 37, 0, 0, 0, 0), (37, .invokevirtual 162, 40, 67, 0, 0, 0), (40, .aload_n 0, 41, 0, 0, 0, 0), (41, .ldc 49, 43, 0, 0, 77001, 627), (43, .aload_n 0, 44, 0, 0, 0, 0), (44, .getfield 152, 47, 10, 19, 0, 647), (47, .aload_n 0, 48, 0, 0, 0, 0), (48, .getfield 134, 51, 10, 17, 0, 645), (51, .aload_n 0, 52, 0, 0, 0, 0), (52, .getfield 149, 55, 10, 20, 0, 648), (55, .iadd, 56, 0, 0, 0, 0), (56, .bipush 24, 58, 0, 0, 24, 0), (58, .irem, 59, 0, 0, 0, 0), (59, .iconst 0, 60, 0, 0, 0, 0), (60, .invokevirtual 94, 63, 69, 4, 0, 0), (63, .aload_n 0, 64, 0, 0, 0, 0), (64, .bipush 16, 66, 0, 0, 16, 0), (66, .invokevirtual 83, 69, 63, 1, 0, 0), (69, .goto 7, 72, 76, 0, 0, 0), (72, .aload_n 0, 73, 0, 0, 0, 0), (73, .invokevirtual 125, 76, 80, 0, 0, 0), (76, .return_, 77, 0, 0, 0, 0)]
/-- T_finish -/
def pg_L112 : List (Nat × am_I) := [(0, .aload_n 0, 1, 0, 0, 0, 0), (1, .getfield 69, 4, 10, 12, 0, 640), (4, .istore_n 1, 5, 1, 0, 0, 0), (5, .aload_n 0, 6, 0, 0, 0, 0), (6, .iconst 0, 7, 0, 0, 0, 0), (7, .putfield 69, 10, 10, 12, 0, 640), (10, .iload_n 1, 11, 1, 0, 0, 0), (11, .iconst 2, 12, 0, 0, 2, 0), (12, .if_icmp .ne 10, 15, 22, 0, 0, 0), (15, .aload_n 0, 16, 0, 0, 0, 0), (16, .invokevirtual 168, 19, 85, 0, 0, 0), (19, .goto 19, 22, 38, 0, 0, 0), (22, .iload_n 1, 23, 1, 0, 0, 0), (23, .iconst 3, 24, 0, 0, 3, 0), (24, .if_icmp .ne 10, 27, 34, 0, 0, 0), (27, .aload_n 0, 28, 0, 0, 0, 0), (28, .invokevirtual 171, 31, 86, 0, 0, 0), (31, .goto 7, 34, 38, 0, 0, 0), (34, .aload_n 0, 35, 0, 0, 0, 0), (35, .invokevirtual 174, 38, 87, 0, 0, 0), (38, .return_, 39, 0, 0, 0, 0)]
/-- T_committed -/
def pg_L113 : List (Nat × am_I) := [(0, .aload_n 0, 1, 0, 0, 0, 0), (1, .getfield 116, 4, 10, 14, 0, 642), (4, .iconst 2, 5, 0, 0, 2, 0), (5, .isub, 6, 0, 0, 0, 0), (6, .istore_n 1, 7, 1, 0, 0, 0), (7, .aload_n 0, 8, 0, 0, 0, 0), (8, .aload_n 0, 9, 0, 0, 0, 0), (9, .getfield 119, 12, 10, 6, 0, 634), (12, .iload_n 1, 13, 1, 0, 0, 0), (13, .iadd, 14, 0, 0, 0, 0), (14, .bipush 24, 16, 0, 0, 24, 0), (16, .irem, 17, 0, 0, 0, 0), (17, .putfield 119, 20, 10, 6, 0, 634), (20, .aload_n 0, 21, 0, 0, 0, 0), (21, .aload_n 0, 22, 0, 0, 0, 0), (22, .getfield 110, 25, 10, 7, 0, 635), (25, .iload_n 1, 26, 1, 0, 0, 0), (26, .iadd, 27, 0, 0, 0, 0), (27, .putfield 110, 30, 10, 7, 0, 635), (30, .aload_n 0, 31, 0, 0, 0, 0), (31, .aload_n 0, 32, 0, 0, 0, 0), (32, .getfield 23, 35, 10, 5, 0, 633), (35, .iconst 1, 36, 0, 0, 1, 0), (36, .iadd, 37, 0, 0, 0, 0), (37, .putfield 23, 40, 10, 5, 0, 633), (40, .iconst 0, 41, 0, 0, 0, 0), (41, .istore_n 2, 42, 2, 0, 0, 0), (42, .iload_n 2, 43, 2, 0, 0, 0), (43, .bipush 16, 45, 0, 0, 16, 0), (45, .if_icmp .ge 111, 48, 156, 0, 0, 0), (48, .iconst 0, 49, 0, 0, 0, 0), (49, .istore_n 3, 50, 3, 0, 0, 0), (50, .iload_n 3, 51, 3, 0, 0, 0), (51, .iconst 4, 52, 0, 0, 4, 0), (52, .if_icmp .ge 52, 55, 104, 0, 0, 0), (55, .aload_n 0, 56, 0, 0, 0, 0), (56, .getfield 37, 59, 10, 11, 1, 639), (59, .iconst 4, 60, 0, 0, 4, 0), (60, .iload_n 2, 61, 2, 0, 0, 0), (61, .imul, 62, 0, 0, 0, 0), (62, .iload_n 3, 63, 3, 0, 0, 0), (63, .iadd, 64, 0, 0, 0, 0), (64, .aload_n 0, 65, 0, 0, 0, 0), (65, .getfield 27, 68, 10, 8, 1, 636), (68, .iload_n 2, 69, 2, 0, 0, 0), (69, .iaload, 70, 0, 0, 0, 0), (70, .iconst 1, 71, 0, 0, 1, 0), (71, .if_icmp .ne 16, 74, 87, 0, 0, 0), (74, .aload_n 0, 75, 0, 0, 0, 0), (75, .getfield 30, 78, 10, 9, 1, 637), (78, .iconst 4, 79, 0, 0, 4, 0), (79, .iload_n 2, 80, 2, 0, 0, 0), (80, .imul, 81, 0, 0, 0, 0), (81, .iload_n 3, 82, 3, 0, 0, 0), (82, .iadd, 83, 0, 0, 0, 0), (83, .iaload, 84, 0, 0, 0, 0), (84, .goto 13, 87, 97, 0, 0, 0), (87, .aload_n 0, 88, 0, 0, 0, 0), (88, .getfield 37, 91, 10, 11, 1, 639), (91, .iconst 4, 92, 0, 0, 4, 0), (92, .iload_n 2, 93, 2, 0, 0, 0), (93, .imul, 94, 0, 0, 0, 0), (94, .iload_n 3, 95, 3, 0, 0, 0), (95, .iadd, 96, 0, 0, 0, 0), (96, .iaload, 97, 0, 0, 0, 0), (97, .iastore, 98, 0, 0, 0, 0), (98, .iinc 3 1, 101, 3, 0, 1, 0), (101, .goto (-51), 104, 50, 0, 0, 0), (104, .aload_n 0, 105, 0, 0, 0, 0), (105, .getfield 33, 108, 10, 10, 1, 638), (108, .iload_n 2, 109, 2, 0, 0, 0), (109, .aload_n 0, 110, 0, 0, 0, 0), (110, .getfield 27, 113, 10, 8, 1, 636), (113, .iload_n 2, 114, 2, 0, 0, 0), (114, .iaload, 115, 0, 0, 0, 0), (115, .iconst 1, 116, 0, 0, 1, 0), (116, .if_icmp .eq 21, 119, 137, 0, 0, 0), (119, .aload_n 0, 120, 0, 0, 0, 0), (120, .getfield 27, 123, 10, 8, 1, 636), (123, .iload_n 2, 124, 2, 0, 0, 0), (124, .iaload, 125, 0, 0, 0, 0), (125, .ifCond .ne 16, 128, 141, 0, 0, 0), (128, .aload_n 0, 129, 0, 0, 0, 0), (129, .getfield 33, 132, 10, 10, 1, 638), (132, .iload_n 2, 133, 2, 0, 0, 0), (133, .baload, 134, 0, 0, 0, 0), (134, .ifCond .eq 7, 137, 141, 0, 0, 0), (137, .iconst 1, 138, 0, 0, 1, 0), (138, .goto 4, 141, 142, 0, 0, 0), (141, .iconst 0, 142, 0, 0, 0, 0), (142, .bastore, 143, 0, 0, 0, 0), (143, .aload_n 0, 144, 0, 0, 0, 0), (144, .getfield 27, 147, 10, 8, 1, 636), (147, .iload_n 2, 148, 2, 0, 0, 0), (148, .iconst 0, 149, 0, 0, 0, 0), (149, .iastore, 150, 0, 0, 0, 0), (150, .iinc 2 1, 153, 2, 0, 1, 0), (153, .goto (-111), 156, 42, 0, 0, 0), (156, .return_, 157, 0, 0, 0, 0)]
/-- T_checkpointed -/
def pg_L114 : List (Nat × am_I) := [(0, .aload_n 0, 1, 0, 0, 0, 0), (1, .iconst 0, 2, 0, 0, 0, 0), (2, .putfield 110, 5, 10, 7, 0, 635), (5, .iconst 0, 6, 0, 0, 0, 0), (6, .istore_n 1, 7, 1, 0, 0, 0), (7, .iload_n 1, 8, 1, 0, 0, 0), (8, .bipush 16, 10, 0, 0, 16, 0), (10, .if_icmp .ge 16, 13, 26, 0, 0, 0), (13, .aload_n 0, 14, 0, 0, 0, 0), (14, .getfield 33, 17, 10, 10, 1, 638), (17, .iload_n 1, 18, 1, 0, 0, 0), (18, .iconst 0, 19, 0, 0, 0, 0), (19, .bastore, 20, 0, 0, 0, 0), (20, .iinc 1 1, 23, 1, 0, 1, 0), (23, .goto (-16), 26, 7, 0, 0, 0), (26, .return_, 27, 0, 0, 0, 0)]
/-- T_recovered -/
def pg_L115 : List (Nat × am_I) := [(0, .aload_n 0, 1, 0, 0, 0, 0), (1, .iconst 1, 2, 0, 0, 1, 0), (2, .putfield 19, 5, 10, 4, 2, 632), (5, .aload_n 0, 6, 0, 0, 0, 0), (6, .aload_n 0, 7, 0, 0, 0, 0), (7, .bipush 16, 9, 0, 0, 16, 0), (9, .iconst 1, 10, 0, 0, 1, 0), (10, .invokevirtual 65, 13, 59, 2, 0, 0), (13, .putfield 23, 16, 10, 5, 0, 633), (16, .aload_n 0, 17, 0, 0, 0, 0), (17, .aload_n 0, 18, 0, 0, 0, 0), (18, .bipush 16, 20, 0, 0, 16, 0), (20, .iconst 2, 21, 0, 0, 2, 0), (21, .invokevirtual 65, 24, 59, 2, 0, 0), (24, .putfield 119, 27, 10, 6, 0, 634), (27, .aload_n 0, 28, 0, 0, 0, 0), (28, .iconst 0, 29, 0, 0, 0, 0), (29, .putfield 110, 32, 10, 7, 0, 635), (32, .iconst 0, 33, 0, 0, 0, 0), (33, .istore_n 1, 34, 1, 0, 0, 0), (34, .iload_n 1, 35, 1, 0, 0, 0), (35, .bipush 16, 37, 0, 0, 16, 0), (37, .if_icmp .ge 23, 40, 60, 0, 0, 0), (40, .aload_n 0, 41, 0, 0, 0, 0), (41, .getfield 27, 44, 10, 8, 1, 636), (44, .iload_n 1, 45, 1, 0, 0, 0), (45, .iconst 0, 46, 0, 0, 0, 0), (46, .iastore, 47, 0, 0, 0, 0), (47, .aload_n 0, 48, 0, 0, 0, 0), (48, .getfield 33, 51, 10, 10, 1, 638), (51, .iload_n 1, 52, 1, 0, 0, 0), (52, .iconst 0, 53, 0, 0, 0, 0), (53, .bastore, 54, 0, 0, 0, 0), (54, .iinc 1 1, 57, 1, 0, 1, 0), (57, .goto (-23), 60, 34, 0, 0, 0), (60, .return_, 61, 0, 0, 0, 0)]
/-- T_crash -/
def pg_L116 : List (Nat × am_I) := [(0, .iconst (-1), 1, 0, 0, (-1), 0), (1, .istore_n 3, 2, 3, 0, 0, 0), (2, .iconst 0, 3, 0, 0, 0, 0), (3, .istore 4, 5, 4, 0, 0, 0), (5, .iconst 0, 6, 0, 0, 0, 0), (6, .istore 5, 8, 5, 0, 0, 0), (8, .iload 5, 10, 5, 0, 0, 0), (10, .aload_n 0, 11, 0, 0, 0, 0), (11, .getfield 50, 14, 10, 1, 0, 629), (14, .if_icmp .ge 54, 17, 68, 0, 0, 0), (17, .iload_n 1, 18, 1, 0, 0, 0), (18, .iload 5, 20, 5, 0, 0, 0), (20, .ishr, 21, 0, 0, 0, 0), (21, .iconst 1, 22, 0, 0, 1, 0), (22, .iand, 23, 0, 0, 0, 0), (23, .iconst 1, 24, 0, 0, 1, 0), (24, .if_icmp .ne 7, 27, 31, 0, 0, 0), (27, .iconst 1, 28, 0, 0, 1, 0), (28, .goto 4, 31, 32, 0, 0, 0), (31, .iconst 0, 32, 0, 0, 0, 0), (32, .istore 6, 34, 6, 0, 0, 0), (34, .iload 6, 36, 6, 0, 0, 0), (36, .ifCond .eq 8, 39, 44, 0, 0, 0), (39, .iload 5, 41, 5, 0, 0, 0), (41, .goto 4, 44, 45, 0, 0, 0), (44, .iload_n 3, 45, 3, 0, 0, 0), (45, .istore_n 3, 46, 3, 0, 0, 0), (46, .iload 6, 48, 6, 0, 0, 0), (48, .ifCond .eq 8, 51, 56, 0, 0, 0), (51, .iload 4, 53, 4, 0, 0, 0), (53, .goto 7, 56, 60, 0, 0, 0), (56, .iload 4, 58, 4, 0, 0, 0), (58, .iconst 1, 59, 0, 0, 1, 0), (59, .iadd, 60, 0, 0, 0, 0), (60, .istore 4, 62, 4, 0, 0, 0), (62, .iinc 5 1, 65, 5, 0, 1, 0), (65, .goto (-57), 68, 8, 0, 0, 0), (68, .iconst 0, 69, 0, 0, 0, 0), (69, .istore 5, 71, 5, 0, 0, 0), (71, .iload 5, 73, 5, 0, 0, 0), (73, .aload_n 0, 74, 0, 0, 0, 0), (74, .getfield 50, 77, 10, 1, 0, 629), (77, .if_icmp .ge 45, 80, 122, 0, 0, 0), (80, .iload_n 1, 81, 1, 0, 0, 0), (81, .iload 5, 83, 5, 0, 0, 0), (83, .ishr, 84, 0, 0, 0, 0), (84, .iconst 1, 85, 0, 0, 1, 0), (85, .iand, 86, 0, 0, 0, 0), (86, .iconst 1, 87, 0, 0, 1, 0), (87, .if_icmp .ne 29, 90, 116, 0, 0, 0), (90, .aload_n 0, 91, 0, 0, 0, 0), (91, .iload 5, 93, 5, 0, 0, 0), (93, .iload 5, 95, 5, 0, 0, 0), (95, .iload_n 3, 96, 3, 0, 0, 0), (96, .if_icmp .ne 16, 99, 112, 0, 0, 0), (99, .iload_n 2, 100, 2, 0, 0, 0), (100, .ifCond .lt 12, 103, 112, 0, 0, 0), (103, .iload_n 2, 104, 2, 0, 0, 0), (104, .iconst 3, 105, 0, 0, 3, 0), (105, .if_icmp .gt 7, 108, 112, 0, 0, 0), (108, .iload_n 2, 109, 2, 0, 0, 0), (109, .goto 4, 112, 113, 0, 0, 0), (112, .iconst 4, 113, 0, 0, 4, 0), (113, .invokevirtual 53, 116, 84, 2, 0, 0), (116, .iinc 5 1, 119, 5, 0, 1, 0), (119, .goto (-48), 122, 71, 0, 0, 0), (122, .aload_n 0, 123, 0, 0, 0, 0), (123, .iconst 0, 124, 0, 0, 0, 0), (124, .putfield 50, 127, 10, 1, 0, 629), (127, .aload_n 0, 128, 0, 0, 0, 0), (128, .iconst 0, 129, 0, 0, 0, 0), (129, .putfield 19, 132, 10, 4, 2, 632), (132, .aload_n 0, 133, 0, 0, 0, 0), (133, .iconst 0, 134, 0, 0, 0, 0), (134, .putfield 69, 137, 10, 12, 0, 640), (137, .iload 4, 139, 4, 0, 0, 0), (139, .ireturn, 140, 0, 0, 0, 0)]
/-- T_state -/
def pg_L117 : List (Nat × am_I) := [(0, .aload_n 0, 1, 0, 0, 0, 0), (1, .getfield 69, 4, 10, 12, 0, 640), (4, .ifCond .eq 10, 7, 14, 0, 0, 0), (7, .aload_n 0, 8, 0, 0, 0, 0), (8, .getfield 69, 11, 10, 12, 0, 640), (11, .goto 15, 14, 26, 0, 0, 0), (14, .aload_n 0, 15, 0, 0, 0, 0), (15, .getfield 19, 18, 10, 4, 2, 632), (18, .ifCond .eq 7, 21, 25, 0, 0, 0), (21, .iconst 1, 22, 0, 0, 1, 0), (22, .goto 4, 25, 26, 0, 0, 0), (25, .iconst 0, 26, 0, 0, 0, 0), (26, .ireturn, 27, 0, 0, 0, 0)]
/-- T_number -/
def pg_L118 : List (Nat × am_I) := [(0, .aload_n 0, 1, 0, 0, 0, 0), (1, .getfield 19, 4, 10, 4, 2, 632), (4, .ifCond .eq 10, 7, 14, 0, 0, 0), (7, .aload_n 0, 8, 0, 0, 0, 0), (8, .getfield 23, 11, 10, 5, 0, 633), (11, .goto 4, 14, 15, 0, 0, 0), (14, .iconst (-1), 15, 0, 0, (-1), 0), (15, .ireturn, 16, 0, 0, 0, 0)]
/-- T_used -/
def pg_L119 : List (Nat × am_I) := [(0, .aload_n 0, 1, 0, 0, 0, 0), (1, .getfield 19, 4, 10, 4, 2, 632), (4, .ifCond .eq 10, 7, 14, 0, 0, 0), (7, .aload_n 0, 8, 0, 0, 0, 0), (8, .getfield 110, 11, 10, 7, 0, 635), (11, .goto 4, 14, 15, 0, 0, 0), (14, .iconst (-1), 15, 0, 0, (-1), 0), (15, .ireturn, 16, 0, 0, 0, 0)]
/-- T_left -/
def pg_L120 : List (Nat × am_I) := [(0, .aload_n 0, 1, 0, 0, 0, 0), (1, .getfield 69, 4, 10, 12, 0, 640), (4, .ifCond .ne 7, 7, 11, 0, 0, 0), (7, .iconst 0, 8, 0, 0, 0, 0), (8, .goto 12, 11, 20, 0, 0, 0), (11, .aload_n 0, 12, 0, 0, 0, 0), (12, .getfield 116, 15, 10, 14, 0, 642), (15, .aload_n 0, 16, 0, 0, 0, 0), (16, .getfield 113, 19, 10, 13, 0, 641), (19, .isub, 20, 0, 0, 0, 0), (20, .ireturn, 21, 0, 0, 0, 0)]
/-- Law_law -/
def pg_L121 : List (Nat × am_I) := [(0, .new 7, 3, 0, 0, 0, 54), (3, .dup, 4, 0, 0, 0, 0), (4, .invokespecial 9, 7, 0, 0, 0, 56), (7, .astore_n 1, 8, 1, 0, 0, 0), (8, .new 10, 11, 10, 0, 0, 621), (11, .dup, 12, 0, 0, 0, 0), (12, .invokespecial 12, 15, 73, 0, 0, 623), (15, .astore_n 2, 16, 2, 0, 0, 0), (16, .iconst 0, 17, 0, 0, 0, 0), (17, .istore_n 3, 18, 3, 0, 0, 0), (18, .iload_n 3, 19, 3, 0, 0, 0), (19, .aload_n 0, 20, 0, 0, 0, 0), (20, .arraylength, 21, 0, 0, 0, 0), (21, .iconst 4, 22, 0, 0, 4, 0), (22, .isub, 23, 0, 0, 0, 0), (23, .if_icmp .gt 490, 26, 513, 0, 0, 0), (26, .aload_n 0, 27, 0, 0, 0, 0), (27, .iload_n 3, 28, 3, 0, 0, 0), (28, .iaload, 29, 0, 0, 0, 0), (29, .bipush 31, 31, 0, 0, 31, 0), (31, .iand, 32, 0, 0, 0, 0), (32, .tableswitch 475 0 16 #[84, 127, 150, 193, 206, 219, 232, 255, 288, 321, 354, 387, 400, 413, 426, 439, 462], 116, 0, 84, 0, 0), (116, .aload_n 1, 117, 1, 0, 0, 0), (117, .aload_n 0, 118, 0, 0, 0, 0), (118, .iload_n 3, 119, 3, 0, 0, 0), (119, .iconst 1, 120, 0, 0, 1, 0), (120, .iadd, 121, 0, 0, 0, 0), (121, .iaload, 122, 0, 0, 0, 0), (122, .aload_n 0, 123, 0, 0, 0, 0), (123, .iload_n 3, 124, 3, 0, 0, 0), (124, .iconst 2, 125, 0, 0, 2, 0), (125, .iadd, 126, 0, 0, 0, 0), (126, .iaload, 127, 0, 0, 0, 0), (127, .aload_n 0, 128, 0, 0, 0, 0), (128, .iload_n 3, 129, 3, 0, 0, 0), (129, .iconst 3, 130, 0, 0, 3, 0), (130, .iadd, 131, 0, 0, 0, 0), (131, .iaload, 132, 0, 0, 0, 0), (132, .invokevirtual 13, 135, 88, 3, 0, 0), (135, .aload_n 2, 136, 2, 0, 0, 0), (136, .aload_n 0, 137, 0, 0, 0, 0), (137, .iload_n 3, 138, 3, 0, 0, 0), (138, .iconst 1, 139, 0, 0, 1, 0), (139, .iadd, 140, 0, 0, 0, 0), (140, .iaload, 141, 0, 0, 0, 0), (141, .aload_n 0, 142, 0, 0, 0, 0), (142, .iload_n 3, 143, 3, 0, 0, 0), (143, .iconst 2, 144, 0, 0, 2, 0), (144, .iadd, 145, 0, 0, 0, 0), (145, .iaload, 146, 0, 0, 0, 0), (146, .aload_n 0, 147, 0, 0, 0, 0), (147, .iload_n 3, 148, 3, 0, 0, 0), (148, .iconst 3, 149, 0, 0, 3, 0), (149, .iadd, 150, 0, 0, 0, 0), (150, .iaload, 151, 0, 0, 0, 0), (151, .invokevirtual 17, 154, 89, 3, 0, 0), (154, .if_icmp .eq 353, 157, 507, 0, 0, 0), (157, .iconst 0, 158, 0, 0, 0, 0), (158, .ireturn, 159, 0, 0, 0, 0), (159, .aload_n 1, 160, 1, 0, 0, 0), (160, .aload_n 0, 161, 0, 0, 0, 0), (161, .iload_n 3, 162, 3, 0, 0, 0), (162, .iconst 1, 163, 0, 0, 1, 0), (163, .iadd, 164, 0, 0, 0, 0), (164, .iaload, 165, 0, 0, 0, 0), (165, .invokevirtual 18, 168, 90, 1, 0, 0), (168, .aload_n 2, 169, 2, 0, 0, 0), (169, .aload_n 0, 170, 0, 0, 0, 0), (170, .iload_n 3, 171, 3, 0, 0, 0), (171, .iconst 1, 172, 0, 0, 1, 0), (172, .iadd, 173, 0, 0, 0, 0), (173, .iaload, 174, 0, 0, 0, 0), (174, .invokevirtual 22, 177, 91, 1, 0, 0), (177, .if_icmp .eq 330, 180, 507, 0, 0, 0), (180, .iconst 0, 181, 0, 0, 0, 0), (181, .ireturn, 182, 0, 0, 0, 0), (182, .aload_n 1, 183, 1, 0, 0, 0), (183, .aload_n 0, 184, 0, 0, 0, 0), (184, .iload_n 3, 185, 3, 0, 0, 0), (185, .iconst 1, 186, 0, 0, 1, 0), (186, .iadd, 187, 0, 0, 0, 0), (187, .iaload, 188, 0, 0, 0, 0), (188, .aload_n 0, 189, 0, 0, 0, 0), (189, .iload_n 3, 190, 3, 0, 0, 0), (190, .iconst 2, 191, 0, 0, 2, 0), (191, .iadd, 192, 0, 0, 0, 0), (192, .iaload, 193, 0, 0, 0, 0), (193, .aload_n 0, 194, 0, 0, 0, 0), (194, .iload_n 3, 195, 3, 0, 0, 0), (195, .iconst 3, 196, 0, 0, 3, 0), (196, .iadd, 197, 0, 0, 0, 0), (197, .iaload, 198, 0, 0, 0, 0), (198, .invokevirtual 23, 201, 92, 3, 0, 0), (201, .aload_n 2, 202, 2, 0, 0, 0), (202, .aload_n 0, 203, 0, 0, 0, 0), (203, .iload_n 3, 204, 3, 0, 0, 0), (204, .iconst 1, 205, 0, 0, 1, 0), (205, .iadd, 206, 0, 0, 0, 0), (206, .iaload, 207, 0, 0, 0, 0), (207, .aload_n 0, 208, 0, 0, 0, 0), (208, .iload_n 3, 209, 3, 0, 0, 0), (209, .iconst 2, 210, 0, 0, 2, 0), (210, .iadd, 211, 0, 0, 0, 0), (211, .iaload, 212, 0, 0, 0, 0), (212, .aload_n 0, 213, 0, 0, 0, 0), (213, .iload_n 3, 214, 3, 0, 0, 0), (214, .iconst 3, 215, 0, 0, 3, 0), (215, .iadd, 216, 0, 0, 0, 0), (216, .iaload, 217, 0, 0, 0, 0), (217, .invokevirtual 26, 220, 93, 3, 0, 0), (220, .if_icmp .eq 287, 223, 507, 0, 0, 0), (223, .iconst 0, 224, 0, 0, 0, 0), (224, .ireturn, 225, 0, 0, 0, 0), (225, .aload_n 1, 226, 1, 0, 0, 0), (226, .invokevirtual 27, 229, 94, 0, 0, 0), (229, .aload_n 2, 230, 2, 0, 0, 0), (230, .invokevirtual 31, 233, 95, 0, 0, 0), (233, .if_icmp .eq 274, 236, 507, 0, 0, 0), (236, .iconst 0, 237, 0, 0, 0, 0), (237, .ireturn, 238, 0, 0, 0, 0), (238, .aload_n 1, 239, 1, 0, 0, 0), (239, .invokevirtual 32, 242, 96, 0, 0, 0), (242, .aload_n 2, 243, 2, 0, 0, 0), (243, .invokevirtual 35, 246, 97, 0, 0, 0), (246, .if_icmp .eq 261, 249, 507, 0, 0, 0), (249, .iconst 0, 250, 0, 0, 0, 0), (250, .ireturn, 251, 0, 0, 0, 0), (251, .aload_n 1, 252, 1, 0, 0, 0), (252, .invokevirtual 36, 255, 98, 0, 0, 0), (255, .aload_n 2, 256, 2, 0, 0, 0), (256, .invokevirtual 39, 259, 99, 0, 0, 0), (259, .if_icmp .eq 248, 262, 507, 0, 0, 0), (262, .iconst 0, 263, 0, 0, 0, 0), (263, .ireturn, 264, 0, 0, 0, 0), (264, .aload_n 1, 265, 1, 0, 0, 0), (265, .aload_n 0, 266, 0, 0, 0, 0), (266, .iload_n 3, 267, 3, 0, 0, 0), (267, .iconst 1, 268, 0, 0, 1, 0), (268, .iadd, 269, 0, 0, 0, 0), (269, .iaload, 270, 0, 0, 0, 0), (270, .invokevirtual 40, 273, 100, 1, 0, 0), (273, .aload_n 2, 274, 2, 0, 0, 0), (274, .aload_n 0, 275, 0, 0, 0, 0), (275, .iload_n 3, 276, 3, 0, 0, 0), (276, .iconst 1, 277, 0, 0, 1, 0), (277, .iadd, 278, 0, 0, 0, 0), (278, .iaload, 279, 0, 0, 0, 0), (279, .invokevirtual 44, 282, 101, 1, 0, 0), (282, .if_icmp .eq 225, 285, 507, 0, 0, 0), (285, .iconst 0, 286, 0, 0, 0, 0), (286, .ireturn, 287, 0, 0, 0, 0), (287, .aload_n 1, 288, 1, 0, 0, 0), (288, .aload_n 0, 289, 0, 0, 0, 0), (289, .iload_n 3, 290, 3, 0, 0, 0), (290, .iconst 1, 291, 0, 0, 1, 0), (291, .iadd, 292, 0, 0, 0, 0), (292, .iaload, 293, 0, 0, 0, 0), (293, .aload_n 0, 294, 0, 0, 0, 0), (294, .iload_n 3, 295, 3, 0, 0, 0), (295, .iconst 2, 296, 0, 0, 2, 0), (296, .iadd, 297, 0, 0, 0, 0), (297, .iaload, 298, 0, 0, 0, 0), (298, .invokevirtual 45, 301, 102, 2, 0, 0), (301, .aload_n 2, 302, 2, 0, 0, 0), (302, .aload_n 0, 303, 0, 0, 0, 0), (303, .iload_n 3, 304, 3, 0, 0, 0), (304, .iconst 1, 305, 0, 0, 1, 0), (305, .iadd, 306, 0, 0, 0, 0), (306, .iaload, 307, 0, 0, 0, 0), (307, .aload_n 0, 308, 0, 0, 0, 0), (308, .iload_n 3, 309, 3, 0, 0, 0), (309, .iconst 2, 310, 0, 0, 2, 0), (310, .iadd, 311, 0, 0, 0, 0), (311, .iaload, 312, 0, 0, 0, 0), (312, .invokevirtual 49, 315, 103, 2, 0, 0), (315, .if_icmp .eq 192, 318, 507, 0, 0, 0), (318, .iconst 0, 319, 0, 0, 0, 0), (319, .ireturn, 320, 0, 0, 0, 0), (320, .aload_n 1, 321, 1, 0, 0, 0), (321, .aload_n 0, 322, 0, 0, 0, 0), (322, .iload_n 3, 323, 3, 0, 0, 0), (323, .iconst 1, 324, 0, 0, 1, 0), (324, .iadd, 325, 0, 0, 0, 0), (325, .iaload, 326, 0, 0, 0, 0), (326, .aload_n 0, 327, 0, 0, 0, 0), (327, .iload_n 3, 328, 3, 0, 0, 0), (328, .iconst 2, 329, 0, 0, 2, 0), (329, .iadd, 330, 0, 0, 0, 0), (330, .iaload, 331, 0, 0, 0, 0), (331, .invokevirtual 50, 334, 104, 2, 0, 0), (334, .aload_n 2, 335, 2, 0, 0, 0), (335, .aload_n 0, 336, 0, 0, 0, 0), (336, .iload_n 3, 337, 3, 0, 0, 0), (337, .iconst 1, 338, 0, 0, 1, 0), (338, .iadd, 339, 0, 0, 0, 0), (339, .iaload, 340, 0, 0, 0, 0), (340, .aload_n 0, 341, 0, 0, 0, 0), (341, .iload_n 3, 342, 3, 0, 0, 0), (342, .iconst 2, 343, 0, 0, 2, 0), (343, .iadd, 344, 0, 0, 0, 0), (344, .iaload, 345, 0, 0, 0, 0), (345, .invokevirtual 53, 348, 105, 2, 0, 0), (348, .if_icmp .eq 159, 351, 507, 0, 0, 0), (351, .iconst 0, 352, 0, 0, 0, 0), (352, .ireturn, 353, 0, 0, 0, 0), (353, .aload_n 1, 354, 1, 0, 0, 0), (354, .aload_n 0, 355, 0, 0, 0, 0), (355, .iload_n 3, 356, 3, 0, 0, 0), (356, .iconst 1, 357, 0, 0, 1, 0), (357, .iadd, 358, 0, 0, 0, 0), (358, .iaload, 359, 0, 0, 0, 0), (359, .aload_n 0, 360, 0, 0, 0, 0), (360, .iload_n 3, 361, 3, 0, 0, 0), (361, .iconst 2, 362, 0, 0, 2, 0), (362, .iadd, 363, 0, 0, 0, 0), (363, .iaload, 364, 0, 0, 0, 0), (364, .invokevirtual 54, 367, 106, 2, 0, 0), (367, .aload_n 2, 368, 2, 0, 0, 0), (368, .aload_n 0, 369, 0, 0, 0, 0), (369, .iload_n 3, 370, 3, 0, 0, 0), (370, .iconst 1, 371, 0, 0, 1, 0), (371, .iadd, 372, 0, 0, 0, 0), (372, .iaload, 373, 0, 0, 0, 0), (373, .aload_n 0, 374, 0, 0, 0, 0), (374, .iload_n 3, 375, 3, 0, 0, 0), (375, .iconst 2, 376, 0, 0, 2, 0), (376, .iadd, 377, 0, 0, 0, 0), (377, .iaload, 378, 0, 0, 0, 0), (378, .invokevirtual 57, 381, 107, 2, 0, 0), (381, .if_icmp .eq 126, 384, 507, 0, 0, 0), (384, .iconst 0, 385, 0, 0, 0, 0), (385, .ireturn, 386, 0, 0, 0, 0), (386, .aload_n 1, 387, 1, 0, 0, 0), (387, .aload_n 0, 388, 0, 0, 0, 0), (388, .iload_n 3, 389, 3, 0, 0, 0), (389, .iconst 1, 390, 0, 0, 1, 0), (390, .iadd, 391, 0, 0, 0, 0), (391, .iaload, 392, 0, 0, 0, 0), (392, .aload_n 0, 393, 0, 0, 0, 0), (393, .iload_n 3, 394, 3, 0, 0, 0), (394, .iconst 2, 395, 0, 0, 2, 0), (395, .iadd, 396, 0, 0, 0, 0), (396, .iaload, 397, 0, 0, 0, 0), (397, .invokevirtual 58, 400, 108, 2, 0, 0), (400, .aload_n 2, 401, 2, 0, 0, 0), (401, .aload_n 0, 402, 0, 0, 0, 0), (402, .iload_n 3, 403, 3, 0, 0, 0), (403, .iconst 1, 404, 0, 0, 1, 0), (404, .iadd, 405, 0, 0, 0, 0), (405, .iaload, 406, 0, 0, 0, 0), (406, .aload_n 0, 407, 0, 0, 0, 0), (407, .iload_n 3, 408, 3, 0, 0, 0), (408, .iconst 2, 409, 0, 0, 2, 0), (409, .iadd, 410, 0, 0, 0, 0), (410, .iaload, 411, 0, 0, 0, 0), (411, .invokevirtual 61, 414, 109, 2, 0, 0), (414, .if_icmp .eq 93, 417, 507, 0, 0, 0), (417, .iconst 0, 418, 0, 0, 0, 0), (418, .ireturn, 419, 0, 0, 0, 0), (419, .aload_n 1, 420, 1, 0, 0, 0), (420, .invokevirtual 62, 423, 110, 0, 0, 0), (423, .aload_n 2, 424, 2, 0, 0, 0), (424, .invokevirtual 65, 427, 111, 0, 0, 0), (427, .if_icmp .eq 80, 430, 507, 0, 0, 0), (430, .iconst 0, 431, 0, 0, 0, 0), (431, .ireturn, 432, 0, 0, 0, 0), (432, .aload_n 1, 433, 1, 0, 0, 0), (433, .invokevirtual 66, 436, 112, 0, 0, 0), (436, .aload_n 2, 437, 2, 0, 0, 0), (437, .invokevirtual 69, 440, 113, 0, 0, 0), (440, .if_icmp .eq 67, 443, 507, 0, 0, 0), (443, .iconst 0, 444, 0, 0, 0, 0), (444, .ireturn, 445, 0, 0, 0, 0), (445, .aload_n 1, 446, 1, 0, 0, 0), (446, .invokevirtual 70, 449, 114, 0, 0, 0), (449, .aload_n 2, 450, 2, 0, 0, 0), (450, .invokevirtual 73, 453, 115, 0, 0, 0), (453, .if_icmp .eq 54, 456, 507, 0, 0, 0), (456, .iconst 0, 457, 0, 0, 0, 0), (457, .ireturn, 458, 0, 0, 0, 0), (458, .aload_n 1, 459, 1, 0, 0, 0), (459, .invokevirtual 74, 462, 116, 0, 0, 0), (462, .aload_n 2, 463, 2, 0, 0, 0), (463, .invokevirtual 77, 466, 117, 0, 0, 0), (466, .if_icmp .eq 41, 469, 507, 0, 0, 0), (469, .iconst 0, 470, 0, 0, 0, 0), (470, .ireturn, 471, 0, 0, 0, 0), (471, .aload_n 1, 472, 1, 0, 0, 0), (472, .aload_n 0, 473, 0, 0, 0, 0), (473, .iload_n 3, 474, 3, 0, 0, 0), (474, .iconst 1, 475, 0, 0, 1, 0), (475, .iadd, 476, 0, 0, 0, 0), (476, .iaload, 477, 0, 0, 0, 0), (477, .invokevirtual 78, 480, 118, 1, 0, 0), (480, .aload_n 2, 481, 2, 0, 0, 0), (481, .aload_n 0, 482, 0, 0, 0, 0), (482, .iload_n 3, 483, 3, 0, 0, 0), (483, .iconst 1, 484, 0, 0, 1, 0), (484, .iadd, 485, 0, 0, 0, 0), (485, .iaload, 486, 0, 0, 0, 0), (486, .invokevirtual 81, 489, 119, 1, 0, 0), (489, .if_icmp .eq 18, 492, 507, 0, 0, 0), (492, .iconst 0, 493, 0, 0, 0, 0), (493, .ireturn, 494, 0, 0, 0, 0), (494, .aload_n 1, 495, 1, 0, 0, 0), (495, .invokevirtual 82, 498, 120, 0, 0, 0), (498, .aload_n 2, 499, 2, 0, 0, 0), (499, .invokevirtual 85, 502, 121, 0, 0, 0), (502, .if_icmp .eq 5, 505, 507, 0, 0, 0), (505, .iconst 0, 506, 0, 0, 0, 0), (506, .ireturn, 507, 0, 0, 0, 0), (507, .iinc 3 4, 510, 3, 0, 4, 0), (510, .goto (-492), 513, 18, 0, 0, 0), (513, .iconst 1, 514, 0, 0, 1, 0), (514, .ireturn, 515, 0, 0, 0, 0)]
def pg_Ls : List (List (Nat × am_I)) := [pg_L0, pg_L1, pg_L2, pg_L3, pg_L4, pg_L5, pg_L6, pg_L7, pg_L8, pg_L9, pg_L10, pg_L11, pg_L12, pg_L13, pg_L14, pg_L15, pg_L16, pg_L17, pg_L18, pg_L19, pg_L20, pg_L21, pg_L22, pg_L23, pg_L24, pg_L25, pg_L26, pg_L27, pg_L28, pg_L29, pg_L30, pg_L31, pg_L32, pg_L33, pg_L34, pg_L35, pg_L36, pg_L37, pg_L38, pg_L39, pg_L40, pg_L41, pg_L42, pg_L43, pg_L44, pg_L45, pg_L46, pg_L47, pg_L48, pg_L49, pg_L50, pg_L51, pg_L52, pg_L53, pg_L54, pg_L55, pg_L56, pg_L57, pg_L58, pg_L59, pg_L60, pg_L61, pg_L62, pg_L63, pg_L64, pg_L65, pg_L66, pg_L67, pg_L68, pg_L69, pg_L70, pg_L71, pg_L72, pg_L73, pg_L74, pg_L75, pg_L76, pg_L77, pg_L78, pg_L79, pg_L80, pg_L81, pg_L82, pg_L83, pg_L84, pg_L85, pg_L86, pg_L87, pg_L88, pg_L89, pg_L90, pg_L91, pg_L92, pg_L93, pg_L94, pg_L95, pg_L96, pg_L97, pg_L98, pg_L99, pg_L100, pg_L101, pg_L102, pg_L103, pg_L104, pg_L105, pg_L106, pg_L107, pg_L108, pg_L109, pg_L110, pg_L111, pg_L112, pg_L113, pg_L114, pg_L115, pg_L116, pg_L117, pg_L118, pg_L119, pg_L120, pg_L121]
def pg_L (M : Nat) : List (Nat × am_I) := pg_Ls.getD M []
def pg_in (M pc : Nat) : Option am_I := (pg_L M).lookup pc
/-- virtual calls: the site (own class, index, named method) by its number; (number * 64 + tag, method, kind, words, owner) -/
def pg_vs : List (String × Nat × MethodName) := [("RedoShelf", 96, ⟨"RedoShelf", "idle", "()Z"⟩), ("RedoShelf", 75, ⟨"RedoShelf$Images", "has", "(I)Z"⟩), ("RedoShelf", 114, ⟨"RedoShelf", "look", "(I)V"⟩), ("RedoShelf", 119, ⟨"RedoShelf$Images", "put", "(I[II)V"⟩), ("RedoShelf", 85, ⟨"RedoShelf$Sheet", "copy", "([II)V"⟩), ("RedoShelf", 92, ⟨"RedoShelf$Device", "read", "(ILRedoShelf$Sheet;)V"⟩), ("RedoShelf$Device", 55, ⟨"RedoShelf$Sheet", "copy", "([II)V"⟩), ("RedoShelf", 126, ⟨"RedoShelf$Images", "drop", "(I)V"⟩), ("RedoShelf", 138, ⟨"RedoShelf$Device", "write", "(I)LRedoShelf$Sheet;"⟩), ("RedoShelf$Device", 25, ⟨"RedoShelf$Chain", "add", "(I)LRedoShelf$Sheet;"⟩), ("RedoShelf$Chain", 13, ⟨"RedoShelf$Store", "take", "()LRedoShelf$Sheet;"⟩), ("RedoShelf", 149, ⟨"RedoShelf$CommitJob", "prepare", "()V"⟩), ("RedoShelf$CommitJob", 49, ⟨"RedoShelf$Images", "from", "(I)I"⟩), ("RedoShelf$CommitJob", 85, ⟨"RedoShelf$CommitJob", "group", "(I)I"⟩), ("RedoShelf$CommitJob", 52, ⟨"RedoShelf$CommitJob", "sheet", "()LRedoShelf$Sheet;"⟩), ("RedoShelf$CommitJob", 71, ⟨"RedoShelf$Sheet", "fill", "(IIII)V"⟩), ("RedoShelf$CommitJob", 92, ⟨"RedoShelf$Sheet", "mixed", "(I)I"⟩), ("RedoShelf$CommitJob", 97, ⟨"RedoShelf$CommitJob", "begin", "()V"⟩), ("RedoShelf$Images", 25, ⟨"RedoShelf$Images", "has", "(I)Z"⟩), ("RedoShelf$CommitJob", 60, ⟨"RedoShelf$Sheet", "copy", "([II)V"⟩), ("RedoShelf$CommitJob", 39, ⟨"RedoShelf$Chain", "add", "(I)LRedoShelf$Sheet;"⟩), ("RedoShelf", 152, ⟨"RedoShelf$CheckpointJob", "prepare", "()V"⟩), ("RedoShelf$CheckpointJob", 21, ⟨"RedoShelf$Images", "from", "(I)I"⟩), ("RedoShelf$CheckpointJob", 31, ⟨"RedoShelf$Chain", "add", "(I)LRedoShelf$Sheet;"⟩), ("RedoShelf$CheckpointJob", 41, ⟨"RedoShelf$Sheet", "copy", "([II)V"⟩), ("RedoShelf$CheckpointJob", 55, ⟨"RedoShelf$Sheet", "fill", "(IIII)V"⟩), ("RedoShelf$CheckpointJob", 59, ⟨"RedoShelf$CheckpointJob", "begin", "()V"⟩), ("RedoShelf", 153, ⟨"RedoShelf$RecoveryJob", "prepare", "()I"⟩), ("RedoShelf$RecoveryJob", 32, ⟨"RedoShelf$Device", "read", "(ILRedoShelf$Sheet;)V"⟩), ("RedoShelf$RecoveryJob", 88, ⟨"RedoShelf$RecoveryJob", "scan", "()I"⟩), ("RedoShelf$RecoveryJob", 44, ⟨"RedoShelf$RecoveryJob", "look", "(I)V"⟩), ("RedoShelf$RecoveryJob", 92, ⟨"RedoShelf$RecoveryJob", "image", "(III)V"⟩), ("RedoShelf$RecoveryJob", 77, ⟨"RedoShelf$Chain", "add", "(I)LRedoShelf$Sheet;"⟩), ("RedoShelf$RecoveryJob", 99, ⟨"RedoShelf$Sheet", "fill", "(IIII)V"⟩), ("RedoShelf$RecoveryJob", 103, ⟨"RedoShelf$RecoveryJob", "begin", "()V"⟩), ("RedoShelf$RecoveryJob", 68, ⟨"RedoShelf$RecoveryJob", "transaction", "(I)Z"⟩), ("RedoShelf$RecoveryJob", 48, ⟨"RedoShelf$Sheet", "is", "(II)Z"⟩), ("RedoShelf$RecoveryJob", 55, ⟨"RedoShelf$Sheet", "mixed", "(I)I"⟩), ("RedoShelf$RecoveryJob", 83, ⟨"RedoShelf$Sheet", "copy", "([II)V"⟩), ("RedoShelf", 156, ⟨"RedoShelf$Job", "act", "()V"⟩), ("RedoShelf$Job", 56, ⟨"RedoShelf$Device", "flush", "()V"⟩), ("RedoShelf$Job", 59, ⟨"RedoShelf$Job", "writeNext", "()V"⟩), ("RedoShelf$Job", 62, ⟨"RedoShelf$Job", "end", "()V"⟩), ("RedoShelf$Device", 47, ⟨"RedoShelf$Chain", "drop", "()LRedoShelf$Sheet;"⟩), ("RedoShelf$Device", 51, ⟨"RedoShelf$Device", "settle", "(LRedoShelf$Sheet;I)V"⟩), ("RedoShelf$Chain", 38, ⟨"RedoShelf$Store", "give", "(LRedoShelf$Sheet;)V"⟩), ("RedoShelf$Job", 26, ⟨"RedoShelf$Chain", "drop", "()LRedoShelf$Sheet;"⟩), ("RedoShelf$Job", 40, ⟨"RedoShelf$Device", "write", "(I)LRedoShelf$Sheet;"⟩), ("RedoShelf$Job", 46, ⟨"RedoShelf$Sheet", "fill", "(IIII)V"⟩), ("RedoShelf$CommitJob", 101, ⟨"RedoShelf$Images", "has", "(I)Z"⟩), ("RedoShelf$CommitJob", 108, ⟨"RedoShelf$Images", "put", "(I[II)V"⟩), ("RedoShelf$CommitJob", 112, ⟨"RedoShelf$Images", "drop", "(I)V"⟩), ("RedoShelf$RecoveryJob", 110, ⟨"RedoShelf$Memory", "clear", "()V"⟩), ("RedoShelf", 164, ⟨"RedoShelf$Job", "stop", "()V"⟩), ("RedoShelf", 167, ⟨"RedoShelf$Memory", "clear", "()V"⟩), ("RedoShelf", 170, ⟨"RedoShelf$Device", "crash", "(II)I"⟩), ("RedoShelf$Job", 65, ⟨"RedoShelf$Chain", "clear", "()V"⟩), ("RedoShelf$Chain", 42, ⟨"RedoShelf$Chain", "drop", "()LRedoShelf$Sheet;"⟩), ("RedoShelf", 177, ⟨"RedoShelf$Job", "code", "()I"⟩), ("RedoShelfModel", 65, ⟨"RedoShelfModel", "read", "(II)I"⟩), ("RedoShelfModel", 72, ⟨"RedoShelfModel", "idle", "()Z"⟩), ("RedoShelfModel", 76, ⟨"RedoShelfModel", "countOf", "(I)I"⟩), ("RedoShelfModel", 80, ⟨"RedoShelfModel", "get", "(II)I"⟩), ("RedoShelfModel", 83, ⟨"RedoShelfModel", "writeOut", "(I)V"⟩), ("RedoShelfModel", 107, ⟨"RedoShelfModel", "rowLength", "()I"⟩), ("RedoShelfModel", 128, ⟨"RedoShelfModel", "countPending", "()I"⟩), ("RedoShelfModel", 165, ⟨"RedoShelfModel", "replay", "(I)I"⟩), ("RedoShelfModel", 162, ⟨"RedoShelfModel", "findRevocations", "()V"⟩), ("RedoShelfModel", 137, ⟨"RedoShelfModel", "logWord", "(II)I"⟩), ("RedoShelfModel", 94, ⟨"RedoShelfModel", "say", "(IIII)V"⟩), ("RedoShelfModel", 146, ⟨"RedoShelfModel", "findHead", "()V"⟩), ("RedoShelfModel", 155, ⟨"RedoShelfModel", "validAt", "(II)I"⟩), ("RedoShelfModel", 158, ⟨"RedoShelfModel", "isRevocation", "(II)Z"⟩), ("RedoShelfModel", 140, ⟨"RedoShelfModel", "mixSector", "(II)I"⟩), ("RedoShelfModel", 177, ⟨"RedoShelfModel", "commitAction", "(I)V"⟩), ("RedoShelfModel", 180, ⟨"RedoShelfModel", "checkpointAction", "(I)V"⟩), ("RedoShelfModel", 183, ⟨"RedoShelfModel", "recoveryAction", "(I)V"⟩), ("RedoShelfModel", 186, ⟨"RedoShelfModel", "finish", "()V"⟩), ("RedoShelfModel", 101, ⟨"RedoShelfModel", "body", "(I)V"⟩), ("RedoShelfModel", 122, ⟨"RedoShelfModel", "sum", "(I)I"⟩), ("RedoShelfModel", 125, ⟨"RedoShelfModel", "flush", "()V"⟩), ("RedoShelfModel", 90, ⟨"RedoShelfModel", "revocationWord", "()I"⟩), ("RedoShelfModel", 98, ⟨"RedoShelfModel", "groupWord", "(II)I"⟩), ("RedoShelfModel", 87, ⟨"RedoShelfModel", "imageBlock", "(I)I"⟩), ("RedoShelfModel", 53, ⟨"RedoShelfModel", "settle", "(II)V"⟩), ("RedoShelfModel", 168, ⟨"RedoShelfModel", "committed", "()V"⟩), ("RedoShelfModel", 171, ⟨"RedoShelfModel", "checkpointed", "()V"⟩), ("RedoShelfModel", 174, ⟨"RedoShelfModel", "recovered", "()V"⟩), ("RedoShelfLaw", 13, ⟨"RedoShelf", "put", "(III)Z"⟩), ("RedoShelfLaw", 17, ⟨"RedoShelfModel", "put", "(III)Z"⟩), ("RedoShelfLaw", 18, ⟨"RedoShelf", "revoke", "(I)Z"⟩), ("RedoShelfLaw", 22, ⟨"RedoShelfModel", "revoke", "(I)Z"⟩), ("RedoShelfLaw", 23, ⟨"RedoShelf", "direct", "(III)Z"⟩), ("RedoShelfLaw", 26, ⟨"RedoShelfModel", "direct", "(III)Z"⟩), ("RedoShelfLaw", 27, ⟨"RedoShelf", "commit", "()I"⟩), ("RedoShelfLaw", 31, ⟨"RedoShelfModel", "commit", "()I"⟩), ("RedoShelfLaw", 32, ⟨"RedoShelf", "checkpoint", "()I"⟩), ("RedoShelfLaw", 35, ⟨"RedoShelfModel", "checkpoint", "()I"⟩), ("RedoShelfLaw", 36, ⟨"RedoShelf", "recover", "()I"⟩), ("RedoShelfLaw", 39, ⟨"RedoShelfModel", "recover", "()I"⟩), ("RedoShelfLaw", 40, ⟨"RedoShelf", "step", "(I)I"⟩), ("RedoShelfLaw", 44, ⟨"RedoShelfModel", "step", "(I)I"⟩), ("RedoShelfLaw", 45, ⟨"RedoShelf", "crash", "(II)I"⟩), ("RedoShelfLaw", 49, ⟨"RedoShelfModel", "crash", "(II)I"⟩), ("RedoShelfLaw", 50, ⟨"RedoShelf", "get", "(II)I"⟩), ("RedoShelfLaw", 53, ⟨"RedoShelfModel", "get", "(II)I"⟩), ("RedoShelfLaw", 54, ⟨"RedoShelf", "read", "(II)I"⟩), ("RedoShelfLaw", 57, ⟨"RedoShelfModel", "read", "(II)I"⟩), ("RedoShelfLaw", 58, ⟨"RedoShelf", "stored", "(II)I"⟩), ("RedoShelfLaw", 61, ⟨"RedoShelfModel", "stored", "(II)I"⟩), ("RedoShelfLaw", 62, ⟨"RedoShelf", "cached", "()I"⟩), ("RedoShelfLaw", 65, ⟨"RedoShelfModel", "cached", "()I"⟩), ("RedoShelfLaw", 66, ⟨"RedoShelf", "state", "()I"⟩), ("RedoShelfLaw", 69, ⟨"RedoShelfModel", "state", "()I"⟩), ("RedoShelfLaw", 70, ⟨"RedoShelf", "number", "()I"⟩), ("RedoShelfLaw", 73, ⟨"RedoShelfModel", "number", "()I"⟩), ("RedoShelfLaw", 74, ⟨"RedoShelf", "used", "()I"⟩), ("RedoShelfLaw", 77, ⟨"RedoShelfModel", "used", "()I"⟩), ("RedoShelfLaw", 78, ⟨"RedoShelf", "changed", "(I)I"⟩), ("RedoShelfLaw", 81, ⟨"RedoShelfModel", "changed", "(I)I"⟩), ("RedoShelfLaw", 82, ⟨"RedoShelf", "left", "()I"⟩), ("RedoShelfLaw", 85, ⟨"RedoShelfModel", "left", "()I"⟩)]
def pg_vr : List (Nat × Nat × Nat × List Nat × String) := [(0, 12, 0, [328, 330, 3, 40], ""), (69, 14, 0, [335, 336, 337, 45], ""), (128, 16, 0, [345, 347, 4, 40], ""), (197, 19, 0, [361, 362, 363, 45], ""), (265, 17, 0, [349, 350, 351, 50], ""), (322, 18, 0, [356, 357, 358, 42], ""), (393, 17, 0, [360, 350, 351, 50], ""), (453, 21, 0, [370, 371, 372, 45], ""), (514, 23, 0, [378, 379, 380, 42], ""), (579, 24, 0, [382, 383, 384, 43], ""), (641, 25, 0, [386, 387, 388, 41], ""), (710, 28, 0, [400, 401, 402, 47], ""), (773, 29, 0, [405, 406, 407, 45], ""), (838, 30, 0, [410, 412, 5, 47], ""), (902, 31, 0, [414, 416, 6, 47], ""), (969, 32, 0, [421, 422, 423, 50], ""), (1033, 33, 0, [425, 426, 427, 50], ""), (1094, 35, 1, [433, 434, 436, 437, 46], "RedoShelf$Job"), (1157, 14, 0, [409, 336, 337, 45], ""), (1225, 17, 0, [419, 350, 351, 50], ""), (1283, 24, 0, [418, 383, 384, 43], ""), (1351, 37, 0, [443, 444, 445, 48], ""), (1413, 29, 0, [447, 406, 407, 45], ""), (1475, 24, 0, [448, 383, 384, 43], ""), (1545, 17, 0, [449, 350, 351, 50], ""), (1609, 32, 0, [451, 422, 423, 50], ""), (1671, 35, 1, [452, 453, 454, 437, 46], "RedoShelf$Job"), (1736, 39, 0, [459, 460, 461, 49], ""), (1794, 18, 0, [463, 357, 358, 42], ""), (1864, 40, 0, [465, 467, 7, 49], ""), (1928, 42, 0, [473, 475, 9, 49], ""), (1992, 44, 0, [484, 486, 10, 49], ""), (2051, 24, 0, [488, 383, 384, 43], ""), (2121, 32, 0, [490, 422, 423, 50], ""), (2184, 35, 1, [491, 492, 493, 437, 46], "RedoShelf$Job"), (2248, 41, 0, [469, 471, 8, 49], ""), (2313, 43, 0, [477, 478, 479, 50], ""), (2377, 33, 0, [482, 426, 427, 50], ""), (2441, 17, 0, [489, 350, 351, 50], ""), (2502, 46, 1, [498, 500, 502, 499, 46], "RedoShelf$Job"), (2503, 46, 1, [498, 500, 501, 499, 46], "RedoShelf$Job"), (2504, 46, 1, [498, 500, 503, 499, 46], "RedoShelf$Job"), (2562, 47, 0, [505, 506, 507, 42], ""), (2630, 51, 1, [522, 887, 0, 524, 46], "RedoShelf$Job"), (2631, 51, 1, [522, 887, 1, 524, 46], "RedoShelf$Job"), (2632, 51, 1, [522, 887, 2, 524, 46], "RedoShelf$Job"), (2694, 53, 2, [529, 531, 535, 536, 47], "RedoShelf$Job"), (2695, 52, 2, [529, 531, 532, 533, 48], "RedoShelf$Job"), (2696, 54, 2, [529, 531, 541, 542, 49], "RedoShelf$Job"), (2755, 48, 0, [509, 510, 511, 43], ""), (2818, 50, 0, [517, 519, 11, 42], ""), (2881, 49, 0, [513, 514, 515, 41], ""), (2947, 48, 0, [526, 510, 511, 43], ""), (3010, 23, 0, [527, 379, 380, 42], ""), (3081, 32, 0, [528, 422, 423, 50], ""), (3141, 14, 0, [538, 336, 337, 45], ""), (3205, 19, 0, [539, 362, 363, 45], ""), (3269, 21, 0, [540, 371, 372, 45], ""), (3332, 55, 0, [544, 545, 546, 44], ""), (3398, 57, 1, [552, 554, 556, 553, 46], "RedoShelf$Job"), (3399, 57, 1, [552, 554, 555, 553, 46], "RedoShelf$Job"), (3400, 57, 1, [552, 554, 557, 553, 46], "RedoShelf$Job"), (3460, 55, 0, [564, 545, 546, 44], ""), (3522, 59, 0, [565, 566, 567, 42], ""), (3587, 58, 0, [559, 560, 561, 43], ""), (3651, 48, 0, [563, 510, 511, 43], ""), (3718, 67, 2, [593, 595, 599, 600, 47], "RedoShelf$Job"), (3719, 66, 2, [593, 595, 596, 597, 48], "RedoShelf$Job"), (3720, 68, 2, [593, 595, 602, 603, 49], "RedoShelf$Job"), (3786, 74, 0, [721, 700, 701, 51], ""), (3850, 81, 0, [726, 728, 12, 51], ""), (3914, 82, 0, [730, 732, 13, 51], ""), (3978, 77, 0, [734, 712, 713, 51], ""), (4042, 85, 0, [743, 745, 14, 51], ""), (4106, 88, 0, [755, 757, 15, 51], ""), (4170, 90, 0, [763, 765, 16, 51], ""), (4234, 92, 0, [771, 773, 17, 51], ""), (4298, 93, 0, [775, 777, 18, 51], ""), (4362, 96, 0, [787, 789, 21, 51], ""), (4426, 100, 0, [803, 805, 24, 51], ""), (4490, 94, 0, [779, 781, 19, 51], ""), (4554, 95, 0, [783, 785, 20, 51], ""), (4618, 99, 0, [799, 801, 23, 51], ""), (4682, 97, 0, [791, 793, 22, 51], ""), (4746, 102, 0, [811, 813, 25, 51], ""), (4810, 110, 0, [843, 845, 33, 51], ""), (4874, 111, 0, [847, 849, 34, 51], ""), (4938, 112, 0, [851, 853, 35, 51], ""), (5002, 103, 0, [815, 817, 26, 51], ""), (5066, 107, 0, [831, 833, 30, 51], ""), (5130, 108, 0, [835, 837, 31, 51], ""), (5194, 104, 0, [819, 821, 27, 51], ""), (5258, 105, 0, [823, 825, 28, 51], ""), (5322, 106, 0, [827, 829, 29, 51], ""), (5386, 109, 0, [839, 841, 32, 51], ""), (5450, 113, 0, [855, 857, 36, 51], ""), (5514, 114, 0, [859, 861, 37, 51], ""), (5578, 115, 0, [863, 865, 38, 51], ""), (5632, 11, 0, [324, 325, 326, 40], ""), (5706, 80, 0, [722, 723, 724, 51], ""), (5760, 20, 0, [366, 367, 368, 40], ""), (5834, 83, 0, [735, 736, 737, 51], ""), (5888, 22, 0, [374, 375, 376, 40], ""), (5962, 84, 0, [739, 740, 741, 51], ""), (6016, 26, 0, [392, 393, 394, 40], ""), (6090, 87, 0, [751, 752, 753, 51], ""), (6144, 36, 0, [439, 440, 441, 40], ""), (6218, 89, 0, [759, 760, 761, 51], ""), (6272, 38, 0, [455, 456, 457, 40], ""), (6346, 91, 0, [767, 768, 769, 51], ""), (6400, 45, 0, [494, 495, 496, 40], ""), (6474, 101, 0, [807, 808, 809, 51], ""), (6528, 56, 0, [548, 549, 550, 40], ""), (6602, 116, 0, [867, 868, 869, 51], ""), (6656, 61, 0, [573, 574, 575, 40], ""), (6730, 77, 0, [711, 712, 713, 51], ""), (6784, 62, 0, [577, 578, 579, 40], ""), (6858, 74, 0, [699, 700, 701, 51], ""), (6912, 63, 0, [581, 582, 583, 40], ""), (6986, 75, 0, [703, 704, 705, 51], ""), (7040, 64, 0, [585, 586, 587, 40], ""), (7114, 76, 0, [707, 708, 709, 51], ""), (7168, 65, 0, [589, 590, 591, 40], ""), (7242, 117, 0, [871, 872, 873, 51], ""), (7296, 69, 0, [605, 606, 607, 40], ""), (7370, 118, 0, [875, 876, 877, 51], ""), (7424, 70, 0, [609, 610, 611, 40], ""), (7498, 119, 0, [879, 880, 881, 51], ""), (7552, 71, 0, [613, 614, 615, 40], ""), (7626, 86, 0, [747, 748, 749, 51], ""), (7680, 72, 0, [617, 618, 619, 40], ""), (7754, 120, 0, [883, 884, 885, 51], "")]
def pg_vt (k : Nat) : Option Nat := (pg_vr.lookup k).map (fun q => q.1)
def pg_nw : List (String × Nat × MethodName × String) := [("RedoShelf", 10, ⟨"RedoShelf$Store", "<init>", "()V"⟩, "RedoShelf"), ("RedoShelf", 28, ⟨"RedoShelf$Memory", "<init>", "()V"⟩, "RedoShelf"), ("RedoShelf$Memory", 19, ⟨"RedoShelf$Images", "<init>", "()V"⟩, "RedoShelf"), ("RedoShelf$RecoveryJob", 11, ⟨"RedoShelf$Sheet", "<init>", "()V"⟩, "RedoShelf"), ("RedoShelf", 58, ⟨"RedoShelf$Sheet", "<init>", "()V"⟩, "RedoShelf"), ("RedoShelf$Store", 15, ⟨"RedoShelf$Sheet", "<init>", "()V"⟩, "RedoShelf"), ("RedoShelf$Sheet", 22, ⟨"RedoShelf", "mix", "(II)I"⟩, "RedoShelf")]
def pg_dw : List MethodName := [⟨"RedoShelf$Job", "begin", "()V"⟩, ⟨"RedoShelf$Job", "end", "()V"⟩, ⟨"RedoShelf$Job", "code", "()I"⟩]
def pg_wn : MethodName := ⟨"RedoShelf$Job", "writeNext", "()V"⟩
def pg_TB : List Cond := ([.selects "RedoShelf$CommitJob" pg_wn pg_wn, .selects "RedoShelf$CheckpointJob" pg_wn pg_wn, .selects "RedoShelf$RecoveryJob" pg_wn pg_wn] : List Cond) ++ lw_tbl
def pg_Tg : List Cond := pg_TB.filter goodWord
end
section
/-! THE ABSTRACT MACHINE: memory by small addresses (0 null, 1 the script, from 2 on in the order of making); the class of a cell and the length of an array are fixed functions of the address -/
abbrev am_R : Type := Option ((Nat × List Value × List Value × am_H) ⊕ (Option Value ⊕ (Nat × List Value × List Value)))
def am_u2 {α : Type} (f : Nat → Nat → α) (a k : Nat) (v : α) : Nat → Nat → α := fun x y => if x = a ∧ y = k then v else f x y
def am_z2 {α : Type} (f : Nat → Nat → α) (a : Nat) (z : α) : Nat → Nat → α := fun x y => if x = a then z else f x y
def am_cp (f : Nat → Nat → Int32) (a0 a sp dp n : Nat) : Nat → Nat → Int32 := fun x y => if x = a then va_cpy (f a0) (f a) sp dp n y else f x y
/-- tags: 0..10 the classes, 30 int[], 31 boolean[], 99 null -/
def tg_ (a : Nat) : Nat := ([99, 30, 0, 1, 2, 30, 3, 4, 5, 30, 5, 30, 6, 3, 7, 3, 8, 3, 9, 30, 30, 9, 30, 10, 30, 30, 30, 30, 30, 31, 30, 30, 30, 31] : List Nat).getD a (if a % 2 = 0 then 9 else 30)
/-- how many slots: the fields of an object, the length of an array -/
def ln_ (a : Nat) : Nat := ([0, 0, 8, 1, 2, 164, 4, 7, 2, 64, 2, 64, 6, 4, 4, 4, 12, 4, 3, 4, 16, 3, 4, 23, 164, 32, 128, 16, 64, 16, 64, 4, 16, 16] : List Nat).getD a (if a % 2 = 0 then 3 else 4)
def am_len (h : am_H) (a : Nat) : Nat := if a = 1 then h.2.1 1 0 else ln_ a
def am_sub (t c : Nat) : Bool := t == c || (c == 20 && (t == 6 || t == 7 || t == 8))
def am_nx (pc : Nat) (L S : List Value) (h : am_H) : am_R := some (.inl (pc, L, S, h))
def am_rt (v : Option Value) : am_R := some (.inr (.inl v))
def am_cl (M : Nat) (as rest : List Value) : am_R := if rest.length ≤ 8 ∧ as.length ≤ pg_ml M then some (.inr (.inr (M, as, rest))) else none
def am_sh (x y : Int32) : Int32 := (x.toUInt32 >>> (y.toUInt32 &&& Int32.toUInt32 31)).toInt32
def am_cd (c : ClassFile.Cond) (x y : Int32) : Bool := match c with
  | .eq => decide (x = y)
  | .ne => decide (¬ x = y)
  | .lt => decide (x < y)
  | .ge => decide (y ≤ x)
  | .gt => decide (y < x)
  | .le => decide (x ≤ y)
def am_bin (f : Int32 → Int32 → Int32) (n : Nat) (L S : List Value) (h : am_H) : am_R := match S with
  | .int y :: .int x :: T => am_nx n L (.int (f x y) :: T) h
  | _ => none
def am_ild (a n : Nat) (L S : List Value) (h : am_H) : am_R := match L[a]? with
  | some (.int x) => am_nx n L (.int x :: S) h
  | _ => none
def am_ald (a n : Nat) (L S : List Value) (h : am_H) : am_R := match L[a]? with
  | some (.ref x) => am_nx n L (.ref x :: S) h
  | _ => none
def am_ist (a n : Nat) (L S : List Value) (h : am_H) : am_R := match S with
  | .int x :: T => if a < L.length then am_nx n (L.set a (.int x)) T h else none
  | _ => none
def am_ast (a n : Nat) (L S : List Value) (h : am_H) : am_R := match S with
  | .ref x :: T => if a < L.length then am_nx n (L.set a (.ref x)) T h else none
  | _ => none
def am_inc (a n : Nat) (c : Int32) (L S : List Value) (h : am_H) : am_R := match L[a]? with
  | some (.int x) => am_nx n (L.set a (.int (x + c))) S h
  | _ => none
def am_div (f : Int32 → Int32 → Int32) (n : Nat) (L S : List Value) (h : am_H) : am_R := match S with
  | .int y :: .int x :: T => if y = 0 then none else am_nx n L (.int (f x y) :: T) h
  | _ => none
def am_if1 (cd : ClassFile.Cond) (a n : Nat) (L S : List Value) (h : am_H) : am_R := match S with
  | .int x :: T => if am_cd cd x 0 = true then am_nx a L T h else am_nx n L T h
  | _ => none
def am_if2 (cd : ClassFile.Cond) (a n : Nat) (L S : List Value) (h : am_H) : am_R := match S with
  | .int y :: .int x :: T => if am_cd cd x y = true then am_nx a L T h else am_nx n L T h
  | _ => none
def am_ifn (a n : Nat) (L S : List Value) (h : am_H) : am_R := match S with
  | .ref x :: T => if x = 0 then am_nx a L T h else am_nx n L T h
  | _ => none
def am_get (n a b : Nat) (c : Int32) (L S : List Value) (h : am_H) : am_R := match S with
  | .ref r :: T => if am_sub (tg_ r) a = true then (if c = 1 then am_nx n L (.ref (h.2.1 r b) :: T) h else am_nx n L (.int (h.1 r b) :: T) h) else none
  | _ => none
def am_put (n a b : Nat) (c : Int32) (L S : List Value) (h : am_H) : am_R := match S with
  | .int x :: .ref r :: T => if am_sub (tg_ r) a = true ∧ ¬ c = 1 ∧ (c = 2 → x = 0 ∨ x = 1) then am_nx n L T (am_u2 h.1 r b x, h.2.1, h.2.2) else none
  | .ref x :: .ref r :: T => if am_sub (tg_ r) a = true ∧ c = 1 then am_nx n L T (h.1, am_u2 h.2.1 r b x, h.2.2) else none
  | _ => none
def am_new (n a : Nat) (L S : List Value) (h : am_H) : am_R := if tg_ h.2.2 = a then am_nx n L (.ref h.2.2 :: S) (am_z2 h.1 h.2.2 0, am_z2 h.2.1 h.2.2 0, h.2.2 + 1) else none
def am_nar (n a : Nat) (L S : List Value) (h : am_H) : am_R := match S with
  | .int x :: T => if tg_ h.2.2 = a ∧ ¬ x < 0 ∧ x.toNatClampNeg = ln_ h.2.2 then am_nx n L (.ref h.2.2 :: T) (am_z2 h.1 h.2.2 0, am_z2 h.2.1 h.2.2 0, h.2.2 + 1) else none
  | _ => none
def am_aln (n : Nat) (L S : List Value) (h : am_H) : am_R := match S with
  | .ref r :: T => if tg_ r = 30 then am_nx n L (.int (Int32.ofNat (am_len h r)) :: T) h else none
  | _ => none
def am_eld (t n : Nat) (L S : List Value) (h : am_H) : am_R := match S with
  | .int j :: .ref r :: T => if tg_ r = t ∧ ¬ j < 0 ∧ j.toNatClampNeg < am_len h r then am_nx n L (.int (h.1 r j.toNatClampNeg) :: T) h else none
  | _ => none
def am_est (t n : Nat) (L S : List Value) (h : am_H) : am_R := match S with
  | .int x :: .int j :: .ref r :: T => if tg_ r = t ∧ ¬ r = 1 ∧ ¬ j < 0 ∧ j.toNatClampNeg < ln_ r ∧ (t = 31 → x = 0 ∨ x = 1) then am_nx n L T (am_u2 h.1 r j.toNatClampNeg x, h.2.1, h.2.2) else none
  | _ => none
def am_cpy (n : Nat) (L S : List Value) (h : am_H) : am_R := match S with
  | .int k :: .int dp :: .ref r :: .int sp :: .ref q :: T => if (tg_ q = 30 ∧ tg_ r = 30 ∧ ¬ q = 1 ∧ ¬ r = 1) ∧ (¬ sp < 0 ∧ ¬ dp < 0 ∧ ¬ k < 0) ∧ sp.toNatClampNeg + k.toNatClampNeg ≤ ln_ q ∧ dp.toNatClampNeg + k.toNatClampNeg ≤ ln_ r ∧ T.length ≤ 8 then am_nx n L T (am_cp h.1 q r sp.toNatClampNeg dp.toNatClampNeg k.toNatClampNeg, h.2.1, h.2.2) else none
  | _ => none
def am_vir (a b : Nat) (S : List Value) : am_R := match S.drop b with
  | .ref r :: T => (match pg_vt (a * 64 + tg_ r) with
    | some M => am_cl M (.ref r :: (S.take b).reverse) T
    | none => none)
  | _ => none
def am_spe (n a b : Nat) (L S : List Value) (h : am_H) : am_R := match S.drop b with
  | .ref r :: T => if r = 0 then none else if a = 999 then (if T.length ≤ 8 then am_nx n L T h else none) else am_cl a (.ref r :: (S.take b).reverse) T
  | _ => none
def am_sta (n a b : Nat) (L S : List Value) (h : am_H) : am_R := if a = 998 then am_cpy n L S h else if (S.take b).length = b then am_cl a (S.take b).reverse (S.drop b) else none
def am_swi (pc : Nat) (d lo hi : Int) (os : Array Int) (L S : List Value) (h : am_H) : am_R := match S with
  | .int x :: T => if x.toInt < lo ∨ hi < x.toInt then am_nx ((pc : Int) + d).toNat L T h else (match os[(x.toInt - lo).toNat]? with
    | some o => am_nx ((pc : Int) + o).toNat L T h
    | none => none)
  | _ => none
def am_dup (n : Nat) (L S : List Value) (h : am_H) : am_R := match S with
  | v :: T => am_nx n L (v :: v :: T) h
  | _ => none
def am_dx1 (n : Nat) (L S : List Value) (h : am_H) : am_R := match S with
  | v :: u :: T => am_nx n L (v :: u :: v :: T) h
  | _ => none
def am_pop (n : Nat) (L S : List Value) (h : am_H) : am_R := match S with
  | _ :: T => am_nx n L T h
  | _ => none
def am_ire (M : Nat) (S : List Value) : am_R := match S with
  | [.int x] => if pg_rt M = some .boolean → x = 0 ∨ x = 1 then am_rt (some (.int x)) else none
  | _ => none
def am_are (S : List Value) : am_R := match S with
  | [.ref x] => am_rt (some (.ref x))
  | _ => none
def am_vre (S : List Value) : am_R := match S with
  | [] => am_rt none
  | _ => none
/-- one instruction -/
def am_ex (q : am_I) (M pc : Nat) (L S : List Value) (h : am_H) : am_R := match q with
  | (i, n, a, b, c, _) => match i with
    | .iconst _ => am_nx n L (.int c :: S) h
    | .bipush _ => am_nx n L (.int c :: S) h
    | .sipush _ => am_nx n L (.int c :: S) h
    | .ldc _ => am_nx n L (.int c :: S) h
    | .ldc_w _ => am_nx n L (.int c :: S) h
    | .aconst_null => am_nx n L (.ref 0 :: S) h
    | .iload_n _ => am_ild a n L S h
    | .iload _ => am_ild a n L S h
    | .aload_n _ => am_ald a n L S h
    | .aload _ => am_ald a n L S h
    | .istore_n _ => am_ist a n L S h
    | .istore _ => am_ist a n L S h
    | .astore_n _ => am_ast a n L S h
    | .astore _ => am_ast a n L S h
    | .iinc _ _ => am_inc a n c L S h
    | .iadd => am_bin (fun x y => x + y) n L S h
    | .isub => am_bin (fun x y => x - y) n L S h
    | .imul => am_bin (fun x y => x * y) n L S h
    | .iand => am_bin (fun x y => x &&& y) n L S h
    | .ior => am_bin (fun x y => x ||| y) n L S h
    | .ixor => am_bin (fun x y => x ^^^ y) n L S h
    | .ishl => am_bin (fun x y => x <<< (y &&& 31)) n L S h
    | .ishr => am_bin (fun x y => x >>> (y &&& 31)) n L S h
    | .iushr => am_bin am_sh n L S h
    | .idiv => am_div (fun x y => x / y) n L S h
    | .irem => am_div (fun x y => x - x / y * y) n L S h
    | .dup => am_dup n L S h
    | .dup_x1 => am_dx1 n L S h
    | .pop => am_pop n L S h
    | .ifCond cd _ => am_if1 cd a n L S h
    | .if_icmp cd _ => am_if2 cd a n L S h
    | .ifnull _ => am_ifn a n L S h
    | .ifnonnull _ => am_ifn n a L S h
    | .goto _ => am_nx a L S h
    | .tableswitch d lo hi os => am_swi pc d lo hi os L S h
    | .getfield _ => am_get n a b c L S h
    | .putfield _ => am_put n a b c L S h
    | .new _ => am_new n a L S h
    | .newarray _ => am_nar n a L S h
    | .arraylength => am_aln n L S h
    | .iaload => am_eld 30 n L S h
    | .baload => am_eld 31 n L S h
    | .iastore => am_est 30 n L S h
    | .bastore => am_est 31 n L S h
    | .invokevirtual _ => am_vir a b S
    | .invokespecial _ => am_spe n a b L S h
    | .invokestatic _ => am_sta n a b L S h
    | .ireturn => am_ire M S
    | .areturn => am_are S
    | .return_ => am_vre S
    | _ => none
def am_st (M pc : Nat) (L S : List Value) (h : am_H) : am_R := match pg_in M pc with
  | some q => am_ex q M pc L S h
  | none => none
def am_lo (M : Nat) (as : List Value) : List Value := as ++ List.replicate (pg_ml M - as.length) (.long 0)
/-- a run with fuel -/
def am_ru : Nat → Nat → Nat → List Value → List Value → am_H → Option (Option Value × am_H)
  | 0, _, _, _, _, _ => none
  | f + 1, M, pc, L, S, h => match am_st M pc L S h with
    | none => none
    | some (.inl (pc', L', S', h')) => am_ru f M pc' L' S' h'
    | some (.inr (.inl v)) => some (v, h)
    | some (.inr (.inr (M', as, rest))) => match am_ru f M' 0 (am_lo M' as) [] h with
      | none => none
      | some (v, h') => am_ru f M (pc + 3) L (v.toList ++ rest) h'
/-- the weakest precondition -/
def am_wp (M pc : Nat) (L S : List Value) (h : am_H) (Q : Option Value → am_H → Prop) : Prop := ∃ f v h', am_ru f M pc L S h = some (v, h') ∧ Q v h'
theorem am_ru_mono : ∀ (f : Nat) {M pc : Nat} {L S : List Value} {h : am_H} {r : Option Value × am_H}, am_ru f M pc L S h = some r → am_ru (f + 1) M pc L S h = some r
  | 0, _, _, _, _, _, _, e => by simp [am_ru] at e
  | f + 1, M, pc, L, S, h, r, e => by
    rw [am_ru] at e ⊢
    match hs : am_st M pc L S h with
    | none => rw [hs] at e; cases e
    | some (.inl (pc', L', S', h')) => rw [hs] at e; exact am_ru_mono f e
    | some (.inr (.inl v)) => rw [hs] at e; exact e
    | some (.inr (.inr (M', as, rest))) =>
      rw [hs] at e
      match hc : am_ru f M' 0 (am_lo M' as) [] h with
      | none => simp only [hc] at e; cases e
      | some (v, h') =>
        simp only [hc] at e
        simp only [am_ru_mono f hc]
        exact am_ru_mono f e
theorem am_ru_le {f g : Nat} (hg : f ≤ g) {M pc : Nat} {L S : List Value} {h : am_H} {r : Option Value × am_H} (e : am_ru f M pc L S h = some r) : am_ru g M pc L S h = some r := by
  induction hg with
  | refl => exact e
  | step _ ih => exact am_ru_mono _ ih
theorem wp_mono {M pc : Nat} {L S : List Value} {h : am_H} {Q Q' : Option Value → am_H → Prop} (w : am_wp M pc L S h Q) (hq : ∀ v h', Q v h' → Q' v h') : am_wp M pc L S h Q' := by
  obtain ⟨f, v, h', e, q⟩ := w
  exact ⟨f, v, h', e, hq v h' q⟩
theorem wp_st {M pc pc' : Nat} {L S L' S' : List Value} {h h' : am_H} {Q : Option Value → am_H → Prop} (e : am_st M pc L S h = some (.inl (pc', L', S', h'))) (w : am_wp M pc' L' S' h' Q) : am_wp M pc L S h Q := by
  obtain ⟨f, v, h1, e1, q⟩ := w
  exact ⟨f + 1, v, h1, by rw [am_ru, e]; exact e1, q⟩
theorem wp_nx {M pc pc' : Nat} {L S L' S' : List Value} {h h' : am_H} {Q : Option Value → am_H → Prop} {q : am_I} (hi : pg_in M pc = some q) (e : am_ex q M pc L S h = some (.inl (pc', L', S', h'))) (w : am_wp M pc' L' S' h' Q) : am_wp M pc L S h Q :=
  wp_st (by rw [am_st, hi]; exact e) w
theorem wp_re {M pc : Nat} {L S : List Value} {h : am_H} {v : Option Value} {Q : Option Value → am_H → Prop} {q : am_I} (hi : pg_in M pc = some q) (e : am_ex q M pc L S h = some (.inr (.inl v))) (w : Q v h) : am_wp M pc L S h Q := by
  refine ⟨1, v, h, ?_, w⟩
  rw [am_ru, am_st, hi]
  simp only [e]
theorem wp_ca {M pc M' : Nat} {L S as rest : List Value} {h : am_H} {Q : Option Value → am_H → Prop} {q : am_I} (hi : pg_in M pc = some q) (e : am_ex q M pc L S h = some (.inr (.inr (M', as, rest)))) (w : am_wp M' 0 (am_lo M' as) [] h (fun v h' => am_wp M (pc + 3) L (v.toList ++ rest) h' Q)) : am_wp M pc L S h Q := by
  obtain ⟨f, v, h1, e1, g, v2, h2, e2, q2⟩ := w
  refine ⟨max f g + 1, v2, h2, ?_, q2⟩
  rw [am_ru, am_st, hi]
  simp only [e, am_ru_le (Nat.le_max_left f g) e1]
  exact am_ru_le (Nat.le_max_right f g) e2
end
section
/-! THE CHECKS of the program tables against the bytes and the tables' words -/
def pg_len (i : Instr) (b : Nat) : Nat := match i with
  | .bipush _ => 2
  | .sipush _ => 3
  | .ldc _ => 2
  | .ldc_w _ => 3
  | .iload _ => 2
  | .aload _ => 2
  | .istore _ => 2
  | .astore _ => 2
  | .iinc _ _ => 3
  | .ifCond _ _ => 3
  | .if_icmp _ _ => 3
  | .ifnull _ => 3
  | .ifnonnull _ => 3
  | .goto _ => 3
  | .tableswitch _ _ _ _ => b
  | .getfield _ => 3
  | .putfield _ => 3
  | .new _ => 3
  | .newarray _ => 2
  | .invokevirtual _ => 3
  | .invokespecial _ => 3
  | .invokestatic _ => 3
  | _ => 1
def pg_w (w : Nat) (c : Cond) : Bool := decide (pg_TB[w]? = some c) && goodWord c
def pg_h (c : Cond) : Bool := decide (c ∈ pg_TB) && goodWord c
def pg_own (M : Nat) : String := (pg_nm M).cls
def pg_rn (a : Nat) : String := if a = 20 then "RedoShelf$Job" else pg_C a
def pg_np (y : MethodName) (n : Nat) : Bool := decide ((parseMethodDescriptor y.desc).map (fun d => d.parameters.length) = some n)
def pg_room (M y : Nat) : Bool := decide (y < 121) && (decide (pg_fr y + 1 ≤ pg_fr M) && decide (8 + (pg_ml y + 11) + pg_lw y ≤ pg_lw M))
def pg_fok (M k a b : Nat) (c : Int32) (w t : Nat) : Bool := !am_sub t a || (decide (b < pg_N t) && (pg_w w (.fieldLink (pg_own M) k (pg_rn a) (pg_F t b).2.1 (pg_F t b).2.2.1) && ((decide ((pg_F t b).1 = pg_rn a) || pg_h (.sameField (pg_rn a) (pg_F t b).1 (pg_F t b).2.1 (pg_F t b).2.2.1)) && decide (c = if pg_rf t b = true then 1 else if pg_t t b = .boolean then 2 else 0))))
def pg_pok (M a b t : Nat) : Bool := !am_sub t a || (decide ((pg_F t b).2.2.2 = false) || (decide ((pg_F t b).1 = pg_own M) && decide ((pg_nm M).name = "<init>")))
def pg_spe (M k a b : Nat) (c : Int32) (w : Nat) : Bool :=
  if a = 999 then decide (b = 0) && (pg_w w (.methodLink (pg_own M) k objectInit) && (decide (1 ≤ pg_fr M) && decide (20 ≤ pg_lw M)))
  else pg_room M a && (pg_np (pg_nm a) b && (decide ((pg_nm a).name = "<init>") && (decide (pg_rt a = none) && (pg_h (.instanceMethod (pg_nm a)) && (if c = 1 then decide (pg_nw[w]? = some (pg_own M, k, pg_nm a, "RedoShelf")) else pg_w w (.methodLink (pg_own M) k (pg_nm a)))))))
def pg_sta (M k a b : Nat) (c : Int32) (w : Nat) : Bool :=
  if a = 998 then pg_w w (.methodLink (pg_own M) k arraycopyName) && (decide (1 ≤ pg_fr M) && decide (60 ≤ pg_lw M))
  else pg_room M a && (pg_np (pg_nm a) b && (pg_h (.static (pg_nm a)) && (if c = 1 then decide (pg_nw[w]? = some (pg_own M, k, pg_nm a, "RedoShelf")) else pg_w w (.methodLink (pg_own M) k (pg_nm a)))))
def pg_ve (M k a b : Nat) : Bool := (match pg_vs[a]? with
  | some (o, j, x) => decide (o = pg_own M) && (decide (j = k) && pg_np x b)
  | none => false) && pg_vr.all (fun r => !(decide (r.1 / 64 = a)) || pg_room M r.2.1)
def pg_chk (M : Nat) (r : Nat × am_I) : Bool := match r with
  | (pc, i, n, a, b, c, w) => decide (decode (pg_by M) pc = .ok (i, pg_len i b)) && (decide (n = pc + pg_len i b) && (match i with
    | .iconst k => decide (Int32.ofInt k = c)
    | .bipush k => decide ((Int8.ofInt k).toInt32 = c)
    | .sipush k => decide ((Int16.ofInt k).toInt32 = c)
    | .ldc k => pg_w w (.constant (pg_own M) k c)
    | .ldc_w k => pg_w w (.constant (pg_own M) k c)
    | .iload_n k => decide ((k : Nat) = a)
    | .aload_n k => decide ((k : Nat) = a)
    | .istore_n k => decide ((k : Nat) = a)
    | .astore_n k => decide ((k : Nat) = a)
    | .iload k => decide (k = a)
    | .aload k => decide (k = a)
    | .istore k => decide (k = a)
    | .astore k => decide (k = a)
    | .iinc k z => decide (k = a) && decide (Int32.ofInt z = c)
    | .ifCond _ o => decide ((pc : Int) + o = (a : Int))
    | .if_icmp _ o => decide ((pc : Int) + o = (a : Int))
    | .ifnull o => decide ((pc : Int) + o = (a : Int))
    | .ifnonnull o => decide ((pc : Int) + o = (a : Int))
    | .goto o => decide ((pc : Int) + o = (a : Int))
    | .tableswitch d _ _ os => decide (0 ≤ (pc : Int) + d) && os.toList.all (fun o => decide (0 ≤ (pc : Int) + o))
    | .getfield k => decide (a < 11 ∨ a = 20) && (List.range 11).all (pg_fok M k a b c w)
    | .putfield k => decide (a < 11 ∨ a = 20) && ((List.range 11).all (pg_fok M k a b c w) && (List.range 11).all (pg_pok M a b))
    | .new k => decide (a < 11) && pg_w w (.classLink (pg_own M) k (pg_C a))
    | .newarray t => decide (a = 30 ∧ t = .int ∨ a = 31 ∧ t = .boolean)
    | .invokevirtual k => pg_ve M k a b
    | .invokespecial k => pg_spe M k a b c w
    | .invokestatic k => pg_sta M k a b c w
    | .ireturn => decide (pg_rt M = some .int ∨ pg_rt M = some .boolean)
    | .areturn => decide (pg_rt M = some (.object "RedoShelf$Sheet"))
    | .return_ => decide (pg_rt M = none)
    | _ => true))
/-- a row of the virtual calls -/
def pg_vok (r : Nat × Nat × Nat × List Nat × String) : Bool := match r with
  | (key, m, kd, ws, ow) => match pg_vs[key / 64]? with
    | none => false
    | some (o, j, x) => decide (key % 64 < 11) && (decide (m < 121) && (if kd = 0 then
        decide (pg_nm m = x) && (decide (x.cls = pg_C (key % 64)) && (pg_w (ws.getD 0 0) (.methodLink o j x) && (pg_w (ws.getD 1 0) (.instanceMethod x) && (pg_w (ws.getD 2 0) (.selects (pg_C (key % 64)) x x) && pg_w (ws.getD 3 0) (.initialized (pg_C (key % 64)))))))
      else pg_w (ws.getD 0 0) (.methodLink o j x) && (pg_w (ws.getD 1 0) (.sameMethod x.cls ow x.name x.desc) && (pg_w (ws.getD 2 0) (.selects (pg_C (key % 64)) x (pg_nm m)) && (pg_w (ws.getD 3 0) (.instanceMethod (pg_nm m)) && (pg_w (ws.getD 4 0) (.initialized (pg_nm m).cls) && (decide (ow ≠ "java/lang/invoke/MethodHandle") && (decide (ow ≠ "java/lang/invoke/VarHandle") && (if kd = 1 then decide (pg_nm m = ⟨ow, x.name, x.desc⟩) else decide ((⟨ow, x.name, x.desc⟩ : MethodName) ∈ pg_dw))))))))))
set_option maxRecDepth 100000 in
theorem pg_vok_all : pg_vr.all pg_vok = true := by decide +kernel
end
section
set_option maxRecDepth 100000 in
theorem pg_k0 : (pg_L 0).all (pg_chk 0) = true := by decide +kernel
set_option maxRecDepth 100000 in
theorem pg_k1 : (pg_L 1).all (pg_chk 1) = true := by decide +kernel
set_option maxRecDepth 100000 in
theorem pg_k2 : (pg_L 2).all (pg_chk 2) = true := by decide +kernel
set_option maxRecDepth 100000 in
theorem pg_k3 : (pg_L 3).all (pg_chk 3) = true := by decide +kernel
set_option maxRecDepth 100000 in
theorem pg_k4 : (pg_L 4).all (pg_chk 4) = true := by decide +kernel
set_option maxRecDepth 100000 in
theorem pg_k5 : (pg_L 5).all (pg_chk 5) = true := by decide +kernel
set_option maxRecDepth 100000 in
theorem pg_k6 : (pg_L 6).all (pg_chk 6) = true := by decide +kernel
set_option maxRecDepth 100000 in
theorem pg_k7 : (pg_L 7).all (pg_chk 7) = true := by decide +kernel
set_option maxRecDepth 100000 in
theorem pg_k8 : (pg_L 8).all (pg_chk 8) = true := by decide +kernel
set_option maxRecDepth 100000 in
theorem pg_k9 : (pg_L 9).all (pg_chk 9) = true := by decide +kernel
set_option maxRecDepth 100000 in
theorem pg_k10 : (pg_L 10).all (pg_chk 10) = true := by decide +kernel
set_option maxRecDepth 100000 in
theorem pg_k11 : (pg_L 11).all (pg_chk 11) = true := by decide +kernel
set_option maxRecDepth 100000 in
theorem pg_k12 : (pg_L 12).all (pg_chk 12) = true := by decide +kernel
set_option maxRecDepth 100000 in
theorem pg_k13 : (pg_L 13).all (pg_chk 13) = true := by decide +kernel
set_option maxRecDepth 100000 in
theorem pg_k14 : (pg_L 14).all (pg_chk 14) = true := by decide +kernel
set_option maxRecDepth 100000 in
theorem pg_k15 : (pg_L 15).all (pg_chk 15) = true := by decide +kernel
set_option maxRecDepth 100000 in
theorem pg_k16 : (pg_L 16).all (pg_chk 16) = true := by decide +kernel
set_option maxRecDepth 100000 in
theorem pg_k17 : (pg_L 17).all (pg_chk 17) = true := by decide +kernel
set_option maxRecDepth 100000 in
theorem pg_k18 : (pg_L 18).all (pg_chk 18) = true := by decide +kernel
set_option maxRecDepth 100000 in
theorem pg_k19 : (pg_L 19).all (pg_chk 19) = true := by decide +kernel
set_option maxRecDepth 100000 in
theorem pg_k20 : (pg_L 20).all (pg_chk 20) = true := by decide +kernel
set_option maxRecDepth 100000 in
theorem pg_k21 : (pg_L 21).all (pg_chk 21) = true := by decide +kernel
set_option maxRecDepth 100000 in
theorem pg_k22 : (pg_L 22).all (pg_chk 22) = true := by decide +kernel
set_option maxRecDepth 100000 in
theorem pg_k23 : (pg_L 23).all (pg_chk 23) = true := by decide +kernel
set_option maxRecDepth 100000 in
theorem pg_k24 : (pg_L 24).all (pg_chk 24) = true := by decide +kernel
set_option maxRecDepth 100000 in
theorem pg_k25 : (pg_L 25).all (pg_chk 25) = true := by decide +kernel
set_option maxRecDepth 100000 in
theorem pg_k26 : (pg_L 26).all (pg_chk 26) = true := by decide +kernel
set_option maxRecDepth 100000 in
theorem pg_k27 : (pg_L 27).all (pg_chk 27) = true := by decide +kernel
set_option maxRecDepth 100000 in
theorem pg_k28 : (pg_L 28).all (pg_chk 28) = true := by decide +kernel
set_option maxRecDepth 100000 in
theorem pg_k29 : (pg_L 29).all (pg_chk 29) = true := by decide +kernel
set_option maxRecDepth 100000 in
theorem pg_k30 : (pg_L 30).all (pg_chk 30) = true := by decide +kernel
set_option maxRecDepth 100000 in
theorem pg_k31 : (pg_L 31).all (pg_chk 31) = true := by decide +kernel
set_option maxRecDepth 100000 in
theorem pg_k32 : (pg_L 32).all (pg_chk 32) = true := by decide +kernel
set_option maxRecDepth 100000 in
theorem pg_k33 : (pg_L 33).all (pg_chk 33) = true := by decide +kernel
set_option maxRecDepth 100000 in
theorem pg_k34 : (pg_L 34).all (pg_chk 34) = true := by decide +kernel
set_option maxRecDepth 100000 in
theorem pg_k35 : (pg_L 35).all (pg_chk 35) = true := by decide +kernel
set_option maxRecDepth 100000 in
theorem pg_k36 : (pg_L 36).all (pg_chk 36) = true := by decide +kernel
set_option maxRecDepth 100000 in
theorem pg_k37 : (pg_L 37).all (pg_chk 37) = true := by decide +kernel
set_option maxRecDepth 100000 in
theorem pg_k38 : (pg_L 38).all (pg_chk 38) = true := by decide +kernel
set_option maxRecDepth 100000 in
theorem pg_k39 : (pg_L 39).all (pg_chk 39) = true := by decide +kernel
set_option maxRecDepth 100000 in
theorem pg_k40 : (pg_L 40).all (pg_chk 40) = true := by decide +kernel
end
section
set_option maxRecDepth 100000 in
theorem pg_k41 : (pg_L 41).all (pg_chk 41) = true := by decide +kernel
set_option maxRecDepth 100000 in
theorem pg_k42 : (pg_L 42).all (pg_chk 42) = true := by decide +kernel
set_option maxRecDepth 100000 in
theorem pg_k43 : (pg_L 43).all (pg_chk 43) = true := by decide +kernel
set_option maxRecDepth 100000 in
theorem pg_k44 : (pg_L 44).all (pg_chk 44) = true := by decide +kernel
set_option maxRecDepth 100000 in
theorem pg_k45 : (pg_L 45).all (pg_chk 45) = true := by decide +kernel
set_option maxRecDepth 100000 in
theorem pg_k46 : (pg_L 46).all (pg_chk 46) = true := by decide +kernel
set_option maxRecDepth 100000 in
theorem pg_k47 : (pg_L 47).all (pg_chk 47) = true := by decide +kernel
set_option maxRecDepth 100000 in
theorem pg_k48 : (pg_L 48).all (pg_chk 48) = true := by decide +kernel
set_option maxRecDepth 100000 in
theorem pg_k49 : (pg_L 49).all (pg_chk 49) = true := by decide +kernel
set_option maxRecDepth 100000 in
theorem pg_k50 : (pg_L 50).all (pg_chk 50) = true := by decide +kernel
set_option maxRecDepth 100000 in
theorem pg_k51 : (pg_L 51).all (pg_chk 51) = true := by decide +kernel
set_option maxRecDepth 100000 in
theorem pg_k52 : (pg_L 52).all (pg_chk 52) = true := by decide +kernel
set_option maxRecDepth 100000 in
theorem pg_k53 : (pg_L 53).all (pg_chk 53) = true := by decide +kernel
set_option maxRecDepth 100000 in
theorem pg_k54 : (pg_L 54).all (pg_chk 54) = true := by decide +kernel
set_option maxRecDepth 100000 in
theorem pg_k55 : (pg_L 55).all (pg_chk 55) = true := by decide +kernel
set_option maxRecDepth 100000 in
theorem pg_k56 : (pg_L 56).all (pg_chk 56) = true := by decide +kernel
set_option maxRecDepth 100000 in
theorem pg_k57 : (pg_L 57).all (pg_chk 57) = true := by decide +kernel
set_option maxRecDepth 100000 in
theorem pg_k58 : (pg_L 58).all (pg_chk 58) = true := by decide +kernel
set_option maxRecDepth 100000 in
theorem pg_k59 : (pg_L 59).all (pg_chk 59) = true := by decide +kernel
set_option maxRecDepth 100000 in
theorem pg_k60 : (pg_L 60).all (pg_chk 60) = true := by decide +kernel
set_option maxRecDepth 100000 in
theorem pg_k61 : (pg_L 61).all (pg_chk 61) = true := by decide +kernel
set_option maxRecDepth 100000 in
theorem pg_k62 : (pg_L 62).all (pg_chk 62) = true := by decide +kernel
set_option maxRecDepth 100000 in
theorem pg_k63 : (pg_L 63).all (pg_chk 63) = true := by decide +kernel
set_option maxRecDepth 100000 in
theorem pg_k64 : (pg_L 64).all (pg_chk 64) = true := by decide +kernel
set_option maxRecDepth 100000 in
theorem pg_k65 : (pg_L 65).all (pg_chk 65) = true := by decide +kernel
set_option maxRecDepth 100000 in
theorem pg_k66 : (pg_L 66).all (pg_chk 66) = true := by decide +kernel
set_option maxRecDepth 100000 in
theorem pg_k67 : (pg_L 67).all (pg_chk 67) = true := by decide +kernel
set_option maxRecDepth 100000 in
theorem pg_k68 : (pg_L 68).all (pg_chk 68) = true := by decide +kernel
set_option maxRecDepth 100000 in
theorem pg_k69 : (pg_L 69).all (pg_chk 69) = true := by decide +kernel
set_option maxRecDepth 100000 in
theorem pg_k70 : (pg_L 70).all (pg_chk 70) = true := by decide +kernel
set_option maxRecDepth 100000 in
theorem pg_k71 : (pg_L 71).all (pg_chk 71) = true := by decide +kernel
set_option maxRecDepth 100000 in
theorem pg_k72 : (pg_L 72).all (pg_chk 72) = true := by decide +kernel
set_option maxRecDepth 100000 in
theorem pg_k73 : (pg_L 73).all (pg_chk 73) = true := by decide +kernel
set_option maxRecDepth 100000 in
theorem pg_k74 : (pg_L 74).all (pg_chk 74) = true := by decide +kernel
set_option maxRecDepth 100000 in
theorem pg_k75 : (pg_L 75).all (pg_chk 75) = true := by decide +kernel
set_option maxRecDepth 100000 in
theorem pg_k76 : (pg_L 76).all (pg_chk 76) = true := by decide +kernel
set_option maxRecDepth 100000 in
theorem pg_k77 : (pg_L 77).all (pg_chk 77) = true := by decide +kernel
set_option maxRecDepth 100000 in
theorem pg_k78 : (pg_L 78).all (pg_chk 78) = true := by decide +kernel
set_option maxRecDepth 100000 in
theorem pg_k79 : (pg_L 79).all (pg_chk 79) = true := by decide +kernel
set_option maxRecDepth 100000 in
theorem pg_k80 : (pg_L 80).all (pg_chk 80) = true := by decide +kernel
set_option maxRecDepth 100000 in
theorem pg_k81 : (pg_L 81).all (pg_chk 81) = true := by decide +kernel
end
section
set_option maxRecDepth 100000 in
theorem pg_k82 : (pg_L 82).all (pg_chk 82) = true := by decide +kernel
set_option maxRecDepth 100000 in
theorem pg_k83 : (pg_L 83).all (pg_chk 83) = true := by decide +kernel
set_option maxRecDepth 100000 in
theorem pg_k84 : (pg_L 84).all (pg_chk 84) = true := by decide +kernel
set_option maxRecDepth 100000 in
theorem pg_k85 : (pg_L 85).all (pg_chk 85) = true := by decide +kernel
set_option maxRecDepth 100000 in
theorem pg_k86 : (pg_L 86).all (pg_chk 86) = true := by decide +kernel
set_option maxRecDepth 100000 in
theorem pg_k87 : (pg_L 87).all (pg_chk 87) = true := by decide +kernel
set_option maxRecDepth 100000 in
theorem pg_k88 : (pg_L 88).all (pg_chk 88) = true := by decide +kernel
set_option maxRecDepth 100000 in
theorem pg_k89 : (pg_L 89).all (pg_chk 89) = true := by decide +kernel
set_option maxRecDepth 100000 in
theorem pg_k90 : (pg_L 90).all (pg_chk 90) = true := by decide +kernel
set_option maxRecDepth 100000 in
theorem pg_k91 : (pg_L 91).all (pg_chk 91) = true := by decide +kernel
set_option maxRecDepth 100000 in
theorem pg_k92 : (pg_L 92).all (pg_chk 92) = true := by decide +kernel
set_option maxRecDepth 100000 in
theorem pg_k93 : (pg_L 93).all (pg_chk 93) = true := by decide +kernel
set_option maxRecDepth 100000 in
theorem pg_k94 : (pg_L 94).all (pg_chk 94) = true := by decide +kernel
set_option maxRecDepth 100000 in
theorem pg_k95 : (pg_L 95).all (pg_chk 95) = true := by decide +kernel
set_option maxRecDepth 100000 in
theorem pg_k96 : (pg_L 96).all (pg_chk 96) = true := by decide +kernel
set_option maxRecDepth 100000 in
theorem pg_k97 : (pg_L 97).all (pg_chk 97) = true := by decide +kernel
set_option maxRecDepth 100000 in
theorem pg_k98 : (pg_L 98).all (pg_chk 98) = true := by decide +kernel
set_option maxRecDepth 100000 in
theorem pg_k99 : (pg_L 99).all (pg_chk 99) = true := by decide +kernel
set_option maxRecDepth 100000 in
theorem pg_k100 : (pg_L 100).all (pg_chk 100) = true := by decide +kernel
set_option maxRecDepth 100000 in
theorem pg_k101 : (pg_L 101).all (pg_chk 101) = true := by decide +kernel
set_option maxRecDepth 100000 in
theorem pg_k102 : (pg_L 102).all (pg_chk 102) = true := by decide +kernel
set_option maxRecDepth 100000 in
theorem pg_k103 : (pg_L 103).all (pg_chk 103) = true := by decide +kernel
set_option maxRecDepth 100000 in
theorem pg_k104 : (pg_L 104).all (pg_chk 104) = true := by decide +kernel
set_option maxRecDepth 100000 in
theorem pg_k105 : (pg_L 105).all (pg_chk 105) = true := by decide +kernel
set_option maxRecDepth 100000 in
theorem pg_k106 : (pg_L 106).all (pg_chk 106) = true := by decide +kernel
set_option maxRecDepth 100000 in
theorem pg_k107 : (pg_L 107).all (pg_chk 107) = true := by decide +kernel
set_option maxRecDepth 100000 in
theorem pg_k108 : (pg_L 108).all (pg_chk 108) = true := by decide +kernel
set_option maxRecDepth 100000 in
theorem pg_k109 : (pg_L 109).all (pg_chk 109) = true := by decide +kernel
set_option maxRecDepth 100000 in
theorem pg_k110 : (pg_L 110).all (pg_chk 110) = true := by decide +kernel
set_option maxRecDepth 100000 in
theorem pg_k111 : (pg_L 111).all (pg_chk 111) = true := by decide +kernel
set_option maxRecDepth 100000 in
theorem pg_k112 : (pg_L 112).all (pg_chk 112) = true := by decide +kernel
set_option maxRecDepth 100000 in
theorem pg_k113 : (pg_L 113).all (pg_chk 113) = true := by decide +kernel
set_option maxRecDepth 100000 in
theorem pg_k114 : (pg_L 114).all (pg_chk 114) = true := by decide +kernel
set_option maxRecDepth 100000 in
theorem pg_k115 : (pg_L 115).all (pg_chk 115) = true := by decide +kernel
set_option maxRecDepth 100000 in
theorem pg_k116 : (pg_L 116).all (pg_chk 116) = true := by decide +kernel
set_option maxRecDepth 100000 in
theorem pg_k117 : (pg_L 117).all (pg_chk 117) = true := by decide +kernel
set_option maxRecDepth 100000 in
theorem pg_k118 : (pg_L 118).all (pg_chk 118) = true := by decide +kernel
set_option maxRecDepth 100000 in
theorem pg_k119 : (pg_L 119).all (pg_chk 119) = true := by decide +kernel
set_option maxRecDepth 100000 in
theorem pg_k120 : (pg_L 120).all (pg_chk 120) = true := by decide +kernel
set_option maxRecDepth 100000 in
theorem pg_k121 : (pg_L 121).all (pg_chk 121) = true := by decide +kernel
end
section
/-! FACTS out of the checks -/
theorem pg_all : ∀ M, M < 122 → (pg_L M).all (pg_chk M) = true
  | 0, _ => pg_k0
  | 1, _ => pg_k1
  | 2, _ => pg_k2
  | 3, _ => pg_k3
  | 4, _ => pg_k4
  | 5, _ => pg_k5
  | 6, _ => pg_k6
  | 7, _ => pg_k7
  | 8, _ => pg_k8
  | 9, _ => pg_k9
  | 10, _ => pg_k10
  | 11, _ => pg_k11
  | 12, _ => pg_k12
  | 13, _ => pg_k13
  | 14, _ => pg_k14
  | 15, _ => pg_k15
  | 16, _ => pg_k16
  | 17, _ => pg_k17
  | 18, _ => pg_k18
  | 19, _ => pg_k19
  | 20, _ => pg_k20
  | 21, _ => pg_k21
  | 22, _ => pg_k22
  | 23, _ => pg_k23
  | 24, _ => pg_k24
  | 25, _ => pg_k25
  | 26, _ => pg_k26
  | 27, _ => pg_k27
  | 28, _ => pg_k28
  | 29, _ => pg_k29
  | 30, _ => pg_k30
  | 31, _ => pg_k31
  | 32, _ => pg_k32
  | 33, _ => pg_k33
  | 34, _ => pg_k34
  | 35, _ => pg_k35
  | 36, _ => pg_k36
  | 37, _ => pg_k37
  | 38, _ => pg_k38
  | 39, _ => pg_k39
  | 40, _ => pg_k40
  | 41, _ => pg_k41
  | 42, _ => pg_k42
  | 43, _ => pg_k43
  | 44, _ => pg_k44
  | 45, _ => pg_k45
  | 46, _ => pg_k46
  | 47, _ => pg_k47
  | 48, _ => pg_k48
  | 49, _ => pg_k49
  | 50, _ => pg_k50
  | 51, _ => pg_k51
  | 52, _ => pg_k52
  | 53, _ => pg_k53
  | 54, _ => pg_k54
  | 55, _ => pg_k55
  | 56, _ => pg_k56
  | 57, _ => pg_k57
  | 58, _ => pg_k58
  | 59, _ => pg_k59
  | 60, _ => pg_k60
  | 61, _ => pg_k61
  | 62, _ => pg_k62
  | 63, _ => pg_k63
  | 64, _ => pg_k64
  | 65, _ => pg_k65
  | 66, _ => pg_k66
  | 67, _ => pg_k67
  | 68, _ => pg_k68
  | 69, _ => pg_k69
  | 70, _ => pg_k70
  | 71, _ => pg_k71
  | 72, _ => pg_k72
  | 73, _ => pg_k73
  | 74, _ => pg_k74
  | 75, _ => pg_k75
  | 76, _ => pg_k76
  | 77, _ => pg_k77
  | 78, _ => pg_k78
  | 79, _ => pg_k79
  | 80, _ => pg_k80
  | 81, _ => pg_k81
  | 82, _ => pg_k82
  | 83, _ => pg_k83
  | 84, _ => pg_k84
  | 85, _ => pg_k85
  | 86, _ => pg_k86
  | 87, _ => pg_k87
  | 88, _ => pg_k88
  | 89, _ => pg_k89
  | 90, _ => pg_k90
  | 91, _ => pg_k91
  | 92, _ => pg_k92
  | 93, _ => pg_k93
  | 94, _ => pg_k94
  | 95, _ => pg_k95
  | 96, _ => pg_k96
  | 97, _ => pg_k97
  | 98, _ => pg_k98
  | 99, _ => pg_k99
  | 100, _ => pg_k100
  | 101, _ => pg_k101
  | 102, _ => pg_k102
  | 103, _ => pg_k103
  | 104, _ => pg_k104
  | 105, _ => pg_k105
  | 106, _ => pg_k106
  | 107, _ => pg_k107
  | 108, _ => pg_k108
  | 109, _ => pg_k109
  | 110, _ => pg_k110
  | 111, _ => pg_k111
  | 112, _ => pg_k112
  | 113, _ => pg_k113
  | 114, _ => pg_k114
  | 115, _ => pg_k115
  | 116, _ => pg_k116
  | 117, _ => pg_k117
  | 118, _ => pg_k118
  | 119, _ => pg_k119
  | 120, _ => pg_k120
  | 121, _ => pg_k121
  | _ + 122, h => absurd h (by omega)
theorem pg_lk {α : Type} {k : Nat} {v : α} : ∀ {l : List (Nat × α)}, l.lookup k = some v → (k, v) ∈ l
  | [], h => by simp [List.lookup] at h
  | (a, b) :: t, h => by
    by_cases e : k = a
    · subst e
      simp [List.lookup] at h
      simp [h]
    · have e2 : (k == a) = false := by simp [e]
      simp only [List.lookup, e2] at h
      exact List.mem_cons_of_mem _ (pg_lk h)
theorem pg_in_ok {M pc : Nat} {q : am_I} (h : pg_in M pc = some q) : M < 122 ∧ pg_chk M (pc, q) = true := by
  have hM : M < 122 := by
    rcases Nat.lt_or_ge M 122 with h1 | h1
    · exact h1
    · have e : pg_L M = [] := by
        simp only [pg_L, List.getD_eq_getElem?_getD]
        rw [List.getElem?_eq_none (by simpa [pg_Ls] using h1)]
        rfl
      rw [pg_in, e] at h
      simp [List.lookup] at h
  exact ⟨hM, List.all_eq_true.mp (pg_all M hM) _ (pg_lk h)⟩
set_option maxRecDepth 100000 in
theorem pg_c0 : pg_TB[pg_cw 0]? = some (.code (pg_nm 0) (pg_by 0) (pg_ml 0) (pg_rt 0)) := rfl
set_option maxRecDepth 100000 in
theorem pg_c1 : pg_TB[pg_cw 1]? = some (.code (pg_nm 1) (pg_by 1) (pg_ml 1) (pg_rt 1)) := rfl
set_option maxRecDepth 100000 in
theorem pg_c2 : pg_TB[pg_cw 2]? = some (.code (pg_nm 2) (pg_by 2) (pg_ml 2) (pg_rt 2)) := rfl
set_option maxRecDepth 100000 in
theorem pg_c3 : pg_TB[pg_cw 3]? = some (.code (pg_nm 3) (pg_by 3) (pg_ml 3) (pg_rt 3)) := rfl
set_option maxRecDepth 100000 in
theorem pg_c4 : pg_TB[pg_cw 4]? = some (.code (pg_nm 4) (pg_by 4) (pg_ml 4) (pg_rt 4)) := rfl
set_option maxRecDepth 100000 in
theorem pg_c5 : pg_TB[pg_cw 5]? = some (.code (pg_nm 5) (pg_by 5) (pg_ml 5) (pg_rt 5)) := rfl
set_option maxRecDepth 100000 in
theorem pg_c6 : pg_TB[pg_cw 6]? = some (.code (pg_nm 6) (pg_by 6) (pg_ml 6) (pg_rt 6)) := rfl
set_option maxRecDepth 100000 in
theorem pg_c7 : pg_TB[pg_cw 7]? = some (.code (pg_nm 7) (pg_by 7) (pg_ml 7) (pg_rt 7)) := rfl
set_option maxRecDepth 100000 in
theorem pg_c8 : pg_TB[pg_cw 8]? = some (.code (pg_nm 8) (pg_by 8) (pg_ml 8) (pg_rt 8)) := rfl
set_option maxRecDepth 100000 in
theorem pg_c9 : pg_TB[pg_cw 9]? = some (.code (pg_nm 9) (pg_by 9) (pg_ml 9) (pg_rt 9)) := rfl
set_option maxRecDepth 100000 in
theorem pg_c10 : pg_TB[pg_cw 10]? = some (.code (pg_nm 10) (pg_by 10) (pg_ml 10) (pg_rt 10)) := rfl
set_option maxRecDepth 100000 in
theorem pg_c11 : pg_TB[pg_cw 11]? = some (.code (pg_nm 11) (pg_by 11) (pg_ml 11) (pg_rt 11)) := rfl
set_option maxRecDepth 100000 in
theorem pg_c12 : pg_TB[pg_cw 12]? = some (.code (pg_nm 12) (pg_by 12) (pg_ml 12) (pg_rt 12)) := rfl
set_option maxRecDepth 100000 in
theorem pg_c13 : pg_TB[pg_cw 13]? = some (.code (pg_nm 13) (pg_by 13) (pg_ml 13) (pg_rt 13)) := rfl
set_option maxRecDepth 100000 in
theorem pg_c14 : pg_TB[pg_cw 14]? = some (.code (pg_nm 14) (pg_by 14) (pg_ml 14) (pg_rt 14)) := rfl
set_option maxRecDepth 100000 in
theorem pg_c15 : pg_TB[pg_cw 15]? = some (.code (pg_nm 15) (pg_by 15) (pg_ml 15) (pg_rt 15)) := rfl
set_option maxRecDepth 100000 in
theorem pg_c16 : pg_TB[pg_cw 16]? = some (.code (pg_nm 16) (pg_by 16) (pg_ml 16) (pg_rt 16)) := rfl
set_option maxRecDepth 100000 in
theorem pg_c17 : pg_TB[pg_cw 17]? = some (.code (pg_nm 17) (pg_by 17) (pg_ml 17) (pg_rt 17)) := rfl
set_option maxRecDepth 100000 in
theorem pg_c18 : pg_TB[pg_cw 18]? = some (.code (pg_nm 18) (pg_by 18) (pg_ml 18) (pg_rt 18)) := rfl
set_option maxRecDepth 100000 in
theorem pg_c19 : pg_TB[pg_cw 19]? = some (.code (pg_nm 19) (pg_by 19) (pg_ml 19) (pg_rt 19)) := rfl
set_option maxRecDepth 100000 in
theorem pg_c20 : pg_TB[pg_cw 20]? = some (.code (pg_nm 20) (pg_by 20) (pg_ml 20) (pg_rt 20)) := rfl
set_option maxRecDepth 100000 in
theorem pg_c21 : pg_TB[pg_cw 21]? = some (.code (pg_nm 21) (pg_by 21) (pg_ml 21) (pg_rt 21)) := rfl
set_option maxRecDepth 100000 in
theorem pg_c22 : pg_TB[pg_cw 22]? = some (.code (pg_nm 22) (pg_by 22) (pg_ml 22) (pg_rt 22)) := rfl
set_option maxRecDepth 100000 in
theorem pg_c23 : pg_TB[pg_cw 23]? = some (.code (pg_nm 23) (pg_by 23) (pg_ml 23) (pg_rt 23)) := rfl
set_option maxRecDepth 100000 in
theorem pg_c24 : pg_TB[pg_cw 24]? = some (.code (pg_nm 24) (pg_by 24) (pg_ml 24) (pg_rt 24)) := rfl
set_option maxRecDepth 100000 in
theorem pg_c25 : pg_TB[pg_cw 25]? = some (.code (pg_nm 25) (pg_by 25) (pg_ml 25) (pg_rt 25)) := rfl
set_option maxRecDepth 100000 in
theorem pg_c26 : pg_TB[pg_cw 26]? = some (.code (pg_nm 26) (pg_by 26) (pg_ml 26) (pg_rt 26)) := rfl
set_option maxRecDepth 100000 in
theorem pg_c27 : pg_TB[pg_cw 27]? = some (.code (pg_nm 27) (pg_by 27) (pg_ml 27) (pg_rt 27)) := rfl
set_option maxRecDepth 100000 in
theorem pg_c28 : pg_TB[pg_cw 28]? = some (.code (pg_nm 28) (pg_by 28) (pg_ml 28) (pg_rt 28)) := rfl
set_option maxRecDepth 100000 in
theorem pg_c29 : pg_TB[pg_cw 29]? = some (.code (pg_nm 29) (pg_by 29) (pg_ml 29) (pg_rt 29)) := rfl
set_option maxRecDepth 100000 in
theorem pg_c30 : pg_TB[pg_cw 30]? = some (.code (pg_nm 30) (pg_by 30) (pg_ml 30) (pg_rt 30)) := rfl
set_option maxRecDepth 100000 in
theorem pg_c31 : pg_TB[pg_cw 31]? = some (.code (pg_nm 31) (pg_by 31) (pg_ml 31) (pg_rt 31)) := rfl
set_option maxRecDepth 100000 in
theorem pg_c32 : pg_TB[pg_cw 32]? = some (.code (pg_nm 32) (pg_by 32) (pg_ml 32) (pg_rt 32)) := rfl
set_option maxRecDepth 100000 in
theorem pg_c33 : pg_TB[pg_cw 33]? = some (.code (pg_nm 33) (pg_by 33) (pg_ml 33) (pg_rt 33)) := rfl
set_option maxRecDepth 100000 in
theorem pg_c34 : pg_TB[pg_cw 34]? = some (.code (pg_nm 34) (pg_by 34) (pg_ml 34) (pg_rt 34)) := rfl
set_option maxRecDepth 100000 in
theorem pg_c35 : pg_TB[pg_cw 35]? = some (.code (pg_nm 35) (pg_by 35) (pg_ml 35) (pg_rt 35)) := rfl
set_option maxRecDepth 100000 in
theorem pg_c36 : pg_TB[pg_cw 36]? = some (.code (pg_nm 36) (pg_by 36) (pg_ml 36) (pg_rt 36)) := rfl
set_option maxRecDepth 100000 in
theorem pg_c37 : pg_TB[pg_cw 37]? = some (.code (pg_nm 37) (pg_by 37) (pg_ml 37) (pg_rt 37)) := rfl
set_option maxRecDepth 100000 in
theorem pg_c38 : pg_TB[pg_cw 38]? = some (.code (pg_nm 38) (pg_by 38) (pg_ml 38) (pg_rt 38)) := rfl
set_option maxRecDepth 100000 in
theorem pg_c39 : pg_TB[pg_cw 39]? = some (.code (pg_nm 39) (pg_by 39) (pg_ml 39) (pg_rt 39)) := rfl
set_option maxRecDepth 100000 in
theorem pg_c40 : pg_TB[pg_cw 40]? = some (.code (pg_nm 40) (pg_by 40) (pg_ml 40) (pg_rt 40)) := rfl
set_option maxRecDepth 100000 in
theorem pg_c41 : pg_TB[pg_cw 41]? = some (.code (pg_nm 41) (pg_by 41) (pg_ml 41) (pg_rt 41)) := rfl
set_option maxRecDepth 100000 in
theorem pg_c42 : pg_TB[pg_cw 42]? = some (.code (pg_nm 42) (pg_by 42) (pg_ml 42) (pg_rt 42)) := rfl
set_option maxRecDepth 100000 in
theorem pg_c43 : pg_TB[pg_cw 43]? = some (.code (pg_nm 43) (pg_by 43) (pg_ml 43) (pg_rt 43)) := rfl
set_option maxRecDepth 100000 in
theorem pg_c44 : pg_TB[pg_cw 44]? = some (.code (pg_nm 44) (pg_by 44) (pg_ml 44) (pg_rt 44)) := rfl
set_option maxRecDepth 100000 in
theorem pg_c45 : pg_TB[pg_cw 45]? = some (.code (pg_nm 45) (pg_by 45) (pg_ml 45) (pg_rt 45)) := rfl
set_option maxRecDepth 100000 in
theorem pg_c46 : pg_TB[pg_cw 46]? = some (.code (pg_nm 46) (pg_by 46) (pg_ml 46) (pg_rt 46)) := rfl
set_option maxRecDepth 100000 in
theorem pg_c47 : pg_TB[pg_cw 47]? = some (.code (pg_nm 47) (pg_by 47) (pg_ml 47) (pg_rt 47)) := rfl
set_option maxRecDepth 100000 in
theorem pg_c48 : pg_TB[pg_cw 48]? = some (.code (pg_nm 48) (pg_by 48) (pg_ml 48) (pg_rt 48)) := rfl
set_option maxRecDepth 100000 in
theorem pg_c49 : pg_TB[pg_cw 49]? = some (.code (pg_nm 49) (pg_by 49) (pg_ml 49) (pg_rt 49)) := rfl
set_option maxRecDepth 100000 in
theorem pg_c50 : pg_TB[pg_cw 50]? = some (.code (pg_nm 50) (pg_by 50) (pg_ml 50) (pg_rt 50)) := rfl
set_option maxRecDepth 100000 in
theorem pg_c51 : pg_TB[pg_cw 51]? = some (.code (pg_nm 51) (pg_by 51) (pg_ml 51) (pg_rt 51)) := rfl
set_option maxRecDepth 100000 in
theorem pg_c52 : pg_TB[pg_cw 52]? = some (.code (pg_nm 52) (pg_by 52) (pg_ml 52) (pg_rt 52)) := rfl
set_option maxRecDepth 100000 in
theorem pg_c53 : pg_TB[pg_cw 53]? = some (.code (pg_nm 53) (pg_by 53) (pg_ml 53) (pg_rt 53)) := rfl
set_option maxRecDepth 100000 in
theorem pg_c54 : pg_TB[pg_cw 54]? = some (.code (pg_nm 54) (pg_by 54) (pg_ml 54) (pg_rt 54)) := rfl
set_option maxRecDepth 100000 in
theorem pg_c55 : pg_TB[pg_cw 55]? = some (.code (pg_nm 55) (pg_by 55) (pg_ml 55) (pg_rt 55)) := rfl
set_option maxRecDepth 100000 in
theorem pg_c56 : pg_TB[pg_cw 56]? = some (.code (pg_nm 56) (pg_by 56) (pg_ml 56) (pg_rt 56)) := rfl
set_option maxRecDepth 100000 in
theorem pg_c57 : pg_TB[pg_cw 57]? = some (.code (pg_nm 57) (pg_by 57) (pg_ml 57) (pg_rt 57)) := rfl
set_option maxRecDepth 100000 in
theorem pg_c58 : pg_TB[pg_cw 58]? = some (.code (pg_nm 58) (pg_by 58) (pg_ml 58) (pg_rt 58)) := rfl
set_option maxRecDepth 100000 in
theorem pg_c59 : pg_TB[pg_cw 59]? = some (.code (pg_nm 59) (pg_by 59) (pg_ml 59) (pg_rt 59)) := rfl
set_option maxRecDepth 100000 in
theorem pg_c60 : pg_TB[pg_cw 60]? = some (.code (pg_nm 60) (pg_by 60) (pg_ml 60) (pg_rt 60)) := rfl
set_option maxRecDepth 100000 in
theorem pg_c61 : pg_TB[pg_cw 61]? = some (.code (pg_nm 61) (pg_by 61) (pg_ml 61) (pg_rt 61)) := rfl
set_option maxRecDepth 100000 in
theorem pg_c62 : pg_TB[pg_cw 62]? = some (.code (pg_nm 62) (pg_by 62) (pg_ml 62) (pg_rt 62)) := rfl
set_option maxRecDepth 100000 in
theorem pg_c63 : pg_TB[pg_cw 63]? = some (.code (pg_nm 63) (pg_by 63) (pg_ml 63) (pg_rt 63)) := rfl
set_option maxRecDepth 100000 in
theorem pg_c64 : pg_TB[pg_cw 64]? = some (.code (pg_nm 64) (pg_by 64) (pg_ml 64) (pg_rt 64)) := rfl
set_option maxRecDepth 100000 in
theorem pg_c65 : pg_TB[pg_cw 65]? = some (.code (pg_nm 65) (pg_by 65) (pg_ml 65) (pg_rt 65)) := rfl
set_option maxRecDepth 100000 in
theorem pg_c66 : pg_TB[pg_cw 66]? = some (.code (pg_nm 66) (pg_by 66) (pg_ml 66) (pg_rt 66)) := rfl
set_option maxRecDepth 100000 in
theorem pg_c67 : pg_TB[pg_cw 67]? = some (.code (pg_nm 67) (pg_by 67) (pg_ml 67) (pg_rt 67)) := rfl
set_option maxRecDepth 100000 in
theorem pg_c68 : pg_TB[pg_cw 68]? = some (.code (pg_nm 68) (pg_by 68) (pg_ml 68) (pg_rt 68)) := rfl
set_option maxRecDepth 100000 in
theorem pg_c69 : pg_TB[pg_cw 69]? = some (.code (pg_nm 69) (pg_by 69) (pg_ml 69) (pg_rt 69)) := rfl
set_option maxRecDepth 100000 in
theorem pg_c70 : pg_TB[pg_cw 70]? = some (.code (pg_nm 70) (pg_by 70) (pg_ml 70) (pg_rt 70)) := rfl
set_option maxRecDepth 100000 in
theorem pg_c71 : pg_TB[pg_cw 71]? = some (.code (pg_nm 71) (pg_by 71) (pg_ml 71) (pg_rt 71)) := rfl
set_option maxRecDepth 100000 in
theorem pg_c72 : pg_TB[pg_cw 72]? = some (.code (pg_nm 72) (pg_by 72) (pg_ml 72) (pg_rt 72)) := rfl
set_option maxRecDepth 100000 in
theorem pg_c73 : pg_TB[pg_cw 73]? = some (.code (pg_nm 73) (pg_by 73) (pg_ml 73) (pg_rt 73)) := rfl
set_option maxRecDepth 100000 in
theorem pg_c74 : pg_TB[pg_cw 74]? = some (.code (pg_nm 74) (pg_by 74) (pg_ml 74) (pg_rt 74)) := rfl
set_option maxRecDepth 100000 in
theorem pg_c75 : pg_TB[pg_cw 75]? = some (.code (pg_nm 75) (pg_by 75) (pg_ml 75) (pg_rt 75)) := rfl
set_option maxRecDepth 100000 in
theorem pg_c76 : pg_TB[pg_cw 76]? = some (.code (pg_nm 76) (pg_by 76) (pg_ml 76) (pg_rt 76)) := rfl
set_option maxRecDepth 100000 in
theorem pg_c77 : pg_TB[pg_cw 77]? = some (.code (pg_nm 77) (pg_by 77) (pg_ml 77) (pg_rt 77)) := rfl
set_option maxRecDepth 100000 in
theorem pg_c78 : pg_TB[pg_cw 78]? = some (.code (pg_nm 78) (pg_by 78) (pg_ml 78) (pg_rt 78)) := rfl
set_option maxRecDepth 100000 in
theorem pg_c79 : pg_TB[pg_cw 79]? = some (.code (pg_nm 79) (pg_by 79) (pg_ml 79) (pg_rt 79)) := rfl
set_option maxRecDepth 100000 in
theorem pg_c80 : pg_TB[pg_cw 80]? = some (.code (pg_nm 80) (pg_by 80) (pg_ml 80) (pg_rt 80)) := rfl
set_option maxRecDepth 100000 in
theorem pg_c81 : pg_TB[pg_cw 81]? = some (.code (pg_nm 81) (pg_by 81) (pg_ml 81) (pg_rt 81)) := rfl
set_option maxRecDepth 100000 in
theorem pg_c82 : pg_TB[pg_cw 82]? = some (.code (pg_nm 82) (pg_by 82) (pg_ml 82) (pg_rt 82)) := rfl
set_option maxRecDepth 100000 in
theorem pg_c83 : pg_TB[pg_cw 83]? = some (.code (pg_nm 83) (pg_by 83) (pg_ml 83) (pg_rt 83)) := rfl
set_option maxRecDepth 100000 in
theorem pg_c84 : pg_TB[pg_cw 84]? = some (.code (pg_nm 84) (pg_by 84) (pg_ml 84) (pg_rt 84)) := rfl
set_option maxRecDepth 100000 in
theorem pg_c85 : pg_TB[pg_cw 85]? = some (.code (pg_nm 85) (pg_by 85) (pg_ml 85) (pg_rt 85)) := rfl
set_option maxRecDepth 100000 in
theorem pg_c86 : pg_TB[pg_cw 86]? = some (.code (pg_nm 86) (pg_by 86) (pg_ml 86) (pg_rt 86)) := rfl
set_option maxRecDepth 100000 in
theorem pg_c87 : pg_TB[pg_cw 87]? = some (.code (pg_nm 87) (pg_by 87) (pg_ml 87) (pg_rt 87)) := rfl
set_option maxRecDepth 100000 in
theorem pg_c88 : pg_TB[pg_cw 88]? = some (.code (pg_nm 88) (pg_by 88) (pg_ml 88) (pg_rt 88)) := rfl
set_option maxRecDepth 100000 in
theorem pg_c89 : pg_TB[pg_cw 89]? = some (.code (pg_nm 89) (pg_by 89) (pg_ml 89) (pg_rt 89)) := rfl
set_option maxRecDepth 100000 in
theorem pg_c90 : pg_TB[pg_cw 90]? = some (.code (pg_nm 90) (pg_by 90) (pg_ml 90) (pg_rt 90)) := rfl
set_option maxRecDepth 100000 in
theorem pg_c91 : pg_TB[pg_cw 91]? = some (.code (pg_nm 91) (pg_by 91) (pg_ml 91) (pg_rt 91)) := rfl
set_option maxRecDepth 100000 in
theorem pg_c92 : pg_TB[pg_cw 92]? = some (.code (pg_nm 92) (pg_by 92) (pg_ml 92) (pg_rt 92)) := rfl
set_option maxRecDepth 100000 in
theorem pg_c93 : pg_TB[pg_cw 93]? = some (.code (pg_nm 93) (pg_by 93) (pg_ml 93) (pg_rt 93)) := rfl
set_option maxRecDepth 100000 in
theorem pg_c94 : pg_TB[pg_cw 94]? = some (.code (pg_nm 94) (pg_by 94) (pg_ml 94) (pg_rt 94)) := rfl
set_option maxRecDepth 100000 in
theorem pg_c95 : pg_TB[pg_cw 95]? = some (.code (pg_nm 95) (pg_by 95) (pg_ml 95) (pg_rt 95)) := rfl
set_option maxRecDepth 100000 in
theorem pg_c96 : pg_TB[pg_cw 96]? = some (.code (pg_nm 96) (pg_by 96) (pg_ml 96) (pg_rt 96)) := rfl
set_option maxRecDepth 100000 in
theorem pg_c97 : pg_TB[pg_cw 97]? = some (.code (pg_nm 97) (pg_by 97) (pg_ml 97) (pg_rt 97)) := rfl
set_option maxRecDepth 100000 in
theorem pg_c98 : pg_TB[pg_cw 98]? = some (.code (pg_nm 98) (pg_by 98) (pg_ml 98) (pg_rt 98)) := rfl
set_option maxRecDepth 100000 in
theorem pg_c99 : pg_TB[pg_cw 99]? = some (.code (pg_nm 99) (pg_by 99) (pg_ml 99) (pg_rt 99)) := rfl
set_option maxRecDepth 100000 in
theorem pg_c100 : pg_TB[pg_cw 100]? = some (.code (pg_nm 100) (pg_by 100) (pg_ml 100) (pg_rt 100)) := rfl
set_option maxRecDepth 100000 in
theorem pg_c101 : pg_TB[pg_cw 101]? = some (.code (pg_nm 101) (pg_by 101) (pg_ml 101) (pg_rt 101)) := rfl
set_option maxRecDepth 100000 in
theorem pg_c102 : pg_TB[pg_cw 102]? = some (.code (pg_nm 102) (pg_by 102) (pg_ml 102) (pg_rt 102)) := rfl
set_option maxRecDepth 100000 in
theorem pg_c103 : pg_TB[pg_cw 103]? = some (.code (pg_nm 103) (pg_by 103) (pg_ml 103) (pg_rt 103)) := rfl
set_option maxRecDepth 100000 in
theorem pg_c104 : pg_TB[pg_cw 104]? = some (.code (pg_nm 104) (pg_by 104) (pg_ml 104) (pg_rt 104)) := rfl
set_option maxRecDepth 100000 in
theorem pg_c105 : pg_TB[pg_cw 105]? = some (.code (pg_nm 105) (pg_by 105) (pg_ml 105) (pg_rt 105)) := rfl
set_option maxRecDepth 100000 in
theorem pg_c106 : pg_TB[pg_cw 106]? = some (.code (pg_nm 106) (pg_by 106) (pg_ml 106) (pg_rt 106)) := rfl
set_option maxRecDepth 100000 in
theorem pg_c107 : pg_TB[pg_cw 107]? = some (.code (pg_nm 107) (pg_by 107) (pg_ml 107) (pg_rt 107)) := rfl
set_option maxRecDepth 100000 in
theorem pg_c108 : pg_TB[pg_cw 108]? = some (.code (pg_nm 108) (pg_by 108) (pg_ml 108) (pg_rt 108)) := rfl
set_option maxRecDepth 100000 in
theorem pg_c109 : pg_TB[pg_cw 109]? = some (.code (pg_nm 109) (pg_by 109) (pg_ml 109) (pg_rt 109)) := rfl
set_option maxRecDepth 100000 in
theorem pg_c110 : pg_TB[pg_cw 110]? = some (.code (pg_nm 110) (pg_by 110) (pg_ml 110) (pg_rt 110)) := rfl
set_option maxRecDepth 100000 in
theorem pg_c111 : pg_TB[pg_cw 111]? = some (.code (pg_nm 111) (pg_by 111) (pg_ml 111) (pg_rt 111)) := rfl
set_option maxRecDepth 100000 in
theorem pg_c112 : pg_TB[pg_cw 112]? = some (.code (pg_nm 112) (pg_by 112) (pg_ml 112) (pg_rt 112)) := rfl
set_option maxRecDepth 100000 in
theorem pg_c113 : pg_TB[pg_cw 113]? = some (.code (pg_nm 113) (pg_by 113) (pg_ml 113) (pg_rt 113)) := rfl
set_option maxRecDepth 100000 in
theorem pg_c114 : pg_TB[pg_cw 114]? = some (.code (pg_nm 114) (pg_by 114) (pg_ml 114) (pg_rt 114)) := rfl
set_option maxRecDepth 100000 in
theorem pg_c115 : pg_TB[pg_cw 115]? = some (.code (pg_nm 115) (pg_by 115) (pg_ml 115) (pg_rt 115)) := rfl
set_option maxRecDepth 100000 in
theorem pg_c116 : pg_TB[pg_cw 116]? = some (.code (pg_nm 116) (pg_by 116) (pg_ml 116) (pg_rt 116)) := rfl
set_option maxRecDepth 100000 in
theorem pg_c117 : pg_TB[pg_cw 117]? = some (.code (pg_nm 117) (pg_by 117) (pg_ml 117) (pg_rt 117)) := rfl
set_option maxRecDepth 100000 in
theorem pg_c118 : pg_TB[pg_cw 118]? = some (.code (pg_nm 118) (pg_by 118) (pg_ml 118) (pg_rt 118)) := rfl
set_option maxRecDepth 100000 in
theorem pg_c119 : pg_TB[pg_cw 119]? = some (.code (pg_nm 119) (pg_by 119) (pg_ml 119) (pg_rt 119)) := rfl
set_option maxRecDepth 100000 in
theorem pg_c120 : pg_TB[pg_cw 120]? = some (.code (pg_nm 120) (pg_by 120) (pg_ml 120) (pg_rt 120)) := rfl
theorem pg_code_ok : ∀ M, M < 121 → pg_TB[pg_cw M]? = some (.code (pg_nm M) (pg_by M) (pg_ml M) (pg_rt M))
  | 0, _ => pg_c0
  | 1, _ => pg_c1
  | 2, _ => pg_c2
  | 3, _ => pg_c3
  | 4, _ => pg_c4
  | 5, _ => pg_c5
  | 6, _ => pg_c6
  | 7, _ => pg_c7
  | 8, _ => pg_c8
  | 9, _ => pg_c9
  | 10, _ => pg_c10
  | 11, _ => pg_c11
  | 12, _ => pg_c12
  | 13, _ => pg_c13
  | 14, _ => pg_c14
  | 15, _ => pg_c15
  | 16, _ => pg_c16
  | 17, _ => pg_c17
  | 18, _ => pg_c18
  | 19, _ => pg_c19
  | 20, _ => pg_c20
  | 21, _ => pg_c21
  | 22, _ => pg_c22
  | 23, _ => pg_c23
  | 24, _ => pg_c24
  | 25, _ => pg_c25
  | 26, _ => pg_c26
  | 27, _ => pg_c27
  | 28, _ => pg_c28
  | 29, _ => pg_c29
  | 30, _ => pg_c30
  | 31, _ => pg_c31
  | 32, _ => pg_c32
  | 33, _ => pg_c33
  | 34, _ => pg_c34
  | 35, _ => pg_c35
  | 36, _ => pg_c36
  | 37, _ => pg_c37
  | 38, _ => pg_c38
  | 39, _ => pg_c39
  | 40, _ => pg_c40
  | 41, _ => pg_c41
  | 42, _ => pg_c42
  | 43, _ => pg_c43
  | 44, _ => pg_c44
  | 45, _ => pg_c45
  | 46, _ => pg_c46
  | 47, _ => pg_c47
  | 48, _ => pg_c48
  | 49, _ => pg_c49
  | 50, _ => pg_c50
  | 51, _ => pg_c51
  | 52, _ => pg_c52
  | 53, _ => pg_c53
  | 54, _ => pg_c54
  | 55, _ => pg_c55
  | 56, _ => pg_c56
  | 57, _ => pg_c57
  | 58, _ => pg_c58
  | 59, _ => pg_c59
  | 60, _ => pg_c60
  | 61, _ => pg_c61
  | 62, _ => pg_c62
  | 63, _ => pg_c63
  | 64, _ => pg_c64
  | 65, _ => pg_c65
  | 66, _ => pg_c66
  | 67, _ => pg_c67
  | 68, _ => pg_c68
  | 69, _ => pg_c69
  | 70, _ => pg_c70
  | 71, _ => pg_c71
  | 72, _ => pg_c72
  | 73, _ => pg_c73
  | 74, _ => pg_c74
  | 75, _ => pg_c75
  | 76, _ => pg_c76
  | 77, _ => pg_c77
  | 78, _ => pg_c78
  | 79, _ => pg_c79
  | 80, _ => pg_c80
  | 81, _ => pg_c81
  | 82, _ => pg_c82
  | 83, _ => pg_c83
  | 84, _ => pg_c84
  | 85, _ => pg_c85
  | 86, _ => pg_c86
  | 87, _ => pg_c87
  | 88, _ => pg_c88
  | 89, _ => pg_c89
  | 90, _ => pg_c90
  | 91, _ => pg_c91
  | 92, _ => pg_c92
  | 93, _ => pg_c93
  | 94, _ => pg_c94
  | 95, _ => pg_c95
  | 96, _ => pg_c96
  | 97, _ => pg_c97
  | 98, _ => pg_c98
  | 99, _ => pg_c99
  | 100, _ => pg_c100
  | 101, _ => pg_c101
  | 102, _ => pg_c102
  | 103, _ => pg_c103
  | 104, _ => pg_c104
  | 105, _ => pg_c105
  | 106, _ => pg_c106
  | 107, _ => pg_c107
  | 108, _ => pg_c108
  | 109, _ => pg_c109
  | 110, _ => pg_c110
  | 111, _ => pg_c111
  | 112, _ => pg_c112
  | 113, _ => pg_c113
  | 114, _ => pg_c114
  | 115, _ => pg_c115
  | 116, _ => pg_c116
  | 117, _ => pg_c117
  | 118, _ => pg_c118
  | 119, _ => pg_c119
  | 120, _ => pg_c120
  | _ + 121, h => absurd h (by omega)
theorem pg_gw {w : Nat} {c : Cond} (h : pg_w w c = true) : c ∈ pg_Tg := by
  simp only [pg_w, Bool.and_eq_true, decide_eq_true_eq] at h
  exact List.mem_filter.mpr ⟨List.mem_of_getElem? h.1, h.2⟩
theorem pg_gh {c : Cond} (h : pg_h c = true) : c ∈ pg_Tg := by
  simp only [pg_h, Bool.and_eq_true, decide_eq_true_eq] at h
  exact List.mem_filter.mpr h
theorem pg_gc {M : Nat} (h : M < 121) : Cond.code (pg_nm M) (pg_by M) (pg_ml M) (pg_rt M) ∈ pg_Tg := List.mem_filter.mpr ⟨List.mem_of_getElem? (pg_code_ok M h), rfl⟩
def pg_mok (M : Nat) : Bool := pg_h (.initialized (pg_nm M).cls) && (decide ((pg_nm M).cls ≠ "java/lang/invoke/MethodHandle") && (decide ((pg_nm M).cls ≠ "java/lang/invoke/VarHandle") && plainName (pg_nm M).cls))
set_option maxRecDepth 100000 in
theorem pg_mok_all : (List.range 121).all pg_mok = true := by decide +kernel
theorem pg_mok_ok {M : Nat} (h : M < 121) : Cond.initialized (pg_nm M).cls ∈ pg_Tg ∧ (pg_nm M).cls ≠ "java/lang/invoke/MethodHandle" ∧ (pg_nm M).cls ≠ "java/lang/invoke/VarHandle" ∧ plainName (pg_nm M).cls = true := by
  have h1 := List.all_eq_true.mp pg_mok_all M (List.mem_range.mpr h)
  simp only [pg_mok, Bool.and_eq_true, decide_eq_true_eq] at h1
  exact ⟨pg_gh h1.1, h1.2.1, h1.2.2.1, h1.2.2.2⟩
theorem pg_cls_ok : ∀ ci, ci < 11 → pg_cls[ci]? = some (pg_C ci, pg_F ci, pg_N ci)
  | 0, _ => rfl | 1, _ => rfl | 2, _ => rfl | 3, _ => rfl | 4, _ => rfl | 5, _ => rfl | 6, _ => rfl | 7, _ => rfl | 8, _ => rfl | 9, _ => rfl | 10, _ => rfl
  | _ + 11, h => absurd h (by omega)
def pg_tk (ty : FieldType) (r : Bool) : Bool := match ty with
  | .object _ => r
  | .array _ => r
  | .int => !r
  | .boolean => !r
  | _ => false
def pg_cok (ci : Nat) : Bool := pg_h (.instantiable (pg_C ci) (pg_N ci)) && (pg_h (.initialized (pg_C ci)) && ((u_ws (pg_C ci) (pg_F ci) (pg_N ci)).all pg_h && ((List.range (pg_N ci)).all (fun k => decide (parseFieldDescriptor (pg_F ci k).2.2.1 = some (pg_t ci k)) && (decide (defaultValue (pg_t ci k) = if pg_rf ci k = true then .null else .int 0) && (pg_tk (pg_t ci k) (pg_rf ci k) && (List.range (pg_N ci)).all (fun j => decide (k = j) || decide ((pg_F ci k).2.1 ≠ (pg_F ci j).2.1))))))))
set_option maxRecDepth 100000 in
theorem pg_cok_all : (List.range 11).all pg_cok = true := by decide +kernel
theorem pg_cok_ok {ci : Nat} (h : ci < 11) : Cond.instantiable (pg_C ci) (pg_N ci) ∈ pg_Tg ∧ Cond.initialized (pg_C ci) ∈ pg_Tg ∧ (∀ w ∈ u_ws (pg_C ci) (pg_F ci) (pg_N ci), w ∈ pg_Tg) ∧ (∀ k, k < pg_N ci → parseFieldDescriptor (pg_F ci k).2.2.1 = some (pg_t ci k)) ∧ (∀ k, k < pg_N ci → defaultValue (pg_t ci k) = if pg_rf ci k = true then .null else .int 0) ∧ (∀ k, k < pg_N ci → pg_tk (pg_t ci k) (pg_rf ci k) = true) ∧ ∀ a, a < pg_N ci → ∀ b, b < pg_N ci → a ≠ b → (pg_F ci a).2.1 ≠ (pg_F ci b).2.1 := by
  have h1 := List.all_eq_true.mp pg_cok_all ci (List.mem_range.mpr h)
  simp only [pg_cok, Bool.and_eq_true] at h1
  obtain ⟨a1, a2, a3, a4⟩ := h1
  refine ⟨pg_gh a1, pg_gh a2, fun w hw => pg_gh (List.all_eq_true.mp a3 w hw), fun k hk => ?_, fun k hk => ?_, fun k hk => ?_, fun a ha b hb hab => ?_⟩
  · have := List.all_eq_true.mp a4 k (List.mem_range.mpr hk)
    simp only [Bool.and_eq_true, decide_eq_true_eq] at this
    exact this.1
  · have := List.all_eq_true.mp a4 k (List.mem_range.mpr hk)
    simp only [Bool.and_eq_true, decide_eq_true_eq] at this
    exact this.2.1
  · have := List.all_eq_true.mp a4 k (List.mem_range.mpr hk)
    simp only [Bool.and_eq_true, decide_eq_true_eq] at this
    exact this.2.2.1
  · have := List.all_eq_true.mp a4 a (List.mem_range.mpr ha)
    simp only [Bool.and_eq_true, decide_eq_true_eq] at this
    have h3 := List.all_eq_true.mp this.2.2.2 b (List.mem_range.mpr hb)
    simp only [Bool.or_eq_true, decide_eq_true_eq] at h3
    exact h3.resolve_left hab
theorem pg_good {M : Nat} (h : M < 121) : GoodIn pg_Tg (Cond.code (pg_nm M) (pg_by M) (pg_ml M) (pg_rt M) :: pg_Tg) := by
  have key : ∀ w ∈ pg_Tg, w ∈ pg_Tg ∧ ((w.onTables && w.keeps) = true ∨ ∃ ty, w = .arrayClass ty) := fun w hw => ⟨hw, good_of_word (List.mem_filter.mp hw).2⟩
  intro w hw
  rcases List.mem_cons.mp hw with rfl | hw
  · exact key _ (pg_gc h)
  · exact key w hw
def pg_xok : Bool := pg_h (.arrayClass .int) && (pg_h (.arrayClass .boolean) && (pg_h (.native arraycopyName) && (pg_h (.static arraycopyName) && (pg_h (.initialized "java/lang/System") && (pg_h (.instanceMethod objectInit))))))
set_option maxRecDepth 100000 in
theorem pg_xok_all : pg_xok = true := by decide +kernel
theorem pg_xok_ok : Cond.arrayClass .int ∈ pg_Tg ∧ Cond.arrayClass .boolean ∈ pg_Tg ∧ Cond.native arraycopyName ∈ pg_Tg ∧ Cond.static arraycopyName ∈ pg_Tg ∧ Cond.initialized "java/lang/System" ∈ pg_Tg ∧ Cond.instanceMethod objectInit ∈ pg_Tg := by
  have h := pg_xok_all
  simp only [pg_xok, Bool.and_eq_true] at h
  exact ⟨pg_gh h.1, pg_gh h.2.1, pg_gh h.2.2.1, pg_gh h.2.2.2.1, pg_gh h.2.2.2.2.1, pg_gh h.2.2.2.2.2⟩
set_option maxRecDepth 100000 in
theorem pg_obj : Cond.code objectInit ⟨#[0xb1]⟩ 1 none ∈ pg_Tg := List.mem_filter.mpr ⟨List.mem_of_getElem? (i := 61) rfl, rfl⟩
end
section
/-! THE RELATION between the abstract memory and the machine's heap -/
def sd_al (b base a : Nat) : Nat := if a = 1 then b else base + (a - 2)
def sd_v (b base : Nat) (v : Value) : Value := match v with
  | .ref a => if a = 0 then .null else .ref (sd_al b base a)
  | v => v
def sd_fs (b base : Nat) (h : am_H) (a : Nat) : List Value := (List.range (ln_ a)).map (fun k => if pg_rf (tg_ a) k = true then sd_v b base (.ref (h.2.1 a k)) else .int (h.1 a k))
def sd_e (b base : Nat) (cI cB : ClassId) (h : am_H) (a : Nat) : va_E := if tg_ a = 30 then .inl (cI, ln_ a, .inl (h.1 a)) else if tg_ a = 31 then .inl (cB, ln_ a, .inl (h.1 a)) else .inr (tg_ a, sd_fs b base h a)
def sd_ws (b base : Nat) (cI cB : ClassId) (h : am_H) : va_W := (List.range (h.2.2 - 2)).map (fun i => (base + i, sd_e b base cI cB h (i + 2)))
abbrev sd_ty (cI cB : ClassId) : List (ClassId × FieldType) := [(cI, .int), (cB, .boolean)]
def sd_R (b base : Nat) (D : va_G) (cI cB : ClassId) (s : State) (h : am_H) (H : Heap) : Prop := 2 ≤ h.2.2 ∧ va_P D pg_cls (sd_ws b base cI cB h) H ∧ va_X b (h.2.1 1 0) (h.1 1) s H
abbrev sd_A (base : Nat) : Nat → Prop := fun q => base ≤ q
def sd_ok (h : am_H) (v : Value) : Prop := (∃ x, v = .int x) ∨ ∃ a, v = .ref a ∧ a < h.2.2
def sd_C (h : am_H) (L S : List Value) : Prop := (∀ v ∈ L, v = .long 0 ∨ sd_ok h v) ∧ (∀ v ∈ S, sd_ok h v) ∧ ∀ a k, ¬ a = 1 → h.2.1 a k < h.2.2
def sd_lv (b base : Nat) : Nat → List Value → List (Nat × Value)
  | _, [] => []
  | i, .long _ :: t => sd_lv b base (i + 1) t
  | i, v :: t => (i, sd_v b base v) :: sd_lv b base (i + 1) t
def sd_L (b base : Nat) (ls : Array Slot) (nL : Nat) (L : List Value) : Prop := lv_has ls nL (sd_lv b base 0 L) ∧ L.length ≤ nL
def sd_N (s : State) : Prop := (∀ q ∈ pg_nw, va_Nw (.methodLinkNest q.1 q.2.1 q.2.2.1 q.2.2.2) s) ∧ ∀ y ∈ pg_dw, va_Nw (.declares y) s
def am_sl : Nat → Nat
  | 0 => 0
  | n + 1 => am_sl n + ln_ n
theorem am_sl_mono {a b : Nat} (h : a ≤ b) : am_sl a ≤ am_sl b := by
  induction h with
  | refl => exact Nat.le_refl _
  | step _ ih => exact Nat.le_trans ih (Nat.le_add_right _ _)
theorem sd_v_int (b base : Nat) (x : Int32) : sd_v b base (.int x) = .int x := rfl
theorem sd_v_0 (b base : Nat) : sd_v b base (.ref 0) = .null := rfl
theorem sd_v_ref (b base : Nat) {a : Nat} (h : ¬ a = 0) : sd_v b base (.ref a) = .ref (sd_al b base a) := by simp [sd_v, h]
theorem sd_v_cat (b base : Nat) {h : am_H} {v : Value} (hv : sd_ok h v) : (sd_v b base v).category = 1 := by
  rcases hv with ⟨x, rfl⟩ | ⟨a, rfl, -⟩
  · rfl
  · by_cases h0 : a = 0
    · subst h0; rfl
    · rw [sd_v_ref _ _ h0]; rfl
theorem tg_lo : ∀ a, a < 34 → 2 ≤ a → (tg_ a < 11 ∧ ln_ a = pg_N (tg_ a)) ∨ tg_ a = 30 ∨ tg_ a = 31 := by decide +kernel
theorem tg_hi {a : Nat} (h : 34 ≤ a) : tg_ a = if a % 2 = 0 then 9 else 30 := by
  simp only [tg_, List.getD_eq_getElem?_getD]
  rw [List.getElem?_eq_none (by simpa using h)]
  rfl
theorem ln_hi {a : Nat} (h : 34 ≤ a) : ln_ a = if a % 2 = 0 then 3 else 4 := by
  simp only [ln_, List.getD_eq_getElem?_getD]
  rw [List.getElem?_eq_none (by simpa using h)]
  rfl
theorem tg_cases {a : Nat} (h : 2 ≤ a) : (tg_ a < 11 ∧ ln_ a = pg_N (tg_ a)) ∨ tg_ a = 30 ∨ tg_ a = 31 := by
  rcases Nat.lt_or_ge a 34 with h1 | h1
  · exact tg_lo a h1 h
  · rw [tg_hi h1, ln_hi h1]
    by_cases h2 : a % 2 = 0
    · rw [if_pos h2, if_pos h2]; exact Or.inl ⟨by decide, rfl⟩
    · rw [if_neg h2]; exact Or.inr (Or.inl rfl)
theorem sd_ws_get (b base : Nat) (cI cB : ClassId) (h : am_H) (i : Nat) : (sd_ws b base cI cB h)[i]? = if i < h.2.2 - 2 then some (base + i, sd_e b base cI cB h (i + 2)) else none := by
  by_cases hi : i < h.2.2 - 2
  · rw [if_pos hi]
    simp only [sd_ws, List.getElem?_map, List.getElem?_range hi, Option.map_some]
  · rw [if_neg hi]
    apply List.getElem?_eq_none
    simp [sd_ws]; omega
theorem sd_ws_at (b base : Nat) (cI cB : ClassId) (h : am_H) {a : Nat} (h2 : 2 ≤ a) (ha : a < h.2.2) : (sd_ws b base cI cB h)[a - 2]? = some (base + (a - 2), sd_e b base cI cB h a) := by
  have e : a - 2 + 2 = a := by omega
  rw [sd_ws_get, if_pos (by omega), e]
theorem sd_e_congr (b base : Nat) (cI cB : ClassId) (h h' : am_H) {a : Nat} (e1 : h'.1 a = h.1 a) (e2 : h'.2.1 a = h.2.1 a) : sd_e b base cI cB h' a = sd_e b base cI cB h a := by
  simp only [sd_e, sd_fs, e1, e2]
theorem sd_D (b base : Nat) (cI cB : ClassId) (h : am_H) : va_D (sd_A base) (sd_ws b base cI cB h) := by
  have key : ∀ (i : Nat) (p : Nat × va_E), (sd_ws b base cI cB h)[i]? = some p → p.1 = base + i := by
    intro i p hp
    rw [sd_ws_get] at hp
    split at hp
    · cases hp; rfl
    · cases hp
  refine ⟨fun i j p q hp hq e => ?_, fun k q hq => ?_⟩
  · rw [key i p hp, key j q hq] at e
    omega
  · show base ≤ q.1
    rw [key k q hq]; omega
/-- a cell changes: the list of cells of the new memory -/
theorem sd_ws_set (b base : Nat) (cI cB : ClassId) (h h' : am_H) {a : Nat} (h2 : 2 ≤ a) (ha : a < h.2.2) (hz : h'.2.2 = h.2.2) (ho : ∀ x, ¬ x = a → h'.1 x = h.1 x ∧ h'.2.1 x = h.2.1 x) : (sd_ws b base cI cB h).set (a - 2) (base + (a - 2), sd_e b base cI cB h' a) = sd_ws b base cI cB h' := by
  apply List.ext_getElem?
  intro i
  rw [List.getElem?_set]
  by_cases hi : a - 2 = i
  · subst hi
    rw [if_pos rfl, if_pos (by simp [sd_ws]; omega), sd_ws_at b base cI cB h' h2 (by omega)]
  · rw [if_neg hi, sd_ws_get, sd_ws_get, hz, sd_e_congr b base cI cB h h' (ho _ (by omega)).1 (ho _ (by omega)).2]
/-- a cell comes -/
theorem sd_ws_push (b base : Nat) (cI cB : ClassId) (h h' : am_H) (h2 : 2 ≤ h.2.2) (hz : h'.2.2 = h.2.2 + 1) (ho : ∀ x, ¬ x = h.2.2 → h'.1 x = h.1 x ∧ h'.2.1 x = h.2.1 x) : sd_ws b base cI cB h ++ [(base + (h.2.2 - 2), sd_e b base cI cB h' h.2.2)] = sd_ws b base cI cB h' := by
  apply List.ext_getElem?
  intro i
  have hl : (sd_ws b base cI cB h).length = h.2.2 - 2 := by simp [sd_ws]
  rw [List.getElem?_append, hl, sd_ws_get, sd_ws_get, hz]
  by_cases hi : i < h.2.2 - 2
  · rw [if_pos hi, if_pos hi, if_pos (by omega), sd_e_congr b base cI cB h h' (ho _ (by omega)).1 (ho _ (by omega)).2]
  · rw [if_neg hi]
    by_cases h3 : i = h.2.2 - 2
    · subst h3
      have e : h.2.2 - 2 + 2 = h.2.2 := by omega
      rw [if_pos (by omega), e]
      simp
    · rw [if_neg (by omega)]
      apply List.getElem?_eq_none
      simp; omega
theorem sd_al_hi {b base a : Nat} (h : 2 ≤ a) : sd_al b base a = base + (a - 2) := by simp only [sd_al]; rw [if_neg (by omega)]
theorem sd_e_int {b base : Nat} {cI cB : ClassId} {h : am_H} {a : Nat} (ht : tg_ a = 30) : sd_e b base cI cB h a = .inl (cI, ln_ a, .inl (h.1 a)) := by simp only [sd_e]; rw [if_pos ht]
theorem sd_e_boo {b base : Nat} {cI cB : ClassId} {h : am_H} {a : Nat} (ht : tg_ a = 31) : sd_e b base cI cB h a = .inl (cB, ln_ a, .inl (h.1 a)) := by simp only [sd_e]; rw [if_neg (by rw [ht]; decide), if_pos ht]
theorem sd_e_obj {b base : Nat} {cI cB : ClassId} {h : am_H} {a : Nat} (ht : tg_ a < 11) : sd_e b base cI cB h a = .inr (tg_ a, sd_fs b base h a) := by simp only [sd_e]; rw [if_neg (by omega), if_neg (by omega)]
theorem sd_fs_len (b base : Nat) (h : am_H) (a : Nat) : (sd_fs b base h a).length = ln_ a := by simp [sd_fs]
theorem sd_fs_at (b base : Nat) (h : am_H) (a : Nat) {k : Nat} (hk : k < ln_ a) : (sd_fs b base h a)[k]? = some (if pg_rf (tg_ a) k = true then sd_v b base (.ref (h.2.1 a k)) else .int (h.1 a k)) := by
  simp only [sd_fs, List.getElem?_map, List.getElem?_range hk, Option.map_some]
theorem sd_fs_put (b base : Nat) (h h' : am_H) (a k : Nat) (v : Value) (hk : k < ln_ a) (hv : v = if pg_rf (tg_ a) k = true then sd_v b base (.ref (h'.2.1 a k)) else .int (h'.1 a k)) (ho : ∀ j, ¬ j = k → h'.1 a j = h.1 a j ∧ h'.2.1 a j = h.2.1 a j) : (sd_fs b base h a).set k v = sd_fs b base h' a := by
  apply List.ext_getElem?
  intro i
  rw [List.getElem?_set]
  by_cases hi : k = i
  · subst hi
    rw [if_pos rfl, if_pos (by rw [sd_fs_len]; exact hk), sd_fs_at b base h' a hk, hv]
  · rw [if_neg hi]
    by_cases h3 : i < ln_ a
    · rw [sd_fs_at b base h a h3, sd_fs_at b base h' a h3, (ho i (Ne.symm hi)).1, (ho i (Ne.symm hi)).2]
    · rw [List.getElem?_eq_none (by rw [sd_fs_len]; omega), List.getElem?_eq_none (by rw [sd_fs_len]; omega)]
/-! locals -/
theorem sd_lv_mem (b base : Nat) {v : Value} (hv : ∀ x, v ≠ .long x) : ∀ {L : List Value} {i k : Nat}, L[k]? = some v → (i + k, sd_v b base v) ∈ sd_lv b base i L
  | [], i, k, h => by simp at h
  | u :: t, i, 0, h => by
    simp at h
    subst h
    cases u with
    | long x => exact absurd rfl (hv x)
    | _ => simp [sd_lv]
  | u :: t, i, k + 1, h => by
    have h1 : (i + 1 + k, sd_v b base v) ∈ sd_lv b base (i + 1) t := sd_lv_mem b base hv (by simpa using h)
    have e : i + (k + 1) = i + 1 + k := by omega
    rw [e]
    cases u <;> simp only [sd_lv] <;> first | exact h1 | exact List.mem_cons_of_mem _ h1
theorem sd_lv_inv (b base : Nat) : ∀ {L : List Value} {i : Nat} {q : Nat × Value}, q ∈ sd_lv b base i L → ∃ k v, L[k]? = some v ∧ (∀ x, v ≠ .long x) ∧ q = (i + k, sd_v b base v)
  | [], i, q, h => by simp [sd_lv] at h
  | u :: t, i, q, h => by
    have rec_ : q ∈ sd_lv b base (i + 1) t → ∃ k v, (u :: t)[k]? = some v ∧ (∀ x, v ≠ .long x) ∧ q = (i + k, sd_v b base v) := by
      intro h1
      obtain ⟨k, v, a1, a2, a3⟩ := sd_lv_inv b base h1
      exact ⟨k + 1, v, by simpa using a1, a2, by rw [a3]; congr 1; omega⟩
    cases u with
    | long x => simp only [sd_lv] at h; exact rec_ h
    | _ =>
      simp only [sd_lv] at h
      rcases List.mem_cons.mp h with rfl | h
      · exact ⟨0, _, rfl, fun x => (by simp), rfl⟩
      · exact rec_ h
theorem sd_ok_nl {h : am_H} {v : Value} (hv : sd_ok h v) : ∀ x, v ≠ .long x := by
  rcases hv with ⟨x, rfl⟩ | ⟨a, rfl, -⟩ <;> simp
/-- a local read -/
theorem sd_rd {b base : Nat} {ls : Array Slot} {nL : Nat} {L : List Value} (hl : sd_L b base ls nL L) {k : Nat} {v : Value} (h : L[k]? = some v) (hv : ∀ x, v ≠ .long x) : ls[k]? = some (.val (sd_v b base v)) := by
  have := hl.1.2.2 _ (sd_lv_mem b base hv (i := 0) h)
  simpa using this
/-- a local written: the list that the kit's row gives holds the new locals -/
theorem sd_wr {b base : Nat} {ls' : Array Slot} {nL : Nat} {L : List Value} {h : am_H} (hL : ∀ v ∈ L, v = .long 0 ∨ sd_ok h v) (hlen : L.length ≤ nL) {a : Nat} {v : Value} (hl' : lv_has ls' nL ((a, sd_v b base v) :: (sd_lv b base 0 L).filter (fun q => !(q.1 == a) && !(q.1 + 1 == a && q.2.category == 2)))) : sd_L b base ls' nL (L.set a v) := by
  refine ⟨⟨hl'.1, hl'.2.1, fun q hq => ?_⟩, by simpa using hlen⟩
  obtain ⟨k, w, h1, h2, rfl⟩ := sd_lv_inv b base hq
  refine hl'.2.2 _ ?_
  rw [List.getElem?_set] at h1
  by_cases hk : a = k
  · subst hk
    rw [if_pos rfl] at h1
    split at h1
    · cases h1; simp
    · cases h1
  · rw [if_neg hk] at h1
    refine List.mem_cons_of_mem _ (List.mem_filter.mpr ⟨sd_lv_mem b base h2 h1, ?_⟩)
    have hc : (sd_v b base w).category = 1 := by
      rcases hL w (List.mem_of_getElem? h1) with e | e
      · exact absurd e (h2 0)
      · exact sd_v_cat b base e
    have e1 : (0 + k == a) = false := by simp; omega
    simp [hc]; omega
end
section
/-! SOUNDNESS, instructions that leave the memory: each gives the next frame's goal -/
abbrev sd_G : Type := Nat → Array Slot → List Value → Prop
def sd_P (b base nL : Nat) (G : sd_G) (pc : Nat) (ls : Array Slot) (S : List Value) (h : am_H) (pc' : Nat) (L' S' : List Value) (h' : am_H) : Prop := h' = h ∧ sd_C h L' S' ∧ ((∀ ls', sd_L b base ls' nL L' → G pc' ls' (S'.map (sd_v b base))) → G pc ls (S.map (sd_v b base)))
section CTL
variable {b base nL : Nat} {G : sd_G} {pc pc' n : Nat} {ls : Array Slot} {L S L' S' : List Value} {h h' : am_H}
theorem sd_nxE {r : Nat × List Value × List Value × am_H} (e : am_nx n L S h = some (.inl r)) : (n, L, S, h) = r := by
  simpa [am_nx] using e
theorem sd_C.push {v : Value} (hC : sd_C h L S) (hv : sd_ok h v) : sd_C h L (v :: S) := ⟨hC.1, fun w hw => by
  rcases List.mem_cons.mp hw with rfl | hw
  · exact hv
  · exact hC.2.1 w hw, hC.2.2⟩
theorem sd_C.tail {v : Value} (hC : sd_C h L (v :: S)) : sd_C h L S := ⟨hC.1, fun w hw => hC.2.1 w (List.mem_cons_of_mem _ hw), hC.2.2⟩
theorem sd_C.head {v : Value} (hC : sd_C h L (v :: S)) : sd_ok h v := hC.2.1 v List.mem_cons_self
theorem sd_ok_int (h : am_H) (x : Int32) : sd_ok h (.int x) := Or.inl ⟨x, rfl⟩
theorem sd_C.set {v : Value} (hC : sd_C h L S) (hv : sd_ok h v) (a : Nat) : sd_C h (L.set a v) S := ⟨fun w hw => by
  rcases List.mem_or_eq_of_mem_set hw with h1 | h1
  · exact hC.1 w h1
  · exact Or.inr (h1 ▸ hv), hC.2⟩
theorem sd_const {c : Int32} (row : ∀ rest, G n ls (.int c :: rest) → G pc ls rest) (hC : sd_C h L S) (hl : sd_L b base ls nL L) (e : am_nx n L (.int c :: S) h = some (.inl (pc', L', S', h'))) : sd_P b base nL G pc ls S h pc' L' S' h' := by
  cases sd_nxE e
  exact ⟨rfl, hC.push (sd_ok_int h c), fun k => row _ (k ls hl)⟩
theorem sd_null (row : ∀ rest, G n ls (.null :: rest) → G pc ls rest) (hz : 0 < h.2.2) (hC : sd_C h L S) (hl : sd_L b base ls nL L) (e : am_nx n L (.ref 0 :: S) h = some (.inl (pc', L', S', h'))) : sd_P b base nL G pc ls S h pc' L' S' h' := by
  cases sd_nxE e
  exact ⟨rfl, hC.push (Or.inr ⟨0, rfl, hz⟩), fun k => row _ (k ls hl)⟩
theorem sd_goto (row : ∀ rest, G n ls rest → G pc ls rest) (hC : sd_C h L S) (hl : sd_L b base ls nL L) (e : am_nx n L S h = some (.inl (pc', L', S', h'))) : sd_P b base nL G pc ls S h pc' L' S' h' := by
  cases sd_nxE e
  exact ⟨rfl, hC, fun k => row _ (k ls hl)⟩
theorem sd_bin {f : Int32 → Int32 → Int32} (row : ∀ x y rest, G n ls (.int (f x y) :: rest) → G pc ls (.int y :: .int x :: rest)) (hC : sd_C h L S) (hl : sd_L b base ls nL L) (e : am_bin f n L S h = some (.inl (pc', L', S', h'))) : sd_P b base nL G pc ls S h pc' L' S' h' := by
  unfold am_bin at e
  split at e
  · cases sd_nxE e
    exact ⟨rfl, hC.tail.tail.push (sd_ok_int h _), fun k => row _ _ _ (k ls hl)⟩
  · cases e
theorem sd_div {f : Int32 → Int32 → Int32} (row : ∀ x y rest, ¬ y = 0 → G n ls (.int (f x y) :: rest) → G pc ls (.int y :: .int x :: rest)) (hC : sd_C h L S) (hl : sd_L b base ls nL L) (e : am_div f n L S h = some (.inl (pc', L', S', h'))) : sd_P b base nL G pc ls S h pc' L' S' h' := by
  unfold am_div at e
  split at e
  · split at e
    · cases e
    · cases sd_nxE e
      exact ⟨rfl, hC.tail.tail.push (sd_ok_int h _), fun k => row _ _ _ (by assumption) (k ls hl)⟩
  · cases e
theorem sd_ild {a : Nat} (row : ∀ x rest, ls[a]? = some (.val (.int x)) → G n ls (.int x :: rest) → G pc ls rest) (hC : sd_C h L S) (hl : sd_L b base ls nL L) (e : am_ild a n L S h = some (.inl (pc', L', S', h'))) : sd_P b base nL G pc ls S h pc' L' S' h' := by
  unfold am_ild at e
  split at e
  · rename_i x hx
    cases sd_nxE e
    exact ⟨rfl, hC.push (sd_ok_int h _), fun k => row x _ (sd_rd hl hx (by simp)) (k ls hl)⟩
  · cases e
theorem sd_ald {a : Nat} (row : ∀ x rest, ls[a]? = some (.val (.ref x)) → G n ls (.ref x :: rest) → G pc ls rest) (rowN : ∀ rest, ls[a]? = some (.val .null) → G n ls (.null :: rest) → G pc ls rest) (hC : sd_C h L S) (hl : sd_L b base ls nL L) (e : am_ald a n L S h = some (.inl (pc', L', S', h'))) : sd_P b base nL G pc ls S h pc' L' S' h' := by
  unfold am_ald at e
  split at e
  · rename_i x hx
    cases sd_nxE e
    have hr := sd_rd hl hx (by simp)
    have hok : sd_ok h (.ref x) := by
      rcases hC.1 _ (List.mem_of_getElem? hx) with q | q
      · cases q
      · exact q
    refine ⟨rfl, hC.push hok, fun k => ?_⟩
    have k1 := k ls hl
    by_cases h0 : x = 0
    · subst h0
      exact rowN _ hr k1
    · simp only [List.map_cons, sd_v_ref b base h0] at k1 hr ⊢
      exact row _ _ hr k1
  · cases e
theorem sd_ist {a : Nat} (row : ∀ x rest, a < nL → (∀ ls', lv_has ls' nL ((a, .int x) :: (sd_lv b base 0 L).filter (fun q => !(q.1 == a) && !(q.1 + 1 == a && q.2.category == 2))) → G n ls' rest) → G pc ls (.int x :: rest)) (hC : sd_C h L S) (hl : sd_L b base ls nL L) (e : am_ist a n L S h = some (.inl (pc', L', S', h'))) : sd_P b base nL G pc ls S h pc' L' S' h' := by
  unfold am_ist at e
  split at e
  · split at e
    · rename_i ha
      cases sd_nxE e
      exact ⟨rfl, hC.tail.set (sd_ok_int h _) _, fun k => row _ _ (Nat.lt_of_lt_of_le ha hl.2) (fun ls' hl' => k ls' (sd_wr hC.1 hl.2 hl'))⟩
    · cases e
  · cases e
theorem sd_ast {a : Nat} (row : ∀ x rest, a < nL → (∀ ls', lv_has ls' nL ((a, .ref x) :: (sd_lv b base 0 L).filter (fun q => !(q.1 == a) && !(q.1 + 1 == a && q.2.category == 2))) → G n ls' rest) → G pc ls (.ref x :: rest)) (rowN : ∀ rest, a < nL → (∀ ls', lv_has ls' nL ((a, .null) :: (sd_lv b base 0 L).filter (fun q => !(q.1 == a) && !(q.1 + 1 == a && q.2.category == 2))) → G n ls' rest) → G pc ls (.null :: rest)) (hC : sd_C h L S) (hl : sd_L b base ls nL L) (e : am_ast a n L S h = some (.inl (pc', L', S', h'))) : sd_P b base nL G pc ls S h pc' L' S' h' := by
  unfold am_ast at e
  split at e
  · rename_i x T
    split at e
    · rename_i ha
      cases sd_nxE e
      refine ⟨rfl, hC.tail.set hC.head _, fun k => ?_⟩
      have k1 : ∀ ls', lv_has ls' nL ((a, sd_v b base (.ref x)) :: (sd_lv b base 0 L).filter (fun q => !(q.1 == a) && !(q.1 + 1 == a && q.2.category == 2))) → G pc' ls' (S'.map (sd_v b base)) := fun ls' hl' => k ls' (sd_wr hC.1 hl.2 hl')
      by_cases h0 : x = 0
      · subst h0
        exact rowN _ (Nat.lt_of_lt_of_le ha hl.2) k1
      · simp only [List.map_cons, sd_v_ref b base h0] at k1 ⊢
        exact row _ _ (Nat.lt_of_lt_of_le ha hl.2) k1
    · cases e
  · cases e
theorem sd_inc {a : Nat} {c : Int32} (row : ∀ x rest, a < nL → (a, .int x) ∈ sd_lv b base 0 L → (∀ ls', lv_has ls' nL ((a, .int (x + c)) :: (sd_lv b base 0 L).filter (fun q => !(q.1 == a) && !(q.1 + 1 == a && q.2.category == 2))) → G n ls' rest) → G pc ls rest) (hC : sd_C h L S) (hl : sd_L b base ls nL L) (e : am_inc a n c L S h = some (.inl (pc', L', S', h'))) : sd_P b base nL G pc ls S h pc' L' S' h' := by
  unfold am_inc at e
  split at e
  · rename_i x hx
    cases sd_nxE e
    have ha : a < L.length := (List.getElem?_eq_some_iff.mp hx).1
    have hm := sd_lv_mem b base (i := 0) (by simp) hx
    rw [Nat.zero_add] at hm
    exact ⟨rfl, hC.set (sd_ok_int h _) _, fun k => row x _ (Nat.lt_of_lt_of_le ha hl.2) hm (fun ls' hl' => k ls' (sd_wr hC.1 hl.2 hl'))⟩
  · cases e
theorem sd_if1 {cd : ClassFile.Cond} {a : Nat} (row : ∀ x rest, (am_cd cd x 0 = true → G a ls rest) → (¬ am_cd cd x 0 = true → G n ls rest) → G pc ls (.int x :: rest)) (hC : sd_C h L S) (hl : sd_L b base ls nL L) (e : am_if1 cd a n L S h = some (.inl (pc', L', S', h'))) : sd_P b base nL G pc ls S h pc' L' S' h' := by
  unfold am_if1 at e
  split at e
  · split at e
    · rename_i hc
      cases sd_nxE e
      exact ⟨rfl, hC.tail, fun k => row _ _ (fun _ => k ls hl) (fun q => absurd hc q)⟩
    · rename_i hc
      cases sd_nxE e
      exact ⟨rfl, hC.tail, fun k => row _ _ (fun q => absurd q hc) (fun _ => k ls hl)⟩
  · cases e
theorem sd_if2 {cd : ClassFile.Cond} {a : Nat} (row : ∀ x y rest, (am_cd cd x y = true → G a ls rest) → (¬ am_cd cd x y = true → G n ls rest) → G pc ls (.int y :: .int x :: rest)) (hC : sd_C h L S) (hl : sd_L b base ls nL L) (e : am_if2 cd a n L S h = some (.inl (pc', L', S', h'))) : sd_P b base nL G pc ls S h pc' L' S' h' := by
  unfold am_if2 at e
  split at e
  · split at e
    · rename_i hc
      cases sd_nxE e
      exact ⟨rfl, hC.tail.tail, fun k => row _ _ _ (fun _ => k ls hl) (fun q => absurd hc q)⟩
    · rename_i hc
      cases sd_nxE e
      exact ⟨rfl, hC.tail.tail, fun k => row _ _ _ (fun q => absurd q hc) (fun _ => k ls hl)⟩
  · cases e
theorem sd_ifn {a : Nat} (row : ∀ x rest, G n ls rest → G pc ls (.ref x :: rest)) (rowN : ∀ rest, G a ls rest → G pc ls (.null :: rest)) (hC : sd_C h L S) (hl : sd_L b base ls nL L) (e : am_ifn a n L S h = some (.inl (pc', L', S', h'))) : sd_P b base nL G pc ls S h pc' L' S' h' := by
  unfold am_ifn at e
  split at e
  · split at e
    · rename_i h0
      cases sd_nxE e
      subst h0
      exact ⟨rfl, hC.tail, fun k => rowN _ (k ls hl)⟩
    · rename_i h0
      cases sd_nxE e
      refine ⟨rfl, hC.tail, fun k => ?_⟩
      simp only [List.map_cons, sd_v_ref b base h0]
      exact row _ _ (k ls hl)
  · cases e
theorem sd_dup (row : ∀ v rest, v.category = 1 → G n ls (v :: v :: rest) → G pc ls (v :: rest)) (hC : sd_C h L S) (hl : sd_L b base ls nL L) (e : am_dup n L S h = some (.inl (pc', L', S', h'))) : sd_P b base nL G pc ls S h pc' L' S' h' := by
  unfold am_dup at e
  split at e
  · cases sd_nxE e
    exact ⟨rfl, hC.push hC.head, fun k => row _ _ (sd_v_cat b base hC.head) (k ls hl)⟩
  · cases e
theorem sd_dx1 (row : ∀ v u rest, v.category = 1 → u.category = 1 → G n ls (v :: u :: v :: rest) → G pc ls (v :: u :: rest)) (hC : sd_C h L S) (hl : sd_L b base ls nL L) (e : am_dx1 n L S h = some (.inl (pc', L', S', h'))) : sd_P b base nL G pc ls S h pc' L' S' h' := by
  unfold am_dx1 at e
  split at e
  · cases sd_nxE e
    exact ⟨rfl, ((hC.tail.tail.push hC.head).push hC.tail.head).push hC.head, fun k => row _ _ _ (sd_v_cat b base hC.head) (sd_v_cat b base hC.tail.head) (k ls hl)⟩
  · cases e
theorem sd_pop (row : ∀ v rest, v.category = 1 → G n ls rest → G pc ls (v :: rest)) (hC : sd_C h L S) (hl : sd_L b base ls nL L) (e : am_pop n L S h = some (.inl (pc', L', S', h'))) : sd_P b base nL G pc ls S h pc' L' S' h' := by
  unfold am_pop at e
  split at e
  · cases sd_nxE e
    exact ⟨rfl, hC.tail, fun k => row _ _ (sd_v_cat b base hC.head) (k ls hl)⟩
  · cases e
theorem sd_swi {d lo hi : Int} {os : Array Int} (hd : 0 ≤ (pc : Int) + d) (hos : os.toList.all (fun o => decide (0 ≤ (pc : Int) + o)) = true) (rowO : ∀ x rest (t : Nat), (x.toInt < lo ∨ hi < x.toInt) → (pc : Int) + d = (t : Int) → G t ls rest → G pc ls (.int x :: rest)) (rowI : ∀ x rest (t : Nat) (o : Int), ¬ x.toInt < lo → ¬ hi < x.toInt → os[(x.toInt - lo).toNat]? = some o → (pc : Int) + o = (t : Int) → G t ls rest → G pc ls (.int x :: rest)) (hC : sd_C h L S) (hl : sd_L b base ls nL L) (e : am_swi pc d lo hi os L S h = some (.inl (pc', L', S', h'))) : sd_P b base nL G pc ls S h pc' L' S' h' := by
  unfold am_swi at e
  split at e
  · split at e
    · rename_i hc
      cases sd_nxE e
      exact ⟨rfl, hC.tail, fun k => rowO _ _ _ hc (by omega) (k ls hl)⟩
    · rename_i hc
      split at e
      · rename_i o ho
        cases sd_nxE e
        have h0 : 0 ≤ (pc : Int) + o := by
          have hm : o ∈ os.toList := by
            rw [← Array.getElem?_toList] at ho
            exact List.mem_of_getElem? ho
          simpa using List.all_eq_true.mp hos o hm
        exact ⟨rfl, hC.tail, fun k => rowI _ _ _ o (fun q => hc (Or.inl q)) (fun q => hc (Or.inr q)) ho (by omega) (k ls hl)⟩
      · cases e
  · cases e
end CTL
end
section
/-! SOUNDNESS, instructions on the memory -/
def sd_X (b base : Nat) (D : va_G) (cI cB : ClassId) (M : Nat) (p : Program) (R : Room) (s : State) (m : MethodId) (args : Array Value) (meth : Method) (c : Code) : Prop :=
  p.tables.exec = Jvm.exec ∧ c.code = pg_by M ∧ c.maxLocals = pg_ml M ∧ s.vm.findClass (pg_own M) = some m.cls ∧ (∀ w ∈ pg_Tg, w.before args s = true) ∧ sd_N s ∧ va_K D pg_cls (sd_ty cI cB) s ∧ ((pg_nm M).name = "<init>" → meth.name = "<init>") ∧ pg_fr M ≤ R.frames ∧ pg_lw M ≤ R.locals ∧ b < base ∧ base ≤ s.heap.size
def sd_J (b base : Nat) (D : va_G) (cI cB : ClassId) (nL : Nat) (s : State) (h : am_H) (H : Heap) (locs : List Loc) (cells : Nat) (L S : List Value) (ls : Array Slot) : Prop := sd_R b base D cI cB s h H ∧ va_S (sd_A base) s.heap H locs ∧ sd_C h L S ∧ sd_L b base ls nL L ∧ s.heap.size + cells = base + (h.2.2 - 2)
theorem sd_Xkept {b base : Nat} {s : State} {H H1 : Heap} {locs locs1 : List Loc} {L : Nat} {xs : Nat → Int32} (hb : b < base) (hbs : base ≤ s.heap.size) (hS : va_S (sd_A base) s.heap H locs) (hS1 : va_S (sd_A base) s.heap H1 locs1) (hX : va_X b L xs s H) : va_X b L xs s H1 := by
  have h1 : b < s.heap.size := Nat.lt_of_lt_of_le hb hbs
  have h2 : ¬ sd_A base b := Nat.not_le.mpr hb
  exact hX.kept ((hS1.2.1 b h1 h2).trans (hS.2.1 b h1 h2).symm)
theorem sd_upd {b base : Nat} {D : va_G} {cI cB : ClassId} {s : State} {h h' : am_H} {H H1 : Heap} {locs locs1 : List Loc} (hb : b < base) (hbs : base ≤ s.heap.size) (R0 : sd_R b base D cI cB s h H) (hS : va_S (sd_A base) s.heap H locs) (hS1 : va_S (sd_A base) s.heap H1 locs1) {r : Nat} (h2 : 2 ≤ r) (hr : r < h.2.2) (hz : h'.2.2 = h.2.2) (ho : ∀ x, ¬ x = r → h'.1 x = h.1 x ∧ h'.2.1 x = h.2.1 x)
    (hP1 : va_P D pg_cls ((sd_ws b base cI cB h).set (r - 2) (base + (r - 2), sd_e b base cI cB h' r)) H1) : sd_R b base D cI cB s h' H1 := by
  refine ⟨by rw [hz]; exact R0.1, ?_, ?_⟩
  · rw [← sd_ws_set b base cI cB h h' h2 hr hz ho]; exact hP1
  · rw [(ho 1 (by omega)).1, (ho 1 (by omega)).2]
    exact sd_Xkept hb hbs hS hS1 R0.2.2
theorem tg_n20 (r : Nat) : ¬ tg_ r = 20 := by
  rcases r with _ | _ | r
  · decide
  · decide
  · have := tg_cases (a := r + 1 + 1) (by omega)
    omega
theorem sd_sub_lt {r a : Nat} (h : am_sub (tg_ r) a = true) (ha : a < 11 ∨ a = 20) : tg_ r < 11 := by
  simp only [am_sub, Bool.or_eq_true, Bool.and_eq_true, beq_iff_eq] at h
  rcases h with h | ⟨h0, (h | h) | h⟩
  · rw [← h] at ha
    rcases ha with q | q
    · exact q
    · exact absurd q (tg_n20 r)
  · rw [h]; decide
  · rw [h]; decide
  · rw [h]; decide
theorem sd_ge2 {r : Nat} (h : tg_ r < 11) : 2 ≤ r := by
  rcases r with _ | _ | r
  · exact absurd h (by decide)
  · exact absurd h (by decide)
  · omega
theorem sd_nz {r : Nat} (h : 2 ≤ r) : ¬ r = 0 := by omega
theorem sd_n1 {r : Nat} (h : 2 ≤ r) : ¬ r = 1 := by omega
theorem sd_u2r {α : Type} (f : Nat → Nat → α) (a k : Nat) (v : α) {x : Nat} (h : ¬ x = a) : am_u2 f a k v x = f x := by
  funext y
  simp [am_u2, h]
theorem sd_z2r {α : Type} (f : Nat → Nat → α) (a : Nat) (v : α) {x : Nat} (h : ¬ x = a) : am_z2 f a v x = f x := by
  funext y
  simp [am_z2, h]
theorem sd_cpr (f : Nat → Nat → Int32) (a0 a sp dp n : Nat) {x : Nat} (h : ¬ x = a) : am_cp f a0 a sp dp n x = f x := by
  funext y
  simp [am_cp, h]
/-- the size of the heap is known at every goal -/
theorem sd_size {p : Program} {l : Launch} {e : Env} {R : Room} {s : State} {m : MethodId} {args : Array Value} {below : List Frame} {meth : Method} {c : Code} {H : Heap} {locs : List Loc} {cells slots : Nat} {Q : State → Prop} {g : JFrame} (k : H.size ≤ s.heap.size + cells → W p l e R s m args below meth c H locs cells slots Q g) : W p l e R s m args below meth c H locs cells slots Q g := fun T hT X => k (by rw [← hT]; exact X.heapSize) T hT X
/-- the facts of a field access -/
theorem sd_fld {M k a b w : Nat} {c : Int32} (hf : (List.range 11).all (pg_fok M k a b c w) = true) {t : Nat} (ht : t < 11) (hs : am_sub t a = true) : b < pg_N t ∧ Cond.fieldLink (pg_own M) k (pg_rn a) (pg_F t b).2.1 (pg_F t b).2.2.1 ∈ pg_Tg ∧ ((pg_F t b).1 = pg_rn a ∨ Cond.sameField (pg_rn a) (pg_F t b).1 (pg_F t b).2.1 (pg_F t b).2.2.1 ∈ pg_Tg) ∧ c = if pg_rf t b = true then 1 else if pg_t t b = .boolean then 2 else 0 := by
  have h1 := List.all_eq_true.mp hf t (List.mem_range.mpr ht)
  simp only [pg_fok, hs, Bool.not_true, Bool.false_or, Bool.and_eq_true, Bool.or_eq_true, decide_eq_true_eq] at h1
  refine ⟨h1.1, pg_gw h1.2.1, ?_, h1.2.2.2⟩
  rcases h1.2.2.1 with q | q
  · exact Or.inl q
  · exact Or.inr (pg_gh q)
theorem sd_same {s : State} {args : Array Value} {t b a : Nat} (hts : ∀ w ∈ pg_Tg, w.before args s = true) (h : (pg_F t b).1 = pg_rn a ∨ Cond.sameField (pg_rn a) (pg_F t b).1 (pg_F t b).2.1 (pg_F t b).2.2.1 ∈ pg_Tg) : ∀ x, s.fieldFound? (pg_F t b).1 (pg_F t b).2.1 (pg_F t b).2.2.1 = some x → s.fieldFound? (pg_rn a) (pg_F t b).2.1 (pg_F t b).2.2.1 = some x := by
  rcases h with h | h
  · rw [h]; exact fun _ h => h
  · exact fun x hx => u_same (hts _ h) x hx
section MEM
variable {p : Program} {l : Launch} {e : Env} {R : Room} {s : State} {m : MethodId} {args : Array Value} {below : List Frame} {meth : Method} {c : Code} {Q : State → Prop} {b base : Nat} {D : va_G} {cI cB : ClassId} {M : Nat}
variable {H : Heap} {locs : List Loc} {cells slots : Nat} {L S L' S' : List Value} {ls : Array Slot} {h h' : am_H} {pc pc' : Nat}
theorem sd_get {k a f w : Nat} {cc : Int32} (X : sd_X b base D cI cB M p R s m args meth c) (J : sd_J b base D cI cB (pg_ml M) s h H locs cells L S ls) (hdg : decode (pg_by M) pc = .ok (.getfield k, 3)) (ha : a < 11 ∨ a = 20) (hf : (List.range 11).all (pg_fok M k a f cc w) = true) (ee : am_get (pc + 3) a f cc L S h = some (.inl (pc', L', S', h'))) :
    sd_P b base (pg_ml M) (fun pc ls st => W p l e R s m args below meth c H locs cells slots Q (F0 m pc ls st)) pc ls S h pc' L' S' h' := by
  obtain ⟨hx, hb, hml, hown, hts, hN, hK, hin, hfr, hlw, hbb, hbs⟩ := X
  obtain ⟨R0, hS, hC, hl, hcnt⟩ := J
  unfold am_get at ee
  split at ee
  · rename_i r T
    split at ee
    · rename_i hsub
      have ht := sd_sub_lt hsub ha
      have h2 := sd_ge2 ht
      have hr : r < h.2.2 := by
        rcases hC.head with ⟨x, q⟩ | ⟨x, q, q2⟩
        · cases q
        · cases q; exact q2
      obtain ⟨hk, hlink, hsame, hc⟩ := sd_fld hf ht hsub
      have hln : ln_ r = pg_N (tg_ r) := by
        rcases tg_cases h2 with q | q | q
        · exact q.2
        · omega
        · omega
      have he := sd_ws_at b base cI cB h h2 hr
      rw [sd_e_obj ht] at he
      have hv := sd_fs_at b base h r (k := f) (by rw [hln]; exact hk)
      have row : ∀ (ls' : Array Slot) rest, W p l e R s m args below meth c H locs cells slots Q (F0 m (pc + 3) ls' ((if pg_rf (tg_ r) f = true then sd_v b base (.ref (h.2.1 r f)) else .int (h.1 r f)) :: rest)) → W p l e R s m args below meth c H locs cells slots Q (F0 m pc ls' (.ref (sd_al b base r) :: rest)) := by
        intro ls' rest kk
        rw [sd_al_hi h2]
        exact va_get (D := D) (ci := tg_ r) (C := pg_C (tg_ r)) (T := pg_F (tg_ r)) (N := pg_N (tg_ r)) (Ts := pg_Tg) hx hb hts (pg_cok_ok ht).2.2.1 hown hK R0.2.1 (r - 2) he (pg_cls_ok _ ht) f hk (hts _ hlink) (sd_same hts hsame) hv hdg kk
      split at ee
      · rename_i hc1
        cases sd_nxE ee
        have hrf : pg_rf (tg_ r) f = true := by
          rw [hc1] at hc
          by_cases q : pg_rf (tg_ r) f = true
          · exact q
          · rw [if_neg q] at hc
            split at hc <;> exact absurd hc (by decide)
        refine ⟨rfl, hC.tail.push (Or.inr ⟨_, rfl, hC.2.2 r f (sd_n1 h2)⟩), fun k => ?_⟩
        have k1 := k ls hl
        simp only [List.map_cons, sd_v_ref b base (sd_nz h2)]
        refine row ls _ ?_
        rw [if_pos hrf]
        exact k1
      · rename_i hc1
        cases sd_nxE ee
        have hrf : ¬ pg_rf (tg_ r) f = true := by
          intro q
          rw [if_pos q] at hc
          exact hc1 hc
        refine ⟨rfl, hC.tail.push (sd_ok_int h _), fun k => ?_⟩
        have k1 := k ls hl
        simp only [List.map_cons, sd_v_ref b base (sd_nz h2)]
        refine row ls _ ?_
        rw [if_neg hrf]
        exact k1
    · cases ee
  · cases ee
theorem sd_rlt {r : Nat} {T : List Value} (hC : sd_C h L (.ref r :: T)) : r < h.2.2 := by
  rcases hC.head with ⟨x, q⟩ | ⟨x, q, q2⟩
  · cases q
  · cases q; exact q2
theorem sd_ln {r : Nat} (ht : tg_ r < 11) : ln_ r = pg_N (tg_ r) := by
  rcases tg_cases (sd_ge2 ht) with q | q | q
  · exact q.2
  · omega
  · omega
theorem sd_u2k {α : Type} (f : Nat → Nat → α) (a k : Nat) (v : α) {j : Nat} (h : ¬ j = k) : am_u2 f a k v a j = f a j := by simp [am_u2, h]
theorem sd_u2s {α : Type} (f : Nat → Nat → α) (a k : Nat) (v : α) : am_u2 f a k v a k = v := by simp [am_u2]
/-- a field is written, of either kind, final or not -/
theorem sd_put {k a f w r n : Nat} {cc : Int32} {v : Value} (X : sd_X b base D cI cB M p R s m args meth c) (R0 : sd_R b base D cI cB s h H) (hS : va_S (sd_A base) s.heap H locs) (hdg : decode (pg_by M) pc = .ok (.putfield k, 3)) (hn : n = pc + 3) (ha : a < 11 ∨ a = 20) (hf : (List.range 11).all (pg_fok M k a f cc w) = true) (hp : (List.range 11).all (pg_pok M a f) = true) (hsub : am_sub (tg_ r) a = true) (hr : r < h.2.2)
    (hnw : narrow (pg_t (tg_ r) f) v = v) (hfit : fits (pg_t (tg_ r) f) v = true) (hz : h'.2.2 = h.2.2) (ho : ∀ x, ¬ x = r → h'.1 x = h.1 x ∧ h'.2.1 x = h.2.1 x) (hv : v = if pg_rf (tg_ r) f = true then sd_v b base (.ref (h'.2.1 r f)) else .int (h'.1 r f)) (ho2 : ∀ j, ¬ j = f → h'.1 r j = h.1 r j ∧ h'.2.1 r j = h.2.1 r j) {rest : List Value}
    (kk : ∀ (H1 : Heap) (locs1 : List Loc), sd_R b base D cI cB s h' H1 → va_S (sd_A base) s.heap H1 locs1 → W p l e R s m args below meth c H1 locs1 cells slots Q (F0 m n ls rest)) : W p l e R s m args below meth c H locs cells slots Q (F0 m pc ls (v :: sd_v b base (.ref r) :: rest)) := by
  obtain ⟨hx, hb, hml, hown, hts, hN, hK, hin, hfr, hlw, hbb, hbs⟩ := X
  have ht := sd_sub_lt hsub ha
  have h2 := sd_ge2 ht
  obtain ⟨hk, hlink, hsame, hc⟩ := sd_fld hf ht hsub
  have hln := sd_ln ht
  have he := sd_ws_at b base cI cB h h2 hr
  rw [sd_e_obj ht] at he
  have hcls := pg_cok_ok ht
  have hpk := List.all_eq_true.mp hp (tg_ r) (List.mem_range.mpr ht)
  simp only [pg_pok, hsub, Bool.not_true, Bool.false_or, Bool.or_eq_true, Bool.and_eq_true, decide_eq_true_eq] at hpk
  rw [sd_v_ref b base (sd_nz h2), sd_al_hi h2]
  subst hn
  have fin : ∀ (H1 : Heap) (locs1 : List Loc), va_P D pg_cls ((sd_ws b base cI cB h).set (r - 2) (base + (r - 2), .inr (tg_ r, (sd_fs b base h r).set f v))) H1 → va_D (sd_A base) ((sd_ws b base cI cB h).set (r - 2) (base + (r - 2), .inr (tg_ r, (sd_fs b base h r).set f v))) → va_S (sd_A base) s.heap H1 locs1 → W p l e R s m args below meth c H1 locs1 cells slots Q (F0 m (pc + 3) ls rest) := by
    intro H1 locs1 hP1 _ hS1
    refine kk H1 locs1 (sd_upd hbb hbs R0 hS hS1 h2 hr hz ho ?_) hS1
    rw [sd_e_obj ht, ← sd_fs_put b base h h' r f v (by rw [hln]; exact hk) hv ho2]
    exact hP1
  by_cases hfin : (pg_F (tg_ r) f).2.2.2 = false
  · exact va_put (D := D) (ci := tg_ r) (C := pg_C (tg_ r)) (T := pg_F (tg_ r)) (N := pg_N (tg_ r)) (Ts := pg_Tg) hx hb hts hcls.2.2.1 (pg_t (tg_ r)) hcls.2.2.2.1 hcls.2.2.2.2.2.2 hown hK R0.2.1 (sd_D b base cI cB h) hS (r - 2) he (pg_cls_ok _ ht) f hk (hts _ hlink) (sd_same hts hsame) hfin (hcls.2.2.2.1 f hk) hnw hfit (by rw [sd_fs_len, hln]; exact hk) hdg fin
  · have h3 := hpk.resolve_left hfin
    exact va_putF (D := D) (ci := tg_ r) (C := pg_C (tg_ r)) (T := pg_F (tg_ r)) (N := pg_N (tg_ r)) (Ts := pg_Tg) hx hb hts hcls.2.2.1 (pg_t (tg_ r)) hcls.2.2.2.1 hcls.2.2.2.2.2.2 hown hK R0.2.1 (sd_D b base cI cB h) hS (r - 2) he (pg_cls_ok _ ht) f hk (hts _ hlink) (sd_same hts hsame) (by simpa using hfin) (hin h3.2) h3.1 (hcls.2.2.2.1 f hk) hnw hfit (by rw [sd_fs_len, hln]; exact hk) hdg fin
/-- an int array is read: the script or an array of ours -/
theorem sd_eld {t n : Nat} (X : sd_X b base D cI cB M p R s m args meth c) (J : sd_J b base D cI cB (pg_ml M) s h H locs cells L S ls) (hdg : (t = 30 ∧ decode (pg_by M) pc = .ok (.iaload, 1)) ∨ (t = 31 ∧ decode (pg_by M) pc = .ok (.baload, 1))) (hn : n = pc + 1) (ee : am_eld t n L S h = some (.inl (pc', L', S', h'))) :
    sd_P b base (pg_ml M) (fun pc ls st => W p l e R s m args below meth c H locs cells slots Q (F0 m pc ls st)) pc ls S h pc' L' S' h' := by
  obtain ⟨hx, hb, hml, hown, hts, hN, hK, hin, hfr, hlw, hbb, hbs⟩ := X
  obtain ⟨R0, hS, hC, hl, hcnt⟩ := J
  unfold am_eld at ee
  split at ee
  · rename_i j r T
    split at ee
    · rename_i hc
      obtain ⟨ht, h0, hj⟩ := hc
      cases sd_nxE ee
      refine ⟨rfl, hC.tail.tail.push (sd_ok_int h _), fun k => ?_⟩
      have k1 := k ls hl
      have hr := sd_rlt hC.tail
      have hj' : vp_in j (am_len h r) := fun q => by
        rcases q with q | q
        · exact h0 q
        · exact absurd hj (Nat.not_lt.mpr q)
      subst hn
      by_cases h1 : r = 1
      · subst h1
        rcases hdg with ⟨e1, hdg⟩ | ⟨e1, hdg⟩
        · obtain ⟨scr, g1, g2, g3, g4, g5⟩ := R0.2.2
          simp only [am_len, if_true] at hj hj'
          exact W.iald (v := .int (h.1 1 j.toNatClampNeg)) hx hb g1 g2 g3 (by rw [g4]; exact hj') (g5 _ hj) rfl rfl hdg k1
        · exact absurd (ht.trans e1) (by decide)
      · have h2 : 2 ≤ r := by
          rcases r with _ | _ | r
          · rcases hdg with ⟨e1, -⟩ | ⟨e1, -⟩ <;> exact absurd (ht.trans e1) (by decide)
          · exact absurd rfl h1
          · exact Nat.le_add_left 2 r
        have he := sd_ws_at b base cI cB h h2 hr
        have hlen : am_len h r = ln_ r := by simp only [am_len]; rw [if_neg h1]
        rw [hlen] at hj'
        simp only [List.map_cons, sd_v_ref b base (sd_nz h2), sd_al_hi h2]
        rcases hdg with ⟨e1, hdg⟩ | ⟨e1, hdg⟩
        · rw [sd_e_int (ht.trans e1)] at he
          exact va_iald hx hb hK R0.2.1 (r - 2) 0 he rfl hj' hdg k1
        · rw [sd_e_boo (ht.trans e1)] at he
          exact va_zald hx hb hK R0.2.1 (r - 2) 1 he rfl hj' hdg k1
    · cases ee
  · cases ee
theorem sd_aln {n : Nat} (X : sd_X b base D cI cB M p R s m args meth c) (J : sd_J b base D cI cB (pg_ml M) s h H locs cells L S ls) (hdg : decode (pg_by M) pc = .ok (.arraylength, 1)) (hn : n = pc + 1) (ee : am_aln n L S h = some (.inl (pc', L', S', h'))) :
    sd_P b base (pg_ml M) (fun pc ls st => W p l e R s m args below meth c H locs cells slots Q (F0 m pc ls st)) pc ls S h pc' L' S' h' := by
  obtain ⟨hx, hb, hml, hown, hts, hN, hK, hin, hfr, hlw, hbb, hbs⟩ := X
  obtain ⟨R0, hS, hC, hl, hcnt⟩ := J
  unfold am_aln at ee
  split at ee
  · rename_i r T
    split at ee
    · rename_i ht
      cases sd_nxE ee
      refine ⟨rfl, hC.tail.push (sd_ok_int h _), fun k => ?_⟩
      have k1 := k ls hl
      have hr := sd_rlt hC
      subst hn
      by_cases h1 : r = 1
      · subst h1
        obtain ⟨scr, g1, g2, g3, g4, g5⟩ := R0.2.2
        have el : am_len h 1 = h.2.1 1 0 := by simp [am_len]
        rw [el] at k1
        exact W.alen (n := Int32.ofNat (h.2.1 1 0)) hx hb g1 g2 (by rw [g4]) rfl rfl hdg k1
      · have h2 : 2 ≤ r := by
          rcases r with _ | _ | r
          · exact absurd ht (by decide)
          · exact absurd rfl h1
          · exact Nat.le_add_left 2 r
        have he := sd_ws_at b base cI cB h h2 hr
        have hlen : am_len h r = ln_ r := by simp only [am_len]; rw [if_neg h1]
        rw [hlen] at k1
        simp only [List.map_cons, sd_v_ref b base (sd_nz h2), sd_al_hi h2]
        rw [sd_e_int ht] at he
        exact va_alen hx hb hK R0.2.1 (r - 2) 0 he rfl rfl hdg k1
    · cases ee
  · cases ee
end MEM
end
section
/-! SOUNDNESS, stores into arrays, copies, new cells -/
theorem sd_psh {b base : Nat} {D : va_G} {cI cB : ClassId} {s : State} {h h' : am_H} {H H1 : Heap} {locs locs1 : List Loc} (hb : b < base) (hbs : base ≤ s.heap.size) (R0 : sd_R b base D cI cB s h H) (hS : va_S (sd_A base) s.heap H locs) (hS1 : va_S (sd_A base) s.heap H1 locs1) (hz : h'.2.2 = h.2.2 + 1) (ho : ∀ x, ¬ x = h.2.2 → h'.1 x = h.1 x ∧ h'.2.1 x = h.2.1 x)
    (hP1 : va_P D pg_cls (sd_ws b base cI cB h ++ [(base + (h.2.2 - 2), sd_e b base cI cB h' h.2.2)]) H1) : sd_R b base D cI cB s h' H1 := by
  have h2 := R0.1
  refine ⟨by omega, ?_, ?_⟩
  · rw [← sd_ws_push b base cI cB h h' R0.1 hz ho]; exact hP1
  · rw [(ho 1 (by omega)).1, (ho 1 (by omega)).2]
    exact sd_Xkept hb hbs hS hS1 R0.2.2
/-- where the new cell lies -/
theorem sd_where {b base : Nat} {D : va_G} {cI cB : ClassId} {h : am_H} {H1 : Heap} {q : Nat} {x : va_E} (h2 : 2 ≤ h.2.2) (hP : va_P D pg_cls (sd_ws b base cI cB h ++ [(q, x)]) H1) (hD : va_D (sd_A base) (sd_ws b base cI cB h ++ [(q, x)])) (hz : H1.size ≤ base + (h.2.2 - 2) + 1) : q = base + (h.2.2 - 2) := by
  have hl : (sd_ws b base cI cB h).length = h.2.2 - 2 := by simp [sd_ws]
  have hq : (sd_ws b base cI cB h ++ [(q, x)])[h.2.2 - 2]? = some (q, x) := by
    rw [List.getElem?_append_right (by omega), hl]; simp
  have h3 := (hP _ _ hq).lt
  have h4 : base ≤ q := hD.2 _ _ hq
  have h3' : q < H1.size := h3
  rcases Nat.lt_or_ge q (base + (h.2.2 - 2)) with h5 | h5
  · exfalso
    have e1 : (sd_ws b base cI cB h ++ [(q, x)])[q - base]? = some (q, sd_e b base cI cB h (q - base + 2)) := by
      rw [List.getElem?_append_left (by omega), sd_ws_get, if_pos (by omega)]
      have : base + (q - base) = q := by omega
      rw [this]
    have := hD.1 _ _ _ _ e1 hq rfl
    omega
  · omega
section MEM2
variable {p : Program} {l : Launch} {e : Env} {R : Room} {s : State} {m : MethodId} {args : Array Value} {below : List Frame} {meth : Method} {c : Code} {Q : State → Prop} {b base : Nat} {D : va_G} {cI cB : ClassId} {M : Nat}
variable {H : Heap} {locs : List Loc} {cells slots : Nat} {L S L' S' : List Value} {ls : Array Slot} {h h' : am_H} {pc pc' : Nat}
theorem sd_C.mem {h1 : am_H} (hC : sd_C h L S) (hz : h.2.2 ≤ h1.2.2) (hm : ∀ a k, ¬ a = 1 → h1.2.1 a k < h1.2.2) : sd_C h1 L S := by
  have key : ∀ v, sd_ok h v → sd_ok h1 v := by
    intro v hv
    rcases hv with q | ⟨a, q, q2⟩
    · exact Or.inl q
    · exact Or.inr ⟨a, q, Nat.lt_of_lt_of_le q2 hz⟩
  exact ⟨fun v hv => (hC.1 v hv).imp id (key v), fun v hv => key v (hC.2.1 v hv), hm⟩
theorem sd_est {t n : Nat} (X : sd_X b base D cI cB M p R s m args meth c) (J : sd_J b base D cI cB (pg_ml M) s h H locs cells L S ls) (hdg : (t = 30 ∧ decode (pg_by M) pc = .ok (.iastore, 1)) ∨ (t = 31 ∧ decode (pg_by M) pc = .ok (.bastore, 1))) (hn : n = pc + 1) (ee : am_est t n L S h = some (.inl (pc', L', S', h')))
    (kk : ∀ H1 locs1, sd_J b base D cI cB (pg_ml M) s h' H1 locs1 cells L' S' ls → W p l e R s m args below meth c H1 locs1 cells slots Q (F0 m pc' ls (S'.map (sd_v b base)))) : h'.2.2 = h.2.2 ∧ W p l e R s m args below meth c H locs cells slots Q (F0 m pc ls (S.map (sd_v b base))) := by
  obtain ⟨hx, hb, hml, hown, hts, hN, hK, hin, hfr, hlw, hbb, hbs⟩ := X
  obtain ⟨R0, hS, hC, hl, hcnt⟩ := J
  unfold am_est at ee
  split at ee
  · rename_i x j r T
    split at ee
    · rename_i hc
      obtain ⟨ht, h1, h0, hj, hbo⟩ := hc
      cases sd_nxE ee
      refine ⟨rfl, ?_⟩
      have h2 : 2 ≤ r := by
        rcases r with _ | _ | r
        · rcases hdg with ⟨e1, -⟩ | ⟨e1, -⟩ <;> exact absurd (ht.trans e1) (by decide)
        · exact absurd rfl h1
        · exact Nat.le_add_left 2 r
      have hr := sd_rlt hC.tail.tail
      have hj' : vp_in j (ln_ r) := fun q => by
        rcases q with q | q
        · exact h0 q
        · exact absurd hj (Nat.not_lt.mpr q)
      have he := sd_ws_at b base cI cB h h2 hr
      subst hn
      have hu : upd (h.1 r) j.toNatClampNeg x = am_u2 h.1 r j.toNatClampNeg x r := by
        funext y
        simp [upd, am_u2]
      have fin : ∀ (H1 : Heap) (locs1 : List Loc), va_P D pg_cls ((sd_ws b base cI cB h).set (r - 2) (base + (r - 2), sd_e b base cI cB (am_u2 h.1 r j.toNatClampNeg x, h.2.1, h.2.2) r)) H1 → va_S (sd_A base) s.heap H1 locs1 → W p l e R s m args below meth c H1 locs1 cells slots Q (F0 m (pc + 1) ls (S'.map (sd_v b base))) := by
        intro H1 locs1 hP1 hS1
        refine kk H1 locs1 ⟨sd_upd hbb hbs R0 hS hS1 h2 hr rfl (fun y hy => ⟨sd_u2r _ _ _ _ hy, rfl⟩) hP1, hS1, hC.tail.tail.tail.mem (Nat.le_refl _) hC.2.2, hl, hcnt⟩
      simp only [List.map_cons, sd_v_ref b base (sd_nz h2), sd_al_hi h2]
      rcases hdg with ⟨e1, hdg⟩ | ⟨e1, hdg⟩
      · rw [sd_e_int (ht.trans e1)] at he
        refine va_iast hx hb hK R0.2.1 (sd_D b base cI cB h) hS (r - 2) 0 he rfl hj' hdg fun H1 locs1 hP1 _ hS1 => fin H1 locs1 ?_ hS1
        rw [sd_e_int (ht.trans e1)]
        dsimp only
        rw [← hu]
        exact hP1
      · rw [sd_e_boo (ht.trans e1)] at he
        refine va_zast hx hb hK R0.2.1 (sd_D b base cI cB h) hS (r - 2) 1 he rfl hj' hdg fun H1 locs1 hP1 _ hS1 => fin H1 locs1 ?_ hS1
        have hx2 : vp_nar .boolean x = x := by
          rcases hbo e1 with q | q <;> subst q <;> decide
        rw [hx2] at hP1
        rw [sd_e_boo (ht.trans e1)]
        dsimp only
        rw [← hu]
        exact hP1
    · cases ee
  · cases ee
theorem sd_cpy {k n w : Nat} (X : sd_X b base D cI cB M p R s m args meth c) (J : sd_J b base D cI cB (pg_ml M) s h H locs cells L S ls) (hdg : decode (pg_by M) pc = .ok (.invokestatic k, 3)) (hn : n = pc + 3) (hlk : pg_w w (.methodLink (pg_own M) k arraycopyName) = true) (hf1 : 1 ≤ pg_fr M) (hl1 : 60 ≤ pg_lw M) (ee : am_cpy n L S h = some (.inl (pc', L', S', h')))
    (kk : ∀ H1 locs1, sd_J b base D cI cB (pg_ml M) s h' H1 locs1 cells L' S' ls → W p l e R s m args below meth c H1 locs1 cells slots Q (F0 m pc' ls (S'.map (sd_v b base)))) : h'.2.2 = h.2.2 ∧ W p l e R s m args below meth c H locs cells slots Q (F0 m pc ls (S.map (sd_v b base))) := by
  obtain ⟨hx, hb, hml, hown, hts, hN, hK, hin, hfr, hlw, hbb, hbs⟩ := X
  obtain ⟨R0, hS, hC, hl, hcnt⟩ := J
  unfold am_cpy at ee
  split at ee
  · rename_i k' dp r sp q T
    split at ee
    · rename_i hc
      obtain ⟨⟨tq, tr, q1, r1⟩, ⟨s0, d0, k0⟩, b1, b2, hT⟩ := hc
      cases sd_nxE ee
      refine ⟨rfl, ?_⟩
      have g2 : ∀ x : Nat, tg_ x = 30 → ¬ x = 1 → 2 ≤ x := by
        intro x hx1 hx2
        rcases x with _ | _ | x
        · exact absurd hx1 (by decide)
        · exact absurd rfl hx2
        · exact Nat.le_add_left 2 x
      have hq2 := g2 q tq q1
      have hr2 := g2 r tr r1
      have hr := sd_rlt hC.tail.tail
      have hq := sd_rlt hC.tail.tail.tail.tail
      have heq := sd_ws_at b base cI cB h hq2 hq
      have her := sd_ws_at b base cI cB h hr2 hr
      rw [sd_e_int tq] at heq
      rw [sd_e_int tr] at her
      subst hn
      simp only [List.map_cons, sd_v_ref b base (sd_nz hq2), sd_v_ref b base (sd_nz hr2), sd_al_hi hq2, sd_al_hi hr2]
      have hx6 := pg_xok_ok
      have hCT := hC.tail.tail.tail.tail.tail
      have hsum : ∀ (T : List Value), (∀ v ∈ T, sd_ok h v) → ((T.map (sd_v b base)).map fun v => v.category).sum = T.length := by
        intro T
        induction T with
        | nil => intro _; rfl
        | cons v t ih =>
          intro hv
          simp only [List.map_cons, List.sum_cons, List.length_cons]
          rw [sd_v_cat b base (hv v List.mem_cons_self), ih (fun u hu => hv u (List.mem_cons_of_mem _ hu))]
          omega
      refine va_copyi hx hb (by rw [hml]; exact hl.1.1.symm) hown (hts _ (pg_gw hlk)) (hts _ hx6.2.2.1) (hts _ hx6.2.2.2.1) (hts _ hx6.2.2.2.2.1) hK R0.2.1 (sd_D b base cI cB h) hS (q - 2) (r - 2) 0 0 heq her rfl rfl rfl s0 d0 k0 b1 b2 (fun _ _ => rfl) (Nat.le_trans hf1 hfr) ?_ hdg fun H1 locs1 hP1 _ hS1 => ?_
      · rw [hsum _ hCT.2.1, show nativeFrameWords "java/lang/System" "arraycopy" 5 = 7 by decide +kernel]
        omega
      · refine kk H1 locs1 ⟨sd_upd hbb hbs R0 hS hS1 hr2 hr rfl (fun y hy => ⟨sd_cpr _ _ _ _ _ _ hy, rfl⟩) ?_, hS1, hCT.mem (Nat.le_refl _) hC.2.2, hl, hcnt⟩
        rw [sd_e_int tr]
        have hu : am_cp h.1 q r sp.toNatClampNeg dp.toNatClampNeg k'.toNatClampNeg r = va_cpy (h.1 q) (h.1 r) sp.toNatClampNeg dp.toNatClampNeg k'.toNatClampNeg := by
          funext y
          simp [am_cp]
        rw [show ((am_cp h.1 q r sp.toNatClampNeg dp.toNatClampNeg k'.toNatClampNeg, h.2.1, h.2.2) : am_H).1 r = va_cpy (h.1 q) (h.1 r) sp.toNatClampNeg dp.toNatClampNeg k'.toNatClampNeg from hu]
        exact hP1
    · cases ee
  · cases ee
theorem sd_new {k a n w : Nat} (X : sd_X b base D cI cB M p R s m args meth c) (J : sd_J b base D cI cB (pg_ml M) s h H locs cells L S ls) (hdg : decode (pg_by M) pc = .ok (.new k, 3)) (hn : n = pc + 3) (ha : a < 11) (hw : pg_w w (.classLink (pg_own M) k (pg_C a)) = true) (ee : am_new n a L S h = some (.inl (pc', L', S', h'))) (hrc : cells + 1 ≤ R.cells) (hrs : slots + ln_ h.2.2 ≤ R.slots)
    (kk : ∀ H1 locs1, sd_J b base D cI cB (pg_ml M) s h' H1 locs1 (cells + 1) L' S' ls → W p l e R s m args below meth c H1 locs1 (cells + 1) (slots + ln_ h.2.2) Q (F0 m pc' ls (S'.map (sd_v b base)))) : h'.2.2 = h.2.2 + 1 ∧ W p l e R s m args below meth c H locs cells slots Q (F0 m pc ls (S.map (sd_v b base))) := by
  obtain ⟨hx, hb, hml, hown, hts, hN, hK, hin, hfr, hlw, hbb, hbs⟩ := X
  obtain ⟨R0, hS, hC, hl, hcnt⟩ := J
  unfold am_new at ee
  split at ee
  · rename_i ht
    cases sd_nxE ee
    refine ⟨rfl, ?_⟩
    have h2 := R0.1
    have hta : tg_ h.2.2 < 11 := by rw [ht]; exact ha
    have hln := sd_ln hta
    rw [ht] at hln
    have hcls := pg_cok_ok ha
    rw [hln] at hrs kk
    subst hn
    have hfsl : ∀ j, j < pg_N a → defaultValue (pg_t a j) = vp_V (sd_fs b base (am_z2 h.1 h.2.2 0, am_z2 h.2.1 h.2.2 0, h.2.2 + 1) h.2.2) j := by
      intro j hj
      rw [hcls.2.2.2.2.1 j hj, vp_V, List.getD_eq_getElem?_getD, sd_fs_at b base _ _ (by rw [hln]; exact hj), ht]
      simp only [am_z2, if_true, Option.getD_some]
      split <;> rfl
    refine va_new (D := D) (ci := a) (C := pg_C a) (T := pg_F a) (N := pg_N a) (Ts := pg_Tg) hx hb hts hcls.2.2.1 (pg_t a) hcls.2.2.2.1 hown (hts _ (pg_gw hw)) (hts _ hcls.1) (hts _ hcls.2.1) hK R0.2.1 (sd_D b base cI cB h) hS (fun q hq => Nat.le_trans hbs hq) (pg_cls_ok a ha) hfsl hrc hrs hdg fun q H1 hP1 hD1 hS1 => ?_
    refine sd_size fun hz1 => ?_
    have hq : q = base + (h.2.2 - 2) := sd_where h2 hP1 hD1 (by omega)
    subst hq
    have e1 : sd_v b base (.ref h.2.2) = .ref (base + (h.2.2 - 2)) := by rw [sd_v_ref b base (sd_nz h2), sd_al_hi h2]
    rw [← e1]
    refine kk H1 locs ⟨sd_psh hbb hbs R0 hS hS1 rfl (fun y hy => ⟨sd_z2r _ _ _ hy, sd_z2r _ _ _ hy⟩) ?_, hS1, ?_, hl, ?_⟩
    · rw [sd_e_obj hta, ht]
      exact hP1
    · have hm : ∀ a' k', ¬ a' = 1 → am_z2 h.2.1 h.2.2 0 a' k' < h.2.2 + 1 := by
        intro a' k' h1
        simp only [am_z2]
        split
        · omega
        · exact Nat.lt_succ_of_lt (hC.2.2 a' k' h1)
      exact (hC.mem (h1 := (am_z2 h.1 h.2.2 0, am_z2 h.2.1 h.2.2 0, h.2.2 + 1)) (Nat.le_succ _) hm).push (Or.inr ⟨_, rfl, Nat.lt_succ_self _⟩)
    · show s.heap.size + (cells + 1) = base + (h.2.2 + 1 - 2)
      omega
  · cases ee
theorem sd_nar {a n : Nat} {ty : ArrayType} (X : sd_X b base D cI cB M p R s m args meth c) (J : sd_J b base D cI cB (pg_ml M) s h H locs cells L S ls) (hdg : decode (pg_by M) pc = .ok (.newarray ty, 2)) (hn : n = pc + 2) (ha : a = 30 ∧ ty = .int ∨ a = 31 ∧ ty = .boolean) (ee : am_nar n a L S h = some (.inl (pc', L', S', h'))) (hrc : cells + 1 ≤ R.cells) (hrs : slots + ln_ h.2.2 ≤ R.slots)
    (kk : ∀ H1 locs1, sd_J b base D cI cB (pg_ml M) s h' H1 locs1 (cells + 1) L' S' ls → W p l e R s m args below meth c H1 locs1 (cells + 1) (slots + ln_ h.2.2) Q (F0 m pc' ls (S'.map (sd_v b base)))) : h'.2.2 = h.2.2 + 1 ∧ W p l e R s m args below meth c H locs cells slots Q (F0 m pc ls (S.map (sd_v b base))) := by
  obtain ⟨hx, hb, hml, hown, hts, hN, hK, hin, hfr, hlw, hbb, hbs⟩ := X
  obtain ⟨R0, hS, hC, hl, hcnt⟩ := J
  unfold am_nar at ee
  split at ee
  · rename_i x T
    split at ee
    · rename_i hc
      obtain ⟨ht, hx0, hxl⟩ := hc
      cases sd_nxE ee
      refine ⟨rfl, ?_⟩
      have h2 := R0.1
      subst hn
      have hbig : ∀ a, ln_ a ≤ 164 := by
        intro a
        rcases Nat.lt_or_ge a 34 with h1 | h1
        · exact (by decide +kernel : ∀ a, a < 34 → ln_ a ≤ 164) a h1
        · rw [ln_hi h1]; split <;> omega
      have hb1 := hbig h.2.2
      have z0 : am_z2 h.1 h.2.2 0 h.2.2 = fun _ => 0 := by
        funext y
        simp [am_z2]
      have fin : ∀ (q : Nat) (H1 : Heap), va_P D pg_cls (sd_ws b base cI cB h ++ [(q, sd_e b base cI cB (am_z2 h.1 h.2.2 0, am_z2 h.2.1 h.2.2 0, h.2.2 + 1) h.2.2)]) H1 → va_D (sd_A base) (sd_ws b base cI cB h ++ [(q, sd_e b base cI cB (am_z2 h.1 h.2.2 0, am_z2 h.2.1 h.2.2 0, h.2.2 + 1) h.2.2)]) → va_S (sd_A base) s.heap H1 locs → W p l e R s m args below meth c H1 locs (cells + 1) (slots + ln_ h.2.2) Q (F0 m (pc + 2) ls (.ref q :: T.map (sd_v b base))) := by
        intro q H1 hP1 hD1 hS1
        refine sd_size fun hz1 => ?_
        have hq : q = base + (h.2.2 - 2) := sd_where h2 hP1 hD1 (by omega)
        subst hq
        have e1 : sd_v b base (.ref h.2.2) = .ref (base + (h.2.2 - 2)) := by rw [sd_v_ref b base (sd_nz h2), sd_al_hi h2]
        rw [← e1]
        refine kk H1 locs ⟨sd_psh hbb hbs R0 hS hS1 rfl (fun y hy => ⟨sd_z2r _ _ _ hy, sd_z2r _ _ _ hy⟩) hP1, hS1, ?_, hl, ?_⟩
        · have hm : ∀ a' k', ¬ a' = 1 → am_z2 h.2.1 h.2.2 0 a' k' < h.2.2 + 1 := by
            intro a' k' h1
            simp only [am_z2]
            split
            · omega
            · exact Nat.lt_succ_of_lt (hC.2.2 a' k' h1)
          exact (hC.tail.mem (h1 := (am_z2 h.1 h.2.2 0, am_z2 h.2.1 h.2.2 0, h.2.2 + 1)) (Nat.le_succ _) hm).push (Or.inr ⟨_, rfl, Nat.lt_succ_self _⟩)
        · show s.heap.size + (cells + 1) = base + (h.2.2 + 1 - 2)
          omega
      have hx6 := pg_xok_ok
      rcases ha with ⟨e1, e2⟩ | ⟨e1, e2⟩
      · subst e2
        refine va_newa (atype := .int) (ty := .int) (a0 := (ln_ h.2.2, .inl fun _ => 0)) hx hb (hts _ hx6.1) rfl hK R0.2.1 (sd_D b base cI cB h) hS (fun q hq => Nat.le_trans hbs hq) (fun cA => rfl) hx0 hxl (by show ln_ h.2.2 * 4 ≤ _; omega) hrc hrs hdg fun q cA H1 hK1 hP1 hD1 hS1 => ?_
        have hcA : cA = cI := by
          have q1 := (hK1.2 2 _ rfl).2
          have q2 := (hK1.2 0 _ rfl).2
          exact Option.some.inj (q1.symm.trans q2)
        subst hcA
        have ex : sd_e b base cA cB (am_z2 h.1 h.2.2 0, am_z2 h.2.1 h.2.2 0, h.2.2 + 1) h.2.2 = .inl (cA, ln_ h.2.2, .inl fun _ => 0) := by
          rw [sd_e_int (ht.trans e1)]
          dsimp only
          rw [z0]
        exact fin q H1 (by rw [ex]; exact hP1) (by rw [ex]; exact hD1) hS1
      · subst e2
        refine va_newa (atype := .boolean) (ty := .boolean) (a0 := (ln_ h.2.2, .inl fun _ => 0)) hx hb (hts _ hx6.2.1) rfl hK R0.2.1 (sd_D b base cI cB h) hS (fun q hq => Nat.le_trans hbs hq) (fun cA => rfl) hx0 hxl (by show ln_ h.2.2 * 1 ≤ _; omega) hrc hrs hdg fun q cA H1 hK1 hP1 hD1 hS1 => ?_
        have hcA : cA = cB := by
          have q1 := (hK1.2 2 _ rfl).2
          have q2 := (hK1.2 1 _ rfl).2
          exact Option.some.inj (q1.symm.trans q2)
        subst hcA
        have ex : sd_e b base cI cA (am_z2 h.1 h.2.2 0, am_z2 h.2.1 h.2.2 0, h.2.2 + 1) h.2.2 = .inl (cA, ln_ h.2.2, .inl fun _ => 0) := by
          rw [sd_e_boo (ht.trans e1)]
          dsimp only
          rw [z0]
        exact fin q H1 (by rw [ex]; exact hP1) (by rw [ex]; exact hD1) hS1
    · cases ee
  · cases ee
end MEM2
end
section
/-! SOUNDNESS of one step -/
theorem sd_sum (b base : Nat) {h : am_H} : ∀ (T : List Value), (∀ v ∈ T, sd_ok h v) → ((T.map (sd_v b base)).map fun v => v.category).sum = T.length
  | [], _ => rfl
  | v :: t, hv => by
    simp only [List.map_cons, List.sum_cons, List.length_cons]
    rw [sd_v_cat b base (hv v List.mem_cons_self), sd_sum b base t (fun u hu => hv u (List.mem_cons_of_mem _ hu))]
    omega
theorem am_cl_inl {M : Nat} {as rest : List Value} {r : Nat × List Value × List Value × am_H} : am_cl M as rest = some (.inl r) → False := by
  intro e
  unfold am_cl at e
  split at e <;> simp at e
theorem am_vir_inl {a b : Nat} {S : List Value} {r : Nat × List Value × List Value × am_H} : am_vir a b S = some (.inl r) → False := by
  intro e
  unfold am_vir at e
  split at e
  · split at e
    · exact am_cl_inl e
    · cases e
  · cases e
set_option maxHeartbeats 4000000 in
theorem am_ex_sz {q : am_I} {M pc pc' : Nat} {L S L' S' : List Value} {h h' : am_H} (e : am_ex q M pc L S h = some (.inl (pc', L', S', h'))) : h.2.2 ≤ h'.2.2 := by
  obtain ⟨i, n, a, f, cc, w⟩ := q
  cases i <;> dsimp only [am_ex] at e <;>
  first
  | (cases e; done)
  | (cases sd_nxE e; exact Nat.le_refl _)
  | exact (am_vir_inl e).elim
  | (simp only [am_bin, am_div, am_ild, am_ald, am_ist, am_ast, am_inc, am_if1, am_if2, am_ifn, am_dup, am_dx1, am_pop, am_swi, am_get, am_put, am_new, am_nar, am_aln, am_eld, am_est, am_spe, am_sta, am_cpy, am_ire, am_are, am_vre, am_rt, am_nx] at e
     repeat' split at e
     all_goals first
       | (cases e; done)
       | exact (am_cl_inl e).elim
       | (cases e; exact Nat.le_refl _)
       | (cases e; exact Nat.le_succ _)
       | (simp at e; done))
theorem am_st_sz {M pc pc' : Nat} {L S L' S' : List Value} {h h' : am_H} (e : am_st M pc L S h = some (.inl (pc', L', S', h'))) : h.2.2 ≤ h'.2.2 := by
  unfold am_st at e
  split at e
  · exact am_ex_sz e
  · cases e
theorem am_ru_sz : ∀ (f : Nat) {M pc : Nat} {L S : List Value} {h h' : am_H} {v : Option Value}, am_ru f M pc L S h = some (v, h') → h.2.2 ≤ h'.2.2
  | 0, _, _, _, _, _, _, _, e => by simp [am_ru] at e
  | f + 1, M, pc, L, S, h, h', v, e => by
    rw [am_ru] at e
    match hs : am_st M pc L S h with
    | none => rw [hs] at e; cases e
    | some (.inl (pc', L', S', h1)) => rw [hs] at e; exact Nat.le_trans (am_st_sz hs) (am_ru_sz f e)
    | some (.inr (.inl v)) => rw [hs] at e; cases e; exact Nat.le_refl _
    | some (.inr (.inr (M', as, rest))) =>
      rw [hs] at e
      match hc : am_ru f M' 0 (am_lo M' as) [] h with
      | none => simp only [hc] at e; cases e
      | some (v1, h1) =>
        simp only [hc] at e
        exact Nat.le_trans (am_ru_sz f hc) (am_ru_sz f e)
section STEP
variable {p : Program} {l : Launch} {e : Env} {R : Room} {s : State} {m : MethodId} {args : Array Value} {below : List Frame} {meth : Method} {c : Code} {Q : State → Prop} {b base : Nat} {D : va_G} {cI cB : ClassId} {M : Nat}
variable {H : Heap} {locs : List Loc} {cells slots : Nat} {L S L' S' : List Value} {ls : Array Slot} {h h' : am_H} {pc pc' : Nat}
set_option maxHeartbeats 4000000 in
theorem sd_step (X : sd_X b base D cI cB M p R s m args meth c) (J : sd_J b base D cI cB (pg_ml M) s h H locs cells L S ls) (es : am_st M pc L S h = some (.inl (pc', L', S', h'))) (hrc : cells + (h'.2.2 - h.2.2) ≤ R.cells) (hrs : slots + (am_sl h'.2.2 - am_sl h.2.2) ≤ R.slots)
    (kk : ∀ H1 locs1 ls1, sd_J b base D cI cB (pg_ml M) s h' H1 locs1 (cells + (h'.2.2 - h.2.2)) L' S' ls1 → W p l e R s m args below meth c H1 locs1 (cells + (h'.2.2 - h.2.2)) (slots + (am_sl h'.2.2 - am_sl h.2.2)) Q (F0 m pc' ls1 (S'.map (sd_v b base)))) : W p l e R s m args below meth c H locs cells slots Q (F0 m pc ls (S.map (sd_v b base))) := by
  obtain ⟨hx, hb, hml, hown, hts, hN, hK, hin, hfr, hlw, hbb, hbs⟩ := id X
  obtain ⟨R0, hS, hC, hl, hcnt⟩ := id J
  have fin : sd_P b base (pg_ml M) (fun pc ls st => W p l e R s m args below meth c H locs cells slots Q (F0 m pc ls st)) pc ls S h pc' L' S' h' → W p l e R s m args below meth c H locs cells slots Q (F0 m pc ls (S.map (sd_v b base))) := by
    rintro ⟨rfl, hC', k⟩
    refine k fun ls' hl' => ?_
    simp only [Nat.sub_self, Nat.add_zero] at kk
    exact kk H locs ls' ⟨R0, hS, hC', hl', hcnt⟩
  have fin2 : h'.2.2 = h.2.2 → ∀ H1 locs1, sd_J b base D cI cB (pg_ml M) s h' H1 locs1 cells L' S' ls → W p l e R s m args below meth c H1 locs1 cells slots Q (F0 m pc' ls (S'.map (sd_v b base))) := by
    intro hz H1 locs1 J1
    simp only [hz, Nat.sub_self, Nat.add_zero] at kk
    exact kk H1 locs1 ls J1
  have fin3 : h'.2.2 = h.2.2 + 1 → ∀ H1 locs1, sd_J b base D cI cB (pg_ml M) s h' H1 locs1 (cells + 1) L' S' ls → W p l e R s m args below meth c H1 locs1 (cells + 1) (slots + ln_ h.2.2) Q (F0 m pc' ls (S'.map (sd_v b base))) := by
    intro hz H1 locs1 J1
    have e1 : h'.2.2 - h.2.2 = 1 := by omega
    have e2 : am_sl h'.2.2 - am_sl h.2.2 = ln_ h.2.2 := by rw [hz]; simp only [am_sl]; omega
    rw [e1, e2] at kk
    exact kk H1 locs1 ls J1
  have rc3 : h'.2.2 = h.2.2 + 1 → cells + 1 ≤ R.cells ∧ slots + ln_ h.2.2 ≤ R.slots := by
    intro hz
    have e2 : am_sl h'.2.2 - am_sl h.2.2 = ln_ h.2.2 := by rw [hz]; simp only [am_sl]; omega
    omega
  unfold am_st at es
  split at es
  · rename_i q hq
    have hchk := (pg_in_ok hq).2
    obtain ⟨i, n, a, f, cc, w⟩ := q
    simp only [pg_chk, Bool.and_eq_true, decide_eq_true_eq] at hchk
    obtain ⟨hdg, hn, hch⟩ := hchk
    cases i with
    | iconst k => subst hn; exact fin (sd_const (fun rest k => lv_iconst hx hb hdg (of_decide_eq_true hch) k) hC hl es)
    | bipush k => subst hn; exact fin (sd_const (fun rest k => lv_bipush hx hb hdg (of_decide_eq_true hch) k) hC hl es)
    | sipush k => subst hn; exact fin (sd_const (fun rest k => lv_sipush hx hb hdg (of_decide_eq_true hch) k) hC hl es)
    | ldc k => subst hn; exact fin (sd_const (fun rest k => lv_ldc hx hb hown (hts _ (pg_gw hch)) hdg k) hC hl es)
    | ldc_w k => subst hn; exact fin (sd_const (fun rest k => lv_ldcw hx hb hown (hts _ (pg_gw hch)) hdg k) hC hl es)
    | aconst_null => subst hn; exact fin (sd_null (fun rest k => lv_null hx hb hdg k) (by have := R0.1; omega) hC hl es)
    | iload_n k => subst hn; exact fin (sd_ild (fun x rest hr k => lv_iload_n hx hb hdg (of_decide_eq_true hch) hr k) hC hl es)
    | iload k =>
      have hka := of_decide_eq_true hch
      subst hka
      subst hn; exact fin (sd_ild (fun x rest hr k => lv_iload hx hb hdg hr k) hC hl es)
    | aload_n k => subst hn; exact fin (sd_ald (fun x rest hr k => lv_aload_n hx hb hdg (of_decide_eq_true hch) hr k) (fun rest hr k => lv_aload_nN hx hb hdg (of_decide_eq_true hch) hr k) hC hl es)
    | aload k =>
      have hka := of_decide_eq_true hch
      subst hka
      subst hn; exact fin (sd_ald (fun x rest hr k => lv_aload hx hb hdg hr k) (fun rest hr k => lv_aloadN hx hb hdg hr k) hC hl es)
    | istore_n k => subst hn; exact fin (sd_ist (fun x rest ha k => lv_istore_n hx hb hdg (of_decide_eq_true hch) hl.1 ha rfl k) hC hl es)
    | istore k =>
      have hka := of_decide_eq_true hch
      subst hka
      subst hn; exact fin (sd_ist (fun x rest ha k => lv_istore hx hb hdg hl.1 ha rfl k) hC hl es)
    | astore_n k => subst hn; exact fin (sd_ast (fun x rest ha k => lv_astore_n hx hb hdg (of_decide_eq_true hch) hl.1 ha rfl k) (fun rest ha k => lv_astore_nN hx hb hdg (of_decide_eq_true hch) hl.1 ha rfl k) hC hl es)
    | astore k =>
      have hka := of_decide_eq_true hch
      subst hka
      subst hn; exact fin (sd_ast (fun x rest ha k => lv_astore hx hb hdg hl.1 ha rfl k) (fun rest ha k => lv_astoreN hx hb hdg hl.1 ha rfl k) hC hl es)
    | iinc k z =>
      simp only [Bool.and_eq_true, decide_eq_true_eq] at hch
      obtain ⟨h1, h2⟩ := hch
      subst h1
      subst hn
      refine fin (sd_inc (fun x rest ha hm k => ?_) hC hl es)
      obtain ⟨j, hj⟩ := List.getElem?_of_mem hm
      exact lv_iinc hx hb hdg hl.1 hj (by rw [h2]) ha rfl k
    | iadd => subst hn; exact fin (sd_bin (fun x y rest k => lv_iadd hx hb hdg k) hC hl es)
    | isub => subst hn; exact fin (sd_bin (fun x y rest k => lv_isub hx hb hdg k) hC hl es)
    | imul => subst hn; exact fin (sd_bin (fun x y rest k => lv_imul hx hb hdg k) hC hl es)
    | iand => subst hn; exact fin (sd_bin (fun x y rest k => lv_iand hx hb hdg k) hC hl es)
    | ior => subst hn; exact fin (sd_bin (fun x y rest k => lv_ior hx hb hdg k) hC hl es)
    | ixor => subst hn; exact fin (sd_bin (fun x y rest k => lv_ixor hx hb hdg k) hC hl es)
    | ishl => subst hn; exact fin (sd_bin (fun x y rest k => lv_ishl hx hb hdg k) hC hl es)
    | ishr => subst hn; exact fin (sd_bin (fun x y rest k => lv_ishr hx hb hdg k) hC hl es)
    | iushr => subst hn; exact fin (sd_bin (fun x y rest k => lv_iushr hx hb hdg rfl k) hC hl es)
    | idiv => subst hn; exact fin (sd_div (fun x y rest hy k => lv_idiv hx hb hdg hy k) hC hl es)
    | irem => subst hn; exact fin (sd_div (fun x y rest hy k => lv_irem hx hb hdg hy k) hC hl es)
    | dup => subst hn; exact fin (sd_dup (fun v rest hv k => lv_dup hx hb hdg hv k) hC hl es)
    | dup_x1 => subst hn; exact fin (sd_dx1 (fun v u rest hv hu k => lv_dup_x1 hx hb hdg hv hu k) hC hl es)
    | pop => subst hn; exact fin (sd_pop (fun v rest hv k => lv_pop hx hb hdg hv k) hC hl es)
    | ifCond cd o =>
      have ht := of_decide_eq_true hch
      subst hn
      refine fin (sd_if1 (fun x rest kt kf => ?_) hC hl es)
      cases cd with
      | eq => exact lv_if_eq hx hb hdg ht (fun q => kt (decide_eq_true q)) (fun q => kf (fun z => q (of_decide_eq_true z)))
      | ne => exact lv_if_ne hx hb hdg ht (fun q => kt (decide_eq_true q)) (fun q => kf (fun z => (of_decide_eq_true z) q))
      | lt => exact lv_if_lt hx hb hdg ht (fun q => kt (decide_eq_true q)) (fun q => kf (fun z => q (of_decide_eq_true z)))
      | ge => exact lv_if_ge hx hb hdg ht (fun q => kt (decide_eq_true q)) (fun q => kf (fun z => q (of_decide_eq_true z)))
      | gt => exact lv_if_gt hx hb hdg ht (fun q => kt (decide_eq_true q)) (fun q => kf (fun z => q (of_decide_eq_true z)))
      | le => exact lv_if_le hx hb hdg ht (fun q => kt (decide_eq_true q)) (fun q => kf (fun z => q (of_decide_eq_true z)))
    | if_icmp cd o =>
      have ht := of_decide_eq_true hch
      subst hn
      refine fin (sd_if2 (fun x y rest kt kf => ?_) hC hl es)
      cases cd with
      | eq => exact lv_icmp_eq hx hb hdg ht (fun q => kt (decide_eq_true q)) (fun q => kf (fun z => q (of_decide_eq_true z)))
      | ne => exact lv_icmp_ne hx hb hdg ht (fun q => kt (decide_eq_true q)) (fun q => kf (fun z => (of_decide_eq_true z) q))
      | lt => exact lv_icmp_lt hx hb hdg ht (fun q => kt (decide_eq_true q)) (fun q => kf (fun z => q (of_decide_eq_true z)))
      | ge => exact lv_icmp_ge hx hb hdg ht (fun q => kt (decide_eq_true q)) (fun q => kf (fun z => q (of_decide_eq_true z)))
      | gt => exact lv_icmp_gt hx hb hdg ht (fun q => kt (decide_eq_true q)) (fun q => kf (fun z => q (of_decide_eq_true z)))
      | le => exact lv_icmp_le hx hb hdg ht (fun q => kt (decide_eq_true q)) (fun q => kf (fun z => q (of_decide_eq_true z)))
    | ifnull o =>
      have ht := of_decide_eq_true hch
      subst hn; exact fin (sd_ifn (fun x rest k => lv_ifnull hx hb hdg k) (fun rest k => lv_ifnullN hx hb hdg ht k) hC hl es)
    | ifnonnull o =>
      have ht := of_decide_eq_true hch
      subst hn; exact fin (sd_ifn (fun x rest k => lv_ifnonnull hx hb hdg ht k) (fun rest k => lv_ifnonnullN hx hb hdg k) hC hl es)
    | goto o =>
      have ht := of_decide_eq_true hch
      subst hn; exact fin (sd_goto (fun rest k => lv_goto hx hb hdg ht k) hC hl es)
    | tableswitch d lo hi os =>
      simp only [Bool.and_eq_true, decide_eq_true_eq] at hch
      exact fin (sd_swi hch.1 hch.2 (fun x rest t hc ht k => lv_tableOut hx hb hdg hc ht k) (fun x rest t o h1 h2 ho ht k => lv_tableIn hx hb hdg h1 h2 ho ht k) hC hl es)
    | getfield k =>
      simp only [Bool.and_eq_true, decide_eq_true_eq] at hch
      subst hn
      exact fin (sd_get X J hdg hch.1 hch.2 es)
    | putfield k =>
      simp only [Bool.and_eq_true, decide_eq_true_eq] at hch
      obtain ⟨ha, hf, hp⟩ := hch
      have es' : am_put n a f cc L S h = some (.inl (pc', L', S', h')) := es
      unfold am_put at es'
      split at es'
      · rename_i x r T
        split at es'
        · rename_i hc
          obtain ⟨hsub, hc1, hc2⟩ := hc
          cases sd_nxE es'
          have ht := sd_sub_lt hsub ha
          have h2 := sd_ge2 ht
          obtain ⟨hk, hlink, hsame, hcc⟩ := sd_fld hf ht hsub
          have hrf : ¬ pg_rf (tg_ r) f = true := fun q => hc1 (by rw [hcc, if_pos q])
          have htk := (pg_cok_ok ht).2.2.2.2.2.1 f hk
          have hty : pg_t (tg_ r) f = .int ∨ pg_t (tg_ r) f = .boolean ∧ (x = 0 ∨ x = 1) := by
            rw [if_neg hrf] at hcc
            by_cases hbo : pg_t (tg_ r) f = .boolean
            · rw [if_pos hbo] at hcc
              exact Or.inr ⟨hbo, hc2 hcc⟩
            · left
              have e3 : pg_rf (tg_ r) f = false := by simpa using hrf
              rw [e3] at htk
              cases hq2 : pg_t (tg_ r) f <;> rw [hq2] at htk hbo <;> first | rfl | exact absurd rfl hbo | (simp [pg_tk] at htk)
          refine sd_put (h' := (am_u2 h.1 r f x, h.2.1, h.2.2)) (v := .int x) X R0 hS hdg hn ha hf hp hsub (sd_rlt hC.tail) ?_ ?_ rfl (fun y hy => ⟨sd_u2r _ _ _ _ hy, rfl⟩) ?_ (fun j hj => ⟨sd_u2k _ _ _ _ hj, rfl⟩) (fun H1 locs1 R1 hS1 => fin2 rfl H1 locs1 ⟨R1, hS1, hC.tail.tail.mem (Nat.le_refl _) hC.2.2, hl, hcnt⟩)
          · rcases hty with q | ⟨q, q2⟩
            · rw [q]; rfl
            · rw [q]; rcases q2 with q2 | q2 <;> subst q2 <;> rfl
          · rcases hty with q | ⟨q, q2⟩
            · rw [q]; rfl
            · rw [q]; rcases q2 with q2 | q2 <;> subst q2 <;> rfl
          · rw [if_neg hrf]
            show Value.int x = .int (am_u2 h.1 r f x r f)
            rw [sd_u2s]
        · cases es'
      · rename_i x r T
        split at es'
        · rename_i hc
          obtain ⟨hsub, hc1⟩ := hc
          cases sd_nxE es'
          have ht := sd_sub_lt hsub ha
          have h2 := sd_ge2 ht
          obtain ⟨hk, hlink, hsame, hcc⟩ := sd_fld hf ht hsub
          have hrf : pg_rf (tg_ r) f = true := by
            by_cases q : pg_rf (tg_ r) f = true
            · exact q
            · rw [if_neg q, hc1] at hcc
              split at hcc <;> exact absurd hcc (by decide)
          have htk := (pg_cok_ok ht).2.2.2.2.2.1 f hk
          rw [hrf] at htk
          have hxlt : x < h.2.2 := sd_rlt hC
          have hval : ∀ ty : FieldType, pg_tk ty true = true → narrow ty (sd_v b base (.ref x)) = sd_v b base (.ref x) ∧ fits ty (sd_v b base (.ref x)) = true := by
            intro ty hty
            by_cases h0 : x = 0
            · subst h0
              rw [sd_v_0]
              cases ty <;> first | exact ⟨rfl, rfl⟩ | (simp [pg_tk] at hty)
            · rw [sd_v_ref b base h0]
              cases ty <;> first | exact ⟨rfl, rfl⟩ | (simp [pg_tk] at hty)
          have hm : ∀ a' k', ¬ a' = 1 → am_u2 h.2.1 r f x a' k' < h.2.2 := by
            intro a' k' h1
            simp only [am_u2]
            split
            · exact hxlt
            · exact hC.2.2 a' k' h1
          refine sd_put (h' := (h.1, am_u2 h.2.1 r f x, h.2.2)) (v := sd_v b base (.ref x)) X R0 hS hdg hn ha hf hp hsub (sd_rlt hC.tail) (hval _ htk).1 (hval _ htk).2 rfl (fun y hy => ⟨rfl, sd_u2r _ _ _ _ hy⟩) ?_ (fun j hj => ⟨rfl, sd_u2k _ _ _ _ hj⟩) (fun H1 locs1 R1 hS1 => fin2 rfl H1 locs1 ⟨R1, hS1, hC.tail.tail.mem (h1 := (h.1, am_u2 h.2.1 r f x, h.2.2)) (Nat.le_refl _) hm, hl, hcnt⟩)
          rw [if_pos hrf]
          show _ = sd_v b base (.ref (am_u2 h.2.1 r f x r f))
          rw [sd_u2s]
        · cases es'
      · cases es'
    | new k =>
      simp only [Bool.and_eq_true, decide_eq_true_eq] at hch
      have hz : h'.2.2 = h.2.2 + 1 := by
        have es' : am_new n a L S h = some (.inl (pc', L', S', h')) := es
        unfold am_new at es'
        split at es'
        · cases sd_nxE es'; rfl
        · cases es'
      exact (sd_new X J hdg hn hch.1 hch.2 es (rc3 hz).1 (rc3 hz).2 (fin3 hz)).2
    | newarray ty =>
      have hz : h'.2.2 = h.2.2 + 1 := by
        have es' : am_nar n a L S h = some (.inl (pc', L', S', h')) := es
        unfold am_nar at es'
        split at es'
        · split at es'
          · cases sd_nxE es'; rfl
          · cases es'
        · cases es'
      exact (sd_nar X J hdg hn (of_decide_eq_true hch) es (rc3 hz).1 (rc3 hz).2 (fin3 hz)).2
    | arraylength => exact fin (sd_aln X J hdg hn es)
    | iaload => exact fin (sd_eld (t := 30) X J (Or.inl ⟨rfl, hdg⟩) hn es)
    | baload => exact fin (sd_eld (t := 31) X J (Or.inr ⟨rfl, hdg⟩) hn es)
    | iastore =>
      have hz : h'.2.2 = h.2.2 := by
        have es' : am_est 30 n L S h = some (.inl (pc', L', S', h')) := es
        unfold am_est at es'
        split at es'
        · split at es'
          · cases sd_nxE es'; rfl
          · cases es'
        · cases es'
      exact (sd_est (t := 30) X J (Or.inl ⟨rfl, hdg⟩) hn es (fin2 hz)).2
    | bastore =>
      have hz : h'.2.2 = h.2.2 := by
        have es' : am_est 31 n L S h = some (.inl (pc', L', S', h')) := es
        unfold am_est at es'
        split at es'
        · split at es'
          · cases sd_nxE es'; rfl
          · cases es'
        · cases es'
      exact (sd_est (t := 31) X J (Or.inr ⟨rfl, hdg⟩) hn es (fin2 hz)).2
    | invokevirtual k => exact (am_vir_inl es).elim
    | invokespecial k =>
      have es' : am_spe n a f L S h = some (.inl (pc', L', S', h')) := es
      unfold am_spe at es'
      split at es'
      · rename_i r T hd
        split at es'
        · cases es'
        · rename_i hr0
          split at es'
          · rename_i ha
            subst ha
            split at es'
            · rename_i hT
              cases sd_nxE es'
              simp only [pg_spe, if_true, Bool.and_eq_true, decide_eq_true_eq] at hch
              obtain ⟨hf0, hw, hf1, hl1⟩ := hch
              subst hf0
              simp only [List.drop_zero] at hd
              subst hd
              refine fin ⟨rfl, hC.tail, fun k => ?_⟩
              subst hn
              have k1 := k ls hl
              simp only [List.map_cons, sd_v_ref b base hr0]
              have hsm := sd_sum b base S' hC.tail.2.1
              refine W.objInit hx hb hown (hts _ (pg_gw hw)) (hts _ pg_xok_ok.2.2.2.2.2) (hts _ pg_obj) rfl (by rw [hml]; exact hl.1.1) rfl hdg (Nat.le_trans hf1 hfr) ?_ k1
              have := lv_room (m := m) (pc := pc) (ls := ls) (rest := Value.ref (sd_al b base r) :: S'.map (sd_v b base)) (st := S'.map (sd_v b base)) (by rw [hsm]; exact hT)
              omega
            · cases es'
          · exact (am_cl_inl es').elim
      · cases es'
    | invokestatic k =>
      have es' : am_sta n a f L S h = some (.inl (pc', L', S', h')) := es
      unfold am_sta at es'
      split at es'
      · rename_i ha
        subst ha
        simp only [pg_sta, if_true, Bool.and_eq_true, decide_eq_true_eq] at hch
        obtain ⟨hw, hf1, hl1⟩ := hch
        have hz : h'.2.2 = h.2.2 := by
          have es2 := es'
          unfold am_cpy at es2
          split at es2
          · split at es2
            · cases sd_nxE es2; rfl
            · cases es2
          · cases es2
        exact (sd_cpy X J hdg hn hw hf1 hl1 es' (fin2 hz)).2
      · split at es'
        · exact (am_cl_inl es').elim
        · cases es'
    | ireturn =>
      have es' : am_ire M S = some (.inl (pc', L', S', h')) := es
      unfold am_ire at es'
      split at es'
      · split at es' <;> simp [am_rt] at es'
      · cases es'
    | areturn =>
      have es' : am_are S = some (.inl (pc', L', S', h')) := es
      unfold am_are at es'
      split at es' <;> simp [am_rt] at es'
    | return_ =>
      have es' : am_vre S = some (.inl (pc', L', S', h')) := es
      unfold am_vre at es'
      split at es' <;> simp [am_rt] at es'
    | _ => exact absurd es (by simp [am_ex])
  · cases es
end STEP
end
section
/-! SOUNDNESS of calls and returns; the whole -/
def sd_Pc (b base : Nat) (D : va_G) (cI cB : ClassId) (h : am_H) (as : List Value) : Array Value → State → Prop := fun av U => av = (as.map (sd_v b base)).toArray ∧ (sd_R b base D cI cB U h U.heap ∧ U.heap.size = base + (h.2.2 - 2)) ∧ va_K D pg_cls (sd_ty cI cB) U ∧ sd_N U
def sd_Qc (b base : Nat) (D : va_G) (cI cB : ClassId) (v1 : Option Value) (h1 : am_H) : Array Value → State → Outcome → State → Prop := fun _ st o t => o = .returned (v1.map (sd_v b base)) ∧ sd_R b base D cI cB t h1 t.heap ∧ sd_C h1 [] v1.toList ∧ va_F (sd_A base) st t
def sd_rm (M mc ms : Nat) : Room := { frames := pg_fr M, cells := mc, slots := ms, locals := pg_lw M }
abbrev sd_wm (M : Nat) : List Cond := Cond.code (pg_nm M) (pg_by M) (pg_ml M) (pg_rt M) :: pg_Tg
def sd_Met (l : Launch) (b base : Nat) (D : va_G) (cI cB : ClassId) (M : Nat) (as : List Value) (h : am_H) (v1 : Option Value) (h1 : am_H) : Prop := Met l (pg_nm M) (sd_wm M) (sd_rm M (h1.2.2 - h.2.2) (am_sl h1.2.2 - am_sl h.2.2)) (sd_Pc b base D cI cB h as) (sd_Qc b base D cI cB v1 h1) (h1.2.2 - h.2.2) (am_sl h1.2.2 - am_sl h.2.2) (sd_A base)
theorem sd_R.moved {b base : Nat} {D : va_G} {cI cB : ClassId} {s U : State} {h : am_H} {H : Heap} (hv : s.vm.Alike U.vm) (R0 : sd_R b base D cI cB s h H) : sd_R b base D cI cB U h H := ⟨R0.1, R0.2.1, R0.2.2.moved hv⟩
theorem sd_N.warm {s U : State} (hW : s.WarmedH U.vm) (hN : sd_N s) : sd_N U := ⟨fun q hq => va_Nw.warmM hW (hN.1 q hq), fun y hy => va_Nw.warmD hW (hN.2 y hy)⟩
theorem sd_blind (b base : Nat) (D : va_G) (cI cB : ClassId) (h : am_H) (as : List Value) : FrameBlind (sd_Pc b base D cI cB h as) := by
  intro a U g mk q
  obtain ⟨q0, ⟨qR, qs⟩, qK, qN⟩ := q
  exact ⟨q0, ⟨qR.moved (U := U.calling g mk a) (Vm.Alike.refl U.vm), qs⟩, va_K.moved (u := U) (U := U.calling g mk a) (Vm.Alike.refl U.vm) qK, ⟨fun q hq => va_Nw.same rfl (u := U) rfl (qN.1 q hq), fun y hy => va_Nw.same rfl (u := U) rfl (qN.2 y hy)⟩⟩
theorem sd_goodl {ws : List Cond} (h : ∀ w ∈ ws, w ∈ pg_Tg) : GoodIn pg_Tg ws := fun w hw => ⟨h w hw, good_of_word (List.mem_filter.mp (h w hw)).2⟩
theorem sd_wm_in {M : Nat} (hM : M < 121) : ∀ w ∈ sd_wm M, w ∈ pg_Tg := fun w hw => (pg_good hM w hw).1
theorem sd_hsz {b base : Nat} {D : va_G} {cI cB : ClassId} {s : State} {h : am_H} {H : Heap} {locs : List Loc} (hbs : base ≤ s.heap.size) (R0 : sd_R b base D cI cB s h H) (hS : va_S (sd_A base) s.heap H locs) (hz : H.size ≤ base + (h.2.2 - 2)) : H.size = base + (h.2.2 - 2) := by
  have h2 := R0.1
  rcases Nat.lt_or_ge 2 h.2.2 with h3 | h3
  · have e1 : (sd_ws b base cI cB h)[h.2.2 - 3]? = some (base + (h.2.2 - 3), sd_e b base cI cB h (h.2.2 - 3 + 2)) := by rw [sd_ws_get, if_pos (by omega)]
    have := (R0.2.1 _ _ e1).lt
    have h4 : base + (h.2.2 - 3) < H.size := this
    omega
  · have := hS.1
    omega
section CALL
variable {p : Program} {l : Launch} {e : Env} {R : Room} {s : State} {m : MethodId} {args : Array Value} {below : List Frame} {meth : Method} {c : Code} {Q : State → Prop} {b base : Nat} {D : va_G} {cI cB : ClassId} {M : Nat}
variable {H : Heap} {locs : List Loc} {cells slots : Nat} {L S : List Value} {ls : Array Slot} {h h1 : am_H} {pc : Nat}
theorem sd_after {mc ms : Nat} {st0 : List Value} {rest : List Value} {v1 : Option Value} {a : Array Value} (hz : h.2.2 ≤ h1.2.2) (hmc : mc = h1.2.2 - h.2.2) (hr : va_Run p l e R s m args below meth c H locs cells slots mc ms (F0 m pc ls st0) (rest.map (sd_v b base)) (sd_Qc b base D cI cB v1 h1 a) (sd_A base)) (R0 : sd_R b base D cI cB s h H) (hS : va_S (sd_A base) s.heap H locs) (hCL : ∀ v ∈ L, v = .long 0 ∨ sd_ok h v) (hCr : ∀ v ∈ rest, sd_ok h v) (hl : sd_L b base ls (pg_ml M) L) (hcnt : s.heap.size + cells = base + (h.2.2 - 2))
    (kk : ∀ H1 locs1, sd_J b base D cI cB (pg_ml M) s h1 H1 locs1 (cells + mc) L (v1.toList ++ rest) ls → W p l e R s m args below meth c H1 locs1 (cells + mc) (slots + ms) Q (F0 m (pc + 3) ls ((v1.toList ++ rest).map (sd_v b base)))) : W p l e R s m args below meth c H locs cells slots Q (F0 m pc ls st0) := by
  intro T hT X
  obtain ⟨v, st₀, t, T', Lc, h0, X', hL, e1, e2, ⟨hv, R1, hC1, hF⟩, st⟩ := hr T hT X
  have hv' : v = v1.map (sd_v b base) := Outcome.returned.inj hv
  have hal : s.vm.Alike t.vm := by rw [← e2]; exact X'.warmed.alike
  have hF1 := hF.1
  have hF2 := hF.2
  rw [h0] at hF1 hF2
  have key : ∀ v, sd_ok h v → sd_ok h1 v := by
    intro v hv
    rcases hv with q | ⟨a, q, q2⟩
    · exact Or.inl q
    · exact Or.inr ⟨a, q, Nat.lt_of_lt_of_le q2 hz⟩
  have J1 : sd_J b base D cI cB (pg_ml M) s h1 T'.heap (locs ++ Lc) (cells + mc) L (v1.toList ++ rest) ls := by
    refine ⟨?_, ⟨Nat.le_trans hS.1 (by rw [e1]; exact hF1), fun q q1 q2 => ?_, fun q hq => ?_⟩, ⟨fun v hv => (hCL v hv).imp id (key v), fun v hv => ?_, hC1.2.2⟩, hl, ?_⟩
    · rw [e1]; exact R1.moved hal.symm
    · rw [e1, hF2 q (Nat.lt_of_lt_of_le q1 hS.1) q2]; exact hS.2.1 q q1 q2
    · rcases List.mem_append.mp hq with h | h
      · exact hS.2.2 q h
      · exact hL q h
    · rcases List.mem_append.mp hv with h | h
      · exact hC1.2.1 v h
      · exact key v (hCr v h)
    · have := R0.1
      omega
  obtain ⟨t2, a1, b1⟩ := kk T'.heap (locs ++ Lc) J1 T' rfl X'
  refine ⟨t2, st t2 ?_, b1⟩
  subst hv'
  have e3 : (v1.map (sd_v b base)).toList ++ rest.map (sd_v b base) = (v1.toList ++ rest).map (sd_v b base) := by cases v1 <;> simp
  rw [e3]
  exact a1
theorem am_clE {M' M2 : Nat} {as rest as2 rest2 : List Value} (e : am_cl M' as rest = some (.inr (.inr (M2, as2, rest2)))) : rest.length ≤ 8 ∧ as.length ≤ pg_ml M' ∧ M' = M2 ∧ as = as2 ∧ rest = rest2 := by
  unfold am_cl at e
  split at e
  · rename_i hc
    simp only [Option.some.injEq, Sum.inr.injEq, Prod.mk.injEq] at e
    exact ⟨hc.1, hc.2, e.1, e.2.1, e.2.2⟩
  · cases e
theorem sd_split {f : Nat} {r : Nat} {T : List Value} (hd : S.drop f = .ref r :: T) : S = S.take f ++ .ref r :: T ∧ (S.take f).length = f := by
  refine ⟨by rw [← hd]; exact (List.take_append_drop f S).symm, ?_⟩
  have h1 : f < S.length := by
    rcases Nat.lt_or_ge f S.length with q | q
    · exact q
    · rw [List.drop_eq_nil_of_le q] at hd; cases hd
  simp; omega
theorem sd_npE {y : MethodName} {n : Nat} (hh : pg_np y n = true) : (parseMethodDescriptor y.desc).map (fun d => d.parameters.length) = some n := of_decide_eq_true hh
theorem sd_roomE {y : Nat} (hh : pg_room M y = true) : y < 121 ∧ pg_fr y + 1 ≤ pg_fr M ∧ 8 + (pg_ml y + 11) + pg_lw y ≤ pg_lw M := by
  simp only [pg_room, Bool.and_eq_true, decide_eq_true_eq] at hh
  exact hh
set_option maxHeartbeats 4000000 in
theorem am_ex_call {i : Instr} {n a f : Nat} {cc : Int32} {w M pc : Nat} {L S : List Value} {h : am_H} {r : Nat × List Value × List Value} (e : am_ex (i, n, a, f, cc, w) M pc L S h = some (.inr (.inr r))) : (∃ k, i = .invokevirtual k) ∨ (∃ k, i = .invokespecial k) ∨ ∃ k, i = .invokestatic k := by
  cases i <;> dsimp only [am_ex] at e <;>
  first
  | (cases e; done)
  | exact Or.inl ⟨_, rfl⟩
  | exact Or.inr (Or.inl ⟨_, rfl⟩)
  | exact Or.inr (Or.inr ⟨_, rfl⟩)
  | (simp only [am_bin, am_div, am_ild, am_ald, am_ist, am_ast, am_inc, am_if1, am_if2, am_ifn, am_dup, am_dx1, am_pop, am_swi, am_get, am_put, am_new, am_nar, am_aln, am_eld, am_est, am_ire, am_are, am_vre, am_rt, am_nx] at e
     repeat' split at e
     all_goals first
       | (cases e; done)
       | (simp at e; done))
set_option maxHeartbeats 4000000 in
theorem am_ex_ret {i : Instr} {n a f : Nat} {cc : Int32} {w M pc : Nat} {L S : List Value} {h : am_H} {v : Option Value} (e : am_ex (i, n, a, f, cc, w) M pc L S h = some (.inr (.inl v))) : (i = .ireturn ∧ ∃ x, S = [.int x] ∧ v = some (.int x) ∧ (pg_rt M = some .boolean → x = 0 ∨ x = 1)) ∨ (i = .areturn ∧ ∃ x, S = [.ref x] ∧ v = some (.ref x)) ∨ (i = .return_ ∧ S = [] ∧ v = none) := by
  cases i <;> dsimp only [am_ex] at e <;>
  first
  | (cases e; done)
  | (unfold am_ire at e
     split at e
     · split at e
       · simp only [am_rt, Option.some.injEq, Sum.inr.injEq, Sum.inl.injEq] at e
         exact Or.inl ⟨rfl, _, rfl, e.symm, by assumption⟩
       · cases e
     · cases e)
  | (unfold am_are at e
     split at e
     · simp only [am_rt, Option.some.injEq, Sum.inr.injEq, Sum.inl.injEq] at e
       exact Or.inr (Or.inl ⟨rfl, _, rfl, e.symm⟩)
     · cases e)
  | (unfold am_vre at e
     split at e
     · simp only [am_rt, Option.some.injEq, Sum.inr.injEq, Sum.inl.injEq] at e
       exact Or.inr (Or.inr ⟨rfl, rfl, e.symm⟩)
     · cases e)
  | (simp only [am_bin, am_div, am_ild, am_ald, am_ist, am_ast, am_inc, am_if1, am_if2, am_ifn, am_dup, am_dx1, am_pop, am_swi, am_get, am_put, am_new, am_nar, am_aln, am_eld, am_est, am_vir, am_spe, am_sta, am_cpy, am_cl, am_nx] at e
     repeat' split at e
     all_goals first
       | (cases e; done)
       | (simp at e; done))
set_option maxHeartbeats 4000000 in
theorem sd_call {M' : Nat} {as rest : List Value} {v1 : Option Value} (X : sd_X b base D cI cB M p R s m args meth c) (J : sd_J b base D cI cB (pg_ml M) s h H locs cells L S ls) (es : am_st M pc L S h = some (.inr (.inr (M', as, rest)))) (hz : h.2.2 ≤ h1.2.2) (hM : M' < 121 → as.length ≤ pg_ml M' → (∀ v ∈ as, sd_ok h v) → (∀ a k, ¬ a = 1 → h.2.1 a k < h.2.2) → sd_Met l b base D cI cB M' as h v1 h1) (hrc : cells + (h1.2.2 - h.2.2) ≤ R.cells) (hrs : slots + (am_sl h1.2.2 - am_sl h.2.2) ≤ R.slots)
    (kk : ∀ H1 locs1, sd_J b base D cI cB (pg_ml M) s h1 H1 locs1 (cells + (h1.2.2 - h.2.2)) L (v1.toList ++ rest) ls → W p l e R s m args below meth c H1 locs1 (cells + (h1.2.2 - h.2.2)) (slots + (am_sl h1.2.2 - am_sl h.2.2)) Q (F0 m (pc + 3) ls ((v1.toList ++ rest).map (sd_v b base)))) : W p l e R s m args below meth c H locs cells slots Q (F0 m pc ls (S.map (sd_v b base))) := by
  obtain ⟨hx, hb, hml, hown, hts, hN, hK, hin, hfr, hlw, hbb, hbs⟩ := id X
  obtain ⟨R0, hS, hC, hl, hcnt⟩ := id J
  refine sd_size fun hzz => ?_
  have hHs := sd_hsz hbs R0 hS (by omega)
  have hfix : CallFix p m c (pg_by M) (pg_ml M) s args pg_Tg (pg_own M) := ⟨hx, hb, hml, hown, hts⟩
  have pre : ∀ (as : List Value) (U : State), U.heap = H → s.WarmedH U.vm → sd_Pc b base D cI cB h as (as.map (sd_v b base)).toArray U := by
    intro as U hU hW
    exact ⟨rfl, ⟨by rw [hU]; exact R0.moved hW.alike, by rw [hU]; exact hHs⟩, va_K.moved hW.alike hK, hN.warm hW⟩
  have goal2 : ∀ {a : Array Value}, (∀ v ∈ rest, sd_ok h v) → va_Run p l e R s m args below meth c H locs cells slots (h1.2.2 - h.2.2) (am_sl h1.2.2 - am_sl h.2.2) (F0 m pc ls (S.map (sd_v b base))) (rest.map (sd_v b base)) (sd_Qc b base D cI cB v1 h1 a) (sd_A base) → W p l e R s m args below meth c H locs cells slots Q (F0 m pc ls (S.map (sd_v b base))) := fun hCr hr => sd_after hz rfl hr R0 hS hC.1 hCr hl hcnt kk
  unfold am_st at es
  split at es
  · rename_i q hq
    have hchk := (pg_in_ok hq).2
    obtain ⟨i, n, a, f, cc, w⟩ := q
    simp only [pg_chk, Bool.and_eq_true, decide_eq_true_eq] at hchk
    obtain ⟨hdg, hn, hch⟩ := hchk
    have nope : ∀ {r : Nat × List Value × List Value × am_H}, (some (.inl r) : am_R) = some (.inr (.inr (M', as, rest))) → False := fun q => by simp at q
    rcases am_ex_call es with ⟨k, hi⟩ | ⟨k, hi⟩ | ⟨k, hi⟩ <;> subst hi
    · have es' : am_vir a f S = some (.inr (.inr (M', as, rest))) := es
      unfold am_vir at es'
      split at es'
      · rename_i r T hd
        split at es'
        · rename_i M2 hvt
          obtain ⟨hT, has, e1, e2, e3⟩ := am_clE es'
          subst e1; subst e2; subst e3
          obtain ⟨hsp, htl⟩ := sd_split hd
          have hCs : ∀ v ∈ S, sd_ok h v := hC.2.1
          have hCT : ∀ v ∈ T, sd_ok h v := fun v hv => hCs v (by rw [hsp]; simp [hv])
          have hCa : ∀ v ∈ Value.ref r :: (S.take f).reverse, sd_ok h v := by
            intro v hv
            rcases List.mem_cons.mp hv with q | q
            · exact hCs v (by rw [hsp, q]; simp)
            · exact hCs v (List.mem_of_mem_take (List.mem_reverse.mp q))
          have hrlt : r < h.2.2 := by
            rcases hCa _ List.mem_cons_self with ⟨x, q⟩ | ⟨x, q, q2⟩
            · cases q
            · cases q; exact q2
          have hvr : ∃ row, pg_vr.lookup (a * 64 + tg_ r) = some row ∧ row.1 = M2 := by
            simp only [pg_vt, Option.map_eq_some_iff] at hvt
            exact hvt
          obtain ⟨⟨M3, kd, ws, ow⟩, hlk, hM3⟩ := hvr
          have hM3' : M3 = M2 := hM3
          subst hM3'
          have hmem := pg_lk hlk
          have hvok := List.all_eq_true.mp pg_vok_all _ hmem
          have htag : tg_ r < 64 ∨ tg_ r = 99 := by
            rcases r with _ | _ | r
            · exact Or.inr rfl
            · exact Or.inl (by decide)
            · have := tg_cases (a := r + 1 + 1) (by omega)
              omega
          simp only [pg_vok] at hvok
          split at hvok
          · cases hvok
          · rename_i o j x hvs
            simp only [Bool.and_eq_true, decide_eq_true_eq] at hvok
            obtain ⟨hk64, hM121, hvk⟩ := hvok
            have ht64 : tg_ r < 64 := by
              rcases htag with q | q
              · exact q
              · rw [q] at hk64; omega
            have hkm : (a * 64 + tg_ r) % 64 = tg_ r := by omega
            have hkd : (a * 64 + tg_ r) / 64 = a := by omega
            rw [hkm] at hk64 hvk
            rw [hkd] at hvs
            simp only [pg_ve, hvs, Bool.and_eq_true, decide_eq_true_eq] at hch
            obtain ⟨⟨ho, hj, hnp⟩, hall⟩ := hch
            subst ho; subst hj
            have hroom := List.all_eq_true.mp hall _ hmem
            simp only [hkd, decide_true, Bool.not_true, Bool.false_or] at hroom
            obtain ⟨-, hrf, hrl⟩ := sd_roomE hroom
            have h2 := sd_ge2 hk64
            have he := sd_ws_at b base cI cB h h2 hrlt
            rw [sd_e_obj hk64] at he
            have hrecv := va_recv hK R0.2.1 (pg_cls_ok _ hk64) he
            have hmo := pg_mok_ok hM121
            have hMet := hM hM121 has hCa hC.2.2
            have hst : S.map (sd_v b base) = (((S.take f).reverse).map (sd_v b base)).reverse ++ .ref (base + (r - 2)) :: T.map (sd_v b base) := by
              conv => lhs; rw [hsp]
              rw [List.map_append, List.map_cons, sd_v_ref b base (sd_nz h2), sd_al_hi h2]
              simp
            have hpre : PreV s H (pg_C (tg_ r)) (base + (r - 2)) (sd_Pc b base D cI cB h (Value.ref r :: (S.take f).reverse)) (((S.take f).reverse).map (sd_v b base)) := by
              refine ⟨sd_blind b base D cI cB h _, hrecv, fun U hU hW => ?_⟩
              have := pre (Value.ref r :: (S.take f).reverse) U hU hW
              rw [List.map_cons, sd_v_ref b base (sd_nz h2), sd_al_hi h2] at this
              exact this
            have hsum := sd_sum b base T hCT
            have hR : pg_fr M3 + 1 ≤ R.frames ∧ 8 + (pg_ml M3 + 11) + pg_lw M3 ≤ R.locals := ⟨Nat.le_trans hrf hfr, Nat.le_trans hrl hlw⟩
            by_cases hk0 : kd = 0
            · rw [if_pos hk0] at hvk
              simp only [Bool.and_eq_true, decide_eq_true_eq] at hvk
              obtain ⟨hnm, hcl, w0, w1, w2, w3⟩ := hvk
              subst hnm
              refine goal2 hCT (va_runV (n := f) hfix hMet (cwV f hts (sd_goodl ?_) rfl rfl rfl ⟨hcl, hmo.2.1, hmo.2.2.1, sd_npE hnp⟩ hR) hpre rfl (by simp only [List.length_map, List.length_reverse]; exact htl) hl.1.1 hst (lv_room (by rw [hsum]; exact hT)) hdg ⟨hrc, hrs⟩)
              intro w' hw'
              rcases List.mem_append.mp hw' with q | q
              · simp only [List.mem_cons, List.not_mem_nil, or_false] at q
                rcases q with q | q | q | q <;> rw [q]
                · exact pg_gw w0
                · exact pg_gw w1
                · exact pg_gw w2
                · exact pg_gw w3
              · exact sd_wm_in hM121 w' q
            · rw [if_neg hk0] at hvk
              simp only [Bool.and_eq_true, decide_eq_true_eq] at hvk
              obtain ⟨w0, w1, w2, w3, w4, n1, n2, hlast⟩ := hvk
              have hgood : GoodIn pg_Tg (va_wsU (pg_own M) j (pg_C (tg_ r)) ow x (pg_nm M3) (sd_wm M3)) := by
                refine sd_goodl ?_
                intro w' hw'
                rcases List.mem_append.mp hw' with q | q
                · simp only [List.mem_cons, List.not_mem_nil, or_false] at q
                  rcases q with q | q | q | q | q <;> rw [q]
                  · exact pg_gw w0
                  · exact pg_gw w1
                  · exact pg_gw w2
                  · exact pg_gw w3
                  · exact pg_gw w4
                · exact sd_wm_in hM121 w' q
              have hcu : va_CU R s args (pg_own M) (pg_C (tg_ r)) ow j x (pg_nm M3) (pg_by M3) (pg_ml M3) (pg_rt M3) (sd_wm M3) (sd_rm M3 (h1.2.2 - h.2.2) (am_sl h1.2.2 - am_sl h.2.2)) (h1.2.2 - h.2.2) (am_sl h1.2.2 - am_sl h.2.2) f := by
                by_cases hk1 : kd = 1
                · rw [if_pos hk1] at hlast
                  exact va_cwU f hts hgood rfl rfl rfl (of_decide_eq_true hlast) ⟨n1, n2, sd_npE hnp⟩ hR
                · rw [if_neg hk1] at hlast
                  exact va_cwA f hts hgood rfl rfl rfl (hN.2 _ (of_decide_eq_true hlast)) ⟨n1, n2, sd_npE hnp⟩ hR
              exact goal2 hCT (va_runU (n := f) hfix hMet hcu hpre rfl (by simp only [List.length_map, List.length_reverse]; exact htl) hl.1.1 hst (lv_room (by rw [hsum]; exact hT)) hdg ⟨hrc, hrs⟩)
        · cases es'
      · cases es'
    · have es' : am_spe n a f L S h = some (.inr (.inr (M', as, rest))) := es
      unfold am_spe at es'
      split at es'
      · rename_i r T hd
        split at es'
        · cases es'
        · rename_i hr0
          split at es'
          · split at es'
            · exact (nope es').elim
            · cases es'
          · rename_i ha
            obtain ⟨hT, has, e1, e2, e3⟩ := am_clE es'
            subst e1; subst e2; subst e3
            obtain ⟨hsp, htl⟩ := sd_split hd
            have hCs : ∀ v ∈ S, sd_ok h v := hC.2.1
            have hCT : ∀ v ∈ T, sd_ok h v := fun v hv => hCs v (by rw [hsp]; simp [hv])
            have hCa : ∀ v ∈ Value.ref r :: (S.take f).reverse, sd_ok h v := by
              intro v hv
              rcases List.mem_cons.mp hv with q | q
              · exact hCs v (by rw [hsp, q]; simp)
              · exact hCs v (List.mem_of_mem_take (List.mem_reverse.mp q))
            simp only [pg_spe, if_neg ha, Bool.and_eq_true, decide_eq_true_eq] at hch
            obtain ⟨hroom, hnp, hini, hrt, hinst, hlink⟩ := hch
            obtain ⟨hM121, hrf, hrl⟩ := sd_roomE hroom
            have hmo := pg_mok_ok hM121
            have hMet := hM hM121 has hCa hC.2.2
            have hst : S.map (sd_v b base) = (((S.take f).reverse).map (sd_v b base)).reverse ++ .ref (sd_al b base r) :: T.map (sd_v b base) := by
              conv => lhs; rw [hsp]
              rw [List.map_append, List.map_cons, sd_v_ref b base hr0]
              simp
            have hpre : PreS s H (sd_Pc b base D cI cB h (Value.ref r :: (S.take f).reverse)) (.ref (sd_al b base r) :: ((S.take f).reverse).map (sd_v b base)) := by
              refine ⟨sd_blind b base D cI cB h _, fun U hU hW => ?_⟩
              have := pre (Value.ref r :: (S.take f).reverse) U hU hW
              rw [List.map_cons, sd_v_ref b base hr0] at this
              exact this
            have hsum := sd_sum b base T hCT
            have hR : pg_fr a + 1 ≤ R.frames ∧ 8 + (pg_ml a + 11) + pg_lw a ≤ R.locals := ⟨Nat.le_trans hrf hfr, Nat.le_trans hrl hlw⟩
            have hwm : sd_wm a = Cond.code (pg_nm a) (pg_by a) (pg_ml a) none :: pg_Tg := by rw [sd_wm, hrt]
            split at hlink
            · have hw1 : va_Nw (.methodLinkNest (pg_own M) k (pg_nm a) "RedoShelf") s := hN.1 _ (List.mem_of_getElem? (of_decide_eq_true hlink))
              exact goal2 hCT (va_runIN (n := f) hfix hMet ⟨va_cnB f hts (sd_goodl (sd_wm_in hM121)) hwm rfl rfl hw1 (hts _ hmo.1) ⟨hmo.2.1, hmo.2.2.1, sd_npE hnp⟩ hR, hini, hts _ (pg_gh hinst)⟩ hpre rfl (by simp only [List.length_map, List.length_reverse]; exact htl) hl.1.1 hst (lv_room (by rw [hsum]; exact hT)) hdg ⟨hrc, hrs⟩)
            · exact goal2 hCT (va_runI (n := f) hfix hMet (cwI f hts (sd_goodl (sd_wm_in hM121)) hwm rfl rfl (hts _ hmo.1) (hts _ (pg_gw hlink)) (hts _ (pg_gh hinst)) hini ⟨hmo.2.1, hmo.2.2.1, sd_npE hnp⟩ hR) hpre rfl (by simp only [List.length_map, List.length_reverse]; exact htl) hl.1.1 hst (lv_room (by rw [hsum]; exact hT)) hdg ⟨hrc, hrs⟩)
      · cases es'
    · have es' : am_sta n a f L S h = some (.inr (.inr (M', as, rest))) := es
      unfold am_sta at es'
      split at es'
      · unfold am_cpy at es'
        split at es'
        · split at es'
          · exact (nope es').elim
          · cases es'
        · cases es'
      · rename_i ha
        split at es'
        · rename_i htl
          obtain ⟨hT, has, e1, e2, e3⟩ := am_clE es'
          subst e1; subst e2; subst e3
          have hCs : ∀ v ∈ S, sd_ok h v := hC.2.1
          have hCT : ∀ v ∈ S.drop f, sd_ok h v := fun v hv => hCs v (List.mem_of_mem_drop hv)
          have hCa : ∀ v ∈ (S.take f).reverse, sd_ok h v := fun v hv => hCs v (List.mem_of_mem_take (List.mem_reverse.mp hv))
          simp only [pg_sta, if_neg ha, Bool.and_eq_true, decide_eq_true_eq] at hch
          obtain ⟨hroom, hnp, hstat, hlink⟩ := hch
          obtain ⟨hM121, hrf, hrl⟩ := sd_roomE hroom
          have hmo := pg_mok_ok hM121
          have hMet := hM hM121 has hCa hC.2.2
          have hst : S.map (sd_v b base) = (((S.take f).reverse).map (sd_v b base)).reverse ++ (S.drop f).map (sd_v b base) := by
            conv => lhs; rw [← List.take_append_drop f S]
            simp
          have hpre : PreS s H (sd_Pc b base D cI cB h (S.take f).reverse) (((S.take f).reverse).map (sd_v b base)) := ⟨sd_blind b base D cI cB h _, fun U hU hW => pre _ U hU hW⟩
          have hsum := sd_sum b base (S.drop f) hCT
          have hR : pg_fr a + 1 ≤ R.frames ∧ 8 + (pg_ml a + 11) + pg_lw a ≤ R.locals := ⟨Nat.le_trans hrf hfr, Nat.le_trans hrl hlw⟩
          split at hlink
          · have hw1 : va_Nw (.methodLinkNest (pg_own M) k (pg_nm a) "RedoShelf") s := hN.1 _ (List.mem_of_getElem? (of_decide_eq_true hlink))
            exact goal2 hCT (va_runSN (n := f) hfix hMet ⟨va_cnB f hts (sd_goodl (sd_wm_in hM121)) rfl rfl rfl hw1 (hts _ hmo.1) ⟨hmo.2.1, hmo.2.2.1, sd_npE hnp⟩ hR, hts _ (pg_gh hstat), trivial⟩ hpre rfl (by simp only [List.length_map, List.length_reverse]; exact htl) hl.1.1 hst (lv_room (by rw [hsum]; exact hT)) hdg ⟨hrc, hrs⟩)
          · refine goal2 hCT (va_runS (n := f) hfix hMet (va_cwS f hts (sd_goodl ?_) rfl rfl rfl ⟨hmo.2.1, hmo.2.2.1, sd_npE hnp⟩ hR) hpre rfl (by simp only [List.length_map, List.length_reverse]; exact htl) hl.1.1 hst (lv_room (by rw [hsum]; exact hT)) hdg ⟨hrc, hrs⟩)
            intro w' hw'
            rcases List.mem_append.mp hw' with q | q
            · simp only [List.mem_cons, List.not_mem_nil, or_false] at q
              rcases q with q | q | q <;> rw [q]
              · exact pg_gw hlink
              · exact pg_gh hstat
              · exact hmo.1
            · exact sd_wm_in hM121 w' q
        · cases es'
  · cases es
end CALL
end
section
/-! THE CLAIM OUT OF ONE WALK OF THE LAW'S BODY. Your part is whole_start (and what it stands on); all else here is the same for every law, but numbers. -/
def R_law : String := "RedoShelfLaw"
def lw_P (b : Addr) (xs : List Int32) (args : Array Value) (s : State) : Prop := args = #[.ref b] ∧ s.IntsAt b xs ∧ xs.length ≤ 2048 ∧ (Jvm.Cond.and given_1 narrow_1).before args s = true
def lw_Q (_ : Array Value) (s : State) (o : Outcome) (t : State) : Prop := o = .returned (some (.int 1)) ∧ Framed s o t [] 600000 7302250
def lw_Z (below : List Frame) (a : Array Value) (s : State) : State → Prop := fun t => ∃ o, t.status = .running ∧ Ended t below o ∧ lw_Q a s o t
/-- the law's own end, with 1 on the stack, nothing written that was there before, its room as the claim has it -/
theorem lw_ret {p : Program} {l : Launch} {e : Env} {s : State} {m : MethodId} {below : List Frame} {meth : Method} {c : Code} {b : Nat} (hx : p.tables.exec = Jvm.exec) (hb : c.code = code) (hr : meth.sig.returnType = ret) (hlocks : meth.locks = false) {pc : Nat} {H : Heap} {ls : Array Slot} (hdg : decode code pc = .ok (.ireturn, 1)) : W p l e room_1 s m #[Value.ref b] below meth c H [] 600000 7302250 (lw_Z below #[Value.ref b] s) (F0 m pc ls [.int 1]) := by
  intro T hT X
  obtain ⟨fs, hret, hrun, hended, hW, hframe⟩ := X.leave (v := some (.int 1)) (hlocks := hlocks) (fun h => by rw [hr] at h; cases h)
  have hmeth' : T.vm.method? m = some meth := X.method'
  refine ⟨T.setFrames fs, ?_, .returned (some (.int 1)), hrun, hended, rfl, ⟨_, rfl⟩, hW, hframe⟩
  jvm_step X.here [X.here.top, hx, hb, hdg, hmeth', hr, ret, narrow_b1]
  (try refine ⟨rfl, ?_⟩); (try refine ⟨rfl, ?_⟩)
  first | (intro acts; rw [hret _ acts rfl rfl rfl]) | rw [hret _ _ rfl rfl rfl]
  exact Steps.refl _
/-- what holds at the law's entry: the machine, the code, the tables' words (any of lw_tbl by 'hts w (by decide +kernel)'), the script of L ints xs at the cell b, what the Statement gives of the start (any of its parts by flat_of_before) -/
def lw_At (p : Program) (s : State) (m : MethodId) (meth : Method) (c : Code) (b L : Nat) (xs : Nat → Int32) : Prop :=
  p.tables.exec = Jvm.exec ∧ c.code = code ∧ meth.sig.returnType = ret ∧ c.maxLocals = 4 ∧ s.vm.findClass R_law = some m.cls ∧ (∀ w ∈ lw_tbl, w.before #[Value.ref b] s = true) ∧ va_X b L xs s s.heap ∧ b < s.heap.size ∧ meth.locks = false ∧ (Jvm.Cond.and given_1 narrow_1).before #[Value.ref b] s = true
end
section
/-! SOUNDNESS: a run of the abstract machine is a run of the machine -/
def sd_ret (M pc : Nat) (v : Option Value) : Prop := (v = none ∧ pg_rt M = none ∧ decode (pg_by M) pc = .ok (.return_, 1)) ∨ (∃ x, v = some (.int x) ∧ decode (pg_by M) pc = .ok (.ireturn, 1) ∧ (pg_rt M = some .int ∨ pg_rt M = some .boolean ∧ (x = 0 ∨ x = 1))) ∨ ∃ a, v = some (.ref a) ∧ decode (pg_by M) pc = .ok (.areturn, 1) ∧ pg_rt M = some (.object "RedoShelf$Sheet")
theorem sd_retOK {M pc : Nat} {L S : List Value} {h : am_H} {v : Option Value} (es : am_st M pc L S h = some (.inr (.inl v))) : sd_ret M pc v ∧ S = v.toList := by
  unfold am_st at es
  split at es
  · rename_i q hq
    have hchk := (pg_in_ok hq).2
    obtain ⟨i, n, a, f, cc, w⟩ := q
    simp only [pg_chk, Bool.and_eq_true, decide_eq_true_eq] at hchk
    obtain ⟨hdg, hn, hch⟩ := hchk
    rcases am_ex_ret es with ⟨hi, x, hS, hv, hbo⟩ | ⟨hi, x, hS, hv⟩ | ⟨hi, hS, hv⟩
    · subst hi
      refine ⟨Or.inr (Or.inl ⟨x, hv, hdg, ?_⟩), by rw [hv, hS]; rfl⟩
      rcases of_decide_eq_true hch with q | q
      · exact Or.inl q
      · exact Or.inr ⟨q, hbo q⟩
    · subst hi
      exact ⟨Or.inr (Or.inr ⟨x, hv, hdg, of_decide_eq_true hch⟩), by rw [hv, hS]; rfl⟩
    · subst hi
      exact ⟨Or.inl ⟨hv, of_decide_eq_true hch, hdg⟩, by rw [hv, hS]; rfl⟩
  · cases es
theorem sd_lv_rep (b base : Nat) : ∀ (n i : Nat), sd_lv b base i (List.replicate n (.long 0)) = []
  | 0, _ => rfl
  | n + 1, i => by rw [List.replicate_succ, sd_lv]; exact sd_lv_rep b base n (i + 1)
theorem sd_lv_args (b base : Nat) {h : am_H} (n : Nat) : ∀ (as : List Value) (i : Nat), (∀ v ∈ as, sd_ok h v) → sd_lv b base i (as ++ List.replicate n (.long 0)) = lv_args i (as.map (sd_v b base))
  | [], i, _ => by rw [List.nil_append, sd_lv_rep]; rfl
  | v :: t, i, hv => by
    have h1 := sd_v_cat b base (hv v List.mem_cons_self)
    have h2 := sd_lv_args b base n t (i + 1) (fun u hu => hv u (List.mem_cons_of_mem _ hu))
    rw [List.cons_append, List.map_cons, lv_args, if_neg (by omega), ← h2]
    rcases hv v List.mem_cons_self with ⟨x, rfl⟩ | ⟨a, rfl, -⟩ <;> rfl
theorem sd_sl_len {h : am_H} (b base : Nat) : ∀ (as : List Value), (∀ v ∈ as, sd_ok h v) → (lg_sl (as.map (sd_v b base))).length = as.length
  | [], _ => rfl
  | v :: t, hv => by
    have h1 := sd_v_cat b base (hv v List.mem_cons_self)
    have h2 := sd_sl_len b base t (fun u hu => hv u (List.mem_cons_of_mem _ hu))
    simp only [lg_sl, List.map_cons, List.flatMap_cons, List.length_append, List.length_cons] at h2 ⊢
    rw [h2, if_neg (by omega)]
    simp; omega
theorem sd_entry (b base : Nat) {h : am_H} {as : List Value} {n : Nat} (hv : ∀ v ∈ as, sd_ok h v) (hn : as.length ≤ n) : sd_L b base ((lg_sl (as.map (sd_v b base)) ++ List.replicate (n - (lg_sl (as.map (sd_v b base))).length) Slot.unset).toArray) n (as ++ List.replicate (n - as.length) (.long 0)) := by
  refine ⟨?_, by simp; omega⟩
  rw [sd_lv_args b base _ as 0 hv]
  exact lv_entry _ (by rw [sd_sl_len b base as hv]; exact hn)
def sd_Run (l : Launch) (b base : Nat) (D : va_G) (cI cB : ClassId) (M pc : Nat) (L S : List Value) (h : am_H) (v : Option Value) (h' : am_H) : Prop :=
  ∀ (p : Program) (e : Env) (R : Room) (s : State) (m : MethodId) (args : Array Value) (below : List Frame) (meth : Method) (c : Code) (Q : State → Prop) (H : Heap) (locs : List Loc) (cells slots : Nat) (ls : Array Slot), sd_X b base D cI cB M p R s m args meth c → sd_J b base D cI cB (pg_ml M) s h H locs cells L S ls → cells + (h'.2.2 - h.2.2) ≤ R.cells → slots + (am_sl h'.2.2 - am_sl h.2.2) ≤ R.slots →
    (∀ (pcr : Nat) (ls' : Array Slot) (H' : Heap) (locs' : List Loc), sd_ret M pcr v → sd_R b base D cI cB s h' H' → va_S (sd_A base) s.heap H' locs' → sd_C h' [] v.toList → W p l e R s m args below meth c H' locs' (cells + (h'.2.2 - h.2.2)) (slots + (am_sl h'.2.2 - am_sl h.2.2)) Q (F0 m pcr ls' (v.toList.map (sd_v b base)))) →
    W p l e R s m args below meth c H locs cells slots Q (F0 m pc ls (S.map (sd_v b base)))
set_option maxHeartbeats 4000000 in
theorem sd_met {l : Launch} {b base : Nat} (hbb : b < base) {D : va_G} {cI cB : ClassId} {M : Nat} {as : List Value} {h : am_H} {v1 : Option Value} {h1 : am_H} (IH : sd_Run l b base D cI cB M 0 (am_lo M as) [] h v1 h1) (hM : M < 121) (hlen : as.length ≤ pg_ml M) (hv : ∀ v ∈ as, sd_ok h v) (hmr : ∀ a k, ¬ a = 1 → h.2.1 a k < h.2.2) : sd_Met l b base D cI cB M as h v1 h1 := by
  refine Met.ofW (cc := pg_by M) (maxL := pg_ml M) (ret := pg_rt M) (pg_mok_ok hM).2.2.2 rfl ?_
  intro p e s m args below meth c s₁ B hml hpre
  obtain ⟨rfl, ⟨R0, hsz⟩, hK, hN⟩ := hpre
  have hts0 := atoms_spec (ws := sd_wm M) B.pre
  have hts : ∀ w ∈ pg_Tg, w.before (as.map (sd_v b base)).toArray s = true := fun w hw => hts0 w (List.mem_cons_of_mem _ hw)
  have hown : s.vm.findClass (pg_own M) = some m.cls := findClass_of_methodNamed B.named
  have hin : meth.name = (pg_nm M).name := (name_of_methodNamed B.named B.method).1
  rw [lg_entry_eq]
  refine IH p e (sd_rm M (h1.2.2 - h.2.2) (am_sl h1.2.2 - am_sl h.2.2)) s m _ below meth c _ s.heap [] 0 0 _ ⟨B.exec, B.bytes, hml, hown, hts, hN, hK, fun q => hin.trans q, Nat.le_refl _, Nat.le_refl _, hbb, by omega⟩ ⟨R0, va_S.rf, ⟨fun v hv1 => ?_, fun v hv => (by cases hv), hmr⟩, sd_entry b base hv hlen, by omega⟩ (by show 0 + _ ≤ h1.2.2 - h.2.2; omega) (by show 0 + _ ≤ am_sl h1.2.2 - am_sl h.2.2; omega) ?_
  · rcases List.mem_append.mp hv1 with q | q
    · exact Or.inr (hv v q)
    · exact Or.inl (List.eq_of_mem_replicate q)
  · intro pcr ls' H' locs' hret R1 hS1 hC1
    refine W.cs (Nat.zero_add _) (Nat.zero_add _) ?_
    have hq : ∀ t : State, t.heap = H' → s.WarmedH t.vm → sd_Qc b base D cI cB v1 h1 (as.map (sd_v b base)).toArray s (.returned (v1.map (sd_v b base))) t := fun t ht hW => ⟨rfl, by rw [ht]; exact R1.moved hW.alike, hC1, hS1.F ht⟩
    rcases hret with ⟨hv1, hrt, hdg⟩ | ⟨x, hv1, hdg, hrt⟩ | ⟨a, hv1, hdg, hrt⟩
    · subst hv1
      exact W.vret B.exec B.bytes (B.returns.trans hrt) hq hS1.2.2 hdg (hlocks := B.notSynchronized)
    · subst hv1
      rcases hrt with hrt | ⟨hrt, hx⟩
      · exact W.iret B.exec B.bytes (B.returns.trans hrt) hq hS1.2.2 hdg (hlocks := B.notSynchronized)
      · exact W.zret B.exec B.bytes (B.returns.trans hrt) (by rcases hx with q | q <;> subst q <;> rfl) hq hS1.2.2 hdg (hlocks := B.notSynchronized)
    · subst hv1
      refine W.aret B.exec B.bytes (B.returns.trans hrt) (Or.inl ⟨_, rfl⟩) ?_ hq hS1.2.2 hdg (hlocks := B.notSynchronized)
      by_cases h0 : a = 0
      · subst h0; exact Or.inl rfl
      · exact Or.inr ⟨_, sd_v_ref b base h0⟩
set_option maxHeartbeats 4000000 in
theorem sd_main (l : Launch) {b base : Nat} (hbb : b < base) (D : va_G) (cI cB : ClassId) : ∀ (f : Nat) {M pc : Nat} {L S : List Value} {h : am_H} {v : Option Value} {h' : am_H}, am_ru f M pc L S h = some (v, h') → sd_Run l b base D cI cB M pc L S h v h'
  | 0, _, _, _, _, _, _, _, er => by simp [am_ru] at er
  | f + 1, M, pc, L, S, h, v, h', er => by
    intro p e R s m args below meth c Q H locs cells slots ls X J hrc hrs kret
    have hzz := am_ru_sz (f + 1) er
    rw [am_ru] at er
    match hs : am_st M pc L S h with
    | none => rw [hs] at er; cases er
    | some (.inl (pc', L', S', h1)) =>
      rw [hs] at er
      have er' : am_ru f M pc' L' S' h1 = some (v, h') := er
      have z1 := am_st_sz hs
      have z2 := am_ru_sz f er'
      have y1 := am_sl_mono z1
      have y2 := am_sl_mono z2
      refine sd_step X J hs (by omega) (by omega) fun H1 locs1 ls1 J1 => ?_
      refine sd_main l hbb D cI cB f er' p e R s m args below meth c Q _ _ _ _ _ X J1 (by omega) (by omega) fun pcr ls' H' locs' hret R1 hS1 hC1 => ?_
      refine W.cs (cells' := cells + (h'.2.2 - h.2.2)) (slots' := slots + (am_sl h'.2.2 - am_sl h.2.2)) (by omega) (by omega) ?_
      exact kret pcr ls' H' locs' hret R1 hS1 hC1
    | some (.inr (.inl v')) =>
      rw [hs] at er
      have er' : some (v', h) = some (v, h') := er
      simp only [Option.some.injEq, Prod.mk.injEq] at er'
      obtain ⟨rfl, rfl⟩ := er'
      obtain ⟨hret, hS'⟩ := sd_retOK hs
      rw [hS']
      have := kret pc ls H locs hret J.1 J.2.1 ⟨fun v hv => (by cases hv), fun v hv => J.2.2.1.2.1 v (by rw [hS']; exact hv), J.2.2.1.2.2⟩
      simp only [Nat.sub_self, Nat.add_zero] at this
      exact this
    | some (.inr (.inr (M', as, rest))) =>
      rw [hs] at er
      match hc : am_ru f M' 0 (am_lo M' as) [] h with
      | none => simp only [hc] at er; cases er
      | some (v1, h1) =>
        simp only [hc] at er
        have z1 := am_ru_sz f hc
        have z2 := am_ru_sz f er
        have y1 := am_sl_mono z1
        have y2 := am_sl_mono z2
        refine sd_call X J hs z1 (fun hM hlen hv hmr => sd_met hbb (sd_main l hbb D cI cB f hc) hM hlen hv hmr) (by omega) (by omega) fun H1 locs1 J1 => ?_
        refine sd_main l hbb D cI cB f er p e R s m args below meth c Q _ _ _ _ _ X J1 (by omega) (by omega) fun pcr ls' H' locs' hret R1 hS1 hC1 => ?_
        refine W.cs (cells' := cells + (h'.2.2 - h.2.2)) (slots' := slots + (am_sl h'.2.2 - am_sl h.2.2)) (by omega) (by omega) ?_
        exact kret pcr ls' H' locs' hret R1 hS1 hC1
end
section
/-! FROM THE LAW'S ENTRY to the abstract machine -/
theorem sd_wnsel {C : String} {n : Nat} {s : State} {args : Array Value} (hins : (Cond.instantiable C n).before args s = true) (hpriv : (Cond.privateMethod pg_wn).before args s = true) (hinst : (Cond.instanceMethod pg_wn).before args s = true) (hsame : (Cond.sameMethod "RedoShelf$Job" "RedoShelf$Job" "writeNext" "()V").before args s = true) : (Cond.selects C pg_wn pg_wn).before args s = true := by
  obtain ⟨c, k, hc, hk, -, -, -, -⟩ := Cond.instantiable_spec hins
  obtain ⟨mk, methM, hnamed, hmethM, -, -⟩ := Cond.instanceMethod_spec hinst
  obtain ⟨c0, ck, r, hc0, hck, hni, hf, hn⟩ := Cond.sameMethod_found hsame
  have hr : mk = r := Option.some.inj (hnamed.symm.trans hn)
  subst hr
  have hcls : mk.cls = c0 := Option.some.inj ((findClass_of_methodNamed hnamed).symm.trans hc0)
  have hfound : s.methodFound? pg_wn.cls pg_wn.name pg_wn.desc = some mk := hf
  have hsel : selectMethod {} s.vm c mk = .method mk := selectMethod_private hmethM (Cond.privateMethod_at hpriv mk methM hnamed hmethM)
  simp only [Cond.before, Cond.holds, Cond.value, hc, hfound, hnamed, hsel, hcls, hck]
  simp; exact hni
def sd_wl : List Cond := [.instantiable "RedoShelf$CommitJob" 6, .instantiable "RedoShelf$CheckpointJob" 4, .instantiable "RedoShelf$RecoveryJob" 12, .privateMethod pg_wn, .instanceMethod pg_wn, .sameMethod "RedoShelf$Job" "RedoShelf$Job" "writeNext" "()V"]
set_option maxRecDepth 100000 in
theorem sd_wl_in : ∀ w ∈ sd_wl, w ∈ lw_tbl := by decide +kernel
set_option maxRecDepth 100000 in
theorem sd_nw_in : ∀ q ∈ pg_nw, Cond.methodLinkNest q.1 q.2.1 q.2.2.1 q.2.2.2 ∈ lw_tbl := by decide +kernel
set_option maxRecDepth 100000 in
theorem sd_dw_in : ∀ y ∈ pg_dw, Cond.declares y ∈ lw_tbl := by decide +kernel
def am_h0 (xs : Nat → Int32) (L : Nat) : am_H := (fun a j => if a = 1 then xs j else 0, fun a k => if a = 1 ∧ k = 0 then L else 0, 2)
theorem am_sl_le : ∀ n, am_sl n ≤ 164 * n
  | 0 => Nat.le_refl _
  | n + 1 => by
    have h1 := am_sl_le n
    have h2 : ln_ n ≤ 164 := by
      rcases Nat.lt_or_ge n 34 with q | q
      · exact (by decide +kernel : ∀ a, a < 34 → ln_ a ≤ 164) n q
      · rw [ln_hi q]; split <;> omega
    simp only [am_sl]
    omega
set_option maxHeartbeats 4000000 in
theorem sd_whole {p : Program} {e : Env} {s : State} {m : MethodId} {below : List Frame} {meth : Method} {c : Code} (l : Launch) {b L : Nat} {xs : Nat → Int32} (C0 : lw_At p s m meth c b L xs)
    (hw : am_wp 121 0 [.ref 1, .long 0, .long 0, .long 0] [] (am_h0 xs L) (fun v h' => v = some (.int 1) ∧ h'.2.2 ≤ 40000)) : W p l e room_1 s m #[Value.ref b] below meth c s.heap [] 0 0 (lw_Z below #[Value.ref b] s) (entryFrame m ([Value.ref b] : List Value).toArray 4) := by
  obtain ⟨hx, hb, hr, hml, hown, hts0, hX, hbl, hlocks, hgv⟩ := id C0
  obtain ⟨f, v, h', hrun, hv, hz⟩ := hw
  subst hv
  have wl : ∀ w ∈ sd_wl, w.before #[Value.ref b] s = true := fun w h => hts0 w (sd_wl_in w h)
  have hts : ∀ w ∈ pg_Tg, w.before #[Value.ref b] s = true := by
    intro w hw
    have h1 := (List.mem_filter.mp hw).1
    rcases List.mem_append.mp h1 with q | q
    · simp only [List.mem_cons, List.not_mem_nil, or_false] at q
      have a3 := wl (.privateMethod pg_wn) (by decide +kernel)
      have a4 := wl (.instanceMethod pg_wn) (by decide +kernel)
      have a5 := wl (.sameMethod "RedoShelf$Job" "RedoShelf$Job" "writeNext" "()V") (by decide +kernel)
      rcases q with q | q | q <;> rw [q]
      · exact sd_wnsel (wl (.instantiable "RedoShelf$CommitJob" 6) (by decide +kernel)) a3 a4 a5
      · exact sd_wnsel (wl (.instantiable "RedoShelf$CheckpointJob" 4) (by decide +kernel)) a3 a4 a5
      · exact sd_wnsel (wl (.instantiable "RedoShelf$RecoveryJob" 12) (by decide +kernel)) a3 a4 a5
    · exact hts0 w q
  have hN : sd_N s := ⟨fun q hq => va_Nw.of rfl (hts0 _ (sd_nw_in q hq)), fun y hy => va_Nw.of rfl (hts0 _ (sd_dw_in y hy))⟩
  have hkn : ∀ ci, ∃ (cC : ClassId) (iS : Nat → Nat), ci < 11 → u_Kn s (pg_C ci) (pg_F ci) (pg_N ci) cC iS := by
    intro ci
    by_cases h : ci < 11
    · obtain ⟨cC, iS, hk⟩ := u_known (C := pg_C ci) (T := pg_F ci) (N := pg_N ci) (n := pg_N ci) hts (pg_cok_ok h).2.2.1 (hts _ (pg_cok_ok h).1)
      exact ⟨cC, iS, fun _ => hk⟩
    · exact ⟨0, fun _ => 0, fun q => absurd q h⟩
  obtain ⟨cI, kI, coI, hI1, hI2, hI3⟩ := Cond.arrayClass_spec (hts _ pg_xok_ok.1)
  obtain ⟨cB, kB, coB, hB1, hB2, hB3⟩ := Cond.arrayClass_spec (hts _ pg_xok_ok.2.1)
  let D : va_G := (fun ci => Classical.choose (hkn ci), fun ci => Classical.choose (Classical.choose_spec (hkn ci)))
  have hK : va_K D pg_cls (sd_ty cI cB) s := by
    refine ⟨fun ci q hq => ?_, fun k q hk => ?_⟩
    · have h : ci < 11 := (List.getElem?_eq_some_iff.mp hq).1
      rw [pg_cls_ok ci h] at hq
      cases hq
      exact Classical.choose_spec (Classical.choose_spec (hkn ci)) h
    · match k, hk with
      | 0, hk => cases hk; exact ⟨fun n z => ⟨fun k h => (by cases h), kI, hI2, coI, hI3⟩, hI1⟩
      | 1, hk => cases hk; exact ⟨fun n z => ⟨fun k h => (by cases h), kB, hB2, coB, hB3⟩, hB1⟩
      | k + 2, hk => simp at hk
  have hR0 : sd_R b s.heap.size D cI cB s (am_h0 xs L) s.heap := by
    refine ⟨Nat.le_refl 2, fun k q hk => ?_, ?_⟩
    · rw [sd_ws_get, if_neg (by show ¬ k < 2 - 2; omega)] at hk
      cases hk
    · have e1 : (am_h0 xs L).2.1 1 0 = L := by simp [am_h0]
      have e2 : (am_h0 xs L).1 1 = xs := by funext j; simp [am_h0]
      rw [e1, e2]; exact hX
  have hok : ∀ v ∈ [Value.ref 1], sd_ok (am_h0 xs L) v := by
    intro v hv
    simp at hv
    exact Or.inr ⟨1, hv, Nat.lt_succ_self 1⟩
  have hen := sd_entry b s.heap.size (as := [Value.ref 1]) (n := 4) hok (by decide)
  have ev : [Value.ref 1].map (sd_v b s.heap.size) = [Value.ref b] := rfl
  rw [ev] at hen
  rw [lg_entry_eq]
  have hsl := am_sl_le h'.2.2
  refine sd_main l hbl D cI cB f hrun p e room_1 s m _ below meth c _ s.heap [] 0 0 _ ⟨hx, hb, hml, hown, hts, hN, hK, fun q => absurd q (by decide +kernel), by decide +kernel, by decide +kernel, hbl, Nat.le_refl _⟩ ⟨hR0, va_S.rf, ⟨fun v hv => ?_, fun v hv => (by cases hv), fun a k ha => ?_⟩, hen, rfl⟩ ?_ ?_ ?_
  · simp only [List.mem_cons, List.not_mem_nil, or_false] at hv
    rcases hv with q | q | q | q
    · exact Or.inr (hok v (by rw [q]; exact List.mem_cons_self))
    · exact Or.inl q
    · exact Or.inl q
    · exact Or.inl q
  · show (if a = 1 ∧ k = 0 then L else 0) < 2
    rw [if_neg (fun q => ha q.1)]
    decide
  · show 0 + (h'.2.2 - 2) ≤ 600000
    omega
  · show 0 + (am_sl h'.2.2 - am_sl 2) ≤ 7302250
    omega
  · intro pcr ls' H' locs' hret R1 hS1 hC1
    refine va_forget (fun q hq => hS1.2.2 q hq) ?_
    refine W.widen (k := 600000) (n := 7302250) ?_ ?_ ?_
    · show 0 + (h'.2.2 - 2) ≤ 600000
      omega
    · show 0 + (am_sl h'.2.2 - am_sl 2) ≤ 7302250
      omega
    · rcases hret with ⟨q, -⟩ | ⟨x, q, hdg, -⟩ | ⟨a, q, -⟩
      · cases q
      · cases q
        exact lw_ret hx hb hr hlocks hdg
      · cases q
end
section
/-! RULES of the weakest precondition -/
/-- references that never change once the two objects are made -/
def fx_ (a k : Nat) : Option Nat := (([[], [], [some 3, some 4, some 7, some 12, some 14, some 16, some 21, none], [], [some 5, some 6], [], [some 3, none, none, none], [none, none, none, none, some 8, some 10, none], [some 9, none], [], [some 11, none], [], [some 4, some 7, some 13, none, none, none], [some 3, none, none, none], [some 4, some 7, some 15, none], [some 3, none, none, none], [some 4, some 7, some 17, none, some 18, none, none, none, none, some 20, none, none], [some 3, none, none, none], [some 19, none, none], [], [], [some 22, none, none], [], [some 24, none, some 25, some 26, none, none, none, none, some 27, some 28, some 29, some 30, none, none, none, some 31, none, none, none, none, none, some 32, some 33]] : List (List (Option Nat))).getD a []).getD k none
def FX (mr : Nat → Nat → Nat) : Prop := ∀ a k v, fx_ a k = some v → mr a k = v
def am_gt (n a b : Nat) (c : Int32) (L S : List Value) (h : am_H) : am_R := match S with
  | .ref r :: T => if am_sub (tg_ r) a = true then (if c = 1 then (match fx_ r b with
    | some v => am_nx n L (.ref v :: T) h
    | none => am_nx n L (.ref (h.2.1 r b) :: T) h) else am_nx n L (.int (h.1 r b) :: T) h) else none
  | _ => none
def am_pt (n a b : Nat) (c : Int32) (L S : List Value) (h : am_H) : am_R := match S with
  | .int x :: .ref r :: T => if am_sub (tg_ r) a = true ∧ ¬ c = 1 ∧ (c = 2 → x = 0 ∨ x = 1) then am_nx n L T (am_u2 h.1 r b x, h.2.1, h.2.2) else none
  | _ => none
/-- a step where fixed references are known; no reference is stored, nothing made, nothing called -/
def am_sx (M pc : Nat) (L S : List Value) (h : am_H) : am_R := match pg_in M pc with
  | none => none
  | some (i, n, a, b, c, w) => match i with
    | .getfield _ => am_gt n a b c L S h
    | .putfield _ => am_pt n a b c L S h
    | .new _ => none
    | .newarray _ => none
    | .invokestatic _ => none
    | .invokespecial _ => none
    | .invokevirtual _ => none
    | i => am_ex (i, n, a, b, c, w) M pc L S h
def am_xn : Nat → Nat → Nat → List Value → List Value → am_H → Option (Nat × List Value × List Value × am_H)
  | 0, _, pc, L, S, h => some (pc, L, S, h)
  | k + 1, M, pc, L, S, h => match am_sx M pc L S h with
    | some (.inl (pc', L', S', h')) => am_xn k M pc' L' S' h'
    | _ => none
set_option maxHeartbeats 4000000 in
theorem am_sx_st {M pc pc' : Nat} {L S L' S' : List Value} {h h' : am_H} (hF : FX h.2.1) (e : am_sx M pc L S h = some (.inl (pc', L', S', h'))) : am_st M pc L S h = some (.inl (pc', L', S', h')) ∧ h'.2.1 = h.2.1 := by
  unfold am_sx at e
  unfold am_st
  match hq : pg_in M pc with
  | none => rw [hq] at e; cases e
  | some (i, n, a, b, c, w) =>
    rw [hq] at e
    cases i <;> dsimp only [am_ex] at e ⊢ <;>
    first
    | (cases e; done)
    | (cases sd_nxE e; exact ⟨rfl, rfl⟩)
    | (unfold am_gt at e
       unfold am_get
       split at e
       · split at e
         · rename_i hs
           split at e
           · rename_i hc
             split at e
             · rename_i v hv
               cases sd_nxE e
               simp only [hs, hc, if_true, hF _ _ v hv]
               exact ⟨rfl, trivial⟩
             · cases sd_nxE e
               simp only [hs, hc, if_true]
               exact ⟨rfl, trivial⟩
           · rename_i hc
             cases sd_nxE e
             simp only [hs, hc, if_true, if_false]
             exact ⟨rfl, trivial⟩
         · cases e
       · cases e)
    | (unfold am_pt at e
       unfold am_put
       split at e
       · split at e
         · rename_i hs
           cases sd_nxE e
           dsimp only
           rw [if_pos hs]
           exact ⟨rfl, rfl⟩
         · cases e
       · cases e)
    | (refine ⟨e, ?_⟩
       simp only [am_bin, am_div, am_ild, am_ald, am_ist, am_ast, am_inc, am_if1, am_if2, am_ifn, am_dup, am_dx1, am_pop, am_swi, am_aln, am_eld, am_est, am_ire, am_are, am_vre, am_rt, am_nx] at e
       repeat' split at e
       all_goals first
         | (cases e; done)
         | (cases e; rfl)
         | (simp at e; done))
theorem wp_x (k : Nat) {M pc pc' : Nat} {L S L' S' : List Value} {h h' : am_H} {Q : Option Value → am_H → Prop} (hF : FX h.2.1) (e : am_xn k M pc L S h = some (pc', L', S', h')) (w : am_wp M pc' L' S' h' Q) : am_wp M pc L S h Q := by
  induction k generalizing pc L S h with
  | zero =>
    simp only [am_xn, Option.some.injEq, Prod.mk.injEq] at e
    obtain ⟨rfl, rfl, rfl, rfl⟩ := e
    exact w
  | succ k ih =>
    rw [am_xn] at e
    split at e
    · rename_i pc1 L1 S1 h1 hs
      obtain ⟨e1, e2⟩ := am_sx_st hF hs
      exact wp_st e1 (ih (by rw [e2]; exact hF) e)
    · cases e
section WP
variable {M pc n a b w k r : Nat} {cc : Int32} {L S : List Value} {mi : Nat → Nat → Int32} {mr : Nat → Nat → Nat} {sz : Nat} {Q : Option Value → am_H → Prop} {x y j : Int32} {o : Int} {h : am_H}
theorem wp_gi (hi : pg_in M pc = some (.getfield k, n, a, b, cc, w)) (hc : ¬ cc = 1) (ht : am_sub (tg_ r) a = true) (q : am_wp M n L (.int (mi r b) :: S) (mi, mr, sz) Q) : am_wp M pc L (.ref r :: S) (mi, mr, sz) Q :=
  wp_nx hi (by dsimp only [am_ex]; unfold am_get; dsimp only; rw [if_pos ht, if_neg hc]; rfl) q
theorem wp_gr {v : Nat} (hi : pg_in M pc = some (.getfield k, n, a, b, 1, w)) (ht : am_sub (tg_ r) a = true) (hv : mr r b = v) (q : am_wp M n L (.ref v :: S) (mi, mr, sz) Q) : am_wp M pc L (.ref r :: S) (mi, mr, sz) Q := by
  subst hv
  exact wp_nx hi (by dsimp only [am_ex]; unfold am_get; dsimp only; rw [if_pos ht, if_pos rfl]; rfl) q
theorem wp_pi (hi : pg_in M pc = some (.putfield k, n, a, b, 0, w)) (ht : am_sub (tg_ r) a = true) (q : am_wp M n L S (am_u2 mi r b x, mr, sz) Q) : am_wp M pc L (.int x :: .ref r :: S) (mi, mr, sz) Q :=
  wp_nx hi (by dsimp only [am_ex]; unfold am_put; dsimp only; rw [if_pos ⟨ht, by decide, fun q => absurd q (by decide)⟩]; rfl) q
theorem wp_pr {v : Nat} (hi : pg_in M pc = some (.putfield k, n, a, b, 1, w)) (ht : am_sub (tg_ r) a = true) (q : am_wp M n L S (mi, am_u2 mr r b v, sz) Q) : am_wp M pc L (.ref v :: .ref r :: S) (mi, mr, sz) Q :=
  wp_nx hi (by dsimp only [am_ex]; unfold am_put; dsimp only; rw [if_pos ⟨ht, rfl⟩]; rfl) q
theorem nI_nn {k : Nat} (h : k < 2 ^ 31) : ¬ nI k < 0 := nI_pos h
theorem ln_big (a : Nat) : ln_ a ≤ 164 := by
  rcases Nat.lt_or_ge a 34 with q | q
  · exact (by decide +kernel : ∀ a, a < 34 → ln_ a ≤ 164) a q
  · rw [ln_hi q]; split <;> omega
theorem am_len_r {h : am_H} (hr : ¬ r = 1) : am_len h r = ln_ r := by simp only [am_len]; rw [if_neg hr]
theorem wp_al (k : Nat) {q0 : am_I} (hi : pg_in M pc = some q0) (hq0 : q0.1 = .iaload) (hj : j = nI k) (hr : ¬ r = 1) (ht : tg_ r = 30) (hk : k < ln_ r) (q : am_wp M q0.2.1 L (.int (mi r k) :: S) (mi, mr, sz) Q) : am_wp M pc L (.int j :: .ref r :: S) (mi, mr, sz) Q := by
  obtain ⟨i, n, a, b, c, w⟩ := q0
  have hq0' : i = .iaload := hq0
  subst hq0'; subst hj
  have hb := ln_big r
  refine wp_nx hi ?_ q
  dsimp only [am_ex]
  unfold am_eld
  dsimp only
  rw [nI_clamp (by omega), am_len_r hr, if_pos ⟨ht, nI_nn (by omega), hk⟩]
  rfl
theorem wp_bl (k : Nat) {q0 : am_I} (hi : pg_in M pc = some q0) (hq0 : q0.1 = .baload) (hj : j = nI k) (hr : ¬ r = 1) (ht : tg_ r = 31) (hk : k < ln_ r) (q : am_wp M q0.2.1 L (.int (mi r k) :: S) (mi, mr, sz) Q) : am_wp M pc L (.int j :: .ref r :: S) (mi, mr, sz) Q := by
  obtain ⟨i, n, a, b, c, w⟩ := q0
  have hq0' : i = .baload := hq0
  subst hq0'; subst hj
  have hb := ln_big r
  refine wp_nx hi ?_ q
  dsimp only [am_ex]
  unfold am_eld
  dsimp only
  rw [nI_clamp (by omega), am_len_r hr, if_pos ⟨ht, nI_nn (by omega), hk⟩]
  rfl
/-- the script -/
theorem wp_sl (k : Nat) {q0 : am_I} (hi : pg_in M pc = some q0) (hq0 : q0.1 = .iaload) (hj : j = nI k) (hk : k < mr 1 0) (hm : mr 1 0 < 2 ^ 31) (q : am_wp M q0.2.1 L (.int (mi 1 k) :: S) (mi, mr, sz) Q) : am_wp M pc L (.int j :: .ref 1 :: S) (mi, mr, sz) Q := by
  obtain ⟨i, n, a, b, c, w⟩ := q0
  have hq0' : i = .iaload := hq0
  subst hq0'; subst hj
  refine wp_nx hi ?_ q
  dsimp only [am_ex]
  unfold am_eld
  dsimp only
  rw [nI_clamp (by omega), show am_len (mi, mr, sz) 1 = mr 1 0 from rfl, if_pos ⟨rfl, nI_nn (by omega), hk⟩]
  rfl
theorem wp_as (k : Nat) {q0 : am_I} (hi : pg_in M pc = some q0) (hq0 : q0.1 = .iastore) (hj : j = nI k) (hr : ¬ r = 1) (ht : tg_ r = 30) (hk : k < ln_ r) (q : am_wp M q0.2.1 L S (am_u2 mi r k x, mr, sz) Q) : am_wp M pc L (.int x :: .int j :: .ref r :: S) (mi, mr, sz) Q := by
  obtain ⟨i, n, a, b, c, w⟩ := q0
  have hq0' : i = .iastore := hq0
  subst hq0'; subst hj
  have hb := ln_big r
  refine wp_nx hi ?_ q
  dsimp only [am_ex]
  unfold am_est
  dsimp only
  rw [nI_clamp (by omega), if_pos ⟨ht, hr, nI_nn (by omega), hk, fun q => absurd q (by decide)⟩]
  rfl
theorem wp_bs (k : Nat) {q0 : am_I} (hi : pg_in M pc = some q0) (hq0 : q0.1 = .bastore) (hj : j = nI k) (hr : ¬ r = 1) (ht : tg_ r = 31) (hk : k < ln_ r) (hx : x = 0 ∨ x = 1) (q : am_wp M q0.2.1 L S (am_u2 mi r k x, mr, sz) Q) : am_wp M pc L (.int x :: .int j :: .ref r :: S) (mi, mr, sz) Q := by
  obtain ⟨i, n, a, b, c, w⟩ := q0
  have hq0' : i = .bastore := hq0
  subst hq0'; subst hj
  have hb := ln_big r
  refine wp_nx hi ?_ q
  dsimp only [am_ex]
  unfold am_est
  dsimp only
  rw [nI_clamp (by omega), if_pos ⟨ht, hr, nI_nn (by omega), hk, fun _ => hx⟩]
  rfl
theorem wp_cp (ks kd kn : Nat) {q : Nat} {y z : Int32} {q0 : am_I} (hi : pg_in M pc = some q0) (hq0 : q0.2.2.1 = 998 ∧ ∃ i, q0.1 = .invokestatic i) (hs : y = nI ks) (hd : z = nI kd) (hn : x = nI kn) (t1 : tg_ q = 30 ∧ tg_ r = 30 ∧ ¬ q = 1 ∧ ¬ r = 1) (b1 : ks + kn ≤ ln_ q) (b2 : kd + kn ≤ ln_ r) (hS : S.length ≤ 8) (k : am_wp M q0.2.1 L S (am_cp mi q r ks kd kn, mr, sz) Q) : am_wp M pc L (.int x :: .int z :: .ref r :: .int y :: .ref q :: S) (mi, mr, sz) Q := by
  obtain ⟨i, n, a, b, c, w⟩ := q0
  obtain ⟨ha, i', hi'⟩ := hq0
  have ha' : a = 998 := ha
  have hq0' : i = .invokestatic i' := hi'
  subst hq0'; subst hs; subst hd; subst hn; subst ha'
  have hb1 := ln_big r
  have hb2 := ln_big q
  refine wp_nx hi ?_ k
  dsimp only [am_ex]
  unfold am_sta am_cpy
  rw [if_pos rfl]
  dsimp only
  rw [nI_clamp (by omega), nI_clamp (by omega), nI_clamp (by omega), if_pos ⟨t1, ⟨nI_nn (by omega), nI_nn (by omega), nI_nn (by omega)⟩, b1, b2, hS⟩]
  rfl
theorem wp_if1 {cd : ClassFile.Cond} (hi : pg_in M pc = some (.ifCond cd o, n, a, b, cc, w)) (t : am_cd cd x 0 = true → am_wp M a L S h Q) (f : am_cd cd x 0 = false → am_wp M n L S h Q) : am_wp M pc L (.int x :: S) h Q := by
  cases hc : am_cd cd x 0 with
  | true => exact wp_nx hi (by dsimp only [am_ex]; unfold am_if1; dsimp only; rw [if_pos hc]; rfl) (t hc)
  | false => exact wp_nx hi (by dsimp only [am_ex]; unfold am_if1; dsimp only; rw [hc, if_neg (by decide)]; rfl) (f hc)
theorem wp_if2 {cd : ClassFile.Cond} (hi : pg_in M pc = some (.if_icmp cd o, n, a, b, cc, w)) (t : am_cd cd x y = true → am_wp M a L S h Q) (f : am_cd cd x y = false → am_wp M n L S h Q) : am_wp M pc L (.int y :: .int x :: S) h Q := by
  cases hc : am_cd cd x y with
  | true => exact wp_nx hi (by dsimp only [am_ex]; unfold am_if2; dsimp only; rw [if_pos hc]; rfl) (t hc)
  | false => exact wp_nx hi (by dsimp only [am_ex]; unfold am_if2; dsimp only; rw [hc, if_neg (by decide)]; rfl) (f hc)
theorem wp_eq1 (hi : pg_in M pc = some (.ifCond .eq o, n, a, b, cc, w)) (t : x = 0 → am_wp M a L S h Q) (f : ¬ x = 0 → am_wp M n L S h Q) : am_wp M pc L (.int x :: S) h Q := wp_if1 hi (fun q => t (of_decide_eq_true q)) (fun q => f (of_decide_eq_false q))
theorem wp_ne1 (hi : pg_in M pc = some (.ifCond .ne o, n, a, b, cc, w)) (t : ¬ x = 0 → am_wp M a L S h Q) (f : x = 0 → am_wp M n L S h Q) : am_wp M pc L (.int x :: S) h Q := wp_if1 hi (fun q => t (of_decide_eq_true q)) (fun q => f (Decidable.not_not.mp (of_decide_eq_false q)))
theorem wp_lt1 (hi : pg_in M pc = some (.ifCond .lt o, n, a, b, cc, w)) (t : x < 0 → am_wp M a L S h Q) (f : ¬ x < 0 → am_wp M n L S h Q) : am_wp M pc L (.int x :: S) h Q := wp_if1 hi (fun q => t (of_decide_eq_true q)) (fun q => f (of_decide_eq_false q))
theorem wp_ge1 (hi : pg_in M pc = some (.ifCond .ge o, n, a, b, cc, w)) (t : 0 ≤ x → am_wp M a L S h Q) (f : ¬ 0 ≤ x → am_wp M n L S h Q) : am_wp M pc L (.int x :: S) h Q := wp_if1 hi (fun q => t (of_decide_eq_true q)) (fun q => f (of_decide_eq_false q))
theorem wp_gt1 (hi : pg_in M pc = some (.ifCond .gt o, n, a, b, cc, w)) (t : 0 < x → am_wp M a L S h Q) (f : ¬ 0 < x → am_wp M n L S h Q) : am_wp M pc L (.int x :: S) h Q := wp_if1 hi (fun q => t (of_decide_eq_true q)) (fun q => f (of_decide_eq_false q))
theorem wp_le1 (hi : pg_in M pc = some (.ifCond .le o, n, a, b, cc, w)) (t : x ≤ 0 → am_wp M a L S h Q) (f : ¬ x ≤ 0 → am_wp M n L S h Q) : am_wp M pc L (.int x :: S) h Q := wp_if1 hi (fun q => t (of_decide_eq_true q)) (fun q => f (of_decide_eq_false q))
theorem wp_eq2 (hi : pg_in M pc = some (.if_icmp .eq o, n, a, b, cc, w)) (t : x = y → am_wp M a L S h Q) (f : ¬ x = y → am_wp M n L S h Q) : am_wp M pc L (.int y :: .int x :: S) h Q := wp_if2 hi (fun q => t (of_decide_eq_true q)) (fun q => f (of_decide_eq_false q))
theorem wp_ne2 (hi : pg_in M pc = some (.if_icmp .ne o, n, a, b, cc, w)) (t : ¬ x = y → am_wp M a L S h Q) (f : x = y → am_wp M n L S h Q) : am_wp M pc L (.int y :: .int x :: S) h Q := wp_if2 hi (fun q => t (of_decide_eq_true q)) (fun q => f (Decidable.not_not.mp (of_decide_eq_false q)))
theorem wp_lt2 (hi : pg_in M pc = some (.if_icmp .lt o, n, a, b, cc, w)) (t : x < y → am_wp M a L S h Q) (f : ¬ x < y → am_wp M n L S h Q) : am_wp M pc L (.int y :: .int x :: S) h Q := wp_if2 hi (fun q => t (of_decide_eq_true q)) (fun q => f (of_decide_eq_false q))
theorem wp_ge2 (hi : pg_in M pc = some (.if_icmp .ge o, n, a, b, cc, w)) (t : y ≤ x → am_wp M a L S h Q) (f : ¬ y ≤ x → am_wp M n L S h Q) : am_wp M pc L (.int y :: .int x :: S) h Q := wp_if2 hi (fun q => t (of_decide_eq_true q)) (fun q => f (of_decide_eq_false q))
theorem wp_gt2 (hi : pg_in M pc = some (.if_icmp .gt o, n, a, b, cc, w)) (t : y < x → am_wp M a L S h Q) (f : ¬ y < x → am_wp M n L S h Q) : am_wp M pc L (.int y :: .int x :: S) h Q := wp_if2 hi (fun q => t (of_decide_eq_true q)) (fun q => f (of_decide_eq_false q))
theorem wp_le2 (hi : pg_in M pc = some (.if_icmp .le o, n, a, b, cc, w)) (t : x ≤ y → am_wp M a L S h Q) (f : ¬ x ≤ y → am_wp M n L S h Q) : am_wp M pc L (.int y :: .int x :: S) h Q := wp_if2 hi (fun q => t (of_decide_eq_true q)) (fun q => f (of_decide_eq_false q))
theorem wp_nul (hi : pg_in M pc = some (.ifnull o, n, a, b, cc, w)) (t : r = 0 → am_wp M a L S h Q) (f : ¬ r = 0 → am_wp M n L S h Q) : am_wp M pc L (.ref r :: S) h Q := by
  by_cases hr : r = 0
  · exact wp_nx hi (by dsimp only [am_ex]; unfold am_ifn; dsimp only; rw [if_pos hr]; rfl) (t hr)
  · exact wp_nx hi (by dsimp only [am_ex]; unfold am_ifn; dsimp only; rw [if_neg hr]; rfl) (f hr)
theorem wp_nnl (hi : pg_in M pc = some (.ifnonnull o, n, a, b, cc, w)) (t : ¬ r = 0 → am_wp M a L S h Q) (f : r = 0 → am_wp M n L S h Q) : am_wp M pc L (.ref r :: S) h Q := by
  by_cases hr : r = 0
  · exact wp_nx hi (by dsimp only [am_ex]; unfold am_ifn; dsimp only; rw [if_pos hr]; rfl) (f hr)
  · exact wp_nx hi (by dsimp only [am_ex]; unfold am_ifn; dsimp only; rw [if_neg hr]; rfl) (t hr)
/-- numbers: a loop's test i < N -/
theorem wp_ge2N (i N : Nat) (hi : pg_in M pc = some (.if_icmp .ge o, n, a, b, cc, w)) (hx : x = nI i) (hy : y = nI N) (h1 : i < 2 ^ 31) (h2 : N < 2 ^ 31) (t : N ≤ i → am_wp M a L S h Q) (f : i < N → am_wp M n L S h Q) : am_wp M pc L (.int y :: .int x :: S) h Q := by
  subst hx; subst hy
  exact wp_ge2 hi (fun q => t ((nI_leI h2 h1).mp q)) (fun q => f (Nat.not_le.mp fun z => q ((nI_leI h2 h1).mpr z)))
theorem wp_lt2N (i N : Nat) (hi : pg_in M pc = some (.if_icmp .lt o, n, a, b, cc, w)) (hx : x = nI i) (hy : y = nI N) (h1 : i < 2 ^ 31) (h2 : N < 2 ^ 31) (t : i < N → am_wp M a L S h Q) (f : N ≤ i → am_wp M n L S h Q) : am_wp M pc L (.int y :: .int x :: S) h Q := by
  subst hx; subst hy
  exact wp_lt2 hi (fun q => t ((nI_ltI h1 h2).mp q)) (fun q => f (Nat.not_lt.mp fun z => q ((nI_ltI h1 h2).mpr z)))
theorem wp_gt2N (i N : Nat) (hi : pg_in M pc = some (.if_icmp .gt o, n, a, b, cc, w)) (hx : x = nI i) (hy : y = nI N) (h1 : i < 2 ^ 31) (h2 : N < 2 ^ 31) (t : N < i → am_wp M a L S h Q) (f : i ≤ N → am_wp M n L S h Q) : am_wp M pc L (.int y :: .int x :: S) h Q := by
  subst hx; subst hy
  exact wp_gt2 hi (fun q => t ((nI_ltI h2 h1).mp q)) (fun q => f (Nat.not_lt.mp fun z => q ((nI_ltI h2 h1).mpr z)))
theorem wp_le2N (i N : Nat) (hi : pg_in M pc = some (.if_icmp .le o, n, a, b, cc, w)) (hx : x = nI i) (hy : y = nI N) (h1 : i < 2 ^ 31) (h2 : N < 2 ^ 31) (t : i ≤ N → am_wp M a L S h Q) (f : N < i → am_wp M n L S h Q) : am_wp M pc L (.int y :: .int x :: S) h Q := by
  subst hx; subst hy
  exact wp_le2 hi (fun q => t ((nI_leI h1 h2).mp q)) (fun q => f (Nat.not_le.mp fun z => q ((nI_leI h1 h2).mpr z)))
theorem wp_eq2N (i N : Nat) (hi : pg_in M pc = some (.if_icmp .eq o, n, a, b, cc, w)) (hx : x = nI i) (hy : y = nI N) (h1 : i < 2 ^ 31) (h2 : N < 2 ^ 31) (t : i = N → am_wp M a L S h Q) (f : ¬ i = N → am_wp M n L S h Q) : am_wp M pc L (.int y :: .int x :: S) h Q := by
  subst hx; subst hy
  exact wp_eq2 hi (fun q => t ((nI_eq h1 h2).mp q)) (fun q => f fun z => q ((nI_eq h1 h2).mpr z))
theorem wp_ne2N (i N : Nat) (hi : pg_in M pc = some (.if_icmp .ne o, n, a, b, cc, w)) (hx : x = nI i) (hy : y = nI N) (h1 : i < 2 ^ 31) (h2 : N < 2 ^ 31) (t : ¬ i = N → am_wp M a L S h Q) (f : i = N → am_wp M n L S h Q) : am_wp M pc L (.int y :: .int x :: S) h Q := by
  subst hx; subst hy
  exact wp_ne2 hi (fun q => t fun z => q ((nI_eq h1 h2).mpr z)) (fun q => f ((nI_eq h1 h2).mp q))
/-- a virtual call whose receiver's tag is known -/
theorem wp_cv {t M' : Nat} {as T : List Value} (hi : pg_in M pc = some (.invokevirtual k, n, a, b, cc, w)) (hd : S.drop b = .ref r :: T) (ht : tg_ r = t) (hv : pg_vt (a * 64 + t) = some M') (has : Value.ref r :: (S.take b).reverse = as) (hT : T.length ≤ 8 ∧ as.length ≤ pg_ml M') (q : am_wp M' 0 (am_lo M' as) [] h (fun v h' => am_wp M (pc + 3) L (v.toList ++ T) h' Q)) : am_wp M pc L S h Q := by
  subst ht; subst has
  refine wp_ca hi ?_ q
  dsimp only [am_ex]
  unfold am_vir
  rw [hd]
  dsimp only
  rw [hv]
  show am_cl M' _ T = _
  unfold am_cl
  rw [if_pos hT]
end WP
end
section
/-! THE PURE PICTURE: what both sides compute -/
abbrev W4 : Type := Int32 × Int32 × Int32 × Int32
abbrev En : Type := Int32 × W4
def MG : Int32 := 77001
def wd4 (e : W4) (w : Nat) : Int32 := match w with
  | 0 => e.1
  | 1 => e.2.1
  | 2 => e.2.2.1
  | _ => e.2.2.2
def mixf (h w : Int32) : Int32 := ((h ^^^ w) * 40503 + 7) ^^^ am_sh ((h ^^^ w) * 40503 + 7) 15
def mix4 (h : Int32) (e : W4) : Int32 := mixf (mixf (mixf (mixf h e.1) e.2.1) e.2.2.1) e.2.2.2
/-- a word of a sector, through the cache -/
def rdS (dk : Nat → Int32) (ca : List En) (s w : Nat) : Int32 := ca.foldl (fun v e => if e.1 = nI s then wd4 e.2 w else v) (dk (4 * s + w))
def rd4 (dk : Nat → Int32) (ca : List En) (s : Nat) : W4 := (rdS dk ca s 0, rdS dk ca s 1, rdS dk ca s 2, rdS dk ca s 3)
/-- an entry goes to the disk, its first n words -/
def stl (dk : Nat → Int32) (e : En) (n : Nat) : Nat → Int32 := fun j => if 4 * e.1.toNatClampNeg ≤ j ∧ j < 4 * e.1.toNatClampNeg + n then wd4 e.2 (j - 4 * e.1.toNatClampNeg) else dk j
def flS (dk : Nat → Int32) (ca : List En) : Nat → Int32 := ca.foldl (fun d e => stl d e 4) dk
/-- a crash: which entries stay (f), how many words of each (g) -/
def crS (f : Nat → Bool) (g : Nat → Nat) : Nat → List En → (Nat → Int32) → Nat → Int32
  | _, [], d => d
  | k, e :: r, d => crS f g (k + 1) r (if f k = true then stl d e (g k) else d)
def cnt (p : Nat → Bool) : Nat → Nat
  | 0 => 0
  | n + 1 => if p n = true then cnt p n + 1 else cnt p n
/-- the greatest k below n with p k, one more than it; 0 where there is none -/
def lst (p : Nat → Bool) : Nat → Nat
  | 0 => 0
  | n + 1 => if p n = true then n + 1 else lst p n
def imgs (p : Nat → Bool) : List Nat := (List.range 16).filter p
/-- the running transaction -/
def k1 (kd : Nat → Nat) : Nat → Bool := fun b => kd b == 1
def k2 (kd : Nat → Nat) : Nat → Bool := fun b => kd b == 2
def anyk (p : Nat → Bool) : Bool := decide (0 < cnt p 16)
def rlen (kd : Nat → Nat) : Nat := cnt (k1 kd) 16 + (cnt (k1 kd) 16 + 3) / 4 + (if anyk (k2 kd) = true then 1 else 0) + 1
def mskR (p : Nat → Bool) : Nat → Nat
  | 0 => 0
  | n + 1 => mskR p n + if p n = true then 2 ^ n else 0
def msk (p : Nat → Bool) : Nat := mskR p 16
def b4 (ru : Nat → Int32) (b : Nat) : W4 := (ru (4 * b), ru (4 * b + 1), ru (4 * b + 2), ru (4 * b + 3))
def five (ru : Nat → Int32) (b : Nat) : Nat := if ru (4 * b) = MG then b + 16 else b
def infA (ru : Nat → Int32) : Nat → List Nat → Nat
  | _, [] => 0
  | j, b :: r => five ru b * 2 ^ (3 + 5 * j) + infA ru (j + 1) r
def infW (ru : Nat → Int32) (bs : List Nat) : Nat := bs.length + infA ru 0 bs
def imgW (ru : Nat → Int32) (b : Nat) : W4 := (if ru (4 * b) = MG then 0 else ru (4 * b), ru (4 * b + 1), ru (4 * b + 2), ru (4 * b + 3))
def grp (ru : Nat → Int32) (nu : Int32) : Nat → List Nat → List W4
  | 0, _ => []
  | _ + 1, [] => []
  | f + 1, b :: r => (MG, 1, nu, nI (infW ru ((b :: r).take 4))) :: (((b :: r).take 4).map (imgW ru) ++ grp ru nu f ((b :: r).drop 4))
/-- the sectors of a commit ahead of its seal -/
def rowW (kd : Nat → Nat) (ru : Nat → Int32) (nu : Int32) : List W4 := grp ru nu 5 (imgs (k1 kd)) ++ if anyk (k2 kd) = true then [(MG, 2, nu, nI (msk (k2 kd)))] else []
def rowA (kd : Nat → Nat) (ru : Nat → Int32) (nu : Int32) : List W4 := rowW kd ru nu ++ [(MG, 3, nu, (rowW kd ru nu).foldl mix4 nu)]
/-- laid from place nx on -/
def layR (nx : Nat) : Nat → List W4 → List En
  | _, [] => []
  | k, e :: r => (nI (17 + (nx + k) % 24), e) :: layR nx (k + 1) r
def flC (kd : Nat → Nat) (ru : Nat → Int32) (nu : Int32) (nx : Nat) : List En := layR nx 0 (rowA kd ru nu)
def flK (pd : Nat → Bool) (pe : Nat → Int32) (nu : Int32) (nx : Nat) : List En := (imgs pd).map (fun b => (nI b, b4 pe b)) ++ [(nI 16, MG, nu, nI nx, 0)]
/-- the log: lg k is the sector k places behind the beginning -/
def hdG (hd : W4) : Prop := hd.1 = MG ∧ 0 ≤ hd.2.2.1 ∧ hd.2.2.1 < 24
def tx (lg : Nat → W4) (q : Int32) : Nat → Nat → Int32 → Bool → Int32 → Option (Nat × Int32)
  | 0, _, _, _, _ => none
  | f + 1, k, h, g, lt =>
    if 24 ≤ k then none
    else if ¬ ((lg k).1 = MG ∧ (lg k).2.2.1 = q) then none
    else if (lg k).2.1 = 3 then (if (lg k).2.2.2 = h then some (k + 1, lt) else none)
    else if (lg k).2.1 = 1 ∧ g = true ∧ 1 ≤ ((lg k).2.2.2 &&& 7).toNatClampNeg ∧ ((lg k).2.2.2 &&& 7).toNatClampNeg ≤ 4 then
      (if 24 ≤ k + ((lg k).2.2.2 &&& 7).toNatClampNeg then none else tx lg q f (k + 1 + ((lg k).2.2.2 &&& 7).toNatClampNeg) ((List.range (1 + ((lg k).2.2.2 &&& 7).toNatClampNeg)).foldl (fun x j => mix4 x (lg (k + j))) h) true lt)
    else if (lg k).2.1 = 2 ∧ g = true then tx lg q f (k + 1) (mix4 h (lg k)) false (lg k).2.2.2
    else none
/-- bit b of a word -/
def bt (x : Int32) (b : Nat) : Bool := decide (¬ (x >>> (nI b &&& 31)) &&& 1 = 0)
/-- the valid transactions: where they end, the number behind them, who revokes what -/
def sc (lg : Nat → W4) : Nat → Int32 → Nat → (Nat → Option Int32) → Nat × Int32 × (Nat → Option Int32)
  | 0, q, k, rv => (k, q, rv)
  | f + 1, q, k, rv => match tx lg q 25 k q true 0 with
    | none => (k, q, rv)
    | some (k', lt) => sc lg f (q + 1) k' (fun b => if bt lt b = true then some q else rv b)
def rvd (rv : Nat → Option Int32) (b : Nat) (q : Int32) : Bool := match rv b with
  | some z => decide (q < z)
  | none => false
def imb (inf : Int32) (j : Nat) : Nat := (am_sh inf (nI (3 + 5 * j)) &&& 15).toNatClampNeg
def imf (inf : Int32) (j : Nat) : Bool := decide (¬ am_sh inf (nI (7 + 5 * j)) &&& 1 = 0)
def im4 (lg : Nat → W4) (inf : Int32) (k j : Nat) : W4 := (if imf inf j = true then MG else (lg (k + 1 + j)).1, (lg (k + 1 + j)).2)
def rpg (lg : Nat → W4) (rv : Nat → Option Int32) (q : Int32) (inf : Int32) (k : Nat) (js : List Nat) : List En := (js.filter (fun j => !rvd rv (imb inf j) q)).map (fun j => (nI (imb inf j), im4 lg inf k j))
def rp (lg : Nat → W4) (rv : Nat → Option Int32) (n : Nat) : Nat → Nat → Int32 → List En
  | 0, _, _ => []
  | f + 1, k, q =>
    if n ≤ k then []
    else if (lg k).2.1 = 1 then rpg lg rv q (lg k).2.2.2 k (List.range ((lg k).2.2.2 &&& 7).toNatClampNeg) ++ rp lg rv n f (k + 1 + ((lg k).2.2.2 &&& 7).toNatClampNeg) q
    else rp lg rv n f (k + 1) (if (lg k).2.1 = 3 then q + 1 else q)
def rcI (lg : Nat → W4) (q : Int32) : List En := rp lg (sc lg 25 q 0 (fun _ => none)).2.2 (sc lg 25 q 0 (fun _ => none)).1 25 0 q
def rcE (lg : Nat → W4) (q : Int32) (pl : Nat) : En := (nI 16, MG, (sc lg 25 q 0 (fun _ => none)).2.1, nI ((pl + (sc lg 25 q 0 (fun _ => none)).1) % 24), 0)
end
section
/-! THE TWIN, its device and small methods -/
theorem a4 (i j : Nat) : (4 : Int32) * nI i + nI j = nI (4 * i + j) := by rw [show (4 : Int32) = nI 4 from rfl, pk_mul, nI_add]
theorem a40 (i : Nat) : (4 : Int32) * nI i = nI (4 * i) := by rw [show (4 : Int32) = nI 4 from rfl, pk_mul]
theorem rng_of {x : Int32} {N : Nat} (hN : N < 2 ^ 31) (h0 : ¬ x < 0) (h1 : ¬ nI N ≤ x) : ∃ i, i < N ∧ x = nI i := by
  rcases pk_ix x hN with q | q | q
  · exact absurd q h0
  · exact absurd q h1
  · exact q
theorem rng_neg {x : Int32} {N : Nat} (hN : N < 2 ^ 31) (h : x < 0 ∨ nI N ≤ x) : ∀ i, i < N → x ≠ nI i := by
  intro i hi hx
  subst hx
  rcases h with q | q
  · exact nI_nn (by omega) q
  · exact absurd ((nI_leI (by omega) (by omega)).mp q) (by omega)
theorem i_le_lt (x : Int32) (N : Nat) (hN : N < 2 ^ 31 - 1) : nI (N + 1) ≤ x ↔ nI N < x := by
  rw [Int32.le_iff_toInt_le, Int32.lt_iff_toInt_lt, nI_toInt (by omega), nI_toInt (by omega)]
  omega
theorem i_nlt {x y : Int32} : ¬ x < y ↔ y ≤ x := Int32.not_lt
theorem i_nle {x y : Int32} : ¬ x ≤ y ↔ y < x := Int32.not_le
section TW1
variable {mi : Nat → Nat → Int32} {mr : Nat → Nat → Nat} {sz : Nat} {Q : Option Value → am_H → Prop} {h : am_H}
theorem c_mixT {x w : Int32} {h : am_H} (hF : FX h.2.1) (k : Q (some (.int (mixf x w))) h) : am_wp 98 0 (am_lo 98 [.int x, .int w]) [] h Q := by
  refine wp_x 13 hF rfl ?_
  exact wp_re rfl rfl k
theorem c_isBlock {b : Int32} {h : am_H} (hF : FX h.2.1) (t : ∀ i, i < 16 → b = nI i → Q (some (.int 1)) h) (f : (∀ i, i < 16 → b ≠ nI i) → Q (some (.int 0)) h) : am_wp 78 0 (am_lo 78 [.int b]) [] h Q := by
  refine wp_x 1 hF rfl ?_
  refine wp_lt1 rfl (fun q => ?_) (fun q1 => ?_)
  · refine wp_x 1 hF rfl ?_
    exact wp_re rfl rfl (f (rng_neg (by omega) (Or.inl q)))
  · refine wp_x 2 hF rfl ?_
    refine wp_gt2 rfl (fun q => ?_) (fun q2 => ?_)
    · refine wp_x 1 hF rfl ?_
      exact wp_re rfl rfl (f (rng_neg (by omega) (Or.inr ((i_le_lt b 15 (by omega)).mpr q))))
    · obtain ⟨i, hi, hb⟩ := rng_of (N := 16) (by omega) q1 (fun z => q2 ((i_le_lt b 15 (by omega)).mp z))
      refine wp_x 2 hF rfl ?_
      exact wp_re rfl rfl (t i hi hb)
theorem c_isWord {b : Int32} {h : am_H} (hF : FX h.2.1) (t : ∀ i, i < 4 → b = nI i → Q (some (.int 1)) h) (f : (∀ i, i < 4 → b ≠ nI i) → Q (some (.int 0)) h) : am_wp 79 0 (am_lo 79 [.int b]) [] h Q := by
  refine wp_x 1 hF rfl ?_
  refine wp_lt1 rfl (fun q => ?_) (fun q1 => ?_)
  · refine wp_x 1 hF rfl ?_
    exact wp_re rfl rfl (f (rng_neg (by omega) (Or.inl q)))
  · refine wp_x 2 hF rfl ?_
    refine wp_gt2 rfl (fun q => ?_) (fun q2 => ?_)
    · refine wp_x 1 hF rfl ?_
      exact wp_re rfl rfl (f (rng_neg (by omega) (Or.inr ((i_le_lt b 3 (by omega)).mpr q))))
    · obtain ⟨i, hi, hb⟩ := rng_of (N := 4) (by omega) q1 (fun z => q2 ((i_le_lt b 3 (by omega)).mp z))
      refine wp_x 2 hF rfl ?_
      exact wp_re rfl rfl (t i hi hb)
/-- idle: up and no job -/
theorem c_idleT (hF : FX mr) (t : ¬ mi 23 4 = 0 → mi 23 12 = 0 → Q (some (.int 1)) (mi, mr, sz)) (f : mi 23 4 = 0 ∨ ¬ mi 23 12 = 0 → Q (some (.int 0)) (mi, mr, sz)) : am_wp 81 0 (am_lo 81 [.ref 23]) [] (mi, mr, sz) Q := by
  refine wp_x 2 hF rfl ?_
  refine wp_eq1 rfl (fun q => ?_) (fun q1 => ?_)
  · refine wp_x 1 hF rfl ?_
    exact wp_re rfl rfl (f (Or.inl q))
  · refine wp_x 2 hF rfl ?_
    refine wp_ne1 rfl (fun q => ?_) (fun q2 => ?_)
    · refine wp_x 1 hF rfl ?_
      exact wp_re rfl rfl (f (Or.inr q))
    · refine wp_x 2 hF rfl ?_
      exact wp_re rfl rfl (t q1 q2)
theorem c_countOf (hF : FX mr) {kind : Int32} (k : Q (some (.int (nI (cnt (fun b => decide (mi 27 b = kind)) 16)))) (mi, mr, sz)) : am_wp 82 0 (am_lo 82 [.ref 23, .int kind]) [] (mi, mr, sz) Q := by
  have loop : ∀ n b, b + n = 16 → am_wp 82 4 [.ref 23, .int kind, .int (nI (cnt (fun b => decide (mi 27 b = kind)) b)), .int (nI b)] [] (mi, mr, sz) Q := by
    intro n
    induction n with
    | zero =>
      intro b hb
      have hb' : b = 16 := by omega
      subst hb'
      refine wp_x 2 hF rfl ?_
      refine wp_ge2N 16 16 rfl rfl rfl (by omega) (by omega) (fun _ => ?_) (fun q => absurd q (by omega))
      refine wp_x 1 hF rfl ?_
      exact wp_re rfl rfl k
    | succ n ih =>
      intro b hb
      have ih' := ih (b + 1) (by omega)
      refine wp_x 2 hF rfl ?_
      refine wp_ge2N b 16 rfl rfl rfl (by omega) (by omega) (fun q => absurd q (by omega)) (fun hb16 => ?_)
      refine wp_x 3 hF rfl ?_
      refine wp_al b rfl rfl rfl (by decide) rfl hb16 ?_
      refine wp_x 1 hF rfl ?_
      refine wp_ne2 rfl (fun q => ?_) (fun q => ?_)
      · refine wp_x 4 hF rfl ?_
        rw [cnt, if_neg (by simpa using q), ← nI_1] at ih'
        exact ih'
      · refine wp_x 7 hF rfl ?_
        rw [cnt, if_pos (by simpa using q), ← nI_1, ← nI_1] at ih'
        exact ih'
  exact wp_x 4 hF rfl (loop 16 0 rfl)
def twe (mi : Nat → Nat → Int32) (k : Nat) : En := (mi 25 k, mi 26 (4 * k), mi 26 (4 * k + 1), mi 26 (4 * k + 2), mi 26 (4 * k + 3))
def twc (mi : Nat → Nat → Int32) (n : Nat) : List En := (List.range n).map (twe mi)
/-- the twin's device -/
def TD (mi : Nat → Nat → Int32) (dk : Nat → Int32) (ca : List En) : Prop := (∀ j, j < 164 → mi 24 j = dk j) ∧ mi 23 1 = nI ca.length ∧ ca.length ≤ 32 ∧ twc mi ca.length = ca
theorem twc_succ (mi : Nat → Nat → Int32) (n : Nat) : twc mi (n + 1) = twc mi n ++ [twe mi n] := by simp [twc, List.range_succ]
theorem twc_len (mi : Nat → Nat → Int32) (n : Nat) : (twc mi n).length = n := by simp [twc]
theorem twc_get (mi : Nat → Nat → Int32) {n k : Nat} (h : k < n) : (twc mi n)[k]? = some (twe mi k) := by simp [twc, h]
theorem twe_w (mi : Nat → Nat → Int32) (k : Nat) {j : Nat} (hj : j < 4) : wd4 (twe mi k).2 j = mi 26 (4 * k + j) := by
  match j, hj with
  | 0, _ => rfl
  | 1, _ => rfl
  | 2, _ => rfl
  | 3, _ => rfl
theorem rdS_snoc (dk : Nat → Int32) (ca : List En) (e : En) (s w : Nat) : rdS dk (ca ++ [e]) s w = if e.1 = nI s then wd4 e.2 w else rdS dk ca s w := by simp [rdS, List.foldl_append]
theorem rdS_dk {dk dk' : Nat → Int32} {s w : Nat} (h : dk (4 * s + w) = dk' (4 * s + w)) (ca : List En) : rdS dk ca s w = rdS dk' ca s w := by simp [rdS, h]
theorem c_readT {dk : Nat → Int32} {ca : List En} (hF : FX mr) (hD : TD mi dk ca) {i j : Nat} (hi : i < 41) (hj : j < 4) (k : Q (some (.int (rdS dk ca i j))) (mi, mr, sz)) : am_wp 74 0 (am_lo 74 [.ref 23, .int (nI i), .int (nI j)]) [] (mi, mr, sz) Q := by
  obtain ⟨hd, he, hl, hc⟩ := hD
  have loop : ∀ n b, b + n = ca.length → am_wp 74 35 [.ref 23, .int (nI i), .int (nI j), .int (rdS dk (twc mi b) i j), .int (nI b)] [] (mi, mr, sz) Q := by
    intro n
    induction n with
    | zero =>
      intro b hb
      have hb' : b = ca.length := by omega
      refine wp_x 3 hF rfl ?_
      refine wp_ge2N b ca.length rfl rfl he (by omega) (by omega) (fun _ => ?_) (fun q => absurd q (by omega))
      refine wp_x 1 hF rfl ?_
      rw [hb', hc]
      exact wp_re rfl rfl k
    | succ n ih =>
      intro b hb
      have ih' := ih (b + 1) (by omega)
      refine wp_x 3 hF rfl ?_
      refine wp_ge2N b ca.length rfl rfl he (by omega) (by omega) (fun q => absurd q (by omega)) (fun hb16 => ?_)
      refine wp_x 3 hF rfl ?_
      refine wp_al b rfl rfl rfl (by decide) rfl (show b < 32 by omega) ?_
      refine wp_x 1 hF rfl ?_
      rw [twc_succ, rdS_snoc, twe_w mi b hj, ← nI_1] at ih'
      refine wp_ne2 rfl (fun q => ?_) (fun q => ?_)
      · refine wp_x 4 hF rfl ?_
        rw [if_neg (show ¬ (twe mi b).1 = nI i from q)] at ih'
        exact ih'
      · refine wp_x 7 hF rfl ?_
        refine wp_al (4 * b + j) rfl rfl (a4 b j) (by decide) rfl (show 4 * b + j < 128 by omega) ?_
        refine wp_x 4 hF rfl ?_
        rw [if_pos (show (twe mi b).1 = nI i from q)] at ih'
        exact ih'
  refine wp_x 1 hF rfl ?_
  refine wp_lt1 rfl (fun q => absurd q (nI_nn (by omega))) (fun _ => ?_)
  refine wp_x 2 hF rfl ?_
  refine wp_gt2N i 40 rfl rfl rfl (by omega) (by omega) (fun q => absurd q (by omega)) (fun _ => ?_)
  refine wp_x 1 hF rfl ?_
  refine wp_lt1 rfl (fun q => absurd q (nI_nn (by omega))) (fun _ => ?_)
  refine wp_x 2 hF rfl ?_
  refine wp_le2N j 3 rfl rfl rfl (by omega) (by omega) (fun _ => ?_) (fun q => absurd q (by omega))
  refine wp_x 7 hF rfl ?_
  refine wp_al (4 * i + j) rfl rfl (a4 i j) (by decide) rfl (show 4 * i + j < 164 by omega) ?_
  rw [hd _ (show 4 * i + j < 164 by omega)]
  exact wp_x 3 hF rfl (loop ca.length 0 (by omega))
/-- 'place + at' sectors behind the log's first -/
theorem rem24 {a : Nat} (h : a < 2 ^ 30) : nI a - nI a / 24 * 24 = nI (a % 24) := pk_rem (d := 24) (by omega) (by omega) (by omega)
theorem c_logWord {dk : Nat → Int32} {ca : List En} (hF : FX mr) (hD : TD mi dk ca) {p k j : Nat} (hp : mi 23 17 = nI p) (hp24 : p < 24) (hk : k < 100) (hj : j < 4) (kq : Q (some (.int (rdS dk ca (17 + (p + k) % 24) j))) (mi, mr, sz)) : am_wp 96 0 (am_lo 96 [.ref 23, .int (nI k), .int (nI j)]) [] (mi, mr, sz) Q := by
  have hlt : (p + k) % 24 < 24 := Nat.mod_lt _ (by omega)
  refine wp_x 10 hF rfl ?_
  have e1 : (17 : Int32) + (mi 23 17 + nI k - (mi 23 17 + nI k) / 24 * 24) = nI (17 + (p + k) % 24) := by
    rw [hp, nI_add, rem24 (by omega), show (17 : Int32) = nI 17 from rfl, nI_add]
  show am_wp 96 14 _ [.int (nI j), .int ((17 : Int32) + (mi 23 17 + nI k - (mi 23 17 + nI k) / 24 * 24)), .ref 23] _ _
  rw [e1]
  refine wp_ca rfl rfl ?_
  refine c_readT hF hD (by omega) hj ?_
  exact wp_re rfl rfl kq
theorem c_mixSector {dk : Nat → Int32} {ca : List En} (hF : FX mr) (hD : TD mi dk ca) {p k : Nat} {x : Int32} (hp : mi 23 17 = nI p) (hp24 : p < 24) (hk : k < 100) (kq : Q (some (.int (mix4 x (rd4 dk ca (17 + (p + k) % 24))))) (mi, mr, sz)) : am_wp 97 0 (am_lo 97 [.ref 23, .int x, .int (nI k)]) [] (mi, mr, sz) Q := by
  have one : ∀ (y : Int32) (j : Nat), j < 4 → am_wp 97 5 [.ref 23, .int x, .int (nI k), .int (mixf y (rdS dk ca (17 + (p + k) % 24) j)), .int (nI (j + 1))] [] (mi, mr, sz) Q → am_wp 97 5 [.ref 23, .int x, .int (nI k), .int y, .int (nI j)] [] (mi, mr, sz) Q := by
    intro y j hj kk
    refine wp_x 2 hF rfl ?_
    refine wp_ge2N j 4 rfl rfl rfl (by omega) (by omega) (fun q => absurd q (by omega)) (fun _ => ?_)
    refine wp_x 4 hF rfl ?_
    refine wp_ca rfl rfl ?_
    refine c_logWord hF hD hp hp24 hk hj ?_
    refine wp_ca rfl rfl ?_
    refine c_mixT hF ?_
    refine wp_x 3 hF rfl ?_
    rw [← nI_1] at kk
    exact kk
  refine wp_x 4 hF rfl ?_
  refine one x 0 (by omega) (one _ 1 (by omega) (one _ 2 (by omega) (one _ 3 (by omega) ?_)))
  refine wp_x 2 hF rfl ?_
  refine wp_ge2N 4 4 rfl rfl rfl (by omega) (by omega) (fun _ => ?_) (fun q => absurd q (by omega))
  refine wp_x 1 hF rfl ?_
  exact wp_re rfl rfl kq
end TW1
end
section
/-! THE TWIN, what is written to the device -/
section TW2
variable {mi : Nat → Nat → Int32} {mr : Nat → Nat → Nat} {sz : Nat} {Q : Option Value → am_H → Prop}
/-- what 'say' lays out -/
def o4 (mi : Nat → Nat → Int32) (e : W4) : Nat → Nat → Int32 := am_u2 (am_u2 (am_u2 (am_u2 mi 31 0 e.1) 31 1 e.2.1) 31 2 e.2.2.1) 31 3 e.2.2.2
theorem o4_o (mi : Nat → Nat → Int32) (e : W4) {a : Nat} (h : ¬ a = 31) : o4 mi e a = mi a := by
  funext k
  simp [o4, am_u2, h]
theorem o4_31 (mi : Nat → Nat → Int32) (e : W4) : o4 mi e 31 0 = e.1 ∧ o4 mi e 31 1 = e.2.1 ∧ o4 mi e 31 2 = e.2.2.1 ∧ o4 mi e 31 3 = e.2.2.2 := by
  simp [o4, am_u2]
def ot (mi : Nat → Nat → Int32) : W4 := (mi 31 0, mi 31 1, mi 31 2, mi 31 3)
theorem ot_o4 (mi : Nat → Nat → Int32) (e : W4) : ot (o4 mi e) = e := by
  obtain ⟨h1, h2, h3, h4⟩ := o4_31 mi e
  simp only [ot, h1, h2, h3, h4]
theorem c_say (hF : FX mr) {a b c d : Int32} (k : Q none (o4 mi (a, b, c, d), mr, sz)) : am_wp 100 0 (am_lo 100 [.ref 23, .int a, .int b, .int c, .int d]) [] (mi, mr, sz) Q := by
  refine wp_x 4 hF rfl ?_
  refine wp_as 0 rfl rfl rfl (by decide) rfl (by decide) ?_
  refine wp_x 4 hF rfl ?_
  refine wp_as 1 rfl rfl rfl (by decide) rfl (by decide) ?_
  refine wp_x 4 hF rfl ?_
  refine wp_as 2 rfl rfl rfl (by decide) rfl (by decide) ?_
  refine wp_x 4 hF rfl ?_
  refine wp_as 3 rfl rfl rfl (by decide) rfl (by decide) ?_
  exact wp_re rfl rfl k
theorem c_writeOut {dk : Nat → Int32} {ca : List En} (hF : FX mr) (hD : TD mi dk ca) (hn : ca.length < 32) {s : Int32} (k : ∀ mi' : Nat → Nat → Int32, (∀ a k, ¬ a = 25 → ¬ a = 26 → ¬ (a = 23 ∧ k = 1) → mi' a k = mi a k) → TD mi' dk (ca ++ [(s, ot mi)]) → Q none (mi', mr, sz)) : am_wp 85 0 (am_lo 85 [.ref 23, .int s]) [] (mi, mr, sz) Q := by
  obtain ⟨hd, he, hl, hc⟩ := hD
  have one : ∀ (m1 : Nat → Nat → Int32) (j : Nat), j < 4 → m1 23 1 = nI ca.length → am_wp 85 12 [.ref 23, .int s, .int (nI (j + 1))] [] (am_u2 m1 26 (4 * ca.length + j) (m1 31 j), mr, sz) Q → am_wp 85 12 [.ref 23, .int s, .int (nI j)] [] (m1, mr, sz) Q := by
    intro m1 j hj h1 kk
    refine wp_x 2 hF rfl ?_
    refine wp_ge2N j 4 rfl rfl rfl (by omega) (by omega) (fun q => absurd q (by omega)) (fun _ => ?_)
    refine wp_x 11 hF rfl ?_
    refine wp_al j rfl rfl rfl (by decide) rfl (show j < 4 from hj) ?_
    refine wp_as (4 * ca.length + j) rfl rfl (by show (4 : Int32) * m1 23 1 + nI j = _; rw [h1, a4]) (by decide) rfl (show 4 * ca.length + j < 128 by omega) ?_
    refine wp_x 2 hF rfl ?_
    rw [← nI_1] at kk
    exact kk
  refine wp_x 5 hF rfl ?_
  refine wp_as ca.length rfl rfl he (by decide) rfl (show ca.length < 32 from hn) ?_
  refine wp_x 2 hF rfl ?_
  refine one _ 0 (by omega) (by simpa [am_u2] using he) ?_
  refine one _ 1 (by omega) (by simpa [am_u2] using he) ?_
  refine one _ 2 (by omega) (by simpa [am_u2] using he) ?_
  refine one _ 3 (by omega) (by simpa [am_u2] using he) ?_
  refine wp_x 2 hF rfl ?_
  refine wp_ge2N 4 4 rfl rfl rfl (by omega) (by omega) (fun _ => ?_) (fun q => absurd q (by omega))
  refine wp_x 6 hF rfl ?_
  refine wp_re rfl rfl (k _ ?_ ?_)
  · intro a k' h1 h2 h3
    simp only [am_u2]
    rw [if_neg h3, if_neg (fun q => h2 q.1), if_neg (fun q => h2 q.1), if_neg (fun q => h2 q.1), if_neg (fun q => h2 q.1), if_neg (fun q => h1 q.1)]
  · refine ⟨fun j hj => ?_, ?_, ?_, ?_⟩
    · simpa [am_u2] using hd j hj
    · simp only [am_u2, List.length_append, List.length_cons, List.length_nil]
      simp [he, nI_1]
    · simp only [List.length_append, List.length_cons, List.length_nil]; omega
    · simp only [List.length_append, List.length_cons, List.length_nil, Nat.zero_add]
      rw [twc_succ]
      congr 1
      · conv => rhs; rw [← hc]
        simp only [twc]
        apply List.map_congr_left
        intro k' hk'
        have hk2 : k' < ca.length := List.mem_range.mp hk'
        simp only [twe, am_u2]
        have e0 : ¬ k' = ca.length := by omega
        simp [e0]
        have f : ∀ x y, x < 4 → y < 4 → ¬ 4 * k' + x = 4 * ca.length + y := by intro x y _ _; omega
        have f0 : ∀ y, y < 4 → ¬ 4 * k' = 4 * ca.length + y := by intro y _; omega
        simp [f 1 1, f 1 2, f 1 3, f 2 1, f 2 2, f 2 3, f 3 1, f 3 2, f 3 3, f0 1, f0 2, f0 3, show ¬ 4 * k' + 1 = 4 * ca.length by omega, show ¬ 4 * k' + 2 = 4 * ca.length by omega, show ¬ 4 * k' + 3 = 4 * ca.length by omega, show ¬ 4 * k' = 4 * ca.length by omega]
      · simp [twe, am_u2, ot]
/-- settle: the first n words of entry k -/
theorem c_settleT {dk : Nat → Int32} {ca : List En} (hF : FX mr) (hD : TD mi dk ca) {i n : Nat} {e : En} (hi : ca[i]? = some e) (hs : e.1 = nI e.1.toNatClampNeg) (hs2 : e.1.toNatClampNeg < 41) (hn : n ≤ 4) (k : ∀ mi' : Nat → Nat → Int32, (∀ a, ¬ a = 24 → mi' a = mi a) → TD mi' (stl dk e n) ca → Q none (mi', mr, sz)) : am_wp 109 0 (am_lo 109 [.ref 23, .int (nI i), .int (nI n)]) [] (mi, mr, sz) Q := by
  obtain ⟨hd, he, hl, hc⟩ := hD
  have hil : i < ca.length := (List.getElem?_eq_some_iff.mp hi).1
  have hee : twe mi i = e := by
    rw [← hc, twc_get mi hil] at hi
    exact Option.some.inj hi
  obtain ⟨sec, hsec⟩ : ∃ z, z = e.1.toNatClampNeg := ⟨_, rfl⟩
  rw [← hsec] at hs hs2
  have h25 : mi 25 i = nI sec := by rw [← hs, ← hee]; rfl
  have loop : ∀ d w (m1 : Nat → Nat → Int32), w + d = n → (∀ a, ¬ a = 24 → m1 a = mi a) → (∀ j, m1 24 j = if 4 * sec ≤ j ∧ j < 4 * sec + w then wd4 e.2 (j - 4 * sec) else mi 24 j) → am_wp 109 2 [.ref 23, .int (nI i), .int (nI n), .int (nI w)] [] (m1, mr, sz) Q := by
    intro d
    induction d with
    | zero =>
      intro w m1 hw h1 h2
      have hw' : w = n := by omega
      subst hw'
      refine wp_x 2 hF rfl ?_
      refine wp_ge2N w w rfl rfl rfl (by omega) (by omega) (fun _ => ?_) (fun q => absurd q (by omega))
      refine wp_re rfl rfl (k m1 h1 ⟨fun j hj => ?_, ?_, hl, ?_⟩)
      · rw [h2, stl, ← hsec, hd j hj]
      · rw [h1 23 (by decide)]; exact he
      · have : twc m1 ca.length = twc mi ca.length := by simp only [twc]; congr 1; funext z; simp only [twe, h1 25 (by decide), h1 26 (by decide)]
        rw [this, hc]
    | succ d ih =>
      intro w m1 hw h1 h2
      refine wp_x 2 hF rfl ?_
      refine wp_ge2N w n rfl rfl rfl (by omega) (by omega) (fun q => absurd q (by omega)) (fun hwn => ?_)
      refine wp_x 6 hF rfl ?_
      refine wp_al i rfl rfl rfl (by decide) rfl (show i < 32 by omega) ?_
      refine wp_x 10 hF rfl ?_
      refine wp_al (4 * i + w) rfl rfl (a4 i w) (by decide) rfl (show 4 * i + w < 128 by omega) ?_
      refine wp_as (4 * sec + w) rfl rfl (by show (4 : Int32) * m1 25 i + nI w = _; rw [h1 25 (by decide), h25, a4]) (by decide) rfl (show 4 * sec + w < 164 by omega) ?_
      refine wp_x 2 hF rfl ?_
      have ih' := ih (w + 1) (am_u2 m1 24 (4 * sec + w) (m1 26 (4 * i + w))) (by omega) (fun a ha => by rw [sd_u2r _ _ _ _ ha]; exact h1 a ha) (fun j => ?_)
      · rw [← nI_1] at ih'
        exact ih'
      · by_cases hj : j = 4 * sec + w
        · subst hj
          rw [sd_u2s, if_pos (by omega), h1 26 (by decide), ← twe_w mi i (show w < 4 by omega), hee]
          congr 1; omega
        · rw [sd_u2k _ _ _ _ hj, h2]
          by_cases h3 : 4 * sec ≤ j ∧ j < 4 * sec + w
          · rw [if_pos h3, if_pos (by omega)]
          · rw [if_neg h3, if_neg (by omega)]
  refine wp_x 2 hF rfl ?_
  exact loop n 0 mi (by omega) (fun _ _ => rfl) (fun j => by rw [if_neg (by omega)])
/-- sectors of the cache's entries -/
def okC (ca : List En) : Prop := ∀ e ∈ ca, e.1 = nI e.1.toNatClampNeg ∧ e.1.toNatClampNeg < 41
theorem flS_snoc (dk : Nat → Int32) (ca : List En) (e : En) : flS dk (ca ++ [e]) = stl (flS dk ca) e 4 := by simp [flS, List.foldl_append]
theorem take_succ_of {α : Type} {l : List α} {i : Nat} {e : α} (h : l[i]? = some e) : l.take (i + 1) = l.take i ++ [e] := by
  rw [List.take_succ, h]; rfl
theorem c_flushT {dk : Nat → Int32} {ca : List En} (hF : FX mr) (hD : TD mi dk ca) (hok : okC ca) (k : ∀ mi' : Nat → Nat → Int32, (∀ a k, ¬ a = 24 → ¬ (a = 23 ∧ k = 1) → mi' a k = mi a k) → TD mi' (flS dk ca) [] → Q none (mi', mr, sz)) : am_wp 108 0 (am_lo 108 [.ref 23]) [] (mi, mr, sz) Q := by
  have hl := hD.2.2.1
  have loop : ∀ d i (m1 : Nat → Nat → Int32), i + d = ca.length → (∀ a, ¬ a = 24 → m1 a = mi a) → TD m1 (flS dk (ca.take i)) ca → am_wp 108 2 [.ref 23, .int (nI i)] [] (m1, mr, sz) Q := by
    intro d
    induction d with
    | zero =>
      intro i m1 hi h1 h2
      refine wp_x 3 hF rfl ?_
      refine wp_ge2N i ca.length rfl rfl h2.2.1 (by omega) (by omega) (fun _ => ?_) (fun q => absurd q (by omega))
      refine wp_x 3 hF rfl ?_
      have e1 : ca.take i = ca := List.take_of_length_le (by omega)
      rw [e1] at h2
      refine wp_re rfl rfl (k _ (fun a k' ha hb => ?_) ⟨fun j hj => ?_, ?_, by simp, rfl⟩)
      · show am_u2 m1 23 1 0 a k' = mi a k'
        simp only [am_u2]
        rw [if_neg hb, h1 a ha]
      · show am_u2 m1 23 1 0 24 j = _
        rw [sd_u2r _ _ _ _ (by decide)]
        exact h2.1 j hj
      · exact sd_u2s _ _ _ _
    | succ d ih =>
      intro i m1 hi h1 h2
      have hic : i < ca.length := by omega
      have hget : ca[i]? = some ca[i] := List.getElem?_eq_getElem hic
      refine wp_x 3 hF rfl ?_
      refine wp_ge2N i ca.length rfl rfl h2.2.1 (by omega) (by omega) (fun q => absurd q (by omega)) (fun _ => ?_)
      refine wp_x 3 hF rfl ?_
      refine wp_ca rfl rfl ?_
      have hok1 := hok _ (List.mem_of_getElem? hget)
      refine c_settleT (n := 4) hF h2 hget hok1.1 hok1.2 (by omega) (fun m2 hm2 hD2 => ?_)
      refine wp_x 2 hF rfl ?_
      rw [← flS_snoc, ← take_succ_of hget] at hD2
      have ih' := ih (i + 1) m2 (by omega) (fun a ha => by rw [hm2 a ha]; exact h1 a ha) hD2
      rw [← nI_1] at ih'
      exact ih'
  refine wp_x 2 hF rfl ?_
  exact loop ca.length 0 mi (by omega) (fun _ _ => rfl) (by simpa [flS] using hD)
end TW2
end
section
/-! BITS -/
theorem bs_sl : ∀ n, n < 32 → ((nI n &&& 31).toBitVec.smod 32).toNat = n := by decide +kernel
theorem bs_su : ∀ n, n < 32 → (((nI n).toUInt32 &&& Int32.toUInt32 31).toBitVec % 32).toNat = n := by decide +kernel
theorem shl_N {a k : Nat} (hk : k < 32) (h : a * 2 ^ k < 2 ^ 32) : nI a <<< (nI k &&& 31) = nI (a * 2 ^ k) := pk_shlN _ k (bs_sl k hk) h
theorem shr_N {a k : Nat} (ha : a < 2 ^ 31) (hk : k < 32) : nI a >>> (nI k &&& 31) = nI (a / 2 ^ k) := pk_shrN ha _ k (bs_sl k hk)
theorem ush_N {a k : Nat} (ha : a < 2 ^ 32) (hk : k < 32) : am_sh (nI a) (nI k) = nI (a / 2 ^ k) := pk_ushrN ha _ k (bs_su k hk)
theorem and1_N {a : Nat} (ha : a < 2 ^ 32) : nI a &&& 1 = nI (a % 2) := pk_andN ha 1 rfl
theorem and1_or (x : Int32) : x &&& 1 = 0 ∨ x &&& 1 = 1 := by
  obtain ⟨j, hj, e⟩ := pk_andE x (m := 1) 1 rfl
  have : j = 0 ∨ j = 1 := by omega
  rcases this with q | q
  · left; rw [e, q]; rfl
  · right; rw [e, q]; rfl
def gb (x : Int32) (i : Nat) : Bool := x.toBitVec.getLsbD i
theorem gb_ext {x y : Int32} (h : ∀ i, i < 32 → gb x i = gb y i) : x = y := Int32.toBitVec_inj.mp (BitVec.eq_of_getLsbD_eq (fun i hi => h i hi))
theorem gb_or (x y : Int32) (i : Nat) : gb (x ||| y) i = (gb x i || gb y i) := by unfold gb; rw [Int32.toBitVec_or, BitVec.getLsbD_or]
theorem gb_and (x y : Int32) (i : Nat) : gb (x &&& y) i = (gb x i && gb y i) := by unfold gb; rw [Int32.toBitVec_and, BitVec.getLsbD_and]
theorem gb_xor (x y : Int32) (i : Nat) : gb (x ^^^ y) i = (gb x i ^^ gb y i) := by unfold gb; rw [Int32.toBitVec_xor, BitVec.getLsbD_xor]
theorem gb_m1 : ∀ i, i < 32 → gb (-1) i = true := by decide +kernel
theorem gb_nI (n : Nat) {i : Nat} (hi : i < 32) : gb (nI n) i = n.testBit i := by
  show (BitVec.ofNat 32 n).getLsbD i = _
  rw [BitVec.getLsbD_ofNat]
  simp [hi]
theorem or_N (a b : Nat) : nI a ||| nI b = nI (a ||| b) := gb_ext fun i hi => by rw [gb_or, gb_nI _ hi, gb_nI _ hi, gb_nI _ hi, Nat.testBit_or]
theorem and_N (a b : Nat) : nI a &&& nI b = nI (a &&& b) := gb_ext fun i hi => by rw [gb_and, gb_nI _ hi, gb_nI _ hi, gb_nI _ hi, Nat.testBit_and]
/-- masks -/
theorem mskR_lt (p : Nat → Bool) : ∀ n, mskR p n < 2 ^ n
  | 0 => by simp [mskR]
  | n + 1 => by
    have h := mskR_lt p n
    rw [mskR, Nat.pow_succ]
    split <;> omega
theorem mskR_tb (p : Nat → Bool) : ∀ n i, (mskR p n).testBit i = (decide (i < n) && p i)
  | 0, i => by simp [mskR]
  | n + 1, i => by
    have h := mskR_lt p n
    have ih := mskR_tb p n
    rw [mskR]
    rcases Nat.lt_trichotomy i n with q | q | q
    · have e1 : decide (i < n + 1) = true := by simp; omega
      have e2 : decide (i < n) = true := by simp [q]
      rw [e1]
      split
      · rw [Nat.add_comm, Nat.testBit_two_pow_add_gt q, ih, e2]
      · rw [Nat.add_zero, ih, e2]
    · subst q
      have e1 : decide (i < i + 1) = true := by simp
      rw [e1]
      have f := Nat.testBit_lt_two_pow h
      cases hp : p i with
      | true => rw [if_pos rfl, Nat.add_comm, Nat.testBit_two_pow_add_eq, f]; rfl
      | false => rw [if_neg (by simp), Nat.add_zero, f]; rfl
    · have e1 : decide (i < n + 1) = false := by simp; omega
      rw [e1]
      have h3 : mskR p n + (if p n = true then 2 ^ n else 0) < 2 ^ i := by
        have : 2 ^ (n + 1) ≤ 2 ^ i := Nat.pow_le_pow_right (by omega) (by omega)
        rw [Nat.pow_succ] at this
        split <;> omega
      rw [Nat.testBit_lt_two_pow h3]
      rfl
theorem msk_tb (p : Nat → Bool) {i : Nat} : (msk p).testBit i = (decide (i < 16) && p i) := mskR_tb p 16 i
theorem msk_lt (p : Nat → Bool) : msk p < 65536 := mskR_lt p 16
theorem mskR_congr {p q : Nat → Bool} : ∀ n, (∀ b, b < n → p b = q b) → mskR p n = mskR q n
  | 0, _ => rfl
  | n + 1, h => by rw [mskR, mskR, mskR_congr n (fun b hb => h b (by omega)), h n (by omega)]
theorem msk_congr {p q : Nat → Bool} (h : ∀ b, b < 16 → p b = q b) : msk p = msk q := mskR_congr 16 h
theorem cnt_congr {p q : Nat → Bool} : ∀ n, (∀ b, b < n → p b = q b) → cnt p n = cnt q n
  | 0, _ => rfl
  | n + 1, h => by rw [cnt, cnt, cnt_congr n (fun b hb => h b (by omega)), h n (by omega)]
theorem cnt_le (p : Nat → Bool) : ∀ n, cnt p n ≤ n
  | 0 => Nat.le_refl _
  | n + 1 => by have := cnt_le p n; rw [cnt]; split <;> omega
theorem msk_has (p : Nat → Bool) {b : Nat} (hb : b < 16) : (nI (msk p) >>> (nI b &&& 31)) &&& 1 = if p b = true then 1 else 0 := by
  have h1 := msk_lt p
  have h2 : msk p / 2 ^ b ≤ msk p := Nat.div_le_self _ _
  rw [shr_N (by omega) (by omega), and1_N (by omega)]
  have h3 := msk_tb p (i := b)
  rw [Nat.testBit_eq_decide_div_mod_eq] at h3
  have e1 : decide (b < 16) = true := by simp [hb]
  rw [e1, Bool.true_and] at h3
  have h4 : msk p / 2 ^ b % 2 < 2 := Nat.mod_lt _ (by omega)
  cases hp : p b with
  | true =>
    rw [hp, decide_eq_true_eq] at h3
    rw [h3]; rfl
  | false =>
    rw [hp, decide_eq_false_iff_not] at h3
    have : msk p / 2 ^ b % 2 = 0 := by omega
    rw [this]; rfl
theorem msk_put (p : Nat → Bool) {b : Nat} (hb : b < 16) : nI (msk p) ||| ((1 : Int32) <<< (nI b &&& 31)) = nI (msk (fun j => if j = b then true else p j)) := by
  have e : (1 : Int32) <<< (nI b &&& 31) = nI (2 ^ b) := by
    have : 1 * 2 ^ b < 2 ^ 32 := by rw [Nat.one_mul]; exact Nat.pow_lt_pow_right (by omega) (by omega)
    have h := shl_N (a := 1) (k := b) (by omega) this
    rw [Nat.one_mul] at h
    exact h
  rw [e, or_N]
  congr 1
  apply Nat.eq_of_testBit_eq
  intro i
  rw [Nat.testBit_or, msk_tb, msk_tb, Nat.testBit_two_pow]
  by_cases h : i = b
  · subst h; simp [hb]
  · have : ¬ b = i := fun q => h q.symm
    simp [h, this]
theorem msk_drop (p : Nat → Bool) {b : Nat} (hb : b < 16) : nI (msk p) &&& (((1 : Int32) <<< (nI b &&& 31)) ^^^ (-1)) = nI (msk (fun j => if j = b then false else p j)) := by
  have e : (1 : Int32) <<< (nI b &&& 31) = nI (2 ^ b) := by
    have : 1 * 2 ^ b < 2 ^ 32 := by rw [Nat.one_mul]; exact Nat.pow_lt_pow_right (by omega) (by omega)
    have h := shl_N (a := 1) (k := b) (by omega) this
    rw [Nat.one_mul] at h
    exact h
  rw [e]
  refine gb_ext fun i hi => ?_
  rw [gb_and, gb_xor, gb_nI _ hi, gb_nI _ hi, gb_nI _ hi, gb_m1 i hi, msk_tb, msk_tb, Nat.testBit_two_pow]
  by_cases h : i = b
  · subst h; simp
  · have : ¬ b = i := fun q => h q.symm
    simp [h, this]
theorem msk_0 {p : Nat → Bool} : nI (msk p) = 0 ↔ cnt p 16 = 0 := by
  have h1 := msk_lt p
  have e : nI (msk p) = 0 ↔ msk p = 0 := by rw [← nI_0]; exact nI_eq (by omega) (by omega)
  rw [e]
  have key : ∀ n, mskR p n = 0 ↔ cnt p n = 0 := by
    intro n
    induction n with
    | zero => simp [mskR, cnt]
    | succ n ih =>
      rw [mskR, cnt]
      have : 0 < 2 ^ n := Nat.two_pow_pos n
      split <;> omega
  exact key 16
end
section
/-! THE TWIN, the row of a commit -/
def imgsN (p : Nat → Bool) (n : Nat) : List Nat := (List.range n).filter p
theorem imgsN_succ (p : Nat → Bool) (n : Nat) : imgsN p (n + 1) = if p n = true then imgsN p n ++ [n] else imgsN p n := by
  simp only [imgsN, List.range_succ, List.filter_append]
  cases h : p n <;> simp [h]
theorem imgsN_len (p : Nat → Bool) : ∀ n, (imgsN p n).length = cnt p n
  | 0 => rfl
  | n + 1 => by rw [imgsN_succ, cnt]; split <;> simp [imgsN_len p n]
theorem imgsN_lt {p : Nat → Bool} {n b : Nat} (h : b ∈ imgsN p n) : b < n ∧ p b = true := by
  simp only [imgsN, List.mem_filter, List.mem_range] at h
  exact h
theorem imgs_len (p : Nat → Bool) : (imgs p).length = cnt p 16 := imgsN_len p 16
theorem getD_snoc (l : List Nat) (b n : Nat) : (l ++ [b]).getD n 0 = if n = l.length then b else l.getD n 0 := by
  simp only [List.getD_eq_getElem?_getD, List.getElem?_append]
  by_cases h : n < l.length
  · rw [if_pos h, if_neg (by omega)]
  · rw [if_neg h]
    by_cases h2 : n = l.length
    · subst h2; simp
    · rw [if_neg h2, List.getElem?_eq_none (by simp; omega), List.getElem?_eq_none (by omega)]
theorem infA_snoc (ru : Nat → Int32) (b : Nat) : ∀ (l : List Nat) (i : Nat), infA ru i (l ++ [b]) = infA ru i l + five ru b * 2 ^ (3 + 5 * (i + l.length))
  | [], i => by simp [infA]
  | a :: t, i => by
    rw [List.cons_append, infA, infA, infA_snoc ru b t (i + 1), List.length_cons]
    have : i + 1 + t.length = i + (t.length + 1) := by omega
    rw [this]; omega
/-- the twin's running transaction -/
def TK (mi : Nat → Nat → Int32) (kd : Nat → Nat) (ru : Nat → Int32) : Prop := (∀ b, b < 16 → mi 27 b = nI (kd b) ∧ kd b ≤ 2) ∧ ∀ j, j < 64 → mi 28 j = ru j
theorem TK.is {mi : Nat → Nat → Int32} {kd : Nat → Nat} {ru : Nat → Int32} (hK : TK mi kd ru) {b v : Nat} (hb : b < 16) (hv : v < 2 ^ 31) : mi 27 b = nI v ↔ kd b = v := by
  rw [(hK.1 b hb).1]
  have := (hK.1 b hb).2
  exact nI_eq (by omega) hv
theorem TK.cnt {mi : Nat → Nat → Int32} {kd : Nat → Nat} {ru : Nat → Int32} (hK : TK mi kd ru) {v : Nat} (hv : v < 2 ^ 31) : cnt (fun b => decide (mi 27 b = nI v)) 16 = cnt (fun b => kd b == v) 16 := by
  refine cnt_congr 16 fun b hb => ?_
  have := hK.is hb hv
  by_cases h : kd b = v
  · simp [this.mpr h, h]
  · have h2 : ¬ mi 27 b = nI v := fun q => h (this.mp q)
    simp [h2, h]
section TW3
variable {mi : Nat → Nat → Int32} {mr : Nat → Nat → Nat} {sz : Nat} {Q : Option Value → am_H → Prop} {kd : Nat → Nat} {ru : Nat → Int32}
theorem c_imageBlock (hF : FX mr) (hK : TK mi kd ru) {n : Nat} (hn : n < 100) (k : Q (some (.int (nI ((imgs (k1 kd)).getD n 0)))) (mi, mr, sz)) : am_wp 106 0 (am_lo 106 [.ref 23, .int (nI n)]) [] (mi, mr, sz) Q := by
  have loop : ∀ d b, b + d = 16 → am_wp 106 7 [.ref 23, .int (nI n), .int (nI (cnt (k1 kd) b)), .int (nI ((imgsN (k1 kd) b).getD n 0)), .int (nI b)] [] (mi, mr, sz) Q := by
    intro d
    induction d with
    | zero =>
      intro b hb
      have hb' : b = 16 := by omega
      subst hb'
      refine wp_x 2 hF rfl ?_
      refine wp_ge2N 16 16 rfl rfl rfl (by omega) (by omega) (fun _ => ?_) (fun q => absurd q (by omega))
      refine wp_x 1 hF rfl ?_
      exact wp_re rfl rfl k
    | succ d ih =>
      intro b hb
      have ih' := ih (b + 1) (by omega)
      rw [cnt, imgsN_succ, ← nI_1] at ih'
      have hcb := cnt_le (k1 kd) b
      have hlen := imgsN_len (k1 kd) b
      refine wp_x 2 hF rfl ?_
      refine wp_ge2N b 16 rfl rfl rfl (by omega) (by omega) (fun q => absurd q (by omega)) (fun hb16 => ?_)
      refine wp_x 3 hF rfl ?_
      refine wp_al b rfl rfl rfl (by decide) rfl hb16 ?_
      refine wp_x 1 hF rfl ?_
      refine wp_ne2 rfl (fun q => ?_) (fun q => ?_)
      · have hp : ¬ k1 kd b = true := by
          simp only [k1, beq_iff_eq]
          exact fun z => q ((hK.is hb16 (v := 1) (by omega)).mpr z)
        rw [if_neg hp, if_neg hp] at ih'
        refine wp_x 2 hF rfl ?_
        exact ih'
      · have hp : k1 kd b = true := by
          simp only [k1, beq_iff_eq]
          exact (hK.is hb16 (v := 1) (by omega)).mp q
        rw [if_pos hp, if_pos hp, getD_snoc, hlen, ← nI_1] at ih'
        refine wp_x 2 hF rfl ?_
        refine wp_ne2N (cnt (k1 kd) b) n rfl rfl rfl (by omega) (by omega) (fun q2 => ?_) (fun q2 => ?_)
        · rw [if_neg (fun z => q2 z.symm)] at ih'
          refine wp_x 8 hF rfl ?_
          exact ih'
        · rw [if_pos q2.symm] at ih'
          refine wp_x 9 hF rfl ?_
          exact ih'
  exact wp_x 6 hF rfl (loop 16 0 rfl)
theorem c_revWord (hF : FX mr) (hK : TK mi kd ru) (k : Q (some (.int (nI (msk (k2 kd))))) (mi, mr, sz)) : am_wp 104 0 (am_lo 104 [.ref 23]) [] (mi, mr, sz) Q := by
  have loop : ∀ d b, b + d = 16 → am_wp 104 4 [.ref 23, .int (nI (mskR (k2 kd) b)), .int (nI b)] [] (mi, mr, sz) Q := by
    intro d
    induction d with
    | zero =>
      intro b hb
      have hb' : b = 16 := by omega
      subst hb'
      refine wp_x 2 hF rfl ?_
      refine wp_ge2N 16 16 rfl rfl rfl (by omega) (by omega) (fun _ => ?_) (fun q => absurd q (by omega))
      refine wp_x 1 hF rfl ?_
      exact wp_re rfl rfl k
    | succ d ih =>
      intro b hb
      have ih' := ih (b + 1) (by omega)
      rw [mskR, ← nI_1] at ih'
      refine wp_x 2 hF rfl ?_
      refine wp_ge2N b 16 rfl rfl rfl (by omega) (by omega) (fun q => absurd q (by omega)) (fun hb16 => ?_)
      refine wp_x 3 hF rfl ?_
      refine wp_al b rfl rfl rfl (by decide) rfl hb16 ?_
      refine wp_x 1 hF rfl ?_
      refine wp_ne2 rfl (fun q => ?_) (fun q => ?_)
      · have hp : ¬ k2 kd b = true := by
          simp only [k2, beq_iff_eq]
          exact fun z => q ((hK.is hb16 (v := 2) (by omega)).mpr z)
        rw [if_neg hp, Nat.add_zero] at ih'
        refine wp_x 4 hF rfl ?_
        exact ih'
      · have hp : k2 kd b = true := by
          simp only [k2, beq_iff_eq]
          exact (hK.is hb16 (v := 2) (by omega)).mp q
        rw [if_pos hp] at ih'
        refine wp_x 9 hF rfl ?_
        have e : nI (mskR (k2 kd) b) ||| ((1 : Int32) <<< (nI b &&& 31)) = nI (mskR (k2 kd) b + 2 ^ b) := by
          have h1 : 1 * 2 ^ b < 2 ^ 32 := by rw [Nat.one_mul]; exact Nat.pow_lt_pow_right (by omega) (by omega)
          have h2 := shl_N (a := 1) (k := b) (by omega) h1
          rw [Nat.one_mul] at h2
          rw [show (1 : Int32) <<< (nI b &&& 31) = nI (2 ^ b) from h2, or_N, Nat.or_comm]
          have h3 := Nat.two_pow_add_eq_or_of_lt (mskR_lt (k2 kd) b) 1
          rw [Nat.mul_one] at h3
          rw [← h3, Nat.add_comm]
        rw [← e] at ih'
        exact ih'
  exact wp_x 4 hF rfl (loop 16 0 rfl)
theorem sub4 {m g : Nat} (h : 4 * g ≤ m) : nI m - (4 : Int32) * nI g = nI (m - 4 * g) := by rw [a40, pk_sub h]
theorem c_groupWord (hF : FX mr) (hK : TK mi kd ru) {g : Nat} (hg : 4 * g < cnt (k1 kd) 16) (k : Q (some (.int (nI (infW ru (((imgs (k1 kd)).drop (4 * g)).take 4))))) (mi, mr, sz)) : am_wp 105 0 (am_lo 105 [.ref 23, .int (nI g), .int (nI (cnt (k1 kd) 16))]) [] (mi, mr, sz) Q := by
  have hm16 := cnt_le (k1 kd) 16
  have hlen := imgs_len (k1 kd)
  obtain ⟨bs, hbs⟩ : ∃ z, z = ((imgs (k1 kd)).drop (4 * g)).take 4 := ⟨_, rfl⟩
  have hbl : bs.length = min 4 (cnt (k1 kd) 16 - 4 * g) := by rw [hbs]; simp [hlen]
  have hb4 : bs.length ≤ 4 := by omega
  rw [← hbs] at k
  have loop : ∀ d j (v6 v7 : Value), j + d = bs.length → am_wp 105 25 [.ref 23, .int (nI g), .int (nI (cnt (k1 kd) 16)), .int (nI bs.length), .int (nI (bs.length + infA ru 0 (bs.take j))), .int (nI j), v6, v7] [] (mi, mr, sz) Q := by
    intro d
    induction d with
    | zero =>
      intro j v6 v7 hj
      have hj' : j = bs.length := by omega
      refine wp_x 2 hF rfl ?_
      refine wp_ge2N j bs.length rfl rfl rfl (by omega) (by omega) (fun _ => ?_) (fun q => absurd q (by omega))
      rw [hj', List.take_length]
      refine wp_x 1 hF rfl ?_
      exact wp_re rfl rfl k
    | succ d ih =>
      intro j v6 v7 hj
      have hjl : j < bs.length := by omega
      obtain ⟨b, hb⟩ : ∃ z, bs[j]? = some z := ⟨_, List.getElem?_eq_getElem hjl⟩
      have hbD : (imgs (k1 kd)).getD (4 * g + j) 0 = b := by
        rw [hbs, List.getElem?_take, if_pos (by omega), List.getElem?_drop] at hb
        rw [List.getD_eq_getElem?_getD, hb]; rfl
      have hb16 : b < 16 := by
        have hm : b ∈ imgs (k1 kd) := by
          rw [hbs] at hb
          exact List.mem_of_mem_drop (List.mem_of_mem_take (List.mem_of_getElem? hb))
        exact (imgsN_lt hm).1
      have ih' := fun v6 v7 => ih (j + 1) v6 v7 (by omega)
      rw [take_succ_of hb, infA_snoc, ← nI_1] at ih'
      have hlt : (bs.take j).length = j := by simp; omega
      rw [hlt, Nat.zero_add] at ih'
      have hf : five ru b < 32 := by unfold five; split <;> omega
      have hp : five ru b * 2 ^ (3 + 5 * j) < 2 ^ 32 := by
        have h1 : 2 ^ (3 + 5 * j) ≤ 2 ^ 18 := Nat.pow_le_pow_right (by omega) (by omega)
        have h2 : five ru b * 2 ^ (3 + 5 * j) ≤ 31 * 2 ^ 18 := Nat.mul_le_mul (by omega) h1
        omega
      have e5 : (3 : Int32) + 5 * nI j = nI (3 + 5 * j) := by rw [show (5 : Int32) = nI 5 from rfl, show (3 : Int32) = nI 3 from rfl, pk_mul, nI_add]
      have esh : nI (five ru b) <<< (((3 : Int32) + 5 * nI j) &&& 31) = nI (five ru b * 2 ^ (3 + 5 * j)) := by
        rw [e5]; exact shl_N (by omega) hp
      refine wp_x 2 hF rfl ?_
      refine wp_ge2N j bs.length rfl rfl rfl (by omega) (by omega) (fun q => absurd q (by omega)) (fun _ => ?_)
      refine wp_x 6 hF rfl ?_
      show am_wp 105 38 _ [.int ((4 : Int32) * nI g + nI j), .ref 23] _ _
      rw [a4]
      refine wp_ca rfl rfl ?_
      refine c_imageBlock hF hK (by omega) ?_
      rw [hbD]
      refine wp_x 6 hF rfl ?_
      refine wp_al (4 * b) rfl rfl (a40 b) (by decide) rfl (show 4 * b < 64 by omega) ?_
      rw [hK.2 (4 * b) (by omega)]
      refine wp_x 1 hF rfl ?_
      have ihA := ih' (.int (nI b)) (.int (nI (five ru b)))
      rw [← Nat.add_assoc, ← nI_add (bs.length + infA ru 0 (List.take j bs)), ← esh] at ihA
      refine wp_ne2 rfl (fun q => ?_) (fun q => ?_)
      · refine wp_x 14 hF rfl ?_
        have hfv : five ru b = b := by unfold five; exact if_neg q
        rw [hfv] at ihA
        exact ihA
      · refine wp_x 17 hF rfl ?_
        have hfv : five ru b = b + 16 := by unfold five; exact if_pos q
        rw [hfv, ← nI_add b 16] at ihA
        exact ihA
  refine wp_x 6 hF rfl ?_
  have esub := sub4 (Nat.le_of_lt hg)
  refine wp_ge2N (cnt (k1 kd) 16 - 4 * g) 4 rfl esub rfl (by omega) (by omega) (fun q => ?_) (fun q => ?_)
  · have hb' : bs.length = 4 := by omega
    have := loop bs.length 0 (.long 0) (.long 0) (by omega)
    rw [hb'] at this
    exact wp_x 6 hF rfl this
  · have hb' : bs.length = cnt (k1 kd) 16 - 4 * g := by omega
    have := loop bs.length 0 (.long 0) (.long 0) (by omega)
    rw [hb', List.take_zero, infA, Nat.add_zero, ← esub] at this
    exact wp_x 11 hF rfl this
end TW3
end
section
/-! the rows of groups, by their places -/
theorem grp_len (ru : Nat → Int32) (nu : Int32) : ∀ (f : Nat) (bs : List Nat), bs.length ≤ 4 * f → (grp ru nu f bs).length = bs.length + (bs.length + 3) / 4
  | 0, bs, h => by
    have : bs = [] := List.length_eq_zero_iff.mp (by omega)
    subst this; rfl
  | f + 1, [], _ => by simp [grp]
  | f + 1, b :: r, h => by
    rw [grp, List.length_cons, List.length_append, List.length_map, grp_len ru nu f _ (by simp only [List.length_drop]; omega)]
    simp only [List.length_take, List.length_drop, List.length_cons] at h ⊢
    omega
theorem grp_at (ru : Nat → Int32) (nu : Int32) : ∀ (f : Nat) (bs : List Nat) (k : Nat), bs.length ≤ 4 * f → k < bs.length + (bs.length + 3) / 4 → (grp ru nu f bs)[k]? = some (if k % 5 = 0 then (MG, 1, nu, nI (infW ru ((bs.drop (4 * (k / 5))).take 4))) else imgW ru (bs.getD (k / 5 * 4 + k % 5 - 1) 0))
  | 0, bs, k, h, hk => by
    have : bs = [] := List.length_eq_zero_iff.mp (by omega)
    subst this
    simp at hk
  | f + 1, [], k, h, hk => by simp at hk
  | f + 1, b :: r, k, h, hk => by
    rw [grp]
    rcases Nat.lt_or_ge k 5 with h5 | h5
    · match k, h5, hk with
      | 0, _, _ => simp
      | k + 1, h5, hk =>
        have e1 : (k + 1) % 5 = k + 1 := Nat.mod_eq_of_lt h5
        have e2 : (k + 1) / 5 = 0 := Nat.div_eq_of_lt h5
        rw [e1, e2, if_neg (by omega), List.getElem?_cons_succ]
        have hkl : k < ((b :: r).take 4).length := by
          simp only [List.length_take, List.length_cons] at hk ⊢
          omega
        rw [List.getElem?_append_left (by rw [List.length_map]; exact hkl), List.getElem?_map, List.getElem?_take, if_pos (by omega)]
        have hk2 : k < (b :: r).length := by
          simp only [List.length_take] at hkl; omega
        rw [List.getElem?_eq_getElem hk2]
        simp only [Option.map_some, List.getD_eq_getElem?_getD]
        have : 0 * 4 + (k + 1) - 1 = k := by omega
        rw [this, List.getElem?_eq_getElem hk2]
        rfl
    · have hl4 : 4 < (b :: r).length := by omega
      have ht : ((b :: r).take 4).length = 4 := by simp only [List.length_take]; omega
      obtain ⟨k', rfl⟩ : ∃ k', k = k' + 5 := ⟨k - 5, by omega⟩
      rw [show k' + 5 = (k' + 4) + 1 from rfl, List.getElem?_cons_succ, List.getElem?_append_right (by rw [List.length_map, ht]; omega), List.length_map, ht, show k' + 4 - 4 = k' by omega]
      rw [grp_at ru nu f _ k' (by simp only [List.length_drop]; omega) (by simp only [List.length_drop]; omega)]
      have e1 : (k' + 4 + 1) % 5 = k' % 5 := by omega
      have e2 : (k' + 4 + 1) / 5 = k' / 5 + 1 := by omega
      rw [e1, e2, List.drop_drop]
      have e3 : 4 + 4 * (k' / 5) = 4 * (k' / 5 + 1) := by omega
      rw [e3]
      by_cases h0 : k' % 5 = 0
      · rw [if_pos h0, if_pos h0]
      · rw [if_neg h0, if_neg h0, List.getD_eq_getElem?_getD, List.getD_eq_getElem?_getD, List.getElem?_drop]
        congr 4
        omega
theorem rowW_len (kd : Nat → Nat) (ru : Nat → Int32) (nu : Int32) : (rowW kd ru nu).length + 1 = rlen kd := by
  have h := cnt_le (k1 kd) 16
  unfold rowW rlen
  rw [List.length_append, grp_len ru nu 5 _ (by rw [imgs_len]; omega), imgs_len]
  split <;> simp
theorem rlen_le (kd : Nat → Nat) (h : cnt (k1 kd) 16 ≤ 8) : rlen kd ≤ 12 := by
  unfold rlen; split <;> omega
section TW4
variable {mi : Nat → Nat → Int32} {mr : Nat → Nat → Nat} {sz : Nat} {Q : Option Value → am_H → Prop} {kd : Nat → Nat} {ru : Nat → Int32} {nu : Int32}
theorem c_rowLength (hF : FX mr) (hK : TK mi kd ru) (k : Q (some (.int (nI (rlen kd)))) (mi, mr, sz)) : am_wp 88 0 (am_lo 88 [.ref 23]) [] (mi, mr, sz) Q := by
  have h16 := cnt_le (k1 kd) 16
  have h16' := cnt_le (k2 kd) 16
  refine wp_x 2 hF rfl ?_
  refine wp_ca rfl rfl ?_
  refine c_countOf hF ?_
  rw [show (1 : Int32) = nI 1 from rfl, hK.cnt (by omega)]
  refine wp_x 10 hF rfl ?_
  refine wp_ca rfl rfl ?_
  refine c_countOf hF ?_
  rw [show (2 : Int32) = nI 2 from rfl, hK.cnt (by omega)]
  have e1 : nI (cnt (k1 kd) 16) + (nI (cnt (k1 kd) 16) + 3) / 4 = nI (cnt (k1 kd) 16 + (cnt (k1 kd) 16 + 3) / 4) := by
    rw [show (3 : Int32) = nI 3 from rfl, show (4 : Int32) = nI 4 from rfl, nI_add, pk_div (by omega) (by omega) (by omega), nI_add]
  unfold rlen anyk at k
  refine wp_le1 rfl (fun q => ?_) (fun q => ?_)
  · refine wp_x 4 hF rfl ?_
    have q0 : ¬ 0 < cnt (k2 kd) 16 := fun z => nI_nle z (by omega) q
    rw [if_neg (by simpa using q0), ← nI_1, Nat.add_zero, ← e1] at k
    have e2 : ∀ z : Int32, z + 0 + 1 = z + 1 := fun z => by rw [Int32.add_zero]
    rw [← e2] at k
    exact wp_re rfl rfl k
  · refine wp_x 5 hF rfl ?_
    have q0 : 0 < cnt (k2 kd) 16 := by
      rcases Nat.eq_zero_or_pos (cnt (k2 kd) 16) with z | z
      · exact absurd (show nI (cnt (k2 kd) 16) ≤ 0 by rw [z]; exact Int32.le_refl _) q
      · exact z
    rw [if_pos (by simpa using q0), ← nI_1, ← nI_1, ← e1] at k
    exact wp_re rfl rfl k
theorem c_body (hF : FX mr) (hK : TK mi kd ru) (hnu : mi 23 5 = nu) {i : Nat} {e : W4} (hi : (rowW kd ru nu)[i]? = some e) (k : ∀ mi' : Nat → Nat → Int32, (∀ a, ¬ a = 31 → mi' a = mi a) → ot mi' = e → Q none (mi', mr, sz)) : am_wp 103 0 (am_lo 103 [.ref 23, .int (nI i)]) [] (mi, mr, sz) Q := by
  have h16 := cnt_le (k1 kd) 16
  have hil : i < (rowW kd ru nu).length := (List.getElem?_eq_some_iff.mp hi).1
  have hrl := rowW_len kd ru nu
  have hgl : (grp ru nu 5 (imgs (k1 kd))).length = cnt (k1 kd) 16 + (cnt (k1 kd) 16 + 3) / 4 := by rw [grp_len ru nu 5 _ (by rw [imgs_len]; omega), imgs_len]
  have hr40 : rlen kd ≤ 22 := by unfold rlen; split <;> omega
  have e1 : nI (cnt (k1 kd) 16) + (nI (cnt (k1 kd) 16) + 3) / 4 = nI (cnt (k1 kd) 16 + (cnt (k1 kd) 16 + 3) / 4) := by
    rw [show (3 : Int32) = nI 3 from rfl, show (4 : Int32) = nI 4 from rfl, nI_add, pk_div (by omega) (by omega) (by omega), nI_add]
  refine wp_x 2 hF rfl ?_
  refine wp_ca rfl rfl ?_
  refine c_countOf hF ?_
  rw [show (1 : Int32) = nI 1 from rfl, hK.cnt (by omega)]
  refine wp_x 9 hF rfl ?_
  refine wp_lt2N i (cnt (k1 kd) 16 + (cnt (k1 kd) 16 + 3) / 4) rfl rfl e1 (by omega) (by omega) (fun q => ?_) (fun q => ?_)
  · have hg : (grp ru nu 5 (imgs (k1 kd)))[i]? = some e := by
      unfold rowW at hi
      rw [List.getElem?_append_left (by omega)] at hi
      exact hi
    rw [grp_at ru nu 5 _ i (by rw [imgs_len]; omega) (by rw [imgs_len]; exact q)] at hg
    have hg' := Option.some.inj hg
    refine wp_x 3 hF rfl ?_
    have er : nI i - nI i / 5 * 5 = nI (i % 5) := pk_rem (d := 5) (by omega) (by omega) (by omega)
    have ed : nI i / 5 = nI (i / 5) := pk_div (d := 5) (by omega) (by omega) (by omega)
    have h5 : i % 5 < 5 := Nat.mod_lt _ (by omega)
    refine wp_ne1 rfl (fun q2 => ?_) (fun q2 => ?_)
    · have h0 : ¬ i % 5 = 0 := fun z => q2 (by show nI i - nI i / 5 * 5 = 0; rw [er, z]; rfl)
      rw [if_neg h0] at hg'
      refine wp_x 12 hF rfl ?_
      have ei : nI i / 5 * 4 + (nI i - nI i / 5 * 5) - 1 = nI (i / 5 * 4 + i % 5 - 1) := by
        rw [er, ed, show (4 : Int32) = nI 4 from rfl, pk_mul, nI_add, show (1 : Int32) = nI 1 from rfl, pk_sub (by omega)]
      show am_wp 103 75 _ [.int (nI i / 5 * 4 + (nI i - nI i / 5 * 5) - 1), .ref 23] _ _
      rw [ei]
      refine wp_ca rfl rfl ?_
      refine c_imageBlock hF hK (by omega) ?_
      obtain ⟨b, hb⟩ : ∃ z, z = (imgs (k1 kd)).getD (i / 5 * 4 + i % 5 - 1) 0 := ⟨_, rfl⟩
      rw [← hb] at hg' ⊢
      have hb16 : b < 16 := by
        rw [hb, List.getD_eq_getElem?_getD]
        cases hz : (imgs (k1 kd))[i / 5 * 4 + i % 5 - 1]? with
        | none => simp
        | some z => exact (imgsN_lt (List.mem_of_getElem? hz)).1
      refine wp_x 7 hF rfl ?_
      refine wp_al (4 * b) rfl rfl (a40 b) (by decide) rfl (show 4 * b < 64 by omega) ?_
      refine wp_x 7 hF rfl ?_
      refine wp_al (4 * b + 1) rfl rfl (a4 b 1) (by decide) rfl (show 4 * b + 1 < 64 by omega) ?_
      refine wp_x 7 hF rfl ?_
      refine wp_al (4 * b + 2) rfl rfl (a4 b 2) (by decide) rfl (show 4 * b + 2 < 64 by omega) ?_
      refine wp_x 7 hF rfl ?_
      refine wp_al (4 * b + 3) rfl rfl (a4 b 3) (by decide) rfl (show 4 * b + 3 < 64 by omega) ?_
      rw [hK.2 (4 * b) (by omega), hK.2 (4 * b + 1) (by omega), hK.2 (4 * b + 2) (by omega), hK.2 (4 * b + 3) (by omega)]
      refine wp_ca rfl rfl ?_
      refine c_say hF ?_
      obtain ⟨m1, hm1⟩ : ∃ z, z = o4 mi (ru (4 * b), ru (4 * b + 1), ru (4 * b + 2), ru (4 * b + 3)) := ⟨_, rfl⟩
      have h31 := o4_31 mi (ru (4 * b), ru (4 * b + 1), ru (4 * b + 2), ru (4 * b + 3))
      have ho := fun a ha => o4_o mi (ru (4 * b), ru (4 * b + 1), ru (4 * b + 2), ru (4 * b + 3)) (a := a) ha
      rw [← hm1] at h31 ho ⊢
      obtain ⟨g0, g1, g2, g3⟩ := h31
      refine wp_x 6 hF rfl ?_
      refine wp_al 0 rfl rfl rfl (by decide) rfl (by decide) ?_
      rw [g0]
      refine wp_x 1 hF rfl ?_
      refine wp_ne2 rfl (fun q3 => ?_) (fun q3 => ?_)
      · refine wp_x 3 hF rfl ?_
        refine wp_al 0 rfl rfl rfl (by decide) rfl (by decide) ?_
        rw [g0]
        refine wp_as 0 rfl rfl rfl (by decide) rfl (by decide) ?_
        refine wp_re rfl rfl (k _ (fun a ha => by rw [sd_u2r _ _ _ _ ha]; exact ho a ha) ?_)
        rw [← hg']
        have e0 : (if ru (4 * b) = MG then 0 else ru (4 * b)) = ru (4 * b) := if_neg q3
        simp [ot, am_u2, imgW, g1, g2, g3, e0]
      · refine wp_x 2 hF rfl ?_
        refine wp_as 0 rfl rfl rfl (by decide) rfl (by decide) ?_
        refine wp_re rfl rfl (k _ (fun a ha => by rw [sd_u2r _ _ _ _ ha]; exact ho a ha) ?_)
        rw [← hg']
        have e0 : (if ru (4 * b) = MG then 0 else ru (4 * b)) = 0 := if_pos q3
        simp [ot, am_u2, imgW, g1, g2, g3, e0]
    · have h0 : i % 5 = 0 := by
        have z : nI (i % 5) = nI 0 := by rw [← er]; exact q2
        exact (nI_eq (by omega) (by omega)).mp z
      rw [if_pos h0] at hg'
      refine wp_x 10 hF rfl ?_
      show am_wp 103 54 _ [.int (nI (cnt (k1 kd) 16)), .int (nI i / 5), .ref 23, .int (mi 23 5), .int 1, .int 77001, .ref 23] _ _
      rw [ed]
      refine wp_ca rfl rfl ?_
      refine c_groupWord hF hK (by omega) ?_
      refine wp_ca rfl rfl ?_
      refine c_say hF ?_
      refine wp_x 1 hF rfl ?_
      refine wp_re rfl rfl (k _ (fun a ha => o4_o _ _ ha) ?_)
      rw [ot_o4, ← hg', hnu]
      rfl
  · have hr : anyk (k2 kd) = true ∧ e = (MG, 2, nu, nI (msk (k2 kd))) := by
      unfold rowW at hi
      rw [List.getElem?_append_right (by omega)] at hi
      split at hi
      · rename_i ha
        refine ⟨ha, ?_⟩
        have : i - (grp ru nu 5 (imgs (k1 kd))).length = 0 := by
          have := (List.getElem?_eq_some_iff.mp hi).1
          simp at this; omega
        rw [this] at hi
        exact (Option.some.inj hi).symm
      · simp at hi
    refine wp_x 6 hF rfl ?_
    refine wp_ca rfl rfl ?_
    refine c_revWord hF hK ?_
    refine wp_ca rfl rfl ?_
    refine c_say hF ?_
    refine wp_x 1 hF rfl ?_
    refine wp_re rfl rfl (k _ (fun a ha => o4_o _ _ ha) ?_)
    rw [ot_o4, hr.2]
    show ((77001 : Int32), (2 : Int32), mi 23 5, nI (msk (k2 kd))) = _
    rw [hnu]
    rfl
theorem c_sum (hF : FX mr) (hK : TK mi kd ru) (hnu : mi 23 5 = nu) {n : Nat} (hn : n ≤ (rowW kd ru nu).length) (k : ∀ mi' : Nat → Nat → Int32, (∀ a, ¬ a = 31 → mi' a = mi a) → Q (some (.int (((rowW kd ru nu).take n).foldl mix4 nu))) (mi', mr, sz)) : am_wp 107 0 (am_lo 107 [.ref 23, .int (nI n)]) [] (mi, mr, sz) Q := by
  have h16 := cnt_le (k1 kd) 16
  have hrl := rowW_len kd ru nu
  have hr40 : rlen kd ≤ 22 := by unfold rlen; split <;> omega
  have one : ∀ (m1 : Nat → Nat → Int32) (i : Nat) (y : Int32) (j : Nat), j < 4 → am_wp 107 20 [.ref 23, .int (nI n), .int (mixf y (m1 31 j)), .int (nI i), .int (nI (j + 1))] [] (m1, mr, sz) Q → am_wp 107 20 [.ref 23, .int (nI n), .int y, .int (nI i), .int (nI j)] [] (m1, mr, sz) Q := by
    intro m1 i y j hj kk
    refine wp_x 2 hF rfl ?_
    refine wp_ge2N j 4 rfl rfl rfl (by omega) (by omega) (fun q => absurd q (by omega)) (fun _ => ?_)
    refine wp_x 4 hF rfl ?_
    refine wp_al j rfl rfl rfl (by decide) rfl (show j < 4 from hj) ?_
    refine wp_ca rfl rfl ?_
    refine c_mixT hF ?_
    refine wp_x 3 hF rfl ?_
    rw [← nI_1] at kk
    exact kk
  have loop : ∀ d i (m1 : Nat → Nat → Int32) (v : Value), i + d = n → (∀ a, ¬ a = 31 → m1 a = mi a) → am_wp 107 7 [.ref 23, .int (nI n), .int (((rowW kd ru nu).take i).foldl mix4 nu), .int (nI i), v] [] (m1, mr, sz) Q := by
    intro d
    induction d with
    | zero =>
      intro i m1 v hi h1
      have hi' : i = n := by omega
      subst hi'
      refine wp_x 2 hF rfl ?_
      refine wp_ge2N i i rfl rfl rfl (by omega) (by omega) (fun _ => ?_) (fun q => absurd q (by omega))
      refine wp_x 1 hF rfl ?_
      exact wp_re rfl rfl (k m1 h1)
    | succ d ih =>
      intro i m1 v hi h1
      obtain ⟨e, he⟩ : ∃ z, (rowW kd ru nu)[i]? = some z := ⟨_, List.getElem?_eq_getElem (by omega)⟩
      have hK1 : TK m1 kd ru := ⟨fun b hb => by rw [h1 27 (by decide)]; exact hK.1 b hb, fun j hj => by rw [h1 28 (by decide)]; exact hK.2 j hj⟩
      refine wp_x 2 hF rfl ?_
      refine wp_ge2N i n rfl rfl rfl (by omega) (by omega) (fun q => absurd q (by omega)) (fun _ => ?_)
      refine wp_x 2 hF rfl ?_
      refine wp_ca rfl rfl ?_
      refine c_body hF hK1 (nu := nu) (by rw [h1 23 (by decide)]; exact hnu) he (fun m2 hm2 hot => ?_)
      refine wp_x 2 hF rfl ?_
      refine one m2 i _ 0 (by omega) (one m2 i _ 1 (by omega) (one m2 i _ 2 (by omega) (one m2 i _ 3 (by omega) ?_)))
      refine wp_x 2 hF rfl ?_
      refine wp_ge2N 4 4 rfl rfl rfl (by omega) (by omega) (fun _ => ?_) (fun q => absurd q (by omega))
      refine wp_x 2 hF rfl ?_
      have ih' := ih (i + 1) m2 (.int (nI 4)) (by omega) (fun a ha => by rw [hm2 a ha]; exact h1 a ha)
      rw [take_succ_of he, List.foldl_append, ← nI_1] at ih'
      simp only [List.foldl_cons, List.foldl_nil] at ih'
      rw [← hot] at ih'
      exact ih'
  refine wp_x 5 hF rfl ?_
  show am_wp 107 7 [.ref 23, .int (nI n), .int (mi 23 5), .int 0, .long 0] _ _ _
  rw [hnu]
  exact loop n 0 mi (.long 0) (by omega) (fun _ _ => rfl)
end TW4
end
section
/-! THE TWIN reads the log -/
def lgT (dk : Nat → Int32) (ca : List En) (p : Nat) : Nat → W4 := fun k => rd4 dk ca (17 + (p + k) % 24)
/-- the head: its mark, and a place in the log -/
def HG (dk : Nat → Int32) (ca : List En) (p : Nat) (f : Int32) : Prop := rdS dk ca 16 0 = MG ∧ p < 24 ∧ rdS dk ca 16 2 = nI p ∧ rdS dk ca 16 1 = f
theorem and7 (x : Int32) : (x &&& 7).toNatClampNeg < 8 ∧ x &&& 7 = nI (x &&& 7).toNatClampNeg := by
  obtain ⟨j, hj, e⟩ := pk_andE x (m := 7) 3 rfl
  rw [e, nI_clamp (by omega)]
  exact ⟨hj, rfl⟩
def isrF (lg : Nat → W4) (z : Nat) : Nat → Nat → Bool
  | 0, k => decide (k = z)
  | f + 1, k => if k < z ∧ (lg k).2.1 = 1 then isrF lg z f (k + 1 + ((lg k).2.2.2 &&& 7).toNatClampNeg) else decide (k = z)
section TW5
variable {mi : Nat → Nat → Int32} {mr : Nat → Nat → Nat} {sz : Nat} {Q : Option Value → am_H → Prop} {dk : Nat → Int32} {ca : List En} {p : Nat}
theorem c_findHead {f : Int32} (hF : FX mr) (hD : TD mi dk ca) (hH : HG dk ca p f) (k : Q none (am_u2 (am_u2 mi 23 17 (nI p)) 23 18 f, mr, sz)) : am_wp 94 0 (am_lo 94 [.ref 23]) [] (mi, mr, sz) Q := by
  obtain ⟨h0, hp, h2, h1⟩ := hH
  refine wp_x 3 hF rfl ?_
  refine wp_ca rfl rfl ?_
  refine c_readT (i := 16) (j := 0) hF hD (by omega) (by omega) ?_
  rw [h0]
  refine wp_x 1 hF rfl ?_
  refine wp_ne2 rfl (fun q => absurd rfl q) (fun _ => ?_)
  refine wp_x 3 hF rfl ?_
  refine wp_ca rfl rfl ?_
  refine c_readT (i := 16) (j := 2) hF hD (by omega) (by omega) ?_
  rw [h2]
  refine wp_lt1 rfl (fun q => absurd q (nI_nn (by omega))) (fun _ => ?_)
  refine wp_x 3 hF rfl ?_
  refine wp_ca rfl rfl ?_
  refine c_readT (i := 16) (j := 2) hF hD (by omega) (by omega) ?_
  rw [h2]
  refine wp_x 1 hF rfl ?_
  refine wp_gt2N p 23 rfl rfl rfl (by omega) (by omega) (fun q => absurd q (by omega)) (fun _ => ?_)
  refine wp_x 5 hF rfl ?_
  refine wp_eq1 rfl (fun q => absurd q (by decide)) (fun _ => ?_)
  refine wp_x 3 hF rfl ?_
  refine wp_ca rfl rfl ?_
  refine c_readT (i := 16) (j := 2) hF hD (by omega) (by omega) ?_
  rw [h2]
  refine wp_x 4 hF rfl ?_
  refine wp_eq1 rfl (fun q => absurd q (by decide)) (fun _ => ?_)
  have hD2 : TD (am_u2 mi 23 17 (nI p)) dk ca := by
    obtain ⟨a1, a2, a3, a4⟩ := hD
    refine ⟨fun j hj => by rw [sd_u2r _ _ _ _ (by decide)]; exact a1 j hj, by rw [sd_u2k _ _ _ _ (by decide)]; exact a2, a3, ?_⟩
    have : twc (am_u2 mi 23 17 (nI p)) ca.length = twc mi ca.length := by simp only [twc]; congr 1
    rw [this]; exact a4
  refine wp_x 3 hF rfl ?_
  refine wp_ca rfl rfl ?_
  refine c_readT (i := 16) (j := 1) hF hD2 (by omega) (by omega) ?_
  rw [h1]
  refine wp_x 2 hF rfl ?_
  exact wp_re rfl rfl k
theorem c_validAt (hF : FX mr) (hD : TD mi dk ca) (hp : mi 23 17 = nI p) (hp24 : p < 24) {b : Nat} {q : Int32} (hb : b ≤ 24) (k : Q (some (.int (nI (match tx (lgT dk ca p) q 25 b q true 0 with | some r => r.1 - b | none => 0)))) (mi, mr, sz)) : am_wp 95 0 (am_lo 95 [.ref 23, .int (nI b), .int q]) [] (mi, mr, sz) Q := by
  obtain ⟨lg, hlg⟩ : ∃ z, z = lgT dk ca p := ⟨_, rfl⟩
  rw [← hlg] at k
  have e0 : ∀ i, rdS dk ca (17 + (p + i) % 24) 0 = (lg i).1 := fun i => by rw [hlg]; rfl
  have e1 : ∀ i, rdS dk ca (17 + (p + i) % 24) 1 = (lg i).2.1 := fun i => by rw [hlg]; rfl
  have e2 : ∀ i, rdS dk ca (17 + (p + i) % 24) 2 = (lg i).2.2.1 := fun i => by rw [hlg]; rfl
  have e3 : ∀ i, rdS dk ca (17 + (p + i) % 24) 3 = (lg i).2.2.2 := fun i => by rw [hlg]; rfl
  have e4 : ∀ i, rd4 dk ca (17 + (p + i) % 24) = lg i := fun i => by rw [hlg]; rfl
  have loop : ∀ f i (h : Int32) (g : Bool) (lt : Int32) (v6 v7 v8 v9 v10 : Value), 25 ≤ i + f → b ≤ i → i ≤ 24 → (Q (some (.int (nI (match tx lg q f i h g lt with | some r => r.1 - b | none => 0)))) (mi, mr, sz)) → am_wp 95 8 [.ref 23, .int (nI b), .int q, .int h, .int (nI i), .int (if g = true then 1 else 0), v6, v7, v8, v9, v10] [] (mi, mr, sz) Q := by
    intro f
    induction f with
    | zero => intro i h g lt v6 v7 v8 v9 v10 h1 h2 h3; omega
    | succ f ih =>
      intro i h g lt v6 v7 v8 v9 v10 hf hbi hi24 kq
      rw [tx] at kq
      have none_ : Q (some (.int (nI 0))) (mi, mr, sz) → am_wp 95 201 [.ref 23, .int (nI b), .int q, .int h, .int (nI i), .int (if g = true then 1 else 0), v6, v7, v8, v9, v10] [] (mi, mr, sz) Q := fun kz => wp_x 1 hF rfl (wp_re rfl rfl kz)
      refine wp_x 2 hF rfl ?_
      refine wp_ge2N i 24 rfl rfl rfl (by omega) (by omega) (fun q1 => ?_) (fun q1 => ?_)
      · rw [if_pos q1] at kq
        exact none_ kq
      rw [if_neg (by omega)] at kq
      refine wp_x 3 hF rfl ?_
      refine wp_ca rfl rfl ?_
      refine c_logWord (k := i) (j := 0) hF hD hp hp24 (by omega) (by omega) ?_
      rw [e0]
      refine wp_x 1 hF rfl ?_
      refine wp_ne2 rfl (fun q2 => ?_) (fun q2 => ?_)
      · rw [if_pos (fun z => q2 z.1)] at kq
        exact none_ kq
      refine wp_x 3 hF rfl ?_
      refine wp_ca rfl rfl ?_
      refine c_logWord (k := i) (j := 2) hF hD hp hp24 (by omega) (by omega) ?_
      rw [e2]
      refine wp_x 1 hF rfl ?_
      refine wp_ne2 rfl (fun q3 => ?_) (fun q3 => ?_)
      · rw [if_pos (fun z => q3 z.2)] at kq
        exact none_ kq
      rw [if_neg (fun z => z ⟨q2, q3⟩)] at kq
      refine wp_x 3 hF rfl ?_
      refine wp_ca rfl rfl ?_
      refine c_logWord (k := i) (j := 1) hF hD hp hp24 (by omega) (by omega) ?_
      rw [e1]
      refine wp_x 4 hF rfl ?_
      refine wp_ca rfl rfl ?_
      refine c_logWord (k := i) (j := 3) hF hD hp hp24 (by omega) (by omega) ?_
      rw [e3]
      obtain ⟨hc8, hcn⟩ := and7 (lg i).2.2.2
      obtain ⟨cN, hcN⟩ : ∃ z, z = ((lg i).2.2.2 &&& 7).toNatClampNeg := ⟨_, rfl⟩
      rw [← hcN] at kq hc8 hcn
      refine wp_x 5 hF rfl ?_
      show am_wp 95 62 [.ref 23, .int (nI b), .int q, .int h, .int (nI i), .int (if g = true then 1 else 0), .int (lg i).2.1, .int ((lg i).2.2.2 &&& 7), v8, v9, v10] [.int 3, .int (lg i).2.1] (mi, mr, sz) Q
      rw [hcn]
      refine wp_ne2 rfl (fun q4 => ?_) (fun q4 => ?_)
      · rw [if_neg q4] at kq
        -- no seal
        have mixs : ∀ (n d j : Nat) (x : Int32) (w8 : Value), j + d = n → n ≤ 5 → (am_wp 95 187 [.ref 23, .int (nI b), .int q, .int ((List.range n).foldl (fun x j => mix4 x (lg (i + j))) h), .int (nI i), .int (if g = true then 1 else 0), .int (lg i).2.1, .int (nI cN), w8, .int (nI n), .int (nI n)] [] (mi, mr, sz) Q) → x = (List.range j).foldl (fun x j => mix4 x (lg (i + j))) h → am_wp 95 163 [.ref 23, .int (nI b), .int q, .int x, .int (nI i), .int (if g = true then 1 else 0), .int (lg i).2.1, .int (nI cN), w8, .int (nI n), .int (nI j)] [] (mi, mr, sz) Q := by
          intro n d
          induction d with
          | zero =>
            intro j x w8 hj hn5 kk hx
            have hj' : j = n := by omega
            subst hj'; subst hx
            refine wp_x 2 hF rfl ?_
            refine wp_ge2N j j rfl rfl rfl (by omega) (by omega) (fun _ => ?_) (fun q => absurd q (by omega))
            exact kk
          | succ d ihd =>
            intro j x w8 hj hn5 kk hx
            refine wp_x 2 hF rfl ?_
            refine wp_ge2N j n rfl rfl rfl (by omega) (by omega) (fun q => absurd q (by omega)) (fun _ => ?_)
            refine wp_x 5 hF rfl ?_
            show am_wp 95 177 _ [.int (nI i + nI j), .int x, .ref 23] _ _
            rw [nI_add]
            refine wp_ca rfl rfl ?_
            refine c_mixSector (k := i + j) hF hD hp hp24 (by omega) ?_
            rw [e4]
            refine wp_x 3 hF rfl ?_
            have := ihd (j + 1) (mix4 x (lg (i + j))) w8 (by omega) hn5 kk (by rw [List.range_succ, List.foldl_append, ← hx]; rfl)
            rw [← nI_1] at this
            exact this
        -- the two ways on
        have grpT : (lg i).2.1 = 1 → g = true → 1 ≤ cN → cN ≤ 4 → i + cN < 24 → am_wp 95 145 [.ref 23, .int (nI b), .int q, .int h, .int (nI i), .int (if g = true then 1 else 0), .int (lg i).2.1, .int (nI cN), .int 1, v9, v10] [] (mi, mr, sz) Q := by
          intro g1 g2 g3 g4 g5
          rw [if_pos ⟨g1, g2, g3, g4⟩, if_neg (by omega)] at kq
          refine wp_x 1 hF rfl ?_
          refine wp_eq1 rfl (fun z => absurd z (by decide)) (fun _ => ?_)
          refine wp_x 7 hF rfl ?_
          show am_wp 95 163 [.ref 23, .int (nI b), .int q, .int h, .int (nI i), .int (if g = true then 1 else 0), .int (lg i).2.1, .int (nI cN), .int 1, .int ((1 : Int32) + nI cN), .int 0] _ _ _
          rw [show (1 : Int32) = nI 1 from rfl, nI_add]
          refine mixs (1 + cN) (1 + cN) 0 h (.int (nI 1)) (by omega) (by omega) ?_ rfl
          refine wp_x 7 hF rfl ?_
          show am_wp 95 8 [.ref 23, .int (nI b), .int q, .int _, .int (nI i + nI (1 + cN)), .int (nI 1), .int (lg i).2.1, .int (nI cN), .int (nI 1), .int (nI (1 + cN)), .int (nI (1 + cN))] _ _ _
          rw [nI_add]
          have := ih (i + (1 + cN)) ((List.range (1 + cN)).foldl (fun x j => mix4 x (lg (i + j))) h) true lt (.int (lg i).2.1) (.int (nI cN)) (.int (nI 1)) (.int (nI (1 + cN))) (.int (nI (1 + cN))) (by omega) (by omega) (by omega) (by rw [show i + (1 + cN) = i + 1 + cN by omega]; exact kq)
          exact this
        have notG : ¬ ((lg i).2.1 = 1 ∧ g = true ∧ 1 ≤ cN ∧ cN ≤ 4 ∧ i + cN < 24) → am_wp 95 132 [.ref 23, .int (nI b), .int q, .int h, .int (nI i), .int (if g = true then 1 else 0), .int (lg i).2.1, .int (nI cN), .int 0, v9, v10] [] (mi, mr, sz) Q := by
          intro hng
          refine wp_x 2 hF rfl ?_
          refine wp_ne2 rfl (fun q5 => ?_) (fun q5 => ?_)
          · refine wp_x 1 hF rfl ?_
            refine wp_re rfl rfl ?_
            have : (match (if (lg i).2.1 = 1 ∧ g = true ∧ 1 ≤ cN ∧ cN ≤ 4 then (if 24 ≤ i + cN then none else tx lg q f (i + 1 + cN) ((List.range (1 + cN)).foldl (fun x j => mix4 x (lg (i + j))) h) true lt) else if (lg i).2.1 = 2 ∧ g = true then tx lg q f (i + 1) (mix4 h (lg i)) false (lg i).2.2.2 else none) with | some r => r.1 - b | none => 0) = 0 := by
              by_cases z : (lg i).2.1 = 1 ∧ g = true ∧ 1 ≤ cN ∧ cN ≤ 4
              · rw [if_pos z, if_pos (by
                  rcases Nat.lt_or_ge (i + cN) 24 with y | y
                  · exact absurd ⟨z.1, z.2.1, z.2.2.1, z.2.2.2, y⟩ hng
                  · exact y)]
              · rw [if_neg z, if_neg (fun y => q5 y.1)]
            rw [this] at kq
            exact kq
          · have n1 : ¬ ((lg i).2.1 = 1 ∧ g = true ∧ 1 ≤ cN ∧ cN ≤ 4) := fun z => by
              rw [z.1] at q5; exact absurd q5 (by decide)
            rw [if_neg n1] at kq
            refine wp_x 1 hF rfl ?_
            cases hg : g with
            | false =>
              refine wp_ne1 rfl (fun z => absurd rfl z) (fun _ => ?_)
              refine wp_x 1 hF rfl ?_
              rw [if_neg (fun y => by rw [hg] at y; exact absurd y.2 (by decide))] at kq
              exact wp_re rfl rfl kq
            | true =>
              refine wp_ne1 rfl (fun _ => ?_) (fun z => absurd z (by decide))
              rw [if_pos ⟨q5, hg⟩] at kq
              refine wp_x 1 hF rfl ?_
              refine wp_eq1 rfl (fun _ => ?_) (fun z => absurd rfl z)
              refine wp_x 4 hF rfl ?_
              have mm := mixs 1 1 0 h (.int 0) (by omega) (by omega) ?_ rfl
              · rw [hg] at mm
                exact mm
              · refine wp_x 7 hF rfl ?_
                show am_wp 95 8 [.ref 23, .int (nI b), .int q, .int (mix4 h (lg (i + 0))), .int (nI i + nI 1), .int 0, .int (lg i).2.1, .int (nI cN), .int 0, .int (nI 1), .int (nI 1)] _ _ _
                rw [nI_add, Nat.add_zero]
                exact ih (i + 1) (mix4 h (lg i)) false (lg i).2.2.2 (.int (lg i).2.1) (.int (nI cN)) (.int 0) (.int (nI 1)) (.int (nI 1)) (by omega) (by omega) (by omega) kq
        have toF : ¬ ((lg i).2.1 = 1 ∧ g = true ∧ 1 ≤ cN ∧ cN ≤ 4 ∧ i + cN < 24) → am_wp 95 124 [.ref 23, .int (nI b), .int q, .int h, .int (nI i), .int (if g = true then 1 else 0), .int (lg i).2.1, .int (nI cN), v8, v9, v10] [] (mi, mr, sz) Q := by
          intro hng
          refine wp_x 3 hF rfl ?_
          refine wp_ne1 rfl (fun z => absurd rfl z) (fun _ => ?_)
          exact notG hng
        refine wp_x 2 hF rfl ?_
        refine wp_ne2 rfl (fun q5 => ?_) (fun q5 => ?_)
        · exact toF (fun z => q5 z.1)
        refine wp_x 1 hF rfl ?_
        refine wp_eq1 rfl (fun q6 => ?_) (fun q6 => ?_)
        · refine toF (fun z => ?_)
          rw [if_pos z.2.1] at q6
          exact absurd q6 (by decide)
        have hg : g = true := by
          cases g with
          | true => rfl
          | false => exact absurd rfl q6
        refine wp_x 2 hF rfl ?_
        refine wp_lt2N cN 1 rfl rfl rfl (by omega) (by omega) (fun q7 => ?_) (fun q7 => ?_)
        · exact toF (fun z => by omega)
        refine wp_x 2 hF rfl ?_
        refine wp_gt2N cN 4 rfl rfl rfl (by omega) (by omega) (fun q8 => ?_) (fun q8 => ?_)
        · exact toF (fun z => by omega)
        refine wp_x 4 hF rfl ?_
        refine wp_ge2N (i + cN) 24 rfl (nI_add i cN) rfl (by omega) (by omega) (fun q9 => ?_) (fun q9 => ?_)
        · exact toF (fun z => by omega)
        refine wp_x 4 hF rfl ?_
        refine wp_ne1 rfl (fun _ => ?_) (fun z => absurd z (by decide))
        exact grpT q5 hg q7 q8 q9
      · rw [if_pos q4] at kq
        refine wp_x 3 hF rfl ?_
        refine wp_ca rfl rfl ?_
        refine c_logWord (k := i) (j := 3) hF hD hp hp24 (by omega) (by omega) ?_
        rw [e3]
        refine wp_x 1 hF rfl ?_
        refine wp_ne2 rfl (fun q5 => ?_) (fun q5 => ?_)
        · rw [if_neg q5] at kq
          refine wp_x 1 hF rfl ?_
          exact wp_re rfl rfl kq
        · rw [if_pos q5] at kq
          refine wp_x 6 hF rfl ?_
          have e9 : nI i + 1 - nI b = nI (i + 1 - b) := by rw [nI_1, pk_sub (by omega)]
          rw [← e9] at kq
          exact wp_re rfl rfl kq
  refine wp_x 6 hF rfl ?_
  exact loop 25 b q true 0 (.long 0) (.long 0) (.long 0) (.long 0) (.long 0) (by omega) (by omega) hb k
theorem c_isRev (hF : FX mr) (hD : TD mi dk ca) (hp : mi 23 17 = nI p) (hp24 : p < 24) {b z : Nat} (hb : b < 30) (hz : z < 30) (k : Q (some (.int (if isrF (lgT dk ca p) z 30 b = true then 1 else 0))) (mi, mr, sz)) : am_wp 99 0 (am_lo 99 [.ref 23, .int (nI b), .int (nI z)]) [] (mi, mr, sz) Q := by
  obtain ⟨lg, hlg⟩ : ∃ z, z = lgT dk ca p := ⟨_, rfl⟩
  rw [← hlg] at k
  have e1 : ∀ i, rdS dk ca (17 + (p + i) % 24) 1 = (lg i).2.1 := fun i => by rw [hlg]; rfl
  have e3 : ∀ i, rdS dk ca (17 + (p + i) % 24) 3 = (lg i).2.2.2 := fun i => by rw [hlg]; rfl
  have loop : ∀ f i, z < i + f → i < 40 → (Q (some (.int (if isrF lg z f i = true then 1 else 0))) (mi, mr, sz)) → am_wp 99 2 [.ref 23, .int (nI b), .int (nI z), .int (nI i)] [] (mi, mr, sz) Q := by
    intro f
    induction f with
    | zero =>
      intro i h1 h2 kq
      rw [isrF] at kq
      have end_ : am_wp 99 34 [.ref 23, .int (nI b), .int (nI z), .int (nI i)] [] (mi, mr, sz) Q := by
        refine wp_x 2 hF rfl ?_
        refine wp_ne2N i z rfl rfl rfl (by omega) (by omega) (fun q => ?_) (fun q => ?_)
        · refine wp_x 1 hF rfl ?_
          rw [decide_eq_false q] at kq
          exact wp_re rfl rfl kq
        · refine wp_x 2 hF rfl ?_
          rw [decide_eq_true q] at kq
          exact wp_re rfl rfl kq
      refine wp_x 2 hF rfl ?_
      refine wp_ge2N i z rfl rfl rfl (by omega) (by omega) (fun _ => end_) (fun q => absurd q (by omega))
    | succ f ih =>
      intro i h1 h2 kq
      rw [isrF] at kq
      have end_ : ¬ (i < z ∧ (lg i).2.1 = 1) → am_wp 99 34 [.ref 23, .int (nI b), .int (nI z), .int (nI i)] [] (mi, mr, sz) Q := by
        intro hn
        rw [if_neg hn] at kq
        refine wp_x 2 hF rfl ?_
        refine wp_ne2N i z rfl rfl rfl (by omega) (by omega) (fun q => ?_) (fun q => ?_)
        · refine wp_x 1 hF rfl ?_
          rw [decide_eq_false q] at kq
          exact wp_re rfl rfl kq
        · refine wp_x 2 hF rfl ?_
          rw [decide_eq_true q] at kq
          exact wp_re rfl rfl kq
      refine wp_x 2 hF rfl ?_
      refine wp_ge2N i z rfl rfl rfl (by omega) (by omega) (fun q => end_ (by omega)) (fun q1 => ?_)
      refine wp_x 3 hF rfl ?_
      refine wp_ca rfl rfl ?_
      refine c_logWord (k := i) (j := 1) hF hD hp hp24 (by omega) (by omega) ?_
      rw [e1]
      refine wp_x 1 hF rfl ?_
      refine wp_ne2 rfl (fun q2 => end_ (fun z => q2 z.2)) (fun q2 => ?_)
      rw [if_pos (show i < z ∧ (lg i).2.1 = 1 from ⟨q1, q2⟩)] at kq
      refine wp_x 6 hF rfl ?_
      refine wp_ca rfl rfl ?_
      refine c_logWord (k := i) (j := 3) hF hD hp hp24 (by omega) (by omega) ?_
      rw [e3]
      obtain ⟨hc8, hcn⟩ := and7 (lg i).2.2.2
      refine wp_x 5 hF rfl ?_
      show am_wp 99 2 [.ref 23, .int (nI b), .int (nI z), .int (nI i + 1 + ((lg i).2.2.2 &&& 7))] _ _ _
      rw [hcn, nI_1, nI_add]
      exact ih _ (by omega) (by omega) kq
  refine wp_x 2 hF rfl ?_
  exact loop 30 b (by omega) (by omega) k
end TW5
end
section
/-! THE TWIN: which valid transactions revoke what -/
theorem tx_has (lg : Nat → W4) (q : Int32) {k' : Nat} {lt : Int32} : ∀ (f k : Nat) (h : Int32), tx lg q f k h true 0 = some (k', lt) → k + 1 ≤ k' ∧ k' ≤ 24 ∧ ((lt = 0 ∧ (k' = k + 1 ∨ (k + 3 ≤ k' ∧ ∀ fz, isrF lg (k' - 2) fz k = false))) ∨ (k + 2 ≤ k' ∧ (lg (k' - 2)).1 = MG ∧ (lg (k' - 2)).2.1 = 2 ∧ (lg (k' - 2)).2.2.1 = q ∧ lt = (lg (k' - 2)).2.2.2 ∧ ∀ fz, k' ≤ k + fz → isrF lg (k' - 2) fz k = true))
  | 0, k, h, e => by simp [tx] at e
  | f + 1, k, h, e => by
    rw [tx] at e
    by_cases c1 : 24 ≤ k
    · rw [if_pos c1] at e; cases e
    rw [if_neg c1] at e
    by_cases c2 : ¬ ((lg k).1 = MG ∧ (lg k).2.2.1 = q)
    · rw [if_pos c2] at e; cases e
    rw [if_neg c2] at e
    have c2' := Decidable.not_not.mp c2
    by_cases c3 : (lg k).2.1 = 3
    · rw [if_pos c3] at e
      by_cases c4 : (lg k).2.2.2 = h
      · rw [if_pos c4] at e
        simp only [Option.some.injEq, Prod.mk.injEq] at e
        obtain ⟨rfl, rfl⟩ := e
        exact ⟨by omega, by omega, Or.inl ⟨rfl, Or.inl rfl⟩⟩
      · rw [if_neg c4] at e; cases e
    rw [if_neg c3] at e
    by_cases c5 : (lg k).2.1 = 1 ∧ true = true ∧ 1 ≤ ((lg k).2.2.2 &&& 7).toNatClampNeg ∧ ((lg k).2.2.2 &&& 7).toNatClampNeg ≤ 4
    · rw [if_pos c5] at e
      by_cases c6 : 24 ≤ k + ((lg k).2.2.2 &&& 7).toNatClampNeg
      · rw [if_pos c6] at e; cases e
      rw [if_neg c6] at e
      obtain ⟨h1, h2, h3⟩ := tx_has lg q f _ _ e
      have hc := c5.2.2.1
      refine ⟨by omega, h2, ?_⟩
      have kind := c5.1
      rcases h3 with ⟨hl, h3⟩ | ⟨g1, g2, g3, g4, g5, g6⟩
      · refine Or.inl ⟨hl, Or.inr ⟨by omega, fun fz => ?_⟩⟩
        cases fz with
        | zero => rw [isrF]; exact decide_eq_false (by omega)
        | succ fz =>
          rw [isrF, if_pos ⟨by omega, kind⟩]
          rcases h3 with h3 | ⟨h3, h4⟩
          · cases fz with
            | zero => rw [isrF]; exact decide_eq_false (by omega)
            | succ fz => rw [isrF, if_neg (by omega)]; exact decide_eq_false (by omega)
          · exact h4 fz
      · refine Or.inr ⟨by omega, g2, g3, g4, g5, fun fz hfz => ?_⟩
        cases fz with
        | zero => omega
        | succ fz =>
          rw [isrF, if_pos ⟨by omega, kind⟩]
          exact g6 fz (by omega)
    rw [if_neg c5] at e
    by_cases c7 : (lg k).2.1 = 2 ∧ true = true
    · rw [if_pos c7] at e
      -- behind a revocation only the seal may come
      cases f with
      | zero => simp [tx] at e
      | succ f =>
        rw [tx] at e
        by_cases d1 : 24 ≤ k + 1
        · rw [if_pos d1] at e; cases e
        rw [if_neg d1] at e
        by_cases d2 : ¬ ((lg (k + 1)).1 = MG ∧ (lg (k + 1)).2.2.1 = q)
        · rw [if_pos d2] at e; cases e
        rw [if_neg d2] at e
        by_cases d3 : (lg (k + 1)).2.1 = 3
        · rw [if_pos d3] at e
          by_cases d4 : (lg (k + 1)).2.2.2 = mix4 h (lg k)
          · rw [if_pos d4] at e
            simp only [Option.some.injEq, Prod.mk.injEq] at e
            obtain ⟨rfl, rfl⟩ := e
            have e2 : k + 1 + 1 - 2 = k := by omega
            refine ⟨by omega, by omega, Or.inr ⟨by omega, ?_⟩⟩
            rw [e2]
            refine ⟨c2'.1, c7.1, c2'.2, rfl, fun fz _ => ?_⟩
            cases fz with
            | zero => rw [isrF]; exact decide_eq_true rfl
            | succ fz => rw [isrF, if_neg (by omega)]; exact decide_eq_true rfl
          · rw [if_neg d4] at e; cases e
        rw [if_neg d3, if_neg (by simp), if_neg (by simp)] at e
        cases e
    rw [if_neg c7] at e
    cases e
theorem tx_gt {lg : Nat → W4} {q : Int32} {k : Nat} {k' : Nat} {lt : Int32} (e : tx lg q 25 k q true 0 = some (k', lt)) : k + 1 ≤ k' ∧ k' ≤ 24 := ⟨(tx_has lg q _ _ _ e).1, (tx_has lg q _ _ _ e).2.1⟩
theorem bt_0 (b : Nat) (hb : b < 32) : bt 0 b = false := (by decide +kernel : ∀ b, b < 32 → bt 0 b = false) b hb
theorem bt_1 (x : Int32) (b : Nat) : (x >>> (nI b &&& 31)) &&& 1 = 1 ↔ bt x b = true := by
  unfold bt
  rcases and1_or (x >>> (nI b &&& 31)) with q | q
  · rw [q]; simp
  · rw [q]; simp
/-- the twin's scratch: what is worked out -/
def TS (mi mi' : Nat → Nat → Int32) : Prop := ∀ a k, ¬ a = 31 → ¬ a = 32 → ¬ a = 33 → ¬ (a = 23 ∧ 16 ≤ k ∧ k ≤ 20) → mi' a k = mi a k
theorem TS.rfl' {mi : Nat → Nat → Int32} : TS mi mi := fun _ _ _ _ _ _ => rfl
theorem TS.trans {m1 m2 m3 : Nat → Nat → Int32} (h1 : TS m1 m2) (h2 : TS m2 m3) : TS m1 m3 := fun a k a1 a2 a3 a4 => (h2 a k a1 a2 a3 a4).trans (h1 a k a1 a2 a3 a4)
theorem TS.row {mi mi' : Nat → Nat → Int32} (h : TS mi mi') {a : Nat} (h1 : ¬ a = 31) (h2 : ¬ a = 32) (h3 : ¬ a = 33) (h4 : ¬ a = 23) : mi' a = mi a := funext fun k => h a k h1 h2 h3 (fun q => h4 q.1)
theorem TD.fr {mi mi' : Nat → Nat → Int32} {dk : Nat → Int32} {ca : List En} (h : TS mi mi') (hD : TD mi dk ca) : TD mi' dk ca := by
  obtain ⟨a1, a2, a3, a4⟩ := hD
  refine ⟨fun j hj => by rw [h.row (by decide) (by decide) (by decide) (by decide)]; exact a1 j hj, by rw [h 23 1 (by decide) (by decide) (by decide) (by omega)]; exact a2, a3, ?_⟩
  have : twc mi' ca.length = twc mi ca.length := by
    simp only [twc]; congr 1; funext z
    simp only [twe, h.row (a := 25) (by decide) (by decide) (by decide) (by decide), h.row (a := 26) (by decide) (by decide) (by decide) (by decide)]
  rw [this]; exact a4
def RVb (mi : Nat → Nat → Int32) (b : Nat) (o : Option Int32) : Prop := (mi 33 b = if o.isSome = true then 1 else 0) ∧ ∀ z, o = some z → mi 32 b = z
def RV (mi : Nat → Nat → Int32) (rv : Nat → Option Int32) : Prop := ∀ b, b < 16 → RVb mi b (rv b)
section TW6
variable {mi : Nat → Nat → Int32} {mr : Nat → Nat → Nat} {sz : Nat} {Q : Option Value → am_H → Prop} {dk : Nat → Int32} {ca : List En} {p : Nat}
set_option maxHeartbeats 1000000 in
theorem c_findRev {f0 : Int32} (hF : FX mr) (hD : TD mi dk ca) (hH : HG dk ca p f0) (k : ∀ mi' : Nat → Nat → Int32, TS mi mi' → mi' 31 = mi 31 → mi' 23 16 = mi 23 16 → mi' 23 17 = nI p → mi' 23 18 = f0 → mi' 23 19 = (sc (lgT dk ca p) 25 f0 0 (fun _ => none)).2.1 → mi' 23 20 = nI (sc (lgT dk ca p) 25 f0 0 (fun _ => none)).1 → RV mi' (sc (lgT dk ca p) 25 f0 0 (fun _ => none)).2.2 → (sc (lgT dk ca p) 25 f0 0 (fun _ => none)).1 ≤ 24 → Q none (mi', mr, sz)) : am_wp 93 0 (am_lo 93 [.ref 23]) [] (mi, mr, sz) Q := by
  have hp24 := hH.2.1
  obtain ⟨lg, hlg⟩ : ∃ z, z = lgT dk ca p := ⟨_, rfl⟩
  rw [← hlg] at k
  have e0 : ∀ i, rdS dk ca (17 + (p + i) % 24) 0 = (lg i).1 := fun i => by rw [hlg]; rfl
  have e1 : ∀ i, rdS dk ca (17 + (p + i) % 24) 1 = (lg i).2.1 := fun i => by rw [hlg]; rfl
  have e2 : ∀ i, rdS dk ca (17 + (p + i) % 24) 2 = (lg i).2.2.1 := fun i => by rw [hlg]; rfl
  have e3 : ∀ i, rdS dk ca (17 + (p + i) % 24) 3 = (lg i).2.2.2 := fun i => by rw [hlg]; rfl
  -- the world at the loop's head
  have loop : ∀ f i (q : Int32) (rv : Nat → Option Int32) (m1 : Nat → Nat → Int32) (n : Nat) (v2 v3 v4 : Value), 25 ≤ i + f → i ≤ 24 → TS mi m1 → m1 31 = mi 31 → m1 23 16 = mi 23 16 → m1 23 17 = nI p → m1 23 18 = f0 → m1 23 19 = q → m1 23 20 = nI i → RV m1 rv → n = (match tx lg q 25 i q true 0 with | some r => r.1 - i | none => 0) →
      sc lg f q i rv = sc lg 25 f0 0 (fun _ => none) → am_wp 93 48 [.ref 23, .int (nI n), v2, v3, v4] [] (m1, mr, sz) Q := by
    intro f
    induction f with
    | zero => intro i q rv m1 n v2 v3 v4 h1 h2; omega
    | succ f ih =>
      intro i q rv m1 n v2 v3 v4 hf hi24 hTS h31 h16 h17 h18 h19 h20 hRV hn hsc
      have hD1 := hD.fr hTS
      rw [sc] at hsc
      refine wp_x 1 hF rfl ?_
      cases ht : tx lg q 25 i q true 0 with
      | none =>
        rw [ht] at hsc hn
        have hn0 : n = 0 := hn
        subst hn0
        refine wp_le1 rfl (fun _ => ?_) (fun z => absurd (Int32.le_refl _) z)
        have hsc' : (i, q, rv) = sc lg 25 f0 0 (fun _ => none) := hsc
        refine wp_re rfl rfl (k m1 hTS h31 h16 h17 h18 ?_ ?_ ?_ ?_)
        · rw [← hsc']; exact h19
        · rw [← hsc']; exact h20
        · rw [← hsc']; exact hRV
        · rw [← hsc']; exact hi24
      | some r =>
        obtain ⟨k', lt⟩ := r
        rw [ht] at hsc hn
        have hn' : n = k' - i := hn
        have hsc' : sc lg f (q + 1) k' (fun b => if bt lt b = true then some q else rv b) = sc lg 25 f0 0 (fun _ => none) := hsc
        obtain ⟨g1, g2, g3⟩ := tx_has lg q _ _ _ ht
        refine wp_le1 rfl (fun z => absurd z (nI_nle (by omega) (by omega))) (fun _ => ?_)
        refine wp_x 9 hF rfl ?_
        have elast : m1 23 20 + nI n - 2 = nI (i + n) - nI 2 := by rw [h20, nI_add]; rfl
        -- the rest, whatever 'has' is
        have rest : ∀ (m2 : Nat → Nat → Int32) (w2 w3 w4 : Value), TS mi m2 → m2 31 = mi 31 → m2 23 16 = mi 23 16 → m2 23 17 = nI p → m2 23 18 = f0 → m2 23 19 = q → m2 23 20 = nI i → RV m2 (fun b => if bt lt b = true then some q else rv b) → am_wp 93 172 [.ref 23, .int (nI n), w2, w3, w4] [] (m2, mr, sz) Q := by
          intro m2 w2 w3 w4 a1 a31 a16 a17 a18 a19 a20 aRV
          refine wp_x 17 hF rfl ?_
          obtain ⟨m3, hm3⟩ : ∃ z, z = am_u2 (am_u2 m2 23 20 (m2 23 20 + nI n)) 23 19 (am_u2 m2 23 20 (m2 23 20 + nI n) 23 19 + 1) := ⟨_, rfl⟩
          have ek : i + n = k' := by omega
          have c20 : m3 23 20 = nI k' := by rw [hm3, sd_u2k _ _ _ _ (by decide), sd_u2s, a20, nI_add, ek]
          have c19 : m3 23 19 = q + 1 := by rw [hm3, sd_u2s, sd_u2k _ _ _ _ (by decide), a19]
          have co : ∀ a k, ¬ (a = 23 ∧ k = 19) → ¬ (a = 23 ∧ k = 20) → m3 a k = m2 a k := by
            intro a k z1 z2
            rw [hm3]; simp only [am_u2]; rw [if_neg z1, if_neg z2]
          show am_wp 93 201 [.ref 23, .int (nI n), w2, w3, w4] [.int (am_u2 (am_u2 m2 23 20 (m2 23 20 + nI n)) 23 19 (am_u2 m2 23 20 (m2 23 20 + nI n) 23 19 + 1) 23 19), .int (am_u2 (am_u2 m2 23 20 (m2 23 20 + nI n)) 23 19 (am_u2 m2 23 20 (m2 23 20 + nI n) 23 19 + 1) 23 20), .ref 23] (am_u2 (am_u2 m2 23 20 (m2 23 20 + nI n)) 23 19 (am_u2 m2 23 20 (m2 23 20 + nI n) 23 19 + 1), mr, sz) Q
          rw [← hm3, c19, c20]
          have hTS3 : TS mi m3 := fun a k z1 z2 z3 z4 => by
            rw [co a k (by omega) (by omega)]; exact a1 a k z1 z2 z3 z4
          refine wp_ca rfl rfl ?_
          refine c_validAt hF (hD.fr hTS3) (p := p) (by rw [co 23 17 (by omega) (by omega)]; exact a17) hp24 (b := k') (q := q + 1) g2 ?_
          rw [← hlg]
          refine wp_x 2 hF rfl ?_
          have r31 : m3 31 = mi 31 := by rw [show m3 31 = m2 31 from funext fun k => co 31 k (by omega) (by omega)]; exact a31
          have r33 : m3 33 = m2 33 := funext fun k => co 33 k (by omega) (by omega)
          have r32 : m3 32 = m2 32 := funext fun k => co 32 k (by omega) (by omega)
          exact ih k' (q + 1) _ m3 _ w2 w3 w4 (by omega) g2 hTS3 r31 (by rw [co 23 16 (by omega) (by omega)]; exact a16) (by rw [co 23 17 (by omega) (by omega)]; exact a17) (by rw [co 23 18 (by omega) (by omega)]; exact a18) c19 c20 (fun b hb => by unfold RVb; rw [r33, r32]; exact aRV b hb) rfl hsc'
        -- has is false
        have hasF : ∀ (w2 : Value), lt = 0 → am_wp 93 116 [.ref 23, .int (nI n), w2, v3, v4] [] (m1, mr, sz) Q := by
          intro w2 hlt
          refine wp_x 4 hF rfl ?_
          refine wp_x 2 hF rfl ?_
          refine wp_ge2N 0 16 rfl rfl rfl (by omega) (by omega) (fun z => absurd z (by omega)) (fun _ => ?_)
          refine wp_x 1 hF rfl ?_
          refine wp_eq1 rfl (fun _ => ?_) (fun z => absurd rfl z)
          refine rest m1 w2 (.int 0) (.int (nI 0)) hTS h31 h16 h17 h18 h19 h20 (fun b hb => ?_)
          show RVb m1 b (if bt lt b = true then some q else rv b)
          rw [hlt, bt_0 b (by omega), if_neg (by decide)]
          exact hRV b hb
        -- has is true
        have hasT : ∀ (z : Nat), z < 24 → lt = (lg z).2.2.2 → am_wp 93 112 [.ref 23, .int (nI n), .int (nI z), v3, v4] [] (m1, mr, sz) Q := by
          intro z hz hlt
          have bl : ∀ d b (m2 : Nat → Nat → Int32), b + d = 16 → TS mi m2 → m2 31 = mi 31 → m2 23 16 = mi 23 16 → m2 23 17 = nI p → m2 23 18 = f0 → m2 23 19 = q → m2 23 20 = nI i → RV m2 (fun j => if j < b ∧ bt lt j = true then some q else rv j) → am_wp 93 121 [.ref 23, .int (nI n), .int (nI z), .int 1, .int (nI b)] [] (m2, mr, sz) Q := by
            intro d
            induction d with
            | zero =>
              intro b m2 hb a1 a31 a16 a17 a18 a19 a20 aRV
              have hb' : b = 16 := by omega
              subst hb'
              refine wp_x 2 hF rfl ?_
              refine wp_ge2N 16 16 rfl rfl rfl (by omega) (by omega) (fun _ => ?_) (fun z => absurd z (by omega))
              refine rest m2 _ _ _ a1 a31 a16 a17 a18 a19 a20 (fun b hb => ?_)
              have h9 : RVb m2 b (if b < 16 ∧ bt lt b = true then some q else rv b) := aRV b hb
              show RVb m2 b (if bt lt b = true then some q else rv b)
              simp only [hb, true_and] at h9
              exact h9
            | succ d ihd =>
              intro b m2 hb a1 a31 a16 a17 a18 a19 a20 aRV
              have hb16 : b < 16 := by omega
              refine wp_x 2 hF rfl ?_
              refine wp_ge2N b 16 rfl rfl rfl (by omega) (by omega) (fun z => absurd z (by omega)) (fun _ => ?_)
              refine wp_x 1 hF rfl ?_
              refine wp_eq1 rfl (fun y => absurd y (by decide)) (fun _ => ?_)
              refine wp_x 3 hF rfl ?_
              refine wp_ca rfl rfl ?_
              refine c_logWord (k := z) (j := 3) hF (hD.fr a1) a17 hp24 (by omega) (by omega) ?_
              rw [e3, ← hlt]
              refine wp_x 5 hF rfl ?_
              refine wp_ne2 rfl (fun y => ?_) (fun y => ?_)
              · have hbt : ¬ bt lt b = true := fun w => y ((bt_1 lt b).mpr w)
                refine wp_x 2 hF rfl ?_
                have := ihd (b + 1) m2 (by omega) a1 a31 a16 a17 a18 a19 a20 (fun j hj => by
                  have h9 : RVb m2 j (if j < b ∧ bt lt j = true then some q else rv j) := aRV j hj
                  show RVb m2 j (if j < b + 1 ∧ bt lt j = true then some q else rv j)
                  by_cases hjb : j = b
                  · subst hjb
                    rw [if_neg (fun w => hbt w.2)]
                    rw [if_neg (fun w => hbt w.2)] at h9
                    exact h9
                  · have e9 : (j < b + 1) = (j < b) := propext ⟨fun _ => by omega, fun _ => by omega⟩
                    simp only [e9]
                    exact h9)
                rw [← nI_1] at this
                exact this
              · have hbt : bt lt b = true := (bt_1 lt b).mp y
                refine wp_x 4 hF rfl ?_
                refine wp_bs b rfl rfl rfl (by decide) rfl hb16 (Or.inr rfl) ?_
                refine wp_x 5 hF rfl ?_
                refine wp_as b rfl rfl rfl (by decide) rfl hb16 ?_
                refine wp_x 2 hF rfl ?_
                have a19' : am_u2 m2 33 b 1 23 19 = q := by rw [sd_u2r _ _ _ _ (by decide)]; exact a19
                have := ihd (b + 1) (am_u2 (am_u2 m2 33 b 1) 32 b (am_u2 m2 33 b 1 23 19)) (by omega) (fun a k z1 z2 z3 z4 => by
                  rw [show am_u2 (am_u2 m2 33 b 1) 32 b (am_u2 m2 33 b 1 23 19) a k = m2 a k by rw [sd_u2r _ _ _ _ z2, sd_u2r _ _ _ _ z3]]
                  exact a1 a k z1 z2 z3 z4) (by rw [sd_u2r _ _ _ _ (by decide), sd_u2r _ _ _ _ (by decide)]; exact a31) (by rw [sd_u2r _ _ _ _ (by decide), sd_u2r _ _ _ _ (by decide)]; exact a16) (by rw [sd_u2r _ _ _ _ (by decide), sd_u2r _ _ _ _ (by decide)]; exact a17) (by rw [sd_u2r _ _ _ _ (by decide), sd_u2r _ _ _ _ (by decide)]; exact a18) (by rw [sd_u2r _ _ _ _ (by decide), sd_u2r _ _ _ _ (by decide)]; exact a19) (by rw [sd_u2r _ _ _ _ (by decide), sd_u2r _ _ _ _ (by decide)]; exact a20) (fun j hj => by
                    have h9 : RVb m2 j (if j < b ∧ bt lt j = true then some q else rv j) := aRV j hj
                    show RVb _ j (if j < b + 1 ∧ bt lt j = true then some q else rv j)
                    by_cases hjb : j = b
                    · subst hjb
                      rw [if_pos ⟨by omega, hbt⟩]
                      refine ⟨?_, fun w hw => ?_⟩
                      · rw [sd_u2r _ _ _ _ (by decide), sd_u2s]; rfl
                      · cases hw
                        rw [sd_u2s]; exact a19'
                    · have e9 : (j < b + 1) = (j < b) := propext ⟨fun _ => by omega, fun _ => by omega⟩
                      simp only [e9]
                      unfold RVb
                      rw [sd_u2r _ 32 _ _ (show ¬ 33 = 32 by decide), sd_u2k _ _ _ _ hjb, sd_u2k _ _ _ _ hjb, sd_u2r _ 33 _ _ (show ¬ 32 = 33 by decide)]
                      exact h9)
                rw [← nI_1] at this
                exact this
          refine wp_x 5 hF rfl ?_
          refine bl 16 0 m1 rfl hTS h31 h16 h17 h18 h19 h20 (fun j hj => ?_)
          show RVb m1 j (if j < 0 ∧ bt lt j = true then some q else rv j)
          rw [if_neg (by omega)]
          exact hRV j hj
        show am_wp 93 63 [.ref 23, .int (nI n), .int (m1 23 20 + nI n - 2), v3, v4] [.int 1, .int (nI n)] (m1, mr, sz) Q
        rw [elast]
        refine wp_le2N n 1 rfl rfl rfl (by omega) (by omega) (fun y => ?_) (fun y => ?_)
        · refine hasF _ ?_
          rcases g3 with ⟨w, -⟩ | ⟨w, -⟩
          · exact w
          · omega
        have ez : nI (i + n) - nI 2 = nI (k' - 2) := by rw [pk_sub (by omega)]; congr 1; omega
        rw [ez]
        rcases g3 with ⟨hl0, hx⟩ | ⟨w1, w2, w3, w4, w5, w6⟩
        · -- no revocation: one of the tests fails
          have hx' : i + 3 ≤ k' ∧ ∀ fz, isrF lg (k' - 2) fz i = false := by
            rcases hx with hx | hx
            · omega
            · exact hx
          refine wp_x 3 hF rfl ?_
          refine wp_ca rfl rfl ?_
          refine c_logWord (k := k' - 2) (j := 0) hF hD1 h17 hp24 (by omega) (by omega) ?_
          refine wp_x 1 hF rfl ?_
          refine wp_ne2 rfl (fun _ => hasF _ hl0) (fun _ => ?_)
          refine wp_x 3 hF rfl ?_
          refine wp_ca rfl rfl ?_
          refine c_logWord (k := k' - 2) (j := 1) hF hD1 h17 hp24 (by omega) (by omega) ?_
          refine wp_x 1 hF rfl ?_
          refine wp_ne2 rfl (fun _ => hasF _ hl0) (fun _ => ?_)
          refine wp_x 3 hF rfl ?_
          refine wp_ca rfl rfl ?_
          refine c_logWord (k := k' - 2) (j := 2) hF hD1 h17 hp24 (by omega) (by omega) ?_
          refine wp_x 2 hF rfl ?_
          refine wp_ne2 rfl (fun _ => hasF _ hl0) (fun _ => ?_)
          refine wp_x 4 hF rfl ?_
          show am_wp 93 106 _ [.int (nI (k' - 2)), .int (m1 23 20), .ref 23] _ _
          rw [h20]
          refine wp_ca rfl rfl ?_
          refine c_isRev hF hD1 h17 hp24 (by omega) (by omega) ?_
          rw [← hlg, hx'.2 30]
          refine wp_eq1 rfl (fun _ => hasF _ hl0) (fun y => absurd rfl y)
        · refine wp_x 3 hF rfl ?_
          refine wp_ca rfl rfl ?_
          refine c_logWord (k := k' - 2) (j := 0) hF hD1 h17 hp24 (by omega) (by omega) ?_
          rw [e0, w2]
          refine wp_x 1 hF rfl ?_
          refine wp_ne2 rfl (fun y => absurd rfl y) (fun _ => ?_)
          refine wp_x 3 hF rfl ?_
          refine wp_ca rfl rfl ?_
          refine c_logWord (k := k' - 2) (j := 1) hF hD1 h17 hp24 (by omega) (by omega) ?_
          rw [e1, w3]
          refine wp_x 1 hF rfl ?_
          refine wp_ne2 rfl (fun y => absurd rfl y) (fun _ => ?_)
          refine wp_x 3 hF rfl ?_
          refine wp_ca rfl rfl ?_
          refine c_logWord (k := k' - 2) (j := 2) hF hD1 h17 hp24 (by omega) (by omega) ?_
          rw [e2, w4]
          refine wp_x 2 hF rfl ?_
          refine wp_ne2 rfl (fun y => absurd h19.symm y) (fun _ => ?_)
          refine wp_x 4 hF rfl ?_
          show am_wp 93 106 _ [.int (nI (k' - 2)), .int (m1 23 20), .ref 23] _ _
          rw [h20]
          refine wp_ca rfl rfl ?_
          refine c_isRev hF hD1 h17 hp24 (by omega) (by omega) ?_
          rw [← hlg, w6 30 (by omega)]
          refine wp_eq1 rfl (fun y => absurd y (by decide)) (fun _ => ?_)
          exact hasT (k' - 2) (by omega) w5
  -- the beginning
  refine wp_x 1 hF rfl ?_
  refine wp_ca rfl rfl ?_
  refine c_findHead hF hD hH ?_
  obtain ⟨m0, hm0⟩ : ∃ z, z = am_u2 (am_u2 mi 23 17 (nI p)) 23 18 f0 := ⟨_, rfl⟩
  have co : ∀ a k, ¬ (a = 23 ∧ k = 17) → ¬ (a = 23 ∧ k = 18) → m0 a k = mi a k := by
    intro a k z1 z2
    rw [hm0]; simp only [am_u2]; rw [if_neg z2, if_neg z1]
  have c17 : m0 23 17 = nI p := by rw [hm0, sd_u2k _ _ _ _ (by decide), sd_u2s]
  have c18 : m0 23 18 = f0 := by rw [hm0, sd_u2s]
  rw [← hm0]
  have zl : ∀ d b (m2 : Nat → Nat → Int32), b + d = 16 → (∀ a, ¬ a = 33 → m2 a = m0 a) → (∀ j, j < b → m2 33 j = 0) → am_wp 93 6 [.ref 23, .int (nI b), .long 0, .long 0, .long 0] [] (m2, mr, sz) Q := by
    intro d
    induction d with
    | zero =>
      intro b m2 hb h1 h2
      have hb' : b = 16 := by omega
      subst hb'
      refine wp_x 2 hF rfl ?_
      refine wp_ge2N 16 16 rfl rfl rfl (by omega) (by omega) (fun _ => ?_) (fun z => absurd z (by omega))
      refine wp_x 11 hF rfl ?_
      obtain ⟨m3, hm3⟩ : ∃ z, z = am_u2 (am_u2 m2 23 20 0) 23 19 (am_u2 m2 23 20 0 23 18) := ⟨_, rfl⟩
      have d20 : m3 23 20 = 0 := by rw [hm3, sd_u2k _ _ _ _ (by decide), sd_u2s]
      have d19 : m3 23 19 = f0 := by rw [hm3, sd_u2s, sd_u2k _ _ _ _ (by decide), h1 23 (by decide), c18]
      have co3 : ∀ a k, ¬ (a = 23 ∧ k = 19) → ¬ (a = 23 ∧ k = 20) → m3 a k = m2 a k := by
        intro a k z1 z2
        rw [hm3]; simp only [am_u2]; rw [if_neg z1, if_neg z2]
      show am_wp 93 44 [.ref 23, .int (nI 16), .long 0, .long 0, .long 0] [.int (am_u2 (am_u2 m2 23 20 0) 23 19 (am_u2 m2 23 20 0 23 18) 23 19), .int 0, .ref 23] (am_u2 (am_u2 m2 23 20 0) 23 19 (am_u2 m2 23 20 0 23 18), mr, sz) Q
      rw [← hm3, d19]
      have hTS3 : TS mi m3 := fun a k z1 z2 z3 z4 => by
        rw [co3 a k (by omega) (by omega), h1 a z3, co a k (by omega) (by omega)]
      have d17 : m3 23 17 = nI p := by rw [co3 23 17 (by omega) (by omega), h1 23 (by decide)]; exact c17
      refine wp_ca rfl rfl ?_
      refine c_validAt hF (hD.fr hTS3) (p := p) d17 hp24 (b := 0) (q := f0) (by omega) ?_
      rw [← hlg]
      refine wp_x 1 hF rfl ?_
      have r31 : m3 31 = mi 31 := by
        rw [show m3 31 = m2 31 from funext fun k => co3 31 k (by omega) (by omega), h1 31 (by decide)]
        exact funext fun k => co 31 k (by omega) (by omega)
      have r33 : m3 33 = m2 33 := funext fun k => co3 33 k (by omega) (by omega)
      exact loop 25 0 f0 (fun _ => none) m3 _ (.long 0) (.long 0) (.long 0) (by omega) (by omega) hTS3 r31 (by rw [co3 23 16 (by omega) (by omega), h1 23 (by decide)]; exact co 23 16 (by omega) (by omega)) d17 (by rw [co3 23 18 (by omega) (by omega), h1 23 (by decide)]; exact c18) d19 d20 (fun b hb => ⟨by rw [r33]; exact h2 b hb, fun z hz => by cases hz⟩) rfl rfl
    | succ d ihd =>
      intro b m2 hb h1 h2
      have hb16 : b < 16 := by omega
      refine wp_x 2 hF rfl ?_
      refine wp_ge2N b 16 rfl rfl rfl (by omega) (by omega) (fun z => absurd z (by omega)) (fun _ => ?_)
      refine wp_x 4 hF rfl ?_
      refine wp_bs b rfl rfl rfl (by decide) rfl hb16 (Or.inl rfl) ?_
      refine wp_x 2 hF rfl ?_
      have := ihd (b + 1) (am_u2 m2 33 b 0) (by omega) (fun a ha => by rw [sd_u2r _ _ _ _ ha]; exact h1 a ha) (fun j hj => by
        by_cases hjb : j = b
        · subst hjb; rw [sd_u2s]
        · rw [sd_u2k _ _ _ _ hjb]; exact h2 j (by omega))
      rw [← nI_1] at this
      exact this
  refine wp_x 2 hF rfl ?_
  exact zl 16 0 m0 rfl (fun _ _ => rfl) (fun j hj => by omega)
end TW6
end
section
/-! THE TWIN: the images to replay -/
theorem and15 (x : Int32) : (x &&& 15).toNatClampNeg < 16 ∧ x &&& 15 = nI (x &&& 15).toNatClampNeg := by
  obtain ⟨j, hj, e⟩ := pk_andE x (m := 15) 4 rfl
  rw [e, nI_clamp (by omega)]
  exact ⟨hj, rfl⟩
theorem rpg_succ (lg : Nat → W4) (rv : Nat → Option Int32) (q inf : Int32) (k j : Nat) : rpg lg rv q inf k (List.range (j + 1)) = rpg lg rv q inf k (List.range j) ++ if rvd rv (imb inf j) q = true then [] else [(nI (imb inf j), im4 lg inf k j)] := by
  simp only [rpg, List.range_succ, List.filter_append, List.map_append]
  cases h : rvd rv (imb inf j) q <;> simp [h]
theorem rpg_len (lg : Nat → W4) (rv : Nat → Option Int32) (q inf : Int32) (k j : Nat) : (rpg lg rv q inf k (List.range j)).length ≤ j := by
  simp only [rpg, List.length_map]
  exact Nat.le_trans (List.length_filter_le _ _) (by simp)
theorem rp_len (lg : Nat → W4) (rv : Nat → Option Int32) (n : Nat) : ∀ (f k : Nat) (q : Int32), (rp lg rv n f k q).length ≤ if n ≤ k then 0 else n - k + 6
  | 0, k, q => by simp [rp]
  | f + 1, k, q => by
    rw [rp]
    by_cases h : n ≤ k
    · rw [if_pos h, if_pos h]; simp
    · rw [if_neg h, if_neg h]
      have h7 := (and7 (lg k).2.2.2).1
      by_cases h1 : (lg k).2.1 = 1
      · rw [if_pos h1, List.length_append]
        have a1 := rpg_len lg rv q (lg k).2.2.2 k ((lg k).2.2.2 &&& 7).toNatClampNeg
        have a2 := rp_len lg rv n f (k + 1 + ((lg k).2.2.2 &&& 7).toNatClampNeg) q
        split at a2 <;> omega
      · rw [if_neg h1]
        have a2 := rp_len lg rv n f (k + 1) (if (lg k).2.1 = 3 then q + 1 else q)
        by_cases h3 : n ≤ k + 1
        · rw [if_pos h3] at a2; omega
        · rw [if_neg h3] at a2; omega
theorem get_snoc_lt {α : Type} {l : List α} {a e : α} {w : Nat} (h : (l ++ [a])[w]? = some e) : l[w]? = some e ∨ (w = l.length ∧ a = e) := by
  rw [List.getElem?_append] at h
  split at h
  · exact Or.inl h
  · rename_i hw
    right
    have h1 := (List.getElem?_eq_some_iff.mp h).1
    have h0 : w - l.length = 0 := by simp at h1; omega
    rw [h0] at h
    exact ⟨by omega, Option.some.inj h⟩
section TW7
variable {mi : Nat → Nat → Int32} {mr : Nat → Nat → Nat} {sz : Nat} {Q : Option Value → am_H → Prop} {dk : Nat → Int32} {ca : List En} {p : Nat}
/-- what the cells hold of the wanted image -/
def WT (mi : Nat → Nat → Int32) (W : Option Nat) (acc : List En) : Prop := ∀ w e, W = some w → acc[w]? = some e → ot mi = e.2 ∧ mi 23 16 = e.1
set_option maxHeartbeats 1000000 in
theorem c_replay {f0 want : Int32} {W : Option Nat} (hw : ∀ n, n < 1000 → (nI n = want ↔ W = some n)) (hF : FX mr) (hD : TD mi dk ca) (hH : HG dk ca p f0) (kq : ∀ mi' : Nat → Nat → Int32, TS mi mi' → WT mi' W (rcI (lgT dk ca p) f0) → Q (some (.int (nI (rcI (lgT dk ca p) f0).length))) (mi', mr, sz)) : am_wp 92 0 (am_lo 92 [.ref 23, .int want]) [] (mi, mr, sz) Q := by
  have hp24 := hH.2.1
  refine wp_x 1 hF rfl ?_
  refine wp_ca rfl rfl ?_
  refine c_findRev hF hD hH (fun m0 hTS0 _ _ z17 z18 _ z20 zRV zn => ?_)
  unfold rcI at kq
  obtain ⟨lg, hlg⟩ : ∃ z, z = lgT dk ca p := ⟨_, rfl⟩
  rw [← hlg] at kq z20 zRV zn
  obtain ⟨rv, hrv⟩ : ∃ z, z = (sc lg 25 f0 0 (fun _ => none)).2.2 := ⟨_, rfl⟩
  obtain ⟨n, hn⟩ : ∃ z, z = (sc lg 25 f0 0 (fun _ => none)).1 := ⟨_, rfl⟩
  rw [← hrv, ← hn] at kq
  rw [← hrv] at zRV
  rw [← hn] at z20 zn
  have e0 : ∀ i, rdS dk ca (17 + (p + i) % 24) 0 = (lg i).1 := fun i => by rw [hlg]; rfl
  have e1 : ∀ i, rdS dk ca (17 + (p + i) % 24) 1 = (lg i).2.1 := fun i => by rw [hlg]; rfl
  have e2 : ∀ i, rdS dk ca (17 + (p + i) % 24) 2 = (lg i).2.2.1 := fun i => by rw [hlg]; rfl
  have e3 : ∀ i, rdS dk ca (17 + (p + i) % 24) 3 = (lg i).2.2.2 := fun i => by rw [hlg]; rfl
  have outer : ∀ f i (q : Int32) (acc : List En) (m1 : Nat → Nat → Int32) (v5 v6 v7 v8 : Value), n ≤ i + f → i < 40 → acc.length ≤ 7 * i → TS mi m1 → m1 23 17 = nI p → m1 23 20 = nI n → RV m1 rv → WT m1 W acc → acc ++ rp lg rv n f i q = rp lg rv n 25 0 f0 → am_wp 92 14 [.ref 23, .int want, .int (nI acc.length), .int (nI i), .int q, v5, v6, v7, v8] [] (m1, mr, sz) Q := by
    intro f
    induction f with
    | zero =>
      intro i q acc m1 v5 v6 v7 v8 h1 h2 h3 hTS h17 h20 hRV hWT hall
      rw [rp, List.append_nil] at hall
      refine wp_x 3 hF rfl ?_
      refine wp_ge2N i n rfl rfl h20 (by omega) (by omega) (fun _ => ?_) (fun z => absurd z (by omega))
      refine wp_x 1 hF rfl ?_
      rw [hall] at hWT ⊢
      exact wp_re rfl rfl (kq m1 hTS hWT)
    | succ f ih =>
      intro i q acc m1 v5 v6 v7 v8 h1 h2 h3 hTS h17 h20 hRV hWT hall
      rw [rp] at hall
      refine wp_x 3 hF rfl ?_
      refine wp_ge2N i n rfl rfl h20 (by omega) (by omega) (fun q1 => ?_) (fun q1 => ?_)
      · rw [if_pos q1, List.append_nil] at hall
        refine wp_x 1 hF rfl ?_
        rw [hall] at hWT ⊢
        exact wp_re rfl rfl (kq m1 hTS hWT)
      rw [if_neg (by omega)] at hall
      refine wp_x 3 hF rfl ?_
      refine wp_ca rfl rfl ?_
      refine c_logWord (k := i) (j := 1) hF (hD.fr hTS) h17 hp24 (by omega) (by omega) ?_
      rw [e1]
      refine wp_x 1 hF rfl ?_
      refine wp_ne2 rfl (fun q2 => ?_) (fun q2 => ?_)
      · -- no group
        rw [if_neg q2] at hall
        refine wp_x 3 hF rfl ?_
        refine wp_ca rfl rfl ?_
        refine c_logWord (k := i) (j := 1) hF (hD.fr hTS) h17 hp24 (by omega) (by omega) ?_
        rw [e1]
        refine wp_x 1 hF rfl ?_
        refine wp_ne2 rfl (fun q3 => ?_) (fun q3 => ?_)
        · rw [if_neg q3] at hall
          refine wp_x 7 hF rfl ?_
          have := ih (i + 1) q acc m1 v5 v6 v7 v8 (by omega) (by omega) (by omega) hTS h17 h20 hRV hWT hall
          rw [← nI_1] at this
          exact this
        · rw [if_pos q3] at hall
          refine wp_x 10 hF rfl ?_
          have := ih (i + 1) (q + 1) acc m1 v5 v6 v7 v8 (by omega) (by omega) (by omega) hTS h17 h20 hRV hWT hall
          rw [← nI_1] at this
          exact this
      · rw [if_pos q2] at hall
        obtain ⟨inf, hinf⟩ : ∃ z, z = (lg i).2.2.2 := ⟨_, rfl⟩
        refine wp_x 3 hF rfl ?_
        refine wp_ca rfl rfl ?_
        refine c_logWord (k := i) (j := 3) hF (hD.fr hTS) h17 hp24 (by omega) (by omega) ?_
        rw [e3]
        rw [← hinf] at hall ⊢
        obtain ⟨hc8, hcn⟩ := and7 inf
        obtain ⟨cN, hcN⟩ : ∃ z, z = (inf &&& 7).toNatClampNeg := ⟨_, rfl⟩
        rw [← hcN] at hall hc8 hcn
        have inner : ∀ d j (m2 : Nat → Nat → Int32) (w7 w8 : Value), j + d = cN → TS mi m2 → m2 23 17 = nI p → m2 23 20 = nI n → RV m2 rv → WT m2 W (acc ++ rpg lg rv q inf i (List.range j)) → am_wp 92 43 [.ref 23, .int want, .int (nI (acc ++ rpg lg rv q inf i (List.range j)).length), .int (nI i), .int q, .int inf, .int (nI j), w7, w8] [] (m2, mr, sz) Q := by
          intro d
          induction d with
          | zero =>
            intro j m2 w7 w8 hj aTS a17 a20 aRV aWT
            have hj' : j = cN := by omega
            subst hj'
            refine wp_x 4 hF rfl ?_
            refine wp_ge2N j j rfl rfl hcn (by omega) (by omega) (fun _ => ?_) (fun z => absurd z (by omega))
            refine wp_x 9 hF rfl ?_
            have hrl := rpg_len lg rv q inf i j
            have := ih (i + 1 + j) q (acc ++ rpg lg rv q inf i (List.range j)) m2 (.int inf) (.int (nI j)) w7 w8 (by omega) (by omega) (by rw [List.length_append]; omega) aTS a17 a20 aRV aWT (by rw [List.append_assoc]; exact hall)
            rw [← nI_add (i + 1), ← nI_1, ← hcn] at this
            rw [← hcn]
            exact this
          | succ d ihd =>
            intro j m2 w7 w8 hj aTS a17 a20 aRV aWT
            have hjc : j < cN := by omega
            have hrl := rpg_len lg rv q inf i j
            refine wp_x 4 hF rfl ?_
            refine wp_ge2N j cN rfl rfl hcn (by omega) (by omega) (fun z => absurd z (by omega)) (fun _ => ?_)
            have e35 : (3 : Int32) + 5 * nI j = nI (3 + 5 * j) := by rw [show (5 : Int32) = nI 5 from rfl, show (3 : Int32) = nI 3 from rfl, pk_mul, nI_add]
            have e75 : (7 : Int32) + 5 * nI j = nI (7 + 5 * j) := by rw [show (5 : Int32) = nI 5 from rfl, show (7 : Int32) = nI 7 from rfl, pk_mul, nI_add]
            obtain ⟨hb16, hbn⟩ := and15 (am_sh inf (nI (3 + 5 * j)))
            have hbn' : am_sh inf ((3 : Int32) + 5 * nI j) &&& 15 = nI (imb inf j) := by rw [e35]; exact hbn
            have hb16' : imb inf j < 16 := hb16
            refine wp_x 13 hF rfl ?_
            refine wp_bl (imb inf j) rfl rfl hbn' (by decide) rfl hb16' ?_
            have hr := aRV (imb inf j) hb16'
            show am_wp 92 74 [.ref 23, .int want, .int (nI (acc ++ rpg lg rv q inf i (List.range j)).length), .int (nI i), .int q, .int inf, .int (nI j), .int (am_sh inf ((3 : Int32) + 5 * nI j) &&& 15), w8] [.int (m2 33 (imb inf j))] (m2, mr, sz) Q
            rw [hbn']
            -- the image isn't revoked
            have keep : rvd rv (imb inf j) q = false → am_wp 92 89 [.ref 23, .int want, .int (nI (acc ++ rpg lg rv q inf i (List.range j)).length), .int (nI i), .int q, .int inf, .int (nI j), .int (nI (imb inf j)), w8] [] (m2, mr, sz) Q := by
              intro hnr
              have hsucc : rpg lg rv q inf i (List.range (j + 1)) = rpg lg rv q inf i (List.range j) ++ [(nI (imb inf j), im4 lg inf i j)] := by rw [rpg_succ, hnr, if_neg (by decide)]
              have hlen : (acc ++ rpg lg rv q inf i (List.range (j + 1))).length = (acc ++ rpg lg rv q inf i (List.range j)).length + 1 := by rw [hsucc, ← List.append_assoc, List.length_append (bs := [_])]; rfl
              have hacc : (acc ++ rpg lg rv q inf i (List.range j)).length < 1000 := by rw [List.length_append]; omega
              refine wp_x 2 hF rfl ?_
              refine wp_ne2 rfl (fun q3 => ?_) (fun q3 => ?_)
              · refine wp_x 6 hF rfl ?_
                have := ihd (j + 1) m2 (.int (nI (imb inf j))) w8 (by omega) aTS a17 a20 aRV (fun w e hW he => by
                  rw [hsucc, ← List.append_assoc] at he
                  rcases get_snoc_lt he with z | ⟨z, -⟩
                  · exact aWT w e hW z
                  · rw [z] at hW
                    exact absurd ((hw _ hacc).mpr hW) q3)
                rw [hlen, ← nI_1, ← nI_1] at this
                exact this
              · have hWv := (hw _ hacc).mp q3
                -- the words of the image
                have fin : ∀ (x0 : Int32) (w8' : Value), x0 = (im4 lg inf i j).1 → am_wp 92 139 [.ref 23, .int want, .int (nI (acc ++ rpg lg rv q inf i (List.range j)).length), .int (nI i), .int q, .int inf, .int (nI j), .int (nI (imb inf j)), w8'] [.int x0, .ref 23] (m2, mr, sz) Q := by
                  intro x0 w8' hx0
                  have ei : nI i + 1 + nI j = nI (i + 1 + j) := by rw [nI_1, nI_add]
                  refine wp_x 7 hF rfl ?_
                  show am_wp 92 147 _ [.int 1, .int (nI i + 1 + nI j), .ref 23, .int x0, .ref 23] _ _
                  rw [ei]
                  refine wp_ca rfl rfl ?_
                  refine c_logWord (k := i + 1 + j) (j := 1) hF (hD.fr aTS) a17 hp24 (by omega) (by omega) ?_
                  rw [e1]
                  refine wp_x 7 hF rfl ?_
                  show am_wp 92 158 _ [.int 2, .int (nI i + 1 + nI j), .ref 23, .int (lg (i + 1 + j)).2.1, .int x0, .ref 23] _ _
                  rw [ei]
                  refine wp_ca rfl rfl ?_
                  refine c_logWord (k := i + 1 + j) (j := 2) hF (hD.fr aTS) a17 hp24 (by omega) (by omega) ?_
                  rw [e2]
                  refine wp_x 7 hF rfl ?_
                  show am_wp 92 169 _ [.int 3, .int (nI i + 1 + nI j), .ref 23, .int (lg (i + 1 + j)).2.2.1, .int (lg (i + 1 + j)).2.1, .int x0, .ref 23] _ _
                  rw [ei]
                  refine wp_ca rfl rfl ?_
                  refine c_logWord (k := i + 1 + j) (j := 3) hF (hD.fr aTS) a17 hp24 (by omega) (by omega) ?_
                  rw [e3]
                  refine wp_ca rfl rfl ?_
                  refine c_say hF ?_
                  refine wp_x 9 hF rfl ?_
                  obtain ⟨m3, hm3⟩ : ∃ z, z = am_u2 (o4 m2 (x0, (lg (i + 1 + j)).2.1, (lg (i + 1 + j)).2.2.1, (lg (i + 1 + j)).2.2.2)) 23 16 (nI (imb inf j)) := ⟨_, rfl⟩
                  have co : ∀ a k, ¬ a = 31 → ¬ (a = 23 ∧ k = 16) → m3 a k = m2 a k := by
                    intro a k y1 y2
                    rw [hm3]; simp only [am_u2]; rw [if_neg y2, o4_o _ _ y1]
                  have c16 : m3 23 16 = nI (imb inf j) := by rw [hm3, sd_u2s]
                  have cot : ot m3 = im4 lg inf i j := by
                    have : ot m3 = ot (o4 m2 (x0, (lg (i + 1 + j)).2.1, (lg (i + 1 + j)).2.2.1, (lg (i + 1 + j)).2.2.2)) := by
                      simp only [ot, hm3, sd_u2r _ 23 _ _ (show ¬ 31 = 23 by decide)]
                    rw [this, ot_o4, hx0]
                    rfl
                  have := ihd (j + 1) m3 (.int (nI (imb inf j))) w8' (by omega) (fun a k y1 y2 y3 y4 => by rw [co a k y1 (by omega)]; exact aTS a k y1 y2 y3 y4) (by rw [co 23 17 (by decide) (by omega)]; exact a17) (by rw [co 23 20 (by decide) (by omega)]; exact a20) (fun b hb => by
                    unfold RVb
                    rw [co 33 b (by decide) (by omega), co 32 b (by decide) (by omega)]
                    exact aRV b hb) (fun w e hW he => by
                      rw [hsucc, ← List.append_assoc] at he
                      rcases get_snoc_lt he with z | ⟨z, z2⟩
                      · rw [hWv] at hW
                        have : w = (acc ++ rpg lg rv q inf i (List.range j)).length := (Option.some.inj hW).symm
                        have h9 := (List.getElem?_eq_some_iff.mp z).1
                        omega
                      · rw [← z2]
                        exact ⟨cot, c16⟩)
                  rw [hlen, ← nI_1, ← nI_1, hm3] at this
                  exact this
                refine wp_x 10 hF rfl ?_
                have hmk : ∀ y : Int32, y = am_sh inf ((7 : Int32) + 5 * nI j) &&& 1 → (y = 1 ↔ imf inf j = true) := by
                  intro y hy
                  rw [hy, e75]
                  unfold imf
                  rcases and1_or (am_sh inf (nI (7 + 5 * j))) with z | z
                  · rw [z]; simp
                  · rw [z]; simp
                refine wp_ne2 rfl (fun q4 => ?_) (fun q4 => ?_)
                · have hf : ¬ imf inf j = true := fun z => q4 ((hmk _ rfl).mpr z)
                  refine wp_x 4 hF rfl ?_
                  refine wp_eq1 rfl (fun _ => ?_) (fun z => absurd rfl z)
                  refine wp_x 7 hF rfl ?_
                  have ei : nI i + 1 + nI j = nI (i + 1 + j) := by rw [nI_1, nI_add]
                  show am_wp 92 136 _ [.int 0, .int (nI i + 1 + nI j), .ref 23, .ref 23] _ _
                  rw [ei]
                  refine wp_ca rfl rfl ?_
                  refine c_logWord (k := i + 1 + j) (j := 0) hF (hD.fr aTS) a17 hp24 (by omega) (by omega) ?_
                  rw [e0]
                  exact fin _ _ (by show _ = if imf inf j = true then MG else (lg (i + 1 + j)).1; rw [if_neg hf])
                · have hf : imf inf j = true := (hmk _ rfl).mp q4
                  refine wp_x 5 hF rfl ?_
                  refine wp_eq1 rfl (fun z => absurd z (by decide)) (fun _ => ?_)
                  refine wp_x 2 hF rfl ?_
                  exact fin _ _ (by show _ = if imf inf j = true then MG else (lg (i + 1 + j)).1; rw [if_pos hf]; rfl)
            refine wp_eq1 rfl (fun q3 => ?_) (fun q3 => ?_)
            · refine keep ?_
              have h9 := hr.1.symm.trans q3
              unfold rvd
              cases hz : rv (imb inf j) with
              | none => rfl
              | some z => rw [hz] at h9; exact absurd (show (1 : Int32) = 0 from h9) (by decide)
            · have hs : ∃ z, rv (imb inf j) = some z := by
                cases hz : rv (imb inf j) with
                | none => rw [hr.1, hz] at q3; exact absurd rfl q3
                | some z => exact ⟨z, rfl⟩
              obtain ⟨z, hz⟩ := hs
              have h32 := hr.2 z hz
              refine wp_x 3 hF rfl ?_
              refine wp_al (imb inf j) rfl rfl rfl (by decide) rfl hb16' ?_
              rw [h32]
              refine wp_x 1 hF rfl ?_
              refine wp_gt2 rfl (fun q4 => ?_) (fun q4 => ?_)
              · have hrd : rvd rv (imb inf j) q = true := by unfold rvd; rw [hz]; exact decide_eq_true q4
                refine wp_x 2 hF rfl ?_
                have := ihd (j + 1) m2 (.int (nI (imb inf j))) w8 (by omega) aTS a17 a20 aRV (by rw [rpg_succ, hrd, if_pos rfl, List.append_nil]; exact aWT)
                rw [rpg_succ, hrd, if_pos rfl, List.append_nil, ← nI_1] at this
                exact this
              · exact keep (by unfold rvd; rw [hz]; exact decide_eq_false q4)
        refine wp_x 3 hF rfl ?_
        have := inner cN 0 m1 v7 v8 (by omega) hTS h17 h20 hRV (by simpa [rpg] using hWT)
        simp only [List.range_zero, rpg, List.filter_nil, List.map_nil, List.append_nil] at this
        exact this
  refine wp_x 7 hF rfl ?_
  show am_wp 92 14 [.ref 23, .int want, .int 0, .int 0, .int (m0 23 18), .long 0, .long 0, .long 0, .long 0] _ _ _
  rw [z18]
  exact outer 25 0 f0 [] m0 (.long 0) (.long 0) (.long 0) (.long 0) (by omega) (by omega) (by simp) hTS0 z17 z20 zRV (fun w e _ he => by simp at he) (by simp)
end TW7
end
section
/-! THE TWIN, what the law asks of it (1) -/
def gtS (dk : Nat → Int32) (ca : List En) (kd : Nat → Nat) (ru : Nat → Int32) (pd : Nat → Bool) (pe : Nat → Int32) (i j : Nat) : Int32 := if kd i = 1 then ru (4 * i + j) else if pd i = true then pe (4 * i + j) else rdS dk ca i j
def fu {α : Type} (f : Nat → α) (k : Nat) (v : α) : Nat → α := fun j => if j = k then v else f j
def putS (dk : Nat → Int32) (ca : List En) (kd : Nat → Nat) (ru : Nat → Int32) (pd : Nat → Bool) (pe : Nat → Int32) (i j : Nat) (v : Int32) : Nat → Int32 := fun x => if x = 4 * i + j then v else if 4 * i ≤ x ∧ x < 4 * i + 4 then gtS dk ca kd ru pd pe i (x - 4 * i) else ru x
def setW (e : W4) (j : Nat) (v : Int32) : W4 := (if j = 0 then v else e.1, if j = 1 then v else e.2.1, if j = 2 then v else e.2.2.1, if j = 3 then v else e.2.2.2)
def TU (mi : Nat → Nat → Int32) (us : Nat) (kd : Nat → Nat) (pd : Nat → Bool) : Prop := (mi 23 7 = nI us ∧ us < 24) ∧ (∀ b, b < 16 → mi 27 b = nI (kd b) ∧ kd b ≤ 2) ∧ ∀ b, b < 16 → mi 29 b = if pd b = true then 1 else 0
def TR (mi : Nat → Nat → Int32) (dk : Nat → Int32) (ca : List En) (up : Bool) (nu : Int32) (nx us : Nat) (kd : Nat → Nat) (ru : Nat → Int32) (pd : Nat → Bool) (pe : Nat → Int32) (jb lf tot : Nat) : Prop :=
  TD mi dk ca ∧ (mi 23 4 = if up = true then 1 else 0) ∧ mi 23 5 = nu ∧ (mi 23 6 = nI nx ∧ nx < 24) ∧ (up = true → TU mi us kd pd) ∧ (∀ j, j < 64 → mi 28 j = ru j) ∧ (∀ j, j < 64 → mi 30 j = pe j) ∧ (mi 23 12 = nI jb ∧ jb < 5) ∧ (¬ jb = 0 → mi 23 13 = nI (tot - lf) ∧ mi 23 14 = nI tot ∧ lf ≤ tot ∧ tot < 50)
/-- the twin's own cells alone change -/
def TF (mi mi' : Nat → Nat → Int32) : Prop := ∀ a, a < 23 ∨ 34 ≤ a → mi' a = mi a
theorem TF.rfl' {mi : Nat → Nat → Int32} : TF mi mi := fun _ _ => rfl
theorem TF.trans {m1 m2 m3 : Nat → Nat → Int32} (h1 : TF m1 m2) (h2 : TF m2 m3) : TF m1 m3 := fun a ha => (h2 a ha).trans (h1 a ha)
theorem TF.u2 {mi : Nat → Nat → Int32} {a k : Nat} {v : Int32} (h1 : 23 ≤ a) (h2 : a < 34) : TF mi (am_u2 mi a k v) := fun x hx => sd_u2r _ _ _ _ (by omega)
theorem TS.tf {mi mi' : Nat → Nat → Int32} (h : TS mi mi') : TF mi mi' := fun a ha => funext fun k => h a k (by omega) (by omega) (by omega) (by omega)
theorem TD.congr {mi mi' : Nat → Nat → Int32} {dk : Nat → Int32} {ca : List En} (h1 : mi' 23 1 = mi 23 1) (h2 : mi' 24 = mi 24) (h3 : mi' 25 = mi 25) (h4 : mi' 26 = mi 26) (hD : TD mi dk ca) : TD mi' dk ca := by
  obtain ⟨a1, a2, a3, a4⟩ := hD
  refine ⟨fun j hj => by rw [h2]; exact a1 j hj, by rw [h1]; exact a2, a3, ?_⟩
  have : twc mi' ca.length = twc mi ca.length := by simp only [twc]; congr 1; funext z; simp only [twe, h3, h4]
  rw [this]; exact a4
theorem b01 {b : Bool} : ((if b = true then 1 else 0 : Int32) = 0 ↔ b = false) := by cases b <;> simp
section TW8
variable {mi : Nat → Nat → Int32} {mr : Nat → Nat → Nat} {sz : Nat} {Q : Option Value → am_H → Prop} {dk : Nat → Int32} {ca : List En} {up : Bool} {nu : Int32} {nx us : Nat} {kd : Nat → Nat} {ru : Nat → Int32} {pd : Nat → Bool} {pe : Nat → Int32} {jb lf tot : Nat}
theorem TR.tk (hT : TR mi dk ca true nu nx us kd ru pd pe jb lf tot) : TK mi kd ru := ⟨(hT.2.2.2.2.1 rfl).2.1, hT.2.2.2.2.2.1⟩
theorem c_getT1 (hF : FX mr) (hD : TD mi dk ca) (h4 : ¬ mi 23 4 = 0) (hk : ∀ b, b < 16 → mi 27 b = nI (kd b) ∧ kd b ≤ 2) (hp : ∀ b, b < 16 → mi 29 b = if pd b = true then 1 else 0) (hru : ∀ j, j < 64 → mi 28 j = ru j) (hpe : ∀ j, j < 64 → mi 30 j = pe j) {i j : Nat} (hi : i < 16) (hj : j < 4) (k : Q (some (.int (gtS dk ca kd ru pd pe i j))) (mi, mr, sz)) : am_wp 77 0 (am_lo 77 [.ref 23, .int (nI i), .int (nI j)]) [] (mi, mr, sz) Q := by
  unfold gtS at k
  refine wp_x 2 hF rfl ?_
  refine wp_eq1 rfl (fun q => absurd q h4) (fun _ => ?_)
  refine wp_x 1 hF rfl ?_
  refine wp_ca rfl rfl ?_
  refine c_isBlock hF (fun i' hi' e => ?_) (fun hn => absurd rfl (hn i hi))
  refine wp_eq1 rfl (fun q => absurd q (by decide)) (fun _ => ?_)
  refine wp_x 1 hF rfl ?_
  refine wp_ca rfl rfl ?_
  refine c_isWord hF (fun j' hj' e2 => ?_) (fun hn => absurd rfl (hn j hj))
  refine wp_ne1 rfl (fun _ => ?_) (fun q => absurd q (by decide))
  refine wp_x 3 hF rfl ?_
  refine wp_al i rfl rfl rfl (by decide) rfl hi ?_
  rw [(hk i hi).1]
  have hk2 := (hk i hi).2
  refine wp_x 1 hF rfl ?_
  refine wp_ne2N (kd i) 1 rfl rfl rfl (by omega) (by omega) (fun q => ?_) (fun q => ?_)
  · rw [if_neg q] at k
    refine wp_x 3 hF rfl ?_
    refine wp_bl i rfl rfl rfl (by decide) rfl hi ?_
    rw [hp i hi]
    refine wp_eq1 rfl (fun q2 => ?_) (fun q2 => ?_)
    · have h0 : pd i = false := b01.mp q2
      rw [h0, if_neg (by decide)] at k
      refine wp_x 3 hF rfl ?_
      refine wp_ca rfl rfl ?_
      refine c_readT hF hD (by omega) hj ?_
      exact wp_re rfl rfl k
    · have h0 : pd i = true := by
        cases h : pd i with
        | true => rfl
        | false => exact absurd (b01.mpr h) q2
      rw [h0, if_pos rfl] at k
      refine wp_x 7 hF rfl ?_
      refine wp_al (4 * i + j) rfl rfl (a4 i j) (by decide) rfl (show 4 * i + j < 64 by omega) ?_
      rw [hpe _ (by omega)]
      refine wp_x 1 hF rfl ?_
      exact wp_re rfl rfl k
  · rw [if_pos q] at k
    refine wp_x 7 hF rfl ?_
    refine wp_al (4 * i + j) rfl rfl (a4 i j) (by decide) rfl (show 4 * i + j < 64 by omega) ?_
    rw [hru _ (by omega)]
    refine wp_x 1 hF rfl ?_
    exact wp_re rfl rfl k
theorem TR.up4 (hT : TR mi dk ca up nu nx us kd ru pd pe jb lf tot) : ¬ mi 23 4 = 0 ↔ up = true := by
  rw [hT.2.1]; cases up <;> simp
theorem TR.jb0 (hT : TR mi dk ca up nu nx us kd ru pd pe jb lf tot) : mi 23 12 = 0 ↔ jb = 0 := by
  rw [hT.2.2.2.2.2.2.2.1.1, ← nI_0]
  have := hT.2.2.2.2.2.2.2.1.2
  exact nI_eq (by omega) (by omega)
/-- get -/
theorem c_getT (hF : FX mr) (hT : TR mi dk ca up nu nx us kd ru pd pe jb lf tot) {b w : Int32} (t : ∀ i j, i < 16 → j < 4 → b = nI i → w = nI j → up = true → Q (some (.int (gtS dk ca kd ru pd pe i j))) (mi, mr, sz)) (f : (up = false ∨ (∀ i, i < 16 → b ≠ nI i) ∨ ∀ j, j < 4 → w ≠ nI j) → Q (some (.int 0)) (mi, mr, sz)) : am_wp 77 0 (am_lo 77 [.ref 23, .int b, .int w]) [] (mi, mr, sz) Q := by
  have no : (up = false ∨ (∀ i, i < 16 → b ≠ nI i) ∨ ∀ j, j < 4 → w ≠ nI j) → am_wp 77 21 [.ref 23, .int b, .int w] [] (mi, mr, sz) Q := fun h => wp_x 1 hF rfl (wp_re rfl rfl (f h))
  by_cases h1 : up = true ∧ (∃ i, i < 16 ∧ b = nI i) ∧ ∃ j, j < 4 ∧ w = nI j
  · obtain ⟨hu, ⟨i, hi, rfl⟩, j, hj, rfl⟩ := h1
    subst hu
    have hU := hT.2.2.2.2.1 rfl
    exact c_getT1 hF hT.1 (hT.up4.mpr rfl) hU.2.1 hU.2.2 hT.2.2.2.2.2.1 hT.2.2.2.2.2.2.1 hi hj (t i j hi hj rfl rfl rfl)
  · refine wp_x 2 hF rfl ?_
    refine wp_eq1 rfl (fun q => no (Or.inl ?_)) (fun q => ?_)
    · cases hu : up with
      | false => rfl
      | true => exact absurd q (hT.up4.mpr hu)
    · have hu := hT.up4.mp q
      refine wp_x 1 hF rfl ?_
      refine wp_ca rfl rfl ?_
      refine c_isBlock hF (fun i hi e => ?_) (fun hn => ?_)
      · refine wp_eq1 rfl (fun q => absurd q (by decide)) (fun _ => ?_)
        refine wp_x 1 hF rfl ?_
        refine wp_ca rfl rfl ?_
        refine c_isWord hF (fun j hj e2 => absurd ⟨hu, ⟨i, hi, e⟩, j, hj, e2⟩ h1) (fun hn => ?_)
        refine wp_ne1 rfl (fun q => absurd rfl q) (fun _ => ?_)
        exact no (Or.inr (Or.inr hn))
      · refine wp_eq1 rfl (fun _ => ?_) (fun q => absurd rfl q)
        exact no (Or.inr (Or.inl hn))
/-- revoke -/
theorem c_revokeT (hF : FX mr) (hT : TR mi dk ca up nu nx us kd ru pd pe jb lf tot) {b : Int32} (t : ∀ i, i < 16 → b = nI i → up = true → jb = 0 → ∀ mi', TF mi mi' → TR mi' dk ca up nu nx us (fu kd i 2) ru pd pe jb lf tot → Q (some (.int 1)) (mi', mr, sz)) (f : (up = false ∨ ¬ jb = 0 ∨ ∀ i, i < 16 → b ≠ nI i) → Q (some (.int 0)) (mi, mr, sz)) : am_wp 83 0 (am_lo 83 [.ref 23, .int b]) [] (mi, mr, sz) Q := by
  refine wp_x 1 hF rfl ?_
  refine wp_ca rfl rfl ?_
  refine c_idleT hF (fun h4 h12 => ?_) (fun h => ?_)
  · have hu := hT.up4.mp h4
    have hj := hT.jb0.mp h12
    refine wp_eq1 rfl (fun q => absurd q (by decide)) (fun _ => ?_)
    refine wp_x 1 hF rfl ?_
    refine wp_ca rfl rfl ?_
    refine c_isBlock hF (fun i hi e => ?_) (fun hn => ?_)
    · refine wp_ne1 rfl (fun _ => ?_) (fun q => absurd q (by decide))
      refine wp_x 4 hF rfl ?_
      refine wp_as i rfl rfl e (by decide) rfl hi ?_
      refine wp_x 1 hF rfl ?_
      refine wp_re rfl rfl (t i hi e hu hj _ (TF.u2 (by omega) (by omega)) ?_)
      obtain ⟨a1, a2, a3, a4, a5, a6, a7, a8, a9⟩ := hT
      refine ⟨a1.congr rfl rfl rfl rfl, a2, a3, a4, fun hup => ⟨(a5 hup).1, fun b hb => ?_, (a5 hup).2.2⟩, a6, a7, a8, a9⟩
      by_cases hbi : b = i
      · subst hbi
        rw [sd_u2s]
        simp only [fu, if_true]
        exact ⟨rfl, by omega⟩
      · rw [sd_u2k _ _ _ _ hbi]
        simp only [fu, if_neg hbi]
        exact (a5 hup).2.1 b hb
    · refine wp_ne1 rfl (fun q => absurd rfl q) (fun _ => ?_)
      refine wp_x 1 hF rfl ?_
      exact wp_re rfl rfl (f (Or.inr (Or.inr hn)))
  · refine wp_eq1 rfl (fun _ => ?_) (fun q => absurd rfl q)
    refine wp_x 1 hF rfl ?_
    refine wp_re rfl rfl (f ?_)
    rcases h with h | h
    · left
      cases hu : up with
      | false => rfl
      | true => exact absurd h (hT.up4.mpr hu)
    · exact Or.inr (Or.inl (fun q => h (hT.jb0.mpr q)))
/-- put -/
theorem c_putT (hF : FX mr) (hT : TR mi dk ca up nu nx us kd ru pd pe jb lf tot) {b w v : Int32} (t : ∀ i j, i < 16 → j < 4 → b = nI i → w = nI j → up = true → jb = 0 → (kd i = 1 ∨ cnt (k1 kd) 16 < 8) → ∀ mi', TF mi mi' → TR mi' dk ca up nu nx us (fu kd i 1) (putS dk ca kd ru pd pe i j v) pd pe jb lf tot → Q (some (.int 1)) (mi', mr, sz)) (f : (up = false ∨ ¬ jb = 0 ∨ (∀ i, i < 16 → b ≠ nI i) ∨ (∀ j, j < 4 → w ≠ nI j) ∨ ∃ i, i < 16 ∧ b = nI i ∧ ¬ kd i = 1 ∧ 8 ≤ cnt (k1 kd) 16) → Q (some (.int 0)) (mi, mr, sz)) : am_wp 80 0 (am_lo 80 [.ref 23, .int b, .int w, .int v]) [] (mi, mr, sz) Q := by
  have no : (up = false ∨ ¬ jb = 0 ∨ (∀ i, i < 16 → b ≠ nI i) ∨ (∀ j, j < 4 → w ≠ nI j) ∨ ∃ i, i < 16 ∧ b = nI i ∧ ¬ kd i = 1 ∧ 8 ≤ cnt (k1 kd) 16) → am_wp 80 41 [.ref 23, .int b, .int w, .int v, .long 0] [] (mi, mr, sz) Q := fun h => wp_x 1 hF rfl (wp_re rfl rfl (f h))
  refine wp_x 1 hF rfl ?_
  refine wp_ca rfl rfl ?_
  refine c_idleT hF (fun h4 h12 => ?_) (fun h => ?_)
  rotate_left
  · refine wp_eq1 rfl (fun _ => ?_) (fun q => absurd rfl q)
    refine no ?_
    rcases h with h | h
    · left
      cases hu : up with
      | false => rfl
      | true => exact absurd h (hT.up4.mpr hu)
    · exact Or.inr (Or.inl (fun q => h (hT.jb0.mpr q)))
  have hu := hT.up4.mp h4
  have hj0 := hT.jb0.mp h12
  subst hu
  refine wp_eq1 rfl (fun q => absurd q (by decide)) (fun _ => ?_)
  refine wp_x 1 hF rfl ?_
  refine wp_ca rfl rfl ?_
  refine c_isBlock hF (fun i hi e => ?_) (fun hn => ?_)
  rotate_left
  · refine wp_eq1 rfl (fun _ => no (Or.inr (Or.inr (Or.inl hn)))) (fun q => absurd rfl q)
  refine wp_eq1 rfl (fun q => absurd q (by decide)) (fun _ => ?_)
  refine wp_x 1 hF rfl ?_
  refine wp_ca rfl rfl ?_
  refine c_isWord hF (fun j hj e2 => ?_) (fun hn => ?_)
  rotate_left
  · refine wp_eq1 rfl (fun _ => no (Or.inr (Or.inr (Or.inr (Or.inl hn))))) (fun q => absurd rfl q)
  refine wp_eq1 rfl (fun q => absurd q (by decide)) (fun _ => ?_)
  obtain ⟨a1, a2, a3, a4', a5, a6, a7, a8, a9⟩ := id hT
  obtain ⟨u1, u2, u3⟩ := a5 rfl
  have hc16 := cnt_le (k1 kd) 16
  subst e; subst e2
  -- the part behind the tests
  have go : (kd i = 1 ∨ cnt (k1 kd) 16 < 8) → am_wp 80 43 [.ref 23, .int (nI i), .int (nI j), .int v, .long 0] [] (mi, mr, sz) Q := by
    intro hkk
    have loop : ∀ d x (m1 : Nat → Nat → Int32), x + d = 4 → (∀ a, ¬ a = 28 → m1 a = mi a) → (∀ y, m1 28 y = if 4 * i ≤ y ∧ y < 4 * i + x then gtS dk ca kd ru pd pe i (y - 4 * i) else mi 28 y) → am_wp 80 46 [.ref 23, .int (nI i), .int (nI j), .int v, .int (nI x)] [] (m1, mr, sz) Q := by
      intro d
      induction d with
      | zero =>
        intro x m1 hx h1 h2
        have hx' : x = 4 := by omega
        subst hx'
        refine wp_x 2 hF rfl ?_
        refine wp_ge2N 4 4 rfl rfl rfl (by omega) (by omega) (fun _ => ?_) (fun q => absurd q (by omega))
        refine wp_x 4 hF rfl ?_
        refine wp_as i rfl rfl rfl (by decide) rfl hi ?_
        refine wp_x 8 hF rfl ?_
        refine wp_as (4 * i + j) rfl rfl (a4 i j) (by decide) rfl (show 4 * i + j < 64 by omega) ?_
        refine wp_x 1 hF rfl ?_
        have o1 : ∀ a, ¬ a = 27 → ¬ a = 28 → am_u2 (am_u2 m1 27 i 1) 28 (4 * i + j) v a = mi a := fun a y1 y2 => by rw [sd_u2r _ _ _ _ y2, sd_u2r _ _ _ _ y1, h1 a y2]
        refine wp_re rfl rfl (t i j hi hj rfl rfl rfl hj0 hkk _ (fun a ha => o1 a (by omega) (by omega)) ?_)
        refine ⟨a1.congr (by rw [o1 23 (by decide) (by decide)]) (o1 24 (by decide) (by decide)) (o1 25 (by decide) (by decide)) (o1 26 (by decide) (by decide)), by rw [o1 23 (by decide) (by decide)]; exact a2, by rw [o1 23 (by decide) (by decide)]; exact a3, by rw [o1 23 (by decide) (by decide)]; exact a4', fun _ => ⟨by rw [o1 23 (by decide) (by decide)]; exact u1, fun b hb => ?_, fun b hb => by rw [o1 29 (by decide) (by decide)]; exact u3 b hb⟩, fun y hy => ?_, fun y hy => by rw [o1 30 (by decide) (by decide)]; exact a7 y hy, by rw [o1 23 (by decide) (by decide)]; exact a8, fun h => by rw [o1 23 (by decide) (by decide)]; exact a9 h⟩
        · rw [sd_u2r _ _ _ _ (by decide)]
          by_cases hbi : b = i
          · subst hbi
            rw [sd_u2s]
            simp only [fu, if_true]
            exact ⟨rfl, by omega⟩
          · rw [sd_u2k _ _ _ _ hbi, h1 27 (by decide)]
            simp only [fu, if_neg hbi]
            exact u2 b hb
        · by_cases hy1 : y = 4 * i + j
          · subst hy1
            rw [sd_u2s]
            simp [putS]
          · rw [sd_u2k _ _ _ _ hy1, sd_u2r _ _ _ _ (by decide), h2, a6 y hy]
            simp only [putS, if_neg hy1]
      | succ d ih =>
        intro x m1 hx h1 h2
        refine wp_x 2 hF rfl ?_
        refine wp_ge2N x 4 rfl rfl rfl (by omega) (by omega) (fun q => absurd q (by omega)) (fun hx4 => ?_)
        refine wp_x 10 hF rfl ?_
        refine wp_ca rfl rfl ?_
        refine c_getT1 (ru := m1 28) (kd := kd) (pd := pd) (pe := pe) hF (a1.congr (by rw [h1 23 (by decide)]) (h1 24 (by decide)) (h1 25 (by decide)) (h1 26 (by decide))) (by rw [h1 23 (by decide)]; exact h4) (fun b hb => by rw [h1 27 (by decide)]; exact u2 b hb) (fun b hb => by rw [h1 29 (by decide)]; exact u3 b hb) (fun _ _ => rfl) (fun y hy => by rw [h1 30 (by decide)]; exact a7 y hy) hi hx4 ?_
        have eg : gtS dk ca kd (m1 28) pd pe i x = gtS dk ca kd ru pd pe i x := by
          have h9 : m1 28 (4 * i + x) = ru (4 * i + x) := by rw [h2, if_neg (by omega), a6 _ (by omega)]
          unfold gtS
          rw [h9]
        rw [eg]
        refine wp_as (4 * i + x) rfl rfl (a4 i x) (by decide) rfl (show 4 * i + x < 64 by omega) ?_
        refine wp_x 2 hF rfl ?_
        have := ih (x + 1) (am_u2 m1 28 (4 * i + x) (gtS dk ca kd ru pd pe i x)) (by omega) (fun a ha => by rw [sd_u2r _ _ _ _ ha]; exact h1 a ha) (fun y => by
          by_cases hy : y = 4 * i + x
          · subst hy
            rw [sd_u2s, if_pos (by omega)]
            congr 1; omega
          · rw [sd_u2k _ _ _ _ hy, h2]
            by_cases h3 : 4 * i ≤ y ∧ y < 4 * i + x
            · rw [if_pos h3, if_pos (by omega)]
            · rw [if_neg h3, if_neg (by omega)])
        rw [← nI_1] at this
        exact this
    refine wp_x 2 hF rfl ?_
    exact loop 4 0 mi rfl (fun _ _ => rfl) (fun y => by rw [if_neg (by omega)])
  refine wp_x 3 hF rfl ?_
  refine wp_al i rfl rfl rfl (by decide) rfl hi ?_
  rw [(u2 i hi).1]
  have hk2 := (u2 i hi).2
  refine wp_x 1 hF rfl ?_
  refine wp_eq2N (kd i) 1 rfl rfl rfl (by omega) (by omega) (fun q => go (Or.inl q)) (fun q => ?_)
  refine wp_x 2 hF rfl ?_
  refine wp_ca rfl rfl ?_
  refine c_countOf hF ?_
  rw [show (1 : Int32) = nI 1 from rfl, hT.tk.cnt (by omega)]
  refine wp_x 1 hF rfl ?_
  refine wp_lt2N (cnt (k1 kd) 16) 8 rfl rfl rfl (by omega) (by omega) (fun q2 => go (Or.inr q2)) (fun q2 => ?_)
  exact no (Or.inr (Or.inr (Or.inr (Or.inr ⟨i, hi, rfl, q, q2⟩))))
end TW8
end
section
/-! THE TWIN, what the law asks of it (2) -/
def TX (mi mi' : Nat → Nat → Int32) : Prop := ∀ a k, ¬ a = 24 → ¬ a = 25 → ¬ a = 26 → ¬ a = 31 → ¬ a = 32 → ¬ a = 33 → ¬ (a = 23 ∧ (k = 1 ∨ (16 ≤ k ∧ k ≤ 20))) → mi' a k = mi a k
theorem TX.trans {m1 m2 m3 : Nat → Nat → Int32} (h1 : TX m1 m2) (h2 : TX m2 m3) : TX m1 m3 := fun a k a1 a2 a3 a4 a5 a6 a7 => (h2 a k a1 a2 a3 a4 a5 a6 a7).trans (h1 a k a1 a2 a3 a4 a5 a6 a7)
theorem TX.tf {mi mi' : Nat → Nat → Int32} (h : TX mi mi') : TF mi mi' := fun a ha => funext fun k => h a k (by omega) (by omega) (by omega) (by omega) (by omega) (by omega) (by omega)
theorem TS.tx {mi mi' : Nat → Nat → Int32} (h : TS mi mi') : TX mi mi' := fun a k _ _ _ h4 h5 h6 h7 => h a k h4 h5 h6 (by omega)
theorem TX.of31 {mi mi' : Nat → Nat → Int32} (h : ∀ a, ¬ a = 31 → mi' a = mi a) : TX mi mi' := fun a k _ _ _ h4 _ _ _ => by rw [h a h4]
theorem TX.ofw {mi mi' : Nat → Nat → Int32} (h : ∀ a k, ¬ a = 25 → ¬ a = 26 → ¬ (a = 23 ∧ k = 1) → mi' a k = mi a k) : TX mi mi' := fun a k _ h2 h3 _ _ _ h7 => h a k h2 h3 (by omega)
theorem TX.off {mi mi' : Nat → Nat → Int32} (h : ∀ a k, ¬ a = 24 → ¬ (a = 23 ∧ k = 1) → mi' a k = mi a k) : TX mi mi' := fun a k h1 _ _ _ _ _ h7 => h a k h1 (by omega)
theorem TX.row {mi mi' : Nat → Nat → Int32} (h : TX mi mi') {a : Nat} (h1 : 27 ≤ a) (h2 : a < 31) : mi' a = mi a := funext fun k => h a k (by omega) (by omega) (by omega) (by omega) (by omega) (by omega) (by omega)
theorem TX.fld {mi mi' : Nat → Nat → Int32} (h : TX mi mi') {k : Nat} (h1 : ¬ (k = 1 ∨ (16 ≤ k ∧ k ≤ 20))) : mi' 23 k = mi 23 k := h 23 k (by decide) (by decide) (by decide) (by decide) (by decide) (by decide) (by omega)
theorem cnt_all (p : Nat → Bool) : ∀ n, cnt p n = n ↔ ∀ b, b < n → p b = true
  | 0 => by simp [cnt]
  | n + 1 => by
    have ih := cnt_all p n
    have hle := cnt_le p n
    rw [cnt]
    constructor
    · intro h b hb
      split at h
      · rename_i hp
        rcases Nat.lt_or_ge b n with q | q
        · exact ih.mp (by omega) b q
        · have : b = n := by omega
          rw [this]; exact hp
      · omega
    · intro h
      rw [if_pos (h n (by omega)), ih.mpr (fun b hb => h b (by omega))]
section TW9
variable {mi : Nat → Nat → Int32} {mr : Nat → Nat → Nat} {sz : Nat} {Q : Option Value → am_H → Prop} {dk : Nat → Int32} {ca : List En} {up : Bool} {nu : Int32} {nx us : Nat} {kd : Nat → Nat} {ru : Nat → Int32} {pd : Nat → Bool} {pe : Nat → Int32} {jb lf tot : Nat}
theorem TR.dev {mi' : Nat → Nat → Int32} {dk' : Nat → Int32} {ca' : List En} (hX : TX mi mi') (hD : TD mi' dk' ca') (hT : TR mi dk ca up nu nx us kd ru pd pe jb lf tot) : TR mi' dk' ca' up nu nx us kd ru pd pe jb lf tot := by
  obtain ⟨a1, a2, a3, a4', a5, a6, a7, a8, a9⟩ := hT
  refine ⟨hD, by rw [hX.fld (by omega)]; exact a2, by rw [hX.fld (by omega)]; exact a3, by rw [hX.fld (by omega)]; exact a4', fun h => ⟨by rw [hX.fld (by omega)]; exact (a5 h).1, by rw [hX.row (by omega) (by omega)]; exact (a5 h).2.1, by rw [hX.row (by omega) (by omega)]; exact (a5 h).2.2⟩, by rw [hX.row (by omega) (by omega)]; exact a6, by rw [hX.row (by omega) (by omega)]; exact a7, by rw [hX.fld (by omega)]; exact a8, fun h => by rw [hX.fld (by omega), hX.fld (by omega)]; exact a9 h⟩
theorem nidle (hT : TR mi dk ca up nu nx us kd ru pd pe jb lf tot) (h : mi 23 4 = 0 ∨ ¬ mi 23 12 = 0) : up = false ∨ ¬ jb = 0 := by
  rcases h with h | h
  · left
    cases hu : up with
    | false => rfl
    | true => exact absurd h (hT.up4.mpr hu)
  · exact Or.inr (fun q => h (hT.jb0.mpr q))
theorem c_directT (hF : FX mr) (hT : TR mi dk ca up nu nx us kd ru pd pe jb lf tot) {b w v : Int32} (t : ∀ i j, i < 16 → j < 4 → b = nI i → w = nI j → up = true → jb = 0 → ¬ kd i = 1 → pd i = false → ca.length < 12 → ∀ mi', TF mi mi' → TR mi' dk (ca ++ [(nI i, setW (rd4 dk ca i) j v)]) up nu nx us kd ru pd pe jb lf tot → Q (some (.int 1)) (mi', mr, sz)) (f : (up = false ∨ ¬ jb = 0 ∨ (∀ i, i < 16 → b ≠ nI i) ∨ (∀ j, j < 4 → w ≠ nI j) ∨ ∃ i, i < 16 ∧ b = nI i ∧ (kd i = 1 ∨ pd i = true ∨ 12 ≤ ca.length)) → Q (some (.int 0)) (mi, mr, sz)) : am_wp 84 0 (am_lo 84 [.ref 23, .int b, .int w, .int v]) [] (mi, mr, sz) Q := by
  have no : (up = false ∨ ¬ jb = 0 ∨ (∀ i, i < 16 → b ≠ nI i) ∨ (∀ j, j < 4 → w ≠ nI j) ∨ ∃ i, i < 16 ∧ b = nI i ∧ (kd i = 1 ∨ pd i = true ∨ 12 ≤ ca.length)) → am_wp 84 49 [.ref 23, .int b, .int w, .int v, .long 0] [] (mi, mr, sz) Q := fun h => wp_x 1 hF rfl (wp_re rfl rfl (f h))
  refine wp_x 1 hF rfl ?_
  refine wp_ca rfl rfl ?_
  refine c_idleT hF (fun h4 h12 => ?_) (fun h => ?_)
  rotate_left
  · refine wp_eq1 rfl (fun _ => ?_) (fun q => absurd rfl q)
    exact no ((nidle hT h).imp id Or.inl)
  have hu := hT.up4.mp h4
  have hj0 := hT.jb0.mp h12
  subst hu
  refine wp_eq1 rfl (fun q => absurd q (by decide)) (fun _ => ?_)
  refine wp_x 1 hF rfl ?_
  refine wp_ca rfl rfl ?_
  refine c_isBlock hF (fun i hi e => ?_) (fun hn => ?_)
  rotate_left
  · refine wp_eq1 rfl (fun _ => no (Or.inr (Or.inr (Or.inl hn)))) (fun q => absurd rfl q)
  refine wp_eq1 rfl (fun q => absurd q (by decide)) (fun _ => ?_)
  refine wp_x 1 hF rfl ?_
  refine wp_ca rfl rfl ?_
  refine c_isWord hF (fun j hj e2 => ?_) (fun hn => ?_)
  rotate_left
  · refine wp_eq1 rfl (fun _ => no (Or.inr (Or.inr (Or.inr (Or.inl hn))))) (fun q => absurd rfl q)
  refine wp_eq1 rfl (fun q => absurd q (by decide)) (fun _ => ?_)
  subst e; subst e2
  have no2 := fun h => no (Or.inr (Or.inr (Or.inr (Or.inr ⟨i, hi, rfl, h⟩))))
  obtain ⟨u1, u2, u3⟩ := hT.2.2.2.2.1 rfl
  have hD := hT.1
  have hl := hD.2.2.1
  refine wp_x 3 hF rfl ?_
  refine wp_al i rfl rfl rfl (by decide) rfl hi ?_
  rw [(u2 i hi).1]
  have hk2 := (u2 i hi).2
  refine wp_x 1 hF rfl ?_
  refine wp_eq2N (kd i) 1 rfl rfl rfl (by omega) (by omega) (fun q => no2 (Or.inl q)) (fun q1 => ?_)
  refine wp_x 3 hF rfl ?_
  refine wp_bl i rfl rfl rfl (by decide) rfl hi ?_
  rw [u3 i hi]
  refine wp_ne1 rfl (fun q => no2 (Or.inr (Or.inl ?_))) (fun q2 => ?_)
  · cases hp : pd i with
    | true => rfl
    | false => exact absurd (b01.mpr hp) q
  have hpd : pd i = false := b01.mp q2
  refine wp_x 3 hF rfl ?_
  refine wp_lt2N ca.length 12 rfl hD.2.1 rfl (by omega) (by omega) (fun q3 => ?_) (fun q3 => no2 (Or.inr (Or.inr q3)))
  have one : ∀ (m1 : Nat → Nat → Int32) (x : Nat), x < 4 → (∀ a, ¬ a = 31 → m1 a = mi a) → am_wp 84 54 [.ref 23, .int (nI i), .int (nI j), .int v, .int (nI (x + 1))] [] (am_u2 m1 31 x (rdS dk ca i x), mr, sz) Q → am_wp 84 54 [.ref 23, .int (nI i), .int (nI j), .int v, .int (nI x)] [] (m1, mr, sz) Q := by
    intro m1 x hx h1 kk
    refine wp_x 2 hF rfl ?_
    refine wp_ge2N x 4 rfl rfl rfl (by omega) (by omega) (fun q => absurd q (by omega)) (fun _ => ?_)
    refine wp_x 6 hF rfl ?_
    refine wp_ca rfl rfl ?_
    refine c_readT hF (hD.congr (by rw [h1 23 (by decide)]) (h1 24 (by decide)) (h1 25 (by decide)) (h1 26 (by decide))) (by omega) hx ?_
    refine wp_as x rfl rfl rfl (by decide) rfl (show x < 4 from hx) ?_
    refine wp_x 2 hF rfl ?_
    rw [← nI_1] at kk
    exact kk
  have o : ∀ {m1 : Nat → Nat → Int32} {x : Nat} {y : Int32}, (∀ a, ¬ a = 31 → m1 a = mi a) → ∀ a, ¬ a = 31 → am_u2 m1 31 x y a = mi a := fun h a ha => by rw [sd_u2r _ _ _ _ ha]; exact h a ha
  refine wp_x 2 hF rfl ?_
  refine one mi 0 (by omega) (fun _ _ => rfl) (one _ 1 (by omega) (o fun _ _ => rfl) (one _ 2 (by omega) (o (o fun _ _ => rfl)) (one _ 3 (by omega) (o (o (o fun _ _ => rfl))) ?_)))
  refine wp_x 2 hF rfl ?_
  refine wp_ge2N 4 4 rfl rfl rfl (by omega) (by omega) (fun _ => ?_) (fun q => absurd q (by omega))
  refine wp_x 4 hF rfl ?_
  refine wp_as j rfl rfl rfl (by decide) rfl (show j < 4 from hj) ?_
  refine wp_x 2 hF rfl ?_
  obtain ⟨m5, hm5⟩ : ∃ z, z = am_u2 (am_u2 (am_u2 (am_u2 (am_u2 mi 31 0 (rdS dk ca i 0)) 31 1 (rdS dk ca i 1)) 31 2 (rdS dk ca i 2)) 31 3 (rdS dk ca i 3)) 31 j v := ⟨_, rfl⟩
  have o5 : ∀ a, ¬ a = 31 → m5 a = mi a := by rw [hm5]; exact o (o (o (o (o fun _ _ => rfl))))
  have hot : ot m5 = setW (rd4 dk ca i) j v := by
    rw [hm5]
    match j, hj with
    | 0, _ => simp [ot, am_u2, setW, rd4]
    | 1, _ => simp [ot, am_u2, setW, rd4]
    | 2, _ => simp [ot, am_u2, setW, rd4]
    | 3, _ => simp [ot, am_u2, setW, rd4]
  rw [← hm5]
  refine wp_ca rfl rfl ?_
  refine c_writeOut hF (hD.congr (by rw [o5 23 (by decide)]) (o5 24 (by decide)) (o5 25 (by decide)) (o5 26 (by decide))) (by omega) (fun m6 h6 hD6 => ?_)
  refine wp_x 1 hF rfl ?_
  rw [hot] at hD6
  have hX : TX mi m6 := (TX.of31 o5).trans (TX.ofw h6)
  exact wp_re rfl rfl (t i j hi hj rfl rfl rfl hj0 q1 hpd q3 m6 hX.tf (hT.dev hX hD6))
theorem c_countPending (hF : FX mr) (hp : ∀ b, b < 16 → mi 29 b = if pd b = true then 1 else 0) (k : Q (some (.int (nI (cnt pd 16)))) (mi, mr, sz)) : am_wp 90 0 (am_lo 90 [.ref 23]) [] (mi, mr, sz) Q := by
  have loop : ∀ n b, b + n = 16 → am_wp 90 4 [.ref 23, .int (nI (cnt pd b)), .int (nI b)] [] (mi, mr, sz) Q := by
    intro n
    induction n with
    | zero =>
      intro b hb
      have hb' : b = 16 := by omega
      subst hb'
      refine wp_x 2 hF rfl ?_
      refine wp_ge2N 16 16 rfl rfl rfl (by omega) (by omega) (fun _ => ?_) (fun q => absurd q (by omega))
      refine wp_x 1 hF rfl ?_
      exact wp_re rfl rfl k
    | succ n ih =>
      intro b hb
      have ih' := ih (b + 1) (by omega)
      rw [cnt, ← nI_1] at ih'
      refine wp_x 2 hF rfl ?_
      refine wp_ge2N b 16 rfl rfl rfl (by omega) (by omega) (fun q => absurd q (by omega)) (fun hb16 => ?_)
      refine wp_x 3 hF rfl ?_
      refine wp_bl b rfl rfl rfl (by decide) rfl hb16 ?_
      rw [hp b hb16]
      refine wp_eq1 rfl (fun q => ?_) (fun q => ?_)
      · rw [if_neg (by rw [b01.mp q]; decide)] at ih'
        refine wp_x 4 hF rfl ?_
        exact ih'
      · have h0 : pd b = true := by
          cases h : pd b with
          | true => rfl
          | false => exact absurd (b01.mpr h) q
        rw [if_pos h0, ← nI_1] at ih'
        refine wp_x 7 hF rfl ?_
        exact ih'
  exact wp_x 4 hF rfl (loop 16 0 rfl)
/-- changed -/
theorem c_changedT (hF : FX mr) (hT : TR mi dk ca up nu nx us kd ru pd pe jb lf tot) {b : Int32} (t : ∀ i, i < 16 → b = nI i → up = true → Q (some (.int (nI (kd i + if pd i = true then 4 else 0)))) (mi, mr, sz)) (f : (up = false ∨ ∀ i, i < 16 → b ≠ nI i) → Q (some (.int (-1))) (mi, mr, sz)) : am_wp 86 0 (am_lo 86 [.ref 23, .int b]) [] (mi, mr, sz) Q := by
  refine wp_x 2 hF rfl ?_
  refine wp_eq1 rfl (fun q => ?_) (fun q => ?_)
  · refine wp_x 1 hF rfl ?_
    refine wp_re rfl rfl (f (Or.inl ?_))
    cases hu : up with
    | false => rfl
    | true => exact absurd q (hT.up4.mpr hu)
  · have hu := hT.up4.mp q
    subst hu
    obtain ⟨u1, u2, u3⟩ := hT.2.2.2.2.1 rfl
    refine wp_x 1 hF rfl ?_
    refine wp_ca rfl rfl ?_
    refine c_isBlock hF (fun i hi e => ?_) (fun hn => ?_)
    · refine wp_eq1 rfl (fun q => absurd q (by decide)) (fun _ => ?_)
      have hk := t i hi e rfl
      subst e
      refine wp_x 3 hF rfl ?_
      refine wp_al i rfl rfl rfl (by decide) rfl hi ?_
      rw [(u2 i hi).1]
      refine wp_x 3 hF rfl ?_
      refine wp_bl i rfl rfl rfl (by decide) rfl hi ?_
      rw [u3 i hi]
      refine wp_eq1 rfl (fun q => ?_) (fun q => ?_)
      · rw [b01.mp q, if_neg (by decide), ← nI_add] at hk
        refine wp_x 3 hF rfl ?_
        exact wp_re rfl rfl hk
      · have h0 : pd i = true := by
          cases h : pd i with
          | true => rfl
          | false => exact absurd (b01.mpr h) q
        rw [h0, if_pos rfl, ← nI_add] at hk
        refine wp_x 4 hF rfl ?_
        exact wp_re rfl rfl hk
    · refine wp_eq1 rfl (fun _ => ?_) (fun q => absurd rfl q)
      refine wp_x 1 hF rfl ?_
      exact wp_re rfl rfl (f (Or.inr hn))
/-- a job begins -/
theorem TR.begin {m j : Nat} (hT : TR mi dk ca up nu nx us kd ru pd pe jb lf tot) (hj : j < 5) (hm : m < 50) : TR (am_u2 (am_u2 (am_u2 mi 23 12 (nI j)) 23 13 0) 23 14 (nI m)) dk ca up nu nx us kd ru pd pe j m m := by
  obtain ⟨a1, a2, a3, a4', a5, a6, a7, a8, a9⟩ := hT
  have o : ∀ k, ¬ k = 12 → ¬ k = 13 → ¬ k = 14 → am_u2 (am_u2 (am_u2 mi 23 12 (nI j)) 23 13 0) 23 14 (nI m) 23 k = mi 23 k := fun k h1 h2 h3 => by rw [sd_u2k _ _ _ _ h3, sd_u2k _ _ _ _ h2, sd_u2k _ _ _ _ h1]
  refine ⟨a1.congr rfl rfl rfl rfl, by rw [o _ (by decide) (by decide) (by decide)]; exact a2, by rw [o _ (by decide) (by decide) (by decide)]; exact a3, by rw [o _ (by decide) (by decide) (by decide)]; exact a4', fun h => ⟨by rw [o _ (by decide) (by decide) (by decide)]; exact (a5 h).1, (a5 h).2.1, (a5 h).2.2⟩, a6, a7, ⟨by rw [sd_u2k _ _ _ _ (by decide), sd_u2k _ _ _ _ (by decide), sd_u2s], hj⟩, fun _ => ⟨?_, by rw [sd_u2s], Nat.le_refl _, hm⟩⟩
  rw [sd_u2k _ _ _ _ (by decide), sd_u2s, Nat.sub_self]
  rfl
theorem TF.u3 {mi : Nat → Nat → Int32} {k1' k2' k3' : Nat} {v1 v2 v3 : Int32} : TF mi (am_u2 (am_u2 (am_u2 mi 23 k1' v1) 23 k2' v2) 23 k3' v3) := ((TF.u2 (by omega) (by omega)).trans (TF.u2 (by omega) (by omega))).trans (TF.u2 (by omega) (by omega))
theorem c_commitT (hF : FX mr) (hT : TR mi dk ca up nu nx us kd ru pd pe jb lf tot) (t : up = true → jb = 0 → ¬ (∀ b, b < 16 → kd b = 0) → us + rlen kd ≤ 23 → ∀ mi', TF mi mi' → TR mi' dk ca up nu nx us kd ru pd pe 2 (rlen kd + 2) (rlen kd + 2) → Q (some (.int (nI (rlen kd)))) (mi', mr, sz)) (g : up = true → jb = 0 → ¬ (∀ b, b < 16 → kd b = 0) → 23 < us + rlen kd → Q (some (.int (-2))) (mi, mr, sz)) (f : (up = false ∨ ¬ jb = 0 ∨ ∀ b, b < 16 → kd b = 0) → Q (some (.int (-1))) (mi, mr, sz)) : am_wp 87 0 (am_lo 87 [.ref 23]) [] (mi, mr, sz) Q := by
  refine wp_x 1 hF rfl ?_
  refine wp_ca rfl rfl ?_
  refine c_idleT hF (fun h4 h12 => ?_) (fun h => ?_)
  rotate_left
  · refine wp_eq1 rfl (fun _ => ?_) (fun q => absurd rfl q)
    refine wp_x 1 hF rfl ?_
    exact wp_re rfl rfl (f ((nidle hT h).imp id Or.inl))
  have hu := hT.up4.mp h4
  have hj0 := hT.jb0.mp h12
  subst hu
  refine wp_eq1 rfl (fun q => absurd q (by decide)) (fun _ => ?_)
  refine wp_x 2 hF rfl ?_
  refine wp_ca rfl rfl ?_
  refine c_countOf hF ?_
  rw [show (0 : Int32) = nI 0 from rfl, hT.tk.cnt (by omega)]
  have hle := cnt_le (fun b => kd b == 0) 16
  have hall : cnt (fun b => kd b == 0) 16 = 16 ↔ ∀ b, b < 16 → kd b = 0 := by
    rw [cnt_all]; simp
  refine wp_x 1 hF rfl ?_
  refine wp_ne2N (cnt (fun b => kd b == 0) 16) 16 rfl rfl rfl (by omega) (by omega) (fun q1 => ?_) (fun q1 => ?_)
  · have hna : ¬ (∀ b, b < 16 → kd b = 0) := fun z => q1 (hall.mpr z)
    refine wp_x 1 hF rfl ?_
    refine wp_ca rfl rfl ?_
    refine c_rowLength hF hT.tk ?_
    have h16 := cnt_le (k1 kd) 16
    have hr : rlen kd ≤ 22 := by unfold rlen; split <;> omega
    obtain ⟨⟨u1, u1'⟩, u2, u3⟩ := hT.2.2.2.2.1 rfl
    refine wp_x 6 hF rfl ?_
    refine wp_le2N (us + rlen kd) 23 rfl (by show mi 23 7 + nI (rlen kd) = _; rw [u1, nI_add]) rfl (by omega) (by omega) (fun q2 => ?_) (fun q2 => ?_)
    · refine wp_x 12 hF rfl ?_
      have e2 : nI (rlen kd) + 2 = nI (rlen kd + 2) := nI_add (rlen kd) 2
      refine wp_re rfl rfl (t rfl hj0 hna q2 _ TF.u3 ?_)
      dsimp only
      rw [e2]
      exact hT.begin (j := 2) (by omega) (by omega)
    · refine wp_x 1 hF rfl ?_
      exact wp_re rfl rfl (g rfl hj0 hna q2)
  · refine wp_x 1 hF rfl ?_
    exact wp_re rfl rfl (f (Or.inr (Or.inr (hall.mp q1))))
theorem c_checkpointT (hF : FX mr) (hT : TR mi dk ca up nu nx us kd ru pd pe jb lf tot) (t : up = true → jb = 0 → ∀ mi', TF mi mi' → TR mi' dk ca up nu nx us kd ru pd pe 3 (cnt pd 16 + 3) (cnt pd 16 + 3) → Q (some (.int (nI (cnt pd 16)))) (mi', mr, sz)) (f : (up = false ∨ ¬ jb = 0) → Q (some (.int (-1))) (mi, mr, sz)) : am_wp 89 0 (am_lo 89 [.ref 23]) [] (mi, mr, sz) Q := by
  refine wp_x 1 hF rfl ?_
  refine wp_ca rfl rfl ?_
  refine c_idleT hF (fun h4 h12 => ?_) (fun h => ?_)
  rotate_left
  · refine wp_ne1 rfl (fun q => absurd rfl q) (fun _ => ?_)
    refine wp_x 1 hF rfl ?_
    exact wp_re rfl rfl (f (nidle hT h))
  have hu := hT.up4.mp h4
  have hj0 := hT.jb0.mp h12
  subst hu
  have h16 := cnt_le pd 16
  obtain ⟨u1, u2, u3⟩ := hT.2.2.2.2.1 rfl
  refine wp_ne1 rfl (fun _ => ?_) (fun q => absurd q (by decide))
  refine wp_x 8 hF rfl ?_
  refine wp_ca rfl rfl ?_
  refine c_countPending (pd := pd) hF u3 ?_
  refine wp_x 7 hF rfl ?_
  have e3 : nI (cnt pd 16) + 3 = nI (cnt pd 16 + 3) := nI_add (cnt pd 16) 3
  have e4 : nI (cnt pd 16) + 3 - 3 = nI (cnt pd 16) := by
    rw [e3, show (3 : Int32) = nI 3 from rfl, pk_sub (by omega)]
    congr 1
  have hT2 := hT.begin (j := 3) (m := cnt pd 16 + 3) (by omega) (by omega)
  rw [← e3] at hT2
  have tt := t rfl hj0 _ TF.u3 hT2
  refine wp_re rfl rfl ?_
  dsimp only
  rw [show am_u2 (am_u2 (am_u2 mi 23 12 3) 23 13 0) 23 14 (nI (cnt pd 16) + 3) 23 14 = nI (cnt pd 16) + 3 from sd_u2s _ _ _ _, e4]
  exact tt
theorem hw_m1 : ∀ n, n < 1000 → (nI n = (-1 : Int32) ↔ (none : Option Nat) = some n) := by
  intro n hn
  constructor
  · intro h
    have h1 : ¬ nI n < 0 := nI_nn (by omega)
    rw [h] at h1
    exact absurd (by decide) h1
  · intro h; cases h
theorem c_recoverT {p : Nat} {f0 : Int32} (hF : FX mr) (hT : TR mi dk ca up nu nx us kd ru pd pe jb lf tot) (hH : HG dk ca p f0) (hlen : (rcI (lgT dk ca p) f0).length ≤ 40) (t : up = false → jb = 0 → ∀ mi', TF mi mi' → TR mi' dk ca up nu nx us kd ru pd pe 4 ((rcI (lgT dk ca p) f0).length + 3) ((rcI (lgT dk ca p) f0).length + 3) → Q (some (.int (nI (rcI (lgT dk ca p) f0).length))) (mi', mr, sz)) (f : (up = true ∨ ¬ jb = 0) → Q (some (.int (-1))) (mi, mr, sz)) : am_wp 91 0 (am_lo 91 [.ref 23]) [] (mi, mr, sz) Q := by
  refine wp_x 2 hF rfl ?_
  refine wp_ne1 rfl (fun q => ?_) (fun q => ?_)
  · refine wp_x 1 hF rfl ?_
    exact wp_re rfl rfl (f (Or.inl (hT.up4.mp q)))
  have hu : up = false := by
    cases hu : up with
    | false => rfl
    | true => exact absurd q (hT.up4.mpr hu)
  subst hu
  refine wp_x 2 hF rfl ?_
  refine wp_eq1 rfl (fun q2 => ?_) (fun q2 => ?_)
  · have hj0 := hT.jb0.mp q2
    refine wp_x 9 hF rfl ?_
    refine wp_ca rfl rfl ?_
    have hT0 : TD (am_u2 (am_u2 mi 23 12 4) 23 13 0) dk ca := hT.1.congr rfl rfl rfl rfl
    refine c_replay hw_m1 hF hT0 hH (fun m1 hTS _ => ?_)
    obtain ⟨N, hN⟩ : ∃ z, z = (rcI (lgT dk ca p) f0).length := ⟨_, rfl⟩
    rw [← hN] at hlen t ⊢
    refine wp_x 7 hF rfl ?_
    have e3 : nI N + 3 = nI (N + 3) := nI_add N 3
    have e4 : nI N + 3 - 3 = nI N := by
      rw [e3, show (3 : Int32) = nI 3 from rfl, pk_sub (by omega)]
      congr 1
    refine wp_re rfl rfl ?_
    dsimp only
    rw [show am_u2 m1 23 14 (nI N + 3) 23 14 = nI N + 3 from sd_u2s _ _ _ _, e4, e3]
    refine t rfl hj0 _ ?_ ?_
    · exact (TF.trans (TF.trans (TF.u2 (by omega) (by omega)) (TF.u2 (by omega) (by omega))) hTS.tf).trans (TF.u2 (by omega) (by omega))
    · have hT2 := hT.begin (j := 4) (m := N + 3) (by omega) (by omega)
      refine hT2.dev (mi' := am_u2 m1 23 14 (nI (N + 3))) (fun a k h1 h2 h3 h4 h5 h6 h7 => ?_) ((hT0.fr hTS).congr rfl rfl rfl rfl)
      by_cases h14 : a = 23 ∧ k = 14
      · obtain ⟨rfl, rfl⟩ := h14
        rw [sd_u2s, sd_u2s]
      · simp only [am_u2, if_neg h14]
        rw [hTS a k h4 h5 h6 (by omega)]
        simp only [am_u2]
        rfl
  · refine wp_x 1 hF rfl ?_
    exact wp_re rfl rfl (f (Or.inr (fun z => q2 (hT.jb0.mpr z))))
end TW9
end
section
/-! THE TWIN: a job's actions -/
theorem layR_at (nx : Nat) : ∀ (l : List W4) (k i : Nat), (layR nx k l)[i]? = (l[i]?).map (fun e => (nI (17 + (nx + (k + i)) % 24), e))
  | [], k, i => by simp [layR]
  | e :: r, k, 0 => by simp [layR]
  | e :: r, k, i + 1 => by
    rw [layR, List.getElem?_cons_succ, List.getElem?_cons_succ, layR_at nx r (k + 1) i]
    have : k + 1 + i = k + (i + 1) := by omega
    rw [this]
theorem layR_len (nx : Nat) : ∀ (l : List W4) (k : Nat), (layR nx k l).length = l.length
  | [], _ => rfl
  | _ :: r, k => by rw [layR, List.length_cons, List.length_cons, layR_len nx r (k + 1)]
theorem flC_len (kd : Nat → Nat) (ru : Nat → Int32) (nu : Int32) (nx : Nat) : (flC kd ru nu nx).length = rlen kd := by
  unfold flC rowA
  rw [layR_len, List.length_append]
  exact rowW_len kd ru nu
theorem flK_len (pd : Nat → Bool) (pe : Nat → Int32) (nu : Int32) (nx : Nat) : (flK pd pe nu nx).length = cnt pd 16 + 1 := by
  simp [flK, imgs_len]
theorem flC_at {kd : Nat → Nat} {ru : Nat → Int32} {nu : Int32} {nx i : Nat} {e : En} (h : (flC kd ru nu nx)[i]? = some e) : e.1 = nI (17 + (nx + i) % 24) ∧ (rowA kd ru nu)[i]? = some e.2 := by
  unfold flC at h
  rw [layR_at, Option.map_eq_some_iff] at h
  obtain ⟨a, h1, h2⟩ := h
  rw [← h2]
  exact ⟨by rw [Nat.zero_add], h1⟩
section TW10
variable {mi : Nat → Nat → Int32} {mr : Nat → Nat → Nat} {sz : Nat} {Q : Option Value → am_H → Prop} {dk : Nat → Int32} {ca : List En} {nu : Int32} {nx : Nat} {kd : Nat → Nat} {ru : Nat → Int32} {pd : Nat → Bool} {pe : Nat → Int32}
theorem c_commitAction (hF : FX mr) (hD : TD mi dk ca) (hc : ca.length < 32) (hok : okC ca) (hK : TK mi kd ru) (h5 : mi 23 5 = nu) (h6 : mi 23 6 = nI nx) (hnx : nx < 24) (h14 : mi 23 14 = nI (rlen kd + 2)) {i : Nat} (hi : i < 50)
    (w : ∀ e, ((i + 1 < rlen kd ∧ (flC kd ru nu nx)[i]? = some e) ∨ (i = rlen kd ∧ (flC kd ru nu nx)[rlen kd - 1]? = some e)) → ∀ mi', TX mi mi' → TD mi' dk (ca ++ [e]) → Q none (mi', mr, sz)) (g : (i + 1 = rlen kd ∨ rlen kd < i) → ∀ mi', TX mi mi' → TD mi' (flS dk ca) [] → Q none (mi', mr, sz)) : am_wp 102 0 (am_lo 102 [.ref 23, .int (nI i)]) [] (mi, mr, sz) Q := by
  have hr1 : 1 ≤ rlen kd := by unfold rlen; omega
  have h16 := cnt_le (k1 kd) 16
  have hr40 : rlen kd ≤ 22 := by unfold rlen; split <;> omega
  have hrl := rowW_len kd ru nu
  have en : mi 23 14 - 2 = nI (rlen kd) := by rw [h14, show (2 : Int32) = nI 2 from rfl, pk_sub (by omega)]; rfl
  refine wp_x 9 hF rfl ?_
  show am_wp 102 11 [.ref 23, .int (nI i), .int (mi 23 14 - 2), .long 0] [.int (mi 23 14 - 2 - 1), .int (nI i)] (mi, mr, sz) Q
  rw [en]
  have en1 : nI (rlen kd) - 1 = nI (rlen kd - 1) := by rw [show (1 : Int32) = nI 1 from rfl, pk_sub (by omega)]
  refine wp_ge2N i (rlen kd - 1) rfl rfl en1 (by omega) (by omega) (fun q => ?_) (fun q => ?_)
  · refine wp_x 2 hF rfl ?_
    refine wp_ne2N i (rlen kd) rfl rfl rfl (by omega) (by omega) (fun q2 => ?_) (fun q2 => ?_)
    · refine wp_x 1 hF rfl ?_
      refine wp_ca rfl rfl ?_
      refine c_flushT hF hD hok (fun m1 h1 hD1 => ?_)
      exact wp_re rfl rfl (g (by omega) m1 (TX.off h1) hD1)
    · subst q2
      refine wp_x 4 hF rfl ?_
      show am_wp 102 47 _ [.int (nI (rlen kd) - 1), .ref 23] _ _
      rw [en1]
      refine wp_ca rfl rfl ?_
      refine c_sum hF hK h5 (by omega) (fun m1 h1 => ?_)
      rw [List.take_of_length_le (by omega)]
      refine wp_x 7 hF rfl ?_
      refine wp_ca rfl rfl ?_
      refine c_say hF ?_
      obtain ⟨m2, hm2⟩ : ∃ z, z = o4 m1 (77001, 3, m1 23 5, (rowW kd ru nu).foldl mix4 nu) := ⟨_, rfl⟩
      have o2 : ∀ a, ¬ a = 31 → m2 a = mi a := fun a ha => by rw [hm2, o4_o _ _ ha, h1 a ha]
      have hot : ot m2 = (MG, 3, nu, (rowW kd ru nu).foldl mix4 nu) := by rw [hm2, ot_o4, h1 23 (by decide), h5]; rfl
      show am_wp 102 (60 + 3) [.ref 23, .int (nI (rlen kd)), .int (nI (rlen kd)), .int ((rowW kd ru nu).foldl mix4 nu)] [] (o4 m1 (77001, 3, m1 23 5, (rowW kd ru nu).foldl mix4 nu), mr, sz) Q
      rw [← hm2]
      refine wp_x 11 hF rfl ?_
      have es : (17 : Int32) + (m2 23 6 + nI (rlen kd) - 1 - (m2 23 6 + nI (rlen kd) - 1) / 24 * 24) = nI (17 + (nx + (rlen kd - 1)) % 24) := by
        rw [o2 23 (by decide), h6, nI_add, show (1 : Int32) = nI 1 from rfl, pk_sub (by omega), rem24 (by omega), show (17 : Int32) = nI 17 from rfl, nI_add]
        congr 3
      show am_wp 102 78 _ [.int ((17 : Int32) + (m2 23 6 + nI (rlen kd) - 1 - (m2 23 6 + nI (rlen kd) - 1) / 24 * 24)), .ref 23] _ _
      rw [es]
      refine wp_ca rfl rfl ?_
      refine c_writeOut hF (hD.congr (by rw [o2 23 (by decide)]) (o2 24 (by decide)) (o2 25 (by decide)) (o2 26 (by decide))) hc (fun m3 h3 hD3 => ?_)
      refine wp_x 1 hF rfl ?_
      rw [hot] at hD3
      refine wp_re rfl rfl (w _ (Or.inr ⟨rfl, ?_⟩) m3 ((TX.of31 o2).trans (TX.ofw h3)) hD3)
      unfold flC
      rw [layR_at, Nat.zero_add]
      unfold rowA
      rw [List.getElem?_append_right (by omega)]
      have : rlen kd - 1 - (rowW kd ru nu).length = 0 := by omega
      rw [this]
      rfl
  · obtain ⟨e, he⟩ : ∃ z, (rowW kd ru nu)[i]? = some z := ⟨_, List.getElem?_eq_getElem (by omega)⟩
    refine wp_x 2 hF rfl ?_
    refine wp_ca rfl rfl ?_
    refine c_body hF hK h5 he (fun m1 h1 hot => ?_)
    refine wp_x 9 hF rfl ?_
    have es : (17 : Int32) + (m1 23 6 + nI i - (m1 23 6 + nI i) / 24 * 24) = nI (17 + (nx + i) % 24) := by
      rw [h1 23 (by decide), h6, nI_add, rem24 (by omega), show (17 : Int32) = nI 17 from rfl, nI_add]
    show am_wp 102 32 _ [.int ((17 : Int32) + (m1 23 6 + nI i - (m1 23 6 + nI i) / 24 * 24)), .ref 23] _ _
    rw [es]
    refine wp_ca rfl rfl ?_
    refine c_writeOut hF (hD.congr (by rw [h1 23 (by decide)]) (h1 24 (by decide)) (h1 25 (by decide)) (h1 26 (by decide))) hc (fun m3 h3 hD3 => ?_)
    refine wp_x 1 hF rfl ?_
    rw [hot] at hD3
    refine wp_re rfl rfl (w _ (Or.inl ⟨by omega, ?_⟩) m3 ((TX.of31 h1).trans (TX.ofw h3)) hD3)
    unfold flC
    rw [layR_at, Nat.zero_add]
    unfold rowA
    rw [List.getElem?_append_left (by omega), he]
    rfl
theorem c_checkpointAction (hF : FX mr) (hD : TD mi dk ca) (hc : ca.length < 32) (hok : okC ca) (hp : ∀ b, b < 16 → mi 29 b = if pd b = true then 1 else 0) (hpe : ∀ j, j < 64 → mi 30 j = pe j) (h5 : mi 23 5 = nu) (h6 : mi 23 6 = nI nx) (h14 : mi 23 14 = nI (cnt pd 16 + 3)) {i : Nat} (hi : i < 50)
    (w : ∀ e, ((i < cnt pd 16 ∧ (flK pd pe nu nx)[i]? = some e) ∨ (i = cnt pd 16 + 1 ∧ (flK pd pe nu nx)[cnt pd 16]? = some e)) → ∀ mi', TX mi mi' → TD mi' dk (ca ++ [e]) → Q none (mi', mr, sz)) (g : (i = cnt pd 16 ∨ cnt pd 16 + 1 < i) → ∀ mi', TX mi mi' → TD mi' (flS dk ca) [] → Q none (mi', mr, sz)) : am_wp 110 0 (am_lo 110 [.ref 23, .int (nI i)]) [] (mi, mr, sz) Q := by
  have h16 := cnt_le pd 16
  have hlen := imgs_len pd
  have en : mi 23 14 - 3 = nI (cnt pd 16) := by rw [h14, show (3 : Int32) = nI 3 from rfl, pk_sub (by omega)]; congr 1
  refine wp_x 7 hF rfl ?_
  show am_wp 110 9 [.ref 23, .int (nI i), .int (mi 23 14 - 3), .long 0, .long 0] [.int (mi 23 14 - 3), .int (nI i)] (mi, mr, sz) Q
  rw [en]
  refine wp_ge2N i (cnt pd 16) rfl rfl rfl (by omega) (by omega) (fun q => ?_) (fun q => ?_)
  · refine wp_x 4 hF rfl ?_
    refine wp_ne2N i (cnt pd 16 + 1) rfl rfl (nI_1 _) (by omega) (by omega) (fun q2 => ?_) (fun q2 => ?_)
    · refine wp_x 1 hF rfl ?_
      refine wp_ca rfl rfl ?_
      refine c_flushT hF hD hok (fun m1 h1 hD1 => ?_)
      exact wp_re rfl rfl (g (by omega) m1 (TX.off h1) hD1)
    · refine wp_x 7 hF rfl ?_
      refine wp_ca rfl rfl ?_
      refine c_say hF ?_
      refine wp_x 2 hF rfl ?_
      obtain ⟨m2, hm2⟩ : ∃ z, z = o4 mi (77001, mi 23 5, mi 23 6, 0) := ⟨_, rfl⟩
      have o2 : ∀ a, ¬ a = 31 → m2 a = mi a := fun a ha => by rw [hm2, o4_o _ _ ha]
      have hot : ot m2 = (MG, nu, nI nx, 0) := by rw [hm2, ot_o4, h5, h6]; rfl
      show am_wp 110 151 _ [.int 16, .ref 23] (o4 mi (77001, mi 23 5, mi 23 6, 0), mr, sz) Q
      rw [← hm2]
      refine wp_ca rfl rfl ?_
      refine c_writeOut hF (hD.congr (by rw [o2 23 (by decide)]) (o2 24 (by decide)) (o2 25 (by decide)) (o2 26 (by decide))) hc (fun m3 h3 hD3 => ?_)
      refine wp_x 1 hF rfl ?_
      rw [hot] at hD3
      refine wp_re rfl rfl (w _ (Or.inr ⟨q2, ?_⟩) m3 ((TX.of31 o2).trans (TX.ofw h3)) hD3)
      unfold flK
      rw [List.getElem?_append_right (by simp [hlen])]
      simp [hlen]
      rfl
  · -- the image number i
    obtain ⟨b0, hb0⟩ : ∃ z, (imgs pd)[i]? = some z := ⟨_, List.getElem?_eq_getElem (by omega)⟩
    have hb16 : b0 < 16 := (imgsN_lt (List.mem_of_getElem? hb0)).1
    have loop : ∀ d b (m1 : Nat → Nat → Int32), b + d = 16 → (∀ a k, ¬ a = 31 → ¬ (a = 23 ∧ k = 16) → m1 a k = mi a k) → (∀ z, (imgsN pd b)[i]? = some z → ot m1 = b4 pe z ∧ m1 23 16 = nI z) → am_wp 110 17 [.ref 23, .int (nI i), .int (nI (cnt pd 16)), .int (nI (cnt pd b)), .int (nI b)] [] (m1, mr, sz) Q := by
      intro d
      induction d with
      | zero =>
        intro b m1 hb h1 h2
        have hb' : b = 16 := by omega
        subst hb'
        refine wp_x 2 hF rfl ?_
        refine wp_ge2N 16 16 rfl rfl rfl (by omega) (by omega) (fun _ => ?_) (fun q => absurd q (by omega))
        obtain ⟨g1, g2⟩ := h2 b0 hb0
        refine wp_x 3 hF rfl ?_
        show am_wp 110 120 _ [.int (m1 23 16), .ref 23] _ _
        rw [g2]
        refine wp_ca rfl rfl ?_
        have ho : ∀ a, ¬ a = 31 → ¬ a = 23 → m1 a = mi a := fun a ha hb => funext fun k => h1 a k ha (fun z => hb z.1)
        refine c_writeOut hF (hD.congr (h1 23 1 (by decide) (by omega)) (ho 24 (by decide) (by decide)) (ho 25 (by decide) (by decide)) (ho 26 (by decide) (by decide))) hc (fun m3 h3 hD3 => ?_)
        refine wp_x 1 hF rfl ?_
        rw [g1] at hD3
        refine wp_re rfl rfl (w _ (Or.inl ⟨q, ?_⟩) m3 (TX.trans (m2 := m1) (fun a k _ _ _ z4 _ _ z7 => h1 a k z4 (by omega)) (TX.ofw h3)) hD3)
        unfold flK
        rw [List.getElem?_append_left (by simp [hlen]; omega), List.getElem?_map, hb0]
        rfl
      | succ d ih =>
        intro b m1 hb h1 h2
        have hb16' : b < 16 := by omega
        have ih' := fun m2 => ih (b + 1) m2 (by omega)
        rw [show cnt pd (b + 1) = (if pd b = true then cnt pd b + 1 else cnt pd b) from rfl, imgsN_succ, ← nI_1] at ih'
        have hcb := cnt_le pd b
        have hlb := imgsN_len pd b
        have e29 : ∀ m2 : Nat → Nat → Int32, (∀ a k, ¬ a = 31 → ¬ (a = 23 ∧ k = 16) → m2 a k = mi a k) → m2 29 b = if pd b = true then 1 else 0 := fun m2 hm2 => by rw [hm2 29 b (by decide) (by omega)]; exact hp b hb16'
        refine wp_x 2 hF rfl ?_
        refine wp_ge2N b 16 rfl rfl rfl (by omega) (by omega) (fun q => absurd q (by omega)) (fun _ => ?_)
        refine wp_x 3 hF rfl ?_
        refine wp_bl b rfl rfl rfl (by decide) rfl hb16' ?_
        rw [e29 m1 h1]
        -- the count goes on
        have on : ∀ m2 : Nat → Nat → Int32, (∀ a k, ¬ a = 31 → ¬ (a = 23 ∧ k = 16) → m2 a k = mi a k) → (∀ z, (if pd b = true then imgsN pd b ++ [b] else imgsN pd b)[i]? = some z → ot m2 = b4 pe z ∧ m2 23 16 = nI z) → am_wp 110 91 [.ref 23, .int (nI i), .int (nI (cnt pd 16)), .int (nI (cnt pd b)), .int (nI b)] [] (m2, mr, sz) Q := by
          intro m2 g1 g2
          have ih2 := ih' m2 g1 g2
          refine wp_x 3 hF rfl ?_
          refine wp_bl b rfl rfl rfl (by decide) rfl hb16' ?_
          rw [e29 m2 g1]
          refine wp_eq1 rfl (fun z => ?_) (fun z => ?_)
          · rw [if_neg (by rw [b01.mp z]; decide)] at ih2
            refine wp_x 4 hF rfl ?_
            exact ih2
          · have h0 : pd b = true := by
              cases h : pd b with
              | true => rfl
              | false => exact absurd (b01.mpr h) z
            rw [if_pos h0, ← nI_1] at ih2
            refine wp_x 7 hF rfl ?_
            exact ih2
        refine wp_eq1 rfl (fun z => ?_) (fun z => ?_)
        · have h0 := b01.mp z
          exact on m1 h1 (by rw [h0, if_neg (by decide)]; exact h2)
        · have h0 : pd b = true := by
            cases h : pd b with
            | true => rfl
            | false => exact absurd (b01.mpr h) z
          refine wp_x 2 hF rfl ?_
          refine wp_ne2N (cnt pd b) i rfl rfl rfl (by omega) (by omega) (fun z2 => ?_) (fun z2 => ?_)
          · refine on m1 h1 (fun y hy => ?_)
            rw [if_pos h0] at hy
            rcases get_snoc_lt hy with y1 | ⟨y1, -⟩
            · exact h2 y y1
            · rw [hlb] at y1; exact absurd y1.symm z2
          · have e30 : ∀ x, x < 4 → m1 30 (4 * b + x) = pe (4 * b + x) := fun x hx => by rw [h1 30 _ (by decide) (by omega)]; exact hpe _ (by omega)
            refine wp_x 6 hF rfl ?_
            refine wp_al (4 * b) rfl rfl (a40 b) (by decide) rfl (show 4 * b < 64 by omega) ?_
            refine wp_x 7 hF rfl ?_
            refine wp_al (4 * b + 1) rfl rfl (a4 b 1) (by decide) rfl (show 4 * b + 1 < 64 by omega) ?_
            refine wp_x 7 hF rfl ?_
            refine wp_al (4 * b + 2) rfl rfl (a4 b 2) (by decide) rfl (show 4 * b + 2 < 64 by omega) ?_
            refine wp_x 7 hF rfl ?_
            refine wp_al (4 * b + 3) rfl rfl (a4 b 3) (by decide) rfl (show 4 * b + 3 < 64 by omega) ?_
            rw [show m1 30 (4 * b) = pe (4 * b) from e30 0 (by omega), e30 1 (by omega), e30 2 (by omega), e30 3 (by omega)]
            refine wp_ca rfl rfl ?_
            refine c_say hF ?_
            refine wp_x 3 hF rfl ?_
            obtain ⟨m2, hm2⟩ : ∃ z, z = am_u2 (o4 m1 (pe (4 * b), pe (4 * b + 1), pe (4 * b + 2), pe (4 * b + 3))) 23 16 (nI b) := ⟨_, rfl⟩
            have g1 : ∀ a k, ¬ a = 31 → ¬ (a = 23 ∧ k = 16) → m2 a k = mi a k := by
              intro a k y1 y2
              rw [hm2]; simp only [am_u2]; rw [if_neg y2, o4_o _ _ y1]
              exact h1 a k y1 y2
            show am_wp 110 91 [.ref 23, .int (nI i), .int (nI (cnt pd 16)), .int (nI (cnt pd b)), .int (nI b)] [] (am_u2 (o4 m1 (pe (4 * b), pe (4 * b + 1), pe (4 * b + 2), pe (4 * b + 3))) 23 16 (nI b), mr, sz) Q
            rw [← hm2]
            refine on m2 g1 (fun y hy => ?_)
            rw [if_pos h0] at hy
            rcases get_snoc_lt hy with y1 | ⟨y1, y2⟩
            · have := (List.getElem?_eq_some_iff.mp y1).1
              omega
            · subst y2
              refine ⟨?_, by rw [hm2, sd_u2s]⟩
              have : ot m2 = ot (o4 m1 (pe (4 * b), pe (4 * b + 1), pe (4 * b + 2), pe (4 * b + 3))) := by
                simp only [ot, hm2, sd_u2r _ 23 _ _ (show ¬ 31 = 23 by decide)]
              rw [this, ot_o4]
              rfl
    refine wp_x 4 hF rfl ?_
    exact loop 16 0 mi rfl (fun _ _ _ _ => rfl) (fun z hz => by simp [imgsN] at hz)
theorem hw_n {i : Nat} (hi : i < 1000) : ∀ n, n < 1000 → (nI n = nI i ↔ some i = some n) := by
  intro n hn
  rw [nI_eq (by omega) (by omega)]
  constructor
  · intro h; rw [h]
  · intro h; exact (Option.some.inj h).symm
theorem c_recoveryAction {p : Nat} {f0 : Int32} (hF : FX mr) (hD : TD mi dk ca) (hc : ca.length < 32) (hok : okC ca) (hH : HG dk ca p f0 ∨ True) {N : Nat} (hN50 : N < 40) (h14 : mi 23 14 = nI (N + 3)) {i : Nat} (hi : i < 50)
    (hr : i < N ∨ i = N + 1 → HG dk ca p f0 ∧ N = (rcI (lgT dk ca p) f0).length)
    (w : ∀ e, ((i < N ∧ (rcI (lgT dk ca p) f0)[i]? = some e) ∨ (i = N + 1 ∧ e = rcE (lgT dk ca p) f0 p)) → ∀ mi', TX mi mi' → TD mi' dk (ca ++ [e]) → Q none (mi', mr, sz)) (g : (i = N ∨ N + 1 < i) → ∀ mi', TX mi mi' → TD mi' (flS dk ca) [] → Q none (mi', mr, sz)) : am_wp 111 0 (am_lo 111 [.ref 23, .int (nI i)]) [] (mi, mr, sz) Q := by
  have en : mi 23 14 - 3 = nI N := by rw [h14, show (3 : Int32) = nI 3 from rfl, pk_sub (by omega)]; congr 1
  refine wp_x 7 hF rfl ?_
  show am_wp 111 9 [.ref 23, .int (nI i), .int (mi 23 14 - 3)] [.int (mi 23 14 - 3), .int (nI i)] (mi, mr, sz) Q
  rw [en]
  refine wp_ge2N i N rfl rfl rfl (by omega) (by omega) (fun q => ?_) (fun q => ?_)
  · refine wp_x 4 hF rfl ?_
    refine wp_ne2N i (N + 1) rfl rfl (nI_1 _) (by omega) (by omega) (fun q2 => ?_) (fun q2 => ?_)
    · refine wp_x 1 hF rfl ?_
      refine wp_ca rfl rfl ?_
      refine c_flushT hF hD hok (fun m1 h1 hD1 => ?_)
      exact wp_re rfl rfl (g (by omega) m1 (TX.off h1) hD1)
    · obtain ⟨hH, hNl⟩ := hr (Or.inr q2)
      have hp24 := hH.2.1
      refine wp_x 1 hF rfl ?_
      refine wp_ca rfl rfl ?_
      refine c_findRev hF hD hH (fun m1 hTS _ _ z17 _ z19 z20 _ zn => ?_)
      refine wp_x 12 hF rfl ?_
      have es : m1 23 17 + m1 23 20 - (m1 23 17 + m1 23 20) / 24 * 24 = nI ((p + (sc (lgT dk ca p) 25 f0 0 (fun _ => none)).1) % 24) := by
        rw [z17, z20, nI_add, rem24 (by omega)]
      show am_wp 111 60 _ [.int 0, .int (m1 23 17 + m1 23 20 - (m1 23 17 + m1 23 20) / 24 * 24), .int (m1 23 19), .int 77001, .ref 23] _ _
      rw [es, z19]
      refine wp_ca rfl rfl ?_
      refine c_say hF ?_
      refine wp_x 2 hF rfl ?_
      obtain ⟨m2, hm2⟩ : ∃ z, z = o4 m1 (77001, (sc (lgT dk ca p) 25 f0 0 (fun _ => none)).2.1, nI ((p + (sc (lgT dk ca p) 25 f0 0 (fun _ => none)).1) % 24), 0) := ⟨_, rfl⟩
      have o2 : ∀ a, ¬ a = 31 → m2 a = m1 a := fun a ha => by rw [hm2, o4_o _ _ ha]
      have hot : ((nI 16, ot m2) : En) = rcE (lgT dk ca p) f0 p := by rw [hm2, ot_o4]; rfl
      have hD1 := hD.fr hTS
      show am_wp 111 66 _ [.int 16, .ref 23] (o4 m1 (77001, (sc (lgT dk ca p) 25 f0 0 (fun _ => none)).2.1, nI ((p + (sc (lgT dk ca p) 25 f0 0 (fun _ => none)).1) % 24), 0), mr, sz) Q
      rw [← hm2]
      refine wp_ca rfl rfl ?_
      refine c_writeOut hF (hD1.congr (by rw [o2 23 (by decide)]) (o2 24 (by decide)) (o2 25 (by decide)) (o2 26 (by decide))) hc (fun m3 h3 hD3 => ?_)
      refine wp_x 1 hF rfl ?_
      exact wp_re rfl rfl (w _ (Or.inr ⟨q2, rfl⟩) m3 (hTS.tx.trans ((TX.of31 o2).trans (TX.ofw h3))) (by rw [← hot]; exact hD3))
  · obtain ⟨hH, hNl⟩ := hr (Or.inl q)
    obtain ⟨e, he⟩ : ∃ z, (rcI (lgT dk ca p) f0)[i]? = some z := ⟨_, List.getElem?_eq_getElem (by omega)⟩
    refine wp_x 2 hF rfl ?_
    refine wp_ca rfl rfl ?_
    refine c_replay (hw_n (i := i) (by omega)) hF hD hH (fun m1 hTS hWT => ?_)
    obtain ⟨g1, g2⟩ := hWT i e rfl he
    refine wp_x 4 hF rfl ?_
    show am_wp 111 23 _ [.int (m1 23 16), .ref 23] _ _
    rw [g2]
    refine wp_ca rfl rfl ?_
    refine c_writeOut hF (hD.fr hTS) hc (fun m3 h3 hD3 => ?_)
    refine wp_x 1 hF rfl ?_
    rw [g1] at hD3
    exact wp_re rfl rfl (w _ (Or.inl ⟨q, he⟩) m3 (hTS.tx.trans (TX.ofw h3)) hD3)
end TW10
end
section
/-! THE PURE STATE, one action of a job, and what always holds -/
abbrev Sp : Type := ((Nat → Int32) × List En) × (Bool × Int32 × Nat × Nat) × ((Nat → Nat) × (Nat → Int32) × (Nat → Bool) × (Nat → Int32)) × (Nat × Nat × List En × Nat × Int32 × Nat)
/-- does the next action flush -/
def fsh (lf : Nat) (pl : List En) : Prop := lf = 1 ∨ (lf = 3 ∧ pl.length = 1)
def fshB (lf : Nat) (pl : List En) : Bool := lf == 1 || (lf == 3 && pl.length == 1)
def aDk (dk : Nat → Int32) (ca : List En) (lf : Nat) (pl : List En) : Nat → Int32 := if fshB lf pl = true then flS dk ca else dk
def aCa (ca : List En) (lf : Nat) (pl : List En) : List En := if fshB lf pl = true then [] else ca ++ pl.take 1
def aPl (lf : Nat) (pl : List En) : List En := if fshB lf pl = true then pl else pl.drop 1
def pdC (kd : Nat → Nat) (pd : Nat → Bool) : Nat → Bool := fun b => kd b == 1 || (kd b == 0 && pd b)
def peC (kd : Nat → Nat) (ru pe : Nat → Int32) : Nat → Int32 := fun j => if kd (j / 4) = 1 then ru j else pe j
/-- memory when a job is done -/
def eV (jb : Nat) (up : Bool) (nu : Int32) (nx us : Nat) (kd : Nat → Nat) (rn : Int32) (rs : Nat) : Bool × Int32 × Nat × Nat := if jb = 2 then (up, nu + 1, (nx + rlen kd) % 24, us + rlen kd) else if jb = 3 then (up, nu, nx, 0) else (true, rn, rs, 0)
def eI (jb : Nat) (kd : Nat → Nat) (ru : Nat → Int32) (pd : Nat → Bool) (pe : Nat → Int32) : (Nat → Nat) × (Nat → Int32) × (Nat → Bool) × (Nat → Int32) := if jb = 2 then (fun _ => 0, ru, pdC kd pd, peC kd ru pe) else if jb = 3 then (kd, ru, fun _ => false, pe) else (fun _ => 0, ru, fun _ => false, pe)
def oneS (s : Sp) : Sp := match s with
  | ((dk, ca), (up, nu, nx, us), (kd, ru, pd, pe), (jb, lf, pl, tot, rn, rs)) =>
    if lf = 1 then ((aDk dk ca lf pl, aCa ca lf pl), eV jb up nu nx us kd rn rs, eI jb kd ru pd pe, (0, 0, [], tot, rn, rs))
    else ((aDk dk ca lf pl, aCa ca lf pl), (up, nu, nx, us), (kd, ru, pd, pe), (jb, lf - 1, aPl lf pl, tot, rn, rs))
def itS : Nat → Sp → Nat × Sp
  | 0, s => (0, s)
  | n + 1, s => if s.2.2.2.1 = 0 then (0, s) else ((itS n (oneS s)).1 + 1, (itS n (oneS s)).2)
/-- an entry's sector, and what a head holds -/
def okN (e : En) : Prop := (e.1 = nI e.1.toNatClampNeg ∧ e.1.toNatClampNeg < 41) ∧ (e.1.toNatClampNeg = 16 → e.2.1 = MG ∧ ∃ p, p < 24 ∧ e.2.2.2.1 = nI p)
def okE (l : List En) : Prop := ∀ e ∈ l, okN e
theorem okE_nil : okE [] := fun e he => by cases he
theorem okE.c {l : List En} (h : okE l) : okC l := fun e he => (h e he).1
def phs (FL ca : List En) (lf : Nat) (pl : List En) : Prop := 1 ≤ FL.length ∧ ((lf = pl.length + 2 ∧ 1 ≤ pl.length ∧ pl.length ≤ FL.length ∧ pl = FL.drop (FL.length - pl.length)) ∨ (lf = 2 ∧ pl.length = 1 ∧ pl = FL.drop (FL.length - 1) ∧ ca = []) ∨ (lf = 1 ∧ pl = [] ∧ ca = FL.drop (FL.length - 1)))
def JR (dk : Nat → Int32) (ca : List En) (up : Bool) (nu : Int32) (nx us : Nat) (kd : Nat → Nat) (ru : Nat → Int32) (pd : Nat → Bool) (pe : Nat → Int32) (jb lf : Nat) (pl : List En) (tot : Nat) (rn : Int32) (rs : Nat) : Prop :=
  (jb = 0 ∧ lf = 0 ∧ pl = []) ∨
  (jb = 2 ∧ up = true ∧ us + rlen kd ≤ 23 ∧ tot = rlen kd + 2 ∧ phs (flC kd ru nu nx) ca lf pl) ∨
  (jb = 3 ∧ up = true ∧ tot = cnt pd 16 + 3 ∧ phs (flK pd pe nu nx) ca lf pl) ∨
  (jb = 4 ∧ up = false ∧ rs < 24 ∧ tot < 40 ∧ 3 ≤ tot ∧ ((∃ p f, HG dk ca p f ∧ (∀ e ∈ ca, e.1.toNatClampNeg < 16) ∧ tot = (rcI (lgT dk ca p) f).length + 3 ∧ 2 ≤ lf ∧ phs (rcI (lgT dk ca p) f ++ [rcE (lgT dk ca p) f p]) ca lf pl ∧ rcE (lgT dk ca p) f p = (nI 16, MG, rn, nI rs, 0)) ∨ (lf = 1 ∧ pl = [] ∧ ca = [(nI 16, MG, rn, nI rs, 0)])))
def hdD (dk : Nat → Int32) : Prop := dk 64 = MG ∧ ∃ p, p < 24 ∧ dk 66 = nI p
def WF (s : Sp) : Prop := match s with
  | ((dk, ca), (up, nu, nx, us), (kd, ru, pd, pe), (jb, lf, pl, tot, rn, rs)) =>
    okE ca ∧ okE pl ∧ hdD dk ∧ nx < 24 ∧ us < 24 ∧ ca.length + pl.length ≤ 31 ∧ (jb = 0 → ca.length ≤ 12) ∧ (up = false → jb = 0 → ca = []) ∧ cnt (k1 kd) 16 ≤ 8 ∧ (∀ b, b < 16 → kd b ≤ 2) ∧ (up = false → ∀ b, b < 16 → kd b = 0 ∧ pd b = false) ∧ JR dk ca up nu nx us kd ru pd pe jb lf pl tot rn rs
theorem stl_out {dk : Nat → Int32} {e : En} {n j : Nat} (h : j < 4 * e.1.toNatClampNeg ∨ 4 * e.1.toNatClampNeg + n ≤ j) : stl dk e n j = dk j := by
  unfold stl; rw [if_neg (by omega)]
theorem stl_in {dk : Nat → Int32} {e : En} {n w : Nat} (h : w < n) : stl dk e n (4 * e.1.toNatClampNeg + w) = wd4 e.2 w := by
  unfold stl; rw [if_pos (by omega)]; congr 1; omega
theorem hdD_stl {dk : Nat → Int32} {e : En} {n : Nat} (hn : n ≤ 4) (he : okN e) (h : hdD dk) : hdD (stl dk e n) := by
  obtain ⟨⟨he1, he2⟩, he3⟩ := he
  obtain ⟨h1, p, hp, h2⟩ := h
  by_cases h16 : e.1.toNatClampNeg = 16
  · obtain ⟨g1, p', hp', g2⟩ := he3 h16
    refine ⟨?_, ?_⟩
    · by_cases hn0 : 0 < n
      · have := stl_in (dk := dk) (e := e) (n := n) (w := 0) hn0
        rw [h16] at this
        rw [show (64 : Nat) = 4 * 16 + 0 from rfl, this]; exact g1
      · rw [stl_out (by omega)]; exact h1
    · by_cases hn2 : 2 < n
      · refine ⟨p', hp', ?_⟩
        have := stl_in (dk := dk) (e := e) (n := n) (w := 2) hn2
        rw [h16] at this
        rw [show (66 : Nat) = 4 * 16 + 2 from rfl, this]; exact g2
      · refine ⟨p, hp, ?_⟩
        rw [stl_out (by omega)]; exact h2
  · refine ⟨by rw [stl_out (by omega)]; exact h1, p, hp, by rw [stl_out (by omega)]; exact h2⟩
theorem hdD_flS : ∀ (ca : List En) {dk : Nat → Int32}, okE ca → hdD dk → hdD (flS dk ca)
  | [], _, _, h => h
  | e :: r, dk, hok, h => by
    show hdD (flS (stl dk e 4) r)
    exact hdD_flS r (fun x hx => hok x (List.mem_cons_of_mem _ hx)) (hdD_stl (by omega) (hok e List.mem_cons_self) h)
/-- blocks in the cache don't touch the log -/
theorem rdS_blk (dk : Nat → Int32) : ∀ (ca : List En) {s w : Nat}, (∀ e ∈ ca, e.1 = nI e.1.toNatClampNeg ∧ e.1.toNatClampNeg < 16) → 16 ≤ s → s < 41 → rdS dk ca s w = dk (4 * s + w) := by
  intro ca
  have key : ∀ (ca : List En) (v : Int32) {s w : Nat}, (∀ e ∈ ca, e.1 = nI e.1.toNatClampNeg ∧ e.1.toNatClampNeg < 16) → 16 ≤ s → s < 41 → ca.foldl (fun v e => if e.1 = nI s then wd4 e.2 w else v) v = v := by
    intro ca
    induction ca with
    | nil => intro v s w _ _ _; rfl
    | cons e r ih =>
      intro v s w h h1 h2
      have he := h e List.mem_cons_self
      have hne : ¬ e.1 = nI s := by
        rw [he.1]
        intro q
        have := (nI_eq (by omega) (by omega)).mp q
        omega
      rw [List.foldl_cons, if_neg hne]
      exact ih v (fun x hx => h x (List.mem_cons_of_mem _ hx)) h1 h2
  intro s w h h1 h2
  exact key ca _ h h1 h2
theorem flS_blk : ∀ (ca : List En) {dk : Nat → Int32} {j : Nat}, (∀ e ∈ ca, e.1.toNatClampNeg < 16) → 64 ≤ j → flS dk ca j = dk j
  | [], _, _, _, _ => rfl
  | e :: r, dk, j, h, hj => by
    show flS (stl dk e 4) r j = dk j
    rw [flS_blk r (fun x hx => h x (List.mem_cons_of_mem _ hx)) hj]
    have := h e List.mem_cons_self
    exact stl_out (by omega)
theorem lgT_congr {dk dk' : Nat → Int32} {ca ca' : List En} (h : ∀ s w, 16 ≤ s → s < 41 → rdS dk' ca' s w = rdS dk ca s w) (p : Nat) : lgT dk' ca' p = lgT dk ca p := by
  funext k
  have hlt : (p + k) % 24 < 24 := Nat.mod_lt _ (by omega)
  simp only [lgT, rd4]
  rw [h _ 0 (by omega) (by omega), h _ 1 (by omega) (by omega), h _ 2 (by omega) (by omega), h _ 3 (by omega) (by omega)]
theorem HG_congr {dk dk' : Nat → Int32} {ca ca' : List En} (h : ∀ s w, 16 ≤ s → s < 41 → rdS dk' ca' s w = rdS dk ca s w) {p : Nat} {f : Int32} (hH : HG dk ca p f) : HG dk' ca' p f := by
  obtain ⟨a, b, c, d⟩ := hH
  exact ⟨by rw [h _ _ (by omega) (by omega)]; exact a, b, by rw [h _ _ (by omega) (by omega)]; exact c, by rw [h _ _ (by omega) (by omega)]; exact d⟩
theorem rp_blk (lg : Nat → W4) (rv : Nat → Option Int32) (n : Nat) : ∀ (f k : Nat) (q : Int32), ∀ e ∈ rp lg rv n f k q, e.1 = nI e.1.toNatClampNeg ∧ e.1.toNatClampNeg < 16
  | 0, k, q, e, h => by simp [rp] at h
  | f + 1, k, q, e, h => by
    rw [rp] at h
    split at h
    · simp at h
    · split at h
      · rcases List.mem_append.mp h with h | h
        · simp only [rpg, List.mem_map] at h
          obtain ⟨j, -, rfl⟩ := h
          have hb : imb (lg k).2.2.2 j < 16 := (and15 _).1
          dsimp only
          rw [nI_clamp (by omega)]
          exact ⟨rfl, hb⟩
        · exact rp_blk lg rv n f _ _ e h
      · exact rp_blk lg rv n f _ _ e h
theorem rcI_blk (lg : Nat → W4) (q : Int32) : ∀ e ∈ rcI lg q, e.1 = nI e.1.toNatClampNeg ∧ e.1.toNatClampNeg < 16 := rp_blk lg _ _ _ _ _
theorem rcI_len (lg : Nat → W4) (q : Int32) (h : (sc lg 25 q 0 (fun _ => none)).1 ≤ 24) : (rcI lg q).length ≤ 30 := by
  have := rp_len lg (sc lg 25 q 0 (fun _ => none)).2.2 (sc lg 25 q 0 (fun _ => none)).1 25 0 q
  unfold rcI
  split at this <;> omega
theorem sc_le (lg : Nat → W4) : ∀ (f : Nat) (q : Int32) (k : Nat) (rv : Nat → Option Int32), k ≤ 24 → (sc lg f q k rv).1 ≤ 24
  | 0, q, k, rv, h => h
  | f + 1, q, k, rv, h => by
    rw [sc]
    cases ht : tx lg q 25 k q true 0 with
    | none => exact h
    | some r =>
      obtain ⟨k', lt⟩ := r
      exact sc_le lg f _ k' _ (tx_gt ht).2
theorem nI_okN {i : Nat} {w : W4} (h : i < 41) (h16 : i = 16 → w.1 = MG ∧ ∃ p, p < 24 ∧ w.2.2.1 = nI p) : okN (nI i, w) := by
  unfold okN
  dsimp only
  rw [nI_clamp (by omega)]
  exact ⟨⟨rfl, h⟩, h16⟩
theorem okE_rc (lg : Nat → W4) (q : Int32) (p : Nat) : okE (rcI lg q ++ [rcE lg q p]) := by
  intro e he
  rcases List.mem_append.mp he with h | h
  · have := rcI_blk lg q e h
    exact ⟨⟨this.1, by omega⟩, fun z => by omega⟩
  · have : e = rcE lg q p := by simpa using h
    rw [this]
    exact nI_okN (by omega) (fun _ => ⟨rfl, _, Nat.mod_lt _ (by omega), rfl⟩)
theorem okE_flK (pd : Nat → Bool) (pe : Nat → Int32) (nu : Int32) {nx : Nat} (h : nx < 24) : okE (flK pd pe nu nx) := by
  intro e he
  rcases List.mem_append.mp he with h1 | h1
  · simp only [List.mem_map] at h1
    obtain ⟨b, hb, rfl⟩ := h1
    have := (imgsN_lt (p := pd) (n := 16) hb).1
    exact nI_okN (by omega) (fun z => by omega)
  · have : e = (nI 16, MG, nu, nI nx, 0) := by simpa using h1
    rw [this]
    exact nI_okN (by omega) (fun _ => ⟨rfl, nx, h, rfl⟩)
theorem okE_lay (nx : Nat) : ∀ (l : List W4) (k : Nat), okE (layR nx k l)
  | [], k => fun e he => by simp [layR] at he
  | w :: r, k => fun e he => by
    rw [layR] at he
    rcases List.mem_cons.mp he with h | h
    · rw [h]
      have hlt : (nx + k) % 24 < 24 := Nat.mod_lt _ (by omega)
      exact nI_okN (by omega) (fun z => by omega)
    · exact okE_lay nx r (k + 1) e h
theorem phs_step {FL ca : List En} {lf : Nat} {pl : List En} (h : phs FL ca lf pl) (h1 : ¬ lf = 1) : phs FL (aCa ca lf pl) (lf - 1) (aPl lf pl) ∧ (aCa ca lf pl).length + (aPl lf pl).length ≤ ca.length + pl.length := by
  obtain ⟨hN, h⟩ := h
  unfold aCa aPl
  rcases h with ⟨g1, g2, g3, g4⟩ | ⟨g1, g2, g3, g4⟩ | ⟨g1, -⟩
  · by_cases hm : pl.length = 1
    · have hf : fshB lf pl = true := by simp [fshB, g1, hm]
      rw [if_pos hf, if_pos hf]
      refine ⟨⟨hN, Or.inr (Or.inl ⟨by omega, hm, ?_, rfl⟩)⟩, by simp⟩
      rw [hm] at g4; exact g4
    · have hf : ¬ fshB lf pl = true := by simp [fshB]; omega
      rw [if_neg hf, if_neg hf]
      have hl : (pl.drop 1).length = pl.length - 1 := by simp
      refine ⟨⟨hN, Or.inl ⟨by omega, by omega, by omega, ?_⟩⟩, ?_⟩
      · rw [hl]
        conv => lhs; rw [g4]
        rw [List.drop_drop]
        congr 1; omega
      · simp; omega
  · have hf : ¬ fshB lf pl = true := by simp [fshB]; omega
    rw [if_neg hf, if_neg hf]
    have hd : pl.drop 1 = [] := List.drop_eq_nil_of_le (by omega)
    refine ⟨⟨hN, Or.inr (Or.inr ⟨by omega, hd, ?_⟩)⟩, ?_⟩
    · rw [g4, List.nil_append, List.take_of_length_le (by omega)]; exact g3
    · simp; omega
  · exact absurd g1 h1
theorem okE_aCa {ca pl : List En} {lf : Nat} (h1 : okE ca) (h2 : okE pl) : okE (aCa ca lf pl) := by
  unfold aCa
  split
  · exact fun e he => by cases he
  · intro e he
    rcases List.mem_append.mp he with h | h
    · exact h1 e h
    · exact h2 e (List.mem_of_mem_take h)
theorem okE_aPl {pl : List En} {lf : Nat} (h2 : okE pl) : okE (aPl lf pl) := by
  unfold aPl
  split
  · exact h2
  · exact fun e he => h2 e (List.mem_of_mem_drop he)
theorem hdD_aDk {dk : Nat → Int32} {ca pl : List En} {lf : Nat} (h1 : okE ca) (h : hdD dk) : hdD (aDk dk ca lf pl) := by
  unfold aDk
  split
  · exact hdD_flS ca h1 h
  · exact h
theorem cnt_0 {p : Nat → Bool} : ∀ n, (∀ b, b < n → p b = false) → cnt p n = 0
  | 0, _ => rfl
  | n + 1, h => by rw [cnt, if_neg (by rw [h n (by omega)]; decide)]; exact cnt_0 n (fun b hb => h b (by omega))
/-- an action keeps what always holds -/
theorem WF_one {s : Sp} (h : WF s) (hj : ¬ s.2.2.2.1 = 0) : WF (oneS s) := by
  obtain ⟨⟨dk, ca⟩, ⟨up, nu, nx, us⟩, ⟨kd, ru, pd, pe⟩, jb, lf, pl, tot, rn, rs⟩ := s
  obtain ⟨w1, w2, w3, w4, w5, w6, w7, w8, w9, w10, w11, w12⟩ := h
  have hj' : ¬ jb = 0 := hj
  have c1 := okE_aCa (lf := lf) w1 w2
  have c2 := okE_aPl (lf := lf) w2
  have c3 := hdD_aDk (lf := lf) (pl := pl) w1 w3
  unfold oneS
  dsimp only
  by_cases h1 : lf = 1
  · rw [if_pos h1]
    have hca : aCa ca lf pl = [] := by unfold aCa; rw [if_pos (by simp [fshB, h1])]
    rcases w12 with ⟨z, -⟩ | ⟨z, y1, y2, y3, y4⟩ | ⟨z, y1, y2, y3⟩ | ⟨z, y1, y2, y3, y4, y5⟩
    · exact absurd z hj'
    · subst z
      refine ⟨c1, okE_nil, c3, Nat.mod_lt _ (by omega), ?_, by rw [hca]; simp, fun _ => by rw [hca]; simp, fun _ _ => hca, ?_, fun b _ => Nat.zero_le _, fun q => ?_, Or.inl ⟨rfl, rfl, rfl⟩⟩
      · show us + rlen kd < 24
        omega
      · exact (by decide : cnt (k1 fun _ => 0) 16 ≤ 8)
      · have : up = false := q
        rw [this] at y1; cases y1
    · subst z
      refine ⟨c1, okE_nil, c3, w4, by show 0 < 24; omega, by rw [hca]; simp, fun _ => by rw [hca]; simp, fun _ _ => hca, w9, w10, fun q => ?_, Or.inl ⟨rfl, rfl, rfl⟩⟩
      have : up = false := q
      rw [this] at y1; cases y1
    · subst z
      refine ⟨c1, okE_nil, c3, y2, by show 0 < 24; omega, by rw [hca]; simp, fun _ => by rw [hca]; simp, fun _ _ => hca, ?_, fun b _ => Nat.zero_le _, fun _ b _ => ⟨rfl, rfl⟩, Or.inl ⟨rfl, rfl, rfl⟩⟩
      exact (by decide : cnt (k1 fun _ => 0) 16 ≤ 8)
  · rw [if_neg h1]
    have key : (aCa ca lf pl).length + (aPl lf pl).length ≤ ca.length + pl.length ∧ JR (aDk dk ca lf pl) (aCa ca lf pl) up nu nx us kd ru pd pe jb (lf - 1) (aPl lf pl) tot rn rs := by
      rcases w12 with ⟨z, -⟩ | ⟨z, y1, y2, y3, y4⟩ | ⟨z, y1, y2, y3⟩ | ⟨z, y1, y2, y3, y4, y5⟩
      · exact absurd z hj'
      · obtain ⟨p1, p2⟩ := phs_step y4 h1
        exact ⟨p2, Or.inr (Or.inl ⟨z, y1, y2, y3, p1⟩)⟩
      · obtain ⟨p1, p2⟩ := phs_step y3 h1
        exact ⟨p2, Or.inr (Or.inr (Or.inl ⟨z, y1, y2, p1⟩))⟩
      · rcases y5 with ⟨p, f, hH, hblk, ht, hlf, hph, hE⟩ | ⟨q, -⟩
        · obtain ⟨p1, p2⟩ := phs_step hph h1
          refine ⟨p2, Or.inr (Or.inr (Or.inr ⟨z, y1, y2, y3, y4, ?_⟩))⟩
          have hbk : ∀ e ∈ ca, e.1 = nI e.1.toNatClampNeg ∧ e.1.toNatClampNeg < 16 := fun e he => ⟨(w1 e he).1.1, hblk e he⟩
          -- which kind of action
          rcases hph.2 with ⟨g1, g2, g3, g4⟩ | ⟨g1, g2, g3, g4⟩ | ⟨g1, -⟩
          · left
            have same : ∀ s w, 16 ≤ s → s < 41 → rdS (aDk dk ca lf pl) (aCa ca lf pl) s w = rdS dk ca s w := by
              intro s w hs1 hs2
              by_cases hf : fshB lf pl = true
              · unfold aDk aCa
                rw [if_pos hf, if_pos hf, rdS_blk dk ca hbk hs1 hs2, rdS_blk _ [] (fun e he => by cases he) hs1 hs2]
                exact flS_blk ca hblk (by omega)
              · unfold aDk aCa
                rw [if_neg hf, if_neg hf, rdS_blk dk ca hbk hs1 hs2, rdS_blk dk _ ?_ hs1 hs2]
                intro e he
                rcases List.mem_append.mp he with h | h
                · exact hbk e h
                · -- the sheet that is written isn't the last
                  have hm : 2 ≤ pl.length := by
                    rcases Nat.lt_or_ge pl.length 2 with q | q
                    · exact absurd (by simp [fshB]; omega) hf
                    · exact q
                  have hmem : e ∈ rcI (lgT dk ca p) f := by
                    obtain ⟨x, hx⟩ := List.getElem?_of_mem h
                    have hx1 := (List.getElem?_eq_some_iff.mp hx).1
                    have hx0 : x = 0 := by simp at hx1; omega
                    subst hx0
                    rw [List.getElem?_take, if_pos (by omega), g4, List.getElem?_drop, List.length_append, List.getElem?_append_left (by simp at g3 ⊢; omega)] at hx
                    exact List.mem_of_getElem? hx
                  exact rcI_blk _ _ e hmem
            have el := lgT_congr same p
            refine ⟨p, f, HG_congr same hH, ?_, by rw [el]; exact ht, by omega, by rw [el]; exact p1, by rw [el]; exact hE⟩
            intro e he
            unfold aCa at he
            split at he
            · cases he
            · rename_i hf
              rcases List.mem_append.mp he with h | h
              · exact hblk e h
              · have hm : 2 ≤ pl.length := by
                  rcases Nat.lt_or_ge pl.length 2 with q | q
                  · exact absurd (by simp [fshB]; omega) hf
                  · exact q
                have hmem : e ∈ rcI (lgT dk ca p) f := by
                  obtain ⟨x, hx⟩ := List.getElem?_of_mem h
                  have hx1 := (List.getElem?_eq_some_iff.mp hx).1
                  have hx0 : x = 0 := by simp at hx1; omega
                  subst hx0
                  rw [List.getElem?_take, if_pos (by omega), g4, List.getElem?_drop, List.length_append, List.getElem?_append_left (by simp at g3 ⊢; omega)] at hx
                  exact List.mem_of_getElem? hx
                exact (rcI_blk _ _ e hmem).2
          · right
            have hf : ¬ fshB lf pl = true := by simp [fshB]; omega
            have hlast : pl = [rcE (lgT dk ca p) f p] := by
              rw [g3, List.length_append]
              simp
            unfold aCa aPl
            rw [if_neg hf, if_neg hf, g4, hlast, hE]
            exact ⟨by omega, rfl, rfl⟩
          · exact absurd g1 h1
        · exact absurd q h1
    refine ⟨c1, c2, c3, w4, w5, by have := key.1; omega, fun q => absurd q hj', fun _ q => absurd q hj', w9, w10, w11, key.2⟩
end
section
/-! THE TWIN: the end of a job, step -/
section TW11
variable {mi : Nat → Nat → Int32} {mr : Nat → Nat → Nat} {sz : Nat} {Q : Option Value → am_H → Prop} {dk : Nat → Int32} {ca : List En} {up : Bool} {nu : Int32} {nx us : Nat} {kd : Nat → Nat} {ru : Nat → Int32} {pd : Nat → Bool} {pe : Nat → Int32} {jb lf tot : Nat}
def CM (mi m : Nat → Nat → Int32) (kd : Nat → Nat) (ru : Nat → Int32) (pd : Nat → Bool) (pe : Nat → Int32) (b w : Nat) : Prop := (∀ a, ¬ a = 27 → ¬ a = 29 → ¬ a = 30 → m a = mi a) ∧ (∀ c, c < 16 → m 27 c = if c < b then 0 else nI (kd c)) ∧ (∀ c, c < 16 → m 29 c = if (if c < b then pdC kd pd c else pd c) = true then 1 else 0) ∧ ∀ j, j < 64 → m 30 j = if j < 4 * b + w then peC kd ru pe j else pe j
theorem b10 {b : Bool} (h : ¬ (if b = true then 1 else 0 : Int32) = 0) : b = true := by
  cases h2 : b with
  | true => rfl
  | false => exact absurd (b01.mpr h2) h
theorem c_committed (hF : FX mr) (hk : ∀ b, b < 16 → mi 27 b = nI (kd b) ∧ kd b ≤ 2) (hp : ∀ b, b < 16 → mi 29 b = if pd b = true then 1 else 0) (hru : ∀ j, j < 64 → mi 28 j = ru j) (hpe : ∀ j, j < 64 → mi 30 j = pe j) {r : Nat} (h14 : mi 23 14 = nI (r + 2)) (h6 : mi 23 6 = nI nx) (hnx : nx < 24) (h7 : mi 23 7 = nI us) (hr : us + r ≤ 23) (k : ∀ m' : Nat → Nat → Int32, (∀ a, ¬ a = 23 → ¬ a = 27 → ¬ a = 29 → ¬ a = 30 → m' a = mi a) → (∀ x, ¬ x = 5 → ¬ x = 6 → ¬ x = 7 → m' 23 x = mi 23 x) → m' 23 5 = mi 23 5 + 1 → m' 23 6 = nI ((nx + r) % 24) → m' 23 7 = nI (us + r) → (∀ b, b < 16 → m' 27 b = 0) → (∀ b, b < 16 → m' 29 b = if pdC kd pd b = true then 1 else 0) → (∀ j, j < 64 → m' 30 j = peC kd ru pe j) → Q none (m', mr, sz)) : am_wp 113 0 (am_lo 113 [.ref 23]) [] (mi, mr, sz) Q := by
  have en : nI (r + 2) - 2 = nI r := by rw [show (2 : Int32) = nI 2 from rfl, pk_sub (by omega)]; congr 1
  obtain ⟨m0, hm0⟩ : ∃ z, z = am_u2 (am_u2 (am_u2 mi 23 6 (nI ((nx + r) % 24))) 23 7 (nI (us + r))) 23 5 (mi 23 5 + 1) := ⟨_, rfl⟩
  have inn : ∀ d w (m : Nat → Nat → Int32) (b : Nat), w + d = 4 → b < 16 → CM m0 m kd ru pd pe b w → (∀ m', CM m0 m' kd ru pd pe b 4 → am_wp 113 104 [.ref 23, .int (nI r), .int (nI b), .int (nI 4)] [] (m', mr, sz) Q) → am_wp 113 50 [.ref 23, .int (nI r), .int (nI b), .int (nI w)] [] (m, mr, sz) Q := by
    intro d
    induction d with
    | zero =>
      intro w m b hw hb hC kk
      have hw' : w = 4 := by omega
      subst hw'
      refine wp_x 2 hF rfl ?_
      refine wp_ge2N 4 4 rfl rfl rfl (by omega) (by omega) (fun _ => ?_) (fun q => absurd q (by omega))
      exact kk m hC
    | succ d ih =>
      intro w m b hw hb hC kk
      obtain ⟨c1, c2, c3, c4⟩ := id hC
      have step : ∀ v : Int32, v = peC kd ru pe (4 * b + w) → am_wp 113 97 [.ref 23, .int (nI r), .int (nI b), .int (nI w)] [.int v, .int (4 * nI b + nI w), .ref 30] (m, mr, sz) Q := by
        intro v hv
        refine wp_as (4 * b + w) rfl rfl (a4 b w) (by decide) rfl (show 4 * b + w < 64 by omega) ?_
        refine wp_x 2 hF rfl ?_
        have := ih (w + 1) (am_u2 m 30 (4 * b + w) v) b (by omega) hb ⟨fun a h1 h2 h3 => by rw [sd_u2r _ _ _ _ h3]; exact c1 a h1 h2 h3, fun c hc => by rw [sd_u2r _ _ _ _ (by decide)]; exact c2 c hc, fun c hc => by rw [sd_u2r _ _ _ _ (by decide)]; exact c3 c hc, fun j hj => ?_⟩ kk
        · rw [← nI_1] at this
          exact this
        · by_cases h : j = 4 * b + w
          · subst h
            rw [sd_u2s, if_pos (by omega)]; exact hv
          · rw [sd_u2k _ _ _ _ h, c4 j hj]
            by_cases h3 : j < 4 * b + w
            · rw [if_pos h3, if_pos (by omega)]
            · rw [if_neg h3, if_neg (by omega)]
      refine wp_x 2 hF rfl ?_
      refine wp_ge2N w 4 rfl rfl rfl (by omega) (by omega) (fun q => absurd q (by omega)) (fun hw4 => ?_)
      have hdiv : (4 * b + w) / 4 = b := by omega
      have hk2 := (hk b hb).2
      refine wp_x 10 hF rfl ?_
      refine wp_al b rfl rfl rfl (by decide) rfl hb ?_
      rw [c2 b hb, if_neg (by omega)]
      refine wp_x 1 hF rfl ?_
      refine wp_ne2N (kd b) 1 rfl rfl rfl (by omega) (by omega) (fun q => ?_) (fun q => ?_)
      · refine wp_x 7 hF rfl ?_
        refine wp_al (4 * b + w) rfl rfl (a4 b w) (by decide) rfl (show 4 * b + w < 64 by omega) ?_
        rw [c4 _ (show 4 * b + w < 64 by omega), if_neg (by omega)]
        refine step _ ?_
        simp only [peC, hdiv, if_neg q]
      · refine wp_x 7 hF rfl ?_
        refine wp_al (4 * b + w) rfl rfl (a4 b w) (by decide) rfl (show 4 * b + w < 64 by omega) ?_
        rw [c1 28 (by decide) (by decide) (by decide), hm0, sd_u2r _ _ _ _ (by decide), sd_u2r _ _ _ _ (by decide), sd_u2r _ _ _ _ (by decide), hru _ (show 4 * b + w < 64 by omega)]
        refine wp_x 1 hF rfl ?_
        refine step _ ?_
        simp only [peC, hdiv, if_pos q]
  have out : ∀ d b (m : Nat → Nat → Int32) (x : Value), b + d = 16 → CM m0 m kd ru pd pe b 0 → am_wp 113 42 [.ref 23, .int (nI r), .int (nI b), x] [] (m, mr, sz) Q := by
    intro d
    induction d with
    | zero =>
      intro b m x hb hC
      have hb' : b = 16 := by omega
      subst hb'
      obtain ⟨c1, c2, c3, c4⟩ := hC
      refine wp_x 2 hF rfl ?_
      refine wp_ge2N 16 16 rfl rfl rfl (by omega) (by omega) (fun _ => ?_) (fun q => absurd q (by omega))
      have o23 := c1 23 (by decide) (by decide) (by decide)
      refine wp_re rfl rfl (k m (fun a h1 h2 h3 h4 => by rw [c1 a h2 h3 h4, hm0, sd_u2r _ _ _ _ h1, sd_u2r _ _ _ _ h1, sd_u2r _ _ _ _ h1]) (fun x h1 h2 h3 => by rw [o23, hm0, sd_u2k _ _ _ _ h1, sd_u2k _ _ _ _ h3, sd_u2k _ _ _ _ h2]) (by rw [o23, hm0, sd_u2s]) (by rw [o23, hm0, sd_u2k _ _ _ _ (by decide), sd_u2k _ _ _ _ (by decide), sd_u2s]) (by rw [o23, hm0, sd_u2k _ _ _ _ (by decide), sd_u2s]) (fun b hb => by rw [c2 b hb, if_pos hb]) (fun b hb => by rw [c3 b hb, if_pos hb]) (fun j hj => by rw [c4 j hj, if_pos (by omega)]))
    | succ d ih =>
      intro b m x hb hC
      refine wp_x 2 hF rfl ?_
      refine wp_ge2N b 16 rfl rfl rfl (by omega) (by omega) (fun q => absurd q (by omega)) (fun hb16 => ?_)
      refine wp_x 2 hF rfl ?_
      refine inn 4 0 m b rfl hb16 hC (fun m1 hC1 => ?_)
      obtain ⟨c1, c2, c3, c4⟩ := hC1
      have hk2 := (hk b hb16).2
      have e27 : m1 27 b = nI (kd b) := by rw [c2 b hb16, if_neg (by omega)]
      have e29 : m1 29 b = if pd b = true then 1 else 0 := by rw [c3 b hb16, if_neg (show ¬ b < b by omega)]
      have last : ∀ v : Int32, v = (if pdC kd pd b = true then 1 else 0) → am_wp 113 142 [.ref 23, .int (nI r), .int (nI b), .int (nI 4)] [.int v, .int (nI b), .ref 29] (m1, mr, sz) Q := by
        intro v hv
        refine wp_bs b rfl rfl rfl (by decide) rfl hb16 (by rw [hv]; split <;> simp) ?_
        refine wp_x 4 hF rfl ?_
        refine wp_as b rfl rfl rfl (by decide) rfl hb16 ?_
        refine wp_x 2 hF rfl ?_
        have := ih (b + 1) (am_u2 (am_u2 m1 29 b v) 27 b 0) (.int (nI 4)) (by omega) ⟨fun a h1 h2 h3 => by rw [sd_u2r _ _ _ _ h1, sd_u2r _ _ _ _ h2]; exact c1 a h1 h2 h3, fun c hc => ?_, fun c hc => ?_, fun j hj => ?_⟩
        · rw [← nI_1] at this
          exact this
        · by_cases h : c = b
          · subst h
            rw [sd_u2s, if_pos (by omega)]
          · rw [sd_u2k _ _ _ _ h, sd_u2r _ _ _ _ (by decide), c2 c hc]
            by_cases h3 : c < b
            · rw [if_pos h3, if_pos (by omega)]
            · rw [if_neg h3, if_neg (by omega)]
        · rw [sd_u2r _ _ _ _ (by decide)]
          by_cases h : c = b
          · subst h
            rw [sd_u2s, if_pos (show c < c + 1 by omega)]; exact hv
          · rw [sd_u2k _ _ _ _ h, c3 c hc]
            by_cases h3 : c < b
            · rw [if_pos h3, if_pos (show c < b + 1 by omega)]
            · rw [if_neg h3, if_neg (show ¬ c < b + 1 by omega)]
        · rw [sd_u2r _ _ _ _ (by decide), sd_u2r _ _ _ _ (by decide), c4 j hj]
          by_cases h3 : j < 4 * b + 4
          · rw [if_pos h3, if_pos (by omega)]
          · rw [if_neg h3, if_neg (by omega)]
      refine wp_x 6 hF rfl ?_
      refine wp_al b rfl rfl rfl (by decide) rfl hb16 ?_
      rw [e27]
      refine wp_x 1 hF rfl ?_
      refine wp_eq2N (kd b) 1 rfl rfl rfl (by omega) (by omega) (fun q => ?_) (fun q => ?_)
      · refine wp_x 2 hF rfl ?_
        exact last 1 (by rw [if_pos (by simp [pdC, q])])
      · refine wp_x 3 hF rfl ?_
        refine wp_al b rfl rfl rfl (by decide) rfl hb16 ?_
        rw [e27]
        refine wp_ne1 rfl (fun q2 => ?_) (fun q2 => ?_)
        · refine wp_x 1 hF rfl ?_
          have : ¬ kd b = 0 := fun z => q2 (by rw [z]; rfl)
          exact last 0 (by rw [if_neg (by simp [pdC, q, this])])
        · have h0 : kd b = 0 := (nI_eq (by omega) (by omega)).mp (q2.trans nI_0.symm)
          refine wp_x 3 hF rfl ?_
          refine wp_bl b rfl rfl rfl (by decide) rfl hb16 ?_
          rw [e29]
          refine wp_eq1 rfl (fun q3 => ?_) (fun q3 => ?_)
          · refine wp_x 1 hF rfl ?_
            exact last 0 (by rw [if_neg (by simp [pdC, h0, b01.mp q3])])
          · refine wp_x 2 hF rfl ?_
            exact last 1 (by rw [if_pos (by simp [pdC, h0, b10 q3])])
  refine wp_x 27 hF rfl ?_
  have e1 : mi 23 6 + nI r - (mi 23 6 + nI r) / 24 * 24 = nI ((nx + r) % 24) := by rw [h6, nI_add, rem24 (by omega)]
  have e2 : mi 23 7 + nI r = nI (us + r) := by rw [h7, nI_add]
  show am_wp 113 42 [.ref 23, .int (mi 23 14 - 2), .int (nI 0), .long 0] [] (am_u2 (am_u2 (am_u2 mi 23 6 (mi 23 6 + (mi 23 14 - 2) - (mi 23 6 + (mi 23 14 - 2)) / 24 * 24)) 23 7 (mi 23 7 + (mi 23 14 - 2))) 23 5 (mi 23 5 + 1), mr, sz) Q
  rw [h14, en, e1, e2, ← hm0]
  exact out 16 0 m0 _ rfl ⟨fun a _ _ _ => rfl, fun c hc => by rw [if_neg (by omega), hm0]; exact (hk c hc).1, fun c hc => by rw [if_neg (show ¬ c < 0 by omega), hm0]; exact hp c hc, fun j hj => by rw [if_neg (by omega), hm0]; exact hpe j hj⟩
theorem c_checkpointed (hF : FX mr) (k : ∀ m' : Nat → Nat → Int32, (∀ a, ¬ a = 23 → ¬ a = 29 → m' a = mi a) → (∀ x, ¬ x = 7 → m' 23 x = mi 23 x) → m' 23 7 = 0 → (∀ b, b < 16 → m' 29 b = 0) → Q none (m', mr, sz)) : am_wp 114 0 (am_lo 114 [.ref 23]) [] (mi, mr, sz) Q := by
  have out : ∀ d b (m : Nat → Nat → Int32), b + d = 16 → (∀ a, ¬ a = 29 → m a = am_u2 mi 23 7 0 a) → (∀ c, c < b → m 29 c = 0) → am_wp 114 7 [.ref 23, .int (nI b)] [] (m, mr, sz) Q := by
    intro d
    induction d with
    | zero =>
      intro b m hb c1 c2
      have hb' : b = 16 := by omega
      subst hb'
      refine wp_x 2 hF rfl ?_
      refine wp_ge2N 16 16 rfl rfl rfl (by omega) (by omega) (fun _ => ?_) (fun q => absurd q (by omega))
      exact wp_re rfl rfl (k m (fun a h1 h2 => by rw [c1 a h2, sd_u2r _ _ _ _ h1]) (fun x hx => by rw [c1 23 (by decide), sd_u2k _ _ _ _ hx]) (by rw [c1 23 (by decide), sd_u2s]) c2)
    | succ d ih =>
      intro b m hb c1 c2
      refine wp_x 2 hF rfl ?_
      refine wp_ge2N b 16 rfl rfl rfl (by omega) (by omega) (fun q => absurd q (by omega)) (fun hb16 => ?_)
      refine wp_x 4 hF rfl ?_
      refine wp_bs b rfl rfl rfl (by decide) rfl hb16 (Or.inl rfl) ?_
      refine wp_x 2 hF rfl ?_
      have := ih (b + 1) (am_u2 m 29 b 0) (by omega) (fun a h => by rw [sd_u2r _ _ _ _ h]; exact c1 a h) (fun c hc => by
        by_cases h : c = b
        · subst h; rw [sd_u2s]
        · rw [sd_u2k _ _ _ _ h]; exact c2 c (by omega))
      rw [← nI_1] at this
      exact this
  refine wp_x 5 hF rfl ?_
  exact out 16 0 _ rfl (fun _ _ => rfl) (fun c hc => absurd hc (by omega))
theorem c_recovered (hF : FX mr) (hD : TD mi dk []) (k : ∀ m' : Nat → Nat → Int32, (∀ a, ¬ a = 23 → ¬ a = 27 → ¬ a = 29 → m' a = mi a) → (∀ x, ¬ x = 4 → ¬ x = 5 → ¬ x = 6 → ¬ x = 7 → m' 23 x = mi 23 x) → m' 23 4 = 1 → m' 23 5 = rdS dk [] 16 1 → m' 23 6 = rdS dk [] 16 2 → m' 23 7 = 0 → (∀ b, b < 16 → m' 27 b = 0) → (∀ b, b < 16 → m' 29 b = 0) → Q none (m', mr, sz)) : am_wp 115 0 (am_lo 115 [.ref 23]) [] (mi, mr, sz) Q := by
  obtain ⟨m0, hm0⟩ : ∃ z, z = am_u2 (am_u2 (am_u2 (am_u2 mi 23 4 1) 23 5 (rdS dk [] 16 1)) 23 6 (rdS dk [] 16 2)) 23 7 0 := ⟨_, rfl⟩
  have out : ∀ d b (m : Nat → Nat → Int32), b + d = 16 → (∀ a, ¬ a = 27 → ¬ a = 29 → m a = m0 a) → (∀ c, c < b → m 27 c = 0) → (∀ c, c < b → m 29 c = 0) → am_wp 115 34 [.ref 23, .int (nI b)] [] (m, mr, sz) Q := by
    intro d
    induction d with
    | zero =>
      intro b m hb c1 c2 c3
      have hb' : b = 16 := by omega
      subst hb'
      refine wp_x 2 hF rfl ?_
      refine wp_ge2N 16 16 rfl rfl rfl (by omega) (by omega) (fun _ => ?_) (fun q => absurd q (by omega))
      have o23 := c1 23 (by decide) (by decide)
      exact wp_re rfl rfl (k m (fun a h1 h2 h3 => by rw [c1 a h2 h3, hm0, sd_u2r _ _ _ _ h1, sd_u2r _ _ _ _ h1, sd_u2r _ _ _ _ h1, sd_u2r _ _ _ _ h1]) (fun x h1 h2 h3 h4 => by rw [o23, hm0, sd_u2k _ _ _ _ h4, sd_u2k _ _ _ _ h3, sd_u2k _ _ _ _ h2, sd_u2k _ _ _ _ h1]) (by rw [o23, hm0]; rfl) (by rw [o23, hm0]; rfl) (by rw [o23, hm0]; rfl) (by rw [o23, hm0]; rfl) c2 c3)
    | succ d ih =>
      intro b m hb c1 c2 c3
      refine wp_x 2 hF rfl ?_
      refine wp_ge2N b 16 rfl rfl rfl (by omega) (by omega) (fun q => absurd q (by omega)) (fun hb16 => ?_)
      refine wp_x 4 hF rfl ?_
      refine wp_as b rfl rfl rfl (by decide) rfl hb16 ?_
      refine wp_x 4 hF rfl ?_
      refine wp_bs b rfl rfl rfl (by decide) rfl hb16 (Or.inl rfl) ?_
      refine wp_x 2 hF rfl ?_
      have := ih (b + 1) (am_u2 (am_u2 m 27 b 0) 29 b 0) (by omega) (fun a h1 h2 => by rw [sd_u2r _ _ _ _ h2, sd_u2r _ _ _ _ h1]; exact c1 a h1 h2) (fun c hc => by
        rw [sd_u2r _ _ _ _ (by decide)]
        by_cases h : c = b
        · subst h; rw [sd_u2s]
        · rw [sd_u2k _ _ _ _ h]; exact c2 c (by omega)) (fun c hc => by
        by_cases h : c = b
        · subst h; rw [sd_u2s]
        · rw [sd_u2k _ _ _ _ h, sd_u2r _ _ _ _ (by decide)]; exact c3 c (by omega))
      rw [← nI_1] at this
      exact this
  refine wp_x 7 hF rfl ?_
  refine wp_ca rfl rfl ?_
  refine c_readT hF (hD.congr (mi' := am_u2 mi 23 4 1) rfl rfl rfl rfl) (i := 16) (j := 1) (by omega) (by omega) ?_
  refine wp_x 5 hF rfl ?_
  refine wp_ca rfl rfl ?_
  refine c_readT hF (hD.congr (mi' := am_u2 (am_u2 mi 23 4 1) 23 5 (rdS dk [] 16 1)) rfl rfl rfl rfl) (i := 16) (j := 2) (by omega) (by omega) ?_
  refine wp_x 6 hF rfl ?_
  show am_wp 115 34 [.ref 23, .int (nI 0)] [] (am_u2 (am_u2 (am_u2 (am_u2 mi 23 4 1) 23 5 (rdS dk [] 16 1)) 23 6 (rdS dk [] 16 2)) 23 7 0, mr, sz) Q
  rw [← hm0]
  exact out 16 0 _ rfl (fun _ _ _ => rfl) (fun c hc => absurd hc (by omega)) (fun c hc => absurd hc (by omega))
end TW11
end
section
/-! THE TWIN: step -/
def TRs (mi : Nat → Nat → Int32) (s : Sp) : Prop := match s with
  | ((dk, ca), (up, nu, nx, us), (kd, ru, pd, pe), (jb, lf, pl, tot, rn, rs)) => TR mi dk ca up nu nx us kd ru pd pe jb lf tot
/-- what the end of a job may lean on -/
def EN (dk : Nat → Int32) (up : Bool) (us : Nat) (kd : Nat → Nat) (jb tot : Nat) (rn : Int32) (rs : Nat) : Prop := (jb = 2 ∧ up = true ∧ us + rlen kd ≤ 23 ∧ tot = rlen kd + 2) ∨ (jb = 3 ∧ up = true) ∨ (jb = 4 ∧ rdS dk [] 16 1 = rn ∧ rdS dk [] 16 2 = nI rs ∧ rs < 24)
theorem phs_act {FL ca : List En} {lf : Nat} {pl : List En} (h : phs FL ca lf pl) {i : Nat} (hi : i = FL.length + 2 - lf) : (∀ e, ((i + 1 < FL.length ∧ FL[i]? = some e) ∨ (i = FL.length ∧ FL[FL.length - 1]? = some e)) → fshB lf pl = false ∧ pl.take 1 = [e]) ∧ ((i + 1 = FL.length ∨ FL.length < i) → fshB lf pl = true) := by
  obtain ⟨hN, h⟩ := h
  have tk : ∀ {m : Nat} {e : En}, FL[m]? = some e → (FL.drop m).take 1 = [e] := by
    intro m e he
    obtain ⟨h1, h2⟩ := List.getElem?_eq_some_iff.mp he
    rw [List.drop_eq_getElem_cons h1, h2]
    rfl
  rcases h with ⟨g1, g2, g3, g4⟩ | ⟨g1, g2, g3, g4⟩ | ⟨g1, g2, g3⟩
  · refine ⟨fun e he => ?_, fun he => ?_⟩
    · rcases he with ⟨h1, h2⟩ | ⟨h1, h2⟩
      · refine ⟨by simp [fshB]; omega, ?_⟩
        rw [g4]
        have : i = FL.length - pl.length := by omega
        rw [← this]
        exact tk h2
      · omega
    · simp [fshB]; omega
  · refine ⟨fun e he => ?_, fun he => ?_⟩
    · rcases he with ⟨h1, h2⟩ | ⟨h1, h2⟩
      · omega
      · refine ⟨by simp [fshB]; omega, ?_⟩
        rw [g3]
        exact tk h2
    · omega
  · refine ⟨fun e he => ?_, fun he => ?_⟩
    · rcases he with ⟨h1, h2⟩ | ⟨h1, h2⟩ <;> omega
    · simp [fshB, g1]
section TW12
variable {mi : Nat → Nat → Int32} {mr : Nat → Nat → Nat} {sz : Nat} {Q : Option Value → am_H → Prop} {dk : Nat → Int32} {ca : List En} {up : Bool} {nu : Int32} {nx us : Nat} {kd : Nat → Nat} {ru : Nat → Int32} {pd : Nat → Bool} {pe : Nat → Int32} {jb lf tot : Nat}
theorem c_finish {rn : Int32} {rs : Nat} (hF : FX mr) (hT : TR mi dk [] up nu nx us kd ru pd pe jb 0 tot) (hE : EN dk up us kd jb tot rn rs) (k : ∀ m', TF mi m' → TRs m' ((dk, []), eV jb up nu nx us kd rn rs, eI jb kd ru pd pe, (0, 0, [], tot, rn, rs)) → Q none (m', mr, sz)) : am_wp 112 0 (am_lo 112 [.ref 23]) [] (mi, mr, sz) Q := by
  obtain ⟨a1, a2, a3, ⟨a4, a4'⟩, a5, a6, a7, ⟨a8, a8'⟩, a9⟩ := hT
  have D0 : TD (am_u2 mi 23 12 0) dk [] := a1.congr rfl rfl rfl rfl
  refine wp_x 8 hF rfl ?_
  rcases hE with ⟨z, hu, h2, h3⟩ | ⟨z, hu⟩ | ⟨z, h1, h2, h3⟩
  · subst z; subst hu
    obtain ⟨⟨u1, u1'⟩, u2, u3⟩ := a5 rfl
    obtain ⟨d1, d2, d3, d4⟩ := a9 (by decide)
    refine wp_ne2N 2 2 rfl a8 rfl (by omega) (by omega) (fun q => absurd rfl q) (fun _ => ?_)
    refine wp_x 1 hF rfl ?_
    refine wp_ca rfl rfl ?_
    refine c_committed (r := rlen kd) (nx := nx) (us := us) (kd := kd) (pd := pd) (ru := ru) (pe := pe) hF u2 u3 a6 a7 (by show mi 23 14 = _; rw [d2, h3]) a4 a4' u1 h2 (fun m' f1 f2 f3 f4 f5 f6 f7 f8 => ?_)
    refine wp_x 1 hF rfl ?_
    refine wp_re rfl rfl (k m' (fun a ha => ?_) ?_)
    · rw [f1 a (by omega) (by omega) (by omega) (by omega), sd_u2r _ _ _ _ (by omega)]
    · refine ⟨D0.congr (f2 1 (by decide) (by decide) (by decide)) (f1 24 (by decide) (by decide) (by decide) (by decide)) (f1 25 (by decide) (by decide) (by decide) (by decide)) (f1 26 (by decide) (by decide) (by decide) (by decide)), (f2 4 (by decide) (by decide) (by decide)).trans a2, ?_, ⟨f4, Nat.mod_lt _ (by omega)⟩, fun _ => ⟨⟨f5, by show us + rlen kd < 24; omega⟩, fun b hb => ⟨f6 b hb, Nat.zero_le _⟩, f7⟩, fun j hj => ?_, f8, ⟨f2 12 (by decide) (by decide) (by decide), by decide⟩, fun q => absurd rfl q⟩
      · rw [f3]; show mi 23 5 + 1 = nu + 1; rw [a3]
      · rw [f1 28 (by decide) (by decide) (by decide) (by decide)]; exact a6 j hj
  · subst z; subst hu
    obtain ⟨⟨u1, u1'⟩, u2, u3⟩ := a5 rfl
    refine wp_ne2N 3 2 rfl a8 rfl (by omega) (by omega) (fun _ => ?_) (fun q => absurd q (by decide))
    refine wp_x 2 hF rfl ?_
    refine wp_ne2N 3 3 rfl a8 rfl (by omega) (by omega) (fun q => absurd rfl q) (fun _ => ?_)
    refine wp_x 1 hF rfl ?_
    refine wp_ca rfl rfl ?_
    refine c_checkpointed hF (fun m' f1 f2 f3 f4 => ?_)
    refine wp_x 1 hF rfl ?_
    refine wp_re rfl rfl (k m' (fun a ha => ?_) ?_)
    · rw [f1 a (by omega) (by omega), sd_u2r _ _ _ _ (by omega)]
    · refine ⟨D0.congr (f2 1 (by decide)) (f1 24 (by decide) (by decide)) (f1 25 (by decide) (by decide)) (f1 26 (by decide) (by decide)), (f2 4 (by decide)).trans a2, (f2 5 (by decide)).trans a3, ⟨(f2 6 (by decide)).trans a4, a4'⟩, fun _ => ⟨⟨f3, by show 0 < 24; omega⟩, fun b hb => ?_, f4⟩, fun j hj => ?_, fun j hj => ?_, ⟨f2 12 (by decide), by decide⟩, fun q => absurd rfl q⟩
      · rw [f1 27 (by decide) (by decide)]; exact u2 b hb
      · rw [f1 28 (by decide) (by decide)]; exact a6 j hj
      · rw [f1 30 (by decide) (by decide)]; exact a7 j hj
  · subst z
    refine wp_ne2N 4 2 rfl a8 rfl (by omega) (by omega) (fun _ => ?_) (fun q => absurd q (by decide))
    refine wp_x 2 hF rfl ?_
    refine wp_ne2N 4 3 rfl a8 rfl (by omega) (by omega) (fun _ => ?_) (fun q => absurd q (by decide))
    refine wp_x 1 hF rfl ?_
    refine wp_ca rfl rfl ?_
    refine c_recovered hF D0 (fun m' f1 f2 f3 f4 f5 f6 f7 f8 => ?_)
    refine wp_re rfl rfl (k m' (fun a ha => ?_) ?_)
    · rw [f1 a (by omega) (by omega) (by omega), sd_u2r _ _ _ _ (by omega)]
    · refine ⟨D0.congr (f2 1 (by decide) (by decide) (by decide) (by decide)) (f1 24 (by decide) (by decide) (by decide)) (f1 25 (by decide) (by decide) (by decide)) (f1 26 (by decide) (by decide) (by decide)), f3, f4.trans h1, ⟨f5.trans h2, h3⟩, fun _ => ⟨⟨f6, by show 0 < 24; omega⟩, fun b hb => ⟨f7 b hb, Nat.zero_le _⟩, f8⟩, fun j hj => ?_, fun j hj => ?_, ⟨f2 12 (by decide) (by decide) (by decide) (by decide), by decide⟩, fun q => absurd rfl q⟩
      · rw [f1 28 (by decide) (by decide) (by decide)]; exact a6 j hj
      · rw [f1 30 (by decide) (by decide) (by decide)]; exact a7 j hj
theorem JR_EN {pl : List En} {rn : Int32} {rs : Nat} (h : JR dk ca up nu nx us kd ru pd pe jb lf pl tot rn rs) (hj : ¬ jb = 0) (h1 : lf = 1) : EN (aDk dk ca lf pl) up us kd jb tot rn rs := by
  rcases h with ⟨z, -⟩ | ⟨z, y1, y2, y3, y4⟩ | ⟨z, y1, y2, y3⟩ | ⟨z, y1, y2, y3, y4, y5⟩
  · exact absurd z hj
  · exact Or.inl ⟨z, y1, y2, y3⟩
  · exact Or.inr (Or.inl ⟨z, y1⟩)
  · rcases y5 with ⟨p, f, hH, hblk, ht, hlf, hph, hE⟩ | ⟨q, -, q2⟩
    · omega
    · refine Or.inr (Or.inr ⟨z, ?_, ?_, y2⟩)
      · unfold aDk; rw [if_pos (by simp [fshB, h1]), q2]
        simp [rdS, flS, stl, nI_clamp, wd4]
      · unfold aDk; rw [if_pos (by simp [fshB, h1]), q2]
        simp [rdS, flS, stl, nI_clamp, wd4]
theorem c_actT {s : Sp} (hF : FX mr) (hT : TRs mi s) (hW : WF s) (hj : ¬ s.2.2.2.1 = 0) {n x : Int32} (k : ∀ m', TF mi m' → TRs m' (oneS s) → am_wp 101 22 [.ref 23, .int n, .int (x + 1)] [] (m', mr, sz) Q) : am_wp 101 34 [.ref 23, .int n, .int x] [] (mi, mr, sz) Q := by
  obtain ⟨⟨dk, ca⟩, ⟨up, nu, nx, us⟩, ⟨kd, ru, pd, pe⟩, jb, lf, pl, tot, rn, rs⟩ := s
  have hj' : ¬ jb = 0 := hj
  have hT' : TR mi dk ca up nu nx us kd ru pd pe jb lf tot := hT
  obtain ⟨w1, w2, w3, w4, w5, w6, w7, w8, w9, w10, w11, w12⟩ := hW
  obtain ⟨a1, a2, a3, ⟨a4, a4'⟩, a5, a6, a7, ⟨a8, a8'⟩, a9⟩ := id hT'
  obtain ⟨d1, d2, d3, d4⟩ := a9 hj'
  have hlf1 : 1 ≤ lf := by
    rcases w12 with ⟨z, -⟩ | ⟨z, y1, y2, y3, -, y4⟩ | ⟨z, y1, y2, -, y3⟩ | ⟨z, y1, y2, y3, y4, y5⟩
    · exact absurd z hj'
    · omega
    · omega
    · rcases y5 with ⟨p, f, hH, hblk, ht, hlf, hph, hE⟩ | ⟨q, -⟩ <;> omega
  have tail : ∀ m1, TX mi m1 → TD m1 (aDk dk ca lf pl) (aCa ca lf pl) → am_wp 101 80 [.ref 23, .int n, .int x] [] (m1, mr, sz) Q := by
    intro m1 hX hD1
    have hT1 := hT'.dev hX hD1
    have e13 : m1 23 13 + 1 = nI (tot - (lf - 1)) := by
      rw [(hT1.2.2.2.2.2.2.2.2 hj').1, nI_1]; congr 1; omega
    have e14 := (hT1.2.2.2.2.2.2.2.2 hj').2.1
    have hT2 : TR (am_u2 m1 23 13 (m1 23 13 + 1)) (aDk dk ca lf pl) (aCa ca lf pl) up nu nx us kd ru pd pe jb (lf - 1) tot := by
      obtain ⟨b1, b2, b3, b4, b5, b6, b7, b8, b9⟩ := hT1
      refine ⟨b1.congr rfl rfl rfl rfl, b2, b3, b4, b5, b6, b7, b8, fun _ => ⟨by rw [sd_u2s]; exact e13, (b9 hj').2.1, by omega, d4⟩⟩
    have hTF : TF mi (am_u2 m1 23 13 (m1 23 13 + 1)) := hX.tf.trans (TF.u2 (by omega) (by omega))
    refine wp_x 14 hF rfl ?_
    refine wp_ne2N (tot - (lf - 1)) tot rfl (by show am_u2 m1 23 13 (m1 23 13 + 1) 23 13 = _; rw [sd_u2s]; exact e13) e14 (by omega) (by omega) (fun q => ?_) (fun q => ?_)
    · refine k _ hTF ?_
      unfold oneS
      dsimp only
      rw [if_neg (show ¬ lf = 1 by omega)]
      exact hT2
    · have h1 : lf = 1 := by omega
      have hca : aCa ca lf pl = [] := by unfold aCa; rw [if_pos (by simp [fshB, h1])]
      have h0 : lf - 1 = 0 := by omega
      rw [hca, h0] at hT2
      refine wp_x 1 hF rfl ?_
      refine wp_ca rfl rfl ?_
      refine c_finish hF hT2 (JR_EN w12 hj' h1) (fun m' f1 f2 => ?_)
      refine wp_x 1 hF rfl ?_
      refine k m' (hTF.trans f1) ?_
      unfold oneS
      dsimp only
      rw [if_pos h1, hca]
      exact f2
  have wr : ∀ {e : En} {m1 : Nat → Nat → Int32}, fshB lf pl = false ∧ pl.take 1 = [e] → TX mi m1 → TD m1 dk (ca ++ [e]) → am_wp 101 80 [.ref 23, .int n, .int x] [] (m1, mr, sz) Q := by
    intro e m1 h hX hD
    refine tail m1 hX ?_
    unfold aDk aCa
    rw [h.1, if_neg (by decide), if_neg (by decide), h.2]
    exact hD
  have fl : ∀ {m1 : Nat → Nat → Int32}, fshB lf pl = true → TX mi m1 → TD m1 (flS dk ca) [] → am_wp 101 80 [.ref 23, .int n, .int x] [] (m1, mr, sz) Q := by
    intro m1 h hX hD
    refine tail m1 hX ?_
    unfold aDk aCa
    rw [if_pos h, if_pos h]
    exact hD
  have hc32 : ca.length < 32 := by omega
  have h16 := cnt_le (k1 kd) 16
  have h16' := cnt_le pd 16
  refine wp_x 3 hF rfl ?_
  rcases w12 with ⟨z, -⟩ | ⟨z, y1, y2, y3, y4⟩ | ⟨z, y1, y2, y3⟩ | ⟨z, y1, y2, y3, y4, y5⟩
  · exact absurd z hj'
  · subst z; subst y1
    refine wp_ne2N 2 2 rfl a8 rfl (by omega) (by omega) (fun q => absurd rfl q) (fun _ => ?_)
    have hl := flC_len kd ru nu nx
    obtain ⟨p1, p2⟩ := phs_act y4 (i := tot - lf) (by rw [hl, y3])
    refine wp_x 3 hF rfl ?_
    show am_wp 101 47 _ [.int (mi 23 13), .ref 23] _ _
    rw [d1]
    refine wp_ca rfl rfl ?_
    refine c_commitAction (i := tot - lf) (nu := nu) (nx := nx) hF a1 hc32 w1.c hT'.tk a3 a4 a4' (by rw [d2, y3]) (by omega) (fun e he m1 hX hD => ?_) (fun he m1 hX hD => ?_)
    · refine wp_x 1 hF rfl ?_
      exact wr (p1 e (by rw [hl]; exact he)) hX hD
    · refine wp_x 1 hF rfl ?_
      exact fl (p2 (by rw [hl]; exact he)) hX hD
  · subst z; subst y1
    refine wp_ne2N 3 2 rfl a8 rfl (by omega) (by omega) (fun _ => ?_) (fun q => absurd q (by decide))
    refine wp_x 3 hF rfl ?_
    refine wp_ne2N 3 3 rfl a8 rfl (by omega) (by omega) (fun q => absurd rfl q) (fun _ => ?_)
    have hl := flK_len pd pe nu nx
    obtain ⟨p1, p2⟩ := phs_act y3 (i := tot - lf) (by rw [hl, y2])
    refine wp_x 3 hF rfl ?_
    show am_wp 101 66 _ [.int (mi 23 13), .ref 23] _ _
    rw [d1]
    refine wp_ca rfl rfl ?_
    refine c_checkpointAction (i := tot - lf) (nu := nu) (nx := nx) (pd := pd) (pe := pe) hF a1 hc32 w1.c (a5 rfl).2.2 a7 a3 a4 (by rw [d2, y2]) (by omega) (fun e he m1 hX hD => ?_) (fun he m1 hX hD => ?_)
    · refine wp_x 1 hF rfl ?_
      refine wr (p1 e ?_) hX hD
      rw [hl]
      rcases he with ⟨g1, g2⟩ | ⟨g1, g2⟩
      · exact Or.inl ⟨by omega, g2⟩
      · exact Or.inr ⟨by omega, by rw [Nat.add_sub_cancel]; exact g2⟩
    · refine wp_x 1 hF rfl ?_
      exact fl (p2 (by rw [hl]; omega)) hX hD
  · subst z; subst y1
    refine wp_ne2N 4 2 rfl a8 rfl (by omega) (by omega) (fun _ => ?_) (fun q => absurd q (by decide))
    refine wp_x 3 hF rfl ?_
    refine wp_ne2N 4 3 rfl a8 rfl (by omega) (by omega) (fun _ => ?_) (fun q => absurd q (by decide))
    refine wp_x 3 hF rfl ?_
    show am_wp 101 77 _ [.int (mi 23 13), .ref 23] _ _
    rw [d1]
    refine wp_ca rfl rfl ?_
    have e14 : mi 23 14 = nI (tot - 3 + 3) := by rw [d2]; congr 1; omega
    rcases y5 with ⟨p, f, hH, hblk, ht, hlf, hph, hE⟩ | ⟨q, q1, q2⟩
    · have hl : (rcI (lgT dk ca p) f ++ [rcE (lgT dk ca p) f p]).length = tot - 3 + 1 := by rw [List.length_append, ht]; rfl
      obtain ⟨p1, p2⟩ := phs_act hph (i := tot - lf) (by rw [hl]; omega)
      refine c_recoveryAction (i := tot - lf) (p := p) (f0 := f) (N := tot - 3) hF a1 hc32 w1.c (Or.inl hH) (by omega) e14 (by omega) (fun _ => ⟨hH, by omega⟩) (fun e he m1 hX hD => ?_) (fun he m1 hX hD => ?_)
      · refine wr (p1 e ?_) hX hD
        rw [hl]
        rcases he with ⟨g1, g2⟩ | ⟨g1, g2⟩
        · exact Or.inl ⟨by omega, by rw [List.getElem?_append_left (by omega)]; exact g2⟩
        · refine Or.inr ⟨by omega, ?_⟩
          rw [List.getElem?_append_right (by omega), show tot - 3 + 1 - 1 - (rcI (lgT dk ca p) f).length = 0 by omega, g2]
          rfl
      · exact fl (p2 (by rw [hl]; omega)) hX hD
    · refine c_recoveryAction (i := tot - lf) (p := 0) (f0 := 0) (N := tot - 3) hF a1 hc32 w1.c (Or.inr trivial) (by omega) e14 (by omega) (fun h => absurd h (by omega)) (fun e he m1 hX hD => ?_) (fun he m1 hX hD => ?_)
      · omega
      · exact fl (by simp [fshB, q]) hX hD
theorem TRs.jb0 {s : Sp} (hT : TRs mi s) : mi 23 12 = 0 ↔ s.2.2.2.1 = 0 := by
  obtain ⟨⟨dk, ca⟩, ⟨up, nu, nx, us⟩, ⟨kd, ru, pd, pe⟩, jb, lf, pl, tot, rn, rs⟩ := s
  exact TR.jb0 (show TR mi dk ca up nu nx us kd ru pd pe jb lf tot from hT)
theorem c_stepT {s : Sp} (hF : FX mr) (hT : TRs mi s) (hW : WF s) {n : Int32} (t : ∀ i, 1 ≤ i → i ≤ 10 → n = nI i → ¬ s.2.2.2.1 = 0 → ∀ m', TF mi m' → TRs m' (itS i s).2 → Q (some (.int (nI (itS i s).1))) (m', mr, sz)) (f : (s.2.2.2.1 = 0 ∨ ∀ i, 1 ≤ i → i ≤ 10 → n ≠ nI i) → Q (some (.int (-1))) (mi, mr, sz)) : am_wp 101 0 (am_lo 101 [.ref 23, .int n]) [] (mi, mr, sz) Q := by
  have no : (s.2.2.2.1 = 0 ∨ ∀ i, 1 ≤ i → i ≤ 10 → n ≠ nI i) → am_wp 101 18 [.ref 23, .int n, .long 0] [] (mi, mr, sz) Q := fun h => wp_x 1 hF rfl (wp_re rfl rfl (f h))
  refine wp_x 2 hF rfl ?_
  refine wp_eq1 rfl (fun q => no (Or.inl (hT.jb0.mp q))) (fun q => ?_)
  have hj : ¬ s.2.2.2.1 = 0 := fun z => q (hT.jb0.mpr z)
  refine wp_x 2 hF rfl ?_
  refine wp_lt2 rfl (fun q1 => no (Or.inr fun i h1 h2 e => ?_)) (fun q1 => ?_)
  · subst e
    exact absurd ((nI_ltI (a := i) (b := 1) (by omega) (by omega)).mp q1) (by omega)
  refine wp_x 2 hF rfl ?_
  refine wp_le2 rfl (fun q2 => ?_) (fun q2 => no (Or.inr fun i h1 h2 e => ?_))
  rotate_left
  · subst e
    exact q2 ((nI_leI (a := i) (b := 10) (by omega) (by omega)).mpr h2)
  obtain ⟨i, hi, hn⟩ : ∃ i, i < 11 ∧ n = nI i := rng_of (N := 11) (by omega) (fun z => q1 (by
    rw [Int32.lt_iff_toInt_lt] at z ⊢
    have : (1 : Int32).toInt = 1 := rfl
    have : (0 : Int32).toInt = 0 := rfl
    omega)) (fun z => absurd ((i_le_lt n 10 (by omega)).mp z) (fun y => by
    rw [Int32.lt_iff_toInt_lt] at y
    rw [Int32.le_iff_toInt_le] at q2
    have : (nI 10).toInt = 10 := rfl
    have : (10 : Int32).toInt = 10 := rfl
    omega))
  have hi1 : 1 ≤ i := by
    rcases Nat.lt_or_ge i 1 with z | z
    · refine absurd ?_ q1
      rw [hn]
      exact (nI_ltI (a := i) (b := 1) (by omega) (by omega)).mpr z
    · exact z
  have tt := t i hi1 (by omega) hn hj
  have loop : ∀ d c (m : Nat → Nat → Int32) (s1 : Sp), c + d = i → TF mi m → TRs m s1 → WF s1 → itS i s = ((itS d s1).1 + c, (itS d s1).2) → am_wp 101 22 [.ref 23, .int n, .int (nI c)] [] (m, mr, sz) Q := by
    intro d
    induction d with
    | zero =>
      intro c m s1 hc h1 h2 h3 h4
      have hc' : c = i := by omega
      refine wp_x 2 hF rfl ?_
      refine wp_ge2N c i rfl rfl hn (by omega) (by omega) (fun _ => ?_) (fun q => absurd q (by omega))
      refine wp_x 1 hF rfl ?_
      have t2 := tt m h1
      rw [h4] at t2
      simp only [itS, Nat.zero_add] at t2
      exact wp_re rfl rfl (t2 h2)
    | succ d ih =>
      intro c m s1 hc h1 h2 h3 h4
      refine wp_x 2 hF rfl ?_
      refine wp_ge2N c i rfl rfl hn (by omega) (by omega) (fun q => absurd q (by omega)) (fun _ => ?_)
      refine wp_x 2 hF rfl ?_
      refine wp_eq1 rfl (fun q => ?_) (fun q => ?_)
      · have h0 := h2.jb0.mp q
        refine wp_x 1 hF rfl ?_
        have t2 := tt m h1
        rw [h4] at t2
        simp only [itS, if_pos h0, Nat.zero_add] at t2
        exact wp_re rfl rfl (t2 h2)
      · have h0 : ¬ s1.2.2.2.1 = 0 := fun z => q (h2.jb0.mpr z)
        refine c_actT hF h2 h3 h0 (fun m' f1 f2 => ?_)
        rw [nI_1]
        refine ih (c + 1) m' (oneS s1) (by omega) (h1.trans f1) f2 (WF_one h3 h0) ?_
        rw [h4]
        simp only [itS, if_neg h0]
        congr 1
        omega
  refine wp_x 2 hF rfl ?_
  exact loop i 0 mi s (by omega) TF.rfl' hT hW rfl
end TW12
end
section
/-! THE TWIN: crash and what is to be seen -/
def crG (mask whole : Int32) (n k : Nat) : Nat := if k + 1 = lst (bt mask) n ∧ 0 ≤ whole ∧ whole ≤ 3 then whole.toNatClampNeg else 4
def crD (mask whole : Int32) (ca : List En) (dk : Nat → Int32) : Nat → Int32 := crS (bt mask) (crG mask whole ca.length) 0 ca dk
def crL (mask : Int32) (n : Nat) : Nat := cnt (fun k => !bt mask k) n
theorem lst_le (p : Nat → Bool) : ∀ n, lst p n ≤ n
  | 0 => Nat.le_refl _
  | n + 1 => by
    rw [lst]
    split
    · exact Nat.le_refl _
    · exact Nat.le_succ_of_le (lst_le p n)
theorem m1_eq {k L : Nat} (hk : k < 2 ^ 30) (hL : L < 2 ^ 30) : nI k = nI L - 1 ↔ k + 1 = L := by
  cases L with
  | zero =>
    constructor
    · intro h
      exact ((hw_m1' k hk).mp h).elim
    · intro h; omega
  | succ L =>
    rw [nI_pred, nI_eq (by omega) (by omega)]
    omega
where
  hw_m1' (k : Nat) (hk : k < 2 ^ 30) : nI k = nI 0 - 1 ↔ False := by
    constructor
    · intro h
      have h1 : ¬ nI k < 0 := nI_nn (by omega)
      rw [h] at h1
      exact absurd (by decide) h1
    · intro h; cases h
section TW13
variable {mi : Nat → Nat → Int32} {mr : Nat → Nat → Nat} {sz : Nat} {Q : Option Value → am_H → Prop} {dk : Nat → Int32} {ca : List En} {up : Bool} {nu : Int32} {nx us : Nat} {kd : Nat → Nat} {ru : Nat → Int32} {pd : Nat → Bool} {pe : Nat → Int32} {jb lf tot : Nat}
theorem c_crashT (hF : FX mr) (hT : TR mi dk ca up nu nx us kd ru pd pe jb lf tot) (hok : okC ca) (hl : ca.length < 32) {mask whole : Int32} (k : ∀ m', TF mi m' → TR m' (crD mask whole ca dk) [] false nu nx 0 (fun _ => 0) ru (fun _ => false) pe 0 0 0 → Q (some (.int (nI (crL mask ca.length)))) (m', mr, sz)) : am_wp 116 0 (am_lo 116 [.ref 23, .int mask, .int whole]) [] (mi, mr, sz) Q := by
  have hD := hT.1
  obtain ⟨L, hL⟩ : ∃ z, z = lst (bt mask) ca.length := ⟨_, rfl⟩
  have hL32 : L < 33 := by rw [hL]; have := lst_le (bt mask) ca.length; omega
  have loop2 : ∀ d c (m : Nat → Nat → Int32) (dd : Nat → Int32) (v6 : Value), c + d = ca.length → (∀ a, ¬ a = 24 → m a = mi a) → TD m dd ca → crD mask whole ca dk = crS (bt mask) (crG mask whole ca.length) c (ca.drop c) dd → am_wp 116 71 [.ref 23, .int mask, .int whole, .int (nI L - 1), .int (nI (crL mask ca.length)), .int (nI c), v6] [] (m, mr, sz) Q := by
    intro d
    induction d with
    | zero =>
      intro c m dd v6 hc h1 hd hcr
      have hc' : c = ca.length := by omega
      refine wp_x 3 hF rfl ?_
      refine wp_ge2N c ca.length rfl rfl hd.2.1 (by omega) (by omega) (fun _ => ?_) (fun q => absurd q (by omega))
      refine wp_x 10 hF rfl ?_
      refine wp_re rfl rfl (k _ (fun a ha => ?_) ?_)
      · show am_u2 (am_u2 (am_u2 m 23 1 0) 23 4 0) 23 12 0 a = mi a
        rw [sd_u2r _ _ _ _ (by omega), sd_u2r _ _ _ _ (by omega), sd_u2r _ _ _ _ (by omega), h1 a (by omega)]
      · rw [hc', List.drop_length] at hcr
        rw [hcr]
        obtain ⟨a1, a2, a3, a4, a5, a6, a7, a8, a9⟩ := hT
        have o23 := h1 23 (by decide)
        refine ⟨⟨hd.1, rfl, by simp, rfl⟩, rfl, ?_, ⟨?_, a4.2⟩, fun q => absurd q (by decide), fun j hj => ?_, fun j hj => ?_, ⟨rfl, by decide⟩, fun q => absurd rfl q⟩
        · show m 23 5 = nu
          rw [o23]; exact a3
        · show m 23 6 = _
          rw [o23]; exact a4.1
        · show m 28 j = _
          rw [h1 28 (by decide)]; exact a6 j hj
        · show m 30 j = _
          rw [h1 30 (by decide)]; exact a7 j hj
    | succ d ih =>
      intro c m dd v6 hc h1 hd hcr
      have hcl : c < ca.length := by omega
      have he : ca[c]? = some ca[c] := List.getElem?_eq_getElem hcl
      have hdr : ca.drop c = ca[c] :: ca.drop (c + 1) := List.drop_eq_getElem_cons hcl
      rw [hdr, crS] at hcr
      have hok1 := hok ca[c] (List.getElem_mem hcl)
      refine wp_x 3 hF rfl ?_
      refine wp_ge2N c ca.length rfl rfl hd.2.1 (by omega) (by omega) (fun q => absurd q (by omega)) (fun _ => ?_)
      refine wp_x 6 hF rfl ?_
      refine wp_ne2 rfl (fun q => ?_) (fun q => ?_)
      · have hb : ¬ bt mask c = true := fun z => q ((bt_1 mask c).mpr z)
        rw [if_neg hb] at hcr
        refine wp_x 2 hF rfl ?_
        have := ih (c + 1) m dd v6 (by omega) h1 hd hcr
        rw [← nI_1] at this
        exact this
      · have hb : bt mask c = true := (bt_1 mask c).mp q
        rw [if_pos hb] at hcr
        have go : ∀ n, n ≤ 4 → crG mask whole ca.length c = n → am_wp 116 113 [.ref 23, .int mask, .int whole, .int (nI L - 1), .int (nI (crL mask ca.length)), .int (nI c), v6] [.int (nI n), .int (nI c), .ref 23] (m, mr, sz) Q := by
          intro n hn hg
          refine wp_ca rfl rfl ?_
          refine c_settleT hF hd he hok1.1 hok1.2 hn (fun m2 g1 g2 => ?_)
          refine wp_x 2 hF rfl ?_
          rw [hg] at hcr
          have := ih (c + 1) m2 _ v6 (by omega) (fun a ha => by rw [g1 a ha, h1 a ha]) g2 hcr
          rw [← nI_1] at this
          exact this
        refine wp_x 4 hF rfl ?_
        refine wp_ne2 rfl (fun q1 => ?_) (fun q1 => ?_)
        · refine wp_x 1 hF rfl ?_
          refine go 4 (by omega) ?_
          unfold crG
          rw [if_neg]
          rintro ⟨z, -⟩
          exact q1 ((m1_eq (by omega) (by omega)).mpr (by rw [hL]; exact z))
        · have hcL : c + 1 = L := (m1_eq (by omega) (by omega)).mp q1
          refine wp_x 1 hF rfl ?_
          refine wp_lt1 rfl (fun q2 => ?_) (fun q2 => ?_)
          · refine wp_x 1 hF rfl ?_
            refine go 4 (by omega) ?_
            unfold crG
            rw [if_neg]
            rintro ⟨-, z, -⟩
            exact absurd q2 (i_nlt.mpr z)
          · refine wp_x 2 hF rfl ?_
            refine wp_gt2 rfl (fun q3 => ?_) (fun q3 => ?_)
            · refine wp_x 1 hF rfl ?_
              refine go 4 (by omega) ?_
              unfold crG
              rw [if_neg]
              rintro ⟨-, -, z⟩
              exact absurd q3 (i_nlt.mpr z)
            · obtain ⟨w, hw, ew⟩ := rng_of (N := 4) (by omega) q2 (fun z => q3 ((i_le_lt whole 3 (by omega)).mp z))
              refine wp_x 2 hF rfl ?_
              have hg : crG mask whole ca.length c = w := by
                unfold crG
                rw [if_pos ⟨by rw [← hL]; exact hcL, i_nlt.mp q2, i_nlt.mp q3⟩, ew, nI_clamp (by omega)]
              have := go w (by omega) hg
              rw [← ew] at this
              exact this
  have loop1 : ∀ d c (v6 : Value), c + d = ca.length → am_wp 116 8 [.ref 23, .int mask, .int whole, .int (nI (lst (bt mask) c) - 1), .int (nI (crL mask c)), .int (nI c), v6] [] (mi, mr, sz) Q := by
    intro d
    induction d with
    | zero =>
      intro c v6 hc
      have hc' : c = ca.length := by omega
      refine wp_x 3 hF rfl ?_
      refine wp_ge2N c ca.length rfl rfl hD.2.1 (by omega) (by omega) (fun _ => ?_) (fun q => absurd q (by omega))
      refine wp_x 2 hF rfl ?_
      rw [hc', ← hL]
      exact loop2 ca.length 0 mi dk v6 (by omega) (fun _ _ => rfl) hD rfl
    | succ d ih =>
      intro c v6 hc
      refine wp_x 3 hF rfl ?_
      refine wp_ge2N c ca.length rfl rfl hD.2.1 (by omega) (by omega) (fun q => absurd q (by omega)) (fun _ => ?_)
      refine wp_x 6 hF rfl ?_
      have ih' := ih (c + 1)
      refine wp_ne2 rfl (fun q => ?_) (fun q => ?_)
      · have hb : ¬ bt mask c = true := fun z => q ((bt_1 mask c).mpr z)
        have hb' : bt mask c = false := by simpa using hb
        refine wp_x 3 hF rfl ?_
        refine wp_eq1 rfl (fun _ => ?_) (fun q => absurd rfl q)
        refine wp_x 3 hF rfl ?_
        refine wp_eq1 rfl (fun _ => ?_) (fun q => absurd rfl q)
        refine wp_x 6 hF rfl ?_
        rw [show lst (bt mask) (c + 1) = lst (bt mask) c from if_neg hb, show crL mask (c + 1) = crL mask c + 1 from if_pos (by simp [hb']), ← nI_1, ← nI_1] at ih'
        exact ih' _ (by omega)
      · have hb : bt mask c = true := (bt_1 mask c).mp q
        refine wp_x 4 hF rfl ?_
        refine wp_eq1 rfl (fun q => absurd q (by decide)) (fun _ => ?_)
        refine wp_x 4 hF rfl ?_
        refine wp_eq1 rfl (fun q => absurd q (by decide)) (fun _ => ?_)
        refine wp_x 5 hF rfl ?_
        rw [show lst (bt mask) (c + 1) = c + 1 from if_pos hb, show crL mask (c + 1) = crL mask c from if_neg (by simp [hb]), nI_pred, ← nI_1] at ih'
        exact ih' _ (by omega)
  refine wp_x 6 hF rfl ?_
  exact loop1 ca.length 0 _ (by omega)
theorem c_stateT (hF : FX mr) (hT : TR mi dk ca up nu nx us kd ru pd pe jb lf tot) (k : Q (some (.int (if jb = 0 then (if up = true then 1 else 0) else nI jb))) (mi, mr, sz)) : am_wp 117 0 (am_lo 117 [.ref 23]) [] (mi, mr, sz) Q := by
  refine wp_x 2 hF rfl ?_
  refine wp_eq1 rfl (fun q => ?_) (fun q => ?_)
  · rw [if_pos (hT.jb0.mp q)] at k
    refine wp_x 2 hF rfl ?_
    refine wp_eq1 rfl (fun q2 => ?_) (fun q2 => ?_)
    · refine wp_x 1 hF rfl ?_
      rw [if_neg (fun z => hT.up4.mpr z q2)] at k
      exact wp_re rfl rfl k
    · refine wp_x 2 hF rfl ?_
      rw [if_pos (hT.up4.mp q2)] at k
      exact wp_re rfl rfl k
  · rw [if_neg (fun z => q (hT.jb0.mpr z)), ← hT.2.2.2.2.2.2.2.1.1] at k
    refine wp_x 3 hF rfl ?_
    exact wp_re rfl rfl k
theorem c_numberT (hF : FX mr) (hT : TR mi dk ca up nu nx us kd ru pd pe jb lf tot) (k : Q (some (.int (if up = true then nu else -1))) (mi, mr, sz)) : am_wp 118 0 (am_lo 118 [.ref 23]) [] (mi, mr, sz) Q := by
  refine wp_x 2 hF rfl ?_
  refine wp_eq1 rfl (fun q2 => ?_) (fun q2 => ?_)
  · refine wp_x 1 hF rfl ?_
    rw [if_neg (fun z => hT.up4.mpr z q2)] at k
    exact wp_re rfl rfl k
  · refine wp_x 3 hF rfl ?_
    rw [if_pos (hT.up4.mp q2), ← hT.2.2.1] at k
    exact wp_re rfl rfl k
theorem c_usedT (hF : FX mr) (hT : TR mi dk ca up nu nx us kd ru pd pe jb lf tot) (k : Q (some (.int (if up = true then nI us else -1))) (mi, mr, sz)) : am_wp 119 0 (am_lo 119 [.ref 23]) [] (mi, mr, sz) Q := by
  refine wp_x 2 hF rfl ?_
  refine wp_eq1 rfl (fun q2 => ?_) (fun q2 => ?_)
  · refine wp_x 1 hF rfl ?_
    rw [if_neg (fun z => hT.up4.mpr z q2)] at k
    exact wp_re rfl rfl k
  · refine wp_x 3 hF rfl ?_
    have hu := hT.up4.mp q2
    rw [if_pos hu, ← (hT.2.2.2.2.1 hu).1.1] at k
    exact wp_re rfl rfl k
theorem c_leftT (hF : FX mr) (hT : TR mi dk ca up nu nx us kd ru pd pe jb lf tot) (k : Q (some (.int (if jb = 0 then 0 else nI lf))) (mi, mr, sz)) : am_wp 120 0 (am_lo 120 [.ref 23]) [] (mi, mr, sz) Q := by
  refine wp_x 2 hF rfl ?_
  refine wp_ne1 rfl (fun q => ?_) (fun q => ?_)
  · have hj : ¬ jb = 0 := fun z => q (hT.jb0.mpr z)
    obtain ⟨d1, d2, d3, d4⟩ := hT.2.2.2.2.2.2.2.2 hj
    refine wp_x 5 hF rfl ?_
    have : nI lf = mi 23 14 - mi 23 13 := by
      rw [d1, d2, pk_sub (by omega)]; congr 1; omega
    rw [if_neg hj, this] at k
    exact wp_re rfl rfl k
  · rw [if_pos (hT.jb0.mp q)] at k
    refine wp_x 2 hF rfl ?_
    exact wp_re rfl rfl k
theorem c_cachedT (hF : FX mr) (hD : TD mi dk ca) (k : Q (some (.int (nI ca.length))) (mi, mr, sz)) : am_wp 76 0 (am_lo 76 [.ref 23]) [] (mi, mr, sz) Q := by
  refine wp_x 2 hF rfl ?_
  rw [← hD.2.1] at k
  exact wp_re rfl rfl k
theorem no_rng {s w : Int32} (h : ¬ ((∃ i, i < 41 ∧ s = nI i) ∧ ∃ j, j < 4 ∧ w = nI j)) : s < 0 ∨ nI 41 ≤ s ∨ w < 0 ∨ nI 4 ≤ w := by
  rcases pk_ix s (n := 41) (by omega) with q | q | q
  · exact Or.inl q
  · exact Or.inr (Or.inl q)
  · rcases pk_ix w (n := 4) (by omega) with q2 | q2 | q2
    · exact Or.inr (Or.inr (Or.inl q2))
    · exact Or.inr (Or.inr (Or.inr q2))
    · exact absurd ⟨q, q2⟩ h
theorem c_readT2 (hF : FX mr) (hD : TD mi dk ca) {s w : Int32} (t : ∀ i j, i < 41 → j < 4 → s = nI i → w = nI j → Q (some (.int (rdS dk ca i j))) (mi, mr, sz)) (f : (¬ ((∃ i, i < 41 ∧ s = nI i) ∧ ∃ j, j < 4 ∧ w = nI j)) → Q (some (.int 0)) (mi, mr, sz)) : am_wp 74 0 (am_lo 74 [.ref 23, .int s, .int w]) [] (mi, mr, sz) Q := by
  by_cases h : (∃ i, i < 41 ∧ s = nI i) ∧ ∃ j, j < 4 ∧ w = nI j
  · obtain ⟨⟨i, hi, rfl⟩, j, hj, rfl⟩ := h
    exact c_readT hF hD hi hj (t i j hi hj rfl rfl)
  · have no : am_wp 74 19 [.ref 23, .int s, .int w, .long 0, .long 0] [] (mi, mr, sz) Q := wp_x 1 hF rfl (wp_re rfl rfl (f h))
    have hh := no_rng h
    refine wp_x 1 hF rfl ?_
    refine wp_lt1 rfl (fun _ => no) (fun q1 => ?_)
    refine wp_x 2 hF rfl ?_
    refine wp_gt2 rfl (fun _ => no) (fun q2 => ?_)
    refine wp_x 1 hF rfl ?_
    refine wp_lt1 rfl (fun _ => no) (fun q3 => ?_)
    refine wp_x 2 hF rfl ?_
    refine wp_le2 rfl (fun q4 => ?_) (fun _ => no)
    rcases hh with z | z | z | z
    · exact absurd z q1
    · exact absurd ((i_le_lt s 40 (by omega)).mp z) q2
    · exact absurd z q3
    · exact absurd ((i_le_lt w 3 (by omega)).mp z) (i_nlt.mpr q4)
theorem c_storedT (hF : FX mr) (hD : TD mi dk ca) {s w : Int32} (t : ∀ i j, i < 41 → j < 4 → s = nI i → w = nI j → Q (some (.int (dk (4 * i + j)))) (mi, mr, sz)) (f : (¬ ((∃ i, i < 41 ∧ s = nI i) ∧ ∃ j, j < 4 ∧ w = nI j)) → Q (some (.int 0)) (mi, mr, sz)) : am_wp 75 0 (am_lo 75 [.ref 23, .int s, .int w]) [] (mi, mr, sz) Q := by
  by_cases h : (∃ i, i < 41 ∧ s = nI i) ∧ ∃ j, j < 4 ∧ w = nI j
  · obtain ⟨⟨i, hi, rfl⟩, j, hj, rfl⟩ := h
    have tt := t i j hi hj rfl rfl
    refine wp_x 1 hF rfl ?_
    refine wp_lt1 rfl (fun q => absurd q (nI_nn (by omega))) (fun _ => ?_)
    refine wp_x 2 hF rfl ?_
    refine wp_gt2N i 40 rfl rfl rfl (by omega) (by omega) (fun q => absurd q (by omega)) (fun _ => ?_)
    refine wp_x 1 hF rfl ?_
    refine wp_lt1 rfl (fun q => absurd q (nI_nn (by omega))) (fun _ => ?_)
    refine wp_x 2 hF rfl ?_
    refine wp_le2N j 3 rfl rfl rfl (by omega) (by omega) (fun _ => ?_) (fun q => absurd q (by omega))
    refine wp_x 7 hF rfl ?_
    refine wp_al (4 * i + j) rfl rfl (a4 i j) (by decide) rfl (show 4 * i + j < 164 by omega) ?_
    rw [hD.1 _ (show 4 * i + j < 164 by omega)]
    exact wp_re rfl rfl tt
  · have no : am_wp 75 19 [.ref 23, .int s, .int w] [] (mi, mr, sz) Q := wp_x 2 hF rfl (wp_re rfl rfl (f h))
    have hh := no_rng h
    refine wp_x 1 hF rfl ?_
    refine wp_lt1 rfl (fun _ => no) (fun q1 => ?_)
    refine wp_x 2 hF rfl ?_
    refine wp_gt2 rfl (fun _ => no) (fun q2 => ?_)
    refine wp_x 1 hF rfl ?_
    refine wp_lt1 rfl (fun _ => no) (fun q3 => ?_)
    refine wp_x 2 hF rfl ?_
    refine wp_le2 rfl (fun q4 => ?_) (fun _ => no)
    rcases hh with z | z | z | z
    · exact absurd z q1
    · exact absurd ((i_le_lt s 40 (by omega)).mp z) q2
    · exact absurd z q3
    · exact absurd ((i_le_lt w 3 (by omega)).mp z) (i_nlt.mpr q4)
end TW13
end
section
/-! THE COMPONENT: sheets, chains, the store -/
def ent (mi : Nat → Nat → Int32) (s : Nat) : En := (mi s 1, mi (s + 1) 0, mi (s + 1) 1, mi (s + 1) 2, mi (s + 1) 3)
def lk (mr : Nat → Nat → Nat) : Nat → List Nat → Prop
  | a, [] => a = 0
  | a, x :: r => a = x ∧ lk mr (mr x 2) r
def lastN : List Nat → Nat
  | [] => 0
  | [x] => x
  | _ :: y :: r => lastN (y :: r)
def okS (mr : Nat → Nat → Nat) (sz s : Nat) : Prop := 34 ≤ s ∧ s % 2 = 0 ∧ s + 1 < sz ∧ mr s 0 = s + 1
def isC (c : Nat) : Prop := c = 6 ∨ c = 13 ∨ c = 15 ∨ c = 17
/-- the world of sheets: A c is the chain c's row, A 3 the free ones -/
def CW (mi : Nat → Nat → Int32) (mr : Nat → Nat → Nat) (sz : Nat) (A : Nat → List Nat) : Prop :=
  FX mr ∧ (34 ≤ sz ∧ sz % 2 = 0) ∧ lk mr (mr 3 0) (A 3) ∧ (∀ c, isC c → lk mr (mr c 1) (A c) ∧ mr c 2 = lastN (A c) ∧ mi c 3 = nI (A c).length) ∧ (∀ c, ∀ s ∈ A c, okS mr sz s) ∧ (∀ c, (A c).Nodup) ∧ ∀ c d s, s ∈ A c → s ∈ A d → c = d
theorem tgC {c : Nat} (h : isC c) : tg_ c = 3 := by rcases h with rfl | rfl | rfl | rfl <;> rfl
theorem isC.lt {c : Nat} (h : isC c) : c < 34 ∧ ¬ c = 3 ∧ ¬ c = 2 ∧ ¬ c = 1 := by rcases h with rfl | rfl | rfl | rfl <;> decide
theorem tgS {s : Nat} (h1 : 34 ≤ s) (h2 : s % 2 = 0) : tg_ s = 9 := by rw [tg_hi h1, if_pos h2]
theorem tgW {s : Nat} (h1 : 34 ≤ s) (h2 : s % 2 = 0) : tg_ (s + 1) = 30 := by rw [tg_hi (by omega), if_neg (by omega)]
theorem lnW {s : Nat} (h1 : 34 ≤ s) (h2 : s % 2 = 0) : ln_ (s + 1) = 4 := by rw [ln_hi (by omega), if_neg (by omega)]
theorem getD_ge {α : Type} (l : List α) (z : α) {n : Nat} (h : l.length ≤ n) : l.getD n z = z := by
  rw [List.getD_eq_getElem?_getD, List.getElem?_eq_none h]; rfl
theorem fx_no {a k v : Nat} (h : fx_ a k = some v) : a < 34 ∧ ¬ a = 3 ∧ ¬ ((a = 6 ∨ a = 13 ∨ a = 15 ∨ a = 17) ∧ (k = 1 ∨ k = 2)) ∧ ¬ (a = 2 ∧ k = 7) := by
  have ha : a < 24 := by
    rcases Nat.lt_or_ge a 24 with q | q
    · exact q
    · unfold fx_ at h
      rw [getD_ge (α := List (Option Nat)) _ _ (by simpa using q)] at h
      simp at h
  have hk : k < 23 := by
    rcases Nat.lt_or_ge k 23 with q | q
    · exact q
    · unfold fx_ at h
      rw [getD_ge] at h
      · cases h
      · exact Nat.le_trans ((by decide +kernel : ∀ a, a < 24 → (([[], [], [some 3, some 4, some 7, some 12, some 14, some 16, some 21, none], [], [some 5, some 6], [], [some 3, none, none, none], [none, none, none, none, some 8, some 10, none], [some 9, none], [], [some 11, none], [], [some 4, some 7, some 13, none, none, none], [some 3, none, none, none], [some 4, some 7, some 15, none], [some 3, none, none, none], [some 4, some 7, some 17, none, some 18, none, none, none, none, some 20, none, none], [some 3, none, none, none], [some 19, none, none], [], [], [some 22, none, none], [], [some 24, none, some 25, some 26, none, none, none, none, some 27, some 28, some 29, some 30, none, none, none, some 31, none, none, none, none, none, some 32, some 33]] : List (List (Option Nat))).getD a []).length ≤ 23) a ha) q
  have key := (by decide +kernel : ((List.range 24).all fun a => (List.range 23).all fun k => !(fx_ a k).isSome || (a != 3 && !((a == 6 || a == 13 || a == 15 || a == 17) && (k == 1 || k == 2)) && !(a == 2 && k == 7))) = true)
  rw [List.all_eq_true] at key
  have key2 := key a (List.mem_range.mpr ha)
  rw [List.all_eq_true] at key2
  have key3 := key2 k (List.mem_range.mpr hk)
  rw [h] at key3
  simp at key3
  omega
theorem FX.cg {mr mr' : Nat → Nat → Nat} (h : FX mr) (e : ∀ a k, a < 34 → ¬ a = 3 → ¬ (isC a ∧ (k = 1 ∨ k = 2)) → ¬ (a = 2 ∧ k = 7) → mr' a k = mr a k) : FX mr' := by
  intro a k v hv
  obtain ⟨h1, h2, h3, h4⟩ := fx_no hv
  rw [e a k h1 h2 h3 h4]
  exact h a k v hv
theorem FX.st {mr : Nat → Nat → Nat} (h : FX mr) {c : Nat} (hc : isC c) : mr c 0 = 3 := by rcases hc with rfl | rfl | rfl | rfl <;> exact h _ _ _ rfl
theorem lk_cg {mr mr' : Nat → Nat → Nat} : ∀ (l : List Nat) {a : Nat}, (∀ x ∈ l, mr' x 2 = mr x 2) → lk mr a l → lk mr' a l
  | [], _, _, h => h
  | x :: r, a, e, h => ⟨h.1, by rw [e x List.mem_cons_self]; exact lk_cg r (fun y hy => e y (List.mem_cons_of_mem _ hy)) h.2⟩
theorem lastN_mem : ∀ (l : List Nat), ¬ l = [] → lastN l ∈ l
  | [], h => absurd rfl h
  | [x], _ => List.mem_cons_self
  | _ :: y :: r, _ => List.mem_cons_of_mem _ (lastN_mem (y :: r) (by simp))
theorem lastN_snoc (s : Nat) : ∀ (l : List Nat), lastN (l ++ [s]) = s
  | [] => rfl
  | [x] => rfl
  | _ :: y :: r => lastN_snoc s (y :: r)
theorem lk_add {mr mr' : Nat → Nat → Nat} {s : Nat} : ∀ (l : List Nat) {a : Nat}, lk mr a l → ¬ l = [] → l.Nodup → (∀ x ∈ l, ¬ x = lastN l → mr' x 2 = mr x 2) → mr' (lastN l) 2 = s → mr' s 2 = 0 → lk mr' a (l ++ [s])
  | [], _, _, h, _, _, _, _ => absurd rfl h
  | [x], a, h, _, _, _, h2, h3 => ⟨h.1, h2, h3⟩
  | x :: y :: r, a, h, _, hn, e, h2, h3 => by
    have hx : ¬ x = lastN (y :: r) := fun z => (List.nodup_cons.mp hn).1 (by rw [z]; exact lastN_mem _ (by simp))
    refine ⟨h.1, ?_⟩
    rw [e x List.mem_cons_self hx]
    exact lk_add (y :: r) h.2 (by simp) (List.nodup_cons.mp hn).2 (fun z hz => e z (List.mem_cons_of_mem _ hz)) h2 h3
theorem CW.cg {mi mi' : Nat → Nat → Int32} {mr mr' : Nat → Nat → Nat} {sz sz' : Nat} {A : Nat → List Nat} (h : CW mi mr sz A) (hF : FX mr') (h1 : sz ≤ sz') (h2 : sz' % 2 = 0) (h3 : mr' 3 0 = mr 3 0) (h4 : ∀ c, isC c → mr' c 1 = mr c 1 ∧ mr' c 2 = mr c 2 ∧ mi' c 3 = mi c 3) (h5 : ∀ s, okS mr sz s → mr' s 0 = mr s 0 ∧ mr' s 2 = mr s 2) : CW mi' mr' sz' A := by
  obtain ⟨a1, a2, a3, a4, a5, a6, a7⟩ := h
  refine ⟨hF, ⟨by omega, h2⟩, ?_, fun c hc => ?_, fun c s hs => ?_, a6, a7⟩
  · rw [h3]; exact lk_cg _ (fun x hx => (h5 x (a5 3 x hx)).2) a3
  · obtain ⟨b1, b2, b3⟩ := a4 c hc
    obtain ⟨c1, c2, c3⟩ := h4 c hc
    exact ⟨by rw [c1]; exact lk_cg _ (fun x hx => (h5 x (a5 c x hx)).2) b1, by rw [c2]; exact b2, by rw [c3]; exact b3⟩
  · obtain ⟨b1, b2, b3, b4⟩ := a5 c s hs
    exact ⟨b1, b2, by omega, by rw [(h5 s (a5 c s hs)).1]; exact b4⟩
theorem CW.mi {mi mi' : Nat → Nat → Int32} {mr : Nat → Nat → Nat} {sz : Nat} {A : Nat → List Nat} (h : CW mi mr sz A) (h4 : ∀ c, isC c → mi' c 3 = mi c 3) : CW mi' mr sz A := h.cg h.1 (Nat.le_refl _) h.2.1.2 rfl (fun c hc => ⟨rfl, rfl, h4 c hc⟩) (fun _ _ => ⟨rfl, rfl⟩)
section CW1
variable {M pc n a b w k r : Nat} {cc : Int32} {L S : List Value} {mi : Nat → Nat → Int32} {mr : Nat → Nat → Nat} {sz : Nat} {Q : Option Value → am_H → Prop} {A : Nat → List Nat} {h : am_H}
theorem wp_new {q0 : am_I} (hi : pg_in M pc = some q0) (hq : (∃ i, q0.1 = .new i) ∧ q0.2.2.1 = a) (ht : tg_ sz = a) (q : am_wp M q0.2.1 L (.ref sz :: S) (am_z2 mi sz 0, am_z2 mr sz 0, sz + 1) Q) : am_wp M pc L S (mi, mr, sz) Q := by
  obtain ⟨i, n, a', b, c, w⟩ := q0
  obtain ⟨⟨i', hi'⟩, ha⟩ := hq
  have hq0' : i = .new i' := hi'
  have ha' : a' = a := ha
  subst hq0'; subst ha'
  exact wp_nx hi (by dsimp only [am_ex]; unfold am_new; dsimp only; rw [if_pos ht]; rfl) q
theorem wp_nar (l : Nat) {x : Int32} {q0 : am_I} (hi : pg_in M pc = some q0) (hq : (∃ i, q0.1 = .newarray i) ∧ q0.2.2.1 = a) (ht : tg_ sz = a) (hx : x = nI l) (hl : ln_ sz = l) (q : am_wp M q0.2.1 L (.ref sz :: S) (am_z2 mi sz 0, am_z2 mr sz 0, sz + 1) Q) : am_wp M pc L (.int x :: S) (mi, mr, sz) Q := by
  obtain ⟨i, n, a', b, c, w⟩ := q0
  obtain ⟨⟨i', hi'⟩, ha⟩ := hq
  have hq0' : i = .newarray i' := hi'
  have ha' : a' = a := ha
  have hb := ln_big sz
  subst hq0'; subst ha'; subst hx
  exact wp_nx hi (by dsimp only [am_ex]; unfold am_nar; dsimp only; rw [if_pos ⟨ht, nI_nn (by omega), by rw [nI_clamp (by omega), hl]⟩]; rfl) q
theorem wp_obj {q0 : am_I} (hi : pg_in M pc = some q0) (hq : (∃ i, q0.1 = .invokespecial i) ∧ q0.2.2.1 = 999 ∧ q0.2.2.2.1 = 0) (hr : ¬ r = 0) (hS : S.length ≤ 8) (q : am_wp M q0.2.1 L S h Q) : am_wp M pc L (.ref r :: S) h Q := by
  obtain ⟨i, n, a', b, c, w⟩ := q0
  obtain ⟨⟨i', hi'⟩, ha, hb⟩ := hq
  have hq0' : i = .invokespecial i' := hi'
  have ha' : a' = 999 := ha
  have hb' : b = 0 := hb
  subst hq0'; subst ha'; subst hb'
  refine wp_nx hi ?_ q
  dsimp only [am_ex]
  unfold am_spe
  dsimp only [List.drop]
  rw [if_neg hr, if_pos rfl, if_pos hS]
  rfl
/-- a special call -/
theorem wp_cs {M' : Nat} {as T : List Value} {q0 : am_I} (hi : pg_in M pc = some q0) (hq : (∃ i, q0.1 = .invokespecial i) ∧ q0.2.2.1 = M' ∧ ¬ M' = 999) (hd : S.drop q0.2.2.2.1 = .ref r :: T) (hr : ¬ r = 0) (has : Value.ref r :: (S.take q0.2.2.2.1).reverse = as) (hT : T.length ≤ 8 ∧ as.length ≤ pg_ml M') (q : am_wp M' 0 (am_lo M' as) [] h (fun v h' => am_wp M (pc + 3) L (v.toList ++ T) h' Q)) : am_wp M pc L S h Q := by
  obtain ⟨i, n, a', b, c, w⟩ := q0
  obtain ⟨⟨i', hi'⟩, ha, hn⟩ := hq
  have hq0' : i = .invokespecial i' := hi'
  have ha' : a' = M' := ha
  subst hq0'; subst ha'; subst has
  refine wp_ca hi ?_ q
  dsimp only [am_ex]
  unfold am_spe
  have hd' : S.drop b = .ref r :: T := hd
  rw [hd']
  dsimp only
  rw [if_neg hr, if_neg hn]
  unfold am_cl
  rw [if_pos hT]
/-- a new sheet -/
theorem c_sheetInit {s : Nat} (hs : 34 ≤ s) (h2 : s % 2 = 0) (hz : sz = s + 1) (k : Q none (am_z2 mi sz 0, am_u2 (am_z2 mr sz 0) s 0 sz, sz + 1)) : am_wp 10 0 (am_lo 10 [.ref s]) [] (mi, mr, sz) Q := by
  subst hz
  refine wp_nx (q := (.aload_n 0, 1, 0, 0, 0, 0)) rfl rfl ?_
  refine wp_obj rfl ⟨⟨_, rfl⟩, rfl, rfl⟩ (by omega) (by simp) ?_
  refine wp_nx (q := (.aload_n 0, 5, 0, 0, 0, 0)) rfl rfl ?_
  refine wp_nx (q := (.iconst 4, 6, 0, 0, 4, 0)) rfl rfl ?_
  refine wp_nar 4 rfl ⟨⟨_, rfl⟩, rfl⟩ (tgW hs h2) rfl (lnW hs h2) ?_
  refine wp_pr rfl (by rw [tgS hs h2]; rfl) ?_
  exact wp_re rfl rfl k
theorem CW.ok {s c : Nat} (hC : CW mi mr sz A) (h : s ∈ A c) : okS mr sz s := hC.2.2.2.2.1 c s h
theorem c_take (hC : CW mi mr sz A) (k : ∀ s mi' mr' sz', (∀ a, ¬ a = s → ¬ a = s + 1 → mi' a = mi a) → CW mi' mr' sz' (fu A 3 (A 3).tail) → okS mr' sz' s → mr' s 2 = 0 → (∀ c, s ∉ fu A 3 (A 3).tail c) → (∀ c, ¬ c = 3 → s ∉ A c) → (∀ a, a < 34 → ¬ a = 3 → mr' a = mr a) → sz ≤ sz' → sz' ≤ sz + 2 → Q (some (.ref s)) (mi', mr', sz')) : am_wp 25 0 (am_lo 25 [.ref 3]) [] (mi, mr, sz) Q := by
  obtain ⟨hF, ⟨h34, h2⟩, a3, a4, a5, a6, a7⟩ := id hC
  refine wp_x 4 hF rfl ?_
  show am_wp 25 6 [.ref 3, .ref (mr 3 0)] [.ref (mr 3 0)] (mi, mr, sz) Q
  refine wp_nnl rfl (fun q => ?_) (fun q => ?_)
  · cases hA : A 3 with
    | nil => rw [hA] at a3; exact absurd a3 q
    | cons s r =>
      rw [hA] at a3
      obtain ⟨e1, e2⟩ := a3
      have hs : s ∈ A 3 := by rw [hA]; exact List.mem_cons_self
      obtain ⟨s1, s2, s3, s4⟩ := a5 3 s hs
      rw [e1]
      refine wp_x 2 hF rfl ?_
      refine wp_gr rfl (by rw [tgS s1 s2]; rfl) rfl ?_
      refine wp_pr rfl rfl ?_
      have hnd := a6 3
      rw [hA, List.nodup_cons] at hnd
      have hFu : FX (am_u2 mr 3 0 (mr s 2)) := hF.cg (fun a k h1 h2 _ _ => by rw [sd_u2r _ _ _ _ h2])
      refine wp_x 2 hFu rfl ?_
      refine wp_pr rfl (by rw [tgS s1 s2]; rfl) ?_
      have hlt : ∀ a, a < 34 → ¬ a = 3 → am_u2 (am_u2 mr 3 0 (mr s 2)) s 2 0 a = mr a := fun a h1 h2 => by rw [sd_u2r _ _ _ _ (by omega), sd_u2r _ _ _ _ h2]
      have hx : ∀ x, 34 ≤ x → ¬ x = s → am_u2 (am_u2 mr 3 0 (mr s 2)) s 2 0 x = mr x := fun x h1 h2 => by rw [sd_u2r _ _ _ _ h2, sd_u2r _ _ _ _ (by omega)]
      have hF2 : FX (am_u2 (am_u2 mr 3 0 (mr s 2)) s 2 0) := hF.cg (fun a k h1 h2 _ _ => by rw [hlt a h1 h2])
      refine wp_nx (q := (.aload_n 1, 31, 1, 0, 0, 0)) rfl rfl ?_
      have hout : ∀ c, ¬ c = 3 → s ∉ A c := fun c hc h => hc (a7 c 3 s h hs)
      refine wp_re rfl rfl (k s mi _ sz (fun _ _ _ => rfl) ?_ ⟨s1, s2, s3, ?_⟩ (by rw [sd_u2s]) ?_ hout hlt (Nat.le_refl _) (by omega))
      · have hfu : ∀ c x, x ∈ fu A 3 (A 3).tail c → x ∈ A c ∧ ¬ x = s := by
          intro c x hx
          by_cases hc : c = 3
          · subst hc
            simp only [fu, if_true, hA, List.tail_cons] at hx
            exact ⟨by rw [hA]; exact List.mem_cons_of_mem _ hx, fun z => hnd.1 (by rw [← z]; exact hx)⟩
          · simp only [fu, if_neg hc] at hx
            exact ⟨hx, fun z => hout c hc (by rw [← z]; exact hx)⟩
        refine ⟨hF2, ⟨h34, h2⟩, ?_, fun c hc => ?_, fun c x hxc => ?_, fun c => ?_, fun c d x h1 h2 => a7 c d x (hfu c x h1).1 (hfu d x h2).1⟩
        · have e3 : am_u2 (am_u2 mr 3 0 (mr s 2)) s 2 0 3 0 = mr s 2 := by rw [sd_u2r _ _ _ _ (by omega), sd_u2s]
          rw [e3]
          simp only [fu, if_true, hA, List.tail_cons]
          refine lk_cg r (fun x hx' => ?_) e2
          have hx3 : x ∈ A 3 := by rw [hA]; exact List.mem_cons_of_mem _ hx'
          rw [hx x (a5 3 x hx3).1 (fun z => hnd.1 (by rw [← z]; exact hx'))]
        · obtain ⟨l1, l2, l3, l4⟩ := hc.lt
          obtain ⟨b1, b2, b3⟩ := a4 c hc
          simp only [fu, if_neg l2]
          rw [hlt c l1 l2]
          exact ⟨lk_cg _ (fun x hx' => by rw [hx x (a5 c x hx').1 (fun z => hout c l2 (by rw [← z]; exact hx'))]) b1, b2, b3⟩
        · obtain ⟨g1, g2⟩ := hfu c x hxc
          obtain ⟨o1, o2, o3, o4⟩ := a5 c x g1
          exact ⟨o1, o2, o3, by rw [hx x o1 g2]; exact o4⟩
        · by_cases hc : c = 3
          · subst hc
            simp only [fu, if_true, hA, List.tail_cons]
            exact hnd.2
          · simp only [fu, if_neg hc]
            exact a6 c
      · rw [sd_u2k _ _ _ _ (by decide), sd_u2r _ _ _ _ (by omega)]; exact s4
      · intro c hc
        by_cases hc3 : c = 3
        · subst hc3
          simp only [fu, if_true, hA, List.tail_cons] at hc
          exact hnd.1 hc
        · simp only [fu, if_neg hc3] at hc
          exact hout c hc3 hc
  · have hA : A 3 = [] := by
      cases hA : A 3 with
      | nil => rfl
      | cons s r =>
        rw [hA] at a3
        have := (a5 3 s (by rw [hA]; exact List.mem_cons_self)).1
        have := a3.1
        omega
    have hfu : fu A 3 (A 3).tail = A := by
      funext j
      by_cases hj : j = 3
      · subst hj; simp [fu, hA]
      · simp [fu, hj]
    refine wp_new rfl ⟨⟨_, rfl⟩, rfl⟩ (tgS h34 h2) ?_
    refine wp_nx (q := (.dup, 13, 0, 0, 0, 0)) rfl rfl ?_
    refine wp_cs rfl ⟨⟨_, rfl⟩, rfl, by decide⟩ rfl (by omega) rfl ⟨by simp, (by decide : 1 ≤ pg_ml 10)⟩ ?_
    refine c_sheetInit h34 h2 rfl ?_
    have z1 : ∀ {α : Type} (f : Nat → Nat → α) (z : α) a, ¬ a = sz → ¬ a = sz + 1 → am_z2 (am_z2 f sz z) (sz + 1) z a = f a := by
      intro α f z a h1 h2
      funext y
      simp [am_z2, h1, h2]
    have hlt : ∀ a, ¬ a = sz → ¬ a = sz + 1 → am_u2 (am_z2 (am_z2 mr sz 0) (sz + 1) 0) sz 0 (sz + 1) a = mr a := fun a h1 h2 => by rw [sd_u2r _ _ _ _ h1, z1 _ _ a h1 h2]
    have hnot : ∀ c, sz ∉ A c := fun c hc => by have := (a5 c sz hc).2.2.1; omega
    refine wp_re rfl rfl (k sz _ _ (sz + 1 + 1) (fun a h1 h2 => z1 mi 0 a h1 h2) ?_ ⟨h34, h2, by omega, by rw [sd_u2s]⟩ ?_ (by rw [hfu]; exact hnot) (fun c _ => hnot c) (fun a h1 _ => hlt a (by omega) (by omega)) (by omega) (by omega))
    · rw [hfu]
      refine hC.cg (hF.cg (fun a k h1 _ _ _ => by rw [hlt a (by omega) (by omega)])) (by omega) (by omega) (by rw [hlt 3 (by omega) (by omega)]) (fun c hc => ?_) (fun s hs => ?_)
      · have := hc.lt.1
        rw [hlt c (by omega) (by omega), z1 mi 0 c (by omega) (by omega)]
        exact ⟨rfl, rfl, rfl⟩
      · obtain ⟨o1, o2, o3, o4⟩ := hs
        rw [hlt s (by omega) (by omega)]
        exact ⟨rfl, rfl⟩
    · rw [sd_u2k _ _ _ _ (by decide)]
      simp [am_z2]
end CW1
end
section
/-! THE COMPONENT: a chain's methods -/
section CW2
variable {mi : Nat → Nat → Int32} {mr : Nat → Nat → Nat} {sz : Nat} {Q : Option Value → am_H → Prop} {A : Nat → List Nat} {c : Nat}
theorem fu_s {α : Type} (f : Nat → α) (k : Nat) (v : α) : fu f k v k = v := by simp [fu]
theorem fu_o {α : Type} (f : Nat → α) {k j : Nat} (v : α) (h : ¬ j = k) : fu f k v j = f j := by simp [fu, h]
theorem CW.add {mi3 : Nat → Nat → Int32} {mr3 : Nat → Nat → Nat} {s : Nat} (hC : CW mi mr sz A) (hs : okS mr sz s) (h0 : mr s 2 = 0) (hn : ∀ c, s ∉ A c) (hc : isC c) (hmr : ∀ a k, ¬ (a = c ∧ (k = 1 ∨ k = 2)) → ¬ (a = lastN (A c) ∧ ¬ A c = [] ∧ k = 2) → mr3 a k = mr a k) (h2 : mr3 c 2 = s) (h1 : mr3 c 1 = if A c = [] then s else mr c 1) (hl : ¬ A c = [] → mr3 (lastN (A c)) 2 = s) (hmi : ∀ d, isC d → ¬ d = c → mi3 d 3 = mi d 3) (hm : mi3 c 3 = mi c 3 + 1) : CW mi3 mr3 sz (fu A c (A c ++ [s])) := by
  obtain ⟨hF, hz, a3, a4, a5, a6, a7⟩ := hC
  obtain ⟨l1, l2, l3, l4⟩ := hc.lt
  have hbig : ¬ A c = [] → 34 ≤ lastN (A c) := fun h => (a5 c _ (lastN_mem _ h)).1
  have low : ∀ a k, a < 34 → ¬ (a = c ∧ (k = 1 ∨ k = 2)) → mr3 a k = mr a k := fun a k h1 h2 => hmr a k h2 (fun z => by have := hbig z.2.1; omega)
  have oth : ∀ d x, x ∈ A d → ¬ d = c → mr3 x 2 = mr x 2 := by
    intro d x hx hd
    refine hmr x 2 (fun z => by have := (a5 d x hx).1; omega) (fun z => hd ?_)
    exact a7 d c x hx (by rw [z.1]; exact lastN_mem _ z.2.1)
  have mem : ∀ d x, x ∈ fu A c (A c ++ [s]) d → x ∈ A d ∨ (d = c ∧ x = s) := by
    intro d x hx
    by_cases hd : d = c
    · subst hd
      rw [fu_s, List.mem_append] at hx
      rcases hx with q | q
      · exact Or.inl q
      · exact Or.inr ⟨rfl, by simpa using q⟩
    · rw [fu_o _ _ hd] at hx
      exact Or.inl hx
  refine ⟨hF.cg (fun a k g1 g2 g3 g4 => low a k g1 (fun z => g3 ⟨by rw [z.1]; exact hc, z.2⟩)), hz, ?_, fun d hd => ?_, fun d x hx => ?_, fun d => ?_, fun d e x g1 g2 => ?_⟩
  · rw [fu_o _ _ (fun z => l2 z.symm), low 3 0 (by omega) (fun z => l2 z.1.symm)]
    exact lk_cg _ (fun x hx => oth 3 x hx (fun z => l2 z.symm)) a3
  · by_cases hdc : d = c
    · subst hdc
      obtain ⟨b1, b2, b3⟩ := a4 d hd
      rw [fu_s]
      refine ⟨?_, by rw [h2, lastN_snoc], by rw [hm, b3, nI_1, List.length_append]; rfl⟩
      by_cases hA : A d = []
      · rw [h1, if_pos hA, hA]
        refine ⟨rfl, ?_⟩
        show mr3 s 2 = 0
        rw [hmr s 2 (fun z => by have := hs.1; omega) (fun z => z.2.1 hA)]
        exact h0
      · rw [h1, if_neg hA]
        refine lk_add _ b1 hA (a6 d) (fun x hx hxl => ?_) (hl hA) ?_
        · exact hmr x 2 (fun z => by have := (a5 d x hx).1; omega) (fun z => hxl z.1)
        · rw [hmr s 2 (fun z => by have := hs.1; omega) (fun z => hn d (by rw [z.1]; exact lastN_mem _ hA))]
          exact h0
    · obtain ⟨b1, b2, b3⟩ := a4 d hd
      obtain ⟨m1, m2, m3, m4⟩ := hd.lt
      rw [fu_o _ _ hdc, low d 1 m1 (fun z => hdc z.1), low d 2 m1 (fun z => hdc z.1), hmi d hd hdc]
      exact ⟨lk_cg _ (fun x hx => oth d x hx hdc) b1, b2, b3⟩
  · have h3 : okS mr sz x := by
      rcases mem d x hx with q | ⟨-, q⟩
      · exact a5 d x q
      · rw [q]; exact hs
    obtain ⟨o1, o2, o3, o4⟩ := h3
    exact ⟨o1, o2, o3, by rw [hmr x 0 (fun z => by omega) (fun z => by omega)]; exact o4⟩
  · by_cases hd : d = c
    · subst hd
      rw [fu_s]
      refine List.nodup_append.mpr ⟨a6 d, by simp, fun x hx y hy => ?_⟩
      have : y = s := by simpa using hy
      rw [this]
      intro z
      exact hn d (by rw [← z]; exact hx)
    · rw [fu_o _ _ hd]; exact a6 d
  · rcases mem d x g1 with q1 | ⟨q1, q1'⟩
    · rcases mem e x g2 with q2 | ⟨q2, q2'⟩
      · exact a7 d e x q1 q2
      · exact absurd (by rw [← q2']; exact q1) (hn d)
    · rcases mem e x g2 with q2 | ⟨q2, q2'⟩
      · exact absurd (by rw [← q1']; exact q2) (hn e)
      · rw [q1, q2]
theorem CW.drop {mi3 : Nat → Nat → Int32} {mr3 : Nat → Nat → Nat} {s : Nat} {r : List Nat} (hC : CW mi mr sz A) (hA : A c = s :: r) (hc : isC c) (hmr : ∀ a k, ¬ (a = c ∧ (k = 1 ∨ k = 2)) → ¬ (a = s ∧ k = 2) → ¬ (a = 3 ∧ k = 0) → mr3 a k = mr a k) (h1 : mr3 c 1 = mr s 2) (h2 : mr3 c 2 = if r = [] then 0 else mr c 2) (h3 : mr3 s 2 = mr 3 0) (h4 : mr3 3 0 = s) (hmi : ∀ d, isC d → ¬ d = c → mi3 d 3 = mi d 3) (hm : mi3 c 3 = mi c 3 - 1) : CW mi3 mr3 sz (fu (fu A c r) 3 (s :: A 3)) := by
  obtain ⟨hF, hz, a3, a4, a5, a6, a7⟩ := hC
  obtain ⟨l1, l2, l3, l4⟩ := hc.lt
  have hsA : s ∈ A c := by rw [hA]; exact List.mem_cons_self
  have hs := a5 c s hsA
  have hnd := a6 c
  rw [hA, List.nodup_cons] at hnd
  have low : ∀ a k, a < 34 → ¬ a = 3 → ¬ (a = c ∧ (k = 1 ∨ k = 2)) → mr3 a k = mr a k := fun a k g1 g2 g3 => hmr a k g3 (fun z => by have := hs.1; omega) (fun z => g2 z.1)
  have oth : ∀ x k, 34 ≤ x → ¬ x = s → mr3 x k = mr x k := fun x k g1 g2 => hmr x k (fun z => by omega) (fun z => g2 z.1) (fun z => by omega)
  have mem : ∀ d x, x ∈ fu (fu A c r) 3 (s :: A 3) d → (x ∈ A d ∧ ¬ x = s) ∨ (d = 3 ∧ x = s) := by
    intro d x hx
    by_cases hd : d = 3
    · subst hd
      rw [fu_s, List.mem_cons] at hx
      rcases hx with q | q
      · exact Or.inr ⟨rfl, q⟩
      · refine Or.inl ⟨q, fun z => l2 ?_⟩
        exact a7 c 3 s hsA (by rw [← z]; exact q)
    · rw [fu_o _ _ hd] at hx
      by_cases hdc : d = c
      · subst hdc
        rw [fu_s] at hx
        exact Or.inl ⟨by rw [hA]; exact List.mem_cons_of_mem _ hx, fun z => hnd.1 (by rw [← z]; exact hx)⟩
      · rw [fu_o _ _ hdc] at hx
        exact Or.inl ⟨hx, fun z => hdc (a7 d c s (by rw [← z]; exact hx) hsA)⟩
  refine ⟨hF.cg (fun a k g1 g2 g3 g4 => low a k g1 g2 (fun z => g3 ⟨by rw [z.1]; exact hc, z.2⟩)), hz, ?_, fun d hd => ?_, fun d x hx => ?_, fun d => ?_, fun d e x g1 g2 => ?_⟩
  · rw [fu_s, h4]
    refine ⟨rfl, ?_⟩
    rw [h3]
    refine lk_cg _ (fun x hx => oth x 2 (a5 3 x hx).1 (fun z => l2 ?_)) a3
    exact a7 c 3 s hsA (by rw [← z]; exact hx)
  · obtain ⟨m1, m2, m3, m4⟩ := hd.lt
    rw [fu_o _ _ m2]
    obtain ⟨b1, b2, b3⟩ := a4 d hd
    by_cases hdc : d = c
    · subst hdc
      rw [fu_s, h1, h2, hm]
      rw [hA] at b1 b2 b3
      refine ⟨lk_cg _ (fun x hx => oth x 2 (a5 d x (by rw [hA]; exact List.mem_cons_of_mem _ hx)).1 (fun z => hnd.1 (by rw [← z]; exact hx))) b1.2, ?_, ?_⟩
      · cases r with
        | nil => rfl
        | cons y t => rw [if_neg (by simp), b2]; rfl
      · rw [b3, List.length_cons, nI_pred]
    · rw [fu_o _ _ hdc, low d 1 m1 m2 (fun z => hdc z.1), low d 2 m1 m2 (fun z => hdc z.1), hmi d hd hdc]
      exact ⟨lk_cg _ (fun x hx => oth x 2 (a5 d x hx).1 (fun z => hdc (a7 d c s (by rw [← z]; exact hx) hsA))) b1, b2, b3⟩
  · have h3 : okS mr sz x := by
      rcases mem d x hx with ⟨q, -⟩ | ⟨-, q⟩
      · exact a5 d x q
      · rw [q]; exact hs
    obtain ⟨o1, o2, o3, o4⟩ := h3
    exact ⟨o1, o2, o3, by rw [hmr x 0 (fun z => by omega) (fun z => by omega) (fun z => by omega)]; exact o4⟩
  · by_cases hd : d = 3
    · subst hd
      rw [fu_s, List.nodup_cons]
      exact ⟨fun z => l2 (a7 c 3 s hsA z), a6 3⟩
    · rw [fu_o _ _ hd]
      by_cases hdc : d = c
      · subst hdc; rw [fu_s]; exact hnd.2
      · rw [fu_o _ _ hdc]; exact a6 d
  · rcases mem d x g1 with ⟨q1, q1'⟩ | ⟨q1, q1'⟩
    · rcases mem e x g2 with ⟨q2, -⟩ | ⟨q2, q2'⟩
      · exact a7 d e x q1 q2
      · exact absurd q2' q1'
    · rcases mem e x g2 with ⟨q2, q2'⟩ | ⟨q2, q2'⟩
      · exact absurd q1' q2'
      · rw [q1, q2]
/-- the sheets of a row as the memory changes beside them -/
theorem ent_map {mi' : Nat → Nat → Int32} {l : List Nat} (h : ∀ x ∈ l, mi' x 1 = mi x 1 ∧ mi' (x + 1) = mi (x + 1)) : l.map (ent mi') = l.map (ent mi) := by
  refine List.map_congr_left (fun x hx => ?_)
  obtain ⟨h1, h2⟩ := h x hx
  simp only [ent, h1, h2]
theorem c_add (hC : CW mi mr sz A) (hc : isC c) {sec : Int32} (k : ∀ s mi' mr' sz' A', CW mi' mr' sz' A' → A' c = A c ++ [s] → (∀ d, ¬ d = c → ¬ d = 3 → A' d = A d) → (∀ a j, ¬ a = s → ¬ a = s + 1 → ¬ (a = c ∧ j = 3) → mi' a j = mi a j) → mi' s 1 = sec → (∀ d, ¬ d = 3 → (A d).map (ent mi') = (A d).map (ent mi)) → okS mr' sz' s → mr' 2 = mr 2 → mr' 1 = mr 1 → sz ≤ sz' → sz' ≤ sz + 2 → Q (some (.ref s)) (mi', mr', sz')) : am_wp 24 0 (am_lo 24 [.ref c, .int sec]) [] (mi, mr, sz) Q := by
  obtain ⟨l1, l2, l3, l4⟩ := hc.lt
  refine wp_x 1 hC.1 rfl ?_
  refine wp_gr rfl (by rw [tgC hc]; rfl) (hC.1.st hc) ?_
  refine wp_ca rfl rfl ?_
  refine c_take hC (fun s mi1 mr1 sz1 f1 W1 hs h0 hn hn0 f2 z1 z2 => ?_)
  have hF1 := W1.1
  have hA1 : fu A 3 (A 3).tail c = A c := fu_o _ _ l2
  obtain ⟨s1, s2, s3, s4⟩ := id hs
  refine wp_x 3 hF1 rfl ?_
  refine wp_pi rfl (by rw [tgS s1 s2]; rfl) ?_
  refine wp_x 1 hF1 rfl ?_
  have hlast : mr1 c 2 = lastN (A c) := by rw [(W1.2.2.2.1 c hc).2.1, hA1]
  refine wp_gr rfl (by rw [tgC hc]; rfl) hlast ?_
  have tail : ∀ mr2, FX mr2 → (∀ a k, ¬ (a = c ∧ k = 1) → ¬ (a = lastN (A c) ∧ ¬ A c = [] ∧ k = 2) → mr2 a k = mr1 a k) → (mr2 c 1 = if A c = [] then s else mr1 c 1) → (¬ A c = [] → mr2 (lastN (A c)) 2 = s) → am_wp 24 36 [.ref c, .int sec, .ref s] [] (am_u2 mi1 s 1 sec, mr2, sz1) Q := by
    intro mr2 hF2 g1 g2 g3
    refine wp_x 2 hF2 rfl ?_
    refine wp_pr rfl (by rw [tgC hc]; rfl) ?_
    have hF3 : FX (am_u2 mr2 c 2 s) := hF2.cg (fun a k h1 h2 h3 h4 => by
      by_cases ha : a = c
      · subst ha
        rw [sd_u2k _ _ _ _ (fun z => h3 ⟨hc, Or.inr z⟩)]
      · rw [sd_u2r _ _ _ _ ha])
    refine wp_x 2 hF3 rfl ?_
    refine wp_gi rfl (by decide) (by rw [tgC hc]; rfl) ?_
    refine wp_x 2 hF3 rfl ?_
    refine wp_pi rfl (by rw [tgC hc]; rfl) ?_
    refine wp_x 1 hF3 rfl ?_
    obtain ⟨m3, hm3⟩ : ∃ z, z = am_u2 (am_u2 mi1 s 1 sec) c 3 (am_u2 mi1 s 1 sec c 3 + 1) := ⟨_, rfl⟩
    have hbig : ¬ A c = [] → 34 ≤ lastN (A c) := fun h => (hC.ok (lastN_mem _ h)).1
    have W3 : CW m3 (am_u2 mr2 c 2 s) sz1 (fu (fu A 3 (A 3).tail) c (A c ++ [s])) := by
      have := W1.add (mi3 := m3) (mr3 := am_u2 mr2 c 2 s) hs h0 hn hc (fun a kk y1 y2 => ?_) (by rw [sd_u2s]) ?_ ?_ (fun d hd hdc => ?_) ?_
      · rw [hA1] at this; exact this
      · rw [hA1] at y2
        by_cases ha : a = c
        · subst ha
          rw [sd_u2k _ _ _ _ (fun z => y1 ⟨rfl, Or.inr z⟩)]
          exact g1 a kk (fun z => y1 ⟨rfl, Or.inl z.2⟩) y2
        · rw [sd_u2r _ _ _ _ ha]
          exact g1 a kk (fun z => ha z.1) y2
      · rw [hA1, sd_u2k _ _ _ _ (by decide)]; exact g2
      · rw [hA1]
        intro hne
        rw [sd_u2r _ _ _ _ (by have := hbig hne; omega)]
        exact g3 hne
      · have := hd.lt.1
        rw [hm3, sd_u2r _ _ _ _ hdc, sd_u2r _ _ _ _ (by omega)]
      · rw [hm3, sd_u2s, sd_u2r _ _ _ _ (by omega)]
    show am_wp 24 52 _ _ (am_u2 (am_u2 mi1 s 1 sec) c 3 (am_u2 mi1 s 1 sec c 3 + 1), am_u2 mr2 c 2 s, sz1) Q
    rw [← hm3]
    have hoff : ∀ a j, ¬ a = s → ¬ a = s + 1 → ¬ (a = c ∧ j = 3) → m3 a j = mi a j := by
      intro a j y1 y2 y3
      rw [hm3]
      have e1 : am_u2 (am_u2 mi1 s 1 sec) c 3 (am_u2 mi1 s 1 sec c 3 + 1) a j = am_u2 mi1 s 1 sec a j := if_neg y3
      rw [e1, sd_u2r _ _ _ _ y1, f1 a y1 y2]
    refine wp_re rfl rfl (k s m3 _ sz1 _ W3 (fu_s _ _ _) (fun d h1 h2 => by rw [fu_o _ _ h1, fu_o _ _ h2]) hoff ?_ ?_ ⟨s1, s2, s3, ?_⟩ ?_ ?_ z1 z2)
    · rw [hm3, sd_u2r _ _ _ _ (by omega), sd_u2s]
    · intro d hd
      refine ent_map (fun x hx => ?_)
      have hxs : ¬ x = s := fun z => hn0 d hd (by rw [← z]; exact hx)
      obtain ⟨o1, o2, o3, o4⟩ := hC.ok hx
      refine ⟨hoff x 1 hxs (by omega) (by omega), ?_⟩
      funext j
      exact hoff (x + 1) j (by omega) (by omega) (by omega)
    · rw [sd_u2r _ _ _ _ (by omega), g1 s 0 (by omega) (by omega)]; exact s4
    · funext j
      rw [sd_u2r _ _ _ _ (by omega), g1 2 j (by omega) (fun z => by have := hbig z.2.1; omega), f2 2 (by omega) (by omega)]
    · funext j
      rw [sd_u2r _ _ _ _ (by omega), g1 1 j (by omega) (fun z => by have := hbig z.2.1; omega), f2 1 (by omega) (by omega)]
  refine wp_nnl rfl (fun q => ?_) (fun q => ?_)
  · have hne : ¬ A c = [] := fun z => q (by rw [z]; rfl)
    obtain ⟨t1, t2, t3, t4⟩ := hC.ok (lastN_mem _ hne)
    refine wp_x 1 hF1 rfl ?_
    refine wp_gr rfl (by rw [tgC hc]; rfl) hlast ?_
    refine wp_x 1 hF1 rfl ?_
    refine wp_pr rfl (by rw [tgS t1 t2]; rfl) ?_
    refine tail _ (hF1.cg (fun a k h1 h2 h3 h4 => by rw [sd_u2r _ _ _ _ (by omega)])) (fun a k y1 y2 => ?_) ?_ (fun _ => by rw [sd_u2s])
    · by_cases ha : a = lastN (A c)
      · subst ha
        rw [sd_u2k _ _ _ _ (fun z => y2 ⟨rfl, hne, z⟩)]
      · rw [sd_u2r _ _ _ _ ha]
    · rw [if_neg hne, sd_u2r _ _ _ _ (by omega)]
  · have he : A c = [] := by
      rcases Classical.em (A c = []) with z | z
      · exact z
      · have := (hC.ok (lastN_mem _ z)).1; omega
    refine wp_x 2 hF1 rfl ?_
    refine wp_pr rfl (by rw [tgC hc]; rfl) ?_
    have hF2 : FX (am_u2 mr1 c 1 s) := hF1.cg (fun a k h1 h2 h3 h4 => by
      by_cases ha : a = c
      · subst ha
        rw [sd_u2k _ _ _ _ (fun z => h3 ⟨hc, Or.inl z⟩)]
      · rw [sd_u2r _ _ _ _ ha])
    refine wp_x 1 hF2 rfl ?_
    refine tail _ hF2 (fun a k y1 y2 => ?_) (by rw [if_pos he, sd_u2s]) (fun z => absurd he z)
    by_cases ha : a = c
    · subst ha
      rw [sd_u2k _ _ _ _ (fun z => y1 ⟨rfl, z⟩)]
    · rw [sd_u2r _ _ _ _ ha]
theorem c_give {s : Nat} (hF : FX mr) (h1 : 34 ≤ s) (h2 : s % 2 = 0) (k : Q none (mi, am_u2 (am_u2 mr s 2 (mr 3 0)) 3 0 s, sz)) : am_wp 49 0 (am_lo 49 [.ref 3, .ref s]) [] (mi, mr, sz) Q := by
  refine wp_x 3 hF rfl ?_
  refine wp_pr rfl (by rw [tgS h1 h2]; rfl) ?_
  have hF2 : FX (am_u2 mr s 2 (mr 3 0)) := hF.cg (fun a k h1 h2 h3 h4 => by rw [sd_u2r _ _ _ _ (by omega)])
  refine wp_x 2 hF2 rfl ?_
  refine wp_pr rfl rfl ?_
  exact wp_re rfl rfl k
theorem c_drop {s : Nat} {r : List Nat} (hC : CW mi mr sz A) (hc : isC c) (hA : A c = s :: r) (k : ∀ mr', CW (am_u2 mi c 3 (mi c 3 - 1)) mr' sz (fu (fu A c r) 3 (s :: A 3)) → mr' 2 = mr 2 → mr' 1 = mr 1 → Q (some (.ref s)) (am_u2 mi c 3 (mi c 3 - 1), mr', sz)) : am_wp 48 0 (am_lo 48 [.ref c]) [] (mi, mr, sz) Q := by
  obtain ⟨l1, l2, l3, l4⟩ := hc.lt
  have hF := hC.1
  obtain ⟨b1, b2, b3⟩ := hC.2.2.2.1 c hc
  have hs : s ∈ A c := by rw [hA]; exact List.mem_cons_self
  obtain ⟨s1, s2, s3, s4⟩ := hC.ok hs
  rw [hA] at b1
  have hF1 : FX (am_u2 mr c 1 (mr s 2)) := hF.cg (fun a k h1 h2 h3 h4 => by
    by_cases ha : a = c
    · subst ha
      rw [sd_u2k _ _ _ _ (fun z => h3 ⟨hc, Or.inl z⟩)]
    · rw [sd_u2r _ _ _ _ ha])
  have hr0 : mr s 2 = 0 ↔ r = [] := by
    have b1' := b1.2
    cases r with
    | nil => exact ⟨fun _ => rfl, fun _ => b1'⟩
    | cons y t =>
      refine ⟨fun z => ?_, fun z => by cases z⟩
      have := (hC.ok (c := c) (s := y) (by rw [hA]; exact List.mem_cons_of_mem _ List.mem_cons_self)).1
      have := b1'.1
      omega
  refine wp_x 1 hF rfl ?_
  refine wp_gr rfl (by rw [tgC hc]; rfl) b1.1 ?_
  refine wp_x 3 hF rfl ?_
  refine wp_gr rfl (by rw [tgS s1 s2]; rfl) rfl ?_
  refine wp_pr rfl (by rw [tgC hc]; rfl) ?_
  refine wp_x 2 hF1 rfl ?_
  refine wp_gr rfl (by rw [tgC hc]; rfl) (sd_u2s _ _ _ _) ?_
  have tail : ∀ v, (v = if r = [] then 0 else mr c 2) → am_wp 48 29 [.ref c, .ref s] [.ref v, .ref c] (mi, am_u2 mr c 1 (mr s 2), sz) Q := by
    intro v hv
    refine wp_pr rfl (by rw [tgC hc]; rfl) ?_
    have hF2 : FX (am_u2 (am_u2 mr c 1 (mr s 2)) c 2 v) := hF1.cg (fun a k h1 h2 h3 h4 => by
      by_cases ha : a = c
      · subst ha
        rw [sd_u2k _ _ _ _ (fun z => h3 ⟨hc, Or.inr z⟩)]
      · rw [sd_u2r _ _ _ _ ha])
    refine wp_x 2 hF2 rfl ?_
    refine wp_gi rfl (by decide) (by rw [tgC hc]; rfl) ?_
    refine wp_x 2 hF2 rfl ?_
    refine wp_pi rfl (by rw [tgC hc]; rfl) ?_
    refine wp_x 1 hF2 rfl ?_
    refine wp_gr rfl (by rw [tgC hc]; rfl) (hF2.st hc) ?_
    refine wp_x 1 hF2 rfl ?_
    refine wp_ca rfl rfl ?_
    refine c_give hF2 s1 s2 ?_
    have e3 : am_u2 (am_u2 mr c 1 (mr s 2)) c 2 v 3 0 = mr 3 0 := by rw [sd_u2r _ _ _ _ (fun z => l2 z.symm), sd_u2r _ _ _ _ (fun z => l2 z.symm)]
    rw [e3]
    obtain ⟨m4, hm4⟩ : ∃ z, z = am_u2 (am_u2 (am_u2 (am_u2 mr c 1 (mr s 2)) c 2 v) s 2 (mr 3 0)) 3 0 s := ⟨_, rfl⟩
    have W : CW (am_u2 mi c 3 (mi c 3 - 1)) m4 sz (fu (fu A c r) 3 (s :: A 3)) := by
      refine hC.drop hA hc (fun a k y1 y2 y3 => ?_) ?_ ?_ ?_ ?_ (fun d hd hdc => by rw [sd_u2r _ _ _ _ hdc]) (by rw [sd_u2s])
      · rw [hm4]; simp only [am_u2]
        rw [if_neg y3, if_neg y2, if_neg (fun z => y1 ⟨z.1, Or.inr z.2⟩), if_neg (fun z => y1 ⟨z.1, Or.inl z.2⟩)]
      · rw [hm4, sd_u2r _ _ _ _ l2, sd_u2r _ _ _ _ (by omega), sd_u2k _ _ _ _ (by decide), sd_u2s]
      · rw [hm4, sd_u2r _ _ _ _ l2, sd_u2r _ _ _ _ (by omega), sd_u2s]; exact hv
      · rw [hm4, sd_u2r _ _ _ _ (by omega), sd_u2s]
      · rw [hm4, sd_u2s]
    rw [← hm4]
    have lo : ∀ a, ¬ a = 3 → ¬ a = c → ¬ a = s → m4 a = mr a := fun a y1 y2 y3 => by rw [hm4, sd_u2r _ _ _ _ y1, sd_u2r _ _ _ _ y3, sd_u2r _ _ _ _ y2, sd_u2r _ _ _ _ y2]
    refine wp_x 1 W.1 rfl ?_
    exact wp_re rfl rfl (k m4 W (lo 2 (by omega) (by omega) (by omega)) (lo 1 (by omega) (by omega) (by omega)))
  refine wp_nnl rfl (fun q => ?_) (fun q => ?_)
  · refine wp_x 1 hF1 rfl ?_
    refine wp_gr rfl (by rw [tgC hc]; rfl) (sd_u2k _ _ _ _ (by decide)) ?_
    exact tail _ (by rw [if_neg (fun z => q (hr0.mpr z))])
  · refine wp_x 2 hF1 rfl ?_
    exact tail 0 (by rw [if_pos (hr0.mp q)])
theorem c_clear (hC : CW mi mr sz A) (hc : isC c) (hl : (A c).length < 1000) (k : ∀ mi' mr' A', CW mi' mr' sz A' → A' c = [] → (∀ d, ¬ d = c → ¬ d = 3 → A' d = A d) → (∀ a j, ¬ (a = c ∧ j = 3) → mi' a j = mi a j) → mr' 2 = mr 2 → mr' 1 = mr 1 → Q none (mi', mr', sz)) : am_wp 58 0 (am_lo 58 [.ref c]) [] (mi, mr, sz) Q := by
  obtain ⟨l1, l2, l3, l4⟩ := hc.lt
  have loop : ∀ (l : List Nat) (mi1 : Nat → Nat → Int32) (mr1 : Nat → Nat → Nat) (A1 : Nat → List Nat), A1 c = l → l.length < 1000 → CW mi1 mr1 sz A1 → (∀ d, ¬ d = c → ¬ d = 3 → A1 d = A d) → (∀ a j, ¬ (a = c ∧ j = 3) → mi1 a j = mi a j) → mr1 2 = mr 2 → mr1 1 = mr 1 → am_wp 58 0 [.ref c] [] (mi1, mr1, sz) Q := by
    intro l
    induction l with
    | nil =>
      intro mi1 mr1 A1 hA hl W h1 h2 h3 h4
      refine wp_x 1 W.1 rfl ?_
      refine wp_gi rfl (by decide) (by rw [tgC hc]; rfl) ?_
      rw [(W.2.2.2.1 c hc).2.2, hA]
      refine wp_le1 rfl (fun _ => ?_) (fun q => absurd (by decide) q)
      exact wp_re rfl rfl (k mi1 mr1 A1 W hA h1 h2 h3 h4)
    | cons s r ih =>
      intro mi1 mr1 A1 hA hl W h1 h2 h3 h4
      refine wp_x 1 W.1 rfl ?_
      refine wp_gi rfl (by decide) (by rw [tgC hc]; rfl) ?_
      rw [(W.2.2.2.1 c hc).2.2, hA]
      refine wp_le1 rfl (fun q => absurd q (nI_nle (by simp) (by omega))) (fun _ => ?_)
      refine wp_x 1 W.1 rfl ?_
      refine wp_cv rfl rfl (tgC hc) rfl rfl ⟨by simp, (by decide : 1 ≤ pg_ml 48)⟩ ?_
      refine c_drop W hc hA (fun mr2 W2 g2 g1 => ?_)
      refine wp_x 2 W2.1 rfl ?_
      simp only [List.length_cons] at hl
      refine ih _ mr2 _ (by rw [fu_o _ _ l2, fu_s]) (by omega) W2 (fun d y1 y2 => by rw [fu_o _ _ y2, fu_o _ _ y1]; exact h1 d y1 y2) (fun a j y => ?_) (g2.trans h3) (g1.trans h4)
      have : am_u2 mi1 c 3 (mi1 c 3 - 1) a j = mi1 a j := if_neg y
      rw [this]; exact h2 a j y
  exact loop _ mi mr A rfl hl hC (fun _ _ _ => rfl) (fun _ _ _ => rfl) rfl rfl
end CW2
end
section
/-! THE COMPONENT: small methods -/
def wds (mi : Nat → Nat → Int32) (q a : Nat) : W4 := (mi q a, mi q (a + 1), mi q (a + 2), mi q (a + 3))
def shS (mr : Nat → Nat → Nat) (t : Nat) : Prop := tg_ t = 9 ∧ tg_ (t + 1) = 30 ∧ ln_ (t + 1) = 4 ∧ mr t 0 = t + 1 ∧ 2 ≤ t
theorem okS.sh {mr : Nat → Nat → Nat} {sz s : Nat} (h : okS mr sz s) : shS mr s := ⟨tgS h.1 h.2.1, tgW h.1 h.2.1, lnW h.1 h.2.1, h.2.2.2, by have := h.1; omega⟩
theorem FX.sh18 {mr : Nat → Nat → Nat} (h : FX mr) : shS mr 18 := ⟨rfl, rfl, rfl, h 18 0 19 rfl, by decide⟩
theorem FX.sh21 {mr : Nat → Nat → Nat} (h : FX mr) : shS mr 21 := ⟨rfl, rfl, rfl, h 21 0 22 rfl, by decide⟩
theorem wds_w {mi : Nat → Nat → Int32} {q a j : Nat} (hj : j < 4) : wd4 (wds mi q a) j = mi q (a + j) := by
  match j, hj with
  | 0, _ => rfl
  | 1, _ => rfl
  | 2, _ => rfl
  | 3, _ => rfl
theorem wds_ext {mi mi' : Nat → Nat → Int32} {q a q' a' : Nat} (h : ∀ j, j < 4 → mi q (a + j) = mi' q' (a' + j)) : wds mi q a = wds mi' q' a' := by
  have h0 := h 0 (by omega)
  have h1 := h 1 (by omega)
  have h2 := h 2 (by omega)
  have h3 := h 3 (by omega)
  simp only [Nat.add_zero] at h0
  simp only [wds, h0, h1, h2, h3]
section CL1
variable {M pc n a b w k r : Nat} {cc : Int32} {L S : List Value} {mi : Nat → Nat → Int32} {mr : Nat → Nat → Nat} {sz : Nat} {Q : Option Value → am_H → Prop} {A : Nat → List Nat} {h : am_H} {t : Nat}
theorem wp_aln {q0 : am_I} (hi : pg_in M pc = some q0) (hq : q0.1 = .arraylength) (ht : tg_ r = 30) (hr : ¬ r = 1) (q : am_wp M q0.2.1 L (.int (nI (ln_ r)) :: S) h Q) : am_wp M pc L (.ref r :: S) h Q := by
  obtain ⟨i, n, a, b, c, w⟩ := q0
  have hq0' : i = .arraylength := hq
  subst hq0'
  refine wp_nx hi ?_ q
  dsimp only [am_ex]
  unfold am_aln
  dsimp only
  rw [if_pos ht, am_len_r hr]
  rfl
theorem c_fill (hF : FX mr) (hs : shS mr t) {x y z u : Int32} (k : ∀ mi' : Nat → Nat → Int32, (∀ a, ¬ a = t + 1 → mi' a = mi a) → wds mi' (t + 1) 0 = (x, y, z, u) → Q none (mi', mr, sz)) : am_wp 32 0 (am_lo 32 [.ref t, .int x, .int y, .int z, .int u]) [] (mi, mr, sz) Q := by
  obtain ⟨h1, h2, h3, h4, h5⟩ := hs
  refine wp_x 1 hF rfl ?_
  refine wp_gr rfl (by rw [h1]; rfl) h4 ?_
  refine wp_x 2 hF rfl ?_
  refine wp_as 0 rfl rfl rfl (by omega) h2 (by omega) ?_
  refine wp_x 1 hF rfl ?_
  refine wp_gr rfl (by rw [h1]; rfl) h4 ?_
  refine wp_x 2 hF rfl ?_
  refine wp_as 1 rfl rfl rfl (by omega) h2 (by omega) ?_
  refine wp_x 1 hF rfl ?_
  refine wp_gr rfl (by rw [h1]; rfl) h4 ?_
  refine wp_x 2 hF rfl ?_
  refine wp_as 2 rfl rfl rfl (by omega) h2 (by omega) ?_
  refine wp_x 1 hF rfl ?_
  refine wp_gr rfl (by rw [h1]; rfl) h4 ?_
  refine wp_x 2 hF rfl ?_
  refine wp_as 3 rfl rfl rfl (by omega) h2 (by omega) ?_
  refine wp_re rfl rfl (k _ (fun a ha => ?_) ?_)
  · rw [sd_u2r _ _ _ _ ha, sd_u2r _ _ _ _ ha, sd_u2r _ _ _ _ ha, sd_u2r _ _ _ _ ha]
  · simp [wds, am_u2]
theorem c_copy (hF : FX mr) (hs : shS mr t) {q p : Nat} (hq : tg_ q = 30 ∧ ¬ q = 1 ∧ p + 4 ≤ ln_ q) (k : ∀ mi' : Nat → Nat → Int32, (∀ a, ¬ a = t + 1 → mi' a = mi a) → wds mi' (t + 1) 0 = wds mi q p → Q none (mi', mr, sz)) : am_wp 17 0 (am_lo 17 [.ref t, .ref q, .int (nI p)]) [] (mi, mr, sz) Q := by
  obtain ⟨h1, h2, h3, h4, h5⟩ := hs
  refine wp_x 3 hF rfl ?_
  refine wp_gr rfl (by rw [h1]; rfl) h4 ?_
  refine wp_x 2 hF rfl ?_
  refine wp_cp p 0 4 rfl ⟨rfl, _, rfl⟩ rfl rfl rfl ⟨hq.1, h2, hq.2.1, by omega⟩ hq.2.2 (by omega) (by simp) ?_
  refine wp_re rfl rfl (k _ (fun a ha => ?_) ?_)
  · funext y
    simp [am_cp, ha]
  · refine wds_ext (fun j hj => ?_)
    simp only [am_cp, if_true]
    rw [pk_cpy_in (by omega) (by omega)]
    congr 1
    omega
theorem c_is (hF : FX mr) (hs : shS mr t) {kind num : Int32} (y : mi (t + 1) 0 = MG ∧ mi (t + 1) 1 = kind ∧ mi (t + 1) 2 = num → Q (some (.int 1)) (mi, mr, sz)) (f : ¬ (mi (t + 1) 0 = MG ∧ mi (t + 1) 1 = kind ∧ mi (t + 1) 2 = num) → Q (some (.int 0)) (mi, mr, sz)) : am_wp 43 0 (am_lo 43 [.ref t, .int kind, .int num]) [] (mi, mr, sz) Q := by
  obtain ⟨h1, h2, h3, h4, h5⟩ := hs
  have no : ¬ (mi (t + 1) 0 = MG ∧ mi (t + 1) 1 = kind ∧ mi (t + 1) 2 = num) → am_wp 43 35 [.ref t, .int kind, .int num] [] (mi, mr, sz) Q := fun z => wp_x 1 hF rfl (wp_re rfl rfl (f z))
  refine wp_x 1 hF rfl ?_
  refine wp_gr rfl (by rw [h1]; rfl) h4 ?_
  refine wp_x 1 hF rfl ?_
  refine wp_al 0 rfl rfl rfl (by omega) h2 (by omega) ?_
  refine wp_x 1 hF rfl ?_
  refine wp_ne2 rfl (fun q => no (fun z => q z.1)) (fun q1 => ?_)
  refine wp_x 1 hF rfl ?_
  refine wp_gr rfl (by rw [h1]; rfl) h4 ?_
  refine wp_x 1 hF rfl ?_
  refine wp_al 1 rfl rfl rfl (by omega) h2 (by omega) ?_
  refine wp_x 1 hF rfl ?_
  refine wp_ne2 rfl (fun q => no (fun z => q z.2.1)) (fun q2 => ?_)
  refine wp_x 1 hF rfl ?_
  refine wp_gr rfl (by rw [h1]; rfl) h4 ?_
  refine wp_x 1 hF rfl ?_
  refine wp_al 2 rfl rfl rfl (by omega) h2 (by omega) ?_
  refine wp_x 1 hF rfl ?_
  refine wp_ne2 rfl (fun q => no (fun z => q z.2.2)) (fun q3 => ?_)
  refine wp_x 2 hF rfl ?_
  exact wp_re rfl rfl (y ⟨q1, q2, q3⟩)
theorem c_mixC {x w : Int32} {h : am_H} (hF : FX h.2.1) (k : Q (some (.int (mixf x w))) h) : am_wp 34 0 (am_lo 34 [.int x, .int w]) [] h Q := by
  refine wp_x 13 hF rfl ?_
  exact wp_re rfl rfl k
theorem c_mixed (hF : FX mr) (hs : shS mr t) {x : Int32} (k : Q (some (.int (mix4 x (wds mi (t + 1) 0)))) (mi, mr, sz)) : am_wp 33 0 (am_lo 33 [.ref t, .int x]) [] (mi, mr, sz) Q := by
  obtain ⟨h1, h2, h3, h4, h5⟩ := hs
  refine wp_x 3 hF rfl ?_
  refine wp_gr rfl (by rw [h1]; rfl) h4 ?_
  refine wp_x 2 hF rfl ?_
  refine wp_aln rfl rfl h2 (by omega) ?_
  rw [h3]
  refine wp_x 3 hF rfl ?_
  have one : ∀ (j : Nat) (y : Int32) (v : Value), j < 4 → am_wp 33 14 [.ref t, .int x, .int (mixf y (mi (t + 1) j)), .ref (t + 1), .int (nI 4), .int (nI (j + 1)), .int (mi (t + 1) j)] [] (mi, mr, sz) Q → am_wp 33 14 [.ref t, .int x, .int y, .ref (t + 1), .int (nI 4), .int (nI j), v] [] (mi, mr, sz) Q := by
    intro j y v hj kk
    refine wp_x 2 hF rfl ?_
    refine wp_ge2N j 4 rfl rfl rfl (by omega) (by omega) (fun q => absurd q (by omega)) (fun _ => ?_)
    refine wp_x 2 hF rfl ?_
    refine wp_al j rfl rfl rfl (by omega) h2 (by omega) ?_
    refine wp_x 3 hF rfl ?_
    refine wp_ca rfl rfl ?_
    refine c_mixC hF ?_
    refine wp_x 3 hF rfl ?_
    rw [← nI_1 j] at kk
    exact kk
  refine one 0 x _ (by omega) (one 1 _ _ (by omega) (one 2 _ _ (by omega) (one 3 _ _ (by omega) ?_)))
  refine wp_x 2 hF rfl ?_
  refine wp_ge2N 4 4 rfl rfl rfl (by omega) (by omega) (fun _ => ?_) (fun q => absurd q (by omega))
  refine wp_x 1 hF rfl ?_
  exact wp_re rfl rfl k
def isI (i : Nat) : Prop := i = 8 ∨ i = 10
theorem c_has {im i : Nat} {p : Nat → Bool} (hF : FX mr) (him : isI im) (hm : mi im 1 = nI (msk p)) (hi : i < 16) (k : Q (some (.int (if p i = true then 1 else 0))) (mi, mr, sz)) : am_wp 14 0 (am_lo 14 [.ref im, .int (nI i)]) [] (mi, mr, sz) Q := by
  have key : am_wp 14 8 [.ref im, .int (nI i)] [.int ((mi im 1 >>> (nI i &&& 31)) &&& 1)] (mi, mr, sz) Q := by
    rw [hm, msk_has p hi]
    refine wp_eq1 rfl (fun q => ?_) (fun q => ?_)
    · refine wp_x 1 hF rfl ?_
      rw [if_neg (by rw [b01.mp q]; decide)] at k
      exact wp_re rfl rfl k
    · refine wp_x 2 hF rfl ?_
      rw [if_pos (b10 q)] at k
      exact wp_re rfl rfl k
  rcases him with rfl | rfl
  · exact wp_x 6 hF rfl key
  · exact wp_x 6 hF rfl key
theorem c_from {im i : Nat} {p : Nat → Bool} (hF : FX mr) (him : isI im) (hm : mi im 1 = nI (msk p)) (hi : i ≤ 16) (k : ∀ c, i ≤ c → c ≤ 16 → (∀ j, i ≤ j → j < c → p j = false) → (c < 16 → p c = true) → Q (some (.int (nI c))) (mi, mr, sz)) : am_wp 29 0 (am_lo 29 [.ref im, .int (nI i)]) [] (mi, mr, sz) Q := by
  have loop : ∀ d c, c + d = 16 → i ≤ c → (∀ j, i ≤ j → j < c → p j = false) → am_wp 29 2 [.ref im, .int (nI i), .int (nI c)] [] (mi, mr, sz) Q := by
    intro d
    induction d with
    | zero =>
      intro c hc h1 h2
      refine wp_x 2 hF rfl ?_
      refine wp_ge2N c 16 rfl rfl rfl (by omega) (by omega) (fun _ => ?_) (fun q => absurd q (by omega))
      refine wp_x 1 hF rfl ?_
      exact wp_re rfl rfl (k c h1 (by omega) h2 (fun q => absurd q (by omega)))
    | succ d ih =>
      intro c hc h1 h2
      refine wp_x 2 hF rfl ?_
      refine wp_ge2N c 16 rfl rfl rfl (by omega) (by omega) (fun q => absurd q (by omega)) (fun hc16 => ?_)
      refine wp_x 2 hF rfl ?_
      have ht : tg_ im = 5 := by rcases him with rfl | rfl <;> rfl
      refine wp_cv rfl rfl ht rfl rfl ⟨by simp, (by decide : 2 ≤ pg_ml 14)⟩ ?_
      refine c_has hF him hm hc16 ?_
      refine wp_ne1 rfl (fun q => ?_) (fun q => ?_)
      · refine wp_x 1 hF rfl ?_
        exact wp_re rfl rfl (k c h1 (by omega) h2 (fun _ => b10 q))
      · refine wp_x 2 hF rfl ?_
        have := ih (c + 1) (by omega) (by omega) (fun j y1 y2 => by
          by_cases hj : j = c
          · rw [hj]; exact b01.mp q
          · exact h2 j y1 (by omega))
        rw [← nI_1] at this
        exact this
  refine wp_x 2 hF rfl ?_
  exact loop (16 - i) i (by omega) (Nat.le_refl _) (fun j y1 y2 => absurd y1 (by omega))
theorem c_dropI {im i : Nat} {p : Nat → Bool} (hF : FX mr) (him : isI im) (hm : mi im 1 = nI (msk p)) (hi : i < 16) (k : Q none (am_u2 mi im 1 (nI (msk (fu p i false))), mr, sz)) : am_wp 21 0 (am_lo 21 [.ref im, .int (nI i)]) [] (mi, mr, sz) Q := by
  have e := msk_drop p hi
  rw [← hm] at e
  have e2 : msk (fun j => if j = i then false else p j) = msk (fu p i false) := rfl
  rw [← e2, ← e] at k
  rcases him with rfl | rfl
  · exact wp_x 10 hF rfl (wp_re rfl rfl k)
  · exact wp_x 10 hF rfl (wp_re rfl rfl k)
theorem c_putI {im i q a0 : Nat} {p : Nat → Bool} (hF : FX mr) (him : isI im) (hm : mi im 1 = nI (msk p)) (hi : i < 16) (hq : tg_ q = 30 ∧ ¬ q = 1 ∧ a0 + 4 ≤ ln_ q) (k : ∀ mi' : Nat → Nat → Int32, (∀ a, ¬ a = im → ¬ a = im + 1 → mi' a = mi a) → (∀ j, ¬ j = 1 → mi' im j = mi im j) → mi' im 1 = nI (msk (fu p i true)) → (∀ j, mi' (im + 1) j = if 4 * i ≤ j ∧ j < 4 * i + 4 then mi q (a0 + (j - 4 * i)) else mi (im + 1) j) → Q none (mi', mr, sz)) : am_wp 19 0 (am_lo 19 [.ref im, .int (nI i), .ref q, .int (nI a0)]) [] (mi, mr, sz) Q := by
  have e := msk_put p hi
  rw [← hm] at e
  have e2 : msk (fun j => if j = i then true else p j) = msk (fu p i true) := rfl
  rw [e2] at e
  have cpv : ∀ (d j : Nat), am_cp mi q d a0 (4 * i) 4 d j = if 4 * i ≤ j ∧ j < 4 * i + 4 then mi q (a0 + (j - 4 * i)) else mi d j := by
    intro d j
    simp only [am_cp, if_true]
    split
    · rename_i h; rw [pk_cpy_in h.1 h.2]
    · rename_i h; rw [pk_cpy_out (by omega)]
  have cpo : ∀ (d a : Nat), ¬ a = d → am_cp mi q d a0 (4 * i) 4 a = mi a := by
    intro d a ha
    funext y
    simp [am_cp, ha]
  rcases him with rfl | rfl
  · refine wp_x 8 hF rfl ?_
    refine wp_cp a0 (4 * i) 4 rfl ⟨rfl, _, rfl⟩ rfl (a40 i) rfl ⟨hq.1, rfl, hq.2.1, by decide⟩ hq.2.2 (show 4 * i + 4 ≤ 64 by omega) (by simp) ?_
    refine wp_x 8 hF rfl ?_
    refine wp_re rfl rfl (k _ (fun a h1 h2 => ?_) (fun j hj => ?_) ?_ (fun j => ?_))
    · show am_u2 _ 8 1 _ a = _
      rw [sd_u2r _ _ _ _ h1]; exact cpo 9 a h2
    · show am_u2 _ 8 1 _ 8 j = _
      rw [sd_u2k _ _ _ _ hj]
      show am_cp mi q 9 a0 (4 * i) 4 8 j = _
      rw [cpo 9 8 (by decide)]
    · show am_u2 _ 8 1 _ 8 1 = _
      rw [sd_u2s]
      show am_cp mi q 9 a0 (4 * i) 4 8 1 ||| _ = _
      rw [cpo 9 8 (by decide)]; exact e
    · exact cpv 9 j
  · refine wp_x 8 hF rfl ?_
    refine wp_cp a0 (4 * i) 4 rfl ⟨rfl, _, rfl⟩ rfl (a40 i) rfl ⟨hq.1, rfl, hq.2.1, by decide⟩ hq.2.2 (show 4 * i + 4 ≤ 64 by omega) (by simp) ?_
    refine wp_x 8 hF rfl ?_
    refine wp_re rfl rfl (k _ (fun a h1 h2 => ?_) (fun j hj => ?_) ?_ (fun j => ?_))
    · show am_u2 _ 10 1 _ a = _
      rw [sd_u2r _ _ _ _ h1]; exact cpo 11 a h2
    · show am_u2 _ 10 1 _ 10 j = _
      rw [sd_u2k _ _ _ _ hj]
      show am_cp mi q 11 a0 (4 * i) 4 10 j = _
      rw [cpo 11 10 (by decide)]
    · show am_u2 _ 10 1 _ 10 1 = _
      rw [sd_u2s]
      show am_cp mi q 11 a0 (4 * i) 4 10 1 ||| _ = _
      rw [cpo 11 10 (by decide)]; exact e
    · exact cpv 11 j
theorem c_idleC (hF : FX mr) (y : ¬ mi 7 0 = 0 → mr 2 7 = 0 → Q (some (.int 1)) (mi, mr, sz)) (f : mi 7 0 = 0 ∨ ¬ mr 2 7 = 0 → Q (some (.int 0)) (mi, mr, sz)) : am_wp 12 0 (am_lo 12 [.ref 2]) [] (mi, mr, sz) Q := by
  have no : mi 7 0 = 0 ∨ ¬ mr 2 7 = 0 → am_wp 12 21 [.ref 2] [] (mi, mr, sz) Q := fun z => wp_x 1 hF rfl (wp_re rfl rfl (f z))
  refine wp_x 3 hF rfl ?_
  refine wp_eq1 rfl (fun q => no (Or.inl q)) (fun q1 => ?_)
  refine wp_x 2 hF rfl ?_
  show am_wp 12 14 _ [.ref (mr 2 7)] _ _
  refine wp_nnl rfl (fun q => no (Or.inr q)) (fun q2 => ?_)
  refine wp_x 2 hF rfl ?_
  exact wp_re rfl rfl (y q1 q2)
theorem c_isWordC {b w : Int32} (hF : FX h.2.1) (y : ∀ i j, i < 16 → j < 4 → b = nI i → w = nI j → Q (some (.int 1)) h) (f : ((∀ i, i < 16 → b ≠ nI i) ∨ ∀ j, j < 4 → w ≠ nI j) → Q (some (.int 0)) h) : am_wp 13 0 (am_lo 13 [.int b, .int w]) [] h Q := by
  have no : ((∀ i, i < 16 → b ≠ nI i) ∨ ∀ j, j < 4 → w ≠ nI j) → am_wp 13 23 [.int b, .int w] [] h Q := fun z => wp_x 1 hF rfl (wp_re rfl rfl (f z))
  refine wp_x 1 hF rfl ?_
  refine wp_lt1 rfl (fun q => no (Or.inl (rng_neg (by omega) (Or.inl q)))) (fun q1 => ?_)
  refine wp_x 2 hF rfl ?_
  refine wp_ge2 rfl (fun q => no (Or.inl (rng_neg (by omega) (Or.inr q)))) (fun q2 => ?_)
  refine wp_x 1 hF rfl ?_
  refine wp_lt1 rfl (fun q => no (Or.inr (rng_neg (by omega) (Or.inl q)))) (fun q3 => ?_)
  refine wp_x 2 hF rfl ?_
  refine wp_ge2 rfl (fun q => no (Or.inr (rng_neg (by omega) (Or.inr q)))) (fun q4 => ?_)
  refine wp_x 2 hF rfl ?_
  obtain ⟨i, hi, e1⟩ := rng_of (N := 16) (by omega) q1 q2
  obtain ⟨j, hj, e2⟩ := rng_of (N := 4) (by omega) q3 q4
  exact wp_re rfl rfl (y i j hi hj e1 e2)
end CL1
end
section
/-! THE COMPONENT: how many bits -/
def bcN (m : Nat) : Nat := let a := m - (m / 2 &&& 1431655765); let b := (a &&& 858993459) + (a / 4 &&& 858993459); let c := (b + b / 16) &&& 252645135; let d := c + c / 256; let e := d + d / 65536; e &&& 63
def bg1 (x : Nat) : Nat := x - (x / 2 &&& 85)
def bg2 (x : Nat) : Nat := (x &&& 51) + (x / 4 &&& 51)
def bg3 (x : Nat) : Nat := (x + x / 16) &&& 15
theorem land_split (x y : Nat) : x &&& y = 256 * ((x / 256) &&& (y / 256)) + ((x % 256) &&& (y % 256)) := by
  refine Nat.eq_of_testBit_eq (fun i => ?_)
  have hlt : (x % 256) &&& (y % 256) < 2 ^ 8 := Nat.lt_of_le_of_lt Nat.and_le_left (by omega)
  rw [show (256 : Nat) * ((x / 256) &&& (y / 256)) = 2 ^ 8 * ((x / 256) &&& (y / 256)) from rfl, Nat.testBit_two_pow_mul_add _ hlt, Nat.testBit_and, Nat.testBit_and, Nat.testBit_and, show (256 : Nat) = 2 ^ 8 from rfl, Nat.testBit_div_two_pow, Nat.testBit_div_two_pow, Nat.testBit_mod_two_pow, Nat.testBit_mod_two_pow]
  by_cases hi : i < 8
  · simp [hi]
  · rw [if_neg hi]
    have : i - 8 + 8 = i := by omega
    rw [this]
theorem land2 {a b r v : Nat} (ha : a < 256) (hb : b < 256) (hv : v < 256) : (256 * a + b) &&& (256 * (256 * r + v) + v) = 256 * (a &&& v) + (b &&& v) := by
  rw [land_split, show (256 * a + b) / 256 = a by omega, show (256 * a + b) % 256 = b by omega, show (256 * (256 * r + v) + v) / 256 = 256 * r + v by omega, show (256 * (256 * r + v) + v) % 256 = v by omega, land_split a, show a / 256 = 0 by omega, show a % 256 = a by omega, show (256 * r + v) % 256 = v by omega, Nat.zero_and]
  omega
theorem bt1 : ∀ u, u < 2 → ∀ y, y < 128 → (128 * u + y) &&& 85 = y &&& 85 := by decide +kernel
theorem bt2 : ∀ u, u < 4 → ∀ y, y < 64 → (64 * u + y) &&& 51 = y &&& 51 := by decide +kernel
theorem bt3 (u y : Nat) : (16 * u + y) &&& 15 = y &&& 15 := by
  rw [show (15 : Nat) = 2 ^ 4 - 1 from rfl, Nat.and_two_pow_sub_one_eq_mod, Nat.and_two_pow_sub_one_eq_mod]
  omega
theorem bt4 : ∀ x, x < 256 → bg1 x < 256 ∧ bg2 (bg1 x) % 16 ≤ 4 ∧ bg2 (bg1 x) / 16 ≤ 4 ∧ bg3 (bg2 (bg1 x)) = cnt (fun i => x.testBit i) 8 := by decide +kernel
theorem cnt_add (p : Nat → Bool) (m : Nat) : ∀ n, cnt p (m + n) = cnt p m + cnt (fun i => p (m + i)) n
  | 0 => rfl
  | n + 1 => by
    rw [← Nat.add_assoc, cnt, cnt, cnt_add p m n]
    split <;> omega
theorem bt5 (X Y : Nat) (hX : X ≤ 8) (hY : Y ≤ 8) : ((256 * X + Y + (256 * X + Y) / 256) + (256 * X + Y + (256 * X + Y) / 256) / 65536) % 2 ^ 6 = Y + X := by
  rw [show (256 * X + Y) / 256 = X by omega, show (256 * X + Y + X) / 65536 = 0 by omega, show (2 : Nat) ^ 6 = 64 from rfl]
  omega
theorem bcN_ok {a b : Nat} (ha : a < 256) (hb : b < 256) : bcN (256 * a + b) = cnt (fun i => (256 * a + b).testBit i) 16 := by
  obtain ⟨a1, a2, a3, a4⟩ := bt4 a ha
  obtain ⟨b1, b2, b3, b4⟩ := bt4 b hb
  have A8 := cnt_le (fun i => a.testBit i) 8
  have B8 := cnt_le (fun i => b.testBit i) 8
  have la : a / 2 &&& 85 ≤ a / 2 := Nat.and_le_left
  have lb : b / 2 &&& 85 ≤ b / 2 := Nat.and_le_left
  have e1 : (256 * a + b) - ((256 * a + b) / 2 &&& 1431655765) = 256 * bg1 a + bg1 b := by
    rw [show (256 * a + b) / 2 = 256 * (a / 2) + (128 * (a % 2) + b / 2) by omega, show (1431655765 : Nat) = 256 * (256 * 21845 + 85) + 85 from rfl, land2 (by omega) (by omega) (by omega), bt1 _ (by omega) _ (by omega)]
    unfold bg1
    omega
  have e2 : ((256 * bg1 a + bg1 b) &&& 858993459) + ((256 * bg1 a + bg1 b) / 4 &&& 858993459) = 256 * bg2 (bg1 a) + bg2 (bg1 b) := by
    rw [show (256 * bg1 a + bg1 b) / 4 = 256 * (bg1 a / 4) + (64 * (bg1 a % 4) + bg1 b / 4) by omega, show (858993459 : Nat) = 256 * (256 * 13107 + 51) + 51 from rfl, land2 (by omega) (by omega) (by omega), land2 (by omega) (by omega) (by omega), bt2 _ (by omega) _ (by omega)]
    unfold bg2
    omega
  have e3 : ((256 * bg2 (bg1 a) + bg2 (bg1 b)) + (256 * bg2 (bg1 a) + bg2 (bg1 b)) / 16) &&& 252645135 = 256 * bg3 (bg2 (bg1 a)) + bg3 (bg2 (bg1 b)) := by
    rw [show (256 * bg2 (bg1 a) + bg2 (bg1 b)) + (256 * bg2 (bg1 a) + bg2 (bg1 b)) / 16 = 256 * (bg2 (bg1 a) + bg2 (bg1 a) / 16) + (16 * (bg2 (bg1 a) % 16) + (bg2 (bg1 b) + bg2 (bg1 b) / 16)) by omega, show (252645135 : Nat) = 256 * (256 * 3855 + 15) + 15 from rfl, land2 (by omega) (by omega) (by omega), bt3]
    rfl
  have e0 : bcN (256 * a + b) = (let c := 256 * bg3 (bg2 (bg1 a)) + bg3 (bg2 (bg1 b)); let d := c + c / 256; let e := d + d / 65536; e &&& 63) := by
    unfold bcN
    simp only [e1, e2, e3]
  rw [e0, a4, b4]
  dsimp only
  rw [show (63 : Nat) = 2 ^ 6 - 1 from rfl, Nat.and_two_pow_sub_one_eq_mod, show (16 : Nat) = 8 + 8 from rfl, cnt_add]
  have c1 : cnt (fun i => (256 * a + b).testBit i) 8 = cnt (fun i => b.testBit i) 8 := cnt_congr 8 (fun i hi => by
    rw [show 256 * a = 2 ^ 8 * a from rfl, Nat.testBit_two_pow_mul_add _ hb, if_pos hi])
  have c2 : cnt (fun i => (256 * a + b).testBit (8 + i)) 8 = cnt (fun i => a.testBit i) 8 := cnt_congr 8 (fun i hi => by
    rw [show 256 * a = 2 ^ 8 * a from rfl, Nat.testBit_two_pow_mul_add _ hb, if_neg (by omega)]
    congr 1; omega)
  rw [c1, c2]
  exact bt5 _ _ A8 B8
theorem bcN_cnt (p : Nat → Bool) : bcN (msk p) = cnt p 16 := by
  have h := msk_lt p
  have := bcN_ok (a := msk p / 256) (b := msk p % 256) (by omega) (by omega)
  rw [Nat.div_add_mod] at this
  rw [this]
  refine cnt_congr 16 (fun b hb => ?_)
  rw [msk_tb p]
  simp [hb]
section CL2
variable {mi : Nat → Nat → Int32} {mr : Nat → Nat → Nat} {sz : Nat} {Q : Option Value → am_H → Prop} {h : am_H}
theorem c_bitCount {p : Nat → Bool} (hF : FX h.2.1) (k : Q (some (.int (nI (cnt p 16)))) h) : am_wp 15 0 (am_lo 15 [.int (nI (msk p))]) [] h Q := by
  obtain ⟨m, hm⟩ : ∃ z, z = msk p := ⟨_, rfl⟩
  have hlt : m < 65536 := by rw [hm]; exact msk_lt p
  rw [← bcN_cnt p, ← hm] at k
  rw [← hm]
  obtain ⟨a, ha⟩ : ∃ z, z = m - (m / 2 &&& 1431655765) := ⟨_, rfl⟩
  obtain ⟨b, hb⟩ : ∃ z, z = (a &&& 858993459) + (a / 4 &&& 858993459) := ⟨_, rfl⟩
  obtain ⟨c, hc⟩ : ∃ z, z = (b + b / 16) &&& 252645135 := ⟨_, rfl⟩
  obtain ⟨d, hd⟩ : ∃ z, z = c + c / 256 := ⟨_, rfl⟩
  obtain ⟨e, he⟩ : ∃ z, z = d + d / 65536 := ⟨_, rfl⟩
  have k' : Q (some (.int (nI (e &&& 63)))) h := by rw [he, hd, hc, hb, ha]; exact k
  have l0 : m / 2 &&& 1431655765 ≤ m / 2 := Nat.and_le_left
  have l1 : a ≤ m := by omega
  have l2 : a &&& 858993459 ≤ a := Nat.and_le_left
  have l3 : a / 4 &&& 858993459 ≤ a / 4 := Nat.and_le_left
  have l4 : (b + b / 16) &&& 252645135 ≤ b + b / 16 := Nat.and_le_left
  have e1 : nI m - (am_sh (nI m) 1 &&& 1431655765) = nI a := by
    rw [show (1 : Int32) = nI 1 from rfl, ush_N (by omega) (by omega), show (1431655765 : Int32) = nI 1431655765 from rfl, and_N, show m / 2 ^ 1 = m / 2 from rfl, pk_sub (by omega), ha]
  have e2 : (nI a &&& 858993459) + (am_sh (nI a) 2 &&& 858993459) = nI b := by
    rw [show (2 : Int32) = nI 2 from rfl, ush_N (by omega) (by omega), show (858993459 : Int32) = nI 858993459 from rfl, and_N, and_N, nI_add, hb]
  have e3 : (nI b + am_sh (nI b) 4) &&& 252645135 = nI c := by
    rw [show (4 : Int32) = nI 4 from rfl, ush_N (by omega) (by omega), nI_add, show (252645135 : Int32) = nI 252645135 from rfl, and_N, hc]
  have e4 : nI c + am_sh (nI c) 8 = nI d := by
    rw [show (8 : Int32) = nI 8 from rfl, ush_N (by omega) (by omega), nI_add, hd]
  have e5 : nI d + am_sh (nI d) 16 = nI e := by
    rw [show (16 : Int32) = nI 16 from rfl, ush_N (by omega) (by omega), nI_add, he]
  have e6 : nI e &&& 63 = nI (e &&& 63) := by rw [show (63 : Int32) = nI 63 from rfl, and_N]
  refine wp_x 8 hF rfl ?_
  dsimp only
  show am_wp 15 10 [.int (nI m - (am_sh (nI m) 1 &&& 1431655765))] [] h Q
  rw [e1]
  refine wp_x 10 hF rfl ?_
  show am_wp 15 24 [.int ((nI a &&& 858993459) + (am_sh (nI a) 2 &&& 858993459))] [] h Q
  rw [e2]
  refine wp_x 8 hF rfl ?_
  show am_wp 15 34 [.int ((nI b + am_sh (nI b) 4) &&& 252645135)] [] h Q
  rw [e3]
  refine wp_x 6 hF rfl ?_
  show am_wp 15 41 [.int (nI c + am_sh (nI c) 8)] [] h Q
  rw [e4]
  refine wp_x 6 hF rfl ?_
  show am_wp 15 48 [.int (nI d + am_sh (nI d) 16)] [] h Q
  rw [e5]
  refine wp_x 3 hF rfl ?_
  rw [← e6] at k'
  exact wp_re rfl rfl k'
end CL2
end
section
/-! THE COMPONENT: the device -/
def isT (t : Nat) : Prop := t = 18 ∨ t = 21
theorem FX.shT {mr : Nat → Nat → Nat} (h : FX mr) {t : Nat} (ht : isT t) : shS mr t := by rcases ht with rfl | rfl; exact h.sh18; exact h.sh21
theorem isT.lt {t : Nat} (h : isT t) : t < 23 ∧ 18 ≤ t := by rcases h with rfl | rfl <;> decide
def DW (mi : Nat → Nat → Int32) (A : Nat → List Nat) (dk : Nat → Int32) (ca : List En) : Prop := (∀ j, j < 164 → mi 5 j = dk j) ∧ (A 6).map (ent mi) = ca
theorem rd4_snoc (dk : Nat → Int32) (ca : List En) (e : En) (i : Nat) : rd4 dk (ca ++ [e]) i = if e.1 = nI i then e.2 else rd4 dk ca i := by
  simp only [rd4, rdS_snoc]
  split <;> rfl
section DEV
variable {mi : Nat → Nat → Int32} {mr : Nat → Nat → Nat} {sz : Nat} {Q : Option Value → am_H → Prop} {A : Nat → List Nat} {dk : Nat → Int32} {ca : List En}
theorem c_readC (hC : CW mi mr sz A) (hD : DW mi A dk ca) {t i : Nat} (ht : isT t) (hi : i < 41) (k : ∀ mi' : Nat → Nat → Int32, (∀ a, ¬ a = t → ¬ a = t + 1 → mi' a = mi a) → wds mi' (t + 1) 0 = rd4 dk ca i → Q none (mi', mr, sz)) : am_wp 18 0 (am_lo 18 [.ref 4, .int (nI i), .ref t]) [] (mi, mr, sz) Q := by
  have hF := hC.1
  have hs := hF.shT ht
  obtain ⟨t1, t2, t3, t4, t5⟩ := id hs
  have tl := ht.lt
  have loop : ∀ (l pre : List Nat) (x : Nat) (m1 : Nat → Nat → Int32), A 6 = pre ++ l → lk mr x l → (∀ a, ¬ a = t + 1 → m1 a = mi a) → wds m1 (t + 1) 0 = rd4 dk (pre.map (ent mi)) i → am_wp 18 19 [.ref 4, .int (nI i), .ref t, .ref x] [] (m1, mr, sz) Q := by
    intro l
    induction l with
    | nil =>
      intro pre x m1 hA hx h1 h2
      refine wp_x 1 hF rfl ?_
      refine wp_nul rfl (fun _ => ?_) (fun q => absurd hx q)
      refine wp_x 2 hF rfl ?_
      refine wp_pi rfl (by rw [t1]; rfl) ?_
      refine wp_re rfl rfl (k _ (fun a y1 y2 => by rw [sd_u2r _ _ _ _ y1, h1 a y2]) ?_)
      rw [← hD.2, hA, List.append_nil, ← h2]
      exact wds_ext (fun j _ => by rw [sd_u2r _ _ _ _ (by omega)])
    | cons s r ih =>
      intro pre x m1 hA hx h1 h2
      obtain ⟨rfl, hx2⟩ := hx
      have hm : x ∈ A 6 := by rw [hA]; exact List.mem_append_right _ List.mem_cons_self
      obtain ⟨s1, s2, s3, s4⟩ := hC.ok hm
      have e1 : m1 x 1 = (ent mi x).1 := by rw [h1 x (by omega)]; rfl
      have e2 : wds m1 (x + 1) 0 = (ent mi x).2 := by
        have : m1 (x + 1) = mi (x + 1) := h1 _ (by omega)
        simp only [wds, this]; rfl
      have nx : ∀ m2 : Nat → Nat → Int32, (∀ a, ¬ a = t + 1 → m2 a = mi a) → wds m2 (t + 1) 0 = rd4 dk ((pre ++ [x]).map (ent mi)) i → am_wp 18 40 [.ref 4, .int (nI i), .ref t, .ref x] [] (m2, mr, sz) Q := by
        intro m2 g1 g2
        refine wp_x 1 hF rfl ?_
        refine wp_gr rfl (by rw [tgS s1 s2]; rfl) rfl ?_
        refine wp_x 2 hF rfl ?_
        exact ih (pre ++ [x]) _ m2 (by rw [hA]; simp) hx2 g1 g2
      rw [List.map_append] at nx
      rw [show ([x] : List Nat).map (ent mi) = [ent mi x] from rfl, rd4_snoc] at nx
      refine wp_x 1 hF rfl ?_
      refine wp_nul rfl (fun q => absurd q (by omega)) (fun _ => ?_)
      refine wp_x 1 hF rfl ?_
      refine wp_gi rfl (by decide) (by rw [tgS s1 s2]; rfl) ?_
      rw [e1]
      refine wp_x 1 hF rfl ?_
      refine wp_ne2 rfl (fun q => ?_) (fun q => ?_)
      · refine nx m1 h1 ?_
        rw [if_neg q]; exact h2
      · refine wp_x 2 hF rfl ?_
        refine wp_gr rfl (by rw [tgS s1 s2]; rfl) s4 ?_
        refine wp_x 1 hF rfl ?_
        refine wp_cv rfl rfl t1 rfl rfl ⟨by simp, (by decide : 3 ≤ pg_ml 17)⟩ ?_
        refine c_copy (p := 0) hF hs ⟨tgW s1 s2, by omega, by rw [lnW s1 s2]; omega⟩ (fun m2 g1 g2 => ?_)
        refine nx m2 (fun a ha => by rw [g1 a ha, h1 a ha]) ?_
        rw [if_pos q, g2, e2]
  refine wp_x 2 hF rfl ?_
  refine wp_x 4 hF rfl ?_
  show am_wp 18 8 [.ref 4, .int (nI i), .ref t, .long 0] [.int (4 * nI i), .ref 5, .ref t] (mi, mr, sz) Q
  rw [a40]
  refine wp_cv rfl rfl t1 rfl rfl ⟨by simp, (by decide : 3 ≤ pg_ml 17)⟩ ?_
  refine c_copy (p := 4 * i) hF hs ⟨rfl, by decide, show 4 * i + 4 ≤ 164 by omega⟩ (fun m2 g1 g2 => ?_)
  refine wp_x 4 hF rfl ?_
  refine loop (A 6) [] (mr 6 1) m2 rfl (hC.2.2.2.1 6 (Or.inl rfl)).1 g1 ?_
  rw [g2]
  simp only [wds, rd4, rdS, List.map_nil, List.foldl_nil]
  rw [show mi 5 (4 * i) = dk (4 * i + 0) from hD.1 _ (by omega), hD.1 _ (by omega), hD.1 _ (by omega), hD.1 _ (by omega)]
theorem c_settleC (hF : FX mr) {s sec n : Nat} (hs : shS mr s) (h5 : ¬ s + 1 = 5) (he : mi s 1 = nI sec) (hsec : sec < 41) (hn : n ≤ 4) (hd : ∀ j, j < 164 → mi 5 j = dk j) (k : ∀ mi' : Nat → Nat → Int32, (∀ a, ¬ a = 5 → mi' a = mi a) → (∀ j, j < 164 → mi' 5 j = stl dk (ent mi s) n j) → Q none (mi', mr, sz)) : am_wp 50 0 (am_lo 50 [.ref 4, .ref s, .int (nI n)]) [] (mi, mr, sz) Q := by
  obtain ⟨t1, t2, t3, t4, t5⟩ := id hs
  refine wp_x 1 hF rfl ?_
  refine wp_gr rfl (by rw [t1]; rfl) t4 ?_
  refine wp_x 5 hF rfl ?_
  refine wp_gi rfl (by decide) (by rw [t1]; rfl) ?_
  refine wp_x 2 hF rfl ?_
  refine wp_cp 0 (4 * sec) n rfl ⟨rfl, _, rfl⟩ rfl (by show (4 : Int32) * mi s 1 = _; rw [he, a40]) rfl ⟨t2, rfl, by omega, by decide⟩ (by omega) (show 4 * sec + n ≤ 164 by omega) (by simp) ?_
  refine wp_re rfl rfl (k _ (fun a ha => ?_) (fun j hj => ?_))
  · funext y
    simp [am_cp, ha]
  · have hc : (ent mi s).1.toNatClampNeg = sec := by show (mi s 1).toNatClampNeg = sec; rw [he, nI_clamp (by omega)]
    unfold stl
    rw [hc]
    simp only [am_cp, if_true]
    split
    · rename_i h
      rw [pk_cpy_in h.1 h.2, Nat.zero_add]
      have := wds_w (mi := mi) (q := s + 1) (a := 0) (show j - 4 * sec < 4 by omega)
      rw [Nat.zero_add] at this
      rw [← this]; rfl
    · rename_i h
      rw [pk_cpy_out (by omega)]
      exact hd j hj
theorem c_write (hC : CW mi mr sz A) {sec : Int32} (k : ∀ s mi' mr' sz' A', CW mi' mr' sz' A' → A' 6 = A 6 ++ [s] → (∀ d, ¬ d = 6 → ¬ d = 3 → A' d = A d) → (∀ a j, ¬ a = s → ¬ a = s + 1 → ¬ (a = 6 ∧ j = 3) → mi' a j = mi a j) → mi' s 1 = sec → (∀ d, ¬ d = 3 → (A d).map (ent mi') = (A d).map (ent mi)) → okS mr' sz' s → mr' 2 = mr 2 → mr' 1 = mr 1 → sz ≤ sz' → sz' ≤ sz + 2 → Q (some (.ref s)) (mi', mr', sz')) : am_wp 23 0 (am_lo 23 [.ref 4, .int sec]) [] (mi, mr, sz) Q := by
  refine wp_x 3 hC.1 rfl ?_
  refine wp_ca rfl rfl ?_
  refine c_add hC (Or.inl rfl) (fun s mi' mr' sz' A' f1 f2 f3 f4 f5 f6 f7 f8 f9 f10 f11 => ?_)
  exact wp_re rfl rfl (k s mi' mr' sz' A' f1 f2 f3 f4 f5 f6 f7 f8 f9 f10 f11)
theorem c_flushC (hC : CW mi mr sz A) (hD : DW mi A dk ca) (hok : okC ca) (hl : ca.length < 1000) (k : ∀ mi' mr' A', CW mi' mr' sz A' → A' 6 = [] → (∀ d, ¬ d = 6 → ¬ d = 3 → A' d = A d) → (∀ a j, ¬ a = 5 → ¬ (a = 6 ∧ j = 3) → mi' a j = mi a j) → (∀ j, j < 164 → mi' 5 j = flS dk ca j) → mr' 2 = mr 2 → mr' 1 = mr 1 → Q none (mi', mr', sz)) : am_wp 47 0 (am_lo 47 [.ref 4]) [] (mi, mr, sz) Q := by
  have hc6 : isC 6 := Or.inl rfl
  have loop : ∀ (l : List Nat) (m1 : Nat → Nat → Int32) (r1 : Nat → Nat → Nat) (A1 : Nat → List Nat) (dd : Nat → Int32), A1 6 = l → l.length < 1000 → CW m1 r1 sz A1 → okC (l.map (ent mi)) → (∀ d, ¬ d = 6 → ¬ d = 3 → A1 d = A d) → (∀ a j, ¬ a = 5 → ¬ (a = 6 ∧ j = 3) → m1 a j = mi a j) → (∀ j, j < 164 → m1 5 j = dd j) → flS dk ca = flS dd (l.map (ent mi)) → r1 2 = mr 2 → r1 1 = mr 1 → am_wp 47 0 [.ref 4] [] (m1, r1, sz) Q := by
    intro l
    induction l with
    | nil =>
      intro m1 r1 A1 dd hA hl W ho h1 h2 h3 h4 h5 h6
      refine wp_x 3 W.1 rfl ?_
      show am_wp 47 7 _ [.int (m1 6 3)] _ _
      rw [(W.2.2.2.1 6 hc6).2.2, hA]
      refine wp_le1 rfl (fun _ => ?_) (fun q => absurd (by decide) q)
      refine wp_re rfl rfl (k m1 r1 A1 W hA h1 h2 ?_ h5 h6)
      rw [h4]; exact h3
    | cons s r ih =>
      intro m1 r1 A1 dd hA hl W ho h1 h2 h3 h4 h5 h6
      have hsA : s ∈ A1 6 := by rw [hA]; exact List.mem_cons_self
      obtain ⟨s1, s2, s3, s4⟩ := W.ok hsA
      refine wp_x 3 W.1 rfl ?_
      show am_wp 47 7 _ [.int (m1 6 3)] _ _
      rw [(W.2.2.2.1 6 hc6).2.2, hA]
      refine wp_le1 rfl (fun q => absurd q (nI_nle (by simp) (by omega))) (fun _ => ?_)
      refine wp_x 3 W.1 rfl ?_
      refine wp_ca rfl rfl ?_
      refine c_drop W hc6 hA (fun r2 W2 g2 g1 => ?_)
      refine wp_x 1 W2.1 rfl ?_
      have hes : ent (am_u2 m1 6 3 (m1 6 3 - 1)) s = ent mi s := by
        have e1 : am_u2 m1 6 3 (m1 6 3 - 1) s 1 = mi s 1 := by rw [sd_u2r _ _ _ _ (by omega), h2 s 1 (by omega) (by omega)]
        have e2 : am_u2 m1 6 3 (m1 6 3 - 1) (s + 1) = mi (s + 1) := by
          funext j
          rw [sd_u2r _ _ _ _ (by omega), h2 (s + 1) j (by omega) (by omega)]
        simp only [ent, e1, e2]
      have hoe := ho (ent mi s) (by simp)
      have hW2s : shS r2 s := (W2.ok (c := 3) (s := s) (by rw [fu_s]; exact List.mem_cons_self)).sh
      refine wp_ca rfl rfl ?_
      refine c_settleC (dk := dd) (sec := (ent mi s).1.toNatClampNeg) (n := 4) W2.1 hW2s (by omega) ?_ hoe.2 (Nat.le_refl _) (fun j hj => by rw [sd_u2r _ _ _ _ (by decide)]; exact h3 j hj) (fun m3 f1 f2 => ?_)
      · rw [← hoe.1, ← hes]; rfl
      · refine wp_x 1 W2.1 rfl ?_
        rw [hes] at f2
        simp only [List.length_cons] at hl
        refine ih m3 r2 _ (stl dd (ent mi s) 4) (by rw [fu_o _ _ (by decide), fu_s]) (by omega) (W2.mi (fun c hc => by rw [f1 c (by rcases hc with rfl | rfl | rfl | rfl <;> decide)])) (fun e he => ho e (List.mem_cons_of_mem _ he)) (fun d y1 y2 => by rw [fu_o _ _ y2, fu_o _ _ y1]; exact h1 d y1 y2) (fun a j y1 y2 => ?_) f2 ?_ (g2.trans h5) (g1.trans h6)
        · rw [f1 a y1]
          have : am_u2 m1 6 3 (m1 6 3 - 1) a j = m1 a j := if_neg y2
          rw [this]; exact h2 a j y1 y2
        · rw [h4]; rfl
  refine loop (A 6) mi mr A dk rfl ?_ hC ?_ (fun _ _ _ => rfl) (fun _ _ _ _ => rfl) hD.1 (by rw [hD.2]) rfl rfl
  · have := congrArg List.length hD.2
    rw [List.length_map] at this
    omega
  · rw [hD.2]; exact hok
end DEV
end
section
/-! THE COMPONENT: leading zeros, the device's crash -/
theorem lst_eq {p : Nat → Bool} {e : Nat} : ∀ n, e < n → p e = true → (∀ j, e < j → j < n → p j = false) → lst p n = e + 1
  | 0, h, _, _ => by omega
  | n + 1, h, h1, h2 => by
    rw [lst]
    by_cases hn : e = n
    · rw [if_pos (by rw [← hn]; exact h1), hn]
    · rw [if_neg (by rw [h2 n (by omega) (by omega)]; decide)]
      exact lst_eq n (by omega) h1 (fun j y1 y2 => h2 j y1 (by omega))
theorem lst_none {p : Nat → Bool} : ∀ n, (∀ j, j < n → p j = false) → lst p n = 0
  | 0, _ => rfl
  | n + 1, h => by
    rw [lst, if_neg (by rw [h n (by omega)]; decide)]
    exact lst_none n (fun j hj => h j (by omega))
theorem bt_gb (x : Int32) {b : Nat} (hb : b < 32) : bt x b = gb x b := by
  have h1 : gb (x >>> (nI b &&& 31)) 0 = gb x b := by
    unfold gb
    rw [Int32.toBitVec_shiftRight, BitVec.sshiftRight', bs_sl b hb, BitVec.getLsbD_sshiftRight]
    simp [hb]
  have h2 : ∀ i, i < 32 → gb (1 : Int32) i = decide (i = 0) := by decide +kernel
  have h3 : (x >>> (nI b &&& 31)) &&& 1 = 0 ↔ gb x b = false := by
    constructor
    · intro h
      have := congrArg (fun y => gb y 0) h
      simp only [gb_and, h1, h2 0 (by omega)] at this
      rw [show gb (0 : Int32) 0 = false from by decide +kernel] at this
      simpa using this
    · intro h
      refine gb_ext (fun i hi => ?_)
      rw [gb_and, h2 i hi, (by decide +kernel : ∀ i, i < 32 → gb (0 : Int32) i = false) i hi]
      by_cases h0 : i = 0
      · subst h0; rw [h1, h]; rfl
      · simp [h0]
  unfold bt
  cases hg : gb x b with
  | false => simp [h3.mpr hg]
  | true =>
    have : ¬ (x >>> (nI b &&& 31)) &&& 1 = 0 := fun z => by rw [h3.mp z] at hg; cases hg
    simp [this]
/-- the survivors as a number -/
theorem surv (mask : Int32) {n : Nat} (hn : n ≤ 31) : mask &&& ((1 : Int32) <<< (nI n &&& 31) - 1) = nI (mskR (gb mask) n) := by
  have h2n : 2 ^ n < 2 ^ 32 := Nat.pow_lt_pow_right (by omega) (by omega)
  have h1n : 1 ≤ 2 ^ n := Nat.one_le_two_pow
  have e1 : (1 : Int32) <<< (nI n &&& 31) - 1 = nI (2 ^ n - 1) := by
    rw [show (1 : Int32) = nI 1 from rfl, shl_N (by omega) (by omega), Nat.one_mul, pk_sub h1n]
  rw [e1]
  refine gb_ext (fun i hi => ?_)
  rw [gb_and, gb_nI _ hi, gb_nI _ hi, Nat.testBit_two_pow_sub_one, mskR_tb]
  exact Bool.and_comm _ _
/-- 2^e is the greatest power in v -/
def PW (v e : Nat) : Prop := 2 ^ e ≤ v ∧ v < 2 ^ (e + 1)
theorem PW.div {v e : Nat} (k : Nat) (h : PW v e) (hk : 2 ^ k ≤ v) : k ≤ e ∧ PW (v / 2 ^ k) (e - k) := by
  have hke : k ≤ e := by
    rcases Nat.lt_or_ge e k with q | q
    · have : 2 ^ (e + 1) ≤ 2 ^ k := Nat.pow_le_pow_right (by omega) (by omega)
      have := h.2
      omega
    · exact q
  refine ⟨hke, ?_, ?_⟩
  · rw [Nat.le_div_iff_mul_le (Nat.two_pow_pos k), ← Nat.pow_add, Nat.sub_add_cancel hke]
    exact h.1
  · rw [Nat.div_lt_iff_lt_mul (Nat.two_pow_pos k), ← Nat.pow_add, show e - k + 1 + k = e + 1 by omega]
    exact h.2
theorem PW_ex {v : Nat} (h : 0 < v) : ∃ e, PW v e := ⟨Nat.log2 v, Nat.log2_self_le (by omega), Nat.lt_log2_self⟩
section CRA
variable {mi : Nat → Nat → Int32} {mr : Nat → Nat → Nat} {sz : Nat} {Q : Option Value → am_H → Prop} {A : Nat → List Nat} {dk : Nat → Int32} {ca : List En} {h : am_H}
theorem c_nlz0 (hF : FX h.2.1) (k : Q (some (.int 32)) h) : am_wp 60 0 (am_lo 60 [.int (nI 0)]) [] h Q := by
  refine wp_x 1 hF rfl ?_
  refine wp_gt1 rfl (fun q => absurd q (by decide)) (fun _ => ?_)
  refine wp_x 1 hF rfl ?_
  refine wp_ne1 rfl (fun q => absurd rfl q) (fun _ => ?_)
  refine wp_x 2 hF rfl ?_
  exact wp_re rfl rfl k
theorem c_nlz {m e : Nat} (hF : FX h.2.1) (hm : m < 2 ^ 31) (hP : PW m e) (k : Q (some (.int (nI 31 - nI e))) h) : am_wp 60 0 (am_lo 60 [.int (nI m)]) [] h Q := by
  have hpos : 0 < m := Nat.lt_of_lt_of_le (Nat.two_pow_pos e) hP.1
  -- the last row
  have fin : ∀ v n f, PW v f → v < 4 → n + e = 31 + f → am_wp 60 73 [.int (nI v), .int (nI n)] [] h Q := by
    intro v n f hv h4 hn
    refine wp_x 5 hF rfl ?_
    have e1 : am_sh (nI v) 1 = nI (v / 2) := by rw [show (1 : Int32) = nI 1 from rfl, ush_N (by omega) (by omega)]
    have hf : v / 2 = f := by
      have h1 := hv.1
      have h2 := hv.2
      match f with
      | 0 => simp at h2; omega
      | 1 => simp at h1; omega
      | f + 2 =>
        have : 2 ^ 2 ≤ 2 ^ (f + 2) := Nat.pow_le_pow_right (by omega) (by omega)
        omega
    refine wp_re rfl rfl ?_
    show Q (some (.int (nI n - am_sh (nI v) 1))) h
    rw [e1, hf]
    have he31 : e ≤ 31 := by
      rcases Nat.lt_or_ge 31 e with q | q
      · have : 2 ^ 31 ≤ 2 ^ e := Nat.pow_le_pow_right (by omega) (by omega)
        have := hP.1
        omega
      · exact q
    rw [pk_sub (by omega)] at k ⊢
    rw [show n - f = 31 - e by omega]
    exact k
  have st2 : ∀ v n f, PW v f → v < 16 → n + e = 31 + f → f ≤ n → am_wp 60 61 [.int (nI v), .int (nI n)] [] h Q := by
    intro v n f hv h4 hn hfn
    refine wp_x 2 hF rfl ?_
    refine wp_lt2N v 4 rfl rfl rfl (by omega) (by omega) (fun q => fin v n f hv q hn) (fun q => ?_)
    obtain ⟨d1, d2⟩ := hv.div 2 (by omega)
    have en : nI n + (-2) = nI (n - 2) := by
      rw [show (-2 : Int32) = 0 - nI 2 from rfl, ← pk_sub (by omega)]
      rw [Int32.sub_eq_add_neg, Int32.sub_eq_add_neg, Int32.zero_add]
    have e1 : am_sh (nI v) 2 = nI (v / 2 ^ 2) := by rw [show (2 : Int32) = nI 2 from rfl, ush_N (by omega) (by omega)]
    refine wp_x 5 hF rfl ?_
    show am_wp 60 73 [.int (am_sh (nI v) 2), .int (nI n + (-2))] [] h Q
    rw [en, e1]
    exact fin _ _ _ d2 (by omega) (by omega)
  have st4 : ∀ v n f, PW v f → v < 256 → n + e = 31 + f → f ≤ n → am_wp 60 48 [.int (nI v), .int (nI n)] [] h Q := by
    intro v n f hv h4 hn hfn
    refine wp_x 2 hF rfl ?_
    refine wp_lt2N v 16 rfl rfl rfl (by omega) (by omega) (fun q => st2 v n f hv q hn hfn) (fun q => ?_)
    obtain ⟨d1, d2⟩ := hv.div 4 (by omega)
    have en : nI n + (-4) = nI (n - 4) := by
      rw [show (-4 : Int32) = 0 - nI 4 from rfl, ← pk_sub (by omega)]
      rw [Int32.sub_eq_add_neg, Int32.sub_eq_add_neg, Int32.zero_add]
    have e1 : am_sh (nI v) 4 = nI (v / 2 ^ 4) := by rw [show (4 : Int32) = nI 4 from rfl, ush_N (by omega) (by omega)]
    refine wp_x 5 hF rfl ?_
    show am_wp 60 61 [.int (am_sh (nI v) 4), .int (nI n + (-4))] [] h Q
    rw [en, e1]
    exact st2 _ _ _ d2 (by omega) (by omega) (by omega)
  have st8 : ∀ v n f, PW v f → v < 65536 → n + e = 31 + f → f ≤ n → am_wp 60 33 [.int (nI v), .int (nI n)] [] h Q := by
    intro v n f hv h4 hn hfn
    refine wp_x 2 hF rfl ?_
    refine wp_lt2N v 256 rfl rfl rfl (by omega) (by omega) (fun q => st4 v n f hv q hn hfn) (fun q => ?_)
    obtain ⟨d1, d2⟩ := hv.div 8 (by omega)
    have en : nI n + (-8) = nI (n - 8) := by
      rw [show (-8 : Int32) = 0 - nI 8 from rfl, ← pk_sub (by omega)]
      rw [Int32.sub_eq_add_neg, Int32.sub_eq_add_neg, Int32.zero_add]
    have e1 : am_sh (nI v) 8 = nI (v / 2 ^ 8) := by rw [show (8 : Int32) = nI 8 from rfl, ush_N (by omega) (by omega)]
    refine wp_x 5 hF rfl ?_
    show am_wp 60 48 [.int (am_sh (nI v) 8), .int (nI n + (-8))] [] h Q
    rw [en, e1]
    exact st4 _ _ _ d2 (by omega) (by omega) (by omega)
  refine wp_x 1 hF rfl ?_
  refine wp_gt1 rfl (fun _ => ?_) (fun q => absurd (by rw [← nI_0]; exact (nI_ltI (by omega) (by omega)).mpr hpos) q)
  have he31 : e ≤ 30 := by
    rcases Nat.lt_or_ge 30 e with q | q
    · have : 2 ^ 31 ≤ 2 ^ e := Nat.pow_le_pow_right (by omega) (by omega)
      have := hP.1
      omega
    · exact q
  refine wp_x 4 hF rfl ?_
  refine wp_lt2N m 65536 rfl rfl rfl (by omega) (by omega) (fun q => st8 m 31 e hP q (by omega) (by omega)) (fun q => ?_)
  obtain ⟨d1, d2⟩ := hP.div 16 (by omega)
  have e1 : am_sh (nI m) 16 = nI (m / 2 ^ 16) := by rw [show (16 : Int32) = nI 16 from rfl, ush_N (by omega) (by omega)]
  refine wp_x 5 hF rfl ?_
  show am_wp 60 33 [.int (am_sh (nI m) 16), .int (nI 15)] [] h Q
  rw [e1]
  exact st8 _ _ _ d2 (by omega) (by omega) (by omega)
theorem c_crashD (hC : CW mi mr sz A) (hD : DW mi A dk ca) (hok : okC ca) (hl : ca.length ≤ 31) {mask whole : Int32} (k : ∀ mi' mr' A', CW mi' mr' sz A' → A' 6 = [] → (∀ d, ¬ d = 6 → ¬ d = 3 → A' d = A d) → (∀ a j, ¬ a = 5 → ¬ (a = 6 ∧ j = 3) → mi' a j = mi a j) → (∀ j, j < 164 → mi' 5 j = crD mask whole ca dk j) → mr' 2 = mr 2 → mr' 1 = mr 1 → Q (some (.int (nI (crL mask ca.length)))) (mi', mr', sz)) : am_wp 59 0 (am_lo 59 [.ref 4, .int mask, .int whole]) [] (mi, mr, sz) Q := by
  have hc6 : isC 6 := Or.inl rfl
  have hlen : (A 6).length = ca.length := by have := congrArg List.length hD.2; rwa [List.length_map] at this
  obtain ⟨n, hn⟩ : ∃ z, z = ca.length := ⟨_, rfl⟩
  obtain ⟨m, hm⟩ : ∃ z, z = mskR (gb mask) n := ⟨_, rfl⟩
  have hmlt : m < 2 ^ n := by rw [hm]; exact mskR_lt _ _
  have hm31 : m < 2 ^ 31 := Nat.lt_of_lt_of_le hmlt (Nat.pow_le_pow_right (by omega) (by omega))
  have htb : ∀ i, m.testBit i = (decide (i < n) && gb mask i) := fun i => by rw [hm]; exact mskR_tb _ _ _
  have hbt : ∀ i, i < n → bt (nI m) i = bt mask i := by
    intro i hi
    rw [bt_gb _ (by omega), bt_gb _ (by omega), gb_nI _ (by omega), htb i]
    simp [hi]
  obtain ⟨L, hL⟩ : ∃ z, z = lst (bt mask) n := ⟨_, rfl⟩
  have hL32 : L < 33 := by rw [hL]; have := lst_le (bt mask) n; omega
  have loop : ∀ (l : List Nat) (c : Nat) (m1 : Nat → Nat → Int32) (r1 : Nat → Nat → Nat) (A1 : Nat → List Nat) (dd : Nat → Int32) (v7 : Value), c + l.length = n → A1 6 = l → CW m1 r1 sz A1 → okC (l.map (ent mi)) → (∀ d, ¬ d = 6 → ¬ d = 3 → A1 d = A d) → (∀ a j, ¬ a = 5 → ¬ (a = 6 ∧ j = 3) → m1 a j = mi a j) → (∀ j, j < 164 → m1 5 j = dd j) → crD mask whole ca dk = crS (bt mask) (crG mask whole n) c (l.map (ent mi)) dd → r1 2 = mr 2 → r1 1 = mr 1 → am_wp 59 29 [.ref 4, .int mask, .int whole, .int (nI m), .int (nI L - 1), .int (nI (crL mask c)), .int (nI c), v7] [] (m1, r1, sz) Q := by
    intro l
    induction l with
    | nil =>
      intro c m1 r1 A1 dd v7 hc hA W ho h1 h2 h3 h4 h5 h6
      have hc' : c = n := by simpa using hc
      refine wp_x 3 W.1 rfl ?_
      show am_wp 59 36 _ [.int (m1 6 3)] _ _
      rw [(W.2.2.2.1 6 hc6).2.2, hA]
      refine wp_le1 rfl (fun _ => ?_) (fun q => absurd (by decide) q)
      refine wp_x 1 W.1 rfl ?_
      have kk := k m1 r1 A1 W hA h1 h2 (by rw [h4]; exact h3) h5 h6
      rw [← hn, ← hc'] at kk
      exact wp_re rfl rfl kk
    | cons s r ih =>
      intro c m1 r1 A1 dd v7 hc hA W ho h1 h2 h3 h4 h5 h6
      simp only [List.length_cons] at hc
      have hsA : s ∈ A1 6 := by rw [hA]; exact List.mem_cons_self
      obtain ⟨s1, s2, s3, s4⟩ := W.ok hsA
      refine wp_x 3 W.1 rfl ?_
      show am_wp 59 36 _ [.int (m1 6 3)] _ _
      rw [(W.2.2.2.1 6 hc6).2.2, hA]
      refine wp_le1 rfl (fun q => absurd q (nI_nle (by simp) (by simp only [List.length_cons]; omega))) (fun _ => ?_)
      refine wp_x 2 W.1 rfl ?_
      refine wp_ca rfl rfl ?_
      refine c_drop W hc6 hA (fun r2 W2 g2 g1 => ?_)
      have hes : ent (am_u2 m1 6 3 (m1 6 3 - 1)) s = ent mi s := by
        have e1 : am_u2 m1 6 3 (m1 6 3 - 1) s 1 = mi s 1 := by rw [sd_u2r _ _ _ _ (by omega), h2 s 1 (by omega) (by omega)]
        have e2 : am_u2 m1 6 3 (m1 6 3 - 1) (s + 1) = mi (s + 1) := by
          funext j
          rw [sd_u2r _ _ _ _ (by omega), h2 (s + 1) j (by omega) (by omega)]
        simp only [ent, e1, e2]
      have hoe := ho (ent mi s) (by simp)
      have hW2s : shS r2 s := (W2.ok (c := 3) (s := s) (by rw [fu_s]; exact List.mem_cons_self)).sh
      rw [List.map_cons, crS] at h4
      have off : ∀ a j, ¬ a = 5 → ¬ (a = 6 ∧ j = 3) → am_u2 m1 6 3 (m1 6 3 - 1) a j = mi a j := by
        intro a j y1 y2
        have : am_u2 m1 6 3 (m1 6 3 - 1) a j = m1 a j := if_neg y2
        rw [this]; exact h2 a j y1 y2
      refine wp_x 6 W2.1 rfl ?_
      refine wp_ne1 rfl (fun q => ?_) (fun q => ?_)
      · have hb : bt mask c = true := by
          rw [← hbt c (by omega)]
          exact decide_eq_true q
        rw [if_pos hb] at h4
        have go : ∀ w, w ≤ 4 → crG mask whole n c = w → am_wp 59 87 [.ref 4, .int mask, .int whole, .int (nI m), .int (nI L - 1), .int (nI (crL mask c)), .int (nI c), .ref s] [.int (nI w), .ref s, .ref 4] (am_u2 m1 6 3 (m1 6 3 - 1), r2, sz) Q := by
          intro w hw hg
          refine wp_ca rfl rfl ?_
          refine c_settleC (dk := dd) (sec := (ent mi s).1.toNatClampNeg) (n := w) W2.1 hW2s (by omega) ?_ hoe.2 hw (fun j hj => by rw [sd_u2r _ _ _ _ (by decide)]; exact h3 j hj) (fun m3 f1 f2 => ?_)
          · rw [← hoe.1, ← hes]; rfl
          · refine wp_x 2 W2.1 rfl ?_
            rw [hes] at f2
            rw [hg] at h4
            have := ih (c + 1) m3 r2 _ (stl dd (ent mi s) w) (.ref s) (by omega) (by rw [fu_o _ _ (by decide), fu_s]) (W2.mi (fun c hc => by rw [f1 c (by rcases hc with rfl | rfl | rfl | rfl <;> decide)])) (fun e he => ho e (List.mem_cons_of_mem _ he)) (fun d y1 y2 => by rw [fu_o _ _ y2, fu_o _ _ y1]; exact h1 d y1 y2) (fun a j y1 y2 => by rw [f1 a y1]; exact off a j y1 y2) f2 h4 (g2.trans h5) (g1.trans h6)
            rw [show crL mask (c + 1) = crL mask c from if_neg (by simp [hb]), ← nI_1] at this
            exact this
        refine wp_x 4 W2.1 rfl ?_
        refine wp_ne2 rfl (fun q1 => ?_) (fun q1 => ?_)
        · refine wp_x 1 W2.1 rfl ?_
          refine go 4 (by omega) ?_
          unfold crG
          rw [if_neg]
          rintro ⟨z, -⟩
          exact q1 ((m1_eq (by omega) (by omega)).mpr (by rw [hL]; exact z))
        · have hcL : c + 1 = L := (m1_eq (by omega) (by omega)).mp q1
          refine wp_x 1 W2.1 rfl ?_
          refine wp_lt1 rfl (fun q2 => ?_) (fun q2 => ?_)
          · refine wp_x 1 W2.1 rfl ?_
            refine go 4 (by omega) ?_
            unfold crG
            rw [if_neg]
            rintro ⟨-, z, -⟩
            exact absurd q2 (i_nlt.mpr z)
          · refine wp_x 2 W2.1 rfl ?_
            refine wp_ge2 rfl (fun q3 => ?_) (fun q3 => ?_)
            · refine wp_x 1 W2.1 rfl ?_
              refine go 4 (by omega) ?_
              unfold crG
              rw [if_neg]
              rintro ⟨-, -, z⟩
              exact absurd ((i_le_lt whole 3 (by omega)).mp q3) (i_nlt.mpr z)
            · obtain ⟨w, hw, ew⟩ := rng_of (N := 4) (by omega) q2 q3
              refine wp_x 2 W2.1 rfl ?_
              have hg : crG mask whole n c = w := by
                unfold crG
                have h3 : whole ≤ 3 := by
                  rw [ew]
                  exact (nI_leI (a := w) (b := 3) (by omega) (by omega)).mpr (by omega)
                rw [if_pos ⟨by rw [← hL]; exact hcL, i_nlt.mp q2, h3⟩, ew, nI_clamp (by omega)]
              have := go w (by omega) hg
              rw [← ew] at this
              exact this
      · have hb : bt mask c = false := by
          rw [← hbt c (by omega)]
          exact decide_eq_false (fun z => z q)
        rw [if_neg (by rw [hb]; decide)] at h4
        refine wp_x 4 W2.1 rfl ?_
        have := ih (c + 1) _ r2 _ dd (.ref s) (by omega) (by rw [fu_o _ _ (by decide), fu_s]) W2 (fun e he => ho e (List.mem_cons_of_mem _ he)) (fun d y1 y2 => by rw [fu_o _ _ y2, fu_o _ _ y1]; exact h1 d y1 y2) off (fun j hj => by rw [sd_u2r _ _ _ _ (by decide)]; exact h3 j hj) h4 (g2.trans h5) (g1.trans h6)
        rw [show crL mask (c + 1) = crL mask c + 1 from if_pos (by simp [hb]), ← nI_1, ← nI_1] at this
        exact this
  refine wp_x 12 hC.1 rfl ?_
  show am_wp 59 17 [.ref 4, .int mask, .int whole, .int (mask &&& ((1 : Int32) <<< (mi 6 3 &&& 31) - 1)), .long 0, .long 0, .long 0, .long 0] [.int (mask &&& ((1 : Int32) <<< (mi 6 3 &&& 31) - 1)), .int 31] (mi, mr, sz) Q
  rw [(hC.2.2.2.1 6 hc6).2.2, hlen, ← hn, surv mask (by omega), ← hm]
  have start : ∀ x : Int32, (31 : Int32) - x = nI L - 1 → am_wp 59 (17 + 3) [.ref 4, .int mask, .int whole, .int (nI m), .long 0, .long 0, .long 0, .long 0] [.int x, .int 31] (mi, mr, sz) Q := by
    intro x hx
    refine wp_x 6 hC.1 rfl ?_
    show am_wp 59 29 [.ref 4, .int mask, .int whole, .int (nI m), .int (31 - x), .int (nI (crL mask 0)), .int (nI 0), .long 0] [] (mi, mr, sz) Q
    rw [hx]
    exact loop (A 6) 0 mi mr A dk _ (by omega) rfl hC (by rw [hD.2]; exact hok) (fun _ _ _ => rfl) (fun _ _ _ _ => rfl) hD.1 (by rw [hD.2, hn]; rfl) rfl rfl
  have hpb : ∀ j, j < n → bt mask j = m.testBit j := fun j hj => by rw [htb j, bt_gb _ (by omega)]; simp [hj]
  rcases Nat.eq_zero_or_pos m with h0 | h0
  · rw [h0]
    rw [h0] at start
    refine wp_ca rfl rfl ?_
    refine c_nlz0 hC.1 (start 32 ?_)
    have : L = 0 := by
      rw [hL]
      refine lst_none n (fun j hj => ?_)
      rw [hpb j hj, h0, Nat.zero_testBit]
    rw [this]; rfl
  · obtain ⟨e, he⟩ := PW_ex h0
    have hen : e < n := by
      rcases Nat.lt_or_ge e n with q | q
      · exact q
      · have : 2 ^ n ≤ 2 ^ e := Nat.pow_le_pow_right (by omega) q
        have := he.1
        omega
    refine wp_ca rfl rfl ?_
    refine c_nlz hC.1 hm31 he (start _ ?_)
    have : L = e + 1 := by
      rw [hL]
      refine lst_eq n hen ?_ (fun j y1 y2 => ?_)
      · rw [hpb e hen, Nat.testBit_eq_decide_div_mod_eq]
        have : m / 2 ^ e = 1 := by
          have h1 := he.1
          have h2 := he.2
          rw [Nat.pow_succ] at h2
          exact Nat.div_eq_of_lt_le (by omega) (by omega)
        rw [this]; rfl
      · rw [hpb j y2]
        exact Nat.testBit_lt_two_pow (Nat.lt_of_lt_of_le he.2 (Nat.pow_le_pow_right (by omega) (by omega)))
    rw [this, nI_pred, show (31 : Int32) = nI 31 from rfl, pk_sub (by omega), pk_sub (by omega)]
    congr 1; omega
end CRA
end
section
/-! THE COMPONENT: its state; the end of the jobs -/
def CF (mi mi' : Nat → Nat → Int32) : Prop := ∀ a, a = 1 ∨ (23 ≤ a ∧ a < 34) → mi' a = mi a
theorem CF.rfl' {mi : Nat → Nat → Int32} : CF mi mi := fun _ _ => rfl
theorem CF.trans {m1 m2 m3 : Nat → Nat → Int32} (h1 : CF m1 m2) (h2 : CF m2 m3) : CF m1 m3 := fun a ha => (h2 a ha).trans (h1 a ha)
def jbA (jb : Nat) : Nat := if jb = 2 then 12 else if jb = 3 then 14 else if jb = 4 then 16 else 0
abbrev Vt : Type := Bool × Int32 × Nat × Nat
abbrev It : Type := (Nat → Nat) × (Nat → Int32) × (Nat → Bool) × (Nat → Int32)
def CM7 (mi : Nat → Nat → Int32) (v : Vt) (g : It) : Prop := (mi 7 0 = if v.1 = true then 1 else 0) ∧ mi 7 1 = v.2.1 ∧ mi 7 2 = nI v.2.2.1 ∧ mi 7 3 = nI v.2.2.2 ∧ mi 8 1 = nI (msk (k1 g.1)) ∧ mi 7 6 = nI (msk (k2 g.1)) ∧ mi 10 1 = nI (msk g.2.2.1) ∧ (∀ j, j < 64 → mi 9 j = g.2.1 j) ∧ ∀ j, j < 64 → mi 11 j = g.2.2.2 j
def PL (mi : Nat → Nat → Int32) (A : Nat → List Nat) (P : Nat) (pl : List En) : Prop := ∀ X, X = 13 ∨ X = 15 ∨ X = 17 → (A X).map (ent mi) = if X = P then pl else []
def CJ (mi : Nat → Nat → Int32) (mr : Nat → Nat → Nat) (A : Nat → List Nat) (kd : Nat → Nat) (jb lf : Nat) (pl : List En) (rn : Int32) (rs : Nat) : Prop := mr 2 7 = jbA jb ∧ PL mi A (jbA jb + 1) pl ∧ (¬ jb = 0 → mi (jbA jb) 3 = nI lf) ∧ (jb = 2 → mi 12 4 = nI (rlen kd)) ∧ (jb = 4 → mi 16 6 = rn ∧ mi 16 5 = nI rs)
def CRA (mi : Nat → Nat → Int32) (mr : Nat → Nat → Nat) (sz : Nat) (A : Nat → List Nat) (s : Sp) : Prop := match s with
  | ((dk, ca), v, g, (jb, lf, pl, tot, rn, rs)) => CW mi mr sz A ∧ DW mi A dk ca ∧ CM7 mi v g ∧ CJ mi mr A g.1 jb lf pl rn rs
theorem CM7.cg {mi mi' : Nat → Nat → Int32} {v : Vt} {g : It} (h : ∀ a, 7 ≤ a → a ≤ 11 → mi' a = mi a) (hM : CM7 mi v g) : CM7 mi' v g := by
  unfold CM7 at *
  rw [h 7 (by omega) (by omega), h 8 (by omega) (by omega), h 9 (by omega) (by omega), h 10 (by omega) (by omega), h 11 (by omega) (by omega)]
  exact hM
def isJ (J : Nat) : Prop := J = 12 ∨ J = 14 ∨ J = 16
theorem isJ.c {J : Nat} (h : isJ J) : isC (J + 1) := by rcases h with rfl | rfl | rfl <;> simp [isC]
theorem isJ.tg {J : Nat} (h : isJ J) : am_sub (tg_ J) 20 = true := by rcases h with rfl | rfl | rfl <;> rfl
theorem isJ.lt {J : Nat} (h : isJ J) : 12 ≤ J ∧ J ≤ 16 ∧ ¬ J = 13 ∧ ¬ J = 15 := by rcases h with rfl | rfl | rfl <;> decide
theorem FX.j0 {mr : Nat → Nat → Nat} (h : FX mr) {J : Nat} (hJ : isJ J) : mr J 0 = 4 := by rcases hJ with rfl | rfl | rfl <;> exact h _ _ _ rfl
theorem FX.j2 {mr : Nat → Nat → Nat} (h : FX mr) {J : Nat} (hJ : isJ J) : mr J 2 = J + 1 := by rcases hJ with rfl | rfl | rfl <;> exact h _ _ _ rfl
/-- what an add gives -/
def AD (c s : Nat) (mi : Nat → Nat → Int32) (mr : Nat → Nat → Nat) (sz : Nat) (A : Nat → List Nat) (mi' : Nat → Nat → Int32) (mr' : Nat → Nat → Nat) (sz' : Nat) (A' : Nat → List Nat) : Prop := CW mi' mr' sz' A' ∧ A' c = A c ++ [s] ∧ (∀ d, ¬ d = c → ¬ d = 3 → A' d = A d) ∧ (∀ a j, a < 34 → ¬ (a = c ∧ j = 3) → mi' a j = mi a j) ∧ (∀ d, ¬ d = 3 → (A d).map (ent mi') = (A d).map (ent mi)) ∧ okS mr' sz' s ∧ mr' 2 = mr 2 ∧ mr' 1 = mr 1 ∧ sz ≤ sz' ∧ sz' ≤ sz + 2
theorem AD.w {c s : Nat} {mi mi' mi3 : Nat → Nat → Int32} {mr mr' : Nat → Nat → Nat} {sz sz' : Nat} {A A' : Nat → List Nat} (hc : isC c) (h : AD c s mi mr sz A mi' mr' sz' A') (e : ∀ a, ¬ a = s + 1 → mi3 a = mi' a) : AD c s mi mr sz A mi3 mr' sz' A' := by
  obtain ⟨h1, h2, h3, h4, h5, h6, h7⟩ := h
  obtain ⟨l1, l2, l3, l4⟩ := hc.lt
  refine ⟨h1.mi (fun d hd => by rw [e d (by have := hd.lt.1; have := h6.1; omega)]), h2, h3, fun a j y1 y2 => by rw [e a (by have := h6.1; omega)]; exact h4 a j y1 y2, fun d hd => ?_, h6, h7⟩
  rw [← h5 d hd]
  refine ent_map (fun x hx => ?_)
  have hxs : ¬ x = s := by
    intro z
    by_cases hdc : d = c
    · subst hdc
      have := h1.2.2.2.2.2.1 d
      rw [h2] at this
      exact (List.nodup_append.mp this).2.2 x hx s (by simp) z
    · have hx' : x ∈ A' d := by rw [h3 d hdc hd]; exact hx
      have hs' : s ∈ A' c := by rw [h2]; simp
      exact hdc (h1.2.2.2.2.2.2 d c x hx' (by rw [z]; exact hs'))
  have hok : okS mr' sz' x := by
    by_cases hdc : d = c
    · subst hdc
      exact h1.ok (c := d) (by rw [h2]; exact List.mem_append_left _ hx)
    · exact h1.ok (c := d) (by rw [h3 d hdc hd]; exact hx)
  have := h6.2.1
  have := hok.2.1
  exact ⟨by rw [e x (by omega)], by rw [e (x + 1) (by omega)]⟩
section JOB
variable {mi : Nat → Nat → Int32} {mr : Nat → Nat → Nat} {sz : Nat} {Q : Option Value → am_H → Prop} {A : Nat → List Nat} {dk : Nat → Int32} {ca : List En} {c : Nat} {v : Vt} {g : It}
theorem c_add' (hC : CW mi mr sz A) (hc : isC c) {sec : Int32} (k : ∀ s mi' mr' sz' A', AD c s mi mr sz A mi' mr' sz' A' → mi' s 1 = sec → Q (some (.ref s)) (mi', mr', sz')) : am_wp 24 0 (am_lo 24 [.ref c, .int sec]) [] (mi, mr, sz) Q :=
  c_add hC hc (fun s mi' mr' sz' A' f1 f2 f3 f4 f5 f6 f7 f8 f9 f10 f11 => k s mi' mr' sz' A' ⟨f1, f2, f3, fun a j y1 y2 => f4 a j (by have := f7.1; omega) (by have := f7.1; omega) y2, f6, f7, f8, f9, f10, f11⟩ f5)
theorem c_write' (hC : CW mi mr sz A) {sec : Int32} (k : ∀ s mi' mr' sz' A', AD 6 s mi mr sz A mi' mr' sz' A' → mi' s 1 = sec → Q (some (.ref s)) (mi', mr', sz')) : am_wp 23 0 (am_lo 23 [.ref 4, .int sec]) [] (mi, mr, sz) Q :=
  c_write hC (fun s mi' mr' sz' A' f1 f2 f3 f4 f5 f6 f7 f8 f9 f10 f11 => k s mi' mr' sz' A' ⟨f1, f2, f3, fun a j y1 y2 => f4 a j (by have := f7.1; omega) (by have := f7.1; omega) y2, f6, f7, f8, f9, f10, f11⟩ f5)
theorem c_writeNext {J s : Nat} {r : List Nat} (hC : CW mi mr sz A) (hJ : isJ J) (hA : A (J + 1) = s :: r) (k : ∀ mi' mr' sz' A', CW mi' mr' sz' A' → (A' (J + 1)).map (ent mi') = r.map (ent mi) → (A' 6).map (ent mi') = (A 6).map (ent mi) ++ [ent mi s] → (∀ d, ¬ d = J + 1 → ¬ d = 6 → ¬ d = 3 → (A' d).map (ent mi') = (A d).map (ent mi)) → (∀ a j, a < 34 → ¬ (a = J + 1 ∧ j = 3) → ¬ (a = 6 ∧ j = 3) → mi' a j = mi a j) → mr' 2 = mr 2 → mr' 1 = mr 1 → sz ≤ sz' → sz' ≤ sz + 2 → Q none (mi', mr', sz')) : am_wp 51 0 (am_lo 51 [.ref J]) [] (mi, mr, sz) Q := by
  have hP := hJ.c
  have hF := hC.1
  have jl := hJ.lt
  have hs : s ∈ A (J + 1) := by rw [hA]; exact List.mem_cons_self
  obtain ⟨s1, s2, s3, s4⟩ := hC.ok hs
  refine wp_x 1 hF rfl ?_
  refine wp_gr rfl hJ.tg (hF.j2 hJ) ?_
  refine wp_cv rfl rfl (tgC hP) rfl rfl ⟨by simp, (by decide : 1 ≤ pg_ml 48)⟩ ?_
  refine c_drop hC hP hA (fun r2 W2 g2 g1 => ?_)
  obtain ⟨m2, hm2⟩ : ∃ z, z = am_u2 mi (J + 1) 3 (mi (J + 1) 3 - 1) := ⟨_, rfl⟩
  rw [← hm2] at W2 ⊢
  have o2 : ∀ a, ¬ a = J + 1 → m2 a = mi a := fun a ha => by rw [hm2, sd_u2r _ _ _ _ ha]
  have hF2 := W2.1
  obtain ⟨q1, q2, q3, q4⟩ := W2.ok (c := 3) (s := s) (by rw [fu_s]; exact List.mem_cons_self)
  refine wp_x 2 hF2 rfl ?_
  refine wp_gi rfl (by decide) (by rw [tgS s1 s2]; rfl) ?_
  refine wp_x 2 hF2 rfl ?_
  refine wp_gr rfl (by rw [tgS s1 s2]; rfl) q4 ?_
  refine wp_x 1 hF2 rfl ?_
  refine wp_al 0 rfl rfl rfl (by omega) (tgW s1 s2) (by rw [lnW s1 s2]; omega) ?_
  refine wp_x 2 hF2 rfl ?_
  refine wp_gr rfl (by rw [tgS s1 s2]; rfl) q4 ?_
  refine wp_x 1 hF2 rfl ?_
  refine wp_al 1 rfl rfl rfl (by omega) (tgW s1 s2) (by rw [lnW s1 s2]; omega) ?_
  refine wp_x 2 hF2 rfl ?_
  refine wp_gr rfl (by rw [tgS s1 s2]; rfl) q4 ?_
  refine wp_x 1 hF2 rfl ?_
  refine wp_al 2 rfl rfl rfl (by omega) (tgW s1 s2) (by rw [lnW s1 s2]; omega) ?_
  refine wp_x 2 hF2 rfl ?_
  refine wp_gr rfl (by rw [tgS s1 s2]; rfl) q4 ?_
  refine wp_x 1 hF2 rfl ?_
  refine wp_al 3 rfl rfl rfl (by omega) (tgW s1 s2) (by rw [lnW s1 s2]; omega) ?_
  refine wp_x 2 hF2 rfl ?_
  refine wp_gr rfl hJ.tg (hF2.j0 hJ) ?_
  refine wp_x 1 hF2 rfl ?_
  refine wp_ca rfl rfl ?_
  refine c_write' W2 (fun s' m3 r3 sz3 A3 hAD hsec => ?_)
  have hF3 := hAD.1.1
  refine wp_x 4 hF3 rfl ?_
  refine wp_cv rfl rfl (tgS hAD.2.2.2.2.2.1.1 hAD.2.2.2.2.2.1.2.1) rfl rfl ⟨by simp, (by decide : 5 ≤ pg_ml 32)⟩ ?_
  refine c_fill hF3 hAD.2.2.2.2.2.1.sh (fun m4 f1 f2 => ?_)
  have hAD4 := hAD.w (Or.inl rfl) f1
  obtain ⟨h1, h2, h3, h4, h5, h6, h7, h8, h9, h10⟩ := hAD4
  have aP : fu (fu A (J + 1) r) 3 (s :: A 3) (J + 1) = r := by rw [fu_o _ _ (by omega), fu_s]
  have a6 : fu (fu A (J + 1) r) 3 (s :: A 3) 6 = A 6 := by rw [fu_o _ _ (by omega), fu_o _ _ (by omega)]
  have ex : ∀ {l : List Nat}, (∀ x ∈ l, 34 ≤ x) → l.map (ent m2) = l.map (ent mi) := fun hl => ent_map (fun x hx => by
    have := hl x hx
    exact ⟨by rw [o2 x (by omega)], by rw [o2 (x + 1) (by omega)]⟩)
  have es : ent m4 s' = ent mi s := by
    have e1 : m4 s' 1 = mi s 1 := by
      rw [f1 s' (by omega), hsec, o2 s (by omega)]
    have e2 : wds m4 (s' + 1) 0 = wds mi (s + 1) 0 := by
      rw [f2]
      have : m2 (s + 1) = mi (s + 1) := o2 _ (by omega)
      simp only [this]; rfl
    show (m4 s' 1, wds m4 (s' + 1) 0) = (mi s 1, wds mi (s + 1) 0)
    rw [e1, e2]
  refine wp_re rfl rfl (k m4 r3 sz3 A3 h1 ?_ ?_ (fun d y1 y2 y3 => ?_) (fun a j y1 y2 y3 => ?_) (h7.trans g2) (h8.trans g1) h9 h10)
  · have hd := h5 (J + 1) (by omega)
    rw [aP] at hd
    rw [h3 (J + 1) (by omega) (by omega), aP, hd]
    exact ex (fun x hx => (hC.ok (c := J + 1) (by rw [hA]; exact List.mem_cons_of_mem _ hx)).1)
  · have hd := h5 6 (by omega)
    rw [a6] at hd h2
    rw [h2, List.map_append, hd, ex (fun x hx => (hC.ok hx).1), List.map_cons, es, List.map_nil]
  · have hd := h5 d y3
    have ad : fu (fu A (J + 1) r) 3 (s :: A 3) d = A d := by rw [fu_o _ _ y3, fu_o _ _ y1]
    rw [ad] at hd
    rw [h3 d y2 y3, ad, hd]
    exact ex (fun x hx => (hC.ok hx).1)
  · rw [h4 a j y1 y3, hm2]
    exact if_neg y2
theorem c_clearM (hF : FX mr) (k : ∀ mi' : Nat → Nat → Int32, (∀ a, ¬ a = 7 → ¬ a = 8 → ¬ a = 10 → mi' a = mi a) → mi' 7 0 = mi 7 0 → mi' 7 1 = mi 7 1 → mi' 7 2 = mi 7 2 → mi' 7 3 = 0 → mi' 7 6 = 0 → mi' 8 1 = 0 → mi' 10 1 = 0 → Q none (mi', mr, sz)) : am_wp 55 0 (am_lo 55 [.ref 7]) [] (mi, mr, sz) Q := by
  refine wp_x 14 hF rfl ?_
  refine wp_re rfl rfl (k _ (fun a h1 h2 h3 => ?_) rfl rfl rfl rfl rfl rfl rfl)
  show am_u2 (am_u2 (am_u2 (am_u2 mi 7 3 0) 8 1 0) 10 1 0) 7 6 0 a = mi a
  rw [sd_u2r _ _ _ _ h1, sd_u2r _ _ _ _ h3, sd_u2r _ _ _ _ h2, sd_u2r _ _ _ _ h1]
theorem msk_false : nI (msk (fun _ => false)) = 0 := by decide +kernel
theorem msk_k1 : nI (msk (k1 (fun _ => 0))) = 0 := by decide +kernel
theorem msk_k2 : nI (msk (k2 (fun _ => 0))) = 0 := by decide +kernel
theorem c_KJend (hF : FX mr) (hM : CM7 mi v g) (k : ∀ mi' : Nat → Nat → Int32, (∀ a, ¬ a = 7 → ¬ a = 10 → mi' a = mi a) → CM7 mi' (v.1, v.2.1, v.2.2.1, 0) (g.1, g.2.1, fun _ => false, g.2.2.2) → Q none (mi', mr, sz)) : am_wp 52 0 (am_lo 52 [.ref 14]) [] (mi, mr, sz) Q := by
  obtain ⟨b1, b2, b3, b4, b5, b6, b7, b8, b9⟩ := hM
  refine wp_x 9 hF rfl ?_
  refine wp_re rfl rfl (k _ (fun a h1 h2 => ?_) ⟨b1, b2, b3, rfl, b5, b6, msk_false.symm, b8, b9⟩)
  show am_u2 (am_u2 mi 10 1 0) 7 3 0 a = mi a
  rw [sd_u2r _ _ _ _ h1, sd_u2r _ _ _ _ h2]
theorem c_RJend (hF : FX mr) (hM : CM7 mi v g) {rn : Int32} {rs : Nat} (h6 : mi 16 6 = rn) (h5 : mi 16 5 = nI rs) (k : ∀ mi' : Nat → Nat → Int32, (∀ a, ¬ a = 7 → ¬ a = 8 → ¬ a = 10 → mi' a = mi a) → CM7 mi' (true, rn, rs, 0) (fun _ => 0, g.2.1, fun _ => false, g.2.2.2) → Q none (mi', mr, sz)) : am_wp 54 0 (am_lo 54 [.ref 16]) [] (mi, mr, sz) Q := by
  obtain ⟨b1, b2, b3, b4, b5, b6, b7, b8, b9⟩ := hM
  refine wp_x 2 hF rfl ?_
  refine wp_ca rfl rfl ?_
  refine c_clearM hF (fun m1 f1 f2 f3 f4 f5 f6 f7 f8 => ?_)
  refine wp_x 14 hF rfl ?_
  have o16 := f1 16 (by decide) (by decide) (by decide)
  refine wp_re rfl rfl (k _ (fun a h1 h2 h3 => ?_) ?_)
  · show am_u2 (am_u2 (am_u2 m1 7 0 1) 7 1 (m1 16 6)) 7 2 (m1 16 5) a = mi a
    rw [sd_u2r _ _ _ _ h1, sd_u2r _ _ _ _ h1, sd_u2r _ _ _ _ h1, f1 a h1 h2 h3]
  · refine ⟨rfl, ?_, ?_, ?_, ?_, ?_, ?_, fun j hj => ?_, fun j hj => ?_⟩
    · show m1 16 6 = rn
      rw [o16]; exact h6
    · show m1 16 5 = nI rs
      rw [o16]; exact h5
    · exact f5
    · exact f7.trans msk_k1.symm
    · exact f6.trans msk_k2.symm
    · exact f8.trans msk_false.symm
    · show m1 9 j = _
      rw [f1 9 (by decide) (by decide) (by decide)]; exact b8 j hj
    · show m1 11 j = _
      rw [f1 11 (by decide) (by decide) (by decide)]; exact b9 j hj
theorem c_CJend {nx us : Nat} (hF : FX mr) (hM : CM7 mi v g) (hk : ∀ b, b < 16 → g.1 b ≤ 2) {r : Nat} (h4 : mi 12 4 = nI r) (hnx : v.2.2.1 = nx) (hnx2 : nx < 24) (hus : v.2.2.2 = us) (hr : us + r ≤ 23) (k : ∀ mi' : Nat → Nat → Int32, (∀ a, ¬ a = 7 → ¬ a = 8 → ¬ a = 10 → ¬ a = 11 → mi' a = mi a) → CM7 mi' (v.1, v.2.1 + 1, (nx + r) % 24, us + r) (fun _ => 0, g.2.1, pdC g.1 g.2.2.1, peC g.1 g.2.1 g.2.2.2) → Q none (mi', mr, sz)) : am_wp 53 0 (am_lo 53 [.ref 12]) [] (mi, mr, sz) Q := by
  obtain ⟨b1, b2, b3, b4, b5, b6, b7, b8, b9⟩ := hM
  obtain ⟨up, nu, nx', us'⟩ := v
  obtain ⟨kd, ru, pd, pe⟩ := g
  have hnx' : nx' = nx := hnx
  have hus' : us' = us := hus
  subst hnx'; subst hus'
  dsimp only at *
  have loop : ∀ d b (m : Nat → Nat → Int32), b + d = 16 → (∀ a, ¬ a = 10 → ¬ a = 11 → m a = mi a) → m 10 1 = nI (msk (fun c => if c < b then pdC kd pd c else pd c)) → (∀ j, j < 64 → m 11 j = if j < 4 * b then peC kd ru pe j else pe j) → am_wp 53 7 [.ref 12, .ref 7, .int (nI b)] [] (m, mr, sz) Q := by
    intro d
    induction d with
    | zero =>
      intro b m hb c1 c2 c3
      have hb' : b = 16 := by omega
      subst hb'
      refine wp_x 2 hF rfl ?_
      refine wp_ge2N 16 16 rfl rfl rfl (by omega) (by omega) (fun _ => ?_) (fun q => absurd q (by omega))
      refine wp_x 29 hF rfl ?_
      have o7 := c1 7 (by decide) (by decide)
      have o12 := c1 12 (by decide) (by decide)
      refine wp_re rfl rfl (k _ (fun a h1 h2 h3 h4 => ?_) ?_)
      · show am_u2 (am_u2 (am_u2 (am_u2 (am_u2 m 8 1 0) 7 6 0) 7 2 _) 7 3 _) 7 1 _ a = mi a
        rw [sd_u2r _ _ _ _ h1, sd_u2r _ _ _ _ h1, sd_u2r _ _ _ _ h1, sd_u2r _ _ _ _ h1, sd_u2r _ _ _ _ h2, c1 a h3 h4]
      · refine ⟨?_, ?_, ?_, ?_, ?_, ?_, ?_, fun j hj => ?_, fun j hj => ?_⟩
        · show m 7 0 = _
          rw [o7]; exact b1
        · show m 7 1 + 1 = _
          rw [o7, b2]
        · show m 7 2 + m 12 4 - (m 7 2 + m 12 4) / 24 * 24 = _
          rw [o7, o12, b3, h4, nI_add, rem24 (by omega)]
        · show m 7 3 + m 12 4 = _
          rw [o7, o12, b4, h4, nI_add]
        · exact msk_k1.symm
        · exact msk_k2.symm
        · show m 10 1 = _
          rw [c2]
          congr 1
        · show m 9 j = _
          rw [c1 9 (by decide) (by decide)]; exact b8 j hj
        · show m 11 j = _
          rw [c3 j hj, if_pos (by omega)]
    | succ d ih =>
      intro b m hb c1 c2 c3
      refine wp_x 2 hF rfl ?_
      refine wp_ge2N b 16 rfl rfl rfl (by omega) (by omega) (fun q => absurd q (by omega)) (fun hb16 => ?_)
      have hk2 := hk b hb16
      refine wp_x 3 hF rfl ?_
      refine wp_ca rfl rfl ?_
      refine c_has (p := k1 kd) hF (Or.inl rfl) (by rw [c1 8 (by decide) (by decide)]; exact b5) hb16 ?_
      refine wp_eq1 rfl (fun q => ?_) (fun q => ?_)
      · have h1 : ¬ kd b = 1 := by have := b01.mp q; simpa [k1] using this
        have pst : ∀ m' : Nat → Nat → Int32, (∀ a, ¬ a = 10 → m' a = m a) → m' 10 1 = nI (msk (fun c => if c < b + 1 then pdC kd pd c else pd c)) → am_wp 53 64 [.ref 12, .ref 7, .int (nI b)] [] (m', mr, sz) Q := by
          intro m' f1 f2
          refine wp_x 2 hF rfl ?_
          have := ih (b + 1) m' (by omega) (fun a y1 y2 => by rw [f1 a y1]; exact c1 a y1 y2) f2 (fun j hj => by
            rw [f1 11 (by decide), c3 j hj]
            by_cases h3 : j < 4 * b
            · rw [if_pos h3, if_pos (by omega)]
            · rw [if_neg h3]
              by_cases h5 : j < 4 * (b + 1)
              · rw [if_pos h5]
                have : j / 4 = b := by omega
                simp only [peC, this, if_neg h1]
              · rw [if_neg h5])
          rw [← nI_1] at this
          exact this
        refine wp_x 6 hF rfl ?_
        show am_wp 53 53 _ [.int ((m 7 6 >>> (nI b &&& 31)) &&& 1)] _ _
        rw [c1 7 (by decide) (by decide), b6, msk_has (k2 kd) hb16]
        refine wp_eq1 rfl (fun q2 => ?_) (fun q2 => ?_)
        · have h2 : ¬ kd b = 2 := by have := b01.mp q2; simpa [k2] using this
          refine pst m (fun _ _ => rfl) ?_
          rw [c2]
          congr 1
          refine msk_congr (fun x hx => ?_)
          by_cases hxb : x = b
          · subst hxb
            rw [if_neg (by omega), if_pos (by omega)]
            have h0 : kd x = 0 := by omega
            simp [pdC, h0]
          · by_cases h3 : x < b
            · rw [if_pos h3, if_pos (by omega)]
            · rw [if_neg h3, if_neg (by omega)]
        · have h2 : kd b = 2 := by have := b10 q2; simpa [k2] using this
          refine wp_x 3 hF rfl ?_
          refine wp_ca rfl rfl ?_
          refine c_dropI (p := fun c => if c < b then pdC kd pd c else pd c) hF (Or.inr rfl) c2 hb16 ?_
          refine pst _ (fun a ha => by rw [sd_u2r _ _ _ _ ha]) ?_
          rw [sd_u2s]
          congr 1
          refine msk_congr (fun x hx => ?_)
          by_cases hxb : x = b
          · subst hxb
            rw [fu_s, if_pos (by omega)]
            simp [pdC, h2]
          · rw [fu_o _ _ hxb]
            by_cases h3 : x < b
            · rw [if_pos h3, if_pos (by omega)]
            · rw [if_neg h3, if_neg (by omega)]
      · have h1 : kd b = 1 := by have := b10 q; simpa [k1] using this
        refine wp_x 9 hF rfl ?_
        show am_wp 53 39 _ [.int (4 * nI b), .ref 9, .int (nI b), .ref 10] _ _
        rw [a40]
        refine wp_ca rfl rfl ?_
        refine c_putI (a0 := 4 * b) (p := fun c => if c < b then pdC kd pd c else pd c) hF (Or.inr rfl) c2 hb16 ⟨rfl, by decide, show 4 * b + 4 ≤ 64 by omega⟩ (fun m' f1 f2 f3 f4 => ?_)
        refine wp_x 3 hF rfl ?_
        have := ih (b + 1) m' (by omega) (fun a y1 y2 => by rw [f1 a y1 y2]; exact c1 a y1 y2) (by
          rw [f3]
          congr 1
          refine msk_congr (fun x hx => ?_)
          by_cases hxb : x = b
          · subst hxb
            rw [fu_s, if_pos (by omega)]
            simp [pdC, h1]
          · rw [fu_o _ _ hxb]
            by_cases h3 : x < b
            · rw [if_pos h3, if_pos (by omega)]
            · rw [if_neg h3, if_neg (by omega)]) (fun j hj => by
          rw [f4 j]
          by_cases h5 : 4 * b ≤ j ∧ j < 4 * b + 4
          · rw [if_pos h5, if_pos (by omega), c1 9 (by decide) (by decide), b8 _ (by omega)]
            have : j / 4 = b := by omega
            simp only [peC, this, if_pos h1]
            congr 1; omega
          · rw [if_neg h5, c3 j hj]
            by_cases h3 : j < 4 * b
            · rw [if_pos h3, if_pos (by omega)]
            · rw [if_neg h3, if_neg (by omega)])
        rw [← nI_1] at this
        exact this
  refine wp_x 5 hF rfl ?_
  refine loop 16 0 mi rfl (fun _ _ _ => rfl) ?_ (fun j hj => by rw [if_neg (by omega)]; exact b9 j hj)
  rw [b7]
  congr 1
end JOB
end
section
/-! THE COMPONENT: act, step -/
section ACT
variable {mi : Nat → Nat → Int32} {mr : Nat → Nat → Nat} {sz : Nat} {Q : Option Value → am_H → Prop} {A : Nat → List Nat} {dk : Nat → Int32} {ca : List En} {up : Bool} {nu : Int32} {nx us : Nat} {kd : Nat → Nat} {ru : Nat → Int32} {pd : Nat → Bool} {pe : Nat → Int32} {jb lf tot : Nat} {pl : List En} {rn : Int32} {rs : Nat}
theorem jbA_J (h : jb = 2 ∨ jb = 3 ∨ jb = 4) : isJ (jbA jb) := by rcases h with rfl | rfl | rfl <;> simp [isJ, jbA]
/-- a job's action -/
theorem c_act (hC : CRA mi mr sz A ((dk, ca), (up, nu, nx, us), (kd, ru, pd, pe), (jb, lf, pl, tot, rn, rs))) (hW : WF ((dk, ca), (up, nu, nx, us), (kd, ru, pd, pe), (jb, lf, pl, tot, rn, rs))) (hj : jb = 2 ∨ jb = 3 ∨ jb = 4) (k : ∀ mi' mr' sz' A', CW mi' mr' sz' A' → DW mi' A' (aDk dk ca lf pl) (aCa ca lf pl) → CM7 mi' (if lf = 1 then eV jb up nu nx us kd rn rs else (up, nu, nx, us)) (if lf = 1 then eI jb kd ru pd pe else (kd, ru, pd, pe)) → PL mi' A' (jbA jb + 1) (aPl lf pl) → mi' (jbA jb) 3 = nI (lf - 1) → mi' 12 4 = mi 12 4 → mi' 16 6 = mi 16 6 → mi' 16 5 = mi 16 5 → CF mi mi' → mr' 2 = mr 2 → mr' 1 = mr 1 → sz ≤ sz' → sz' ≤ sz + 2 → Q none (mi', mr', sz')) : am_wp 46 0 (am_lo 46 [.ref (jbA jb)]) [] (mi, mr, sz) Q := by
  obtain ⟨hCW, hDW, hM, hjob, hPL, hleft, hrow, hrec⟩ := hC
  obtain ⟨w1, w2, w3, w4, w5, w6, w7, w8, w9, w10, w11, w12⟩ := hW
  have hj0 : ¬ jb = 0 := by omega
  have hleft := hleft hj0
  have hJ := jbA_J hj
  obtain ⟨J, hJe⟩ : ∃ z, z = jbA jb := ⟨_, rfl⟩
  rw [← hJe] at hJ hPL hleft k ⊢
  have jl := hJ.lt
  have hF := hCW.1
  have hP3 : J + 1 = 13 ∨ J + 1 = 15 ∨ J + 1 = 17 := by rcases hJ with z | z | z <;> omega
  have hPl : (A (J + 1)).map (ent mi) = pl := by rw [hPL (J + 1) hP3, if_pos rfl]
  have hlen : (A (J + 1)).length = pl.length := by have := congrArg List.length hPl; rwa [List.length_map] at this
  have hcnt : mi (J + 1) 3 = nI pl.length := by rw [(hCW.2.2.2.1 (J + 1) hJ.c).2.2, hlen]
  have hJR := w12
  have hlf : 1 ≤ lf ∧ lf < 60 ∧ (fshB lf pl = false → 1 ≤ pl.length) := by
    have hph : ∀ {FL : List En}, phs FL ca lf pl → 1 ≤ lf ∧ lf < 60 ∧ (fshB lf pl = false → 1 ≤ pl.length) := by
      rintro FL ⟨-, ⟨g1, g2, -⟩ | ⟨g1, g2, -⟩ | ⟨g1, g2, -⟩⟩
      · exact ⟨by omega, by omega, fun _ => g2⟩
      · exact ⟨by omega, by omega, fun _ => by omega⟩
      · exact ⟨by omega, by omega, fun q => by simp [fshB, g1] at q⟩
    rcases w12 with ⟨z, -⟩ | ⟨z, y1, y2, y3, y4⟩ | ⟨z, y1, y2, y3⟩ | ⟨z, y1, y2, y3, y4, y5⟩
    · exact absurd z hj0
    · exact hph y4
    · exact hph y3
    · rcases y5 with ⟨p, f, hH, hblk, ht, hlf, hph', hE⟩ | ⟨q, q2, -⟩
      · exact hph hph'
      · exact ⟨by omega, by omega, fun z => by simp [fshB, q] at z⟩
  obtain ⟨l1, l2, l3⟩ := hlf
  have hpl31 : pl.length ≤ 31 := by omega
  -- behind the flush or the write
  have tail : ∀ m1 r1 sz1 A1, CW m1 r1 sz1 A1 → DW m1 A1 (aDk dk ca lf pl) (aCa ca lf pl) → CM7 m1 (up, nu, nx, us) (kd, ru, pd, pe) → PL m1 A1 (J + 1) (aPl lf pl) → (∀ a j, a < 34 → ¬ a = 5 → ¬ (a = J + 1 ∧ j = 3) → ¬ (a = 6 ∧ j = 3) → m1 a j = mi a j) → r1 2 = mr 2 → r1 1 = mr 1 → sz ≤ sz1 → sz1 ≤ sz + 2 → ∀ x, am_wp 46 51 [.ref J, x] [] (m1, r1, sz1) Q := by
    intro m1 r1 sz1 A1 W1 D1 M1 P1 f1 g1 g2 g3 g4 x
    have hF1 := W1.1
    have eL : m1 J 3 - 1 = nI (lf - 1) := by
      rw [f1 J 3 (by omega) (by omega) (by omega) (by omega), hleft]
      rw [show (1 : Int32) = nI 1 from rfl, pk_sub l1]
    refine wp_x 2 hF1 rfl ?_
    refine wp_gi rfl (by decide) hJ.tg ?_
    refine wp_x 2 hF1 rfl ?_
    refine wp_pi rfl hJ.tg ?_
    refine wp_x 1 hF1 rfl ?_
    refine wp_gi rfl (by decide) hJ.tg ?_
    rw [sd_u2s]
    dsimp only
    rw [eL]
    obtain ⟨m2, hm2⟩ : ∃ z, z = am_u2 m1 J 3 (nI (lf - 1)) := ⟨_, rfl⟩
    rw [← hm2]
    have o2 : ∀ a, ¬ a = J → m2 a = m1 a := fun a ha => by rw [hm2, sd_u2r _ _ _ _ ha]
    have hcC : ∀ c, isC c → ¬ c = J := fun c hc => by rcases hc with z | z | z | z <;> omega
    have W2 : CW m2 r1 sz1 A1 := W1.mi (fun c hc => by rw [o2 c (hcC c hc)])
    have em : ∀ d, (A1 d).map (ent m2) = (A1 d).map (ent m1) := fun d => ent_map (fun y hy => by
      have := (W1.ok hy).1
      exact ⟨by rw [o2 y (by omega)], by rw [o2 (y + 1) (by omega)]⟩)
    have D2 : DW m2 A1 (aDk dk ca lf pl) (aCa ca lf pl) := ⟨fun j hj => by rw [o2 5 (by omega)]; exact D1.1 j hj, by rw [em 6]; exact D1.2⟩
    have M2 : CM7 m2 (up, nu, nx, us) (kd, ru, pd, pe) := M1.cg (fun a h1 h2 => o2 a (by omega))
    have P2 : PL m2 A1 (J + 1) (aPl lf pl) := fun X hX => by rw [em X]; exact P1 X hX
    have f2 : ∀ a j, a < 34 → ¬ a = 5 → ¬ (a = J + 1 ∧ j = 3) → ¬ (a = 6 ∧ j = 3) → ¬ (a = J ∧ j = 3) → m2 a j = mi a j := by
      intro a j y1 y2 y3 y4 y5
      rw [hm2]
      have : am_u2 m1 J 3 (nI (lf - 1)) a j = m1 a j := if_neg y5
      rw [this]; exact f1 a j y1 y2 y3 y4
    have cf2 : CF mi m2 := fun a ha => funext fun j => f2 a j (by omega) (by omega) (by omega) (by omega) (by omega)
    refine wp_ne1 rfl (fun q => ?_) (fun q => ?_)
    · have h1 : ¬ lf = 1 := fun z => q (by rw [z]; rfl)
      rw [if_neg h1, if_neg h1] at k
      exact wp_re rfl rfl (k m2 r1 sz1 A1 W2 D2 M2 P2 (by rw [hm2, sd_u2s]) (f2 12 4 (by omega) (by omega) (by omega) (by omega) (by omega)) (f2 16 6 (by omega) (by omega) (by omega) (by omega) (by omega)) (f2 16 5 (by omega) (by omega) (by omega) (by omega) (by omega)) cf2 g1 g2 g3 g4)
    · have h1 : lf = 1 := by
        have := (nI_eq (a := lf - 1) (b := 0) (by omega) (by omega)).mp (q.trans nI_0.symm)
        omega
      rw [if_pos h1, if_pos h1] at k
      refine wp_x 1 hF1 rfl ?_
      have hE := JR_EN w12 hj0 h1
      -- the end
      have fin : ∀ m3 : Nat → Nat → Int32, (∀ a, ¬ a = 7 → ¬ a = 8 → ¬ a = 10 → ¬ a = 11 → m3 a = m2 a) → CM7 m3 (eV jb up nu nx us kd rn rs) (eI jb kd ru pd pe) → am_wp 46 (69 + 3) [.ref J, x] [] (m3, r1, sz1) Q := by
        intro m3 e3 M3
        have em3 : ∀ d, (A1 d).map (ent m3) = (A1 d).map (ent m2) := fun d => ent_map (fun y hy => by
          have := (W1.ok hy).1
          exact ⟨by rw [e3 y (by omega) (by omega) (by omega) (by omega)], by rw [e3 (y + 1) (by omega) (by omega) (by omega) (by omega)]⟩)
        refine wp_re rfl rfl (k m3 r1 sz1 A1 (W2.mi (fun c hc => by rw [e3 c (by rcases hc with z | z | z | z <;> omega) (by rcases hc with z | z | z | z <;> omega) (by rcases hc with z | z | z | z <;> omega) (by rcases hc with z | z | z | z <;> omega)])) ⟨fun j hj => by rw [e3 5 (by omega) (by omega) (by omega) (by omega)]; exact D2.1 j hj, by rw [em3 6]; exact D2.2⟩ M3 (fun X hX => by rw [em3 X]; exact P2 X hX) ?_ ?_ ?_ ?_ (fun a ha => by rw [e3 a (by omega) (by omega) (by omega) (by omega)]; exact cf2 a ha) g1 g2 g3 g4)
        · rw [e3 J (by omega) (by omega) (by omega) (by omega), hm2, sd_u2s]
        · rw [e3 12 (by omega) (by omega) (by omega) (by omega)]; exact f2 12 4 (by omega) (by omega) (by omega) (by omega) (by omega)
        · rw [e3 16 (by omega) (by omega) (by omega) (by omega)]; exact f2 16 6 (by omega) (by omega) (by omega) (by omega) (by omega)
        · rw [e3 16 (by omega) (by omega) (by omega) (by omega)]; exact f2 16 5 (by omega) (by omega) (by omega) (by omega) (by omega)
      rcases hE with ⟨z, hu, h2, h3⟩ | ⟨z, hu⟩ | ⟨z, h2, h3, h4⟩
      · have hJ12 : J = 12 := by rw [hJe, z]; rfl
        refine wp_cv rfl rfl (t := 6) (by rw [hJ12]; rfl) rfl rfl ⟨by simp, (by decide : 1 ≤ pg_ml 53)⟩ ?_
        rw [hJ12]
        have e4 : m2 12 4 = nI (rlen kd) := by rw [f2 12 4 (by omega) (by omega) (by omega) (by omega) (by omega)]; exact hrow z
        refine c_CJend (nx := nx) (us := us) (r := rlen kd) hF1 M2 w10 e4 rfl w4 rfl h2 (fun m3 e3 M3 => ?_)
        rw [← hJ12]
        refine fin m3 e3 ?_
        subst z
        exact M3
      · have hJ14 : J = 14 := by rw [hJe, z]; rfl
        refine wp_cv rfl rfl (t := 7) (by rw [hJ14]; rfl) rfl rfl ⟨by simp, (by decide : 1 ≤ pg_ml 52)⟩ ?_
        rw [hJ14]
        refine c_KJend hF1 M2 (fun m3 e3 M3 => ?_)
        rw [← hJ14]
        refine fin m3 (fun a y1 y2 y3 y4 => e3 a y1 y3) ?_
        subst z
        exact M3
      · have hJ16 : J = 16 := by rw [hJe, z]; rfl
        refine wp_cv rfl rfl (t := 8) (by rw [hJ16]; rfl) rfl rfl ⟨by simp, (by decide : 1 ≤ pg_ml 54)⟩ ?_
        rw [hJ16]
        have e6 : m2 16 6 = rn := by rw [f2 16 6 (by omega) (by omega) (by omega) (by omega) (by omega)]; exact (hrec z).1
        have e5 : m2 16 5 = nI rs := by rw [f2 16 5 (by omega) (by omega) (by omega) (by omega) (by omega)]; exact (hrec z).2
        refine c_RJend hF1 M2 e6 e5 (fun m3 e3 M3 => ?_)
        rw [← hJ16]
        refine fin m3 (fun a y1 y2 y3 y4 => e3 a y1 y2 y3) ?_
        subst z
        exact M3
  -- a flush
  have flu : fshB lf pl = true → am_wp 46 27 [.ref J, .long 0] [] (mi, mr, sz) Q := by
    intro hf
    refine wp_x 4 hF rfl ?_
    refine wp_eq1 rfl (fun q => absurd q (by decide)) (fun _ => ?_)
    refine wp_x 1 hF rfl ?_
    refine wp_gr rfl hJ.tg (hF.j0 hJ) ?_
    refine wp_ca rfl rfl ?_
    refine c_flushC hCW hDW w1.c (by omega) (fun m1 r1 A1 f1 f2 f3 f4 f5 f6 f7 => ?_)
    refine wp_x 1 f1.1 rfl ?_
    have em : ∀ d, ¬ d = 6 → ¬ d = 3 → (A1 d).map (ent m1) = (A d).map (ent mi) := fun d h6 h3 => by
      rw [f3 d h6 h3]
      exact ent_map (fun y hy => by
        have := (hCW.ok hy).1
        exact ⟨f4 y 1 (by omega) (by omega), funext fun j => f4 (y + 1) j (by omega) (by omega)⟩)
    refine tail m1 r1 sz A1 f1 ⟨?_, ?_⟩ (hM.cg (fun a h1 h2 => funext fun j => f4 a j (by omega) (by omega))) (fun X hX => ?_) (fun a j y1 y2 y3 y4 => f4 a j y2 y4) f6 f7 (Nat.le_refl _) (by omega) _
    · unfold aDk; rw [if_pos hf]; exact f5
    · unfold aCa; rw [if_pos hf, f2]; rfl
    · rw [em X (by omega) (by omega), hPL X hX]
      unfold aPl; rw [if_pos hf]
  have wri : fshB lf pl = false → am_wp 46 31 [.ref J, .long 0] [] (mi, mr, sz) Q := by
    intro hf
    refine wp_x 3 hF rfl ?_
    refine wp_eq1 rfl (fun _ => ?_) (fun q => absurd rfl q)
    refine wp_x 1 hF rfl ?_
    have hp1 := l3 hf
    cases hA : A (J + 1) with
    | nil => rw [hA] at hlen; simp at hlen; omega
    | cons s r =>
      rw [hA, List.map_cons] at hPl
      have htg : (jb = 2 ∧ J = 12) ∨ (jb = 3 ∧ J = 14) ∨ (jb = 4 ∧ J = 16) := by
        rcases hj with z | z | z
        · exact Or.inl ⟨z, by rw [hJe, z]; rfl⟩
        · exact Or.inr (Or.inl ⟨z, by rw [hJe, z]; rfl⟩)
        · exact Or.inr (Or.inr ⟨z, by rw [hJe, z]; rfl⟩)
      have body : am_wp 51 0 (am_lo 51 [.ref J]) [] (mi, mr, sz) (fun v h' => am_wp 46 (48 + 3) [.ref J, .int 0] (v.toList ++ []) h' Q) := by
        refine c_writeNext hCW hJ hA (fun m1 r1 sz1 A1 f1 f2 f3 f4 f5 f6 f7 f8 f9 => ?_)
        have hf' : ¬ fshB lf pl = true := by rw [hf]; decide
        refine tail m1 r1 sz1 A1 f1 ⟨?_, ?_⟩ (hM.cg (fun a h1 h2 => funext fun j => f5 a j (by omega) (by omega) (by omega))) (fun X hX => ?_) (fun a j y1 y2 y3 y4 => f5 a j y1 y3 y4) f6 f7 f8 f9 _
        · intro j hj
          rw [f5 5 j (by omega) (by omega) (by omega)]
          unfold aDk; rw [if_neg hf']; exact hDW.1 j hj
        · unfold aCa; rw [if_neg hf', f3, hDW.2, ← hPl]; rfl
        · unfold aPl; rw [if_neg hf']
          by_cases hX2 : X = J + 1
          · rw [hX2, if_pos rfl, f2, ← hPl]; rfl
          · rw [if_neg hX2, f4 X hX2 (by omega) (by omega), hPL X hX, if_neg hX2]
      rcases htg with ⟨-, z⟩ | ⟨-, z⟩ | ⟨-, z⟩
      · exact wp_cv rfl rfl (t := 6) (by rw [z]; rfl) rfl rfl ⟨by simp, (by decide : 1 ≤ pg_ml 51)⟩ body
      · exact wp_cv rfl rfl (t := 7) (by rw [z]; rfl) rfl rfl ⟨by simp, (by decide : 1 ≤ pg_ml 51)⟩ body
      · exact wp_cv rfl rfl (t := 8) (by rw [z]; rfl) rfl rfl ⟨by simp, (by decide : 1 ≤ pg_ml 51)⟩ body
  refine wp_x 1 hF rfl ?_
  refine wp_gi rfl (by decide) hJ.tg ?_
  rw [hleft]
  refine wp_x 1 hF rfl ?_
  refine wp_eq2N lf 1 rfl rfl rfl (by omega) (by omega) (fun q => flu (by simp [fshB, q])) (fun q => ?_)
  refine wp_x 1 hF rfl ?_
  refine wp_gi rfl (by decide) hJ.tg ?_
  rw [hleft]
  refine wp_x 1 hF rfl ?_
  refine wp_ne2N lf 3 rfl rfl rfl (by omega) (by omega) (fun q2 => wri (by simp [fshB, q, q2])) (fun q2 => ?_)
  refine wp_x 1 hF rfl ?_
  refine wp_gr rfl hJ.tg (hF.j2 hJ) ?_
  refine wp_gi rfl (by decide) (by rw [tgC hJ.c]; rfl) ?_
  rw [hcnt]
  refine wp_x 1 hF rfl ?_
  refine wp_ne2N pl.length 1 rfl rfl rfl (by omega) (by omega) (fun q3 => wri (by simp [fshB, q, q3])) (fun q3 => flu (by simp [fshB, q2, q3]))
end ACT
end
section
/-! THE COMPONENT: step, crash, what is to be seen -/
def CR (mi : Nat → Nat → Int32) (mr : Nat → Nat → Nat) (sz : Nat) (s : Sp) : Prop := ∃ A, CRA mi mr sz A s
/-- what a public method leaves -/
def PO (mi : Nat → Nat → Int32) (mr : Nat → Nat → Nat) (sz : Nat) (s : Sp) (mi' : Nat → Nat → Int32) (mr' : Nat → Nat → Nat) (sz' : Nat) : Prop := CR mi' mr' sz' s ∧ CF mi mi' ∧ mr' 1 = mr 1 ∧ sz' ≤ sz + 64
def crP (mask whole : Int32) (s : Sp) : Sp := match s with
  | ((dk, ca), (_, nu, nx, _), (_, ru, _, pe), (_, _, _, _, rn, rs)) => ((crD mask whole ca dk, []), (false, nu, nx, 0), (fun _ => 0, ru, fun _ => false, pe), (0, 0, [], 0, rn, rs))
theorem CW.job {mi : Nat → Nat → Int32} {mr : Nat → Nat → Nat} {sz : Nat} {A : Nat → List Nat} (h : CW mi mr sz A) (x : Nat) : CW mi (am_u2 mr 2 7 x) sz A := by
  refine h.cg (h.1.cg (fun a k h1 h2 h3 h4 => ?_)) (Nat.le_refl _) h.2.1.2 (by rw [sd_u2r _ _ _ _ (by decide)]) (fun c hc => ?_) (fun s hs => ?_)
  · exact if_neg h4
  · rw [sd_u2r _ _ _ _ hc.lt.2.2.1]; exact ⟨rfl, rfl, rfl⟩
  · rw [sd_u2r _ _ _ _ (by have := hs.1; omega)]; exact ⟨rfl, rfl⟩
theorem CRA.cw {mi : Nat → Nat → Int32} {mr : Nat → Nat → Nat} {sz : Nat} {A : Nat → List Nat} {s : Sp} (h : CRA mi mr sz A s) : CW mi mr sz A := h.1
theorem CR.fx {mi : Nat → Nat → Int32} {mr : Nat → Nat → Nat} {sz : Nat} {s : Sp} (h : CR mi mr sz s) : FX mr := by obtain ⟨A, hA⟩ := h; exact hA.cw.1
theorem CRA.mi {mi mi' : Nat → Nat → Int32} {mr : Nat → Nat → Nat} {sz : Nat} {A : Nat → List Nat} {s : Sp} (h : CRA mi mr sz A s) (e : ∀ a, a ≤ 17 ∨ 34 ≤ a → mi' a = mi a) : CRA mi' mr sz A s := by
  obtain ⟨⟨dk, ca⟩, v, g, jb, lf, pl, tot, rn, rs⟩ := s
  obtain ⟨h1, h2, h3, h4, h5, h6, h7, h8⟩ := h
  have em : ∀ d, (A d).map (ent mi') = (A d).map (ent mi) := fun d => ent_map (fun y hy => by
    have := (h1.ok hy).1
    exact ⟨by rw [e y (by omega)], by rw [e (y + 1) (by omega)]⟩)
  have hjb : jbA jb ≤ 16 := by
    unfold jbA
    split
    · omega
    · split
      · omega
      · split <;> omega
  refine ⟨h1.mi (fun c hc => by rw [e c (by rcases hc with z | z | z | z <;> omega)]), ⟨fun j hj => by rw [e 5 (by omega)]; exact h2.1 j hj, by rw [em 6]; exact h2.2⟩, h3.cg (fun a y1 y2 => e a (by omega)), h4, fun X hX => by rw [em X]; exact h5 X hX, fun z => by rw [e _ (by omega)]; exact h6 z, fun z => by rw [e _ (by omega)]; exact h7 z, fun z => by rw [e _ (by omega)]; exact h8 z⟩
theorem PO.same {mi : Nat → Nat → Int32} {mr : Nat → Nat → Nat} {sz : Nat} {s : Sp} (h : CR mi mr sz s) : PO mi mr sz s mi mr sz := ⟨h, CF.rfl', rfl, by omega⟩
theorem jbA_0 (jb : Nat) (h : jb = 0 ∨ jb = 2 ∨ jb = 3 ∨ jb = 4) : jbA jb = 0 ↔ jb = 0 := by rcases h with rfl | rfl | rfl | rfl <;> simp [jbA]
theorem WF.jb {s : Sp} (h : WF s) : s.2.2.2.1 = 0 ∨ s.2.2.2.1 = 2 ∨ s.2.2.2.1 = 3 ∨ s.2.2.2.1 = 4 := by
  obtain ⟨⟨dk, ca⟩, ⟨up, nu, nx, us⟩, ⟨kd, ru, pd, pe⟩, jb, lf, pl, tot, rn, rs⟩ := s
  obtain ⟨w1, w2, w3, w4, w5, w6, w7, w8, w9, w10, w11, w12⟩ := h
  rcases w12 with ⟨z, -⟩ | ⟨z, -⟩ | ⟨z, -⟩ | ⟨z, -⟩
  · exact Or.inl z
  · exact Or.inr (Or.inl z)
  · exact Or.inr (Or.inr (Or.inl z))
  · exact Or.inr (Or.inr (Or.inr z))
section PUB
variable {mi : Nat → Nat → Int32} {mr : Nat → Nat → Nat} {sz : Nat} {Q : Option Value → am_H → Prop} {A : Nat → List Nat} {s : Sp}
theorem CRA.job {mi : Nat → Nat → Int32} (h : CRA mi mr sz A s) : mr 2 7 = jbA s.2.2.2.1 := by
  obtain ⟨⟨dk, ca⟩, v, g, jb, lf, pl, tot, rn, rs⟩ := s
  exact h.2.2.2.1
theorem JR_nil {dk : Nat → Int32} {ca : List En} {up : Bool} {nu : Int32} {nx us : Nat} {kd : Nat → Nat} {ru : Nat → Int32} {pd : Nat → Bool} {pe : Nat → Int32} {jb lf tot : Nat} {pl : List En} {rn : Int32} {rs : Nat} (h : JR dk ca up nu nx us kd ru pd pe jb lf pl tot rn rs) (hj : ¬ jb = 0) : 1 ≤ lf ∧ (lf = 1 → pl = []) ∧ lf < pl.length + 60 := by
  have hph : ∀ {FL : List En}, phs FL ca lf pl → 1 ≤ lf ∧ (lf = 1 → pl = []) ∧ lf < pl.length + 60 := by
    rintro FL ⟨-, ⟨g1, g2, -⟩ | ⟨g1, g2, -⟩ | ⟨g1, g2, -⟩⟩
    · exact ⟨by omega, fun _ => by omega, by omega⟩
    · exact ⟨by omega, fun _ => by omega, by omega⟩
    · exact ⟨by omega, fun _ => g2, by omega⟩
  rcases h with ⟨z, -⟩ | ⟨z, y1, y2, y3, y4⟩ | ⟨z, y1, y2, y3⟩ | ⟨z, y1, y2, y3, y4, y5⟩
  · exact absurd z hj
  · exact hph y4
  · exact hph y3
  · rcases y5 with ⟨p, f, hH, hblk, ht, hlf, hph', hE⟩ | ⟨q, q2, -⟩
    · exact hph hph'
    · exact ⟨by omega, fun _ => q2, by omega⟩
theorem c_one {n x : Int32} (hC : CRA mi mr sz A s) (hW : WF s) (hj : ¬ s.2.2.2.1 = 0) (k : ∀ mi' mr' sz' A', CRA mi' mr' sz' A' (oneS s) → CF mi mi' → mr' 1 = mr 1 → sz' ≤ sz + 2 → am_wp 45 22 [.ref 2, .int n, .int (x + 1)] [] (mi', mr', sz') Q) : am_wp 45 34 [.ref 2, .int n, .int x] [] (mi, mr, sz) Q := by
  obtain ⟨⟨dk, ca⟩, ⟨up, nu, nx, us⟩, ⟨kd, ru, pd, pe⟩, jb, lf, pl, tot, rn, rs⟩ := s
  have hj3 : jb = 2 ∨ jb = 3 ∨ jb = 4 := (hW.jb).resolve_left hj
  have hJ := jbA_J hj3
  have hjob : mr 2 7 = jbA jb := hC.job
  have hF := hC.cw.1
  obtain ⟨n1, n2, n3⟩ := JR_nil hW.2.2.2.2.2.2.2.2.2.2.2 hj
  have hpl : pl.length ≤ 31 := by have := hW.2.2.2.2.2.1; omega
  refine wp_x 2 hF rfl ?_
  show am_wp 45 38 _ [.ref (mr 2 7)] _ _
  rw [hjob]
  have body : am_wp 46 0 (am_lo 46 [.ref (jbA jb)]) [] (mi, mr, sz) (fun v h' => am_wp 45 (38 + 3) [.ref 2, .int n, .int x] (v.toList ++ []) h' Q) := by
    refine c_act hC hW hj3 (fun m1 r1 sz1 A1 W1 D1 M1 P1 e3 e4 e5 e6 cf g1 g2 g3 g4 => ?_)
    have hF1 := W1.1
    have hjob1 : r1 2 7 = jbA jb := by rw [g1]; exact hjob
    refine wp_x 3 hF1 rfl ?_
    show am_wp 45 46 _ [.ref (r1 2 7), .ref 2] _ _
    rw [hjob1]
    refine wp_gi rfl (by decide) hJ.tg ?_
    rw [e3]
    have tail : ∀ v, CRA m1 (am_u2 r1 2 7 v) sz1 A1 (oneS ((dk, ca), (up, nu, nx, us), (kd, ru, pd, pe), (jb, lf, pl, tot, rn, rs))) → am_wp 45 60 [.ref 2, .int n, .int x] [.ref v, .ref 2] (m1, r1, sz1) Q := by
      intro v hv
      refine wp_pr rfl rfl ?_
      refine wp_x 2 hv.cw.1 rfl ?_
      exact k m1 _ sz1 A1 hv cf (by rw [sd_u2r _ _ _ _ (by decide)]; exact g2) g4
    refine wp_ne1 rfl (fun q => ?_) (fun q => ?_)
    · have h1 : ¬ lf = 1 := fun z => q (by rw [z]; rfl)
      refine wp_x 2 hF1 rfl ?_
      show am_wp 45 60 _ [.ref (r1 2 7), .ref 2] _ _
      rw [hjob1]
      refine tail _ ?_
      unfold oneS
      dsimp only
      rw [if_neg h1]
      rw [if_neg h1, if_neg h1] at M1
      obtain ⟨-, -, -, -, -, -, c7, c8⟩ := hC
      exact ⟨W1.job _, D1, M1, sd_u2s _ _ _ _, P1, fun _ => e3, fun z => by rw [e4]; exact c7 z, fun z => by rw [e5, e6]; exact c8 z⟩
    · have h1 : lf = 1 := by
        have := (nI_eq (a := lf - 1) (b := 0) (by omega) (by omega)).mp (q.trans nI_0.symm)
        omega
      refine wp_x 2 hF1 rfl ?_
      refine tail 0 ?_
      unfold oneS
      dsimp only
      rw [if_pos h1]
      rw [if_pos h1, if_pos h1] at M1
      refine ⟨W1.job _, D1, M1, sd_u2s _ _ _ _, fun X hX => ?_, fun z => absurd rfl z, fun z => absurd z (by decide), fun z => absurd z (by decide)⟩
      have := P1 X hX
      have ha : aPl lf pl = [] := by rw [n2 h1]; unfold aPl; split <;> rfl
      rw [ha] at this
      rw [this]
      split <;> split <;> rfl
  rcases hj3 with z | z | z
  · exact wp_cv rfl rfl (t := 6) (by rw [z]; rfl) rfl rfl ⟨by simp, (by decide : 1 ≤ pg_ml 46)⟩ body
  · exact wp_cv rfl rfl (t := 7) (by rw [z]; rfl) rfl rfl ⟨by simp, (by decide : 1 ≤ pg_ml 46)⟩ body
  · exact wp_cv rfl rfl (t := 8) (by rw [z]; rfl) rfl rfl ⟨by simp, (by decide : 1 ≤ pg_ml 46)⟩ body
theorem c_stepC {n : Int32} (hC : CR mi mr sz s) (hW : WF s) (t : ∀ i, 1 ≤ i → i ≤ 10 → n = nI i → ¬ s.2.2.2.1 = 0 → ∀ mi' mr' sz', PO mi mr sz (itS i s).2 mi' mr' sz' → Q (some (.int (nI (itS i s).1))) (mi', mr', sz')) (f : (s.2.2.2.1 = 0 ∨ ∀ i, 1 ≤ i → i ≤ 10 → n ≠ nI i) → Q (some (.int (-1))) (mi, mr, sz)) : am_wp 45 0 (am_lo 45 [.ref 2, .int n]) [] (mi, mr, sz) Q := by
  obtain ⟨A, hA⟩ := hC
  have hF := hA.cw.1
  have no : (s.2.2.2.1 = 0 ∨ ∀ i, 1 ≤ i → i ≤ 10 → n ≠ nI i) → am_wp 45 18 [.ref 2, .int n, .long 0] [] (mi, mr, sz) Q := fun h => wp_x 1 hF rfl (wp_re rfl rfl (f h))
  refine wp_x 2 hF rfl ?_
  show am_wp 45 4 _ [.ref (mr 2 7)] _ _
  rw [hA.job]
  refine wp_nul rfl (fun q => no (Or.inl ((jbA_0 _ hW.jb).mp q))) (fun q => ?_)
  have hj : ¬ s.2.2.2.1 = 0 := fun z => q ((jbA_0 _ hW.jb).mpr z)
  refine wp_x 2 hF rfl ?_
  refine wp_lt2 rfl (fun q1 => no (Or.inr fun i h1 h2 e => ?_)) (fun q1 => ?_)
  · subst e
    exact absurd ((nI_ltI (a := i) (b := 1) (by omega) (by omega)).mp q1) (by omega)
  refine wp_x 2 hF rfl ?_
  refine wp_le2 rfl (fun q2 => ?_) (fun q2 => no (Or.inr fun i h1 h2 e => ?_))
  rotate_left
  · subst e
    exact q2 ((nI_leI (a := i) (b := 10) (by omega) (by omega)).mpr h2)
  obtain ⟨i, hi, hn⟩ : ∃ i, i < 11 ∧ n = nI i := rng_of (N := 11) (by omega) (fun z => q1 (by
    rw [Int32.lt_iff_toInt_lt] at z ⊢
    have : (1 : Int32).toInt = 1 := rfl
    have : (0 : Int32).toInt = 0 := rfl
    omega)) (fun z => absurd ((i_le_lt n 10 (by omega)).mp z) (fun y => by
    rw [Int32.lt_iff_toInt_lt] at y
    rw [Int32.le_iff_toInt_le] at q2
    have : (nI 10).toInt = 10 := rfl
    have : (10 : Int32).toInt = 10 := rfl
    omega))
  have hi1 : 1 ≤ i := by
    rcases Nat.lt_or_ge i 1 with z | z
    · refine absurd ?_ q1
      rw [hn]
      exact (nI_ltI (a := i) (b := 1) (by omega) (by omega)).mpr z
    · exact z
  have tt := t i hi1 (by omega) hn hj
  have loop : ∀ d c (m : Nat → Nat → Int32) (r : Nat → Nat → Nat) (z : Nat) (A1 : Nat → List Nat) (s1 : Sp), c + d = i → CF mi m → r 1 = mr 1 → z ≤ sz + 2 * c → CRA m r z A1 s1 → WF s1 → itS i s = ((itS d s1).1 + c, (itS d s1).2) → am_wp 45 22 [.ref 2, .int n, .int (nI c)] [] (m, r, z) Q := by
    intro d
    induction d with
    | zero =>
      intro c m r z A1 s1 hc h1 hr hz h2 h3 h4
      have hc' : c = i := by omega
      have t2 := tt m r z
      rw [h4] at t2
      simp only [itS, Nat.zero_add] at t2
      have fin : am_wp 45 69 [.ref 2, .int n, .int (nI c)] [] (m, r, z) Q := wp_x 1 h2.cw.1 rfl (wp_re rfl rfl (t2 ⟨⟨A1, h2⟩, h1, hr, by omega⟩))
      refine wp_x 2 h2.cw.1 rfl ?_
      refine wp_nul rfl (fun _ => fin) (fun _ => ?_)
      refine wp_x 2 h2.cw.1 rfl ?_
      exact wp_ge2N c i rfl rfl hn (by omega) (by omega) (fun _ => fin) (fun q => absurd q (by omega))
    | succ d ih =>
      intro c m r z A1 s1 hc h1 hr hz h2 h3 h4
      refine wp_x 2 h2.cw.1 rfl ?_
      show am_wp 45 26 _ [.ref (r 2 7)] _ _
      rw [h2.job]
      refine wp_nul rfl (fun q => ?_) (fun q => ?_)
      · have h0 := (jbA_0 _ h3.jb).mp q
        have t2 := tt m r z
        rw [h4] at t2
        simp only [itS, if_pos h0, Nat.zero_add] at t2
        exact wp_x 1 h2.cw.1 rfl (wp_re rfl rfl (t2 ⟨⟨A1, h2⟩, h1, hr, by omega⟩))
      · have h0 : ¬ s1.2.2.2.1 = 0 := fun z => q ((jbA_0 _ h3.jb).mpr z)
        refine wp_x 2 h2.cw.1 rfl ?_
        refine wp_ge2N c i rfl rfl hn (by omega) (by omega) (fun q => absurd q (by omega)) (fun _ => ?_)
        refine c_one h2 h3 h0 (fun m' r' z' A' f1 f2 f3 f4 => ?_)
        rw [nI_1]
        refine ih (c + 1) m' r' z' A' (oneS s1) (by omega) (h1.trans f2) (f3.trans hr) (by omega) f1 (WF_one h3 h0) ?_
        rw [h4]
        simp only [itS, if_neg h0]
        congr 1
        omega
  refine wp_x 2 hF rfl ?_
  exact loop i 0 mi mr sz A s (by omega) CF.rfl' rfl (by omega) hA hW rfl
theorem c_crashC {mask whole : Int32} (hC : CR mi mr sz s) (hW : WF s) (k : ∀ mi' mr' sz', PO mi mr sz (crP mask whole s) mi' mr' sz' → Q (some (.int (nI (crL mask s.1.2.length)))) (mi', mr', sz')) : am_wp 56 0 (am_lo 56 [.ref 2, .int mask, .int whole]) [] (mi, mr, sz) Q := by
  obtain ⟨A, hA⟩ := hC
  have hjbW := hW.jb
  have hjob := hA.job
  obtain ⟨⟨dk, ca⟩, ⟨up, nu, nx, us⟩, ⟨kd, ru, pd, pe⟩, jb, lf, pl, tot, rn, rs⟩ := s
  obtain ⟨h1, h2, h3, h4, h5, h6, h7, h8⟩ := hA
  obtain ⟨w1, w2, w3, w4, w5, w6, w7, w8, w9, w10, w11, w12⟩ := hW
  dsimp only at hjbW hjob
  have hF := h1.1
  -- from where the plans are empty
  have tail : ∀ m1 r1 A1, CW m1 r1 sz A1 → DW m1 A1 dk ca → (∀ j, j < 64 → m1 9 j = ru j) → (∀ j, j < 64 → m1 11 j = pe j) → m1 7 1 = nu → m1 7 2 = nI nx → PL m1 A1 1 [] → CF mi m1 → r1 1 = mr 1 → am_wp 56 14 [.ref 2, .int mask, .int whole] [] (m1, r1, sz) Q := by
    intro m1 r1 A1 W1 D1 e9 e11 e71 e72 P1 cf g1
    refine wp_x 2 W1.1 rfl ?_
    refine wp_pr rfl rfl ?_
    have W2 := W1.job 0
    refine wp_x 2 W2.1 rfl ?_
    refine wp_ca rfl rfl ?_
    refine c_clearM W2.1 (fun m2 f1 f2 f3 f4 f5 f6 f7 f8 => ?_)
    refine wp_x 8 W2.1 rfl ?_
    show am_wp 56 40 _ [.int whole, .int mask, .ref 4] (am_u2 m2 7 0 0, am_u2 r1 2 7 0, sz) Q
    obtain ⟨m3, hm3⟩ : ∃ z, z = am_u2 m2 7 0 0 := ⟨_, rfl⟩
    rw [← hm3]
    have o3 : ∀ a, ¬ a = 7 → ¬ a = 8 → ¬ a = 10 → m3 a = m1 a := fun a y1 y2 y3 => by rw [hm3, sd_u2r _ _ _ _ y1, f1 a y1 y2 y3]
    have W3 : CW m3 (am_u2 r1 2 7 0) sz A1 := W2.mi (fun c hc => by rw [o3 c (by rcases hc with z | z | z | z <;> omega) (by rcases hc with z | z | z | z <;> omega) (by rcases hc with z | z | z | z <;> omega)])
    have em : ∀ d, (A1 d).map (ent m3) = (A1 d).map (ent m1) := fun d => ent_map (fun y hy => by
      have := (W1.ok hy).1
      exact ⟨by rw [o3 y (by omega) (by omega) (by omega)], by rw [o3 (y + 1) (by omega) (by omega) (by omega)]⟩)
    have D3 : DW m3 A1 dk ca := ⟨fun j hj => by rw [o3 5 (by omega) (by omega) (by omega)]; exact D1.1 j hj, by rw [em 6]; exact D1.2⟩
    refine wp_ca rfl rfl ?_
    refine c_crashD W3 D3 w1.c (by omega) (fun m4 r4 A4 y1 y2 y3 y4 y5 y6 y7 => ?_)
    refine wp_re rfl rfl (k m4 r4 sz ⟨⟨A4, ?_⟩, ?_, ?_, by omega⟩)
    · have q7 : ∀ j, m4 7 j = m3 7 j := fun j => y4 7 j (by omega) (by omega)
      refine ⟨y1, ⟨y5, by rw [y2]; rfl⟩, ⟨?_, ?_, ?_, ?_, ?_, ?_, ?_, fun j hj => ?_, fun j hj => ?_⟩, ?_, fun X hX => ?_, fun z => absurd rfl z, fun z => absurd z (by decide), fun z => absurd z (by decide)⟩
      · rw [q7, hm3]; rfl
      · rw [q7, hm3]; exact f3.trans e71
      · rw [q7, hm3]; exact f4.trans e72
      · rw [q7, hm3]; exact f5
      · rw [y4 8 1 (by omega) (by omega), hm3]; exact f7.trans msk_k1.symm
      · rw [q7, hm3]; exact f6.trans msk_k2.symm
      · rw [y4 10 1 (by omega) (by omega), hm3]; exact f8.trans msk_false.symm
      · rw [y4 9 j (by omega) (by omega), o3 9 (by omega) (by omega) (by omega)]; exact e9 j hj
      · rw [y4 11 j (by omega) (by omega), o3 11 (by omega) (by omega) (by omega)]; exact e11 j hj
      · rw [y6, sd_u2s]; rfl
      · have ex : (A4 X).map (ent m4) = (A1 X).map (ent m1) := by
          rw [y3 X (by omega) (by omega), ← em X]
          exact ent_map (fun y hy => by
            have := (W1.ok hy).1
            exact ⟨y4 y 1 (by omega) (by omega), funext fun j => y4 (y + 1) j (by omega) (by omega)⟩)
        rw [ex, P1 X hX]; rfl
    · refine cf.trans (fun a ha => funext fun j => ?_)
      rw [y4 a j (by omega) (by omega), o3 a (by omega) (by omega) (by omega)]
    · rw [y7, sd_u2r _ _ _ _ (by decide)]; exact g1
  refine wp_x 2 hF rfl ?_
  show am_wp 56 4 _ [.ref (mr 2 7)] _ _
  rw [hjob]
  refine wp_nul rfl (fun q => ?_) (fun q => ?_)
  · have h0 := (jbA_0 _ hjbW).mp q
    subst h0
    refine tail mi mr A h1 h2 h3.2.2.2.2.2.2.2.1 h3.2.2.2.2.2.2.2.2 h3.2.1 h3.2.2.1 (fun X hX => ?_) CF.rfl' rfl
    rw [h5 X hX]
    rcases hX with z | z | z <;> rw [z] <;> rfl
  · have hj3 : jb = 2 ∨ jb = 3 ∨ jb = 4 := hjbW.resolve_left (fun z => q ((jbA_0 _ hjbW).mpr z))
    have hJ := jbA_J hj3
    obtain ⟨J, hJe⟩ : ∃ z, z = jbA jb := ⟨_, rfl⟩
    rw [← hJe] at hJ h5 hjob
    have jl := hJ.lt
    have hP3 : J + 1 = 13 ∨ J + 1 = 15 ∨ J + 1 = 17 := by rcases hJ with z | z | z <;> omega
    have hlen : (A (J + 1)).length = pl.length := by
      have := congrArg List.length (h5 (J + 1) hP3)
      rw [if_pos rfl] at this
      rwa [List.length_map] at this
    refine wp_x 2 hF rfl ?_
    show am_wp 56 11 _ [.ref (mr 2 7)] _ _
    rw [hjob]
    have body : am_wp 57 0 (am_lo 57 [.ref J]) [] (mi, mr, sz) (fun v h' => am_wp 56 (11 + 3) [.ref 2, .int mask, .int whole] (v.toList ++ []) h' Q) := by
      refine wp_x 1 hF rfl ?_
      refine wp_gr rfl hJ.tg (hF.j2 hJ) ?_
      refine wp_cv rfl rfl (tgC hJ.c) rfl rfl ⟨by simp, (by decide : 1 ≤ pg_ml 58)⟩ ?_
      refine c_clear h1 hJ.c (by omega) (fun m1 r1 A1 f1 f2 f3 f4 f5 f6 => ?_)
      refine wp_x 2 f1.1 rfl ?_
      refine wp_pi rfl hJ.tg ?_
      obtain ⟨m2, hm2⟩ : ∃ z, z = am_u2 m1 J 3 0 := ⟨_, rfl⟩
      rw [← hm2]
      have o2 : ∀ a, ¬ a = J → ¬ a = J + 1 → m2 a = mi a := fun a y1 y2 => funext fun j => by rw [hm2, sd_u2r _ _ _ _ y1, f4 a j (by omega)]
      have hcC : ∀ c, isC c → ¬ c = J := fun c hc => by rcases hc with z | z | z | z <;> omega
      have em : ∀ d, ¬ d = J + 1 → ¬ d = 3 → (A1 d).map (ent m2) = (A d).map (ent mi) := fun d y1 y2 => by
        rw [f3 d y1 y2]
        exact ent_map (fun y hy => by
          have := (h1.ok hy).1
          exact ⟨by rw [o2 y (by omega) (by omega)], by rw [o2 (y + 1) (by omega) (by omega)]⟩)
      refine wp_re rfl rfl (tail m2 r1 A1 (f1.mi (fun c hc => by rw [hm2, sd_u2r _ _ _ _ (hcC c hc)])) ⟨fun j hj => by rw [o2 5 (by omega) (by omega)]; exact h2.1 j hj, by rw [em 6 (by omega) (by omega)]; exact h2.2⟩ (fun j hj => by rw [o2 9 (by omega) (by omega)]; exact h3.2.2.2.2.2.2.2.1 j hj) (fun j hj => by rw [o2 11 (by omega) (by omega)]; exact h3.2.2.2.2.2.2.2.2 j hj) (by rw [o2 7 (by omega) (by omega)]; exact h3.2.1) (by rw [o2 7 (by omega) (by omega)]; exact h3.2.2.1) (fun X hX => ?_) (fun a ha => o2 a (by omega) (by omega)) f6)
      by_cases hX2 : X = J + 1
      · rw [hX2, f2]; split <;> rfl
      · rw [em X hX2 (by omega), h5 X hX, if_neg hX2]; split <;> rfl
    rcases hj3 with z | z | z
    · exact wp_cv rfl rfl (t := 6) (by rw [hJe, z]; rfl) rfl rfl ⟨by simp, (by decide : 1 ≤ pg_ml 57)⟩ body
    · exact wp_cv rfl rfl (t := 7) (by rw [hJe, z]; rfl) rfl rfl ⟨by simp, (by decide : 1 ≤ pg_ml 57)⟩ body
    · exact wp_cv rfl rfl (t := 8) (by rw [hJe, z]; rfl) rfl rfl ⟨by simp, (by decide : 1 ≤ pg_ml 57)⟩ body
end PUB
end
section
/-! THE COMPONENT: reading and changing blocks -/
theorem up7 {mi : Nat → Nat → Int32} {v : Vt} {g : It} (h : CM7 mi v g) : ¬ mi 7 0 = 0 ↔ v.1 = true := by
  rw [h.1]; cases v.1 <;> simp
theorem up7f {mi : Nat → Nat → Int32} {v : Vt} {g : It} (h : CM7 mi v g) (q : mi 7 0 = 0) : v.1 = false := by
  cases hv : v.1 with
  | false => rfl
  | true => exact absurd q ((up7 h).mpr hv)
section PUB2
variable {mi : Nat → Nat → Int32} {mr : Nat → Nat → Nat} {sz : Nat} {Q : Option Value → am_H → Prop} {A : Nat → List Nat} {dk : Nat → Int32} {ca : List En} {up : Bool} {nu : Int32} {nx us : Nat} {kd : Nat → Nat} {ru : Nat → Int32} {pd : Nat → Bool} {pe : Nat → Int32} {jb lf tot : Nat} {pl : List En} {rn : Int32} {rs : Nat}
theorem c_look {i : Nat} (hC : CRA mi mr sz A ((dk, ca), (up, nu, nx, us), (kd, ru, pd, pe), (jb, lf, pl, tot, rn, rs))) (hi : i < 16) (k : ∀ mi' : Nat → Nat → Int32, (∀ a, ¬ a = 21 → ¬ a = 22 → mi' a = mi a) → (∀ j, j < 4 → mi' 22 j = gtS dk ca kd ru pd pe i j) → Q none (mi', mr, sz)) : am_wp 16 0 (am_lo 16 [.ref 2, .int (nI i)]) [] (mi, mr, sz) Q := by
  obtain ⟨h1, h2, h3, h4⟩ := hC
  have hF := h1.1
  obtain ⟨b1, b2, b3, b4, b5, b6, b7, b8, b9⟩ := id h3
  have fin : ∀ {m' : Nat → Nat → Int32} {q : Nat} {f : Nat → Int32}, (∀ a, ¬ a = 22 → m' a = mi a) → wds m' 22 0 = wds mi q (4 * i) → (∀ j, j < 64 → mi q j = f j) → (∀ j, j < 4 → gtS dk ca kd ru pd pe i j = f (4 * i + j)) → Q none (m', mr, sz) := by
    intro m' q f e1 e2 e3 e4
    refine k m' (fun a _ h => e1 a h) (fun j hj => ?_)
    have := congrArg (fun e => wd4 e j) e2
    simp only [wds_w hj, Nat.zero_add] at this
    rw [this, e4 j hj, e3 _ (by omega)]
  refine wp_x 4 hF rfl ?_
  refine wp_ca rfl rfl ?_
  refine c_has (p := k1 kd) hF (Or.inl rfl) b5 hi ?_
  refine wp_eq1 rfl (fun q => ?_) (fun q => ?_)
  · have hk : ¬ kd i = 1 := by have := b01.mp q; simpa [k1] using this
    refine wp_x 4 hF rfl ?_
    refine wp_ca rfl rfl ?_
    refine c_has (p := pd) hF (Or.inr rfl) b7 hi ?_
    refine wp_eq1 rfl (fun q2 => ?_) (fun q2 => ?_)
    · have hp := b01.mp q2
      refine wp_x 5 hF rfl ?_
      refine wp_ca rfl rfl ?_
      refine c_readC (t := 21) h1 h2 (Or.inr rfl) (by omega) (fun m' e1 e2 => ?_)
      refine wp_re rfl rfl (k m' e1 (fun j hj => ?_))
      have := congrArg (fun e => wd4 e j) e2
      simp only [wds_w hj, Nat.zero_add] at this
      rw [this]
      unfold gtS
      rw [if_neg hk, hp, if_neg (by decide)]
      match j, hj with
      | 0, _ => rfl
      | 1, _ => rfl
      | 2, _ => rfl
      | 3, _ => rfl
    · have hp := b10 q2
      refine wp_x 9 hF rfl ?_
      show am_wp 16 68 _ [.int (4 * nI i), .ref 11, .ref 21] _ _
      rw [a40]
      refine wp_ca rfl rfl ?_
      refine c_copy hF hF.sh21 ⟨rfl, by decide, show 4 * i + 4 ≤ 64 by omega⟩ (fun m' e1 e2 => ?_)
      refine wp_x 1 hF rfl ?_
      refine wp_re rfl rfl (fin e1 e2 b9 (fun j hj => ?_))
      unfold gtS
      rw [if_neg hk, hp, if_pos rfl]
  · have hk : kd i = 1 := by have := b10 q; simpa [k1] using this
    refine wp_x 9 hF rfl ?_
    show am_wp 16 31 _ [.int (4 * nI i), .ref 9, .ref 21] _ _
    rw [a40]
    refine wp_ca rfl rfl ?_
    refine c_copy hF hF.sh21 ⟨rfl, by decide, show 4 * i + 4 ≤ 64 by omega⟩ (fun m' e1 e2 => ?_)
    refine wp_x 1 hF rfl ?_
    refine wp_re rfl rfl (fin e1 e2 b8 (fun j hj => ?_))
    unfold gtS
    rw [if_pos hk]
theorem c_getC {b w : Int32} (hC : CRA mi mr sz A ((dk, ca), (up, nu, nx, us), (kd, ru, pd, pe), (jb, lf, pl, tot, rn, rs))) (t : ∀ i j, i < 16 → j < 4 → b = nI i → w = nI j → up = true → ∀ mi', PO mi mr sz ((dk, ca), (up, nu, nx, us), (kd, ru, pd, pe), (jb, lf, pl, tot, rn, rs)) mi' mr sz → Q (some (.int (gtS dk ca kd ru pd pe i j))) (mi', mr, sz)) (f : (up = false ∨ (∀ i, i < 16 → b ≠ nI i) ∨ ∀ j, j < 4 → w ≠ nI j) → Q (some (.int 0)) (mi, mr, sz)) : am_wp 61 0 (am_lo 61 [.ref 2, .int b, .int w]) [] (mi, mr, sz) Q := by
  have hF := hC.cw.1
  have hM := hC.2.2.1
  have no : (up = false ∨ (∀ i, i < 16 → b ≠ nI i) ∨ ∀ j, j < 4 → w ≠ nI j) → am_wp 61 18 [.ref 2, .int b, .int w] [] (mi, mr, sz) Q := fun h => wp_x 1 hF rfl (wp_re rfl rfl (f h))
  refine wp_x 3 hF rfl ?_
  refine wp_eq1 rfl (fun q => no (Or.inl (up7f hM q))) (fun q => ?_)
  have hu := (up7 hM).mp q
  refine wp_x 2 hF rfl ?_
  refine wp_ca rfl rfl ?_
  refine c_isWordC hF (fun i j hi hj e1 e2 => ?_) (fun h => ?_)
  · refine wp_ne1 rfl (fun _ => ?_) (fun q => absurd q (by decide))
    have tt := t i j hi hj e1 e2 hu
    subst e1; subst e2
    refine wp_x 2 hF rfl ?_
    refine wp_ca rfl rfl ?_
    refine c_look hC hi (fun m' f1 f2 => ?_)
    refine wp_x 4 hF rfl ?_
    refine wp_al j rfl rfl rfl (by decide) rfl (show j < 4 from hj) ?_
    rw [f2 j hj]
    exact wp_re rfl rfl (tt m' ⟨⟨A, hC.mi (fun a ha => f1 a (by omega) (by omega))⟩, fun a ha => f1 a (by omega) (by omega), rfl, by omega⟩)
  · refine wp_ne1 rfl (fun q => absurd rfl q) (fun _ => ?_)
    exact no (Or.inr h)
theorem nidleC {v : Vt} {g : It} (hM : CM7 mi v g) (hj : mr 2 7 = jbA jb) (hjb : jb = 0 ∨ jb = 2 ∨ jb = 3 ∨ jb = 4) (h : mi 7 0 = 0 ∨ ¬ mr 2 7 = 0) : v.1 = false ∨ ¬ jb = 0 := by
  rcases h with h | h
  · exact Or.inl (up7f hM h)
  · exact Or.inr (fun z => h (by rw [hj, z]; rfl))
/-- the memory part changes, nothing else -/
theorem CRA.mem {mi' : Nat → Nat → Int32} {v v' : Vt} {g g' : It} (hC : CRA mi mr sz A ((dk, ca), v, g, (0, lf, pl, tot, rn, rs))) (e : ∀ a, ¬ a = 7 → ¬ a = 8 → ¬ a = 9 → ¬ a = 10 → ¬ a = 21 → ¬ a = 22 → mi' a = mi a) (hM : CM7 mi' v' g') : CRA mi' mr sz A ((dk, ca), v', g', (0, lf, pl, tot, rn, rs)) := by
  obtain ⟨h1, h2, h3, h4, h5, h6, h7, h8⟩ := hC
  have em : ∀ d, (A d).map (ent mi') = (A d).map (ent mi) := fun d => ent_map (fun y hy => by
    have := (h1.ok hy).1
    exact ⟨by rw [e y (by omega) (by omega) (by omega) (by omega) (by omega) (by omega)], by rw [e (y + 1) (by omega) (by omega) (by omega) (by omega) (by omega) (by omega)]⟩)
  exact ⟨h1.mi (fun c hc => by rw [e c (by rcases hc with z | z | z | z <;> omega) (by rcases hc with z | z | z | z <;> omega) (by rcases hc with z | z | z | z <;> omega) (by rcases hc with z | z | z | z <;> omega) (by rcases hc with z | z | z | z <;> omega) (by rcases hc with z | z | z | z <;> omega)]), ⟨fun j hj => by rw [e 5 (by omega) (by omega) (by omega) (by omega) (by omega) (by omega)]; exact h2.1 j hj, by rw [em 6]; exact h2.2⟩, hM, h4, fun X hX => by rw [em X]; exact h5 X hX, fun z => absurd rfl z, fun z => absurd z (by decide), fun z => absurd z (by decide)⟩
theorem c_revokeC {b : Int32} (hC : CRA mi mr sz A ((dk, ca), (up, nu, nx, us), (kd, ru, pd, pe), (jb, lf, pl, tot, rn, rs))) (hjb : jb = 0 ∨ jb = 2 ∨ jb = 3 ∨ jb = 4) (t : ∀ i, i < 16 → b = nI i → up = true → jb = 0 → ∀ mi', PO mi mr sz ((dk, ca), (up, nu, nx, us), (fu kd i 2, ru, pd, pe), (jb, lf, pl, tot, rn, rs)) mi' mr sz → Q (some (.int 1)) (mi', mr, sz)) (f : (up = false ∨ ¬ jb = 0 ∨ ∀ i, i < 16 → b ≠ nI i) → Q (some (.int 0)) (mi, mr, sz)) : am_wp 20 0 (am_lo 20 [.ref 2, .int b]) [] (mi, mr, sz) Q := by
  have hF := hC.cw.1
  have hM := hC.2.2.1
  have hjob := hC.job
  have no : (up = false ∨ ¬ jb = 0 ∨ ∀ i, i < 16 → b ≠ nI i) → am_wp 20 17 [.ref 2, .int b] [] (mi, mr, sz) Q := fun h => wp_x 1 hF rfl (wp_re rfl rfl (f h))
  refine wp_x 1 hF rfl ?_
  refine wp_ca rfl rfl ?_
  refine c_idleC hF (fun g1 g2 => ?_) (fun h => ?_)
  rotate_left
  · refine wp_eq1 rfl (fun _ => ?_) (fun q => absurd rfl q)
    exact no ((nidleC hM hjob hjb h).imp id Or.inl)
  have hu : up = true := (up7 hM).mp g1
  have hj0 : jb = 0 := (jbA_0 jb hjb).mp (by rw [← g2]; exact hjob.symm)
  subst hj0
  refine wp_eq1 rfl (fun q => absurd q (by decide)) (fun _ => ?_)
  refine wp_x 1 hF rfl ?_
  refine wp_lt1 rfl (fun q => no (Or.inr (Or.inr (rng_neg (by omega) (Or.inl q))))) (fun q1 => ?_)
  refine wp_x 2 hF rfl ?_
  refine wp_lt2 rfl (fun q2 => ?_) (fun q2 => no (Or.inr (Or.inr (rng_neg (by omega) (Or.inr (i_nlt.mp q2))))))
  obtain ⟨i, hi, e⟩ := rng_of (N := 16) (by omega) q1 (fun z => i_nlt.mpr z q2)
  have tt := t i hi e hu rfl
  subst e
  obtain ⟨b1, b2, b3, b4, b5, b6, b7, b8, b9⟩ := id hM
  refine wp_x 4 hF rfl ?_
  refine wp_ca rfl rfl ?_
  refine c_dropI (p := k1 kd) hF (Or.inl rfl) b5 hi ?_
  refine wp_x 10 hF rfl ?_
  have e6 : mi 7 6 ||| ((1 : Int32) <<< (nI i &&& 31)) = nI (msk (k2 (fu kd i 2))) := by
    rw [b6]
    show nI (msk (k2 kd)) ||| _ = _
    rw [msk_put _ hi]
    congr 1
    refine msk_congr (fun x hx => ?_)
    by_cases hxi : x = i
    · subst hxi; simp [k2, fu]
    · simp [k2, fu, hxi]
  have e8 : nI (msk (fu (k1 kd) i false)) = nI (msk (k1 (fu kd i 2))) := by
    congr 1
    refine msk_congr (fun x hx => ?_)
    by_cases hxi : x = i
    · subst hxi; simp [k1, fu]
    · simp [k1, fu, hxi]
  refine wp_re rfl rfl ?_
  show Q (some (.int 1)) (am_u2 (am_u2 mi 8 1 (nI (msk (fu (k1 kd) i false)))) 7 6 (mi 7 6 ||| ((1 : Int32) <<< (nI i &&& 31))), mr, sz)
  rw [e6, e8]
  obtain ⟨m2, hm2⟩ : ∃ z, z = am_u2 (am_u2 mi 8 1 (nI (msk (k1 (fu kd i 2))))) 7 6 (nI (msk (k2 (fu kd i 2)))) := ⟨_, rfl⟩
  rw [← hm2]
  have o2 : ∀ a, ¬ a = 7 → ¬ a = 8 → m2 a = mi a := fun a y1 y2 => by rw [hm2, sd_u2r _ _ _ _ y1, sd_u2r _ _ _ _ y2]
  refine tt m2 ⟨⟨A, hC.mem (fun a y1 y2 _ _ _ _ => o2 a y1 y2) ?_⟩, fun a ha => o2 a (by omega) (by omega), rfl, by omega⟩
  rw [hm2]
  exact ⟨b1, b2, b3, b4, rfl, rfl, b7, b8, b9⟩
theorem c_putC {b w v : Int32} (hC : CRA mi mr sz A ((dk, ca), (up, nu, nx, us), (kd, ru, pd, pe), (jb, lf, pl, tot, rn, rs))) (hjb : jb = 0 ∨ jb = 2 ∨ jb = 3 ∨ jb = 4) (t : ∀ i j, i < 16 → j < 4 → b = nI i → w = nI j → up = true → jb = 0 → (kd i = 1 ∨ cnt (k1 kd) 16 < 8) → ∀ mi', PO mi mr sz ((dk, ca), (up, nu, nx, us), (fu kd i 1, putS dk ca kd ru pd pe i j v, pd, pe), (jb, lf, pl, tot, rn, rs)) mi' mr sz → Q (some (.int 1)) (mi', mr, sz)) (f : (up = false ∨ ¬ jb = 0 ∨ (∀ i, i < 16 → b ≠ nI i) ∨ (∀ j, j < 4 → w ≠ nI j) ∨ ∃ i, i < 16 ∧ b = nI i ∧ ¬ kd i = 1 ∧ 8 ≤ cnt (k1 kd) 16) → Q (some (.int 0)) (mi, mr, sz)) : am_wp 11 0 (am_lo 11 [.ref 2, .int b, .int w, .int v]) [] (mi, mr, sz) Q := by
  have hF := hC.cw.1
  have hM := hC.2.2.1
  have hjob := hC.job
  have no : (up = false ∨ ¬ jb = 0 ∨ (∀ i, i < 16 → b ≠ nI i) ∨ (∀ j, j < 4 → w ≠ nI j) ∨ ∃ i, i < 16 ∧ b = nI i ∧ ¬ kd i = 1 ∧ 8 ≤ cnt (k1 kd) 16) → am_wp 11 15 [.ref 2, .int b, .int w, .int v, .long 0] [] (mi, mr, sz) Q := fun h => wp_x 1 hF rfl (wp_re rfl rfl (f h))
  refine wp_x 1 hF rfl ?_
  refine wp_ca rfl rfl ?_
  refine c_idleC hF (fun g1 g2 => ?_) (fun h => ?_)
  rotate_left
  · refine wp_eq1 rfl (fun _ => ?_) (fun q => absurd rfl q)
    exact no ((nidleC hM hjob hjb h).imp id Or.inl)
  have hu : up = true := (up7 hM).mp g1
  have hj0 : jb = 0 := (jbA_0 jb hjb).mp (by rw [← g2]; exact hjob.symm)
  subst hj0
  refine wp_eq1 rfl (fun q => absurd q (by decide)) (fun _ => ?_)
  refine wp_x 2 hF rfl ?_
  refine wp_ca rfl rfl ?_
  refine c_isWordC hF (fun i j hi hj e1 e2 => ?_) (fun h => ?_)
  rotate_left
  · refine wp_ne1 rfl (fun q => absurd rfl q) (fun _ => ?_)
    rcases h with h | h
    · exact no (Or.inr (Or.inr (Or.inl h)))
    · exact no (Or.inr (Or.inr (Or.inr (Or.inl h))))
  refine wp_ne1 rfl (fun _ => ?_) (fun q => absurd q (by decide))
  have tt := t i j hi hj e1 e2 hu rfl
  subst e1; subst e2
  obtain ⟨b1, b2, b3, b4, b5, b6, b7, b8, b9⟩ := id hM
  dsimp only at b5 b6 b7 b8 b9
  have hc16 := cnt_le (k1 kd) 16
  -- behind the image
  have tail : ∀ m1 : Nat → Nat → Int32, (kd i = 1 ∨ cnt (k1 kd) 16 < 8) → (∀ a, ¬ a = 8 → ¬ a = 9 → ¬ a = 21 → ¬ a = 22 → m1 a = mi a) → m1 8 1 = nI (msk (k1 (fu kd i 1))) → (∀ x, x < 64 → m1 9 x = if 4 * i ≤ x ∧ x < 4 * i + 4 then gtS dk ca kd ru pd pe i (x - 4 * i) else ru x) → am_wp 11 69 [.ref 2, .int (nI i), .int (nI j), .int v, .ref 8] [] (m1, mr, sz) Q := by
    intro m1 hkk o1 e8 e9
    refine wp_x 19 hF rfl ?_
    refine wp_as (4 * i + j) rfl rfl (a4 i j) (by decide) rfl (show 4 * i + j < 64 by omega) ?_
    refine wp_x 1 hF rfl ?_
    have e6 : m1 7 6 &&& (((1 : Int32) <<< (nI i &&& 31)) ^^^ (-1)) = nI (msk (k2 (fu kd i 1))) := by
      rw [o1 7 (by decide) (by decide) (by decide) (by decide), b6, msk_drop _ hi]
      congr 1
      refine msk_congr (fun x hx => ?_)
      by_cases hxi : x = i
      · subst hxi; simp [k2, fu]
      · simp [k2, fu, hxi]
    refine wp_re rfl rfl ?_
    show Q (some (.int 1)) (am_u2 (am_u2 m1 7 6 (m1 7 6 &&& (((1 : Int32) <<< (nI i &&& 31)) ^^^ (-1)))) 9 (4 * i + j) v, mr, sz)
    rw [e6]
    obtain ⟨m2, hm2⟩ : ∃ z, z = am_u2 (am_u2 m1 7 6 (nI (msk (k2 (fu kd i 1))))) 9 (4 * i + j) v := ⟨_, rfl⟩
    rw [← hm2]
    have o2 : ∀ a, ¬ a = 7 → ¬ a = 8 → ¬ a = 9 → ¬ a = 21 → ¬ a = 22 → m2 a = mi a := fun a y1 y2 y3 y4 y5 => by rw [hm2, sd_u2r _ _ _ _ y3, sd_u2r _ _ _ _ y1, o1 a y2 y3 y4 y5]
    have o7 : ∀ x, ¬ x = 6 → m2 7 x = mi 7 x := fun x hx => by rw [hm2, sd_u2r _ _ _ _ (by decide), sd_u2k _ _ _ _ hx, o1 7 (by decide) (by decide) (by decide) (by decide)]
    refine tt hkk m2 ⟨⟨A, hC.mem (fun a y1 y2 y3 _ y4 y5 => o2 a y1 y2 y3 y4 y5) ?_⟩, fun a ha => o2 a (by omega) (by omega) (by omega) (by omega) (by omega), rfl, by omega⟩
    refine ⟨by rw [o7 0 (by decide)]; exact b1, by rw [o7 1 (by decide)]; exact b2, by rw [o7 2 (by decide)]; exact b3, by rw [o7 3 (by decide)]; exact b4, ?_, ?_, ?_, fun x hx => ?_, fun x hx => ?_⟩
    · rw [hm2, sd_u2r _ _ _ _ (by decide), sd_u2r _ _ _ _ (by decide)]; exact e8
    · rw [hm2, sd_u2r _ _ _ _ (by decide), sd_u2s]
    · rw [o2 10 (by decide) (by decide) (by decide) (by decide) (by decide)]; exact b7
    · show m2 9 x = putS dk ca kd ru pd pe i j v x
      by_cases hxx : x = 4 * i + j
      · subst hxx
        rw [hm2, sd_u2s]; simp [putS]
      · rw [hm2, sd_u2k _ _ _ _ hxx, sd_u2r _ _ _ _ (by decide), e9 x hx]
        simp only [putS, if_neg hxx]
    · rw [o2 11 (by decide) (by decide) (by decide) (by decide) (by decide)]; exact b9 x hx
  refine wp_x 6 hF rfl ?_
  refine wp_ca rfl rfl ?_
  refine c_has (p := k1 kd) hF (Or.inl rfl) b5 hi ?_
  refine wp_ne1 rfl (fun q => ?_) (fun q => ?_)
  · have hk : kd i = 1 := by have := b10 q; simpa [k1] using this
    refine tail mi (Or.inl hk) (fun _ _ _ _ _ => rfl) ?_ (fun x hx => ?_)
    · rw [b5]
      congr 1
      refine msk_congr (fun x hx => ?_)
      by_cases hxi : x = i
      · subst hxi; simp [k1, fu, hk]
      · simp [k1, fu, hxi]
    · rw [b8 x hx]
      split
      · rename_i h
        unfold gtS
        rw [if_pos hk]; congr 1; omega
      · rfl
  · have hk : ¬ kd i = 1 := by have := b01.mp q; simpa [k1] using this
    refine wp_x 2 hF rfl ?_
    show am_wp 11 40 _ [.int (mi 8 1)] _ _
    rw [b5]
    refine wp_ca rfl rfl ?_
    refine c_bitCount (p := k1 kd) hF ?_
    refine wp_x 1 hF rfl ?_
    refine wp_lt2N (cnt (k1 kd) 16) 8 rfl rfl rfl (by omega) (by omega) (fun q2 => ?_) (fun q2 => ?_)
    rotate_left
    · refine wp_x 1 hF rfl ?_
      exact wp_re rfl rfl (f (Or.inr (Or.inr (Or.inr (Or.inr ⟨i, hi, rfl, hk, q2⟩)))))
    refine wp_x 2 hF rfl ?_
    refine wp_ca rfl rfl ?_
    refine c_look hC hi (fun m' f1 f2 => ?_)
    refine wp_x 6 hF rfl ?_
    refine wp_ca rfl rfl ?_
    refine c_putI (a0 := 0) (p := k1 kd) hF (Or.inl rfl) (by rw [f1 8 (by decide) (by decide)]; exact b5) hi ⟨rfl, by decide, show 0 + 4 ≤ 4 by omega⟩ (fun m2 y1 y2 y3 y4 => ?_)
    refine tail m2 (Or.inr q2) (fun a z1 z2 z3 z4 => by rw [y1 a z1 z2, f1 a z3 z4]) ?_ (fun x hx => ?_)
    · rw [y3]
      congr 1
      refine msk_congr (fun x hx => ?_)
      by_cases hxi : x = i
      · subst hxi; simp [k1, fu]
      · simp [k1, fu, hxi]
    · rw [y4 x]
      split
      · rename_i h
        rw [Nat.zero_add]; exact f2 _ (by omega)
      · rw [f1 9 (by decide) (by decide)]; exact b8 x hx
theorem c_directC {b w v : Int32} (hC : CRA mi mr sz A ((dk, ca), (up, nu, nx, us), (kd, ru, pd, pe), (jb, lf, pl, tot, rn, rs))) (hjb : jb = 0 ∨ jb = 2 ∨ jb = 3 ∨ jb = 4) (hl : ca.length < 1000) (t : ∀ i j, i < 16 → j < 4 → b = nI i → w = nI j → up = true → jb = 0 → ¬ kd i = 1 → pd i = false → ca.length < 12 → ∀ mi' mr' sz', PO mi mr sz ((dk, ca ++ [(nI i, setW (rd4 dk ca i) j v)]), (up, nu, nx, us), (kd, ru, pd, pe), (jb, lf, pl, tot, rn, rs)) mi' mr' sz' → Q (some (.int 1)) (mi', mr', sz')) (f : (up = false ∨ ¬ jb = 0 ∨ (∀ i, i < 16 → b ≠ nI i) ∨ (∀ j, j < 4 → w ≠ nI j) ∨ ∃ i, i < 16 ∧ b = nI i ∧ (kd i = 1 ∨ pd i = true ∨ 12 ≤ ca.length)) → Q (some (.int 0)) (mi, mr, sz)) : am_wp 22 0 (am_lo 22 [.ref 2, .int b, .int w, .int v]) [] (mi, mr, sz) Q := by
  have hF := hC.cw.1
  have hM := hC.2.2.1
  have hjob := hC.job
  have no : (up = false ∨ ¬ jb = 0 ∨ (∀ i, i < 16 → b ≠ nI i) ∨ (∀ j, j < 4 → w ≠ nI j) ∨ ∃ i, i < 16 ∧ b = nI i ∧ (kd i = 1 ∨ pd i = true ∨ 12 ≤ ca.length)) → am_wp 22 58 [.ref 2, .int b, .int w, .int v] [] (mi, mr, sz) Q := fun h => wp_x 1 hF rfl (wp_re rfl rfl (f h))
  refine wp_x 1 hF rfl ?_
  refine wp_ca rfl rfl ?_
  refine c_idleC hF (fun g1 g2 => ?_) (fun h => ?_)
  rotate_left
  · refine wp_eq1 rfl (fun _ => ?_) (fun q => absurd rfl q)
    exact no ((nidleC hM hjob hjb h).imp id Or.inl)
  have hu : up = true := (up7 hM).mp g1
  have hj0 : jb = 0 := (jbA_0 jb hjb).mp (by rw [← g2]; exact hjob.symm)
  subst hj0
  refine wp_eq1 rfl (fun q => absurd q (by decide)) (fun _ => ?_)
  refine wp_x 2 hF rfl ?_
  refine wp_ca rfl rfl ?_
  refine c_isWordC hF (fun i j hi hj e1 e2 => ?_) (fun h => ?_)
  rotate_left
  · refine wp_eq1 rfl (fun _ => ?_) (fun q => absurd rfl q)
    rcases h with h | h
    · exact no (Or.inr (Or.inr (Or.inl h)))
    · exact no (Or.inr (Or.inr (Or.inr (Or.inl h))))
  refine wp_eq1 rfl (fun q => absurd q (by decide)) (fun _ => ?_)
  have tt := t i j hi hj e1 e2 hu rfl
  subst e1; subst e2
  obtain ⟨h1, h2, h3, h4, h5, h6, h7, h8⟩ := id hC
  obtain ⟨b1, b2, b3, b4, b5, b6, b7, b8, b9⟩ := id hM
  dsimp only at b5 b6 b7 b8 b9
  have no2 := fun h => no (Or.inr (Or.inr (Or.inr (Or.inr ⟨i, hi, rfl, h⟩))))
  refine wp_x 4 hF rfl ?_
  refine wp_ca rfl rfl ?_
  refine c_has (p := k1 kd) hF (Or.inl rfl) b5 hi ?_
  refine wp_ne1 rfl (fun q => no2 (Or.inl (by have := b10 q; simpa [k1] using this))) (fun q => ?_)
  have hk : ¬ kd i = 1 := by have := b01.mp q; simpa [k1] using this
  refine wp_x 4 hF rfl ?_
  refine wp_ca rfl rfl ?_
  refine c_has (p := pd) hF (Or.inr rfl) b7 hi ?_
  refine wp_ne1 rfl (fun q => no2 (Or.inr (Or.inl (b10 q)))) (fun q2 => ?_)
  have hp := b01.mp q2
  have hlen : (A 6).length = ca.length := by have := congrArg List.length h2.2; rwa [List.length_map] at this
  have hcnt : mi 6 3 = nI ca.length := by rw [(h1.2.2.2.1 6 (Or.inl rfl)).2.2, hlen]
  refine wp_x 5 hF rfl ?_
  refine wp_lt2N ca.length 12 rfl hcnt rfl (by omega) (by omega) (fun q3 => ?_) (fun q3 => no2 (Or.inr (Or.inr q3)))
  refine wp_x 5 hF rfl ?_
  refine wp_ca rfl rfl ?_
  refine c_readC (t := 21) h1 h2 (Or.inr rfl) (by omega) (fun m1 e1 e2 => ?_)
  refine wp_x 5 hF rfl ?_
  refine wp_as j rfl rfl rfl (by decide) rfl (show j < 4 from hj) ?_
  obtain ⟨m2, hm2⟩ : ∃ z, z = am_u2 m1 22 j v := ⟨_, rfl⟩
  rw [← hm2]
  have o2 : ∀ a, ¬ a = 21 → ¬ a = 22 → m2 a = mi a := fun a y1 y2 => by rw [hm2, sd_u2r _ _ _ _ y2, e1 a y1 y2]
  have hw2 : wds m2 22 0 = setW (rd4 dk ca i) j v := by
    rw [← e2, hm2]
    match j, hj with
    | 0, _ => simp [wds, am_u2, setW]
    | 1, _ => simp [wds, am_u2, setW]
    | 2, _ => simp [wds, am_u2, setW]
    | 3, _ => simp [wds, am_u2, setW]
  have C2 : CRA m2 mr sz A ((dk, ca), (up, nu, nx, us), (kd, ru, pd, pe), (0, lf, pl, tot, rn, rs)) := hC.mi (fun a ha => o2 a (by omega) (by omega))
  obtain ⟨c1, c2, c3, c4, c5, c6, c7, c8⟩ := C2
  refine wp_x 3 hF rfl ?_
  refine wp_ca rfl rfl ?_
  refine c_write' c1 (fun s m3 r3 sz3 A3 hAD hsec => ?_)
  have hF3 := hAD.1.1
  refine wp_x 4 hF3 rfl ?_
  refine wp_cv rfl rfl (tgS hAD.2.2.2.2.2.1.1 hAD.2.2.2.2.2.1.2.1) rfl rfl ⟨by simp, (by decide : 3 ≤ pg_ml 17)⟩ ?_
  have hs34 := hAD.2.2.2.2.2.1.1
  refine c_copy (q := 22) (p := 0) hF3 hAD.2.2.2.2.2.1.sh ⟨rfl, by decide, show 0 + 4 ≤ 4 by omega⟩ (fun m4 f1 f2 => ?_)
  obtain ⟨d1, d2, d3, d4, d5, d6, d7, d8, d9, d10⟩ := hAD.w (Or.inl rfl) f1
  refine wp_x 1 hF3 rfl ?_
  have lo : ∀ a x, a < 34 → ¬ (a = 6 ∧ x = 3) → m4 a x = m2 a x := d4
  have rw4 : ∀ a, a < 34 → ¬ a = 6 → m4 a = m2 a := fun a y1 y2 => funext fun x => d4 a x y1 (fun z => y2 z.1)
  have es : ent m4 s = (nI i, setW (rd4 dk ca i) j v) := by
    have z1 : m4 s 1 = nI i := by rw [f1 s (by omega)]; exact hsec
    have z2 : wds m4 (s + 1) 0 = setW (rd4 dk ca i) j v := by
      rw [f2, ← hw2]
      exact wds_ext (fun x _ => hAD.2.2.2.1 22 (0 + x) (by omega) (by omega))
    show (m4 s 1, wds m4 (s + 1) 0) = _
    rw [z1, z2]
  refine wp_re rfl rfl (tt hk hp q3 m4 r3 sz3 ⟨⟨A3, d1, ⟨fun x hx => ?_, ?_⟩, c3.cg (fun a y1 y2 => rw4 a (by omega) (by omega)), ?_, fun X hX => ?_, fun z => absurd rfl z, fun z => absurd z (by decide), fun z => absurd z (by decide)⟩, fun a ha => ?_, d8, by omega⟩)
  · rw [rw4 5 (by omega) (by omega)]; exact c2.1 x hx
  · rw [d2, List.map_append, d5 6 (by omega), c2.2, List.map_cons, es, List.map_nil]
  · rw [d7]; exact c4
  · rw [d3 X (by omega) (by omega), d5 X (by omega)]; exact c5 X hX
  · rw [rw4 a (by omega) (by omega), o2 a (by omega) (by omega)]
theorem c_changedC {b : Int32} (hC : CRA mi mr sz A ((dk, ca), (up, nu, nx, us), (kd, ru, pd, pe), (jb, lf, pl, tot, rn, rs))) (hk2 : ∀ b, b < 16 → kd b ≤ 2) (t : ∀ i, i < 16 → b = nI i → up = true → Q (some (.int (nI (kd i + if pd i = true then 4 else 0)))) (mi, mr, sz)) (f : (up = false ∨ ∀ i, i < 16 → b ≠ nI i) → Q (some (.int (-1))) (mi, mr, sz)) : am_wp 71 0 (am_lo 71 [.ref 2, .int b]) [] (mi, mr, sz) Q := by
  have hF := hC.cw.1
  have hM := hC.2.2.1
  have no : (up = false ∨ ∀ i, i < 16 → b ≠ nI i) → am_wp 71 20 [.ref 2, .int b, .long 0] [] (mi, mr, sz) Q := fun h => wp_x 1 hF rfl (wp_re rfl rfl (f h))
  refine wp_x 3 hF rfl ?_
  refine wp_eq1 rfl (fun q => no (Or.inl (up7f hM q))) (fun q => ?_)
  have hu := (up7 hM).mp q
  refine wp_x 1 hF rfl ?_
  refine wp_lt1 rfl (fun q => no (Or.inr (rng_neg (by omega) (Or.inl q)))) (fun q1 => ?_)
  refine wp_x 2 hF rfl ?_
  refine wp_lt2 rfl (fun q2 => ?_) (fun q2 => no (Or.inr (rng_neg (by omega) (Or.inr (i_nlt.mp q2)))))
  obtain ⟨i, hi, e⟩ := rng_of (N := 16) (by omega) q1 (fun z => i_nlt.mpr z q2)
  have tt := t i hi e hu
  subst e
  have hki := hk2 i hi
  obtain ⟨b1, b2, b3, b4, b5, b6, b7, b8, b9⟩ := id hM
  dsimp only at b5 b6 b7
  have tail : am_wp 71 54 [.ref 2, .int (nI i), .int (nI (kd i))] [] (mi, mr, sz) Q := by
    refine wp_x 4 hF rfl ?_
    refine wp_ca rfl rfl ?_
    refine c_has (p := pd) hF (Or.inr rfl) b7 hi ?_
    refine wp_eq1 rfl (fun q => ?_) (fun q => ?_)
    · rw [b01.mp q, if_neg (by decide), Nat.add_zero] at tt
      refine wp_x 1 hF rfl ?_
      exact wp_re rfl rfl tt
    · rw [b10 q, if_pos rfl, ← nI_add] at tt
      refine wp_x 4 hF rfl ?_
      exact wp_re rfl rfl tt
  refine wp_x 4 hF rfl ?_
  refine wp_ca rfl rfl ?_
  refine c_has (p := k1 kd) hF (Or.inl rfl) b5 hi ?_
  refine wp_eq1 rfl (fun q => ?_) (fun q => ?_)
  · have hk : ¬ kd i = 1 := by have := b01.mp q; simpa [k1] using this
    refine wp_x 9 hF rfl ?_
    show am_wp 71 53 _ [.int (((mi 7 6 >>> (nI i &&& 31)) &&& 1) <<< ((1 : Int32) &&& 31))] _ _
    rw [b6, msk_has _ hi]
    have : ((if k2 kd i = true then 1 else 0 : Int32) <<< ((1 : Int32) &&& 31)) = nI (kd i) := by
      rcases (by omega : kd i = 0 ∨ kd i = 2) with z | z
      · rw [if_neg (by simp [k2, z]), z]; decide
      · rw [if_pos (by simp [k2, z]), z]; decide
    rw [this]
    refine wp_x 1 hF rfl ?_
    exact tail
  · have hk : kd i = 1 := by have := b10 q; simpa [k1] using this
    refine wp_x 3 hF rfl ?_
    rw [hk] at tail
    exact tail
theorem c_stateC (hC : CRA mi mr sz A ((dk, ca), (up, nu, nx, us), (kd, ru, pd, pe), (jb, lf, pl, tot, rn, rs))) (hjb : jb = 0 ∨ jb = 2 ∨ jb = 3 ∨ jb = 4) (k : Q (some (.int (if jb = 0 then (if up = true then 1 else 0) else nI jb))) (mi, mr, sz)) : am_wp 65 0 (am_lo 65 [.ref 2]) [] (mi, mr, sz) Q := by
  have hF := hC.cw.1
  have hM := hC.2.2.1
  have hjob : mr 2 7 = jbA jb := hC.job
  refine wp_x 2 hF rfl ?_
  show am_wp 65 4 _ [.ref (mr 2 7)] _ _
  rw [hjob]
  refine wp_nul rfl (fun q => ?_) (fun q => ?_)
  · rw [if_pos ((jbA_0 _ hjb).mp q)] at k
    refine wp_x 3 hF rfl ?_
    refine wp_eq1 rfl (fun q2 => ?_) (fun q2 => ?_)
    · have : up = false := up7f hM q2
      rw [this, if_neg (by decide)] at k
      refine wp_x 1 hF rfl ?_
      exact wp_re rfl rfl k
    · have : up = true := (up7 hM).mp q2
      rw [if_pos this] at k
      refine wp_x 2 hF rfl ?_
      exact wp_re rfl rfl k
  · have hj0 : ¬ jb = 0 := fun z => q ((jbA_0 _ hjb).mpr z)
    rw [if_neg hj0] at k
    refine wp_x 2 hF rfl ?_
    show am_wp 65 11 _ [.ref (mr 2 7)] _ _
    rw [hjob]
    rcases hjb.resolve_left hj0 with z | z | z
    · subst z
      refine wp_ca rfl rfl ?_
      refine wp_x 1 hF rfl (wp_re rfl rfl ?_)
      exact wp_x 1 hF rfl (wp_re rfl rfl k)
    · subst z
      refine wp_ca rfl rfl ?_
      refine wp_x 1 hF rfl (wp_re rfl rfl ?_)
      exact wp_x 1 hF rfl (wp_re rfl rfl k)
    · subst z
      refine wp_ca rfl rfl ?_
      refine wp_x 1 hF rfl (wp_re rfl rfl ?_)
      exact wp_x 1 hF rfl (wp_re rfl rfl k)
theorem c_leftC (hC : CRA mi mr sz A ((dk, ca), (up, nu, nx, us), (kd, ru, pd, pe), (jb, lf, pl, tot, rn, rs))) (hjb : jb = 0 ∨ jb = 2 ∨ jb = 3 ∨ jb = 4) (k : Q (some (.int (if jb = 0 then 0 else nI lf))) (mi, mr, sz)) : am_wp 72 0 (am_lo 72 [.ref 2]) [] (mi, mr, sz) Q := by
  have hF := hC.cw.1
  have hjob : mr 2 7 = jbA jb := hC.job
  refine wp_x 2 hF rfl ?_
  show am_wp 72 4 _ [.ref (mr 2 7)] _ _
  rw [hjob]
  refine wp_nnl rfl (fun q => ?_) (fun q => ?_)
  · have hj0 : ¬ jb = 0 := fun z => q ((jbA_0 _ hjb).mpr z)
    rw [if_neg hj0, ← hC.2.2.2.2.2.1 hj0] at k
    refine wp_x 2 hF rfl ?_
    show am_wp 72 15 _ [.ref (mr 2 7)] _ _
    rw [hjob]
    refine wp_gi rfl (by decide) (jbA_J (hjb.resolve_left hj0)).tg ?_
    exact wp_re rfl rfl k
  · rw [if_pos ((jbA_0 _ hjb).mp q)] at k
    refine wp_x 2 hF rfl ?_
    exact wp_re rfl rfl k
theorem c_numberC (hC : CRA mi mr sz A ((dk, ca), (up, nu, nx, us), (kd, ru, pd, pe), (jb, lf, pl, tot, rn, rs))) (k : Q (some (.int (if up = true then nu else -1))) (mi, mr, sz)) : am_wp 69 0 (am_lo 69 [.ref 2]) [] (mi, mr, sz) Q := by
  have hF := hC.cw.1
  have hM := hC.2.2.1
  refine wp_x 3 hF rfl ?_
  refine wp_eq1 rfl (fun q2 => ?_) (fun q2 => ?_)
  · have : up = false := up7f hM q2
    rw [this, if_neg (by decide)] at k
    refine wp_x 1 hF rfl ?_
    exact wp_re rfl rfl k
  · have : up = true := (up7 hM).mp q2
    have e : mi 7 1 = nu := hM.2.1
    rw [if_pos this, ← e] at k
    refine wp_x 4 hF rfl ?_
    exact wp_re rfl rfl k
theorem c_usedC (hC : CRA mi mr sz A ((dk, ca), (up, nu, nx, us), (kd, ru, pd, pe), (jb, lf, pl, tot, rn, rs))) (k : Q (some (.int (if up = true then nI us else -1))) (mi, mr, sz)) : am_wp 70 0 (am_lo 70 [.ref 2]) [] (mi, mr, sz) Q := by
  have hF := hC.cw.1
  have hM := hC.2.2.1
  refine wp_x 3 hF rfl ?_
  refine wp_eq1 rfl (fun q2 => ?_) (fun q2 => ?_)
  · have : up = false := up7f hM q2
    rw [this, if_neg (by decide)] at k
    refine wp_x 1 hF rfl ?_
    exact wp_re rfl rfl k
  · have : up = true := (up7 hM).mp q2
    have e : mi 7 3 = nI us := hM.2.2.2.1
    rw [if_pos this, ← e] at k
    refine wp_x 4 hF rfl ?_
    exact wp_re rfl rfl k
theorem c_cachedC (hC : CRA mi mr sz A ((dk, ca), (up, nu, nx, us), (kd, ru, pd, pe), (jb, lf, pl, tot, rn, rs))) (k : Q (some (.int (nI ca.length))) (mi, mr, sz)) : am_wp 64 0 (am_lo 64 [.ref 2]) [] (mi, mr, sz) Q := by
  obtain ⟨h1, h2, -⟩ := hC
  have hlen : (A 6).length = ca.length := by have := congrArg List.length h2.2; rwa [List.length_map] at this
  have hcnt : mi 6 3 = nI ca.length := by rw [(h1.2.2.2.1 6 (Or.inl rfl)).2.2, hlen]
  refine wp_x 4 h1.1 rfl ?_
  rw [← hcnt] at k
  exact wp_re rfl rfl k
theorem c_storedC {s w : Int32} (hC : CRA mi mr sz A ((dk, ca), (up, nu, nx, us), (kd, ru, pd, pe), (jb, lf, pl, tot, rn, rs))) (t : ∀ i j, i < 41 → j < 4 → s = nI i → w = nI j → Q (some (.int (dk (4 * i + j)))) (mi, mr, sz)) (f : (¬ ((∃ i, i < 41 ∧ s = nI i) ∧ ∃ j, j < 4 ∧ w = nI j)) → Q (some (.int 0)) (mi, mr, sz)) : am_wp 63 0 (am_lo 63 [.ref 2, .int s, .int w]) [] (mi, mr, sz) Q := by
  have hF := hC.cw.1
  have no : (∀ i, i < 41 → s ≠ nI i) ∨ (∀ j, j < 4 → w ≠ nI j) → am_wp 63 19 [.ref 2, .int s, .int w] [] (mi, mr, sz) Q := fun h => wp_x 2 hF rfl (wp_re rfl rfl (f (by
    rintro ⟨⟨i, hi, e⟩, j, hj, e2⟩
    rcases h with h | h
    · exact h i hi e
    · exact h j hj e2)))
  refine wp_x 1 hF rfl ?_
  refine wp_lt1 rfl (fun q => no (Or.inl (rng_neg (by omega) (Or.inl q)))) (fun q1 => ?_)
  refine wp_x 2 hF rfl ?_
  refine wp_ge2 rfl (fun q => no (Or.inl (rng_neg (by omega) (Or.inr q)))) (fun q2 => ?_)
  refine wp_x 1 hF rfl ?_
  refine wp_lt1 rfl (fun q => no (Or.inr (rng_neg (by omega) (Or.inl q)))) (fun q3 => ?_)
  refine wp_x 2 hF rfl ?_
  refine wp_lt2 rfl (fun q4 => ?_) (fun q => no (Or.inr (rng_neg (by omega) (Or.inr (i_nlt.mp q)))))
  obtain ⟨i, hi, e1⟩ := rng_of (N := 41) (by omega) q1 q2
  obtain ⟨j, hj, e2⟩ := rng_of (N := 4) (by omega) q3 (fun z => i_nlt.mpr z q4)
  have tt := t i j hi hj e1 e2
  subst e1; subst e2
  refine wp_x 8 hF rfl ?_
  refine wp_al (4 * i + j) rfl rfl (a4 i j) (by decide) rfl (show 4 * i + j < 164 by omega) ?_
  rw [hC.2.1.1 _ (by omega)]
  exact wp_re rfl rfl tt
theorem c_readC2 {s w : Int32} (hC : CRA mi mr sz A ((dk, ca), (up, nu, nx, us), (kd, ru, pd, pe), (jb, lf, pl, tot, rn, rs))) (t : ∀ i j, i < 41 → j < 4 → s = nI i → w = nI j → ∀ mi', PO mi mr sz ((dk, ca), (up, nu, nx, us), (kd, ru, pd, pe), (jb, lf, pl, tot, rn, rs)) mi' mr sz → Q (some (.int (rdS dk ca i j))) (mi', mr, sz)) (f : (¬ ((∃ i, i < 41 ∧ s = nI i) ∧ ∃ j, j < 4 ∧ w = nI j)) → Q (some (.int 0)) (mi, mr, sz)) : am_wp 62 0 (am_lo 62 [.ref 2, .int s, .int w]) [] (mi, mr, sz) Q := by
  have hF := hC.cw.1
  have no : (∀ i, i < 41 → s ≠ nI i) ∨ (∀ j, j < 4 → w ≠ nI j) → am_wp 62 19 [.ref 2, .int s, .int w] [] (mi, mr, sz) Q := fun h => wp_x 1 hF rfl (wp_re rfl rfl (f (by
    rintro ⟨⟨i, hi, e⟩, j, hj, e2⟩
    rcases h with h | h
    · exact h i hi e
    · exact h j hj e2)))
  refine wp_x 1 hF rfl ?_
  refine wp_lt1 rfl (fun q => no (Or.inl (rng_neg (by omega) (Or.inl q)))) (fun q1 => ?_)
  refine wp_x 2 hF rfl ?_
  refine wp_ge2 rfl (fun q => no (Or.inl (rng_neg (by omega) (Or.inr q)))) (fun q2 => ?_)
  refine wp_x 1 hF rfl ?_
  refine wp_lt1 rfl (fun q => no (Or.inr (rng_neg (by omega) (Or.inl q)))) (fun q3 => ?_)
  refine wp_x 2 hF rfl ?_
  refine wp_lt2 rfl (fun q4 => ?_) (fun q => no (Or.inr (rng_neg (by omega) (Or.inr (i_nlt.mp q)))))
  obtain ⟨i, hi, e1⟩ := rng_of (N := 41) (by omega) q1 q2
  obtain ⟨j, hj, e2⟩ := rng_of (N := 4) (by omega) q3 (fun z => i_nlt.mpr z q4)
  have tt := t i j hi hj e1 e2
  subst e1; subst e2
  refine wp_x 5 hF rfl ?_
  refine wp_ca rfl rfl ?_
  refine c_readC (t := 21) hC.1 hC.2.1 (Or.inr rfl) hi (fun m1 g1 g2 => ?_)
  refine wp_x 4 hF rfl ?_
  refine wp_al j rfl rfl rfl (by decide) rfl (show j < 4 from hj) ?_
  have e := congrArg (fun e => wd4 e j) g2
  simp only [wds_w hj, Nat.zero_add] at e
  have e3 : wd4 (rd4 dk ca i) j = rdS dk ca i j := by
    match j, hj with
    | 0, _ => rfl
    | 1, _ => rfl
    | 2, _ => rfl
    | 3, _ => rfl
  rw [e, e3]
  exact wp_re rfl rfl (tt m1 ⟨⟨A, hC.mi (fun a ha => g1 a (by omega) (by omega))⟩, fun a ha => g1 a (by omega) (by omega), rfl, by omega⟩)
end PUB2
end
section
/-! THE COMPONENT: plans; the checkpoint -/
def BW (P : Nat) (R : Nat → Nat → Prop) (mi0 : Nat → Nat → Int32) (mr0 : Nat → Nat → Nat) (sz0 : Nat) (A0 : Nat → List Nat) (mi : Nat → Nat → Int32) (mr : Nat → Nat → Nat) (sz : Nat) (A : Nat → List Nat) (es : List En) : Prop :=
  CW mi mr sz A ∧ (A P).map (ent mi) = es ∧ (∀ d, ¬ d = P → ¬ d = 3 → (A d).map (ent mi) = (A0 d).map (ent mi0)) ∧ (∀ a j, a < 34 → ¬ R a j → ¬ (a = P ∧ j = 3) → mi a j = mi0 a j) ∧ mr 2 = mr0 2 ∧ mr 1 = mr0 1 ∧ sz ≤ sz0 + 2 * es.length
def Rok (R : Nat → Nat → Prop) : Prop := ∀ a j, R a j → 12 ≤ a ∧ a ≤ 20 ∧ ¬ (isC a ∧ j = 3)
section PREP
variable {mi mi0 : Nat → Nat → Int32} {mr mr0 : Nat → Nat → Nat} {sz sz0 : Nat} {Q : Option Value → am_H → Prop} {A A0 : Nat → List Nat} {dk : Nat → Int32} {ca : List En} {up : Bool} {nu : Int32} {nx us : Nat} {kd : Nat → Nat} {ru : Nat → Int32} {pd : Nat → Bool} {pe : Nat → Int32} {jb lf tot : Nat} {pl : List En} {rn : Int32} {rs : Nat} {P : Nat} {R : Nat → Nat → Prop} {es : List En}
theorem BW.add {s : Nat} {mi' : Nat → Nat → Int32} {mr' : Nat → Nat → Nat} {sz' : Nat} {A' : Nat → List Nat} {e : En} (hB : BW P R mi0 mr0 sz0 A0 mi mr sz A es) (hP : ¬ P = 3) (h : AD P s mi mr sz A mi' mr' sz' A') (he : ent mi' s = e) : BW P R mi0 mr0 sz0 A0 mi' mr' sz' A' (es ++ [e]) := by
  obtain ⟨b1, b2, b3, b4, b5, b6, b7⟩ := hB
  obtain ⟨d1, d2, d3, d4, d5, d6, d7, d8, d9, d10⟩ := h
  refine ⟨d1, ?_, fun d y1 y2 => ?_, fun a j y1 y2 y3 => ?_, d7.trans b5, d8.trans b6, ?_⟩
  · rw [d2, List.map_append, d5 P hP, b2, List.map_cons, he, List.map_nil]
  · rw [d3 d y1 y2, d5 d y2]; exact b3 d y1 y2
  · rw [d4 a j y1 y3]; exact b4 a j y1 y2 y3
  · rw [List.length_append]; simp only [List.length_cons, List.length_nil]; omega
theorem BW.set {mi' : Nat → Nat → Int32} (hB : BW P R mi0 mr0 sz0 A0 mi mr sz A es) (hR : Rok R) (e : ∀ a j, ¬ R a j → mi' a j = mi a j) : BW P R mi0 mr0 sz0 A0 mi' mr sz A es := by
  obtain ⟨b1, b2, b3, b4, b5, b6, b7⟩ := hB
  have hi : ∀ a j, 34 ≤ a → mi' a j = mi a j := fun a j h => e a j (fun z => by have := hR a j z; omega)
  have em : ∀ d, (A d).map (ent mi') = (A d).map (ent mi) := fun d => ent_map (fun y hy => by
    have := (b1.ok hy).1
    exact ⟨hi y 1 this, funext fun j => hi (y + 1) j (by omega)⟩)
  refine ⟨b1.mi (fun c hc => e c 3 (fun z => (hR c 3 z).2.2 ⟨hc, rfl⟩)), by rw [em P]; exact b2, fun d y1 y2 => by rw [em d]; exact b3 d y1 y2, fun a j y1 y2 y3 => by rw [e a j y2]; exact b4 a j y1 y2 y3, b5, b6, b7⟩
theorem BW.len (hB : BW P R mi0 mr0 sz0 A0 mi mr sz A es) (hP : isC P) : mi P 3 = nI es.length := by
  obtain ⟨b1, b2, -⟩ := hB
  have := congrArg List.length b2
  rw [List.length_map] at this
  rw [(b1.2.2.2.1 P hP).2.2, this]
theorem BW.fin {rn' : Int32} {rs' : Nat} (hB : BW P R mi0 mr0 sz0 A0 mi mr sz A es) (hR : Rok R) (hC : CRA mi0 mr0 sz0 A0 ((dk, ca), (up, nu, nx, us), (kd, ru, pd, pe), (0, lf, pl, tot, rn, rs))) (hj : jb = 2 ∨ jb = 3 ∨ jb = 4) (hP : P = jbA jb + 1) (h2 : jb = 2 → mi 12 4 = nI (rlen kd)) (h4 : jb = 4 → mi 16 6 = rn' ∧ mi 16 5 = nI rs') (hl : es.length ≤ 31) : PO mi0 mr0 sz0 ((dk, ca), (up, nu, nx, us), (kd, ru, pd, pe), (jb, es.length + 2, es, es.length + 2, rn', rs')) (am_u2 mi (jbA jb) 3 (nI (es.length + 2))) (am_u2 mr 2 7 (jbA jb)) sz := by
  obtain ⟨b1, b2, b3, b4, b5, b6, b7⟩ := hB
  obtain ⟨c1, c2, c3, c4, c5, c6, c7, c8⟩ := hC
  have hJ := jbA_J hj
  obtain ⟨J, hJe⟩ : ∃ z, z = jbA jb := ⟨_, rfl⟩
  rw [← hJe] at hJ hP ⊢
  have jl := hJ.lt
  obtain ⟨m2, hm2⟩ : ∃ z, z = am_u2 mi J 3 (nI (es.length + 2)) := ⟨_, rfl⟩
  rw [← hm2]
  have o2 : ∀ a, ¬ a = J → m2 a = mi a := fun a ha => by rw [hm2, sd_u2r _ _ _ _ ha]
  have lo : ∀ a, a < 12 → m2 a = mi0 a := fun a ha => funext fun j => by rw [o2 a (by omega)]; exact b4 a j (by omega) (fun z => by have := hR a j z; omega) (by omega)
  have em : ∀ d, (A d).map (ent m2) = (A d).map (ent mi) := fun d => ent_map (fun y hy => by
    have := (b1.ok hy).1
    exact ⟨by rw [o2 y (by omega)], by rw [o2 (y + 1) (by omega)]⟩)
  have hcC : ∀ c, isC c → ¬ c = J := fun c hc => by rcases hc with z | z | z | z <;> omega
  refine ⟨⟨A, (b1.mi (fun c hc => by rw [o2 c (hcC c hc)])).job J, ⟨fun j hj => by rw [lo 5 (by omega)]; exact c2.1 j hj, by rw [em 6, b3 6 (by omega) (by omega)]; exact c2.2⟩, c3.cg (fun a y1 y2 => lo a (by omega)), ?_, fun X hX => ?_, fun _ => ?_, fun z => ?_, fun z => ?_⟩, fun a ha => funext fun j => ?_, by rw [sd_u2r _ _ _ _ (by decide)]; exact b6, by omega⟩
  · rw [sd_u2s]; exact hJe
  · rw [em X, ← hJe]
    by_cases hX2 : X = J + 1
    · rw [if_pos hX2, hX2, ← hP]; exact b2
    · rw [if_neg hX2, b3 X (by omega) (by omega), c5 X hX]
      rw [if_neg]
      intro z
      have : jbA 0 = 0 := rfl
      omega
  · rw [← hJe, hm2, sd_u2s]
  · have hz : J = 12 := by rw [hJe, z]; rfl
    rw [hm2, ← hz, sd_u2k _ _ _ _ (by decide), hz]; exact h2 z
  · have hz : J = 16 := by rw [hJe, z]; rfl
    rw [hm2, ← hz, sd_u2k _ _ _ _ (by decide), sd_u2k _ _ _ _ (by decide), hz]; exact h4 z
  · rw [o2 a (by omega)]; exact b4 a j (by omega) (fun z => by have := hR a j z; omega) (by omega)
theorem BW.ini (hC : CW mi mr sz A) (hP : A P = []) : BW P R mi mr sz A mi mr sz A [] := ⟨hC, by rw [hP]; rfl, fun _ _ _ => rfl, fun _ _ _ _ _ => rfl, rfl, rfl, by simp⟩
theorem CRA.pl0 (hC : CRA mi mr sz A ((dk, ca), (up, nu, nx, us), (kd, ru, pd, pe), (0, lf, pl, tot, rn, rs))) {X : Nat} (hX : X = 13 ∨ X = 15 ∨ X = 17) : A X = [] := by
  have := hC.2.2.2.2.1 X hX
  rw [if_neg (by have : jbA 0 = 0 := rfl; omega)] at this
  exact List.map_eq_nil_iff.mp this
theorem c_begin {J : Nat} (hF : FX mr) (hJ : isJ J) (k : Q none (am_u2 mi J 3 (mi (J + 1) 3 + 2), mr, sz)) : am_wp 35 0 (am_lo 35 [.ref J]) [] (mi, mr, sz) Q := by
  refine wp_x 2 hF rfl ?_
  refine wp_gr rfl hJ.tg (hF.j2 hJ) ?_
  refine wp_gi rfl (by decide) (by rw [tgC hJ.c]; rfl) ?_
  refine wp_x 2 hF rfl ?_
  refine wp_pi rfl hJ.tg ?_
  exact wp_re rfl rfl k
theorem imgsN_skip {p : Nat → Bool} {c : Nat} : ∀ c', c ≤ c' → (∀ j, c ≤ j → j < c' → p j = false) → imgsN p c' = imgsN p c
  | 0, h, _ => by have : c = 0 := by omega
                  rw [this]
  | c' + 1, h, hp => by
    by_cases hc : c = c' + 1
    · rw [hc]
    · rw [imgsN_succ, if_neg (by rw [hp c' (by omega) (by omega)]; decide)]
      exact imgsN_skip c' (by omega) (fun j y1 y2 => hp j y1 (by omega))
theorem Rno : Rok (fun _ _ => False) := fun _ _ h => h.elim
theorem c_KJprep (hC : CRA mi mr sz A ((dk, ca), (up, nu, nx, us), (kd, ru, pd, pe), (0, lf, pl, tot, rn, rs))) (k : ∀ mi' mr' sz' A', BW 15 (fun _ _ => False) mi mr sz A mi' mr' sz' A' (flK pd pe nu nx) → Q none (am_u2 mi' 14 3 (nI ((flK pd pe nu nx).length + 2)), mr', sz')) : am_wp 37 0 (am_lo 37 [.ref 14]) [] (mi, mr, sz) Q := by
  have hF := hC.cw.1
  have hM := hC.2.2.1
  obtain ⟨b1, b2, b3, b4', b5, b6, b7, b8, b9⟩ := id hM
  dsimp only at b2 b3 b7 b9
  have lo : ∀ {m1 r1 z1 A1 es}, BW 15 (fun _ _ => False) mi mr sz A m1 r1 z1 A1 es → ∀ a, a < 34 → ¬ a = 15 → m1 a = mi a := fun hB a h1 h2 => funext fun j => hB.2.2.2.1 a j h1 id (fun z => h2 z.1)
  have loop : ∀ d c (m1 : Nat → Nat → Int32) (r1 : Nat → Nat → Nat) (z1 : Nat) (A1 : Nat → List Nat), 16 ≤ c + d → c ≤ 16 → (c < 16 → pd c = true) → BW 15 (fun _ _ => False) mi mr sz A m1 r1 z1 A1 ((imgsN pd c).map (fun b => (nI b, b4 pe b))) → am_wp 37 12 [.ref 14, .int (nI c)] [] (m1, r1, z1) Q := by
    intro d
    induction d with
    | zero =>
      intro c m1 r1 z1 A1 hd hc hp hB
      have hc' : c = 16 := by omega
      subst hc'
      have hF1 := hB.1.1
      refine wp_x 2 hF1 rfl ?_
      refine wp_ge2N 16 16 rfl rfl rfl (by omega) (by omega) (fun _ => ?_) (fun q => absurd q (by omega))
      refine wp_x 3 hF1 rfl ?_
      refine wp_ca rfl rfl ?_
      refine c_add' hB.1 (Or.inr (Or.inr (Or.inl rfl))) (fun s m2 r2 z2 A2 hAD hsec => ?_)
      have hF2 := hAD.1.1
      refine wp_x 8 hF2 rfl ?_
      refine wp_cv rfl rfl (tgS hAD.2.2.2.2.2.1.1 hAD.2.2.2.2.2.1.2.1) rfl rfl ⟨by simp, (by decide : 5 ≤ pg_ml 32)⟩ ?_
      have hs34 := hAD.2.2.2.2.2.1.1
      refine c_fill hF2 hAD.2.2.2.2.2.1.sh (fun m3 f1 f2 => ?_)
      have e71 : m2 7 1 = nu := by rw [hAD.2.2.2.1 7 1 (by omega) (by omega), lo hB 7 (by omega) (by omega)]; exact b2
      have e72 : m2 7 2 = nI nx := by rw [hAD.2.2.2.1 7 2 (by omega) (by omega), lo hB 7 (by omega) (by omega)]; exact b3
      have hB3 := hB.add (by decide) (hAD.w (Or.inr (Or.inr (Or.inl rfl))) f1) (e := (nI 16, MG, nu, nI nx, 0)) (by
        have q1 : m3 s 1 = nI 16 := by rw [f1 s (by omega)]; exact hsec
        show (m3 s 1, wds m3 (s + 1) 0) = _
        rw [q1, f2]
        dsimp only
        rw [e71, e72]
        rfl)
      have hB4 : BW 15 (fun _ _ => False) mi mr sz A m3 r2 z2 A2 (flK pd pe nu nx) := hB3
      refine wp_x 1 hF2 rfl ?_
      refine wp_ca rfl rfl ?_
      refine c_begin hF2 (Or.inr (Or.inl rfl)) ?_
      rw [show m3 (14 + 1) 3 = nI (flK pd pe nu nx).length from hB4.len (Or.inr (Or.inr (Or.inl rfl))), show nI (flK pd pe nu nx).length + 2 = nI ((flK pd pe nu nx).length + 2) from nI_add _ 2]
      exact wp_re rfl rfl (k m3 r2 z2 A2 hB4)
    | succ d ih =>
      intro c m1 r1 z1 A1 hd hc hp hB
      by_cases hc' : c = 16
      · subst hc'
        exact ih 16 m1 r1 z1 A1 (by omega) hc hp hB
      have hc16 : c < 16 := by omega
      have hF1 := hB.1.1
      refine wp_x 2 hF1 rfl ?_
      refine wp_ge2N c 16 rfl rfl rfl (by omega) (by omega) (fun q => absurd q (by omega)) (fun _ => ?_)
      refine wp_x 3 hF1 rfl ?_
      refine wp_ca rfl rfl ?_
      refine c_add' hB.1 (Or.inr (Or.inr (Or.inl rfl))) (fun s m2 r2 z2 A2 hAD hsec => ?_)
      have hF2 := hAD.1.1
      have hs34 := hAD.2.2.2.2.2.1.1
      refine wp_x 7 hF2 rfl ?_
      show am_wp 37 39 _ [.int (4 * nI c), .ref 11, .ref s] _ _
      rw [a40]
      refine wp_cv rfl rfl (tgS hAD.2.2.2.2.2.1.1 hAD.2.2.2.2.2.1.2.1) rfl rfl ⟨by simp, (by decide : 3 ≤ pg_ml 17)⟩ ?_
      refine c_copy (q := 11) hF2 hAD.2.2.2.2.2.1.sh ⟨rfl, by decide, show 4 * c + 4 ≤ 64 by omega⟩ (fun m3 f1 f2 => ?_)
      have hB3 := hB.add (by decide) (hAD.w (Or.inr (Or.inr (Or.inl rfl))) f1) (e := (nI c, b4 pe c)) (by
        have q1 : m3 s 1 = nI c := by rw [f1 s (by omega)]; exact hsec
        have q2 : ∀ x, x < 64 → m2 11 x = pe x := fun x hx => by rw [hAD.2.2.2.1 11 x (by omega) (by omega), lo hB 11 (by omega) (by omega)]; exact b9 x hx
        show (m3 s 1, wds m3 (s + 1) 0) = _
        rw [q1, f2]
        simp only [wds, b4]
        rw [q2 _ (by omega), q2 _ (by omega), q2 _ (by omega), q2 _ (by omega)])
      refine wp_x 6 hF2 rfl ?_
      show am_wp 37 52 _ [.int (nI c + 1), .ref 10] _ _
      rw [nI_1]
      refine wp_ca rfl rfl ?_
      refine c_from (p := pd) (i := c + 1) hF2 (Or.inr rfl) (by rw [lo hB3 10 (by omega) (by omega)]; exact b7) (by omega) (fun c' y1 y2 y3 y4 => ?_)
      refine wp_x 2 hF2 rfl ?_
      refine ih c' m3 r2 z2 A2 (by omega) y2 y4 ?_
      rw [imgsN_skip c' y1 y3, imgsN_succ, if_pos (hp hc16), List.map_append]
      exact hB3
  refine wp_x 4 hF rfl ?_
  refine wp_ca rfl rfl ?_
  refine c_from (p := pd) (i := 0) hF (Or.inr rfl) b7 (by omega) (fun c' y1 y2 y3 y4 => ?_)
  refine wp_x 1 hF rfl ?_
  refine loop 16 c' mi mr sz A (by omega) y2 y4 ?_
  rw [imgsN_skip c' y1 y3]
  exact BW.ini hC.cw (hC.pl0 (Or.inr (Or.inl rfl)))
theorem c_checkpointC (hC : CRA mi mr sz A ((dk, ca), (up, nu, nx, us), (kd, ru, pd, pe), (jb, lf, pl, tot, rn, rs))) (hjb : jb = 0 ∨ jb = 2 ∨ jb = 3 ∨ jb = 4) (t : up = true → jb = 0 → ∀ mi' mr' sz', PO mi mr sz ((dk, ca), (up, nu, nx, us), (kd, ru, pd, pe), (3, cnt pd 16 + 3, flK pd pe nu nx, cnt pd 16 + 3, rn, rs)) mi' mr' sz' → Q (some (.int (nI (cnt pd 16)))) (mi', mr', sz')) (f : (up = false ∨ ¬ jb = 0) → Q (some (.int (-1))) (mi, mr, sz)) : am_wp 36 0 (am_lo 36 [.ref 2]) [] (mi, mr, sz) Q := by
  have hF := hC.cw.1
  have hM := hC.2.2.1
  have hjob := hC.job
  refine wp_x 1 hF rfl ?_
  refine wp_ca rfl rfl ?_
  refine c_idleC hF (fun g1 g2 => ?_) (fun h => ?_)
  rotate_left
  · refine wp_ne1 rfl (fun q => absurd rfl q) (fun _ => ?_)
    refine wp_x 1 hF rfl ?_
    exact wp_re rfl rfl (f (nidleC hM hjob hjb h))
  have hu : up = true := (up7 hM).mp g1
  have hj0 : jb = 0 := (jbA_0 jb hjb).mp (by rw [← g2]; exact hjob.symm)
  subst hj0
  refine wp_ne1 rfl (fun _ => ?_) (fun q => absurd q (by decide))
  refine wp_x 2 hF rfl ?_
  refine wp_ca rfl rfl ?_
  refine c_KJprep hC (fun m1 r1 z1 A1 hB => ?_)
  have hF1 := hB.1.1
  have hl := flK_len pd pe nu nx
  have h16 := cnt_le pd 16
  have hPO := hB.fin (jb := 3) (rn' := rn) (rs' := rs) Rno hC (Or.inr (Or.inl rfl)) rfl (fun z => absurd z (by decide)) (fun z => absurd z (by decide)) (by omega)
  rw [show jbA 3 = 14 from rfl, hl] at hPO
  rw [hl]
  refine wp_x 3 hF1 rfl ?_
  refine wp_pr rfl rfl ?_
  obtain ⟨⟨A2, hA2⟩, -⟩ := id hPO
  refine wp_x 4 hA2.cw.1 rfl ?_
  have e10 : am_u2 m1 14 3 (nI (cnt pd 16 + 1 + 2)) 10 1 = nI (msk pd) := hA2.2.2.1.2.2.2.2.2.2.1
  show am_wp 36 34 _ [.int (am_u2 m1 14 3 (nI (cnt pd 16 + 1 + 2)) 10 1)] _ _
  rw [e10]
  refine wp_ca rfl rfl ?_
  refine c_bitCount (p := pd) hA2.cw.1 ?_
  exact wp_re rfl rfl (t hu rfl _ _ _ hPO)
end PREP
end
section
/-! THE COMPONENT: the commit -/
def RC (a j : Nat) : Prop := a = 12 ∧ (j = 4 ∨ j = 5)
theorem RCok : Rok RC := fun a j h => ⟨by unfold RC at h; omega, by unfold RC at h; omega, fun z => by unfold RC at h; unfold isC at z; omega⟩
theorem layR_app (nx : Nat) : ∀ (a b : List W4) (k : Nat), layR nx k (a ++ b) = layR nx k a ++ layR nx (k + a.length) b
  | [], b, k => by simp [layR]
  | w :: a, b, k => by
    rw [List.cons_append, layR, layR, layR_app nx a b (k + 1), List.cons_append, List.length_cons]
    have : k + 1 + a.length = k + (a.length + 1) := by omega
    rw [this]
theorem layR_snd (nx : Nat) : ∀ (a : List W4) (k : Nat), (layR nx k a).map Prod.snd = a
  | [], _ => rfl
  | w :: a, k => by rw [layR, List.map_cons, layR_snd nx a (k + 1)]
theorem infA_lt (ru : Nat → Int32) : ∀ (n : Nat) (l : List Nat), l.length = n → (∀ b ∈ l, b < 16) → infA ru 0 l < 2 ^ (3 + 5 * l.length) ∧ infA ru 0 l % 8 = 0
  | 0, l, h, _ => by
    have : l = [] := List.length_eq_zero_iff.mp h
    rw [this]; simp [infA]
  | n + 1, l, h, hb => by
    obtain ⟨l', b, rfl⟩ : ∃ l' b, l = l' ++ [b] := ⟨l.dropLast, l.getLast (by intro z; rw [z] at h; cases h), (List.dropLast_concat_getLast _).symm⟩
    have hl : l'.length = n := by simp at h; exact h
    obtain ⟨i1, i2⟩ := infA_lt ru n l' hl (fun x hx => hb x (List.mem_append_left _ hx))
    have hb16 := hb b (by simp)
    have hf : five ru b < 32 := by unfold five; split <;> omega
    rw [infA_snoc, List.length_append, Nat.zero_add]
    simp only [List.length_cons, List.length_nil, Nat.zero_add]
    have e : 2 ^ (3 + 5 * (l'.length + 1)) = 32 * 2 ^ (3 + 5 * l'.length) := by
      rw [show 3 + 5 * (l'.length + 1) = 5 + (3 + 5 * l'.length) by omega, Nat.pow_add]
    have h1 : five ru b * 2 ^ (3 + 5 * l'.length) ≤ 31 * 2 ^ (3 + 5 * l'.length) := Nat.mul_le_mul (by omega) (Nat.le_refl _)
    refine ⟨by rw [e]; omega, ?_⟩
    have h2 : (five ru b * 2 ^ (3 + 5 * l'.length)) % 8 = 0 := by
      rw [Nat.pow_add, ← Nat.mul_assoc, Nat.mul_comm (five ru b), Nat.mul_assoc]
      exact Nat.mul_mod_right _ _
    omega
theorem or16 : ∀ k, k < 16 → nI k ||| 16 = nI (k + 16) := by decide +kernel
theorem or_hi {X Y e : Nat} (h : X < 2 ^ e) : nI X ||| nI (Y * 2 ^ e) = nI (X + Y * 2 ^ e) := by
  rw [or_N]
  congr 1
  rw [Nat.or_comm, Nat.mul_comm, ← Nat.two_pow_add_eq_or_of_lt h]
  omega
section COM
variable {mi mi0 : Nat → Nat → Int32} {mr mr0 : Nat → Nat → Nat} {sz sz0 : Nat} {Q : Option Value → am_H → Prop} {A A0 : Nat → List Nat} {dk : Nat → Int32} {ca : List En} {up : Bool} {nu : Int32} {nx us : Nat} {kd : Nat → Nat} {ru : Nat → Int32} {pd : Nat → Bool} {pe : Nat → Int32} {jb lf tot : Nat} {pl : List En} {rn : Int32} {rs : Nat} {es : List En}
theorem BW.lo {P : Nat} {R : Nat → Nat → Prop} (hB : BW P R mi0 mr0 sz0 A0 mi mr sz A es) (hR : Rok R) (hP : 12 ≤ P) {a : Nat} (ha : a < 12) : mi a = mi0 a := funext fun j => hB.2.2.2.1 a j (by omega) (fun z => by have := hR a j z; omega) (by omega)
theorem BW.fill {P s : Nat} {R : Nat → Nat → Prop} {pre post : List Nat} {mi' : Nat → Nat → Int32} (hB : BW P R mi0 mr0 sz0 A0 mi mr sz A es) (hP : isC P) (hA : A P = pre ++ s :: post) (e : ∀ a, ¬ a = s + 1 → mi' a = mi a) : BW P R mi0 mr0 sz0 A0 mi' mr sz A (pre.map (ent mi) ++ ent mi' s :: post.map (ent mi)) := by
  obtain ⟨b1, b2, b3, b4, b5, b6, b7⟩ := hB
  have hs := b1.ok (c := P) (s := s) (by rw [hA]; simp)
  have oth : ∀ x, okS mr sz x → ¬ x = s → ent mi' x = ent mi x := by
    intro x hx hxs
    have := hs.2.1
    have := hx.2.1
    simp only [ent]
    rw [e x (by omega), e (x + 1) (by omega)]
  have hnd := b1.2.2.2.2.2.1 P
  rw [hA] at hnd
  have hne1 : ∀ x ∈ pre, ¬ x = s := fun x hx z => (List.nodup_append.mp hnd).2.2 x hx s (by simp) z
  have hne2 : ∀ x ∈ post, ¬ x = s := fun x hx z => (List.nodup_cons.mp (List.nodup_append.mp hnd).2.1).1 (by rw [← z]; exact hx)
  have q1 : pre.map (ent mi') = pre.map (ent mi) := List.map_congr_left (fun x hx => oth x (b1.ok (c := P) (by rw [hA]; exact List.mem_append_left _ hx)) (hne1 x hx))
  have q2 : post.map (ent mi') = post.map (ent mi) := List.map_congr_left (fun x hx => oth x (b1.ok (c := P) (by rw [hA]; exact List.mem_append_right _ (List.mem_cons_of_mem _ hx))) (hne2 x hx))
  refine ⟨b1.mi (fun c hc => by rw [e c (by have := hc.lt.1; have := hs.1; omega)]), by rw [hA, List.map_append, List.map_cons, q1, q2], fun d y1 y2 => ?_, fun a j y1 y2 y3 => by rw [e a (by have := hs.1; omega)]; exact b4 a j y1 y2 y3, b5, b6, ?_⟩
  · rw [← b3 d y1 y2]
    refine List.map_congr_left (fun x hx => oth x (b1.ok hx) (fun z => y1 ?_))
    exact b1.2.2.2.2.2.2 d P x hx (by rw [hA, z]; simp)
  · have : (pre.map (ent mi) ++ ent mi' s :: post.map (ent mi)).length = es.length := by
      rw [← b2, hA]; simp
    rw [this]; exact b7
theorem c_CJlength (hF : FX mr) (hM : CM7 mi (up, nu, nx, us) (kd, ru, pd, pe)) (k : Q (some (.int (nI (rlen kd)))) (mi, mr, sz)) : am_wp 27 0 (am_lo 27 [.ref 7]) [] (mi, mr, sz) Q := by
  obtain ⟨b1, b2, b3, b4', b5, b6, b7, b8, b9⟩ := hM
  dsimp only at b5 b6
  have h16 := cnt_le (k1 kd) 16
  refine wp_x 3 hF rfl ?_
  show am_wp 27 7 _ [.int (mi 8 1)] _ _
  rw [b5]
  refine wp_ca rfl rfl ?_
  refine c_bitCount (p := k1 kd) hF ?_
  refine wp_x 10 hF rfl ?_
  have e1 : nI (cnt (k1 kd) 16) + (nI (cnt (k1 kd) 16) + 3) / 4 = nI (cnt (k1 kd) 16 + (cnt (k1 kd) 16 + 3) / 4) := by
    rw [show (3 : Int32) = nI 3 from rfl, nI_add, show (4 : Int32) = nI 4 from rfl, pk_div (by omega) (by omega) (by omega), nI_add]
  show am_wp 27 22 _ [.int (mi 7 6), .int (nI (cnt (k1 kd) 16) + (nI (cnt (k1 kd) 16) + 3) / 4)] _ _
  rw [e1, b6]
  refine wp_eq1 rfl (fun q => ?_) (fun q => ?_)
  · refine wp_x 4 hF rfl ?_
    have ha : anyk (k2 kd) = false := by
      have := msk_0.mp q
      simp [anyk, this]
    unfold rlen at k
    rw [ha, if_neg (by decide), ← nI_add, ← nI_add] at k
    exact wp_re rfl rfl k
  · refine wp_x 5 hF rfl ?_
    have ha : anyk (k2 kd) = true := by
      have : ¬ cnt (k2 kd) 16 = 0 := fun z => q (msk_0.mpr z)
      simp [anyk]; omega
    unfold rlen at k
    rw [ha, if_pos rfl, ← nI_add, ← nI_add] at k
    exact wp_re rfl rfl k
theorem c_CJsheet {p : Nat} (hC : CW mi mr sz A) (hp : mi 12 5 = nI p) (hp24 : p < 24) (k : ∀ s m1 r1 z1 A1, AD 13 s mi mr sz A m1 r1 z1 A1 → m1 s 1 = nI (17 + p) → Q (some (.ref s)) (am_u2 m1 12 5 (nI ((p + 1) % 24)), r1, z1)) : am_wp 31 0 (am_lo 31 [.ref 12]) [] (mi, mr, sz) Q := by
  refine wp_x 6 hC.1 rfl ?_
  have e1 : (17 : Int32) + mi 12 5 = nI (17 + p) := by rw [hp, show (17 : Int32) = nI 17 from rfl, nI_add]
  show am_wp 31 11 _ [.int (17 + mi 12 5), .ref 13] _ _
  rw [e1]
  refine wp_ca rfl rfl ?_
  refine c_add' hC (Or.inr (Or.inl rfl)) (fun s m1 r1 z1 A1 hAD hsec => ?_)
  refine wp_x 10 hAD.1.1 rfl ?_
  have e2 : m1 12 5 + 1 - (m1 12 5 + 1) / 24 * 24 = nI ((p + 1) % 24) := by
    rw [hAD.2.2.2.1 12 5 (by omega) (by omega), hp, nI_1, rem24 (by omega)]
  refine wp_re rfl rfl ?_
  show Q (some (.ref s)) (am_u2 m1 12 5 (m1 12 5 + 1 - (m1 12 5 + 1) / 24 * 24), r1, z1)
  rw [e2]
  exact k s m1 r1 z1 A1 hAD hsec
/-- the place is set, the rest stays -/
theorem BW.pl5 {x : Int32} (hB : BW 13 RC mi0 mr0 sz0 A0 mi mr sz A es) : BW 13 RC mi0 mr0 sz0 A0 (am_u2 mi 12 5 x) mr sz A es := hB.set RCok (fun a j h => if_neg (fun z => h ⟨z.1, Or.inr z.2⟩))
theorem cnt_at {p : Nat → Bool} {k c : Nat} : ∀ k', k ≤ k' → (∀ j, k ≤ j → j < k' → p j = false) → cnt p k = c → cnt p k' = c
  | 0, h, _, hc => by have : k = 0 := by omega
                      rw [← this]; exact hc
  | k' + 1, h, hp, hc => by
    by_cases hk : k = k' + 1
    · rw [← hk]; exact hc
    · rw [cnt, if_neg (by rw [hp k' (by omega) (by omega)]; decide)]
      exact cnt_at k' (by omega) (fun j y1 y2 => hp j y1 (by omega)) hc
theorem imgs_at {p : Nat → Bool} {k : Nat} (hp : p k = true) : ∀ n, k < n → (imgsN p n)[cnt p k]? = some k
  | 0, h => by omega
  | n + 1, h => by
    rw [imgsN_succ]
    have hl := imgsN_len p n
    by_cases hk : k = n
    · subst hk
      rw [if_pos hp, List.getElem?_append_right (by omega), hl]
      simp
    · have ih := imgs_at hp n (by omega)
      split
      · rw [List.getElem?_append_left]
        · exact ih
        · exact (List.getElem?_eq_some_iff.mp ih).1
      · exact ih
theorem c_CJgroup {k0 : Nat} {ws : List W4} (hM : CM7 mi0 (up, nu, nx, us) (kd, ru, pd, pe)) (hB : BW 13 RC mi0 mr0 sz0 A0 mi mr sz A (layR nx 0 ws)) (hws : ws.length < 100) (hnx : nx < 24) (h5 : mi 12 5 = nI ((nx + ws.length) % 24)) (hk0 : k0 < 16) (hp0 : k1 kd k0 = true) (k : ∀ k' m r z A' n ds, k0 < k' → k' ≤ 16 → (k' < 16 → k1 kd k' = true) → n = cnt (k1 kd) k0 → ds = ((imgs (k1 kd)).drop n).take 4 → cnt (k1 kd) k' = n + ds.length → BW 13 RC mi0 mr0 sz0 A0 m r z A' (layR nx 0 (ws ++ (MG, 1, nu, nI (infW ru ds)) :: ds.map (imgW ru))) → m 12 5 = nI ((nx + (ws.length + 1 + ds.length)) % 24) → m 12 4 = mi 12 4 → Q (some (.int (nI k'))) (m, r, z)) : am_wp 30 0 (am_lo 30 [.ref 12, .int (nI k0)]) [] (mi, mr, sz) Q := by
  obtain ⟨b1, b2, b3, b4', b5, b6, b7, b8, b9⟩ := hM
  dsimp only at b2 b5 b8
  have hF := hB.1.1
  have hC13 : isC 13 := Or.inr (Or.inl rfl)
  obtain ⟨n, hn⟩ : ∃ z, z = cnt (k1 kd) k0 := ⟨_, rfl⟩
  have hlen := imgs_len (k1 kd)
  have hc16 := cnt_le (k1 kd) 16
  obtain ⟨bs, hbs⟩ : ∃ z, z = imgs (k1 kd) := ⟨_, rfl⟩
  rw [← hbs] at hlen
  refine wp_x 8 hF rfl ?_
  refine wp_ca rfl rfl ?_
  refine c_from (p := k1 kd) (i := k0) hF (Or.inl rfl) (by rw [hB.lo RCok (by omega) (by omega)]; exact b5) (by omega) (fun c y1 y2 y3 y4 => ?_)
  have hck : c = k0 := by
    rcases Nat.lt_or_ge k0 c with q | q
    · have := y3 k0 (Nat.le_refl _) q
      rw [hp0] at this; cases this
    · omega
  subst hck
  refine wp_x 4 hF rfl ?_
  refine wp_ca rfl rfl ?_
  have hmod : ∀ x, (nx + x) % 24 < 24 := fun x => Nat.mod_lt _ (by omega)
  refine c_CJsheet hB.1 h5 (hmod _) (fun s m1 r1 z1 A1 hAD hsec => ?_)
  have hs := hAD.2.2.2.2.2.1
  have hA1 : A1 13 = A 13 ++ [s] := hAD.2.1
  have hA13 : (A 13).length = ws.length := by
    have := congrArg List.length hB.2.1
    rw [List.length_map, layR_len] at this
    exact this
  have hB1 := hB.add (by decide) hAD rfl
  obtain ⟨w0, hw0⟩ : ∃ z, z = (ent m1 s).2 := ⟨_, rfl⟩
  have e1 : layR nx 0 ws ++ [ent m1 s] = layR nx 0 (ws ++ [w0]) := by
    rw [layR_app, Nat.zero_add]
    show _ = _ ++ [(nI (17 + (nx + ws.length) % 24), w0)]
    rw [← hsec, hw0]; rfl
  rw [e1] at hB1
  have hm24 : ∀ x, ((nx + x) % 24 + 1) % 24 = (nx + (x + 1)) % 24 := fun x => by omega
  rw [hm24]
  have e124 : am_u2 m1 12 5 (nI ((nx + (ws.length + 1)) % 24)) 12 4 = mi 12 4 := by
    rw [sd_u2k _ _ _ _ (by decide)]; exact hAD.2.2.2.1 12 4 (by omega) (by omega)
  -- the loop
  have loop : ∀ d j kk (m : Nat → Nat → Int32) (r : Nat → Nat → Nat) (z : Nat) (A2 : Nat → List Nat) (post : List Nat) (v7 v8 : Value), j + d = 4 → n + j ≤ bs.length → c ≤ kk → (j = 0 → kk = c) → (0 < j → c < kk) → kk ≤ 16 → (kk < 16 → k1 kd kk = true) → cnt (k1 kd) kk = n + j → A2 13 = A 13 ++ s :: post → BW 13 RC mi0 mr0 sz0 A0 m r z A2 (layR nx 0 (ws ++ w0 :: ((bs.drop n).take j).map (imgW ru))) → m 12 5 = nI ((nx + (ws.length + 1 + j)) % 24) → m 12 4 = mi 12 4 → am_wp 30 26 [.ref 12, .int (nI c), .ref 8, .int (nI (infA ru 0 ((bs.drop n).take j))), .int (nI kk), .int (nI j), .ref s, v7, v8] [] (m, r, z) Q := by
    intro d
    have leave : ∀ j kk (m : Nat → Nat → Int32) (r : Nat → Nat → Nat) (z : Nat) (A2 : Nat → List Nat) (post : List Nat) (v7 v8 : Value), j ≤ 4 → n + j ≤ bs.length → (j = 4 ∨ n + j = bs.length) → c < kk → kk ≤ 16 → (kk < 16 → k1 kd kk = true) → cnt (k1 kd) kk = n + j → A2 13 = A 13 ++ s :: post → BW 13 RC mi0 mr0 sz0 A0 m r z A2 (layR nx 0 (ws ++ w0 :: ((bs.drop n).take j).map (imgW ru))) → m 12 5 = nI ((nx + (ws.length + 1 + j)) % 24) → m 12 4 = mi 12 4 → am_wp 30 141 [.ref 12, .int (nI c), .ref 8, .int (nI (infA ru 0 ((bs.drop n).take j))), .int (nI kk), .int (nI j), .ref s, v7, v8] [] (m, r, z) Q := by
      intro j kk m r z A2 post v7 v8 hj4 hnj hor hck hk16 hpk hcnt hA2 hB2 h5' h4'
      have hF2 := hB2.1.1
      have hs2 := hB2.1.ok (c := 13) (s := s) (by rw [hA2]; simp)
      have hl4 : ((bs.drop n).take j).length = j := by simp; omega
      have htk : (bs.drop n).take j = (bs.drop n).take 4 := by
        rcases hor with z | z
        · rw [z]
        · rw [List.take_of_length_le (by simp; omega), List.take_of_length_le (by simp; omega)]
      obtain ⟨i1, i2⟩ := infA_lt ru j ((bs.drop n).take j) hl4 (fun b hb => by
        have : b ∈ imgs (k1 kd) := by rw [← hbs]; exact List.mem_of_mem_drop (List.mem_of_mem_take hb)
        exact (imgsN_lt this).1)
      have einf : nI (infA ru 0 ((bs.drop n).take j)) ||| nI j = nI (infW ru ((bs.drop n).take j)) := by
        obtain ⟨y, hy⟩ : ∃ y, infA ru 0 ((bs.drop n).take j) = y * 2 ^ 3 := ⟨infA ru 0 ((bs.drop n).take j) / 8, by omega⟩
        unfold infW
        rw [hl4, hy, or_N, Nat.or_comm, ← or_N, or_hi (by omega)]
      refine wp_x 9 hF2 rfl ?_
      show am_wp 30 157 _ [.int (nI (infA ru 0 ((bs.drop n).take j)) ||| nI j), .int (m 7 1), .int 1, .int 77001, .ref s] _ _
      rw [einf, hB2.lo RCok (by omega) (show 7 < 12 by omega), b2]
      refine wp_cv rfl rfl (tgS hs2.1 hs2.2.1) rfl rfl ⟨by simp, (by decide : 5 ≤ pg_ml 32)⟩ ?_
      refine c_fill hF2 hs2.sh (fun m3 f1 f2 => ?_)
      have hB3 := hB2.fill hC13 hA2 f1
      have h34 := hs2.1
      -- the maps
      have hmap := hB2.2.1
      rw [hA2, List.map_append, layR_app, Nat.zero_add] at hmap
      obtain ⟨q1, q2⟩ := List.append_inj hmap (by rw [List.length_map, layR_len, hA13])
      rw [List.map_cons, layR] at q2
      obtain ⟨q3, q4⟩ := List.cons.inj q2
      have ees : ent m3 s = (nI (17 + (nx + ws.length) % 24), MG, 1, nu, nI (infW ru ((bs.drop n).take j))) := by
        show (m3 s 1, wds m3 (s + 1) 0) = _
        have : m s 1 = (ent m s).1 := rfl
        rw [f2, f1 s (by omega), this, q3]; rfl
      rw [ees, q1, q4] at hB3
      have efin : layR nx 0 ws ++ (nI (17 + (nx + ws.length) % 24), MG, 1, nu, nI (infW ru ((bs.drop n).take j))) :: layR nx (ws.length + 1) (((bs.drop n).take j).map (imgW ru)) = layR nx 0 (ws ++ (MG, 1, nu, nI (infW ru ((bs.drop n).take j))) :: ((bs.drop n).take j).map (imgW ru)) := by
        rw [layR_app, Nat.zero_add]; rfl
      rw [efin] at hB3
      refine wp_x 1 hF2 rfl ?_
      refine wp_re rfl rfl (k kk m3 r z A2 n ((bs.drop n).take j) hck hk16 hpk hn (by rw [htk, hbs]) (by rw [hl4]; exact hcnt) hB3 ?_ ?_)
      · rw [f1 12 (by omega), hl4]; exact h5'
      · rw [f1 12 (by omega)]; exact h4'
    induction d with
    | zero =>
      intro j kk m r z A2 post v7 v8 hd hnj hck hj0 hj1 hk16 hpk hcnt hA2 hB2 h5' h4'
      have hF2 := hB2.1.1
      have lv := leave j kk m r z A2 post v7 v8 (by omega) hnj (Or.inl (by omega)) (hj1 (by omega)) hk16 hpk hcnt hA2 hB2 h5' h4'
      refine wp_x 2 hF2 rfl ?_
      refine wp_ge2N kk 16 rfl rfl rfl (by omega) (by omega) (fun _ => lv) (fun _ => ?_)
      refine wp_x 2 hF2 rfl ?_
      exact wp_ge2N j 4 rfl rfl rfl (by omega) (by omega) (fun _ => lv) (fun q => absurd q (by omega))
    | succ d ih =>
      intro j kk m r z A2 post v7 v8 hd hnj hck hj0 hj1 hk16 hpk hcnt hA2 hB2 h5' h4'
      have hF2 := hB2.1.1
      refine wp_x 2 hF2 rfl ?_
      refine wp_ge2N kk 16 rfl rfl rfl (by omega) (by omega) (fun q => ?_) (fun hk => ?_)
      · have hkk : kk = 16 := by omega
        refine leave j kk m r z A2 post v7 v8 (by omega) hnj (Or.inr ?_) (by omega) hk16 hpk hcnt hA2 hB2 h5' h4'
        rw [hlen, ← hcnt, hkk]
      have hpkk := hpk hk
      have hget : bs[n + j]? = some kk := by rw [hbs, ← hcnt]; exact imgs_at hpkk 16 hk
      have hnjl : n + j < bs.length := (List.getElem?_eq_some_iff.mp hget).1
      have htake : (bs.drop n).take (j + 1) = (bs.drop n).take j ++ [kk] := by
        rw [List.take_add_one]
        rw [List.getElem?_drop, hget]
        rfl
      have hl4 : ((bs.drop n).take j).length = j := by simp; omega
      refine wp_x 2 hF2 rfl ?_
      refine wp_ge2N j 4 rfl rfl rfl (by omega) (by omega) (fun q => absurd q (by omega)) (fun hj4 => ?_)
      refine wp_x 1 hF2 rfl ?_
      refine wp_ca rfl rfl ?_
      refine c_CJsheet hB2.1 h5' (hmod _) (fun s3 m3 r3 z3 A3 hAD3 hsec3 => ?_)
      rw [hm24]
      have hs3 := hAD3.2.2.2.2.2.1
      have hs334 := hs3.1
      have hF3 := hAD3.1.1
      obtain ⟨m4, hm4⟩ : ∃ z, z = am_u2 m3 12 5 (nI ((nx + (ws.length + 1 + j + 1)) % 24)) := ⟨_, rfl⟩
      rw [← hm4]
      have o4 : ∀ a, ¬ a = 12 → m4 a = m3 a := fun a ha => by rw [hm4, sd_u2r _ _ _ _ ha]
      have e9 : ∀ x, x < 64 → m4 9 x = ru x := fun x hx => by rw [o4 9 (by omega), hAD3.2.2.2.1 9 x (by omega) (by omega), hB2.lo RCok (by omega) (show 9 < 12 by omega)]; exact b8 x hx
      refine wp_x 7 hF3 rfl ?_
      show am_wp 30 55 _ [.int (4 * nI kk), .ref 9, .ref s3] _ _
      rw [a40]
      refine wp_cv rfl rfl (tgS hs3.1 hs3.2.1) rfl rfl ⟨by simp, (by decide : 3 ≤ pg_ml 17)⟩ ?_
      refine c_copy (q := 9) hF3 hs3.sh ⟨rfl, by decide, show 4 * kk + 4 ≤ 64 by omega⟩ (fun m5 f1 f2 => ?_)
      have w5 : wds m5 (s3 + 1) 0 = b4 ru kk := by
        rw [f2]
        simp only [wds, b4]
        rw [e9 _ (by omega), e9 _ (by omega), e9 _ (by omega), e9 _ (by omega)]
      have e50 : m5 (s3 + 1) 0 = ru (4 * kk) := congrArg (fun e => e.1) w5
      have hsh : shS r3 s3 := hs3.sh
      -- behind the first word
      have nxt : ∀ (m6 : Nat → Nat → Int32) (v8' : Value) (x : Int32), (∀ a, ¬ a = s3 + 1 → m6 a = m4 a) → wds m6 (s3 + 1) 0 = imgW ru kk → am_wp 30 116 [.ref 12, .int (nI c), .ref 8, .int (nI (infA ru 0 ((bs.drop n).take j))), .int (nI kk), .int (nI j), .ref s, .ref s3, v8'] [.int (nI (five ru kk)), .int (nI (infA ru 0 ((bs.drop n).take j)))] (m6, r3, z3) Q := by
        intro m6 v8' x g1 g2
        have hf : five ru kk < 32 := by unfold five; split <;> omega
        have hpw : five ru kk * 2 ^ (3 + 5 * j) < 2 ^ 32 := by
          have h1 : 2 ^ (3 + 5 * j) ≤ 2 ^ 18 := Nat.pow_le_pow_right (by omega) (by omega)
          have h2 : five ru kk * 2 ^ (3 + 5 * j) ≤ 31 * 2 ^ 18 := Nat.mul_le_mul (by omega) h1
          omega
        have e5 : (3 : Int32) + 5 * nI j = nI (3 + 5 * j) := by rw [show (5 : Int32) = nI 5 from rfl, show (3 : Int32) = nI 3 from rfl, pk_mul, nI_add]
        have esh : nI (five ru kk) <<< (((3 : Int32) + 5 * nI j) &&& 31) = nI (five ru kk * 2 ^ (3 + 5 * j)) := by
          rw [e5]; exact shl_N (by omega) hpw
        obtain ⟨i1, i2⟩ := infA_lt ru j ((bs.drop n).take j) hl4 (fun b hb => by
          have : b ∈ imgs (k1 kd) := by rw [← hbs]; exact List.mem_of_mem_drop (List.mem_of_mem_take hb)
          exact (imgsN_lt this).1)
        rw [hl4] at i1
        have einf : nI (infA ru 0 ((bs.drop n).take j)) ||| (nI (five ru kk) <<< (((3 : Int32) + 5 * nI j) &&& 31)) = nI (infA ru 0 ((bs.drop n).take (j + 1))) := by
          rw [esh, or_hi i1, htake, infA_snoc, hl4, Nat.zero_add]
        refine wp_x 13 hF3 rfl ?_
        show am_wp 30 133 [.ref 12, .int (nI c), .ref 8, .int (nI (infA ru 0 ((bs.drop n).take j)) ||| (nI (five ru kk) <<< (((3 : Int32) + 5 * nI j) &&& 31))), .int (nI kk), .int (nI j + 1), .ref s, .ref s3, v8'] [.int (nI kk + 1), .ref 8] (m6, r3, z3) Q
        rw [einf, nI_1, nI_1]
        have hAD6 : AD 13 s3 m r z A2 (am_u2 m6 12 5 (m3 12 5)) r3 z3 A3 := hAD3.w hC13 (fun a ha => by
          by_cases h12 : a = 12
          · subst h12
            funext y
            by_cases hy : y = 5
            · subst hy; rw [sd_u2s]
            · rw [sd_u2k _ _ _ _ hy, g1 12 ha, hm4, sd_u2k _ _ _ _ hy]
          · rw [sd_u2r _ _ _ _ h12, g1 a ha, o4 a h12])
        have een : ent (am_u2 m6 12 5 (m3 12 5)) s3 = (nI (17 + (nx + (ws.length + 1 + j)) % 24), imgW ru kk) := by
          have y1 : am_u2 m6 12 5 (m3 12 5) s3 = m6 s3 := sd_u2r _ _ _ _ (by omega)
          have y2 : am_u2 m6 12 5 (m3 12 5) (s3 + 1) = m6 (s3 + 1) := sd_u2r _ _ _ _ (by omega)
          have y3 : m6 s3 1 = nI (17 + (nx + (ws.length + 1 + j)) % 24) := by rw [g1 s3 (by omega), o4 s3 (by omega)]; exact hsec3
          show (am_u2 m6 12 5 (m3 12 5) s3 1, wds (am_u2 m6 12 5 (m3 12 5)) (s3 + 1) 0) = _
          have y4 : wds (am_u2 m6 12 5 (m3 12 5)) (s3 + 1) 0 = wds m6 (s3 + 1) 0 := by simp only [wds, y2]
          rw [y1, y3, y4, g2]
        have hB6 := hB2.add (by decide) hAD6 een
        have el : layR nx 0 (ws ++ w0 :: ((bs.drop n).take j).map (imgW ru)) ++ [(nI (17 + (nx + (ws.length + 1 + j)) % 24), imgW ru kk)] = layR nx 0 (ws ++ w0 :: ((bs.drop n).take (j + 1)).map (imgW ru)) := by
          rw [htake, List.map_append, show ws ++ w0 :: (((bs.drop n).take j).map (imgW ru) ++ [kk].map (imgW ru)) = (ws ++ w0 :: ((bs.drop n).take j).map (imgW ru)) ++ [imgW ru kk] by simp, layR_app nx _ [imgW ru kk]]
          congr 1
          simp only [layR, List.length_append, List.length_cons, List.length_map, hl4]
          congr 5
          omega
        rw [el] at hB6
        have hB7 : BW 13 RC mi0 mr0 sz0 A0 m6 r3 z3 A3 (layR nx 0 (ws ++ w0 :: ((bs.drop n).take (j + 1)).map (imgW ru))) := hB6.set RCok (fun a y h => by
          have : am_u2 m6 12 5 (m3 12 5) a y = m6 a y := if_neg (fun z => h ⟨z.1, Or.inr z.2⟩)
          rw [this])
        refine wp_ca rfl rfl ?_
        refine c_from (p := k1 kd) (i := kk + 1) hF3 (Or.inl rfl) (by rw [hB7.lo RCok (by omega) (by omega)]; exact b5) (by omega) (fun c' y1 y2 y3 y4 => ?_)
        refine wp_x 2 hF3 rfl ?_
        refine ih (j + 1) c' m6 r3 z3 A3 (post ++ [s3]) _ _ (by omega) (by omega) (by omega) (fun z => by omega) (fun _ => by omega) y2 y4 ?_ (by rw [hAD3.2.1, hA2]; simp) hB7 ?_ ?_
        · refine cnt_at c' y1 y3 ?_
          rw [show cnt (k1 kd) (kk + 1) = cnt (k1 kd) kk + 1 from if_pos hpkk, hcnt]
          omega
        · rw [g1 12 (by omega), hm4, sd_u2s]
          rfl
        · rw [g1 12 (by omega), hm4, sd_u2k _ _ _ _ (by decide), hAD3.2.2.2.1 12 4 (by omega) (by omega)]; exact h4'
      refine wp_x 1 hF3 rfl ?_
      refine wp_gr rfl (by rw [hsh.1]; rfl) hsh.2.2.2.1 ?_
      refine wp_x 1 hF3 rfl ?_
      refine wp_al 0 rfl rfl rfl (by omega) hsh.2.1 (by rw [hsh.2.2.1]; omega) ?_
      rw [e50]
      refine wp_x 1 hF3 rfl ?_
      refine wp_ne2 rfl (fun q => ?_) (fun q => ?_)
      · have hfv : five ru kk = kk := by unfold five; exact if_neg q
        have hiv : imgW ru kk = b4 ru kk := by
          unfold imgW b4
          rw [show (if ru (4 * kk) = MG then (0 : Int32) else ru (4 * kk)) = ru (4 * kk) from if_neg q]
        refine wp_x 3 hF3 rfl ?_
        refine wp_gr rfl (by rw [hsh.1]; rfl) hsh.2.2.2.1 ?_
        refine wp_x 2 hF3 rfl ?_
        refine wp_eq1 rfl (fun _ => ?_) (fun q => absurd rfl q)
        refine wp_x 1 hF3 rfl ?_
        refine wp_gr rfl (by rw [hsh.1]; rfl) hsh.2.2.2.1 ?_
        refine wp_x 1 hF3 rfl ?_
        refine wp_al 0 rfl rfl rfl (by omega) hsh.2.1 (by rw [hsh.2.2.1]; omega) ?_
        refine wp_as 0 rfl rfl rfl (by omega) hsh.2.1 (by rw [hsh.2.2.1]; omega) ?_
        refine wp_x 2 hF3 rfl ?_
        refine wp_eq1 rfl (fun _ => ?_) (fun q => absurd rfl q)
        refine wp_x 1 hF3 rfl ?_
        have := nxt (am_u2 m5 (s3 + 1) 0 (m5 (s3 + 1) 0)) (.int 0) 0 (fun a ha => by rw [sd_u2r _ _ _ _ ha, f1 a ha]) (by
          rw [hiv, ← w5]
          refine wds_ext (fun y _ => ?_)
          simp only [am_u2]
          split
          · rename_i h; rw [h.2]
          · rfl)
        rw [hfv] at this
        exact this
      · have hfv : five ru kk = kk + 16 := by unfold five; exact if_pos q
        refine wp_x 4 hF3 rfl ?_
        refine wp_gr rfl (by rw [hsh.1]; rfl) hsh.2.2.2.1 ?_
        refine wp_x 2 hF3 rfl ?_
        refine wp_eq1 rfl (fun q => absurd q (by decide)) (fun _ => ?_)
        refine wp_x 2 hF3 rfl ?_
        refine wp_as 0 rfl rfl rfl (by omega) hsh.2.1 (by rw [hsh.2.2.1]; omega) ?_
        refine wp_x 2 hF3 rfl ?_
        refine wp_eq1 rfl (fun q => absurd q (by decide)) (fun _ => ?_)
        refine wp_x 4 hF3 rfl ?_
        show am_wp 30 116 [.ref 12, .int (nI c), .ref 8, .int (nI (infA ru 0 ((bs.drop n).take j))), .int (nI kk), .int (nI j), .ref s, .ref s3, .int 1] [.int (nI kk ||| 16), .int (nI (infA ru 0 ((bs.drop n).take j)))] (am_u2 m5 (s3 + 1) 0 0, r3, z3) Q
        rw [or16 kk hk, ← hfv]
        refine nxt (am_u2 m5 (s3 + 1) 0 0) (.int 1) 0 (fun a ha => by rw [sd_u2r _ _ _ _ ha, f1 a ha]) ?_
        have hx : ∀ y, ¬ y = 0 → am_u2 m5 (s3 + 1) 0 0 (s3 + 1) y = m5 (s3 + 1) y := fun y hy => sd_u2k _ _ _ _ hy
        have w1 : m5 (s3 + 1) 1 = ru (4 * kk + 1) := congrArg (fun e => e.2.1) w5
        have w2 : m5 (s3 + 1) 2 = ru (4 * kk + 2) := congrArg (fun e => e.2.2.1) w5
        have w3 : m5 (s3 + 1) 3 = ru (4 * kk + 3) := congrArg (fun e => e.2.2.2) w5
        show (am_u2 m5 (s3 + 1) 0 0 (s3 + 1) 0, am_u2 m5 (s3 + 1) 0 0 (s3 + 1) 1, am_u2 m5 (s3 + 1) 0 0 (s3 + 1) 2, am_u2 m5 (s3 + 1) 0 0 (s3 + 1) 3) = imgW ru kk
        rw [sd_u2s, hx 1 (by decide), hx 2 (by decide), hx 3 (by decide), w1, w2, w3]
        unfold imgW
        rw [show (if ru (4 * kk) = MG then (0 : Int32) else ru (4 * kk)) = 0 from if_pos q]
  refine wp_x 1 hAD.1.1 rfl ?_
  refine loop 4 0 c _ r1 z1 A1 [] _ _ rfl (by have q := (List.getElem?_eq_some_iff.mp (imgs_at hp0 16 hk0)).1; rw [imgsN_len] at q; omega) (Nat.le_refl _) (fun _ => rfl) (fun z => absurd z (by omega)) (by omega) (fun _ => hp0) (by omega) hA1 ?_ ?_ e124
  · have := hB1.pl5 (x := nI ((nx + (ws.length + 1)) % 24))
    simpa using this
  · rw [sd_u2s]
end COM
end
section
/-! THE COMPONENT: the commit, prepared -/
section COM2
variable {mi mi0 : Nat → Nat → Int32} {mr mr0 : Nat → Nat → Nat} {sz sz0 : Nat} {Q : Option Value → am_H → Prop} {A A0 : Nat → List Nat} {dk : Nat → Int32} {ca : List En} {up : Bool} {nu : Int32} {nx us : Nat} {kd : Nat → Nat} {ru : Nat → Int32} {pd : Nat → Bool} {pe : Nat → Int32} {jb lf tot : Nat} {pl : List En} {rn : Int32} {rs : Nat} {es : List En}
/-- a sheet of the row, filled -/
theorem c_sheetFill {M pc q : Nat} {L : List Value} {ws : List W4} {x y z u : Int32} {s : Nat} {m1 : Nat → Nat → Int32} {r1 : Nat → Nat → Nat} {z1 : Nat} {A1 : Nat → List Nat} (hB : BW 13 RC mi0 mr0 sz0 A0 mi mr sz A (layR nx 0 ws)) (hAD : AD 13 s mi mr sz A m1 r1 z1 A1) (hsec : m1 s 1 = nI (17 + (nx + ws.length) % 24)) (k : ∀ m2 : Nat → Nat → Int32, BW 13 RC mi0 mr0 sz0 A0 m2 r1 z1 A1 (layR nx 0 (ws ++ [(x, y, z, u)])) → m2 12 4 = mi 12 4 → m2 12 5 = nI q → Q none (m2, r1, z1)) : am_wp 32 0 (am_lo 32 [.ref s, .int x, .int y, .int z, .int u]) [] (am_u2 m1 12 5 (nI q), r1, z1) Q := by
  have hs := hAD.2.2.2.2.2.1
  have h34 := hs.1
  refine c_fill hAD.1.1 hs.sh (fun m2 f1 f2 => ?_)
  have hAD2 : AD 13 s mi mr sz A (am_u2 m2 12 5 (m1 12 5)) r1 z1 A1 := hAD.w (Or.inr (Or.inl rfl)) (fun a ha => by
    by_cases h12 : a = 12
    · subst h12
      funext y
      by_cases hy : y = 5
      · subst hy; rw [sd_u2s]
      · rw [sd_u2k _ _ _ _ hy, f1 12 ha, sd_u2k _ _ _ _ hy]
    · rw [sd_u2r _ _ _ _ h12, f1 a ha, sd_u2r _ _ _ _ h12])
  have een : ent (am_u2 m2 12 5 (m1 12 5)) s = (nI (17 + (nx + ws.length) % 24), x, y, z, u) := by
    have y1 : am_u2 m2 12 5 (m1 12 5) s = m2 s := sd_u2r _ _ _ _ (by omega)
    have y2 : am_u2 m2 12 5 (m1 12 5) (s + 1) = m2 (s + 1) := sd_u2r _ _ _ _ (by omega)
    have y3 : m2 s 1 = nI (17 + (nx + ws.length) % 24) := by rw [f1 s (by omega), sd_u2r _ _ _ _ (by omega)]; exact hsec
    have y4 : wds (am_u2 m2 12 5 (m1 12 5)) (s + 1) 0 = wds m2 (s + 1) 0 := by simp only [wds, y2]
    show (am_u2 m2 12 5 (m1 12 5) s 1, wds (am_u2 m2 12 5 (m1 12 5)) (s + 1) 0) = _
    rw [y1, y3, y4, f2]
  have hB2 := hB.add (by decide) hAD2 een
  have el : layR nx 0 ws ++ [(nI (17 + (nx + ws.length) % 24), x, y, z, u)] = layR nx 0 (ws ++ [(x, y, z, u)]) := by
    rw [layR_app, Nat.zero_add]; rfl
  rw [el] at hB2
  refine k m2 (hB2.set RCok (fun a y h => by
    have : am_u2 m2 12 5 (m1 12 5) a y = m2 a y := if_neg (fun z => h ⟨z.1, Or.inr z.2⟩)
    rw [this])) ?_ ?_
  · rw [f1 12 (by omega), sd_u2k _ _ _ _ (by decide)]; exact hAD.2.2.2.1 12 4 (by omega) (by omega)
  · rw [f1 12 (by omega), sd_u2s]
theorem grp_nil (ru : Nat → Int32) (nu : Int32) : ∀ f, grp ru nu f [] = []
  | 0 => rfl
  | _ + 1 => rfl
theorem grp_cons (ru : Nat → Int32) (nu : Int32) (f : Nat) {l : List Nat} (h : ¬ l = []) : grp ru nu (f + 1) l = (MG, 1, nu, nI (infW ru (l.take 4))) :: ((l.take 4).map (imgW ru) ++ grp ru nu f (l.drop 4)) := by
  cases l with
  | nil => exact absurd rfl h
  | cons b r => rfl
theorem c_CJprep (hC : CRA mi mr sz A ((dk, ca), (up, nu, nx, us), (kd, ru, pd, pe), (0, lf, pl, tot, rn, rs))) (hnx : nx < 24) (k : ∀ mi' mr' sz' A', BW 13 RC mi mr sz A mi' mr' sz' A' (flC kd ru nu nx) → mi' 12 4 = nI (rlen kd) → Q none (am_u2 mi' 12 3 (nI ((flC kd ru nu nx).length + 2)), mr', sz')) : am_wp 28 0 (am_lo 28 [.ref 12]) [] (mi, mr, sz) Q := by
  have hF := hC.cw.1
  have hM := hC.2.2.1
  obtain ⟨b1, b2, b3, b4', b5, b6, b7, b8, b9⟩ := id hM
  dsimp only at b2 b3 b5 b6
  have hlen := imgs_len (k1 kd)
  have hc16 := cnt_le (k1 kd) 16
  have hC13 : isC 13 := Or.inr (Or.inl rfl)
  obtain ⟨bs, hbs⟩ : ∃ z, z = imgs (k1 kd) := ⟨_, rfl⟩
  rw [← hbs] at hlen
  have hm24 : ∀ x, ((nx + x) % 24 + 1) % 24 = (nx + (x + 1)) % 24 := fun x => by omega
  have hmod : ∀ x, (nx + x) % 24 < 24 := fun x => Nat.mod_lt _ (by omega)
  have hgl : (grp ru nu 5 bs).length ≤ 22 := by rw [grp_len ru nu 5 bs (by omega)]; omega
  have hrow : (rowW kd ru nu).length ≤ 23 := by
    unfold rowW
    rw [List.length_append, ← hbs]
    split <;> simp <;> omega
  -- the seal
  have sl0 : ∀ (m1 : Nat → Nat → Int32) (r1 : Nat → Nat → Nat) (z1 : Nat) (A1 : Nat → List Nat) (v1 v3 : Value), BW 13 RC mi mr sz A m1 r1 z1 A1 (layR nx 0 (rowW kd ru nu)) → m1 12 5 = nI ((nx + (rowW kd ru nu).length) % 24) → m1 12 4 = nI (rlen kd) → am_wp 28 117 [.ref 12, v1, .int ((rowW kd ru nu).foldl mix4 nu), v3] [] (m1, r1, z1) Q := by
    intro m1 r1 z1 A1 v1 v3 hB h5 h4
    refine wp_x 1 hB.1.1 rfl ?_
    refine wp_ca rfl rfl ?_
    refine c_CJsheet hB.1 h5 (hmod _) (fun s m2 r2 z2 A2 hAD hsec => ?_)
    have hF2 := hAD.1.1
    have hs := hAD.2.2.2.2.2.1
    refine wp_x 6 hF2 rfl ?_
    have e71 : am_u2 m2 12 5 (nI (((nx + (rowW kd ru nu).length) % 24 + 1) % 24)) 7 1 = nu := by
      rw [sd_u2r _ _ _ _ (by omega), hAD.2.2.2.1 7 1 (by omega) (by omega), hB.lo RCok (by omega) (show 7 < 12 by omega)]; exact b2
    show am_wp 28 132 _ [.int ((rowW kd ru nu).foldl mix4 nu), .int (am_u2 m2 12 5 (nI (((nx + (rowW kd ru nu).length) % 24 + 1) % 24)) 7 1), .int 3, .int 77001, .ref s] _ _
    rw [e71]
    refine wp_cv rfl rfl (tgS hs.1 hs.2.1) rfl rfl ⟨by simp, (by decide : 5 ≤ pg_ml 32)⟩ ?_
    refine c_sheetFill (M := 28) (pc := 132) (L := []) hB hAD hsec (fun m3 hB3 g4 g5 => ?_)
    have hB4 : BW 13 RC mi mr sz A m3 r2 z2 A2 (flC kd ru nu nx) := hB3
    refine wp_x 1 hF2 rfl ?_
    refine wp_ca rfl rfl ?_
    refine c_begin hF2 (Or.inl rfl) ?_
    rw [show m3 (12 + 1) 3 = nI (flC kd ru nu nx).length from hB4.len hC13, show nI (flC kd ru nu nx).length + 2 = nI ((flC kd ru nu nx).length + 2) from nI_add _ 2]
    exact wp_re rfl rfl (k m3 r2 z2 A2 hB4 (g4.trans h4))
  -- the sum
  have sum : ∀ (m1 : Nat → Nat → Int32) (r1 : Nat → Nat → Nat) (z1 : Nat) (A1 : Nat → List Nat), BW 13 RC mi mr sz A m1 r1 z1 A1 (layR nx 0 (rowW kd ru nu)) → m1 12 5 = nI ((nx + (rowW kd ru nu).length) % 24) → m1 12 4 = nI (rlen kd) → ∀ (l pre : List Nat) (x : Nat) (v1 : Value), A1 13 = pre ++ l → lk r1 x l → am_wp 28 99 [.ref 12, v1, .int (((pre.map (ent m1)).map Prod.snd).foldl mix4 nu), .ref x] [] (m1, r1, z1) Q := by
    intro m1 r1 z1 A1 hB h5 h4 l
    induction l with
    | nil =>
      intro pre x v1 hA hx
      refine wp_x 1 hB.1.1 rfl ?_
      refine wp_nul rfl (fun _ => ?_) (fun q => absurd hx q)
      have e := hB.2.1
      rw [hA, List.append_nil] at e
      rw [e, layR_snd]
      exact sl0 m1 r1 z1 A1 v1 _ hB h5 h4
    | cons s r ih =>
      intro pre x v1 hA hx
      obtain ⟨rfl, hx2⟩ := hx
      have hok := hB.1.ok (c := 13) (s := x) (by rw [hA]; simp)
      have h34 := hok.1
      refine wp_x 1 hB.1.1 rfl ?_
      refine wp_nul rfl (fun q => absurd q (by omega)) (fun _ => ?_)
      refine wp_x 2 hB.1.1 rfl ?_
      refine wp_cv rfl rfl (tgS hok.1 hok.2.1) rfl rfl ⟨by simp, (by decide : 2 ≤ pg_ml 33)⟩ ?_
      refine c_mixed hB.1.1 hok.sh ?_
      refine wp_x 2 hB.1.1 rfl ?_
      refine wp_gr rfl (by rw [tgS hok.1 hok.2.1]; rfl) rfl ?_
      refine wp_x 2 hB.1.1 rfl ?_
      have := ih (pre ++ [x]) (r1 x 2) v1 (by rw [hA]; simp) hx2
      rw [List.map_append, List.map_append, List.foldl_append] at this
      exact this
  have sum0 : ∀ (m1 : Nat → Nat → Int32) (r1 : Nat → Nat → Nat) (z1 : Nat) (A1 : Nat → List Nat) (v1 v2 v3 : Value), BW 13 RC mi mr sz A m1 r1 z1 A1 (layR nx 0 (rowW kd ru nu)) → m1 12 5 = nI ((nx + (rowW kd ru nu).length) % 24) → m1 12 4 = nI (rlen kd) → am_wp 28 83 [.ref 12, v1, v2, v3] [] (m1, r1, z1) Q := by
    intro m1 r1 z1 A1 v1 v2 v3 hB h5 h4
    refine wp_x 8 hB.1.1 rfl ?_
    show am_wp 28 99 [.ref 12, v1, .int (m1 7 1), .ref (r1 13 1)] [] (m1, r1, z1) Q
    rw [hB.lo RCok (by omega) (show 7 < 12 by omega), b2]
    exact sum m1 r1 z1 A1 hB h5 h4 (A1 13) [] (r1 13 1) v1 rfl (hB.1.2.2.2.1 13 hC13).1
  -- the groups
  have loop : ∀ f n kk (m : Nat → Nat → Int32) (r : Nat → Nat → Nat) (z : Nat) (A1 : Nat → List Nat) (ws : List W4), ws.length < 100 → kk ≤ 16 → (kk < 16 → k1 kd kk = true) → cnt (k1 kd) kk = n → bs.length ≤ n + 4 * f → ws ++ grp ru nu f (bs.drop n) = grp ru nu 5 bs → BW 13 RC mi mr sz A m r z A1 (layR nx 0 ws) → m 12 5 = nI ((nx + ws.length) % 24) → m 12 4 = nI (rlen kd) → am_wp 28 34 [.ref 12, .int (nI kk), .long 0, .long 0] [] (m, r, z) Q := by
    intro f
    have out : ∀ n (m : Nat → Nat → Int32) (r : Nat → Nat → Nat) (z : Nat) (A1 : Nat → List Nat) (ws : List W4), cnt (k1 kd) 16 = n → ws ++ grp ru nu f (bs.drop n) = grp ru nu 5 bs → BW 13 RC mi mr sz A m r z A1 (layR nx 0 ws) → m 12 5 = nI ((nx + ws.length) % 24) → m 12 4 = nI (rlen kd) → am_wp 28 49 [.ref 12, .int (nI 16), .long 0, .long 0] [] (m, r, z) Q := by
      intro n m r z A1 ws hcnt hg hB h5 h4
      have hdr : bs.drop n = [] := List.drop_eq_nil_of_le (by omega)
      rw [hdr, grp_nil, List.append_nil] at hg
      have hrw : rowW kd ru nu = ws ++ if anyk (k2 kd) = true then [(MG, 2, nu, nI (msk (k2 kd)))] else [] := by
        unfold rowW
        rw [← hbs, hg]
      refine wp_x 3 hB.1.1 rfl ?_
      show am_wp 28 56 _ [.int (m 7 6)] _ _
      have e76 : m 7 6 = nI (msk (k2 kd)) := by rw [hB.lo RCok (by omega) (show 7 < 12 by omega)]; exact b6
      rw [e76]
      refine wp_eq1 rfl (fun q => ?_) (fun q => ?_)
      · have ha : anyk (k2 kd) = false := by
          have := msk_0.mp q
          simp [anyk, this]
        rw [ha, if_neg (by decide), List.append_nil] at hrw
        rw [← hrw] at hB h5
        exact sum0 m r z A1 _ _ _ hB h5 h4
      · have ha : anyk (k2 kd) = true := by
          have : ¬ cnt (k2 kd) 16 = 0 := fun z => q (msk_0.mpr z)
          simp [anyk]; omega
        rw [ha, if_pos rfl] at hrw
        refine wp_x 1 hB.1.1 rfl ?_
        refine wp_ca rfl rfl ?_
        refine c_CJsheet hB.1 h5 (hmod _) (fun s m2 r2 z2 A2 hAD hsec => ?_)
        have hF2 := hAD.1.1
        have hs := hAD.2.2.2.2.2.1
        refine wp_x 8 hF2 rfl ?_
        have e71 : am_u2 m2 12 5 (nI (((nx + ws.length) % 24 + 1) % 24)) 7 1 = nu := by
          rw [sd_u2r _ _ _ _ (by omega), hAD.2.2.2.1 7 1 (by omega) (by omega), hB.lo RCok (by omega) (show 7 < 12 by omega)]; exact b2
        have e76' : am_u2 m2 12 5 (nI (((nx + ws.length) % 24 + 1) % 24)) 7 6 = nI (msk (k2 kd)) := by
          rw [sd_u2r _ _ _ _ (by omega), hAD.2.2.2.1 7 6 (by omega) (by omega)]; exact e76
        show am_wp 28 80 _ [.int (am_u2 m2 12 5 (nI (((nx + ws.length) % 24 + 1) % 24)) 7 6), .int (am_u2 m2 12 5 (nI (((nx + ws.length) % 24 + 1) % 24)) 7 1), .int 2, .int 77001, .ref s] _ _
        rw [e71, e76']
        refine wp_cv rfl rfl (tgS hs.1 hs.2.1) rfl rfl ⟨by simp, (by decide : 5 ≤ pg_ml 32)⟩ ?_
        refine c_sheetFill (M := 28) (pc := 80) (L := []) hB hAD hsec (fun m3 hB3 g4 g5 => ?_)
        rw [show ws ++ [((77001 : Int32), (2 : Int32), nu, nI (msk (k2 kd)))] = rowW kd ru nu from hrw.symm] at hB3
        refine sum0 m3 r2 z2 A2 _ _ _ hB3 ?_ (g4.trans h4)
        rw [g5, hm24, hrw, List.length_append]
        rfl
    induction f with
    | zero =>
      intro n kk m r z A1 ws hws hk hp hcnt hle hg hB h5 h4
      have hkk : kk = 16 := by
        rcases Nat.lt_or_ge kk 16 with q | q
        · have q2 := (List.getElem?_eq_some_iff.mp (imgs_at (hp q) 16 q)).1
          rw [imgsN_len] at q2
          omega
        · omega
      subst hkk
      refine wp_x 2 hB.1.1 rfl ?_
      refine wp_ge2N 16 16 rfl rfl rfl (by omega) (by omega) (fun _ => ?_) (fun q => absurd q (by omega))
      exact out n m r z A1 ws hcnt hg hB h5 h4
    | succ f ih =>
      intro n kk m r z A1 ws hws hk hp hcnt hle hg hB h5 h4
      refine wp_x 2 hB.1.1 rfl ?_
      refine wp_ge2N kk 16 rfl rfl rfl (by omega) (by omega) (fun q => ?_) (fun hk16 => ?_)
      · have hkk : kk = 16 := by omega
        subst hkk
        exact out n m r z A1 ws hcnt hg hB h5 h4
      · refine wp_x 2 hB.1.1 rfl ?_
        refine wp_ca rfl rfl ?_
        have hne : ¬ bs.drop n = [] := by
          have q2 := (List.getElem?_eq_some_iff.mp (imgs_at (hp hk16) 16 hk16)).1
          rw [imgsN_len] at q2
          intro z
          have := congrArg List.length z
          simp at this
          omega
        rw [grp_cons ru nu f hne] at hg
        refine c_CJgroup hM hB hws hnx h5 hk16 (hp hk16) (fun k' m1 r1 z1 A2 n' ds y1 y2 y3 y4 y5 y6 y7 y8 y9 => ?_)
        have hn' : n' = n := by rw [y4, hcnt]
        subst hn'
        rw [← hbs] at y5
        refine wp_x 2 y7.1.1 rfl ?_
        have hdl : ds.length ≤ 4 := by rw [y5]; simp; omega
        have htot : (ws ++ (MG, 1, nu, nI (infW ru ds)) :: ds.map (imgW ru)).length ≤ 22 := by
          have : ((ws ++ (MG, 1, nu, nI (infW ru ds)) :: ds.map (imgW ru)) ++ grp ru nu f ((bs.drop n').drop 4)).length ≤ 22 := by
            rw [← y5] at hg
            have e : (ws ++ (MG, 1, nu, nI (infW ru ds)) :: ds.map (imgW ru)) ++ grp ru nu f ((bs.drop n').drop 4) = grp ru nu 5 bs := by rw [← hg]; simp
            rw [e]; exact hgl
          rw [List.length_append] at this
          omega
        refine ih (fun n m r z A1 ws h1 h2 h3 h4 h5 => ?_) (n' + ds.length) k' m1 r1 z1 A2 _ (by omega) y2 y3 y6 ?_ ?_ y7 ?_ (y9.trans h4)
        · -- the way out is the same
          have hdr : bs.drop n = [] := List.drop_eq_nil_of_le (by omega)
          refine out n m r z A1 ws h1 ?_ h3 h4 h5
          rw [hdr, grp_nil] at h2 ⊢
          exact h2
        · rcases Nat.lt_or_ge (n' + 4) bs.length with q | q
          · have : ds.length = 4 := by rw [y5]; simp; omega
            omega
          · have : ds.length = bs.length - n' := by rw [y5]; simp; omega
            omega
        · rw [← hg, ← y5]
          have e : bs.drop (n' + ds.length) = (bs.drop n').drop 4 := by
            rw [List.drop_drop]
            rcases Nat.lt_or_ge (n' + 4) bs.length with q | q
            · have : ds.length = 4 := by rw [y5]; simp; omega
              rw [this]
            · have : ds.length = bs.length - n' := by rw [y5]; simp; omega
              rw [List.drop_eq_nil_of_le (by omega), List.drop_eq_nil_of_le (by omega)]
          rw [e]; simp
        · rw [y8]
          simp only [List.length_append, List.length_cons, List.length_map]
          congr 3
          omega
  refine wp_x 3 hF rfl ?_
  refine wp_ca rfl rfl ?_
  refine c_CJlength hF hM ?_
  refine wp_x 10 hF rfl ?_
  have e72 : am_u2 mi 12 4 (nI (rlen kd)) 7 2 = nI nx := by rw [sd_u2r _ _ _ _ (by omega)]; exact b3
  show am_wp 28 30 [.ref 12, .long 0, .long 0, .long 0] [.int (nI 0), .ref 8] (am_u2 (am_u2 mi 12 4 (nI (rlen kd))) 12 5 (am_u2 mi 12 4 (nI (rlen kd)) 7 2), mr, sz) Q
  rw [e72]
  obtain ⟨m1, hm1⟩ : ∃ z, z = am_u2 (am_u2 mi 12 4 (nI (rlen kd))) 12 5 (nI nx) := ⟨_, rfl⟩
  rw [← hm1]
  have hB1 : BW 13 RC mi mr sz A m1 mr sz A [] := (BW.ini hC.cw (hC.pl0 (Or.inl rfl))).set RCok (fun a j h => by
    rw [hm1]
    simp only [am_u2]
    rw [if_neg (fun z => h ⟨z.1, Or.inr z.2⟩), if_neg (fun z => h ⟨z.1, Or.inl z.2⟩)])
  refine wp_ca rfl rfl ?_
  refine c_from (p := k1 kd) (i := 0) hF (Or.inl rfl) (by rw [hB1.lo RCok (by omega) (by omega)]; exact b5) (by omega) (fun c' y1 y2 y3 y4 => ?_)
  refine wp_x 1 hF rfl ?_
  refine loop 5 0 c' m1 mr sz A [] (by simp) y2 y4 (cnt_at c' y1 y3 rfl) (by omega) rfl hB1 ?_ ?_
  · rw [hm1, sd_u2s]
    simp only [List.length_nil, Nat.add_zero]
    rw [Nat.mod_eq_of_lt hnx]
  · rw [hm1, sd_u2k _ _ _ _ (by decide), sd_u2s]
theorem c_commitC (hC : CRA mi mr sz A ((dk, ca), (up, nu, nx, us), (kd, ru, pd, pe), (jb, lf, pl, tot, rn, rs))) (hjb : jb = 0 ∨ jb = 2 ∨ jb = 3 ∨ jb = 4) (hk2 : ∀ b, b < 16 → kd b ≤ 2) (h8 : cnt (k1 kd) 16 ≤ 8) (hnx : nx < 24) (hus : us < 24) (t : up = true → jb = 0 → ¬ (∀ b, b < 16 → kd b = 0) → us + rlen kd ≤ 23 → ∀ mi' mr' sz', PO mi mr sz ((dk, ca), (up, nu, nx, us), (kd, ru, pd, pe), (2, rlen kd + 2, flC kd ru nu nx, rlen kd + 2, rn, rs)) mi' mr' sz' → Q (some (.int (nI (rlen kd)))) (mi', mr', sz')) (g : up = true → jb = 0 → ¬ (∀ b, b < 16 → kd b = 0) → 23 < us + rlen kd → Q (some (.int (-2))) (mi, mr, sz)) (f : (up = false ∨ ¬ jb = 0 ∨ ∀ b, b < 16 → kd b = 0) → Q (some (.int (-1))) (mi, mr, sz)) : am_wp 26 0 (am_lo 26 [.ref 2]) [] (mi, mr, sz) Q := by
  have hF := hC.cw.1
  have hM := hC.2.2.1
  have hjob := hC.job
  have no : (up = false ∨ ¬ jb = 0 ∨ ∀ b, b < 16 → kd b = 0) → am_wp 26 30 [.ref 2, .long 0] [] (mi, mr, sz) Q := fun h => wp_x 1 hF rfl (wp_re rfl rfl (f h))
  obtain ⟨b1, b2, b3, b4', b5, b6, b7, b8, b9⟩ := id hM
  dsimp only at b5 b6 b4'
  refine wp_x 1 hF rfl ?_
  refine wp_ca rfl rfl ?_
  refine c_idleC hF (fun g1 g2 => ?_) (fun h => ?_)
  rotate_left
  · refine wp_eq1 rfl (fun _ => ?_) (fun q => absurd rfl q)
    exact no ((nidleC hM hjob hjb h).imp id Or.inl)
  have hu : up = true := (up7 hM).mp g1
  have hj0 : jb = 0 := (jbA_0 jb hjb).mp (by rw [← g2]; exact hjob.symm)
  subst hj0
  refine wp_eq1 rfl (fun q => absurd q (by decide)) (fun _ => ?_)
  have hr12 := rlen_le kd h8
  have go : ¬ (∀ b, b < 16 → kd b = 0) → am_wp 26 32 [.ref 2, .long 0] [] (mi, mr, sz) Q := by
    intro hne
    refine wp_x 2 hF rfl ?_
    refine wp_ca rfl rfl ?_
    refine c_CJlength hF hM ?_
    refine wp_x 7 hF rfl ?_
    refine wp_lt2N (us + rlen kd) 24 rfl (by show mi 7 3 + nI (rlen kd) = _; rw [b4', nI_add]) rfl (by omega) (by omega) (fun q => ?_) (fun q => ?_)
    · refine wp_x 2 hF rfl ?_
      refine wp_ca rfl rfl ?_
      refine c_CJprep hC hnx (fun m1 r1 z1 A1 hB h4 => ?_)
      have hF1 := hB.1.1
      have hl := flC_len kd ru nu nx
      have hPO := hB.fin (jb := 2) (rn' := rn) (rs' := rs) RCok hC (Or.inl rfl) rfl (fun _ => h4) (fun z => absurd z (by decide)) (by omega)
      rw [show jbA 2 = 12 from rfl, hl] at hPO
      rw [hl]
      refine wp_x 3 hF1 rfl ?_
      refine wp_pr rfl rfl ?_
      obtain ⟨⟨A2, hA2⟩, -⟩ := id hPO
      refine wp_x 1 hA2.cw.1 rfl ?_
      exact wp_re rfl rfl (t hu rfl hne (by omega) _ _ _ hPO)
    · refine wp_x 1 hF rfl ?_
      exact wp_re rfl rfl (g hu rfl hne (by omega))
  have h0 : ∀ {p : Nat → Bool}, cnt p 16 = 0 → ∀ b, b < 16 → p b = false := by
    intro p hp b hb
    cases h : p b with
    | false => rfl
    | true =>
      have := (List.getElem?_eq_some_iff.mp (imgs_at h 16 hb)).1
      rw [imgsN_len] at this
      omega
  refine wp_x 4 hF rfl ?_
  show am_wp 26 17 _ [.int (mi 8 1)] _ _
  rw [b5]
  refine wp_ne1 rfl (fun q => ?_) (fun q => ?_)
  · refine go (fun hz => q (msk_0.mpr ?_))
    exact cnt_0 16 (fun b hb => by simp [k1, hz b hb])
  · refine wp_x 3 hF rfl ?_
    show am_wp 26 27 _ [.int (mi 7 6)] _ _
    rw [b6]
    refine wp_ne1 rfl (fun q2 => ?_) (fun q2 => ?_)
    · refine go (fun hz => q2 (msk_0.mpr ?_))
      exact cnt_0 16 (fun b hb => by simp [k2, hz b hb])
    · refine no (Or.inr (Or.inr (fun b hb => ?_)))
      have y1 := h0 (msk_0.mp q) b hb
      have y2 := h0 (msk_0.mp q2) b hb
      have := hk2 b hb
      simp [k1] at y1
      simp [k2] at y2
      omega
end COM2
end
section
/-! THE COMPONENT: recovery reads the log -/
def TQ (mi mi' : Nat → Nat → Int32) : Prop := ∀ a j, ¬ a = 18 → ¬ a = 19 → ¬ (a = 16 ∧ (j = 8 ∨ j = 11)) → mi' a j = mi a j
theorem TQ.rfl' {mi : Nat → Nat → Int32} : TQ mi mi := fun _ _ _ _ _ => rfl
theorem TQ.trans {m1 m2 m3 : Nat → Nat → Int32} (h1 : TQ m1 m2) (h2 : TQ m2 m3) : TQ m1 m3 := fun a j y1 y2 y3 => (h2 a j y1 y2 y3).trans (h1 a j y1 y2 y3)
theorem TQ.cw {mi mi' : Nat → Nat → Int32} {mr : Nat → Nat → Nat} {sz : Nat} {A : Nat → List Nat} (h : TQ mi mi') (hC : CW mi mr sz A) : CW mi' mr sz A := hC.mi (fun c hc => h c 3 (by rcases hc with z | z | z | z <;> omega) (by rcases hc with z | z | z | z <;> omega) (by omega))
theorem TQ.dw {mi mi' : Nat → Nat → Int32} {mr : Nat → Nat → Nat} {sz : Nat} {A : Nat → List Nat} {dk : Nat → Int32} {ca : List En} (h : TQ mi mi') (hC : CW mi mr sz A) (hD : DW mi A dk ca) : DW mi' A dk ca := by
  refine ⟨fun j hj => by rw [h 5 j (by omega) (by omega) (by omega)]; exact hD.1 j hj, ?_⟩
  rw [← hD.2]
  exact ent_map (fun y hy => by
    have := (hC.ok hy).1
    exact ⟨h y 1 (by omega) (by omega) (by omega), funext fun j => h (y + 1) j (by omega) (by omega) (by omega)⟩)
section REC
variable {mi : Nat → Nat → Int32} {mr : Nat → Nat → Nat} {sz : Nat} {Q : Option Value → am_H → Prop} {A : Nat → List Nat} {dk : Nat → Int32} {ca : List En} {p : Nat}
theorem c_RJlook {k : Nat} (hC : CW mi mr sz A) (hD : DW mi A dk ca) (h5 : mi 16 5 = nI p) (hp : p < 24) (hk : k < 100) (kq : ∀ mi' : Nat → Nat → Int32, (∀ a, ¬ a = 18 → ¬ a = 19 → mi' a = mi a) → wds mi' 19 0 = lgT dk ca p k → Q none (mi', mr, sz)) : am_wp 42 0 (am_lo 42 [.ref 16, .int (nI k)]) [] (mi, mr, sz) Q := by
  have hlt : (p + k) % 24 < 24 := Nat.mod_lt _ (by omega)
  refine wp_x 12 hC.1 rfl ?_
  have e : (17 : Int32) + (mi 16 5 + nI k - (mi 16 5 + nI k) / 24 * 24) = nI (17 + (p + k) % 24) := by
    rw [h5, nI_add, rem24 (by omega), show (17 : Int32) = nI 17 from rfl, nI_add]
  show am_wp 42 20 _ [.ref 18, .int (17 + (mi 16 5 + nI k - (mi 16 5 + nI k) / 24 * 24)), .ref 4] _ _
  rw [e]
  refine wp_ca rfl rfl ?_
  refine c_readC (t := 18) hC hD (Or.inl rfl) (by omega) (fun m' e1 e2 => ?_)
  exact wp_re rfl rfl (kq m' e1 e2)
theorem c_RJtx {k0 : Nat} {q : Int32} (hC : CW mi mr sz A) (hD : DW mi A dk ca) (h5 : mi 16 5 = nI p) (hp : p < 24) (h8 : mi 16 8 = nI k0) (hk0 : k0 ≤ 24) (y : ∀ mi' k' lt, TQ mi mi' → tx (lgT dk ca p) q 25 k0 q true 0 = some (k', lt) → mi' 16 8 = nI k' → mi' 16 11 = lt → Q (some (.int 1)) (mi', mr, sz)) (n : ∀ mi', TQ mi mi' → tx (lgT dk ca p) q 25 k0 q true 0 = none → Q (some (.int 0)) (mi', mr, sz)) : am_wp 41 0 (am_lo 41 [.ref 16, .int q]) [] (mi, mr, sz) Q := by
  have hF := hC.1
  obtain ⟨lg, hlg⟩ : ∃ z, z = lgT dk ca p := ⟨_, rfl⟩
  rw [← hlg] at y n
  obtain ⟨T0, hT0⟩ : ∃ z, z = tx lg q 25 k0 q true 0 := ⟨_, rfl⟩
  rw [← hT0] at y n
  have ret0 : ∀ m L, TQ mi m → T0 = none → am_wp 41 232 L [] (m, mr, sz) Q := fun m L h1 h2 => wp_nx (q := (.iconst 0, 233, 0, 0, 0, 0)) rfl rfl (wp_re rfl rfl (n m h1 h2))
  have loop : ∀ f k (h : Int32) (g : Bool) (lt : Int32) (m : Nat → Nat → Int32) (v4 v5 v6 : Value), 25 ≤ f + k → k ≤ 24 → T0 = tx lg q f k h g lt → TQ mi m → m 16 8 = nI k → m 16 11 = lt → am_wp 41 9 [.ref 16, .int q, .int h, .int (if g = true then 1 else 0), v4, v5, v6] [] (m, mr, sz) Q := by
    intro f
    induction f with
    | zero => intro k h g lt m v4 v5 v6 h1 h2; omega
    | succ f ih =>
      intro k h g lt m v4 v5 v6 hf hk htx hT m8 m11
      refine wp_x 3 hF rfl ?_
      refine wp_ge2N k 24 rfl m8 rfl (by omega) (by omega) (fun q1 => ?_) (fun q1 => ?_)
      · refine ret0 m _ hT ?_
        rw [htx, tx, if_pos q1]
      -- the sector at k
      refine wp_x 8 hF rfl ?_
      show am_wp 41 30 [.ref 16, .int q, .int h, .int (if g = true then 1 else 0), v4, v5, v6] [.int (m 16 8), .ref 16] (am_u2 m 16 8 (m 16 8 + 1), mr, sz) Q
      rw [m8, nI_1]
      have hT1 : TQ mi (am_u2 m 16 8 (nI (k + 1))) := hT.trans (fun a j y1 y2 y3 => if_neg (fun z => y3 ⟨z.1, Or.inl z.2⟩))
      have h51 : am_u2 m 16 8 (nI (k + 1)) 16 5 = nI p := by rw [hT1 16 5 (by omega) (by omega) (by omega)]; exact h5
      refine wp_ca rfl rfl ?_
      refine c_RJlook (k := k) (hT1.cw hC) (hT1.dw hC hD) h51 hp (by omega) (fun m2 e1 e2 => ?_)
      rw [← hlg] at e2
      have hT2 : TQ mi m2 := hT1.trans (fun a j y1 y2 y3 => by rw [e1 a y1 y2])
      have m28 : m2 16 8 = nI (k + 1) := by rw [e1 16 (by decide) (by decide), sd_u2s]
      have m211 : m2 16 11 = lt := by rw [e1 16 (by decide) (by decide), sd_u2k _ _ _ _ (by decide)]; exact m11
      have w0 : m2 19 0 = (lg k).1 := congrArg (fun e => e.1) e2
      have w1 : m2 19 1 = (lg k).2.1 := congrArg (fun e => e.2.1) e2
      have w2 : m2 19 2 = (lg k).2.2.1 := congrArg (fun e => e.2.2.1) e2
      have w3 : m2 19 3 = (lg k).2.2.2 := congrArg (fun e => e.2.2.2) e2
      rw [tx, if_neg (by omega)] at htx
      refine wp_x 4 hF rfl ?_
      refine wp_ca rfl rfl ?_
      refine c_is hF hF.sh18 (fun hy => ?_) (fun hy => ?_)
      · rw [w0, w1, w2] at hy
        rw [if_neg (fun z => z ⟨hy.1, hy.2.2⟩), if_pos hy.2.1] at htx
        refine wp_eq1 rfl (fun q => absurd q (by decide)) (fun _ => ?_)
        refine wp_x 4 hF rfl ?_
        refine wp_al 3 rfl rfl rfl (by decide) rfl (by decide) ?_
        show am_wp 41 54 _ [.int (m2 19 3)] _ _
        rw [w3]
        refine wp_x 1 hF rfl ?_
        refine wp_ne2 rfl (fun q2 => ?_) (fun q2 => ?_)
        · rw [if_neg q2] at htx
          refine wp_x 1 hF rfl ?_
          exact wp_re rfl rfl (n m2 hT2 htx)
        · rw [if_pos q2] at htx
          refine wp_x 2 hF rfl ?_
          exact wp_re rfl rfl (y m2 (k + 1) lt hT2 htx m28 m211)
      · rw [w0, w1, w2] at hy
        refine wp_eq1 rfl (fun _ => ?_) (fun q => absurd rfl q)
        refine wp_x 4 hF rfl ?_
        refine wp_al 3 rfl rfl rfl (by decide) rfl (by decide) ?_
        show am_wp 41 73 _ [.int (m2 19 3)] _ _
        rw [w3]
        refine wp_x 3 hF rfl ?_
        obtain ⟨c, hc⟩ : ∃ z, z = ((lg k).2.2.2 &&& 7).toNatClampNeg := ⟨_, rfl⟩
        have hc7 := and7 (lg k).2.2.2
        rw [← hc] at hc7
        show am_wp 41 78 [.ref 16, .int q, .int h, .int (if g = true then 1 else 0), .int ((lg k).2.2.2 &&& 7), v5, v6] [] (m2, mr, sz) Q
        rw [hc7.2]
        rw [← hc] at htx
        -- a group's row
        have inner : ∀ d j (hh : Int32) (m3 : Nat → Nat → Int32), j + d = c → k + c < 24 ∨ True → TQ mi m3 → m3 16 8 = nI (k + 1 + j) → m3 16 11 = lt → k + 1 + j ≤ 24 → hh = (List.range (1 + j)).foldl (fun x i => mix4 x (lg (k + i))) h → (T0 = if 24 ≤ k + c then none else tx lg q f (k + 1 + c) ((List.range (1 + c)).foldl (fun x i => mix4 x (lg (k + i))) h) true lt) → am_wp 41 176 [.ref 16, .int q, .int hh, .int 1, .int (nI c), .int 1, .int (nI j)] [] (m3, mr, sz) Q := by
          intro d
          induction d with
          | zero =>
            intro j hh m3 hj _ hT3 n8 n11 hle hhh htx3
            have hjc : j = c := by omega
            subst hjc
            refine wp_x 1 hF rfl ?_
            refine wp_eq1 rfl (fun q => absurd q (by decide)) (fun _ => ?_)
            refine wp_x 2 hF rfl ?_
            refine wp_ge2N j j rfl rfl rfl (by omega) (by omega) (fun _ => ?_) (fun q => absurd q (by omega))
            refine wp_x 1 hF rfl ?_
            rw [if_neg (by omega)] at htx3
            rw [hhh]
            exact ih (k + 1 + j) _ true lt m3 _ _ _ (by omega) hle htx3 hT3 n8 n11
          | succ d ihd =>
            intro j hh m3 hj _ hT3 n8 n11 hle hhh htx3
            refine wp_x 1 hF rfl ?_
            refine wp_eq1 rfl (fun q => absurd q (by decide)) (fun _ => ?_)
            refine wp_x 2 hF rfl ?_
            refine wp_ge2N j c rfl rfl rfl (by omega) (by omega) (fun q => absurd q (by omega)) (fun _ => ?_)
            refine wp_x 3 hF rfl ?_
            refine wp_lt2N (k + 1 + j) 24 rfl n8 rfl (by omega) (by omega) (fun q2 => ?_) (fun q2 => ?_)
            · refine wp_x 8 hF rfl ?_
              show am_wp 41 211 [.ref 16, .int q, .int hh, .int 1, .int (nI c), .int 1, .int (nI j)] [.int (m3 16 8), .ref 16] (am_u2 m3 16 8 (m3 16 8 + 1), mr, sz) Q
              rw [n8, nI_1]
              have hT4 : TQ mi (am_u2 m3 16 8 (nI (k + 1 + j + 1))) := hT3.trans (fun a i y1 y2 y3 => if_neg (fun z => y3 ⟨z.1, Or.inl z.2⟩))
              refine wp_ca rfl rfl ?_
              refine c_RJlook (k := k + 1 + j) (hT4.cw hC) (hT4.dw hC hD) (by rw [hT4 16 5 (by omega) (by omega) (by omega)]; exact h5) hp (by omega) (fun m5 g1 g2 => ?_)
              rw [← hlg] at g2
              refine wp_x 3 hF rfl ?_
              refine wp_ca rfl rfl ?_
              refine c_mixed hF hF.sh18 ?_
              rw [g2]
              refine wp_x 3 hF rfl ?_
              have := ihd (j + 1) (mix4 hh (lg (k + 1 + j))) m5 (by omega) (Or.inr trivial) (hT4.trans (fun a i y1 y2 y3 => by rw [g1 a y1 y2])) (by rw [g1 16 (by decide) (by decide), sd_u2s]; rfl) (by rw [g1 16 (by decide) (by decide), sd_u2k _ _ _ _ (by decide)]; exact n11) (by omega) (by
                rw [hhh, show 1 + (j + 1) = (1 + j) + 1 by omega, List.range_succ, List.foldl_append]
                show mix4 _ _ = mix4 _ _
                congr 2
                omega) htx3
              rw [← nI_1] at this
              exact this
            · refine wp_x 1 hF rfl ?_
              rw [if_pos (by omega)] at htx3
              exact wp_re rfl rfl (n m3 hT3 htx3)
        -- no group
        have grp0 : ¬ ((lg k).1 = MG ∧ (lg k).2.1 = 1 ∧ (lg k).2.2.1 = q ∧ g = true ∧ 1 ≤ c ∧ c ≤ 4) → am_wp 41 110 [.ref 16, .int q, .int h, .int (if g = true then 1 else 0), .int (nI c), v5, v6] [] (m2, mr, sz) Q := by
          intro hng
          refine wp_x 3 hF rfl ?_
          refine wp_ne1 rfl (fun q => absurd rfl q) (fun _ => ?_)
          refine wp_x 1 hF rfl ?_
          have fail : ¬ ((lg k).1 = MG ∧ (lg k).2.1 = 2 ∧ (lg k).2.2.1 = q ∧ g = true) → am_wp 41 134 [.ref 16, .int q, .int h, .int (if g = true then 1 else 0), .int (nI c), .int 0, v6] [] (m2, mr, sz) Q := by
            intro hnr
            refine wp_x 1 hF rfl (wp_re rfl rfl (n m2 hT2 ?_))
            rw [htx]
            by_cases z1 : (lg k).1 = MG ∧ (lg k).2.2.1 = q
            · rw [if_neg (fun z => z z1), if_neg (fun z => hy ⟨z1.1, z, z1.2⟩), if_neg (fun z => hng ⟨z1.1, z.1, z1.2, z.2.1, z.2.2⟩), if_neg (fun z => hnr ⟨z1.1, z.1, z1.2, z.2⟩)]
            · rw [if_pos z1]
          refine wp_eq1 rfl (fun q2 => fail (fun z => by rw [b01.mp q2] at z; exact absurd z.2.2.2 (by decide))) (fun q2 => ?_)
          have hg := b10 q2
          refine wp_x 4 hF rfl ?_
          refine wp_ca rfl rfl ?_
          refine c_is hF hF.sh18 (fun hr => ?_) (fun hr => ?_)
          · rw [w0, w1, w2] at hr
            refine wp_ne1 rfl (fun _ => ?_) (fun q => absurd q (by decide))
            refine wp_x 4 hF rfl ?_
            refine wp_eq1 rfl (fun _ => ?_) (fun q => absurd rfl q)
            refine wp_x 4 hF rfl ?_
            refine wp_al 3 rfl rfl rfl (by decide) rfl (by decide) ?_
            show am_wp 41 161 _ [.int (m2 19 3), .ref 16] _ _
            rw [w3]
            refine wp_x 4 hF rfl ?_
            refine wp_ca rfl rfl ?_
            obtain ⟨m3, hm3⟩ : ∃ z, z = am_u2 m2 16 11 (lg k).2.2.2 := ⟨_, rfl⟩
            have hT3 : TQ mi m3 := hT2.trans (fun a j y1 y2 y3 => by rw [hm3]; exact if_neg (fun z => y3 ⟨z.1, Or.inr z.2⟩))
            have ew : wds m3 (18 + 1) 0 = lg k := by rw [← e2, hm3]; rfl
            show am_wp 33 0 (am_lo 33 [.ref 18, .int h]) [] (am_u2 m2 16 11 (lg k).2.2.2, mr, sz) _
            rw [← hm3]
            refine c_mixed hF hF.sh18 ?_
            rw [ew]
            refine wp_x 3 hF rfl ?_
            refine wp_x 1 hF rfl ?_
            refine wp_eq1 rfl (fun _ => ?_) (fun q => absurd rfl q)
            refine wp_x 1 hF rfl ?_
            refine ih (k + 1) (mix4 h (lg k)) false (lg k).2.2.2 m3 _ _ _ (by omega) (by omega) ?_ hT3 ?_ ?_
            · rw [htx, if_neg (fun z => z ⟨hr.1, hr.2.2⟩), if_neg (fun z => hy ⟨hr.1, z, hr.2.2⟩), if_neg (fun z => hng ⟨hr.1, z.1, hr.2.2, z.2.1, z.2.2⟩), if_pos ⟨hr.2.1, hg⟩]
            · rw [hm3, sd_u2k _ _ _ _ (by decide)]; exact m28
            · rw [hm3, sd_u2s]
          · rw [w0, w1, w2] at hr
            refine wp_ne1 rfl (fun q => absurd rfl q) (fun _ => ?_)
            exact fail (fun z => hr ⟨z.1, z.2.1, z.2.2.1⟩)
        refine wp_x 1 hF rfl ?_
        refine wp_eq1 rfl (fun q2 => grp0 (fun z => by rw [b01.mp q2] at z; exact absurd z.2.2.2.1 (by decide))) (fun q2 => ?_)
        have hg := b10 q2
        refine wp_x 4 hF rfl ?_
        refine wp_ca rfl rfl ?_
        refine c_is hF hF.sh18 (fun hr => ?_) (fun hr => ?_)
        · rw [w0, w1, w2] at hr
          refine wp_eq1 rfl (fun q => absurd q (by decide)) (fun _ => ?_)
          refine wp_x 2 hF rfl ?_
          refine wp_lt2N c 1 rfl rfl rfl (by omega) (by omega) (fun q3 => grp0 (fun z => by omega)) (fun q3 => ?_)
          refine wp_x 2 hF rfl ?_
          refine wp_gt2N c 4 rfl rfl rfl (by omega) (by omega) (fun q4 => grp0 (fun z => by omega)) (fun q4 => ?_)
          refine wp_x 4 hF rfl ?_
          refine wp_ne1 rfl (fun _ => ?_) (fun q => absurd q (by decide))
          refine wp_x 4 hF rfl ?_
          refine wp_eq1 rfl (fun q => absurd q (by decide)) (fun _ => ?_)
          refine wp_x 7 hF rfl ?_
          refine wp_ca rfl rfl ?_
          obtain ⟨m3, hm3⟩ : ∃ z, z = am_u2 m2 16 11 (m2 16 11) := ⟨_, rfl⟩
          have hm32 : m3 = m2 := by
            rw [hm3]
            funext a j
            simp only [am_u2]
            split
            · rename_i z; rw [z.1, z.2]
            · rfl
          show am_wp 33 0 (am_lo 33 [.ref 18, .int h]) [] (am_u2 m2 16 11 (m2 16 11), mr, sz) _
          rw [← hm3, hm32]
          refine c_mixed hF hF.sh18 ?_
          have ew : wds m2 (18 + 1) 0 = lg k := e2
          rw [ew]
          refine wp_x 3 hF rfl ?_
          refine inner c 0 (mix4 h (lg k)) m2 (by omega) (Or.inr trivial) hT2 m28 m211 (by omega) rfl ?_
          rw [htx, if_neg (fun z => z ⟨hr.1, hr.2.2⟩), if_neg (fun z => hy ⟨hr.1, z, hr.2.2⟩), if_pos ⟨hr.2.1, hg, q3, q4⟩]
        · rw [w0, w1, w2] at hr
          refine wp_eq1 rfl (fun _ => ?_) (fun q => absurd rfl q)
          exact grp0 (fun z => hr ⟨z.1, z.2.1, z.2.2.1⟩)
  refine wp_x 7 hF rfl ?_
  exact loop 25 k0 q true 0 _ _ _ _ (by omega) hk0 hT0 (fun a j y1 y2 y3 => if_neg (fun z => y3 ⟨z.1, Or.inr z.2⟩)) (by show am_u2 mi 16 11 0 16 8 = _; rw [sd_u2k _ _ _ _ (by decide)]; exact h8) (sd_u2s _ _ _ _)
end REC
end
section
/-! THE COMPONENT: recovery scans, replays -/
def RR (a j : Nat) : Prop := (a = 16 ∧ (j = 5 ∨ j = 6 ∨ j = 7 ∨ j = 8 ∨ j = 10 ∨ j = 11)) ∨ a = 18 ∨ a = 19 ∨ a = 20
theorem RRok : Rok RR := fun a j h => ⟨by unfold RR at h; omega, by unfold RR at h; omega, fun z => by unfold RR at h; unfold isC at z; omega⟩
/-- who revokes what, as the component keeps it -/
def RVC (mi : Nat → Nat → Int32) (rv : Nat → Option Int32) : Prop := mi 16 10 = nI (msk (fun b => (rv b).isSome)) ∧ ∀ b, b < 16 → ∀ z, rv b = some z → mi 20 b = z
def rvN (rv : Nat → Option Int32) (lt q : Int32) : Nat → Option Int32 := fun b => if bt lt b = true then some q else rv b
theorem rvc_bits (P : Nat → Bool) (lt : Int32) : nI (msk P) ||| (lt &&& 65535) = nI (msk (fun b => P b || bt lt b)) := by
  refine gb_ext (fun i hi => ?_)
  have h6 : ∀ i, i < 32 → gb (65535 : Int32) i = decide (i < 16) := by decide +kernel
  rw [gb_or, gb_and, gb_nI _ hi, gb_nI _ hi, msk_tb, msk_tb, h6 i hi, bt_gb lt hi]
  by_cases h : i < 16 <;> simp [h]
section REC2
variable {mi mi0 : Nat → Nat → Int32} {mr mr0 : Nat → Nat → Nat} {sz sz0 : Nat} {Q : Option Value → am_H → Prop} {A A0 : Nat → List Nat} {dk : Nat → Int32} {ca : List En} {p : Nat} {es : List En}
def TZ (mi mi' : Nat → Nat → Int32) : Prop := ∀ a j, ¬ a = 18 → ¬ a = 19 → ¬ a = 20 → ¬ (a = 16 ∧ (j = 7 ∨ j = 8 ∨ j = 10 ∨ j = 11)) → mi' a j = mi a j
theorem TZ.trans {m1 m2 m3 : Nat → Nat → Int32} (h1 : TZ m1 m2) (h2 : TZ m2 m3) : TZ m1 m3 := fun a j y1 y2 y3 y4 => (h2 a j y1 y2 y3 y4).trans (h1 a j y1 y2 y3 y4)
theorem TQ.tz {mi mi' : Nat → Nat → Int32} (h : TQ mi mi') : TZ mi mi' := fun a j y1 y2 _ y4 => h a j y1 y2 (by omega)
theorem TZ.cw {mi' : Nat → Nat → Int32} (h : TZ mi mi') (hC : CW mi mr sz A) : CW mi' mr sz A := hC.mi (fun c hc => h c 3 (by rcases hc with z | z | z | z <;> omega) (by rcases hc with z | z | z | z <;> omega) (by rcases hc with z | z | z | z <;> omega) (by omega))
theorem TZ.dw {mi' : Nat → Nat → Int32} (h : TZ mi mi') (hC : CW mi mr sz A) (hD : DW mi A dk ca) : DW mi' A dk ca := by
  refine ⟨fun j hj => by rw [h 5 j (by omega) (by omega) (by omega) (by omega)]; exact hD.1 j hj, ?_⟩
  rw [← hD.2]
  exact ent_map (fun y hy => by
    have := (hC.ok hy).1
    exact ⟨h y 1 (by omega) (by omega) (by omega) (by omega), funext fun j => h (y + 1) j (by omega) (by omega) (by omega) (by omega)⟩)
theorem c_RJscan {f0 : Int32} (hC : CW mi mr sz A) (hD : DW mi A dk ca) (h5 : mi 16 5 = nI p) (hp : p < 24) (h6 : mi 16 6 = f0) (kq : ∀ mi' : Nat → Nat → Int32, TZ mi mi' → mi' 16 7 = nI (sc (lgT dk ca p) 25 f0 0 (fun _ => none)).1 → RVC mi' (sc (lgT dk ca p) 25 f0 0 (fun _ => none)).2.2 → Q (some (.int (sc (lgT dk ca p) 25 f0 0 (fun _ => none)).2.1)) (mi', mr, sz)) : am_wp 40 0 (am_lo 40 [.ref 16]) [] (mi, mr, sz) Q := by
  have hF := hC.1
  obtain ⟨S, hS⟩ : ∃ z, z = sc (lgT dk ca p) 25 f0 0 (fun _ => none) := ⟨_, rfl⟩
  rw [← hS] at kq
  have loop : ∀ f k (q : Int32) (rv : Nat → Option Int32) (m : Nat → Nat → Int32) (v2 : Value), 25 ≤ f + k → k ≤ 24 → S = sc (lgT dk ca p) f q k rv → TZ mi m → m 16 7 = nI k → m 16 8 = nI k → RVC m rv → am_wp 40 20 [.ref 16, .int q, v2] [] (m, mr, sz) Q := by
    intro f
    induction f with
    | zero => intro k q rv m v2 h1 h2; omega
    | succ f ih =>
      intro k q rv m v2 hf hk hs hT m7 m8 hR
      rw [sc] at hs
      refine wp_x 2 hF rfl ?_
      refine wp_ca rfl rfl ?_
      refine c_RJtx (p := p) (dk := dk) (ca := ca) (k0 := k) (hT.cw hC) (hT.dw hC hD) (by rw [hT 16 5 (by omega) (by omega) (by omega) (by omega)]; exact h5) hp m8 hk (fun m1 k' lt hT1 ht n8 n11 => ?_) (fun m1 hT1 ht => ?_)
      · rw [ht] at hs
        dsimp only at hs
        have hg := tx_gt ht
        refine wp_eq1 rfl (fun q => absurd q (by decide)) (fun _ => ?_)
        refine wp_x 2 hF rfl ?_
        have n10 : m1 16 10 = nI (msk (fun b => (rv b).isSome)) := by rw [hT1 16 10 (by omega) (by omega) (by omega)]; exact hR.1
        have n20 : ∀ b, b < 16 → ∀ z, rv b = some z → m1 20 b = z := fun b hb z hz => by rw [hT1 20 b (by omega) (by omega) (by omega)]; exact hR.2 b hb z hz
        have inner : ∀ d b (m2 : Nat → Nat → Int32), b + d = 16 → (∀ a, ¬ a = 20 → m2 a = m1 a) → (∀ c, c < 16 → ∀ z, (if c < b then rvN rv lt q c else rv c) = some z → m2 20 c = z) → am_wp 40 30 [.ref 16, .int q, .int (nI b)] [] (m2, mr, sz) Q := by
          intro d
          induction d with
          | zero =>
            intro b m2 hb c1 c2
            have hb' : b = 16 := by omega
            subst hb'
            refine wp_x 2 hF rfl ?_
            refine wp_ge2N 16 16 rfl rfl rfl (by omega) (by omega) (fun _ => ?_) (fun q => absurd q (by omega))
            refine wp_x 15 hF rfl ?_
            have o16 := c1 16 (by decide)
            have e10 : m2 16 10 ||| (m2 16 11 &&& 65535) = nI (msk (fun b => (rvN rv lt q b).isSome)) := by
              rw [o16, n10, n11, rvc_bits]
              congr 1
              refine msk_congr (fun b hb => ?_)
              unfold rvN
              cases h : bt lt b <;> simp
            show am_wp 40 20 [.ref 16, .int (q + 1), .int (nI 16)] [] (am_u2 (am_u2 m2 16 10 (m2 16 10 ||| (m2 16 11 &&& 65535))) 16 7 (m2 16 8), mr, sz) Q
            rw [e10, o16, n8]
            refine ih k' (q + 1) (rvN rv lt q) _ _ (by omega) hg.2 hs ?_ (sd_u2s _ _ _ _) ?_ ⟨?_, fun b hb z hz => ?_⟩
            · refine (hT.trans hT1.tz).trans (fun a j y1 y2 y3 y4 => ?_)
              rw [← c1 a y3]
              simp only [am_u2]
              rw [if_neg (fun z => y4 ⟨z.1, Or.inl z.2⟩), if_neg (fun z => y4 ⟨z.1, Or.inr (Or.inr (Or.inl z.2))⟩)]
            · rw [sd_u2k _ _ _ _ (by decide), sd_u2k _ _ _ _ (by decide), o16]; exact n8
            · rw [sd_u2k _ _ _ _ (by decide), sd_u2s]
            · show m2 20 b = z
              exact c2 b hb z (by rw [if_pos hb]; exact hz)
          | succ d ihd =>
            intro b m2 hb c1 c2
            refine wp_x 2 hF rfl ?_
            refine wp_ge2N b 16 rfl rfl rfl (by omega) (by omega) (fun q => absurd q (by omega)) (fun hb16 => ?_)
            have nxt : ∀ v : Int32, (∀ z, rvN rv lt q b = some z → v = z) → am_wp 40 62 [.ref 16, .int q, .int (nI b)] [.int v, .int (nI b), .ref 20] (m2, mr, sz) Q := by
              intro v hv
              refine wp_as b rfl rfl rfl (by decide) rfl hb16 ?_
              refine wp_x 2 hF rfl ?_
              have := ihd (b + 1) (am_u2 m2 20 b v) (by omega) (fun a ha => by rw [sd_u2r _ _ _ _ ha]; exact c1 a ha) (fun c hc z hz => by
                by_cases hcb : c = b
                · subst hcb
                  rw [if_pos (by omega)] at hz
                  rw [sd_u2s]; exact hv z hz
                · rw [sd_u2k _ _ _ _ hcb]
                  refine c2 c hc z ?_
                  by_cases h3 : c < b
                  · rw [if_pos (by omega)] at hz; rw [if_pos h3]; exact hz
                  · rw [if_neg (by omega)] at hz; rw [if_neg h3]; exact hz)
              rw [← nI_1] at this
              exact this
            refine wp_x 9 hF rfl ?_
            show am_wp 40 49 _ [.int ((m2 16 11 >>> (nI b &&& 31)) &&& 1), .int (nI b), .ref 20] _ _
            rw [c1 16 (by decide), n11]
            refine wp_eq1 rfl (fun q2 => ?_) (fun q2 => ?_)
            · have hb0 : bt lt b = false := by unfold bt; simp [q2]
              refine wp_x 3 hF rfl ?_
              refine wp_al b rfl rfl rfl (by decide) rfl hb16 ?_
              refine nxt _ (fun z hz => ?_)
              unfold rvN at hz
              rw [hb0, if_neg (by decide)] at hz
              exact c2 b hb16 z (by rw [if_neg (by omega)]; exact hz)
            · have hb1 : bt lt b = true := by unfold bt; simp [q2]
              refine wp_x 2 hF rfl ?_
              refine nxt _ (fun z hz => ?_)
              unfold rvN at hz
              rw [hb1, if_pos rfl] at hz
              exact Option.some.inj hz
        exact inner 16 0 m1 rfl (fun _ _ => rfl) (fun c hc z hz => by rw [if_neg (by omega)] at hz; exact n20 c hc z hz)
      · rw [ht] at hs
        dsimp only at hs
        refine wp_eq1 rfl (fun _ => ?_) (fun q => absurd rfl q)
        refine wp_x 1 hF rfl ?_
        have kk := kq m1 (hT.trans hT1.tz) (by rw [hs, hT1 16 7 (by omega) (by omega) (by omega)]; exact m7) (by
          rw [hs]
          exact ⟨by rw [hT1 16 10 (by omega) (by omega) (by omega)]; exact hR.1, fun b hb z hz => by rw [hT1 20 b (by omega) (by omega) (by omega)]; exact hR.2 b hb z hz⟩)
        rw [hs] at kk
        exact wp_re rfl rfl kk
  refine wp_x 12 hF rfl ?_
  show am_wp 40 20 [.ref 16, .int (mi 16 6), .long 0] [] (am_u2 (am_u2 (am_u2 mi 16 7 0) 16 8 0) 16 10 0, mr, sz) Q
  rw [h6]
  refine loop 25 0 f0 (fun _ => none) _ _ (by omega) (by omega) hS (fun a j y1 y2 y3 y4 => ?_) rfl rfl ⟨?_, fun b hb z hz => by cases hz⟩
  · simp only [am_u2]
    rw [if_neg (fun z => y4 ⟨z.1, Or.inr (Or.inr (Or.inl z.2))⟩), if_neg (fun z => y4 ⟨z.1, Or.inr (Or.inl z.2)⟩), if_neg (fun z => y4 ⟨z.1, Or.inl z.2⟩)]
  · exact msk_false.symm
/-- an image is planned, or it is revoked -/
theorem c_RJimage {inf q : Int32} {j : Nat} {rv : Nat → Option Int32} {w : W4} (hB : BW 17 RR mi0 mr0 sz0 A0 mi mr sz A es) (hj : j < 8) (hR : RVC mi rv) (hw : wds mi 19 0 = w) (kq : ∀ m r z A', BW 17 RR mi0 mr0 sz0 A0 m r z A' (es ++ if rvd rv (imb inf j) q = true then [] else [(nI (imb inf j), (if imf inf j = true then MG else w.1, w.2))]) → (∀ a x, a < 34 → ¬ (a = 17 ∧ x = 3) → m a x = mi a x) → Q none (m, r, z)) : am_wp 44 0 (am_lo 44 [.ref 16, .int inf, .int (nI j), .int q]) [] (mi, mr, sz) Q := by
  have hF := hB.1.1
  have hC17 : isC 17 := Or.inr (Or.inr (Or.inr rfl))
  obtain ⟨b, hb⟩ : ∃ z, z = imb inf j := ⟨_, rfl⟩
  have hb15 := and15 (am_sh inf (nI (3 + 5 * j)))
  have hbe : (am_sh inf (nI (3 + 5 * j)) &&& 15).toNatClampNeg = b := hb.symm
  rw [hbe] at hb15
  rw [← hb] at kq
  have e3 : (3 : Int32) + 5 * nI j = nI (3 + 5 * j) := by rw [show (5 : Int32) = nI 5 from rfl, show (3 : Int32) = nI 3 from rfl, pk_mul, nI_add]
  have e7 : (7 : Int32) + 5 * nI j = nI (7 + 5 * j) := by rw [show (5 : Int32) = nI 5 from rfl, show (7 : Int32) = nI 7 from rfl, pk_mul, nI_add]
  have pln : rvd rv b q = false → am_wp 44 36 [.ref 16, .int inf, .int (nI j), .int q, .int (nI b), .long 0] [] (mi, mr, sz) Q := by
    intro hr
    rw [hr, if_neg (by decide)] at kq
    refine wp_x 3 hF rfl ?_
    refine wp_ca rfl rfl ?_
    refine c_add' hB.1 hC17 (fun s m1 r1 z1 A1 hAD hsec => ?_)
    have hF1 := hAD.1.1
    have hs := hAD.2.2.2.2.2.1
    have h34 := hs.1
    obtain ⟨t1, t2, t3, t4, t5⟩ := hs.sh
    refine wp_x 6 hF1 rfl ?_
    refine wp_cv rfl rfl t1 rfl rfl ⟨by simp, (by decide : 3 ≤ pg_ml 17)⟩ ?_
    refine c_copy (q := 19) (p := 0) hF1 hs.sh ⟨rfl, by decide, show 0 + 4 ≤ 4 by omega⟩ (fun m2 f1 f2 => ?_)
    have w2 : wds m2 (s + 1) 0 = w := by
      rw [f2, ← hw]
      exact wds_ext (fun x _ => hAD.2.2.2.1 19 _ (by omega) (by omega))
    have e0 : m2 (s + 1) 0 = w.1 := congrArg (fun e => e.1) w2
    have e1 : m2 (s + 1) 1 = w.2.1 := congrArg (fun e => e.2.1) w2
    have e2 : m2 (s + 1) 2 = w.2.2.1 := congrArg (fun e => e.2.2.1) w2
    have e4 : m2 (s + 1) 3 = w.2.2.2 := congrArg (fun e => e.2.2.2) w2
    have fin : ∀ v : Int32, v = (if imf inf j = true then MG else w.1) → am_wp 44 91 [.ref 16, .int inf, .int (nI j), .int q, .int (nI b), .ref s] [.int v, .int 0, .ref (s + 1)] (m2, r1, z1) Q := by
      intro v hv
      refine wp_as 0 rfl rfl rfl (by omega) t2 (by omega) ?_
      have hAD3 := hAD.w hC17 (mi3 := am_u2 m2 (s + 1) 0 v) (fun a ha => by rw [sd_u2r _ _ _ _ ha, f1 a ha])
      refine wp_re rfl rfl (kq _ r1 z1 A1 (hB.add (by decide) hAD3 ?_) (fun a x y1 y2 => hAD3.2.2.2.1 a x y1 y2))
      have hx : ∀ y, ¬ y = 0 → am_u2 m2 (s + 1) 0 v (s + 1) y = m2 (s + 1) y := fun y hy => sd_u2k _ _ _ _ hy
      show (am_u2 m2 (s + 1) 0 v s 1, am_u2 m2 (s + 1) 0 v (s + 1) 0, am_u2 m2 (s + 1) 0 v (s + 1) 1, am_u2 m2 (s + 1) 0 v (s + 1) 2, am_u2 m2 (s + 1) 0 v (s + 1) 3) = _
      rw [sd_u2s, hx 1 (by decide), hx 2 (by decide), hx 3 (by decide), e1, e2, e4, sd_u2r _ _ _ _ (by omega), f1 s (by omega), hsec, hv]
    refine wp_x 1 hF1 rfl ?_
    refine wp_gr rfl (by rw [t1]; rfl) t4 ?_
    refine wp_x 10 hF1 rfl ?_
    show am_wp 44 76 _ [.int (am_sh inf ((7 : Int32) + 5 * nI j) &&& 1), .int 0, .ref (s + 1)] _ _
    rw [e7]
    refine wp_eq1 rfl (fun q2 => ?_) (fun q2 => ?_)
    · refine wp_x 1 hF1 rfl ?_
      refine wp_gr rfl (by rw [t1]; rfl) t4 ?_
      refine wp_x 1 hF1 rfl ?_
      refine wp_al 0 rfl rfl rfl (by omega) t2 (by omega) ?_
      refine fin _ ?_
      have : imf inf j = false := by unfold imf; simp [q2]
      rw [this, if_neg (by decide)]; exact e0
    · refine wp_x 2 hF1 rfl ?_
      refine fin _ ?_
      have : imf inf j = true := by unfold imf; simp [q2]
      rw [this, if_pos rfl]; rfl
  refine wp_x 10 hF rfl ?_
  show am_wp 44 12 [.ref 16, .int inf, .int (nI j), .int q, .int (am_sh inf ((3 : Int32) + 5 * nI j) &&& 15), .long 0] [] (mi, mr, sz) Q
  rw [e3, hb15.2]
  refine wp_x 6 hF rfl ?_
  show am_wp 44 21 _ [.int ((mi 16 10 >>> (nI b &&& 31)) &&& 1)] _ _
  rw [hR.1, msk_has _ hb15.1]
  refine wp_eq1 rfl (fun q2 => ?_) (fun q2 => ?_)
  · have h0 := b01.mp q2
    refine pln ?_
    unfold rvd
    cases h : rv b with
    | none => rfl
    | some z => rw [h] at h0; cases h0
  · have h1 := b10 q2
    obtain ⟨z, hz⟩ := Option.isSome_iff_exists.mp h1
    refine wp_x 3 hF rfl ?_
    refine wp_al b rfl rfl rfl (by decide) rfl (show b < 16 from hb15.1) ?_
    rw [hR.2 b hb15.1 z hz]
    refine wp_x 1 hF rfl ?_
    refine wp_le2 rfl (fun q3 => ?_) (fun q3 => ?_)
    · refine pln ?_
      unfold rvd
      rw [hz]
      exact decide_eq_false (fun y => i_nlt.mpr q3 y)
    · have hr : rvd rv b q = true := by
        unfold rvd
        rw [hz]
        exact decide_eq_true (i_nle.mp q3)
      rw [hr, if_pos rfl, List.append_nil] at kq
      exact wp_re rfl rfl (kq mi mr sz A hB (fun _ _ _ _ => rfl))
end REC2
end
section
/-! THE COMPONENT: recovery, prepared -/
section REC3
variable {mi mi0 : Nat → Nat → Int32} {mr mr0 : Nat → Nat → Nat} {sz sz0 : Nat} {Q : Option Value → am_H → Prop} {A A0 : Nat → List Nat} {dk : Nat → Int32} {ca : List En} {up : Bool} {nu : Int32} {nx us : Nat} {kd : Nat → Nat} {ru : Nat → Int32} {pd : Nat → Bool} {pe : Nat → Int32} {jb lf tot : Nat} {pl : List En} {rn : Int32} {rs : Nat} {es : List En} {p : Nat}
theorem BW.dw {P : Nat} {R : Nat → Nat → Prop} (hB : BW P R mi0 mr0 sz0 A0 mi mr sz A es) (hR : Rok R) (hP : 12 ≤ P) (hD : DW mi0 A0 dk ca) : DW mi A dk ca := ⟨fun j hj => by rw [hB.lo hR hP (show 5 < 12 by omega)]; exact hD.1 j hj, by rw [hB.2.2.1 6 (by omega) (by omega)]; exact hD.2⟩
theorem c_RJprep {f0 : Int32} (hC : CRA mi mr sz A ((dk, ca), (up, nu, nx, us), (kd, ru, pd, pe), (0, lf, pl, tot, rn, rs))) (hH : HG dk ca p f0) (kq : ∀ m r z A', BW 17 RR mi mr sz A m r z A' (rcI (lgT dk ca p) f0 ++ [rcE (lgT dk ca p) f0 p]) → m 16 6 = (sc (lgT dk ca p) 25 f0 0 (fun _ => none)).2.1 → m 16 5 = nI ((p + (sc (lgT dk ca p) 25 f0 0 (fun _ => none)).1) % 24) → Q (some (.int (nI (rcI (lgT dk ca p) f0).length))) (am_u2 m 16 3 (nI ((rcI (lgT dk ca p) f0 ++ [rcE (lgT dk ca p) f0 p]).length + 2)), r, z)) : am_wp 39 0 (am_lo 39 [.ref 16]) [] (mi, mr, sz) Q := by
  have hF := hC.cw.1
  have hD := hC.2.1
  obtain ⟨g0, hp24, g2, g1⟩ := hH
  have hC17 : isC 17 := Or.inr (Or.inr (Or.inr rfl))
  obtain ⟨lg, hlg⟩ : ∃ z, z = lgT dk ca p := ⟨_, rfl⟩
  obtain ⟨n, hn⟩ : ∃ z, z = (sc (lgT dk ca p) 25 f0 0 (fun _ => none)).1 := ⟨_, rfl⟩
  obtain ⟨bh, hbh⟩ : ∃ z, z = (sc (lgT dk ca p) 25 f0 0 (fun _ => none)).2.1 := ⟨_, rfl⟩
  obtain ⟨rv, hrv⟩ : ∃ z, z = (sc (lgT dk ca p) 25 f0 0 (fun _ => none)).2.2 := ⟨_, rfl⟩
  have hn24 : n ≤ 24 := by rw [hn]; exact sc_le _ _ _ _ _ (by omega)
  have hrcI : rcI (lgT dk ca p) f0 = rp lg rv n 25 0 f0 := by rw [hlg, hrv, hn]; rfl
  have hrcE : rcE (lgT dk ca p) f0 p = (nI 16, MG, bh, nI ((p + n) % 24), 0) := by rw [hbh, hn]; rfl
  rw [← hn, ← hbh, hrcE, hrcI] at kq
  obtain ⟨RI, hRI⟩ : ∃ z, z = rp lg rv n 25 0 f0 := ⟨_, rfl⟩
  rw [← hRI] at kq
  -- the head
  have last : ∀ (m : Nat → Nat → Int32) (r : Nat → Nat → Nat) (z : Nat) (A1 : Nat → List Nat) (v1 v3 v4 v5 v6 : Value), BW 17 RR mi mr sz A m r z A1 RI → m 16 5 = nI p → m 16 7 = nI n → am_wp 39 215 [.ref 16, v1, .int bh, v3, v4, v5, v6] [] (m, r, z) Q := by
    intro m r z A1 v1 v3 v4 v5 v6 hB h5 h7
    refine wp_x 19 hB.1.1 rfl ?_
    have e5 : m 16 5 + m 16 7 - (m 16 5 + m 16 7) / 24 * 24 = nI ((p + n) % 24) := by rw [h5, h7, nI_add, rem24 (by omega)]
    show am_wp 39 251 [.ref 16, v1, .int bh, v3, v4, .int (m 17 3), v6] [.int (nI 16), .ref 17] (am_u2 (am_u2 m 16 6 bh) 16 5 (m 16 5 + m 16 7 - (m 16 5 + m 16 7) / 24 * 24), r, z) Q
    rw [e5, hB.len hC17]
    obtain ⟨m1, hm1⟩ : ∃ z, z = am_u2 (am_u2 m 16 6 bh) 16 5 (nI ((p + n) % 24)) := ⟨_, rfl⟩
    rw [← hm1]
    have hB1 : BW 17 RR mi mr sz A m1 r z A1 RI := hB.set RRok (fun a j h => by
      rw [hm1]
      simp only [am_u2]
      rw [if_neg (fun z => h (Or.inl ⟨z.1, Or.inl z.2⟩)), if_neg (fun z => h (Or.inl ⟨z.1, Or.inr (Or.inl z.2)⟩))])
    refine wp_ca rfl rfl ?_
    refine c_add' hB1.1 hC17 (fun s m2 r2 z2 A2 hAD hsec => ?_)
    have hF2 := hAD.1.1
    have hs := hAD.2.2.2.2.2.1
    have h34 := hs.1
    have e26 : m2 16 6 = bh := by rw [hAD.2.2.2.1 16 6 (by omega) (by omega), hm1, sd_u2k _ _ _ _ (by decide), sd_u2s]
    have e25 : m2 16 5 = nI ((p + n) % 24) := by rw [hAD.2.2.2.1 16 5 (by omega) (by omega), hm1, sd_u2s]
    refine wp_x 6 hF2 rfl ?_
    show am_wp 39 265 _ [.int 0, .int (m2 16 5), .int (m2 16 6), .int 77001, .ref s] _ _
    rw [e26, e25]
    refine wp_cv rfl rfl (tgS hs.1 hs.2.1) rfl rfl ⟨by simp, (by decide : 5 ≤ pg_ml 32)⟩ ?_
    refine c_fill hF2 hs.sh (fun m3 f1 f2 => ?_)
    have hB3 := hB1.add (by decide) (hAD.w hC17 f1) (e := (nI 16, MG, bh, nI ((p + n) % 24), 0)) (by
      show (m3 s 1, wds m3 (s + 1) 0) = _
      rw [f2, f1 s (by omega), hsec]; rfl)
    refine wp_x 1 hF2 rfl ?_
    refine wp_ca rfl rfl ?_
    refine c_begin hF2 (Or.inr (Or.inr rfl)) ?_
    rw [show m3 (16 + 1) 3 = nI (RI ++ [((nI 16, MG, bh, nI ((p + n) % 24), 0) : En)]).length from hB3.len hC17, show ∀ x, nI x + 2 = nI (x + 2) from fun x => nI_add x 2]
    refine wp_x 1 hF2 rfl ?_
    exact wp_re rfl rfl (kq m3 r2 z2 A2 hB3 (by rw [f1 16 (by omega)]; exact e26) (by rw [f1 16 (by omega)]; exact e25))
  -- the replay
  have loop : ∀ f k (q : Int32) (es : List En) (m : Nat → Nat → Int32) (r : Nat → Nat → Nat) (z : Nat) (A1 : Nat → List Nat) (v1 v5 v6 : Value), 25 ≤ f + k → k ≤ 40 → es ++ rp lg rv n f k q = RI → BW 17 RR mi mr sz A m r z A1 es → m 16 5 = nI p → m 16 7 = nI n → RVC m rv → am_wp 39 114 [.ref 16, v1, .int bh, .int q, .int (nI k), v5, v6] [] (m, r, z) Q := by
    intro f
    induction f with
    | zero =>
      intro k q es m r z A1 v1 v5 v6 hf hk hrp hB h5 h7 hR
      rw [rp, List.append_nil] at hrp
      subst hrp
      refine wp_x 3 hB.1.1 rfl ?_
      refine wp_ge2N k n rfl rfl h7 (by omega) (by omega) (fun _ => ?_) (fun q => absurd q (by omega))
      exact last m r z A1 _ _ _ _ _ hB h5 h7
    | succ f ih =>
      intro k q es m r z A1 v1 v5 v6 hf hk hrp hB h5 h7 hR
      have hF1 := hB.1.1
      refine wp_x 3 hF1 rfl ?_
      refine wp_ge2N k n rfl rfl h7 (by omega) (by omega) (fun q1 => ?_) (fun q1 => ?_)
      · rw [rp, if_pos q1, List.append_nil] at hrp
        rw [hrp] at hB
        exact last m r z A1 _ _ _ _ _ hB h5 h7
      rw [rp, if_neg (by omega)] at hrp
      refine wp_x 3 hF1 rfl ?_
      show am_wp 39 129 [.ref 16, v1, .int bh, .int q, .int (nI k + 1), v5, v6] [.int (nI k), .ref 16] (m, r, z) Q
      rw [nI_1]
      refine wp_ca rfl rfl ?_
      refine c_RJlook (k := k) hB.1 (hB.dw RRok (by omega) hD) h5 hp24 (by omega) (fun m1 e1 e2 => ?_)
      rw [← hlg] at e2
      have keep : ∀ {m m1 : Nat → Nat → Int32} {r : Nat → Nat → Nat} {z : Nat} {A1 : Nat → List Nat} {es : List En}, BW 17 RR mi mr sz A m r z A1 es → (∀ a, ¬ a = 18 → ¬ a = 19 → m1 a = m a) → BW 17 RR mi mr sz A m1 r z A1 es := fun hB e => hB.set RRok (fun a j h => by rw [e a (fun z => h (Or.inr (Or.inl z))) (fun z => h (Or.inr (Or.inr (Or.inl z))))])
      have hB1 := keep hB e1
      have h51 : m1 16 5 = nI p := by rw [e1 16 (by decide) (by decide)]; exact h5
      have h71 : m1 16 7 = nI n := by rw [e1 16 (by decide) (by decide)]; exact h7
      have hR1 : RVC m1 rv := ⟨by rw [e1 16 (by decide) (by decide)]; exact hR.1, fun b hb z hz => by rw [e1 20 (by decide) (by decide)]; exact hR.2 b hb z hz⟩
      have w1 : m1 19 1 = (lg k).2.1 := congrArg (fun e => e.2.1) e2
      have w3 : m1 19 3 = (lg k).2.2.2 := congrArg (fun e => e.2.2.2) e2
      refine wp_x 4 hF1 rfl ?_
      refine wp_al 3 rfl rfl rfl (by decide) rfl (by decide) ?_
      show am_wp 39 141 _ [.int (m1 19 3)] _ _
      rw [w3]
      refine wp_x 5 hF1 rfl ?_
      refine wp_al 1 rfl rfl rfl (by decide) rfl (by decide) ?_
      show am_wp 39 152 _ [.int (m1 19 1)] _ _
      rw [w1]
      refine wp_x 1 hF1 rfl ?_
      refine wp_ne2 rfl (fun q2 => ?_) (fun q2 => ?_)
      · rw [if_neg q2] at hrp
        refine wp_x 4 hF1 rfl ?_
        refine wp_al 1 rfl rfl rfl (by decide) rfl (by decide) ?_
        show am_wp 39 205 _ [.int (m1 19 1)] _ _
        rw [w1]
        refine wp_x 1 hF1 rfl ?_
        refine wp_ne2 rfl (fun q3 => ?_) (fun q3 => ?_)
        · rw [if_neg q3] at hrp
          refine wp_x 1 hF1 rfl ?_
          exact ih (k + 1) q es m1 r z A1 _ _ _ (by omega) (by omega) hrp hB1 h51 h71 hR1
        · rw [if_pos q3] at hrp
          refine wp_x 2 hF1 rfl ?_
          exact ih (k + 1) (q + 1) es m1 r z A1 _ _ _ (by omega) (by omega) hrp hB1 h51 h71 hR1
      · rw [if_pos q2] at hrp
        obtain ⟨inf, hinf⟩ : ∃ z, z = (lg k).2.2.2 := ⟨_, rfl⟩
        obtain ⟨c, hc⟩ : ∃ z, z = (inf &&& 7).toNatClampNeg := ⟨_, rfl⟩
        have hc7 := and7 inf
        rw [← hc] at hc7
        rw [← hinf, ← hc] at hrp
        rw [← hinf]
        have inner : ∀ d j (m : Nat → Nat → Int32) (r : Nat → Nat → Nat) (z : Nat) (A1 : Nat → List Nat), j + d = c → BW 17 RR mi mr sz A m r z A1 (es ++ rpg lg rv q inf k (List.range j)) → m 16 5 = nI p → m 16 7 = nI n → RVC m rv → am_wp 39 159 [.ref 16, v1, .int bh, .int q, .int (nI (k + 1 + j)), .int inf, .int (nI j)] [] (m, r, z) Q := by
          intro d
          induction d with
          | zero =>
            intro j m r z A1 hj hB h5 h7 hR
            refine wp_x 4 hB.1.1 rfl ?_
            refine wp_ge2N j c rfl rfl hc7.2 (by omega) (by omega) (fun _ => ?_) (fun q => absurd q (by omega))
            refine wp_x 2 hB.1.1 rfl ?_
            have hjc : j = c := by omega
            subst hjc
            refine ih (k + 1 + j) q _ m r z A1 _ _ _ (by omega) (by omega) ?_ hB h5 h7 hR
            rw [List.append_assoc]; exact hrp
          | succ d ihd =>
            intro j m r z A1 hj hB h5 h7 hR
            refine wp_x 4 hB.1.1 rfl ?_
            refine wp_ge2N j c rfl rfl hc7.2 (by omega) (by omega) (fun q => absurd q (by omega)) (fun _ => ?_)
            refine wp_x 3 hB.1.1 rfl ?_
            show am_wp 39 175 [.ref 16, v1, .int bh, .int q, .int (nI (k + 1 + j) + 1), .int inf, .int (nI j)] [.int (nI (k + 1 + j)), .ref 16] (m, r, z) Q
            rw [nI_1]
            refine wp_ca rfl rfl ?_
            refine c_RJlook (k := k + 1 + j) hB.1 (hB.dw RRok (by omega) hD) h5 hp24 (by omega) (fun m2 y1 y2 => ?_)
            rw [← hlg] at y2
            have hB2 := keep hB y1
            have hR2 : RVC m2 rv := ⟨by rw [y1 16 (by decide) (by decide)]; exact hR.1, fun b hb z hz => by rw [y1 20 (by decide) (by decide)]; exact hR.2 b hb z hz⟩
            refine wp_x 4 hB.1.1 rfl ?_
            refine wp_ca rfl rfl ?_
            refine c_RJimage hB2 (by omega) hR2 y2 (fun m3 r3 z3 A3 hB3 f3 => ?_)
            refine wp_x 2 hB3.1.1 rfl ?_
            have := ihd (j + 1) m3 r3 z3 A3 (by omega) (by
              rw [rpg_succ, ← List.append_assoc]; exact hB3) (by rw [f3 16 5 (by omega) (by omega), y1 16 (by decide) (by decide)]; exact h5) (by rw [f3 16 7 (by omega) (by omega), y1 16 (by decide) (by decide)]; exact h7) ⟨by rw [f3 16 10 (by omega) (by omega)]; exact hR2.1, fun b hb z hz => by rw [f3 20 b (by omega) (by omega)]; exact hR2.2 b hb z hz⟩
            rw [← nI_1 j] at this
            exact this
        refine wp_x 2 hF1 rfl ?_
        exact inner c 0 m1 r z A1 (by omega) (by simpa [rpg] using hB1) h51 h71 hR1
  -- the start
  refine wp_x 5 hF rfl ?_
  refine wp_ca rfl rfl ?_
  refine c_readC (t := 18) (i := 16) hC.cw hD (Or.inl rfl) (by omega) (fun m1 e1 e2 => ?_)
  have w0 : m1 19 0 = MG := (congrArg (fun e => e.1) e2).trans g0
  have w1 : m1 19 1 = f0 := (congrArg (fun e => e.2.1) e2).trans g1
  have w2 : m1 19 2 = nI p := (congrArg (fun e => e.2.2.1) e2).trans g2
  refine wp_x 4 hF rfl ?_
  refine wp_al 0 rfl rfl rfl (by decide) rfl (by decide) ?_
  show am_wp 39 22 _ [.int (m1 19 0)] _ _
  rw [w0]
  refine wp_x 1 hF rfl ?_
  refine wp_ne2 rfl (fun q => absurd rfl q) (fun _ => ?_)
  refine wp_x 4 hF rfl ?_
  refine wp_al 2 rfl rfl rfl (by decide) rfl (by decide) ?_
  show am_wp 39 36 _ [.int (m1 19 2)] _ _
  rw [w2]
  refine wp_lt1 rfl (fun q => absurd q (nI_nn (by omega))) (fun _ => ?_)
  refine wp_x 4 hF rfl ?_
  refine wp_al 2 rfl rfl rfl (by decide) rfl (by decide) ?_
  show am_wp 39 48 _ [.int (m1 19 2)] _ _
  rw [w2]
  refine wp_x 1 hF rfl ?_
  refine wp_ge2N p 24 rfl rfl rfl (by omega) (by omega) (fun q => absurd q (by omega)) (fun _ => ?_)
  refine wp_x 5 hF rfl ?_
  refine wp_eq1 rfl (fun q => absurd q (by decide)) (fun _ => ?_)
  refine wp_x 4 hF rfl ?_
  refine wp_al 1 rfl rfl rfl (by decide) rfl (by decide) ?_
  show am_wp 39 73 _ [.int (m1 19 1), .ref 16] _ _
  rw [w1]
  refine wp_x 4 hF rfl ?_
  refine wp_eq1 rfl (fun q => absurd q (by decide)) (fun _ => ?_)
  refine wp_x 4 hF rfl ?_
  refine wp_al 2 rfl rfl rfl (by decide) rfl (by decide) ?_
  show am_wp 39 94 _ [.int (m1 19 2), .ref 16] (am_u2 m1 16 6 f0, mr, sz) _
  rw [w2]
  refine wp_x 3 hF rfl ?_
  show am_wp 39 102 _ [.ref 16] (am_u2 (am_u2 m1 16 6 f0) 16 5 (nI p), mr, sz) _
  obtain ⟨m2, hm2⟩ : ∃ z, z = am_u2 (am_u2 m1 16 6 f0) 16 5 (nI p) := ⟨_, rfl⟩
  rw [← hm2]
  have hB0 : BW 17 RR mi mr sz A m2 mr sz A [] := (BW.ini hC.cw (hC.pl0 (Or.inr (Or.inr rfl)))).set RRok (fun a j h => by
    rw [hm2]
    simp only [am_u2]
    rw [if_neg (fun z => h (Or.inl ⟨z.1, Or.inl z.2⟩)), if_neg (fun z => h (Or.inl ⟨z.1, Or.inr (Or.inl z.2)⟩)), e1 a (fun z => h (Or.inr (Or.inl z))) (fun z => h (Or.inr (Or.inr (Or.inl z))))])
  have h25 : m2 16 5 = nI p := by rw [hm2, sd_u2s]
  have h26 : m2 16 6 = f0 := by rw [hm2, sd_u2k _ _ _ _ (by decide), sd_u2s]
  refine wp_ca rfl rfl ?_
  refine c_RJscan hB0.1 (hB0.dw RRok (by omega) hD) h25 hp24 h26 (fun m3 hT e7 hR => ?_)
  rw [← hn] at e7
  rw [← hbh]
  rw [← hrv] at hR
  have hB3 : BW 17 RR mi mr sz A m3 mr sz A [] := hB0.set RRok (fun a j h => hT a j (fun z => h (Or.inr (Or.inl z))) (fun z => h (Or.inr (Or.inr (Or.inl z)))) (fun z => h (Or.inr (Or.inr (Or.inr z)))) (fun z => h (Or.inl ⟨z.1, by omega⟩)))
  have h36 : m3 16 6 = f0 := by rw [hT 16 6 (by omega) (by omega) (by omega) (by omega)]; exact h26
  have h35 : m3 16 5 = nI p := by rw [hT 16 5 (by omega) (by omega) (by omega) (by omega)]; exact h25
  refine wp_x 6 hF rfl ?_
  show am_wp 39 114 [.ref 16, .int 1, .int bh, .int (m3 16 6), .int (nI 0), .long 0, .long 0] [] (m3, mr, sz) Q
  rw [h36]
  exact loop 25 0 f0 [] m3 mr sz A _ _ _ (by omega) (by omega) (by rw [hRI]; rfl) hB3 h35 e7 hR
theorem c_recoverC {f0 : Int32} (hC : CRA mi mr sz A ((dk, ca), (up, nu, nx, us), (kd, ru, pd, pe), (jb, lf, pl, tot, rn, rs))) (hjb : jb = 0 ∨ jb = 2 ∨ jb = 3 ∨ jb = 4) (hH : up = false → jb = 0 → HG dk ca p f0) (t : up = false → jb = 0 → ∀ mi' mr' sz', PO mi mr sz ((dk, ca), (up, nu, nx, us), (kd, ru, pd, pe), (4, (rcI (lgT dk ca p) f0).length + 3, rcI (lgT dk ca p) f0 ++ [rcE (lgT dk ca p) f0 p], (rcI (lgT dk ca p) f0).length + 3, (sc (lgT dk ca p) 25 f0 0 (fun _ => none)).2.1, (p + (sc (lgT dk ca p) 25 f0 0 (fun _ => none)).1) % 24)) mi' mr' sz' → Q (some (.int (nI (rcI (lgT dk ca p) f0).length))) (mi', mr', sz')) (f : (up = true ∨ ¬ jb = 0) → Q (some (.int (-1))) (mi, mr, sz)) : am_wp 38 0 (am_lo 38 [.ref 2]) [] (mi, mr, sz) Q := by
  have hF := hC.cw.1
  have hM := hC.2.2.1
  have hjob : mr 2 7 = jbA jb := hC.job
  have no : (up = true ∨ ¬ jb = 0) → am_wp 38 17 [.ref 2, .long 0] [] (mi, mr, sz) Q := fun h => wp_x 1 hF rfl (wp_re rfl rfl (f h))
  refine wp_x 3 hF rfl ?_
  refine wp_ne1 rfl (fun q => no (Or.inl ((up7 hM).mp q))) (fun q => ?_)
  have hu : up = false := up7f hM q
  refine wp_x 2 hF rfl ?_
  show am_wp 38 14 _ [.ref (mr 2 7)] _ _
  rw [hjob]
  refine wp_nul rfl (fun q2 => ?_) (fun q2 => no (Or.inr (fun z => q2 ((jbA_0 _ hjb).mpr z))))
  have hj0 := (jbA_0 _ hjb).mp q2
  subst hj0
  refine wp_x 2 hF rfl ?_
  refine wp_ca rfl rfl ?_
  refine c_RJprep hC (hH hu rfl) (fun m1 r1 z1 A1 hB h6 h5 => ?_)
  have hF1 := hB.1.1
  have hl : (rcI (lgT dk ca p) f0 ++ [rcE (lgT dk ca p) f0 p]).length = (rcI (lgT dk ca p) f0).length + 1 := by simp
  have hrl := rcI_len (lgT dk ca p) f0 (sc_le _ _ _ _ _ (by omega))
  have hPO := hB.fin (jb := 4) RRok hC (Or.inr (Or.inr rfl)) rfl (fun z => absurd z (by decide)) (fun _ => ⟨h6, h5⟩) (by omega)
  rw [show jbA 4 = 16 from rfl, hl] at hPO
  rw [hl]
  refine wp_x 4 hF1 rfl ?_
  refine wp_pr rfl rfl ?_
  obtain ⟨⟨A2, hA2⟩, -⟩ := id hPO
  refine wp_x 1 hA2.cw.1 rfl ?_
  exact wp_re rfl rfl (t hu rfl _ _ _ hPO)
end REC3
end
section
/-! WHAT ALWAYS HOLDS is kept -/
section WFK
variable {dk : Nat → Int32} {ca : List En} {up : Bool} {nu : Int32} {nx us : Nat} {kd : Nat → Nat} {ru ru' : Nat → Int32} {pd : Nat → Bool} {pe : Nat → Int32} {jb lf tot : Nat} {pl : List En} {rn : Int32} {rs : Nat} {p : Nat}
theorem cnt_fu (q : Nat → Bool) (i : Nat) (v : Bool) : ∀ n, cnt (fu q i v) n ≤ cnt q n + 1 ∧ (n ≤ i → cnt (fu q i v) n = cnt q n) ∧ (v = false → cnt (fu q i v) n ≤ cnt q n) ∧ (q i = v → cnt (fu q i v) n = cnt q n)
  | 0 => ⟨Nat.zero_le _, fun _ => rfl, fun _ => Nat.le_refl _, fun _ => rfl⟩
  | n + 1 => by
    obtain ⟨h1, h2, h3, h4⟩ := cnt_fu q i v n
    have e : cnt (fu q i v) (n + 1) = if fu q i v n = true then cnt (fu q i v) n + 1 else cnt (fu q i v) n := rfl
    have e2 : cnt q (n + 1) = if q n = true then cnt q n + 1 else cnt q n := rfl
    by_cases hn : n = i
    · subst hn
      have h2' := h2 (Nat.le_refl _)
      rw [e, e2, fu_s]
      refine ⟨?_, fun z => by omega, fun z => ?_, fun z => ?_⟩
      · split <;> split <;> omega
      · have hv : ¬ v = true := by rw [z]; decide
        rw [if_neg hv]; split <;> omega
      · rw [z, h2']
    · rw [e, e2, fu_o _ _ hn]
      refine ⟨?_, fun z => ?_, fun z => ?_, fun z => ?_⟩
      · split <;> omega
      · rw [h2 (by omega)]
      · have := h3 z; split <;> omega
      · rw [h4 z]
theorem WF_put {i : Nat} (hW : WF ((dk, ca), (up, nu, nx, us), (kd, ru, pd, pe), (jb, lf, pl, tot, rn, rs))) (hu : up = true) (hj : jb = 0) (h : kd i = 1 ∨ cnt (k1 kd) 16 < 8) : WF ((dk, ca), (up, nu, nx, us), (fu kd i 1, ru', pd, pe), (jb, lf, pl, tot, rn, rs)) := by
  obtain ⟨w1, w2, w3, w4, w5, w6, w7, w8, w9, w10, w11, w12⟩ := hW
  subst hj; subst hu
  have e : cnt (k1 (fu kd i 1)) 16 = cnt (fu (k1 kd) i true) 16 := cnt_congr 16 (fun b _ => by
    by_cases hb : b = i
    · subst hb; simp [k1, fu]
    · simp [k1, fu, hb])
  obtain ⟨c1, c2, c3, c4⟩ := cnt_fu (k1 kd) i true 16
  refine ⟨w1, w2, w3, w4, w5, w6, w7, fun q => absurd q (by decide), ?_, fun b hb => ?_, fun q => absurd q (by decide), ?_⟩
  · rw [e]
    rcases h with h | h
    · rw [c4 (by simp [k1, h])]; exact w9
    · omega
  · by_cases hbi : b = i
    · subst hbi; rw [fu_s]; omega
    · rw [fu_o _ _ hbi]; exact w10 b hb
  · rcases w12 with z | ⟨z, -⟩ | ⟨z, -⟩ | ⟨z, -⟩
    · exact Or.inl z
    · cases z
    · cases z
    · cases z
theorem WF_revoke {i : Nat} (hW : WF ((dk, ca), (up, nu, nx, us), (kd, ru, pd, pe), (jb, lf, pl, tot, rn, rs))) (hu : up = true) (hj : jb = 0) : WF ((dk, ca), (up, nu, nx, us), (fu kd i 2, ru, pd, pe), (jb, lf, pl, tot, rn, rs)) := by
  obtain ⟨w1, w2, w3, w4, w5, w6, w7, w8, w9, w10, w11, w12⟩ := hW
  subst hj; subst hu
  have e : cnt (k1 (fu kd i 2)) 16 = cnt (fu (k1 kd) i false) 16 := cnt_congr 16 (fun b _ => by
    by_cases hb : b = i
    · subst hb; simp [k1, fu]
    · simp [k1, fu, hb])
  obtain ⟨c1, c2, c3, c4⟩ := cnt_fu (k1 kd) i false 16
  refine ⟨w1, w2, w3, w4, w5, w6, w7, fun q => absurd q (by decide), ?_, fun b hb => ?_, fun q => absurd q (by decide), ?_⟩
  · rw [e]
    have := c3 rfl
    omega
  · by_cases hbi : b = i
    · subst hbi; rw [fu_s]; omega
    · rw [fu_o _ _ hbi]; exact w10 b hb
  · rcases w12 with z | ⟨z, -⟩ | ⟨z, -⟩ | ⟨z, -⟩
    · exact Or.inl z
    · cases z
    · cases z
    · cases z
theorem WF_direct {i : Nat} {w : W4} (hW : WF ((dk, ca), (up, nu, nx, us), (kd, ru, pd, pe), (jb, lf, pl, tot, rn, rs))) (hu : up = true) (hj : jb = 0) (hi : i < 16) (hl : ca.length < 12) : WF ((dk, ca ++ [(nI i, w)]), (up, nu, nx, us), (kd, ru, pd, pe), (jb, lf, pl, tot, rn, rs)) := by
  obtain ⟨w1, w2, w3, w4, w5, w6, w7, w8, w9, w10, w11, w12⟩ := hW
  subst hj; subst hu
  have hpl : lf = 0 ∧ pl = [] := by
    rcases w12 with z | ⟨z, -⟩ | ⟨z, -⟩ | ⟨z, -⟩
    · exact ⟨z.2.1, z.2.2⟩
    · cases z
    · cases z
    · cases z
  refine ⟨fun e he => ?_, w2, w3, w4, w5, ?_, fun _ => ?_, fun q => absurd q (by decide), w9, w10, fun q => absurd q (by decide), Or.inl ⟨rfl, hpl.1, hpl.2⟩⟩
  · rcases List.mem_append.mp he with h | h
    · exact w1 e h
    · have : e = (nI i, w) := by simpa using h
      rw [this]
      exact nI_okN (by omega) (fun z => by omega)
  · rw [hpl.2]; simp; omega
  · simp; omega
theorem phs_ini {FL ca : List En} (h : 1 ≤ FL.length) : phs FL ca (FL.length + 2) FL := ⟨h, Or.inl ⟨rfl, h, Nat.le_refl _, by rw [Nat.sub_self, List.drop_zero]⟩⟩
theorem WF_commit (hW : WF ((dk, ca), (up, nu, nx, us), (kd, ru, pd, pe), (jb, lf, pl, tot, rn, rs))) (hu : up = true) (hj : jb = 0) (hr : us + rlen kd ≤ 23) : WF ((dk, ca), (up, nu, nx, us), (kd, ru, pd, pe), (2, rlen kd + 2, flC kd ru nu nx, rlen kd + 2, rn, rs)) := by
  obtain ⟨w1, w2, w3, w4, w5, w6, w7, w8, w9, w10, w11, w12⟩ := hW
  have hl := flC_len kd ru nu nx
  have h12 := rlen_le kd w9
  have hc := w7 hj
  have h1 : 1 ≤ rlen kd := by unfold rlen; omega
  refine ⟨w1, okE_lay nx _ 0, w3, w4, w5, by rw [hl]; omega, fun q => absurd q (by decide), fun q => ?_, w9, w10, w11, Or.inr (Or.inl ⟨rfl, hu, hr, rfl, ?_⟩)⟩
  · rw [hu] at q; cases q
  · have := phs_ini (FL := flC kd ru nu nx) (ca := ca) (by rw [hl]; exact h1)
    rw [hl] at this
    exact this
theorem WF_checkpoint (hW : WF ((dk, ca), (up, nu, nx, us), (kd, ru, pd, pe), (jb, lf, pl, tot, rn, rs))) (hu : up = true) (hj : jb = 0) : WF ((dk, ca), (up, nu, nx, us), (kd, ru, pd, pe), (3, cnt pd 16 + 3, flK pd pe nu nx, cnt pd 16 + 3, rn, rs)) := by
  obtain ⟨w1, w2, w3, w4, w5, w6, w7, w8, w9, w10, w11, w12⟩ := hW
  have hl := flK_len pd pe nu nx
  have h16 := cnt_le pd 16
  have hc := w7 hj
  refine ⟨w1, okE_flK pd pe nu w4, w3, w4, w5, by rw [hl]; omega, fun q => absurd q (by decide), fun q => ?_, w9, w10, w11, Or.inr (Or.inr (Or.inl ⟨rfl, hu, rfl, ?_⟩))⟩
  · rw [hu] at q; cases q
  · have := phs_ini (FL := flK pd pe nu nx) (ca := ca) (by rw [hl]; omega)
    rw [hl] at this
    exact this
theorem WF_HG (hW : WF ((dk, ca), (up, nu, nx, us), (kd, ru, pd, pe), (jb, lf, pl, tot, rn, rs))) : ∃ p f0, (up = false → jb = 0 → HG dk ca p f0) := by
  obtain ⟨w1, w2, w3, w4, w5, w6, w7, w8, w9, w10, w11, w12⟩ := hW
  obtain ⟨h1, p, hp, h2⟩ := w3
  refine ⟨p, dk 65, fun y1 y2 => ?_⟩
  rw [w8 y1 y2]
  exact ⟨h1, hp, h2, rfl⟩
theorem WF_recover {f0 : Int32} (hW : WF ((dk, ca), (up, nu, nx, us), (kd, ru, pd, pe), (jb, lf, pl, tot, rn, rs))) (hu : up = false) (hj : jb = 0) (hH : HG dk ca p f0) : WF ((dk, ca), (up, nu, nx, us), (kd, ru, pd, pe), (4, (rcI (lgT dk ca p) f0).length + 3, rcI (lgT dk ca p) f0 ++ [rcE (lgT dk ca p) f0 p], (rcI (lgT dk ca p) f0).length + 3, (sc (lgT dk ca p) 25 f0 0 (fun _ => none)).2.1, (p + (sc (lgT dk ca p) 25 f0 0 (fun _ => none)).1) % 24)) := by
  obtain ⟨w1, w2, w3, w4, w5, w6, w7, w8, w9, w10, w11, w12⟩ := hW
  have hca := w8 hu hj
  have hrl := rcI_len (lgT dk ca p) f0 (sc_le _ _ _ _ _ (by omega))
  refine ⟨w1, okE_rc _ _ _, w3, w4, w5, ?_, fun q => absurd q (by decide), fun _ q => absurd q (by decide), w9, w10, w11, Or.inr (Or.inr (Or.inr ⟨rfl, hu, Nat.mod_lt _ (by omega), by omega, by omega, Or.inl ⟨p, f0, hH, ?_, rfl, by omega, ?_, rfl⟩⟩))⟩
  · rw [List.length_append]
    have : ca.length = 0 := by rw [hca]; rfl
    simp only [List.length_cons, List.length_nil]
    omega
  · rw [hca]; intro e he; cases he
  · have := phs_ini (FL := rcI (lgT dk ca p) f0 ++ [rcE (lgT dk ca p) f0 p]) (ca := ca) (by simp)
    have hl : (rcI (lgT dk ca p) f0 ++ [rcE (lgT dk ca p) f0 p]).length + 2 = (rcI (lgT dk ca p) f0).length + 3 := by simp
    rw [hl] at this
    exact this
theorem crG_le (mask whole : Int32) (n k : Nat) : crG mask whole n k ≤ 4 := by
  unfold crG
  split
  · rename_i h
    obtain ⟨w, hw, ew⟩ := nI_of2 (x := whole) (M := 3) (n := 3) rfl (i_nlt.mpr h.2.1) h.2.2
    rw [ew, nI_clamp (by omega)]; omega
  · omega
theorem hdD_crS (f : Nat → Bool) (g : Nat → Nat) (hg : ∀ k, g k ≤ 4) : ∀ (ca : List En) (k : Nat) {dk : Nat → Int32}, okE ca → hdD dk → hdD (crS f g k ca dk)
  | [], _, _, _, h => h
  | e :: r, k, dk, hok, h => by
    rw [crS]
    refine hdD_crS f g hg r (k + 1) (fun x hx => hok x (List.mem_cons_of_mem _ hx)) ?_
    split
    · exact hdD_stl (hg k) (hok e List.mem_cons_self) h
    · exact h
theorem WF_crash {s : Sp} (mask whole : Int32) (hW : WF s) : WF (crP mask whole s) := by
  obtain ⟨⟨dk, ca⟩, ⟨up, nu, nx, us⟩, ⟨kd, ru, pd, pe⟩, jb, lf, pl, tot, rn, rs⟩ := s
  obtain ⟨w1, w2, w3, w4, w5, w6, w7, w8, w9, w10, w11, w12⟩ := hW
  exact ⟨okE_nil, okE_nil, hdD_crS _ _ (crG_le mask whole ca.length) ca 0 w1 w3, w4, (by omega : 0 < 24), by simp, fun _ => by simp, fun _ _ => rfl, (by decide : cnt (k1 fun _ => 0) 16 ≤ 8), fun _ _ => Nat.zero_le _, fun _ _ _ => ⟨rfl, rfl⟩, Or.inl ⟨rfl, rfl, rfl⟩⟩
theorem WF_it : ∀ (n : Nat) {s : Sp}, WF s → WF (itS n s).2
  | 0, _, h => h
  | n + 1, s, h => by
    rw [itS]
    split
    · exact h
    · rename_i hj
      exact WF_it n (WF_one h hj)
end WFK
/-! BOTH SIDES together -/
theorem TR.cf {mi mi' : Nat → Nat → Int32} {dk : Nat → Int32} {ca : List En} {up : Bool} {nu : Int32} {nx us : Nat} {kd : Nat → Nat} {ru : Nat → Int32} {pd : Nat → Bool} {pe : Nat → Int32} {jb lf tot : Nat} (h : CF mi mi') (hT : TR mi dk ca up nu nx us kd ru pd pe jb lf tot) : TR mi' dk ca up nu nx us kd ru pd pe jb lf tot := by
  have r : ∀ a, 23 ≤ a → a < 34 → mi' a = mi a := fun a h1 h2 => h a (Or.inr ⟨h1, h2⟩)
  obtain ⟨a1, a2, a3, a4, a5, a6, a7, a8, a9⟩ := hT
  refine ⟨a1.congr (by rw [r 23 (by omega) (by omega)]) (r 24 (by omega) (by omega)) (r 25 (by omega) (by omega)) (r 26 (by omega) (by omega)), ?_, ?_, ?_, fun hu => ⟨?_, ?_, ?_⟩, ?_, ?_, ?_, fun hj => ?_⟩
  · rw [r 23 (by omega) (by omega)]; exact a2
  · rw [r 23 (by omega) (by omega)]; exact a3
  · rw [r 23 (by omega) (by omega)]; exact a4
  · rw [r 23 (by omega) (by omega)]; exact (a5 hu).1
  · rw [r 27 (by omega) (by omega)]; exact (a5 hu).2.1
  · rw [r 29 (by omega) (by omega)]; exact (a5 hu).2.2
  · rw [r 28 (by omega) (by omega)]; exact a6
  · rw [r 30 (by omega) (by omega)]; exact a7
  · rw [r 23 (by omega) (by omega)]; exact a8
  · rw [r 23 (by omega) (by omega)]; exact a9 hj
theorem TRs.cf {mi mi' : Nat → Nat → Int32} {s : Sp} (h : CF mi mi') (hT : TRs mi s) : TRs mi' s := by
  obtain ⟨⟨dk, ca⟩, ⟨up, nu, nx, us⟩, ⟨kd, ru, pd, pe⟩, jb, lf, pl, tot, rn, rs⟩ := s
  exact TR.cf h hT
theorem CR.tf {mi mi' : Nat → Nat → Int32} {mr : Nat → Nat → Nat} {sz : Nat} {s : Sp} (h : TF mi mi') (hC : CR mi mr sz s) : CR mi' mr sz s := by
  obtain ⟨A, hA⟩ := hC
  exact ⟨A, hA.mi (fun a ha => h a (by omega))⟩
/-- the joint state: the script stands at 1, both sides are in s -/
def JS (xs : Nat → Int32) (L c : Nat) (mi : Nat → Nat → Int32) (mr : Nat → Nat → Nat) (sz : Nat) (s : Sp) : Prop := CR mi mr sz s ∧ TRs mi s ∧ WF s ∧ mi 1 = xs ∧ mr 1 0 = L ∧ sz ≤ 34 + 64 * c
/-- after the component -/
theorem JS.po {xs : Nat → Int32} {L c : Nat} {mi mi' : Nat → Nat → Int32} {mr mr' : Nat → Nat → Nat} {sz sz' : Nat} {s s' : Sp} (h : JS xs L c mi mr sz s) (hP : PO mi mr sz s' mi' mr' sz') : CR mi' mr' sz' s' ∧ TRs mi' s ∧ mi' 1 = xs ∧ mr' 1 0 = L ∧ sz' ≤ 34 + 64 * (c + 1) := by
  obtain ⟨h1, h2, h3, h4, h5, h6⟩ := h
  obtain ⟨p1, p2, p3, p4⟩ := hP
  exact ⟨p1, h2.cf p2, by rw [p2 1 (Or.inl rfl)]; exact h4, by rw [p3]; exact h5, by omega⟩
theorem JS.nx {xs : Nat → Int32} {L c : Nat} {mi mi' mi2 : Nat → Nat → Int32} {mr mr' : Nat → Nat → Nat} {sz sz' : Nat} {s s' : Sp} (h : JS xs L c mi mr sz s) (hP : PO mi mr sz s' mi' mr' sz') (hF : TF mi' mi2) (hT : TRs mi2 s') (hW : WF s') : JS xs L (c + 1) mi2 mr' sz' s' := by
  obtain ⟨q1, q2, q3, q4, q5⟩ := h.po hP
  exact ⟨q1.tf hF, hT, hW, by rw [hF 1 (by omega)]; exact q3, q4, q5⟩
end
section
/-! THE LAW, case by case -/
section LAWC
variable {xs : Nat → Int32} {L c i : Nat} {mi : Nat → Nat → Int32} {mr : Nat → Nat → Nat} {sz : Nat} {s : Sp} {Q : Option Value → am_H → Prop} {dk : Nat → Int32} {ca : List En} {up : Bool} {nu : Int32} {nx us : Nat} {kd : Nat → Nat} {ru : Nat → Int32} {pd : Nat → Bool} {pe : Nat → Int32} {jb lf tot : Nat} {pl : List En} {rn : Int32} {rs : Nat}
theorem JS.same (h : JS xs L c mi mr sz s) : JS xs L (c + 1) mi mr sz s := ⟨h.1, h.2.1, h.2.2.1, h.2.2.2.1, h.2.2.2.2.1, by have := h.2.2.2.2.2; omega⟩
theorem nI_inj {a b N : Nat} {x : Int32} (ha : a < N) (hb : b < N) (hN : N ≤ 100) (e1 : x = nI a) (e2 : x = nI b) : a = b := (nI_eq (by omega) (by omega)).mp (e1.symm.trans e2)
theorem put_no {b w : Int32} {i j : Nat} (hi : i < 16) (hj : j < 4) (e1 : b = nI i) (e2 : w = nI j) (hu : up = true) (hj0 : jb = 0) (hk : kd i = 1 ∨ cnt (k1 kd) 16 < 8) (h : up = false ∨ ¬ jb = 0 ∨ (∀ i, i < 16 → b ≠ nI i) ∨ (∀ j, j < 4 → w ≠ nI j) ∨ ∃ i, i < 16 ∧ b = nI i ∧ ¬ kd i = 1 ∧ 8 ≤ cnt (k1 kd) 16) : False := by
  rcases h with z | z | z | z | ⟨i2, h2, e, z1, z2⟩
  · rw [hu] at z; cases z
  · exact z hj0
  · exact z i hi e1
  · exact z j hj e2
  · have := nI_inj hi h2 (by omega) e1 e
    subst this
    rcases hk with q | q
    · exact z1 q
    · omega
theorem dir_no {b w : Int32} {i j : Nat} (hi : i < 16) (hj : j < 4) (e1 : b = nI i) (e2 : w = nI j) (hu : up = true) (hj0 : jb = 0) (y1 : ¬ kd i = 1) (y2 : pd i = false) (y3 : ca.length < 12) (h : up = false ∨ ¬ jb = 0 ∨ (∀ i, i < 16 → b ≠ nI i) ∨ (∀ j, j < 4 → w ≠ nI j) ∨ ∃ i, i < 16 ∧ b = nI i ∧ (kd i = 1 ∨ pd i = true ∨ 12 ≤ ca.length)) : False := by
  rcases h with z | z | z | z | ⟨i2, h2, e, z1⟩
  · rw [hu] at z; cases z
  · exact z hj0
  · exact z i hi e1
  · exact z j hj e2
  · have := nI_inj hi h2 (by omega) e1 e
    subst this
    rcases z1 with q | q | q
    · exact y1 q
    · rw [y2] at q; cases q
    · omega
theorem rev_no {b : Int32} {i : Nat} (hi : i < 16) (e1 : b = nI i) (hu : up = true) (hj0 : jb = 0) (h : up = false ∨ ¬ jb = 0 ∨ ∀ i, i < 16 → b ≠ nI i) : False := by
  rcases h with z | z | z
  · rw [hu] at z; cases z
  · exact z hj0
  · exact z i hi e1
theorem get_no {b w : Int32} {i j : Nat} (hi : i < 16) (hj : j < 4) (e1 : b = nI i) (e2 : w = nI j) (hu : up = true) (h : up = false ∨ (∀ i, i < 16 → b ≠ nI i) ∨ ∀ j, j < 4 → w ≠ nI j) : False := by
  rcases h with z | z | z
  · rw [hu] at z; cases z
  · exact z i hi e1
  · exact z j hj e2
theorem chg_no {b : Int32} {i : Nat} (hi : i < 16) (e1 : b = nI i) (hu : up = true) (h : up = false ∨ ∀ i, i < 16 → b ≠ nI i) : False := by
  rcases h with z | z
  · rw [hu] at z; cases z
  · exact z i hi e1
theorem c_recT0 (hF : FX mr) (hT : TR mi dk ca up nu nx us kd ru pd pe jb lf tot) (h : up = true ∨ ¬ jb = 0) (k : Q (some (.int (-1))) (mi, mr, sz)) : am_wp 91 0 (am_lo 91 [.ref 23]) [] (mi, mr, sz) Q := by
  refine wp_x 2 hF rfl ?_
  refine wp_ne1 rfl (fun q => ?_) (fun q => ?_)
  · exact wp_x 1 hF rfl (wp_re rfl rfl k)
  · refine wp_x 2 hF rfl ?_
    refine wp_eq1 rfl (fun q2 => ?_) (fun q2 => ?_)
    · rcases h with z | z
      · exact absurd q (hT.up4.mpr z)
      · exact absurd (hT.jb0.mp q2) z
    · exact wp_x 1 hF rfl (wp_re rfl rfl k)
set_option maxRecDepth 8000 in
theorem law_0 (hJ : JS xs L c mi mr sz ((dk, ca), (up, nu, nx, us), (kd, ru, pd, pe), (jb, lf, pl, tot, rn, rs))) (hi4 : i + 4 ≤ L) (hL : L ≤ 2048) (cont : ∀ m r z s', JS xs L (c + 1) m r z s' → am_wp 121 507 [.ref 1, .ref 2, .ref 23, .int (nI i)] [] (m, r, z) Q) : am_wp 121 116 [.ref 1, .ref 2, .ref 23, .int (nI i)] [] (mi, mr, sz) Q := by
  obtain ⟨hC, hT, hW, hx, hLr, hz⟩ := id hJ
  obtain ⟨A, hA⟩ := hC
  have hF := hA.cw.1
  have hjb := hW.jb
  dsimp only at hjb
  refine wp_x 5 hF rfl ?_
  refine wp_sl (i + 1) rfl rfl (nI_add i 1) (by rw [hLr]; omega) (by rw [hLr]; omega) ?_
  rw [hx]
  refine wp_x 4 hF rfl ?_
  refine wp_sl (i + 2) rfl rfl (nI_add i 2) (by rw [hLr]; omega) (by rw [hLr]; omega) ?_
  rw [hx]
  refine wp_x 4 hF rfl ?_
  refine wp_sl (i + 3) rfl rfl (nI_add i 3) (by rw [hLr]; omega) (by rw [hLr]; omega) ?_
  rw [hx]
  refine wp_ca rfl rfl ?_
  refine c_putC hA hjb (fun a b ha hb e1 e2 hu hj0 hk m1 hPO => ?_) (fun hno => ?_)
  · obtain ⟨r1, t1, x1, L1, -⟩ := hJ.po hPO
    have hF1 := r1.fx
    refine wp_x 5 hF1 rfl ?_
    refine wp_sl (i + 1) rfl rfl (nI_add i 1) (by rw [L1]; omega) (by rw [L1]; omega) ?_
    rw [x1]
    refine wp_x 4 hF1 rfl ?_
    refine wp_sl (i + 2) rfl rfl (nI_add i 2) (by rw [L1]; omega) (by rw [L1]; omega) ?_
    rw [x1]
    refine wp_x 4 hF1 rfl ?_
    refine wp_sl (i + 3) rfl rfl (nI_add i 3) (by rw [L1]; omega) (by rw [L1]; omega) ?_
    rw [x1]
    refine wp_ca rfl rfl ?_
    refine c_putT hF1 t1 (fun a2 b2 ha2 hb2 e3 e4 _ _ _ m2 f1 f2 => ?_) (fun hno => (put_no ha hb e1 e2 hu hj0 hk hno).elim)
    have ea := nI_inj ha ha2 (by omega) e1 e3
    have eb := nI_inj hb hb2 (by omega) e2 e4
    subst ea; subst eb
    refine wp_eq2 rfl (fun _ => ?_) (fun q => absurd rfl q)
    exact cont _ _ _ _ (hJ.nx hPO f1 f2 (WF_put hW hu hj0 hk))
  · have x1 := hx
    have L1 := hLr
    have hF1 := hF
    have t1 := hT
    refine wp_x 5 hF1 rfl ?_
    refine wp_sl (i + 1) rfl rfl (nI_add i 1) (by rw [L1]; omega) (by rw [L1]; omega) ?_
    rw [x1]
    refine wp_x 4 hF1 rfl ?_
    refine wp_sl (i + 2) rfl rfl (nI_add i 2) (by rw [L1]; omega) (by rw [L1]; omega) ?_
    rw [x1]
    refine wp_x 4 hF1 rfl ?_
    refine wp_sl (i + 3) rfl rfl (nI_add i 3) (by rw [L1]; omega) (by rw [L1]; omega) ?_
    rw [x1]
    refine wp_ca rfl rfl ?_
    refine c_putT hF1 t1 (fun a2 b2 ha2 hb2 e3 e4 hu hj0 hk m2 f1 f2 => (put_no ha2 hb2 e3 e4 hu hj0 hk hno).elim) (fun _ => ?_)
    refine wp_eq2 rfl (fun _ => ?_) (fun q => absurd rfl q)
    exact cont _ _ _ _ hJ.same
set_option maxRecDepth 8000 in
theorem law_1 (hJ : JS xs L c mi mr sz ((dk, ca), (up, nu, nx, us), (kd, ru, pd, pe), (jb, lf, pl, tot, rn, rs))) (hi4 : i + 4 ≤ L) (hL : L ≤ 2048) (cont : ∀ m r z s', JS xs L (c + 1) m r z s' → am_wp 121 507 [.ref 1, .ref 2, .ref 23, .int (nI i)] [] (m, r, z) Q) : am_wp 121 159 [.ref 1, .ref 2, .ref 23, .int (nI i)] [] (mi, mr, sz) Q := by
  obtain ⟨hC, hT, hW, hx, hLr, hz⟩ := id hJ
  obtain ⟨A, hA⟩ := hC
  have hF := hA.cw.1
  have hjb := hW.jb
  dsimp only at hjb
  refine wp_x 5 hF rfl ?_
  refine wp_sl (i + 1) rfl rfl (nI_add i 1) (by rw [hLr]; omega) (by rw [hLr]; omega) ?_
  rw [hx]
  refine wp_ca rfl rfl ?_
  refine c_revokeC hA hjb (fun a ha e1 hu hj0 m1 hPO => ?_) (fun hno => ?_)
  · obtain ⟨r1, t1, x1, L1, -⟩ := hJ.po hPO
    have hF1 := r1.fx
    refine wp_x 5 hF1 rfl ?_
    refine wp_sl (i + 1) rfl rfl (nI_add i 1) (by rw [L1]; omega) (by rw [L1]; omega) ?_
    rw [x1]
    refine wp_ca rfl rfl ?_
    refine c_revokeT hF1 t1 (fun a2 ha2 e3 _ _ m2 f1 f2 => ?_) (fun hno => (rev_no ha e1 hu hj0 hno).elim)
    have ea := nI_inj ha ha2 (by omega) e1 e3
    subst ea
    refine wp_eq2 rfl (fun _ => ?_) (fun q => absurd rfl q)
    exact cont _ _ _ _ (hJ.nx hPO f1 f2 (WF_revoke hW hu hj0))
  · have x1 := hx
    have L1 := hLr
    have hF1 := hF
    have t1 := hT
    refine wp_x 5 hF1 rfl ?_
    refine wp_sl (i + 1) rfl rfl (nI_add i 1) (by rw [L1]; omega) (by rw [L1]; omega) ?_
    rw [x1]
    refine wp_ca rfl rfl ?_
    refine c_revokeT hF1 t1 (fun a2 ha2 e3 hu hj0 m2 f1 f2 => (rev_no ha2 e3 hu hj0 hno).elim) (fun _ => ?_)
    refine wp_eq2 rfl (fun _ => ?_) (fun q => absurd rfl q)
    exact cont _ _ _ _ hJ.same
set_option maxRecDepth 8000 in
theorem law_2 (hJ : JS xs L c mi mr sz ((dk, ca), (up, nu, nx, us), (kd, ru, pd, pe), (jb, lf, pl, tot, rn, rs))) (hi4 : i + 4 ≤ L) (hL : L ≤ 2048) (cont : ∀ m r z s', JS xs L (c + 1) m r z s' → am_wp 121 507 [.ref 1, .ref 2, .ref 23, .int (nI i)] [] (m, r, z) Q) : am_wp 121 182 [.ref 1, .ref 2, .ref 23, .int (nI i)] [] (mi, mr, sz) Q := by
  obtain ⟨hC, hT, hW, hx, hLr, hz⟩ := id hJ
  obtain ⟨A, hA⟩ := hC
  have hF := hA.cw.1
  have hjb := hW.jb
  dsimp only at hjb
  refine wp_x 5 hF rfl ?_
  refine wp_sl (i + 1) rfl rfl (nI_add i 1) (by rw [hLr]; omega) (by rw [hLr]; omega) ?_
  rw [hx]
  refine wp_x 4 hF rfl ?_
  refine wp_sl (i + 2) rfl rfl (nI_add i 2) (by rw [hLr]; omega) (by rw [hLr]; omega) ?_
  rw [hx]
  refine wp_x 4 hF rfl ?_
  refine wp_sl (i + 3) rfl rfl (nI_add i 3) (by rw [hLr]; omega) (by rw [hLr]; omega) ?_
  rw [hx]
  refine wp_ca rfl rfl ?_
  refine c_directC hA hjb (by have := hW.2.2.2.2.2.1; omega) (fun a b ha hb e1 e2 hu hj0 y1 y2 y3 m1 r0 z1 hPO => ?_) (fun hno => ?_)
  · obtain ⟨r1, t1, x1, L1, -⟩ := hJ.po hPO
    have hF1 := r1.fx
    refine wp_x 5 hF1 rfl ?_
    refine wp_sl (i + 1) rfl rfl (nI_add i 1) (by rw [L1]; omega) (by rw [L1]; omega) ?_
    rw [x1]
    refine wp_x 4 hF1 rfl ?_
    refine wp_sl (i + 2) rfl rfl (nI_add i 2) (by rw [L1]; omega) (by rw [L1]; omega) ?_
    rw [x1]
    refine wp_x 4 hF1 rfl ?_
    refine wp_sl (i + 3) rfl rfl (nI_add i 3) (by rw [L1]; omega) (by rw [L1]; omega) ?_
    rw [x1]
    refine wp_ca rfl rfl ?_
    refine c_directT hF1 t1 (fun a2 b2 ha2 hb2 e3 e4 _ _ _ _ _ m2 f1 f2 => ?_) (fun hno => (dir_no ha hb e1 e2 hu hj0 y1 y2 y3 hno).elim)
    have ea := nI_inj ha ha2 (by omega) e1 e3
    have eb := nI_inj hb hb2 (by omega) e2 e4
    subst ea; subst eb
    refine wp_eq2 rfl (fun _ => ?_) (fun q => absurd rfl q)
    exact cont _ _ _ _ (hJ.nx hPO f1 f2 (WF_direct hW hu hj0 ha y3))
  · have x1 := hx
    have L1 := hLr
    have hF1 := hF
    have t1 := hT
    refine wp_x 5 hF1 rfl ?_
    refine wp_sl (i + 1) rfl rfl (nI_add i 1) (by rw [L1]; omega) (by rw [L1]; omega) ?_
    rw [x1]
    refine wp_x 4 hF1 rfl ?_
    refine wp_sl (i + 2) rfl rfl (nI_add i 2) (by rw [L1]; omega) (by rw [L1]; omega) ?_
    rw [x1]
    refine wp_x 4 hF1 rfl ?_
    refine wp_sl (i + 3) rfl rfl (nI_add i 3) (by rw [L1]; omega) (by rw [L1]; omega) ?_
    rw [x1]
    refine wp_ca rfl rfl ?_
    refine c_directT hF1 t1 (fun a2 b2 ha2 hb2 e3 e4 hu hj0 y1 y2 y3 m2 f1 f2 => (dir_no ha2 hb2 e3 e4 hu hj0 y1 y2 y3 hno).elim) (fun _ => ?_)
    refine wp_eq2 rfl (fun _ => ?_) (fun q => absurd rfl q)
    exact cont _ _ _ _ hJ.same
set_option maxRecDepth 8000 in
theorem law_3 (hJ : JS xs L c mi mr sz ((dk, ca), (up, nu, nx, us), (kd, ru, pd, pe), (jb, lf, pl, tot, rn, rs))) (hi4 : i + 4 ≤ L) (hL : L ≤ 2048) (cont : ∀ m r z s', JS xs L (c + 1) m r z s' → am_wp 121 507 [.ref 1, .ref 2, .ref 23, .int (nI i)] [] (m, r, z) Q) : am_wp 121 225 [.ref 1, .ref 2, .ref 23, .int (nI i)] [] (mi, mr, sz) Q := by
  obtain ⟨hC, hT, hW, hx, hLr, hz⟩ := id hJ
  obtain ⟨A, hA⟩ := hC
  have hF := hA.cw.1
  have hjb := hW.jb
  dsimp only at hjb
  refine wp_x 1 hF rfl ?_
  refine wp_ca rfl rfl ?_
  obtain ⟨w1, w2, w3, w4, w5, w6, w7, w8, w9, w10, w11, w12⟩ := id hW
  have cno : up = true → jb = 0 → ¬ (∀ b, b < 16 → kd b = 0) → (up = false ∨ ¬ jb = 0 ∨ ∀ b, b < 16 → kd b = 0) → False := by
    rintro hu hj0 hne (z | z | z)
    · rw [hu] at z; cases z
    · exact z hj0
    · exact hne z
  refine c_commitC hA hjb w10 w9 w4 w5 (fun hu hj0 hne hr m1 r0 z1 hPO => ?_) (fun hu hj0 hne hr => ?_) (fun hno => ?_)
  · obtain ⟨r1, t1, x1, L1, -⟩ := hJ.po hPO
    have hF1 := r1.fx
    refine wp_x 1 hF1 rfl ?_
    refine wp_ca rfl rfl ?_
    refine c_commitT hF1 t1 (fun _ _ _ _ m2 f1 f2 => ?_) (fun _ _ _ h => absurd h (by omega)) (fun h => (cno hu hj0 hne h).elim)
    refine wp_eq2 rfl (fun _ => ?_) (fun q => absurd rfl q)
    exact cont _ _ _ _ (hJ.nx hPO f1 f2 (WF_commit hW hu hj0 hr))
  · have x1 := hx
    have L1 := hLr
    have hF1 := hF
    have t1 := hT
    refine wp_x 1 hF1 rfl ?_
    refine wp_ca rfl rfl ?_
    refine c_commitT hF1 t1 (fun _ _ _ h => absurd h (by omega)) (fun _ _ _ _ => ?_) (fun h => (cno hu hj0 hne h).elim)
    refine wp_eq2 rfl (fun _ => ?_) (fun q => absurd rfl q)
    exact cont _ _ _ _ hJ.same
  · have x1 := hx
    have L1 := hLr
    have hF1 := hF
    have t1 := hT
    refine wp_x 1 hF1 rfl ?_
    refine wp_ca rfl rfl ?_
    refine c_commitT hF1 t1 (fun hu hj0 hne _ => (cno hu hj0 hne hno).elim) (fun hu hj0 hne _ => (cno hu hj0 hne hno).elim) (fun _ => ?_)
    refine wp_eq2 rfl (fun _ => ?_) (fun q => absurd rfl q)
    exact cont _ _ _ _ hJ.same
set_option maxRecDepth 8000 in
theorem law_4 (hJ : JS xs L c mi mr sz ((dk, ca), (up, nu, nx, us), (kd, ru, pd, pe), (jb, lf, pl, tot, rn, rs))) (hi4 : i + 4 ≤ L) (hL : L ≤ 2048) (cont : ∀ m r z s', JS xs L (c + 1) m r z s' → am_wp 121 507 [.ref 1, .ref 2, .ref 23, .int (nI i)] [] (m, r, z) Q) : am_wp 121 238 [.ref 1, .ref 2, .ref 23, .int (nI i)] [] (mi, mr, sz) Q := by
  obtain ⟨hC, hT, hW, hx, hLr, hz⟩ := id hJ
  obtain ⟨A, hA⟩ := hC
  have hF := hA.cw.1
  have hjb := hW.jb
  dsimp only at hjb
  refine wp_x 1 hF rfl ?_
  refine wp_ca rfl rfl ?_
  refine c_checkpointC hA hjb (fun hu hj0 m1 r0 z1 hPO => ?_) (fun hno => ?_)
  · obtain ⟨r1, t1, x1, L1, -⟩ := hJ.po hPO
    have hF1 := r1.fx
    refine wp_x 1 hF1 rfl ?_
    refine wp_ca rfl rfl ?_
    refine c_checkpointT hF1 t1 (fun _ _ m2 f1 f2 => ?_) (fun h => ?_)
    · refine wp_eq2 rfl (fun _ => ?_) (fun q => absurd rfl q)
      exact cont _ _ _ _ (hJ.nx hPO f1 f2 (WF_checkpoint hW hu hj0))
    · rcases h with z | z
      · rw [hu] at z; cases z
      · exact absurd hj0 z
  · have x1 := hx
    have L1 := hLr
    have hF1 := hF
    have t1 := hT
    refine wp_x 1 hF1 rfl ?_
    refine wp_ca rfl rfl ?_
    refine c_checkpointT hF1 t1 (fun hu hj0 m2 f1 f2 => ?_) (fun _ => ?_)
    · rcases hno with z | z
      · rw [hu] at z; cases z
      · exact absurd hj0 z
    · refine wp_eq2 rfl (fun _ => ?_) (fun q => absurd rfl q)
      exact cont _ _ _ _ hJ.same
set_option maxRecDepth 8000 in
theorem law_5 (hJ : JS xs L c mi mr sz ((dk, ca), (up, nu, nx, us), (kd, ru, pd, pe), (jb, lf, pl, tot, rn, rs))) (hi4 : i + 4 ≤ L) (hL : L ≤ 2048) (cont : ∀ m r z s', JS xs L (c + 1) m r z s' → am_wp 121 507 [.ref 1, .ref 2, .ref 23, .int (nI i)] [] (m, r, z) Q) : am_wp 121 251 [.ref 1, .ref 2, .ref 23, .int (nI i)] [] (mi, mr, sz) Q := by
  obtain ⟨hC, hT, hW, hx, hLr, hz⟩ := id hJ
  obtain ⟨A, hA⟩ := hC
  have hF := hA.cw.1
  have hjb := hW.jb
  dsimp only at hjb
  refine wp_x 1 hF rfl ?_
  refine wp_ca rfl rfl ?_
  obtain ⟨p, f0, hH⟩ := WF_HG hW
  have hrl := rcI_len (lgT dk ca p) f0 (sc_le _ _ _ _ _ (by omega))
  refine c_recoverC hA hjb hH (fun hu hj0 m1 r0 z1 hPO => ?_) (fun hno => ?_)
  · obtain ⟨r1, t1, x1, L1, -⟩ := hJ.po hPO
    have hF1 := r1.fx
    refine wp_x 1 hF1 rfl ?_
    refine wp_ca rfl rfl ?_
    refine c_recoverT hF1 t1 (hH hu hj0) (by omega) (fun _ _ m2 f1 f2 => ?_) (fun h => ?_)
    · refine wp_eq2 rfl (fun _ => ?_) (fun q => absurd rfl q)
      exact cont _ _ _ _ (hJ.nx hPO f1 f2 (WF_recover hW hu hj0 (hH hu hj0)))
    · rcases h with z | z
      · rw [hu] at z; cases z
      · exact absurd hj0 z
  · have x1 := hx
    have L1 := hLr
    have hF1 := hF
    have t1 := hT
    refine wp_x 1 hF1 rfl ?_
    refine wp_ca rfl rfl ?_
    refine c_recT0 hF1 t1 hno ?_
    refine wp_eq2 rfl (fun _ => ?_) (fun q => absurd rfl q)
    exact cont _ _ _ _ hJ.same
set_option maxRecDepth 8000 in
theorem law_6 (hJ : JS xs L c mi mr sz s) (hi4 : i + 4 ≤ L) (hL : L ≤ 2048) (cont : ∀ m r z s', JS xs L (c + 1) m r z s' → am_wp 121 507 [.ref 1, .ref 2, .ref 23, .int (nI i)] [] (m, r, z) Q) : am_wp 121 264 [.ref 1, .ref 2, .ref 23, .int (nI i)] [] (mi, mr, sz) Q := by
  obtain ⟨hC, hT, hW, hx, hLr, hz⟩ := id hJ
  obtain ⟨A, hA⟩ := hC
  have hF := hA.cw.1
  refine wp_x 5 hF rfl ?_
  refine wp_sl (i + 1) rfl rfl (nI_add i 1) (by rw [hLr]; omega) (by rw [hLr]; omega) ?_
  rw [hx]
  refine wp_ca rfl rfl ?_
  refine c_stepC ⟨A, hA⟩ hW (fun a ha hb e1 hj0 m1 r0 z1 hPO => ?_) (fun hno => ?_)
  · obtain ⟨r1, t1, x1, L1, -⟩ := hJ.po hPO
    have hF1 := r1.fx
    refine wp_x 5 hF1 rfl ?_
    refine wp_sl (i + 1) rfl rfl (nI_add i 1) (by rw [L1]; omega) (by rw [L1]; omega) ?_
    rw [x1]
    refine wp_ca rfl rfl ?_
    refine c_stepT hF1 t1 hW (fun a2 ha2 hb2 e3 _ m2 f1 f2 => ?_) (fun h => ?_)
    · have ea := nI_inj (N := 11) (by omega) (by omega) (by omega) e1 e3
      subst ea
      refine wp_eq2 rfl (fun _ => ?_) (fun q => absurd rfl q)
      exact cont _ _ _ _ (hJ.nx hPO f1 f2 (WF_it a hW))
    · rcases h with z | z
      · exact absurd z hj0
      · exact absurd e1 (z a ha hb)
  · have x1 := hx
    have L1 := hLr
    have hF1 := hF
    have t1 := hT
    refine wp_x 5 hF1 rfl ?_
    refine wp_sl (i + 1) rfl rfl (nI_add i 1) (by rw [L1]; omega) (by rw [L1]; omega) ?_
    rw [x1]
    refine wp_ca rfl rfl ?_
    refine c_stepT hF1 t1 hW (fun a2 ha2 hb2 e3 hj0 m2 f1 f2 => ?_) (fun _ => ?_)
    · rcases hno with z | z
      · exact absurd z hj0
      · exact absurd e3 (z a2 ha2 hb2)
    · refine wp_eq2 rfl (fun _ => ?_) (fun q => absurd rfl q)
      exact cont _ _ _ _ hJ.same
set_option maxRecDepth 8000 in
theorem law_7 (hJ : JS xs L c mi mr sz ((dk, ca), (up, nu, nx, us), (kd, ru, pd, pe), (jb, lf, pl, tot, rn, rs))) (hi4 : i + 4 ≤ L) (hL : L ≤ 2048) (cont : ∀ m r z s', JS xs L (c + 1) m r z s' → am_wp 121 507 [.ref 1, .ref 2, .ref 23, .int (nI i)] [] (m, r, z) Q) : am_wp 121 287 [.ref 1, .ref 2, .ref 23, .int (nI i)] [] (mi, mr, sz) Q := by
  obtain ⟨hC, hT, hW, hx, hLr, hz⟩ := id hJ
  obtain ⟨A, hA⟩ := hC
  have hF := hA.cw.1
  have hjb := hW.jb
  dsimp only at hjb
  refine wp_x 5 hF rfl ?_
  refine wp_sl (i + 1) rfl rfl (nI_add i 1) (by rw [hLr]; omega) (by rw [hLr]; omega) ?_
  rw [hx]
  refine wp_x 4 hF rfl ?_
  refine wp_sl (i + 2) rfl rfl (nI_add i 2) (by rw [hLr]; omega) (by rw [hLr]; omega) ?_
  rw [hx]
  refine wp_ca rfl rfl ?_
  obtain ⟨w1, w2, w3, w4, w5, w6, w7, w8, w9, w10, w11, w12⟩ := id hW
  refine c_crashC ⟨A, hA⟩ hW (fun m1 r0 z1 hPO => ?_)
  obtain ⟨r1, t1, x1, L1, -⟩ := hJ.po hPO
  have hF1 := r1.fx
  refine wp_x 5 hF1 rfl ?_
  refine wp_sl (i + 1) rfl rfl (nI_add i 1) (by rw [L1]; omega) (by rw [L1]; omega) ?_
  rw [x1]
  refine wp_x 4 hF1 rfl ?_
  refine wp_sl (i + 2) rfl rfl (nI_add i 2) (by rw [L1]; omega) (by rw [L1]; omega) ?_
  rw [x1]
  refine wp_ca rfl rfl ?_
  refine c_crashT hF1 t1 w1.c (by omega) (fun m2 f1 f2 => ?_)
  refine wp_eq2 rfl (fun _ => ?_) (fun q => absurd rfl q)
  exact cont _ _ _ _ (hJ.nx hPO f1 f2 (WF_crash _ _ hW))
set_option maxRecDepth 8000 in
theorem law_8 (hJ : JS xs L c mi mr sz ((dk, ca), (up, nu, nx, us), (kd, ru, pd, pe), (jb, lf, pl, tot, rn, rs))) (hi4 : i + 4 ≤ L) (hL : L ≤ 2048) (cont : ∀ m r z s', JS xs L (c + 1) m r z s' → am_wp 121 507 [.ref 1, .ref 2, .ref 23, .int (nI i)] [] (m, r, z) Q) : am_wp 121 320 [.ref 1, .ref 2, .ref 23, .int (nI i)] [] (mi, mr, sz) Q := by
  obtain ⟨hC, hT, hW, hx, hLr, hz⟩ := id hJ
  obtain ⟨A, hA⟩ := hC
  have hF := hA.cw.1
  have hjb := hW.jb
  dsimp only at hjb
  refine wp_x 5 hF rfl ?_
  refine wp_sl (i + 1) rfl rfl (nI_add i 1) (by rw [hLr]; omega) (by rw [hLr]; omega) ?_
  rw [hx]
  refine wp_x 4 hF rfl ?_
  refine wp_sl (i + 2) rfl rfl (nI_add i 2) (by rw [hLr]; omega) (by rw [hLr]; omega) ?_
  rw [hx]
  refine wp_ca rfl rfl ?_
  refine c_getC hA (fun a b ha hb e1 e2 hu m1 hPO => ?_) (fun hno => ?_)
  · obtain ⟨r1, t1, x1, L1, -⟩ := hJ.po hPO
    have hF1 := r1.fx
    refine wp_x 5 hF1 rfl ?_
    refine wp_sl (i + 1) rfl rfl (nI_add i 1) (by rw [L1]; omega) (by rw [L1]; omega) ?_
    rw [x1]
    refine wp_x 4 hF1 rfl ?_
    refine wp_sl (i + 2) rfl rfl (nI_add i 2) (by rw [L1]; omega) (by rw [L1]; omega) ?_
    rw [x1]
    refine wp_ca rfl rfl ?_
    refine c_getT hF1 t1 (fun a2 b2 ha2 hb2 e3 e4 _ => ?_) (fun hno => (get_no ha hb e1 e2 hu hno).elim)
    have ea := nI_inj ha ha2 (by omega) e1 e3
    have eb := nI_inj hb hb2 (by omega) e2 e4
    subst ea; subst eb
    refine wp_eq2 rfl (fun _ => ?_) (fun q => absurd rfl q)
    exact cont _ _ _ _ (hJ.nx hPO TF.rfl' t1 hW)
  · have x1 := hx
    have L1 := hLr
    have hF1 := hF
    have t1 := hT
    refine wp_x 5 hF1 rfl ?_
    refine wp_sl (i + 1) rfl rfl (nI_add i 1) (by rw [L1]; omega) (by rw [L1]; omega) ?_
    rw [x1]
    refine wp_x 4 hF1 rfl ?_
    refine wp_sl (i + 2) rfl rfl (nI_add i 2) (by rw [L1]; omega) (by rw [L1]; omega) ?_
    rw [x1]
    refine wp_ca rfl rfl ?_
    refine c_getT hF1 t1 (fun a2 b2 ha2 hb2 e3 e4 hu => (get_no ha2 hb2 e3 e4 hu hno).elim) (fun _ => ?_)
    refine wp_eq2 rfl (fun _ => ?_) (fun q => absurd rfl q)
    exact cont _ _ _ _ hJ.same
theorem TR.dv (h : TR mi dk ca up nu nx us kd ru pd pe jb lf tot) : TD mi dk ca := h.1
set_option maxRecDepth 8000 in
theorem law_9 (hJ : JS xs L c mi mr sz ((dk, ca), (up, nu, nx, us), (kd, ru, pd, pe), (jb, lf, pl, tot, rn, rs))) (hi4 : i + 4 ≤ L) (hL : L ≤ 2048) (cont : ∀ m r z s', JS xs L (c + 1) m r z s' → am_wp 121 507 [.ref 1, .ref 2, .ref 23, .int (nI i)] [] (m, r, z) Q) : am_wp 121 353 [.ref 1, .ref 2, .ref 23, .int (nI i)] [] (mi, mr, sz) Q := by
  obtain ⟨hC, hT, hW, hx, hLr, hz⟩ := id hJ
  obtain ⟨A, hA⟩ := hC
  have hF := hA.cw.1
  have hjb := hW.jb
  dsimp only at hjb
  refine wp_x 5 hF rfl ?_
  refine wp_sl (i + 1) rfl rfl (nI_add i 1) (by rw [hLr]; omega) (by rw [hLr]; omega) ?_
  rw [hx]
  refine wp_x 4 hF rfl ?_
  refine wp_sl (i + 2) rfl rfl (nI_add i 2) (by rw [hLr]; omega) (by rw [hLr]; omega) ?_
  rw [hx]
  refine wp_ca rfl rfl ?_
  refine c_readC2 hA (fun a b ha hb e1 e2 m1 hPO => ?_) (fun hno => ?_)
  · obtain ⟨r1, t1, x1, L1, -⟩ := hJ.po hPO
    have hF1 := r1.fx
    refine wp_x 5 hF1 rfl ?_
    refine wp_sl (i + 1) rfl rfl (nI_add i 1) (by rw [L1]; omega) (by rw [L1]; omega) ?_
    rw [x1]
    refine wp_x 4 hF1 rfl ?_
    refine wp_sl (i + 2) rfl rfl (nI_add i 2) (by rw [L1]; omega) (by rw [L1]; omega) ?_
    rw [x1]
    refine wp_ca rfl rfl ?_
    refine c_readT2 hF1 (TR.dv t1) (fun a2 b2 ha2 hb2 e3 e4 => ?_) (fun hno => (hno ⟨⟨a, ha, e1⟩, b, hb, e2⟩).elim)
    have ea := nI_inj ha ha2 (by omega) e1 e3
    have eb := nI_inj hb hb2 (by omega) e2 e4
    subst ea; subst eb
    refine wp_eq2 rfl (fun _ => ?_) (fun q => absurd rfl q)
    exact cont _ _ _ _ (hJ.nx hPO TF.rfl' t1 hW)
  · have x1 := hx
    have L1 := hLr
    have hF1 := hF
    have t1 := hT
    refine wp_x 5 hF1 rfl ?_
    refine wp_sl (i + 1) rfl rfl (nI_add i 1) (by rw [L1]; omega) (by rw [L1]; omega) ?_
    rw [x1]
    refine wp_x 4 hF1 rfl ?_
    refine wp_sl (i + 2) rfl rfl (nI_add i 2) (by rw [L1]; omega) (by rw [L1]; omega) ?_
    rw [x1]
    refine wp_ca rfl rfl ?_
    refine c_readT2 hF1 (TR.dv t1) (fun a2 b2 ha2 hb2 e3 e4 => (hno ⟨⟨a2, ha2, e3⟩, b2, hb2, e4⟩).elim) (fun _ => ?_)
    refine wp_eq2 rfl (fun _ => ?_) (fun q => absurd rfl q)
    exact cont _ _ _ _ hJ.same
set_option maxRecDepth 8000 in
theorem law_10 (hJ : JS xs L c mi mr sz ((dk, ca), (up, nu, nx, us), (kd, ru, pd, pe), (jb, lf, pl, tot, rn, rs))) (hi4 : i + 4 ≤ L) (hL : L ≤ 2048) (cont : ∀ m r z s', JS xs L (c + 1) m r z s' → am_wp 121 507 [.ref 1, .ref 2, .ref 23, .int (nI i)] [] (m, r, z) Q) : am_wp 121 386 [.ref 1, .ref 2, .ref 23, .int (nI i)] [] (mi, mr, sz) Q := by
  obtain ⟨hC, hT, hW, hx, hLr, hz⟩ := id hJ
  obtain ⟨A, hA⟩ := hC
  have hF := hA.cw.1
  have hjb := hW.jb
  dsimp only at hjb
  refine wp_x 5 hF rfl ?_
  refine wp_sl (i + 1) rfl rfl (nI_add i 1) (by rw [hLr]; omega) (by rw [hLr]; omega) ?_
  rw [hx]
  refine wp_x 4 hF rfl ?_
  refine wp_sl (i + 2) rfl rfl (nI_add i 2) (by rw [hLr]; omega) (by rw [hLr]; omega) ?_
  rw [hx]
  refine wp_ca rfl rfl ?_
  refine c_storedC hA (fun a b ha hb e1 e2 => ?_) (fun hno => ?_)
  · have x1 := hx
    have L1 := hLr
    have hF1 := hF
    have t1 := hT
    refine wp_x 5 hF1 rfl ?_
    refine wp_sl (i + 1) rfl rfl (nI_add i 1) (by rw [L1]; omega) (by rw [L1]; omega) ?_
    rw [x1]
    refine wp_x 4 hF1 rfl ?_
    refine wp_sl (i + 2) rfl rfl (nI_add i 2) (by rw [L1]; omega) (by rw [L1]; omega) ?_
    rw [x1]
    refine wp_ca rfl rfl ?_
    refine c_storedT hF1 (TR.dv t1) (fun a2 b2 ha2 hb2 e3 e4 => ?_) (fun hno => (hno ⟨⟨a, ha, e1⟩, b, hb, e2⟩).elim)
    have ea := nI_inj ha ha2 (by omega) e1 e3
    have eb := nI_inj hb hb2 (by omega) e2 e4
    subst ea; subst eb
    refine wp_eq2 rfl (fun _ => ?_) (fun q => absurd rfl q)
    exact cont _ _ _ _ hJ.same
  · have x1 := hx
    have L1 := hLr
    have hF1 := hF
    have t1 := hT
    refine wp_x 5 hF1 rfl ?_
    refine wp_sl (i + 1) rfl rfl (nI_add i 1) (by rw [L1]; omega) (by rw [L1]; omega) ?_
    rw [x1]
    refine wp_x 4 hF1 rfl ?_
    refine wp_sl (i + 2) rfl rfl (nI_add i 2) (by rw [L1]; omega) (by rw [L1]; omega) ?_
    rw [x1]
    refine wp_ca rfl rfl ?_
    refine c_storedT hF1 (TR.dv t1) (fun a2 b2 ha2 hb2 e3 e4 => (hno ⟨⟨a2, ha2, e3⟩, b2, hb2, e4⟩).elim) (fun _ => ?_)
    refine wp_eq2 rfl (fun _ => ?_) (fun q => absurd rfl q)
    exact cont _ _ _ _ hJ.same
set_option maxRecDepth 8000 in
theorem law_11 (hJ : JS xs L c mi mr sz ((dk, ca), (up, nu, nx, us), (kd, ru, pd, pe), (jb, lf, pl, tot, rn, rs))) (hi4 : i + 4 ≤ L) (hL : L ≤ 2048) (cont : ∀ m r z s', JS xs L (c + 1) m r z s' → am_wp 121 507 [.ref 1, .ref 2, .ref 23, .int (nI i)] [] (m, r, z) Q) : am_wp 121 419 [.ref 1, .ref 2, .ref 23, .int (nI i)] [] (mi, mr, sz) Q := by
  obtain ⟨hC, hT, hW, hx, hLr, hz⟩ := id hJ
  obtain ⟨A, hA⟩ := hC
  have hF := hA.cw.1
  have hjb := hW.jb
  dsimp only at hjb
  refine wp_x 1 hF rfl ?_
  refine wp_ca rfl rfl ?_
  refine c_cachedC hA ?_
  have x1 := hx
  have L1 := hLr
  have hF1 := hF
  have t1 := hT
  refine wp_x 1 hF1 rfl ?_
  refine wp_ca rfl rfl ?_
  refine c_cachedT hF1 (TR.dv t1) ?_
  refine wp_eq2 rfl (fun _ => ?_) (fun q => absurd rfl q)
  exact cont _ _ _ _ hJ.same
set_option maxRecDepth 8000 in
theorem law_12 (hJ : JS xs L c mi mr sz ((dk, ca), (up, nu, nx, us), (kd, ru, pd, pe), (jb, lf, pl, tot, rn, rs))) (hi4 : i + 4 ≤ L) (hL : L ≤ 2048) (cont : ∀ m r z s', JS xs L (c + 1) m r z s' → am_wp 121 507 [.ref 1, .ref 2, .ref 23, .int (nI i)] [] (m, r, z) Q) : am_wp 121 432 [.ref 1, .ref 2, .ref 23, .int (nI i)] [] (mi, mr, sz) Q := by
  obtain ⟨hC, hT, hW, hx, hLr, hz⟩ := id hJ
  obtain ⟨A, hA⟩ := hC
  have hF := hA.cw.1
  have hjb := hW.jb
  dsimp only at hjb
  refine wp_x 1 hF rfl ?_
  refine wp_ca rfl rfl ?_
  refine c_stateC hA hjb ?_
  have x1 := hx
  have L1 := hLr
  have hF1 := hF
  have t1 := hT
  refine wp_x 1 hF1 rfl ?_
  refine wp_ca rfl rfl ?_
  refine c_stateT hF1 t1 ?_
  refine wp_eq2 rfl (fun _ => ?_) (fun q => absurd rfl q)
  exact cont _ _ _ _ hJ.same
set_option maxRecDepth 8000 in
theorem law_13 (hJ : JS xs L c mi mr sz ((dk, ca), (up, nu, nx, us), (kd, ru, pd, pe), (jb, lf, pl, tot, rn, rs))) (hi4 : i + 4 ≤ L) (hL : L ≤ 2048) (cont : ∀ m r z s', JS xs L (c + 1) m r z s' → am_wp 121 507 [.ref 1, .ref 2, .ref 23, .int (nI i)] [] (m, r, z) Q) : am_wp 121 445 [.ref 1, .ref 2, .ref 23, .int (nI i)] [] (mi, mr, sz) Q := by
  obtain ⟨hC, hT, hW, hx, hLr, hz⟩ := id hJ
  obtain ⟨A, hA⟩ := hC
  have hF := hA.cw.1
  have hjb := hW.jb
  dsimp only at hjb
  refine wp_x 1 hF rfl ?_
  refine wp_ca rfl rfl ?_
  refine c_numberC hA ?_
  have x1 := hx
  have L1 := hLr
  have hF1 := hF
  have t1 := hT
  refine wp_x 1 hF1 rfl ?_
  refine wp_ca rfl rfl ?_
  refine c_numberT hF1 t1 ?_
  refine wp_eq2 rfl (fun _ => ?_) (fun q => absurd rfl q)
  exact cont _ _ _ _ hJ.same
set_option maxRecDepth 8000 in
theorem law_14 (hJ : JS xs L c mi mr sz ((dk, ca), (up, nu, nx, us), (kd, ru, pd, pe), (jb, lf, pl, tot, rn, rs))) (hi4 : i + 4 ≤ L) (hL : L ≤ 2048) (cont : ∀ m r z s', JS xs L (c + 1) m r z s' → am_wp 121 507 [.ref 1, .ref 2, .ref 23, .int (nI i)] [] (m, r, z) Q) : am_wp 121 458 [.ref 1, .ref 2, .ref 23, .int (nI i)] [] (mi, mr, sz) Q := by
  obtain ⟨hC, hT, hW, hx, hLr, hz⟩ := id hJ
  obtain ⟨A, hA⟩ := hC
  have hF := hA.cw.1
  have hjb := hW.jb
  dsimp only at hjb
  refine wp_x 1 hF rfl ?_
  refine wp_ca rfl rfl ?_
  refine c_usedC hA ?_
  have x1 := hx
  have L1 := hLr
  have hF1 := hF
  have t1 := hT
  refine wp_x 1 hF1 rfl ?_
  refine wp_ca rfl rfl ?_
  refine c_usedT hF1 t1 ?_
  refine wp_eq2 rfl (fun _ => ?_) (fun q => absurd rfl q)
  exact cont _ _ _ _ hJ.same
set_option maxRecDepth 8000 in
theorem law_16 (hJ : JS xs L c mi mr sz ((dk, ca), (up, nu, nx, us), (kd, ru, pd, pe), (jb, lf, pl, tot, rn, rs))) (hi4 : i + 4 ≤ L) (hL : L ≤ 2048) (cont : ∀ m r z s', JS xs L (c + 1) m r z s' → am_wp 121 507 [.ref 1, .ref 2, .ref 23, .int (nI i)] [] (m, r, z) Q) : am_wp 121 494 [.ref 1, .ref 2, .ref 23, .int (nI i)] [] (mi, mr, sz) Q := by
  obtain ⟨hC, hT, hW, hx, hLr, hz⟩ := id hJ
  obtain ⟨A, hA⟩ := hC
  have hF := hA.cw.1
  have hjb := hW.jb
  dsimp only at hjb
  refine wp_x 1 hF rfl ?_
  refine wp_ca rfl rfl ?_
  refine c_leftC hA hjb ?_
  have x1 := hx
  have L1 := hLr
  have hF1 := hF
  have t1 := hT
  refine wp_x 1 hF1 rfl ?_
  refine wp_ca rfl rfl ?_
  refine c_leftT hF1 t1 ?_
  refine wp_eq2 rfl (fun _ => ?_) (fun q => absurd rfl q)
  exact cont _ _ _ _ hJ.same
set_option maxRecDepth 8000 in
theorem law_15 (hJ : JS xs L c mi mr sz ((dk, ca), (up, nu, nx, us), (kd, ru, pd, pe), (jb, lf, pl, tot, rn, rs))) (hi4 : i + 4 ≤ L) (hL : L ≤ 2048) (cont : ∀ m r z s', JS xs L (c + 1) m r z s' → am_wp 121 507 [.ref 1, .ref 2, .ref 23, .int (nI i)] [] (m, r, z) Q) : am_wp 121 471 [.ref 1, .ref 2, .ref 23, .int (nI i)] [] (mi, mr, sz) Q := by
  obtain ⟨hC, hT, hW, hx, hLr, hz⟩ := id hJ
  obtain ⟨A, hA⟩ := hC
  have hF := hA.cw.1
  have hjb := hW.jb
  dsimp only at hjb
  refine wp_x 5 hF rfl ?_
  refine wp_sl (i + 1) rfl rfl (nI_add i 1) (by rw [hLr]; omega) (by rw [hLr]; omega) ?_
  rw [hx]
  refine wp_ca rfl rfl ?_
  obtain ⟨w1, w2, w3, w4, w5, w6, w7, w8, w9, w10, w11, w12⟩ := id hW
  refine c_changedC hA w10 (fun a ha e1 hu => ?_) (fun hno => ?_)
  · have x1 := hx
    have L1 := hLr
    have hF1 := hF
    have t1 := hT
    refine wp_x 5 hF1 rfl ?_
    refine wp_sl (i + 1) rfl rfl (nI_add i 1) (by rw [L1]; omega) (by rw [L1]; omega) ?_
    rw [x1]
    refine wp_ca rfl rfl ?_
    refine c_changedT hF1 t1 (fun a2 ha2 e3 _ => ?_) (fun hno => (chg_no ha e1 hu hno).elim)
    have ea := nI_inj ha ha2 (by omega) e1 e3
    subst ea
    refine wp_eq2 rfl (fun _ => ?_) (fun q => absurd rfl q)
    exact cont _ _ _ _ hJ.same
  · have x1 := hx
    have L1 := hLr
    have hF1 := hF
    have t1 := hT
    refine wp_x 5 hF1 rfl ?_
    refine wp_sl (i + 1) rfl rfl (nI_add i 1) (by rw [L1]; omega) (by rw [L1]; omega) ?_
    rw [x1]
    refine wp_ca rfl rfl ?_
    refine c_changedT hF1 t1 (fun a2 ha2 e3 hu => (chg_no ha2 e3 hu hno).elim) (fun _ => ?_)
    refine wp_eq2 rfl (fun _ => ?_) (fun q => absurd rfl q)
    exact cont _ _ _ _ hJ.same
end LAWC
end
section
/-! THE LAW'S LOOP -/
theorem and31 (x : Int32) : (x &&& 31).toNatClampNeg < 32 ∧ x &&& 31 = nI (x &&& 31).toNatClampNeg := by
  obtain ⟨j, hj, e⟩ := pk_andE x (m := 31) 5 rfl
  rw [e, nI_clamp (by omega)]
  exact ⟨hj, rfl⟩
def pcT (c : Nat) : Nat := ([116, 159, 182, 225, 238, 251, 264, 287, 320, 353, 386, 419, 432, 445, 458, 471, 494] : List Nat).getD c 507
section LOOP
variable {xs : Nat → Int32} {L c : Nat} {mi : Nat → Nat → Int32} {mr : Nat → Nat → Nat} {sz : Nat} {s : Sp} {Q : Option Value → am_H → Prop} {LL S : List Value} {h : am_H}
set_option maxRecDepth 8000 in
theorem sw_ex : ∀ c, c < 32 → am_ex (.tableswitch 475 0 16 #[84, 127, 150, 193, 206, 219, 232, 255, 288, 321, 354, 387, 400, 413, 426, 439, 462], 116, 0, 84, 0, 0) 121 32 LL (.int (nI c) :: S) h = some (.inl (pcT c, LL, S, h))
  | 0, _ => rfl
  | 1, _ => rfl
  | 2, _ => rfl
  | 3, _ => rfl
  | 4, _ => rfl
  | 5, _ => rfl
  | 6, _ => rfl
  | 7, _ => rfl
  | 8, _ => rfl
  | 9, _ => rfl
  | 10, _ => rfl
  | 11, _ => rfl
  | 12, _ => rfl
  | 13, _ => rfl
  | 14, _ => rfl
  | 15, _ => rfl
  | 16, _ => rfl
  | 17, _ => rfl
  | 18, _ => rfl
  | 19, _ => rfl
  | 20, _ => rfl
  | 21, _ => rfl
  | 22, _ => rfl
  | 23, _ => rfl
  | 24, _ => rfl
  | 25, _ => rfl
  | 26, _ => rfl
  | 27, _ => rfl
  | 28, _ => rfl
  | 29, _ => rfl
  | 30, _ => rfl
  | 31, _ => rfl
  | c + 32, h => absurd h (by omega)
theorem wp_alS {M pc : Nat} {q0 : am_I} (hi : pg_in M pc = some q0) (hq : q0.1 = .arraylength) (q : am_wp M q0.2.1 LL (.int (nI (mr 1 0)) :: S) (mi, mr, sz) Q) : am_wp M pc LL (.ref 1 :: S) (mi, mr, sz) Q := by
  obtain ⟨i, n, a, b, c, w⟩ := q0
  have hq0' : i = .arraylength := hq
  subst hq0'
  exact wp_nx hi rfl q
set_option maxRecDepth 8000 in
theorem law_loop (hL : L ≤ 2048) : ∀ d c (mi : Nat → Nat → Int32) (mr : Nat → Nat → Nat) (sz : Nat) (s : Sp), L < 4 * (c + d) + 4 → 4 * c ≤ L + 3 → JS xs L c mi mr sz s → am_wp 121 18 [.ref 1, .ref 2, .ref 23, .int (nI (4 * c))] [] (mi, mr, sz) (fun v h' => v = some (.int 1) ∧ h'.2.2 ≤ 40000) := by
  intro d
  have out : ∀ c (mi : Nat → Nat → Int32) (mr : Nat → Nat → Nat) (sz : Nat) (s : Sp), L < 4 * c + 4 → 4 * c ≤ L + 3 → JS xs L c mi mr sz s → am_wp 121 18 [.ref 1, .ref 2, .ref 23, .int (nI (4 * c))] [] (mi, mr, sz) (fun v h' => v = some (.int 1) ∧ h'.2.2 ≤ 40000) := by
    intro c mi mr sz s h1 h2 hJ
    have hF := hJ.1.fx
    have hLr := hJ.2.2.2.2.1
    have hz := hJ.2.2.2.2.2
    have fin : am_wp 121 513 [.ref 1, .ref 2, .ref 23, .int (nI (4 * c))] [] (mi, mr, sz) (fun v h' => v = some (.int 1) ∧ h'.2.2 ≤ 40000) := by
      refine wp_x 1 hF rfl ?_
      exact wp_re rfl rfl ⟨rfl, by show sz ≤ 40000; omega⟩
    refine wp_x 2 hF rfl ?_
    refine wp_alS rfl rfl ?_
    rw [hLr]
    refine wp_x 2 hF rfl ?_
    show am_wp 121 23 _ [.int (nI L - 4), .int (nI (4 * c))] _ _
    refine wp_gt2 rfl (fun _ => fin) (fun q => absurd ?_ q)
    rw [Int32.lt_iff_toInt_lt, show (4 : Int32) = nI 4 from rfl, pk_sub_toInt (by omega) (by omega), nI_toInt (by omega)]
    omega
  induction d with
  | zero =>
    intro c mi mr sz s h1 h2 hJ
    exact out c mi mr sz s (by omega) h2 hJ
  | succ d ih =>
    intro c mi mr sz s h1 h2 hJ
    rcases Nat.lt_or_ge L (4 * c + 4) with q0 | q0
    · exact out c mi mr sz s q0 h2 hJ
    have hF := hJ.1.fx
    have hLr := hJ.2.2.2.2.1
    have hx := hJ.2.2.2.1
    have cont : ∀ m r z s', JS xs L (c + 1) m r z s' → am_wp 121 507 [.ref 1, .ref 2, .ref 23, .int (nI (4 * c))] [] (m, r, z) (fun v h' => v = some (.int 1) ∧ h'.2.2 ≤ 40000) := by
      intro m r z s' hJ'
      refine wp_x 2 hJ'.1.fx rfl ?_
      have e : nI (4 * c) + 4 = nI (4 * (c + 1)) := by rw [show (4 : Int32) = nI 4 from rfl, nI_add]; rfl
      show am_wp 121 18 [.ref 1, .ref 2, .ref 23, .int (nI (4 * c) + 4)] [] (m, r, z) _
      rw [e]
      exact ih (c + 1) m r z s' (by omega) (by omega) hJ'
    refine wp_x 2 hF rfl ?_
    refine wp_alS rfl rfl ?_
    rw [hLr]
    refine wp_x 2 hF rfl ?_
    show am_wp 121 23 _ [.int (nI L - 4), .int (nI (4 * c))] _ _
    refine wp_gt2N (4 * c) (L - 4) rfl rfl (by rw [show (4 : Int32) = nI 4 from rfl, pk_sub (by omega)]) (by omega) (by omega) (fun q => absurd q (by omega)) (fun _ => ?_)
    refine wp_x 2 hF rfl ?_
    refine wp_sl (4 * c) rfl rfl rfl (by rw [hLr]; omega) (by rw [hLr]; omega) ?_
    rw [hx]
    refine wp_x 2 hF rfl ?_
    show am_wp 121 32 _ [.int (xs (4 * c) &&& 31)] _ _
    obtain ⟨g1, g2⟩ := and31 (xs (4 * c))
    obtain ⟨e, he⟩ : ∃ z, z = (xs (4 * c) &&& 31).toNatClampNeg := ⟨_, rfl⟩
    rw [← he] at g1 g2
    rw [g2]
    refine wp_nx (q := (.tableswitch 475 0 16 #[84, 127, 150, 193, 206, 219, 232, 255, 288, 321, 354, 387, 400, 413, 426, 439, 462], 116, 0, 84, 0, 0)) rfl (sw_ex e g1) ?_
    have hi4 : 4 * c + 4 ≤ L := q0
    obtain ⟨⟨dk, ca⟩, ⟨up, nu, nx, us⟩, ⟨kd, ru, pd, pe⟩, jb, lf, pl, tot, rn, rs⟩ := s
    rcases Nat.lt_or_ge e 17 with q | q
    · have all : ∀ e, e < 17 → am_wp 121 (pcT e) [.ref 1, .ref 2, .ref 23, .int (nI (4 * c))] [] (mi, mr, sz) (fun v h' => v = some (.int 1) ∧ h'.2.2 ≤ 40000) := by
        intro e he
        rcases (by omega : e = 0 ∨ e = 1 ∨ e = 2 ∨ e = 3 ∨ e = 4 ∨ e = 5 ∨ e = 6 ∨ e = 7 ∨ e = 8 ∨ e = 9 ∨ e = 10 ∨ e = 11 ∨ e = 12 ∨ e = 13 ∨ e = 14 ∨ e = 15 ∨ e = 16) with rfl | rfl | rfl | rfl | rfl | rfl | rfl | rfl | rfl | rfl | rfl | rfl | rfl | rfl | rfl | rfl | rfl
        · exact law_0 hJ hi4 hL cont
        · exact law_1 hJ hi4 hL cont
        · exact law_2 hJ hi4 hL cont
        · exact law_3 hJ hi4 hL cont
        · exact law_4 hJ hi4 hL cont
        · exact law_5 hJ hi4 hL cont
        · exact law_6 hJ hi4 hL cont
        · exact law_7 hJ hi4 hL cont
        · exact law_8 hJ hi4 hL cont
        · exact law_9 hJ hi4 hL cont
        · exact law_10 hJ hi4 hL cont
        · exact law_11 hJ hi4 hL cont
        · exact law_12 hJ hi4 hL cont
        · exact law_13 hJ hi4 hL cont
        · exact law_14 hJ hi4 hL cont
        · exact law_15 hJ hi4 hL cont
        · exact law_16 hJ hi4 hL cont
      exact all e q
    · have ep : pcT e = 507 := getD_ge _ _ (by simpa using q)
      rw [ep]
      exact cont _ _ _ _ hJ.same
end LOOP
end
section
/-! THE TWO OBJECTS are made -/
def fxs : List (Nat × Nat × Nat) := [(2, 0, 3), (2, 1, 4), (2, 2, 7), (2, 3, 12), (2, 4, 14), (2, 5, 16), (2, 6, 21), (4, 0, 5), (4, 1, 6), (6, 0, 3), (7, 4, 8), (7, 5, 10), (8, 0, 9), (10, 0, 11), (12, 0, 4), (12, 1, 7), (12, 2, 13), (13, 0, 3), (14, 0, 4), (14, 1, 7), (14, 2, 15), (15, 0, 3), (16, 0, 4), (16, 1, 7), (16, 2, 17), (16, 4, 18), (16, 9, 20), (17, 0, 3), (18, 0, 19), (21, 0, 22), (23, 0, 24), (23, 2, 25), (23, 3, 26), (23, 8, 27), (23, 9, 28), (23, 10, 29), (23, 11, 30), (23, 15, 31), (23, 21, 32), (23, 22, 33)]
theorem fx_mem {a k v : Nat} (h : fx_ a k = some v) : (a, k, v) ∈ fxs := by
  have ha : a < 24 := by
    rcases Nat.lt_or_ge a 24 with q | q
    · exact q
    · unfold fx_ at h
      rw [getD_ge (α := List (Option Nat)) _ _ (by simpa using q)] at h
      simp at h
  have hk : k < 23 := by
    rcases Nat.lt_or_ge k 23 with q | q
    · exact q
    · have hno : ∀ a, a < 24 → (([[], [], [some 3, some 4, some 7, some 12, some 14, some 16, some 21, none], [], [some 5, some 6], [], [some 3, none, none, none], [none, none, none, none, some 8, some 10, none], [some 9, none], [], [some 11, none], [], [some 4, some 7, some 13, none, none, none], [some 3, none, none, none], [some 4, some 7, some 15, none], [some 3, none, none, none], [some 4, some 7, some 17, none, some 18, none, none, none, none, some 20, none, none], [some 3, none, none, none], [some 19, none, none], [], [], [some 22, none, none], [], [some 24, none, some 25, some 26, none, none, none, none, some 27, some 28, some 29, some 30, none, none, none, some 31, none, none, none, none, none, some 32, some 33]] : List (List (Option Nat))).getD a []).length ≤ 23 := by decide +kernel
      unfold fx_ at h
      rw [getD_ge] at h
      · cases h
      · exact Nat.le_trans (hno a ha) q
  have key := (by decide +kernel : ((List.range 24).all fun a => (List.range 23).all fun k => match fx_ a k with
    | none => true
    | some v => fxs.contains (a, k, v)) = true)
  rw [List.all_eq_true] at key
  have key2 := key a (List.mem_range.mpr ha)
  rw [List.all_eq_true] at key2
  have key3 := key2 k (List.mem_range.mpr hk)
  rw [h] at key3
  simpa using key3
theorem FX_of {mr : Nat → Nat → Nat} (h : ∀ t ∈ fxs, mr t.1 t.2.1 = t.2.2) : FX mr := fun a k v e => h (a, k, v) (fx_mem e)
def am_yn : Nat → Nat → Nat → List Value → List Value → am_H → Option (Nat × List Value × List Value × am_H)
  | 0, _, pc, L, S, h => some (pc, L, S, h)
  | k + 1, M, pc, L, S, h => match am_st M pc L S h with
    | some (.inl (pc', L', S', h')) => am_yn k M pc' L' S' h'
    | _ => none
theorem wp_y (k : Nat) {M pc pc' : Nat} {L S L' S' : List Value} {h h' : am_H} {Q : Option Value → am_H → Prop} (e : am_yn k M pc L S h = some (pc', L', S', h')) (w : am_wp M pc' L' S' h' Q) : am_wp M pc L S h Q := by
  induction k generalizing pc L S h with
  | zero =>
    simp only [am_yn, Option.some.injEq, Prod.mk.injEq] at e
    obtain ⟨rfl, rfl, rfl, rfl⟩ := e
    exact w
  | succ k ih =>
    rw [am_yn] at e
    split at e
    · rename_i pc1 L1 S1 h1 hs
      exact wp_st hs (ih e)
    · cases e
def dk0 (j : Nat) : Int32 := if j = 65 then 1 else if j = 64 then MG else 0
def Sp0 : Sp := ((dk0, []), (true, 1, 0, 0), (fun _ => 0, fun _ => 0, fun _ => false, fun _ => 0), (0, 0, [], 0, 0, 0))
theorem WF0 : WF Sp0 := ⟨okE_nil, okE_nil, ⟨rfl, 0, by omega, rfl⟩, (by omega : 0 < 24), (by omega : 0 < 24), by simp, fun _ => by simp, fun q => absurd q (by decide), (by decide : cnt (k1 fun _ => 0) 16 ≤ 8), fun _ _ => Nat.zero_le _, fun q => absurd q (by decide), Or.inl ⟨rfl, rfl, rfl⟩⟩
theorem dk_row {a j : Nat} : (if a = a ∧ j = 65 then (1 : Int32) else if a = a ∧ j = 64 then 77001 else 0) = dk0 j := by
  unfold dk0
  by_cases h1 : j = 65
  · simp [h1]
  · by_cases h2 : j = 64
    · simp [h2, MG]
    · simp [h1, h2]
set_option maxRecDepth 20000 in
set_option maxHeartbeats 4000000 in
theorem law_am (xs : Nat → Int32) (L : Nat) (hL : L ≤ 2048) : am_wp 121 0 [.ref 1, .long 0, .long 0, .long 0] [] (am_h0 xs L) (fun v h' => v = some (.int 1) ∧ h'.2.2 ≤ 40000) := by
  refine wp_y 2 rfl ?_
  refine wp_ca rfl rfl ?_
  refine wp_y 5 rfl ?_
  refine wp_ca rfl rfl ?_
  refine wp_y 2 rfl (wp_re rfl rfl ?_)
  refine wp_y 6 rfl ?_
  refine wp_ca rfl rfl ?_
  refine wp_y 10 rfl ?_
  refine wp_ca rfl rfl ?_
  refine wp_y 5 rfl (wp_re rfl rfl ?_)
  refine wp_y 11 rfl (wp_re rfl rfl ?_)
  refine wp_y 4 rfl ?_
  refine wp_ca rfl rfl ?_
  refine wp_y 11 rfl ?_
  refine wp_ca rfl rfl ?_
  refine wp_y 6 rfl (wp_re rfl rfl ?_)
  refine wp_y 4 rfl ?_
  refine wp_ca rfl rfl ?_
  refine wp_y 6 rfl (wp_re rfl rfl ?_)
  refine wp_y 1 rfl (wp_re rfl rfl ?_)
  refine wp_y 10 rfl ?_
  refine wp_ca rfl rfl ?_
  refine wp_y 4 rfl ?_
  refine wp_ca rfl rfl ?_
  refine wp_y 12 rfl ?_
  refine wp_ca rfl rfl ?_
  refine wp_y 5 rfl (wp_re rfl rfl ?_)
  refine wp_y 1 rfl (wp_re rfl rfl ?_)
  refine wp_re rfl rfl ?_
  refine wp_y 10 rfl ?_
  refine wp_ca rfl rfl ?_
  refine wp_y 4 rfl ?_
  refine wp_ca rfl rfl ?_
  refine wp_y 12 rfl ?_
  refine wp_ca rfl rfl ?_
  refine wp_y 5 rfl (wp_re rfl rfl ?_)
  refine wp_y 1 rfl (wp_re rfl rfl ?_)
  refine wp_re rfl rfl ?_
  refine wp_y 10 rfl ?_
  refine wp_ca rfl rfl ?_
  refine wp_y 4 rfl ?_
  refine wp_ca rfl rfl ?_
  refine wp_y 12 rfl ?_
  refine wp_ca rfl rfl ?_
  refine wp_y 5 rfl (wp_re rfl rfl ?_)
  refine wp_y 1 rfl (wp_re rfl rfl ?_)
  refine wp_y 3 rfl ?_
  refine wp_ca rfl rfl ?_
  refine wp_y 6 rfl (wp_re rfl rfl ?_)
  refine wp_y 5 rfl (wp_re rfl rfl ?_)
  refine wp_y 4 rfl ?_
  refine wp_ca rfl rfl ?_
  refine wp_y 6 rfl (wp_re rfl rfl ?_)
  refine wp_y 1 rfl (wp_re rfl rfl ?_)
  refine wp_y 3 rfl ?_
  refine wp_ca rfl rfl ?_
  refine wp_y 58 rfl (wp_re rfl rfl ?_)
  refine wp_y 3 rfl ?_
  show am_wp 121 18 [.ref 1, .ref 2, .ref 23, .int (nI (4 * 0))] [] (_, _, 34) _
  refine law_loop hL 512 0 _ _ 34 Sp0 (by omega) (by omega) ⟨⟨fun _ => [], ⟨FX_of ?_, ⟨Nat.le_refl 34, rfl⟩, rfl, fun c hc => ?_, fun c s hs => ?_, fun c => List.nodup_nil, fun c d s h => ?_⟩, ⟨fun j hj => dk_row (a := 5) (j := j), rfl⟩, ⟨rfl, rfl, rfl, rfl, msk_k1.symm, msk_k2.symm, msk_false.symm, fun j _ => rfl, fun j _ => rfl⟩, rfl, fun X hX => ?_, fun z => absurd rfl z, fun z => absurd z (by decide), fun z => absurd z (by decide)⟩, ⟨⟨fun j hj => dk_row (a := 24) (j := j), rfl, Nat.zero_le _, rfl⟩, rfl, rfl, ⟨rfl, (by omega : 0 < 24)⟩, fun _ => ⟨⟨rfl, (by omega : 0 < 24)⟩, fun b hb => ⟨rfl, Nat.zero_le _⟩, fun b hb => rfl⟩, fun j _ => rfl, fun j _ => rfl, ⟨rfl, (by omega : 0 < 5)⟩, fun q => absurd rfl q⟩, WF0, funext fun j => rfl, rfl, Nat.le_refl 34⟩
  · intro t ht
    simp only [fxs, List.mem_cons, List.not_mem_nil, or_false] at ht
    rcases ht with rfl | rfl | rfl | rfl | rfl | rfl | rfl | rfl | rfl | rfl | rfl | rfl | rfl | rfl | rfl | rfl | rfl | rfl | rfl | rfl | rfl | rfl | rfl | rfl | rfl | rfl | rfl | rfl | rfl | rfl | rfl | rfl | rfl | rfl | rfl | rfl | rfl | rfl | rfl | rfl
    · rfl
    · rfl
    · rfl
    · rfl
    · rfl
    · rfl
    · rfl
    · rfl
    · rfl
    · rfl
    · rfl
    · rfl
    · rfl
    · rfl
    · rfl
    · rfl
    · rfl
    · rfl
    · rfl
    · rfl
    · rfl
    · rfl
    · rfl
    · rfl
    · rfl
    · rfl
    · rfl
    · rfl
    · rfl
    · rfl
    · rfl
    · rfl
    · rfl
    · rfl
    · rfl
    · rfl
    · rfl
    · rfl
    · rfl
    · rfl
  · rcases hc with rfl | rfl | rfl | rfl
    · exact ⟨rfl, rfl, rfl⟩
    · exact ⟨rfl, rfl, rfl⟩
    · exact ⟨rfl, rfl, rfl⟩
    · exact ⟨rfl, rfl, rfl⟩
  · cases hs
  · cases h
  · split <;> rfl
end
section
theorem whole_start {p : Program} {e : Env} {s : State} {m : MethodId} {below : List Frame} {meth : Method} {c : Code} (l : Launch) {b L : Nat} {xs : Nat → Int32} (hL : L ≤ 2048) (C0 : lw_At p s m meth c b L xs) : W p l e room_1 s m #[Value.ref b] below meth c s.heap [] 0 0 (lw_Z below #[Value.ref b] s) (entryFrame m ([Value.ref b] : List Value).toArray 4) := sd_whole l C0 (law_am xs L hL)
end
section
set_option maxHeartbeats 4000000 in
theorem lw_walk (l : Launch) (b : Addr) (xs : List Int32) : MetFree l x (headSpec (Jvm.Cond.code x code maxLocals ret :: tables_1) room_1) (lw_P b xs) (fun _ _ _ _ _ => True) lw_Q := by
  refine MetFree.of_bodyS (code := code) (maxLocals := maxLocals) (ret := ret) (by decide) ?_ ?_
  · intro args s m h hn
    obtain ⟨meth, c, h1, h2, h3, h4, h5, h6, -, -⟩ := Cond.code_spec hn (atoms_spec (ws := Jvm.Cond.code x code maxLocals ret :: tables_1) h _ List.mem_cons_self)
    exact ⟨meth, c, h1, h2, h3, h4, h5, h6⟩
  · intro p e s m args below meth c s₁ B hml0 hP _
    obtain ⟨rfl, hx, hbd, hgv⟩ := hP
    obtain ⟨scr, harrAt, hlist, hof, hsmall⟩ := hx
    obtain ⟨hcb, hkn, -, -⟩ := State.arrayAt?_spec harrAt
    have hown : s.vm.findClass R_law = some m.cls := findClass_of_methodNamed B.named
    have hts0 : ∀ c ∈ (Jvm.Cond.code x code maxLocals ret :: tables_1), c.before #[Value.ref b] s = true := atoms_spec (ws := Jvm.Cond.code x code maxLocals ret :: tables_1) B.pre
    have hts : ∀ w ∈ lw_tbl, w.before #[Value.ref b] s = true := k2_hts_sels lw_privs (fun w hw => hts0 w (List.mem_cons_of_mem _ hw)) lw_privs_ok
    have hml : c.maxLocals = 4 := B.maxLocals_eq (hts0 _ List.mem_cons_self)
    have X₀ : Stand p l e room_1 s m #[Value.ref b] below meth c s₁ [] 0 0 := Stand.of_body B
    have hh0 : s₁.heap = s.heap := by rw [B.state]; rfl
    have hsz : scr.slots.size = xs.length := by rw [← Array.length_toList, hlist, List.length_map]
    have hval : ∀ j : Nat, j < xs.length → scr.slots[j]? = some (.int (xs.getD j 0)) := fun j hj => by
      rw [← Array.getElem?_toList, hlist]
      simp [hj]
    have hbl : b < s.heap.size := (Array.getElem?_eq_some_iff.mp hcb).1
    have hX : va_X b xs.length (fun j => xs.getD j 0) s s.heap := ⟨scr, hcb, hof, hkn, hsz, hval⟩
    have K : W p l e room_1 s m #[Value.ref b] below meth c s₁.heap [] 0 0 (lw_Z below #[Value.ref b] s) (entryFrame m ([Value.ref b] : List Value).toArray 4) := by
      rw [hh0]
      exact whole_start l hbd ⟨B.exec, B.bytes, B.returns, hml, hown, hts, hX, hbl, B.notSynchronized, hgv⟩
    obtain ⟨t, a1, o, b1, b2, b3⟩ := K s₁ rfl X₀
    exact ⟨t, o, a1, b1, b2, b3⟩
theorem lw_pre_spec {args : Array Value} {s : State} (h : (Jvm.Cond.and given_1 narrow_1).before args s = true) (hr : rest_1_c.before args s = true) : ∃ (b : Addr) (xs : List Int32), lw_P b xs args s := by
  have hs := flat_of_before _ h
  have hq := flat_of_before _ hr
  have hc : (Cond.count 1).before args s = true := hs _ (by decide +kernel)
  have harr : (Cond.arrayOf (.arg 0) .int).before args s = true := hs _ (by decide +kernel)
  have hle : (Cond.le (.length (.arg 0)) (.int 2048)).before args s = true := hs _ (by decide +kernel)
  have hlen : (Cond.isInt (.length (.arg 0))).before args s = true := hq _ (by decide +kernel)
  have hall : (Cond.all (.arg 0) (.isInt (.elem (.arg 0) (.index 0)))).before args s = true := hq _ (by decide +kernel)
  obtain ⟨b, xs, hb, hx⟩ := State.ints_of_pre rfl harr hlen hall
  have hsm : xs.length < 2 ^ 31 := hx.choose_spec.2.2.2
  have hev : (Term.length (.arg 0)).eval args s none [] s = some (.int xs.length.toInt32) := hx.length_eval hb
  have hv := Cond.le_ints hev (show (Term.int 2048).eval args s none [] s = some (.int 2048) from rfl)
  have hd : xs.length.toInt32 ≤ 2048 := by
    simpa [Cond.before, Cond.holds, hv] using hle
  have hN : xs.length ≤ 2048 := (Int32.ofNat_le_ofNat hsm (by decide)).mp (show Int32.ofNat xs.length ≤ Int32.ofNat 2048 from hd)
  exact ⟨b, xs, Cond.one_arg hc (show args[0]? = some (.ref b) from hb), hx, hN, h⟩
theorem lw_comes (l : Launch) : Comes l x (Jvm.Cond.code x code maxLocals ret :: tables_1) room_1 (fun tb e args s => Calls_1 tb e args s ∧ rest_1 tb e args s ∧ Pre_1 tb e args s)
    (fun _ _ args s o t => lw_Q args s o t) := by
  intro p e ha hc hk s m args below hf hfit hheap happ hpre
  obtain ⟨b, xs, hP⟩ := lw_pre_spec hpre.2.2 hpre.2.1
  obtain ⟨k, o, h1, h2, h3, hQ⟩ := lw_walk l b xs p e ha hc hk s m args below hf ((Spec.applies_iff_loose hf).mp happ).1 hP trivial
  exact ⟨k, o, h1, h2, h3, hQ⟩
theorem lw_frame {s t : State} {o : Outcome} {args : Array Value} (h : Framed s o t [] 600000 7302250) :
    Framed s o t (fieldLocs frame_1_writes args s ++ arrayLocs frame_1_arrays args s ++ staticLocs frame_1_statics s) 600000 7302250 := h
theorem lw_limb (L : Cond) (hL : ∀ (args : Array Value) (s t : State), L.after args s (.returned (some (.int 1))) t = true) :
    ArmFor flags0 classFile x code maxLocals ret World_1 tables_1 room_1 Calls_1 rest_1 Pre_1
      (fun tb e a s o t => postC L tb e a s o t ∧ Framed s o t (fieldLocs frame_1_writes a s ++ arrayLocs frame_1_arrays a s ++ staticLocs frame_1_statics s) 600000 7302250) := by
  intro l _ _ _ p e ha hc hk s m args below hf hfit hheap happ hpre
  obtain ⟨k, o, h1, h2, h3, rfl, hF⟩ := lw_comes l p e ha hc hk s m args below hf hfit hheap happ hpre
  exact ⟨k, _, h1, h2, h3, hL args s _, lw_frame hF⟩
theorem i_vc : Claimed_1_1 ∧ Claimed_1_2 := ⟨lw_limb limb_1_1 (fun args s t => by simp [limb_1_1, Cond.after, Cond.holds, Cond.value]), lw_limb limb_1_2 (fun args s t => Cond.after_iff.mpr (by
  first | (rw [show limb_1_2 = Cond.eq .result (.int 1) from rfl, Cond.eq_ints (x := 1) (y := 1) rfl rfl]; simp; done) | (simp [limb_1_2, Cond.value, Term.eval]; done)))⟩
end
