section
/-! getters and setters of SX -/
def xg_G_EQ (u : SX) : Int32 := match u with | (v, _) => v
def xg_G_NE (u : SX) : Int32 := match u with | (_, v, _) => v
def xg_G_LT (u : SX) : Int32 := match u with | (_, _, v, _) => v
def xg_G_GE (u : SX) : Int32 := match u with | (_, _, _, v, _) => v
def xg_G_MEM (u : SX) : Int32 := match u with | (_, _, _, _, v, _) => v
def xg_G_CODE (u : SX) : Int32 := match u with | (_, _, _, _, _, v, _) => v
def xg_G_STC (u : SX) : Int32 := match u with | (_, _, _, _, _, _, v, _) => v
def xg_G_ROOM (u : SX) : Int32 := match u with | (_, _, _, _, _, _, _, v, _) => v
def xg_SLOTS (u : SX) : Int32 := match u with | (_, _, _, _, _, _, _, _, v, _) => v
def xg_REC_CAP (u : SX) : Int32 := match u with | (_, _, _, _, _, _, _, _, _, v, _) => v
def xg_IR_CAP (u : SX) : Int32 := match u with | (_, _, _, _, _, _, _, _, _, _, v, _) => v
def xg_VAL_CAP (u : SX) : Int32 := match u with | (_, _, _, _, _, _, _, _, _, _, _, v, _) => v
def xg_EXIT_CAP (u : SX) : Int32 := match u with | (_, _, _, _, _, _, _, _, _, _, _, _, v, _) => v
def xg_MAX_FAILS (u : SX) : Int32 := match u with | (_, _, _, _, _, _, _, _, _, _, _, _, _, v, _) => v
def xg_MAX_MISSES (u : SX) : Int32 := match u with | (_, _, _, _, _, _, _, _, _, _, _, _, _, _, v, _) => v
def xg_codeSize (u : SX) : Int32 := match u with | (_, _, _, _, _, _, _, _, _, _, _, _, _, _, _, v, _) => v
def xg_memSize (u : SX) : Int32 := match u with | (_, _, _, _, _, _, _, _, _, _, _, _, _, _, _, _, v, _) => v
def xg_outCount (u : SX) : Int32 := match u with | (_, _, _, _, _, _, _, _, _, _, _, _, _, _, _, _, _, v, _) => v
def xg_pc (u : SX) : Int32 := match u with | (_, _, _, _, _, _, _, _, _, _, _, _, _, _, _, _, _, _, v, _) => v
def xg_status (u : SX) : Int32 := match u with | (_, _, _, _, _, _, _, _, _, _, _, _, _, _, _, _, _, _, _, v, _) => v
def xg_steps (u : SX) : Int32 := match u with | (_, _, _, _, _, _, _, _, _, _, _, _, _, _, _, _, _, _, _, _, v, _) => v
def xg_cursor (u : SX) : Int32 := match u with | (_, _, _, _, _, _, _, _, _, _, _, _, _, _, _, _, _, _, _, _, _, v, _) => v
def xg_hot (u : SX) : Int32 := match u with | (_, _, _, _, _, _, _, _, _, _, _, _, _, _, _, _, _, _, _, _, _, _, v, _) => v
def xg_done (u : SX) : Int32 := match u with | (_, _, _, _, _, _, _, _, _, _, _, _, _, _, _, _, _, _, _, _, _, _, _, v, _) => v
def xg_crossed (u : SX) : Int32 := match u with | (_, _, _, _, _, _, _, _, _, _, _, _, _, _, _, _, _, _, _, _, _, _, _, _, v, _) => v
def xg_nextPc (u : SX) : Int32 := match u with | (_, _, _, _, _, _, _, _, _, _, _, _, _, _, _, _, _, _, _, _, _, _, _, _, _, v, _) => v
def xg_crossedTo (u : SX) : Int32 := match u with | (_, _, _, _, _, _, _, _, _, _, _, _, _, _, _, _, _, _, _, _, _, _, _, _, _, _, v, _) => v
def xg_recording (u : SX) : Int32 := match u with | (_, _, _, _, _, _, _, _, _, _, _, _, _, _, _, _, _, _, _, _, _, _, _, _, _, _, _, v, _) => v
def xg_recHead (u : SX) : Int32 := match u with | (_, _, _, _, _, _, _, _, _, _, _, _, _, _, _, _, _, _, _, _, _, _, _, _, _, _, _, _, v, _) => v
def xg_recLen (u : SX) : Int32 := match u with | (_, _, _, _, _, _, _, _, _, _, _, _, _, _, _, _, _, _, _, _, _, _, _, _, _, _, _, _, _, v, _) => v
def xg_recMask (u : SX) : Int64 := match u with | (_, _, _, _, _, _, _, _, _, _, _, _, _, _, _, _, _, _, _, _, _, _, _, _, _, _, _, _, _, _, v, _) => v
def xg_nextVictim (u : SX) : Int32 := match u with | (_, _, _, _, _, _, _, _, _, _, _, _, _, _, _, _, _, _, _, _, _, _, _, _, _, _, _, _, _, _, _, v, _) => v
def xg_runMask (u : SX) : Int64 := match u with | (_, _, _, _, _, _, _, _, _, _, _, _, _, _, _, _, _, _, _, _, _, _, _, _, _, _, _, _, _, _, _, _, v, _) => v
def xg_buildOk (u : SX) : Int32 := match u with | (_, _, _, _, _, _, _, _, _, _, _, _, _, _, _, _, _, _, _, _, _, _, _, _, _, _, _, _, _, _, _, _, _, v, _) => v
def xg_buildSlot (u : SX) : Int32 := match u with | (_, _, _, _, _, _, _, _, _, _, _, _, _, _, _, _, _, _, _, _, _, _, _, _, _, _, _, _, _, _, _, _, _, _, v, _) => v
def xg_buildStep (u : SX) : Int32 := match u with | (_, _, _, _, _, _, _, _, _, _, _, _, _, _, _, _, _, _, _, _, _, _, _, _, _, _, _, _, _, _, _, _, _, _, _, v, _) => v
def xg_buildPc (u : SX) : Int32 := match u with | (_, _, _, _, _, _, _, _, _, _, _, _, _, _, _, _, _, _, _, _, _, _, _, _, _, _, _, _, _, _, _, _, _, _, _, _, v, _) => v
def xg_bIr (u : SX) : Int32 := match u with | (_, _, _, _, _, _, _, _, _, _, _, _, _, _, _, _, _, _, _, _, _, _, _, _, _, _, _, _, _, _, _, _, _, _, _, _, _, v, _) => v
def xg_bVal (u : SX) : Int32 := match u with | (_, _, _, _, _, _, _, _, _, _, _, _, _, _, _, _, _, _, _, _, _, _, _, _, _, _, _, _, _, _, _, _, _, _, _, _, _, _, v, _) => v
def xg_irCount (u : SX) : Int32 := match u with | (_, _, _, _, _, _, _, _, _, _, _, _, _, _, _, _, _, _, _, _, _, _, _, _, _, _, _, _, _, _, _, _, _, _, _, _, _, _, _, v, _) => v
def xg_valCount (u : SX) : Int32 := match u with | (_, _, _, _, _, _, _, _, _, _, _, _, _, _, _, _, _, _, _, _, _, _, _, _, _, _, _, _, _, _, _, _, _, _, _, _, _, _, _, _, v, _) => v
def xg_exitCount (u : SX) : Int32 := match u with | (_, _, _, _, _, _, _, _, _, _, _, _, _, _, _, _, _, _, _, _, _, _, _, _, _, _, _, _, _, _, _, _, _, _, _, _, _, _, _, _, _, v, _) => v
def xg_crossCount (u : SX) : Int32 := match u with | (_, _, _, _, _, _, _, _, _, _, _, _, _, _, _, _, _, _, _, _, _, _, _, _, _, _, _, _, _, _, _, _, _, _, _, _, _, _, _, _, _, _, v, _) => v
def xg_code (u : SX) : Nat → Int32 := match u with | (_, _, _, _, _, _, _, _, _, _, _, _, _, _, _, _, _, _, _, _, _, _, _, _, _, _, _, _, _, _, _, _, _, _, _, _, _, _, _, _, _, _, _, v, _) => v
def xg_mem (u : SX) : Nat → Int32 := match u with | (_, _, _, _, _, _, _, _, _, _, _, _, _, _, _, _, _, _, _, _, _, _, _, _, _, _, _, _, _, _, _, _, _, _, _, _, _, _, _, _, _, _, _, _, v, _) => v
def xg_r (u : SX) : Nat → Int32 := match u with | (_, _, _, _, _, _, _, _, _, _, _, _, _, _, _, _, _, _, _, _, _, _, _, _, _, _, _, _, _, _, _, _, _, _, _, _, _, _, _, _, _, _, _, _, _, v, _) => v
def xg_crossings (u : SX) : Nat → Int32 := match u with | (_, _, _, _, _, _, _, _, _, _, _, _, _, _, _, _, _, _, _, _, _, _, _, _, _, _, _, _, _, _, _, _, _, _, _, _, _, _, _, _, _, _, _, _, _, _, v, _) => v
def xg_out (u : SX) : Nat → Int32 := match u with | (_, _, _, _, _, _, _, _, _, _, _, _, _, _, _, _, _, _, _, _, _, _, _, _, _, _, _, _, _, _, _, _, _, _, _, _, _, _, _, _, _, _, _, _, _, _, _, v, _) => v
def xg_heat (u : SX) : Nat → Int32 := match u with | (_, _, _, _, _, _, _, _, _, _, _, _, _, _, _, _, _, _, _, _, _, _, _, _, _, _, _, _, _, _, _, _, _, _, _, _, _, _, _, _, _, _, _, _, _, _, _, _, v, _) => v
def xg_fails (u : SX) : Nat → Int32 := match u with | (_, _, _, _, _, _, _, _, _, _, _, _, _, _, _, _, _, _, _, _, _, _, _, _, _, _, _, _, _, _, _, _, _, _, _, _, _, _, _, _, _, _, _, _, _, _, _, _, _, v, _) => v
def xg_slotOf (u : SX) : Nat → Int32 := match u with | (_, _, _, _, _, _, _, _, _, _, _, _, _, _, _, _, _, _, _, _, _, _, _, _, _, _, _, _, _, _, _, _, _, _, _, _, _, _, _, _, _, _, _, _, _, _, _, _, _, _, v, _) => v
def xg_recPc (u : SX) : Nat → Int32 := match u with | (_, _, _, _, _, _, _, _, _, _, _, _, _, _, _, _, _, _, _, _, _, _, _, _, _, _, _, _, _, _, _, _, _, _, _, _, _, _, _, _, _, _, _, _, _, _, _, _, _, _, _, v, _) => v
def xg_recWord (u : SX) : Nat → Int32 := match u with | (_, _, _, _, _, _, _, _, _, _, _, _, _, _, _, _, _, _, _, _, _, _, _, _, _, _, _, _, _, _, _, _, _, _, _, _, _, _, _, _, _, _, _, _, _, _, _, _, _, _, _, _, v, _) => v
def xg_recNext (u : SX) : Nat → Int32 := match u with | (_, _, _, _, _, _, _, _, _, _, _, _, _, _, _, _, _, _, _, _, _, _, _, _, _, _, _, _, _, _, _, _, _, _, _, _, _, _, _, _, _, _, _, _, _, _, _, _, _, _, _, _, _, v, _) => v
def xg_trLive (u : SX) : Nat → Int32 := match u with | (_, _, _, _, _, _, _, _, _, _, _, _, _, _, _, _, _, _, _, _, _, _, _, _, _, _, _, _, _, _, _, _, _, _, _, _, _, _, _, _, _, _, _, _, _, _, _, _, _, _, _, _, _, _, v, _) => v
def xg_trHead (u : SX) : Nat → Int32 := match u with | (_, _, _, _, _, _, _, _, _, _, _, _, _, _, _, _, _, _, _, _, _, _, _, _, _, _, _, _, _, _, _, _, _, _, _, _, _, _, _, _, _, _, _, _, _, _, _, _, _, _, _, _, _, _, _, v, _) => v
def xg_trLen (u : SX) : Nat → Int32 := match u with | (_, _, _, _, _, _, _, _, _, _, _, _, _, _, _, _, _, _, _, _, _, _, _, _, _, _, _, _, _, _, _, _, _, _, _, _, _, _, _, _, _, _, _, _, _, _, _, _, _, _, _, _, _, _, _, _, v, _) => v
def xg_trMask (u : SX) : Nat → Int64 := match u with | (_, _, _, _, _, _, _, _, _, _, _, _, _, _, _, _, _, _, _, _, _, _, _, _, _, _, _, _, _, _, _, _, _, _, _, _, _, _, _, _, _, _, _, _, _, _, _, _, _, _, _, _, _, _, _, _, _, v, _) => v
def xg_trIr (u : SX) : Nat → Int32 := match u with | (_, _, _, _, _, _, _, _, _, _, _, _, _, _, _, _, _, _, _, _, _, _, _, _, _, _, _, _, _, _, _, _, _, _, _, _, _, _, _, _, _, _, _, _, _, _, _, _, _, _, _, _, _, _, _, _, _, _, v, _) => v
def xg_trVals (u : SX) : Nat → Int32 := match u with | (_, _, _, _, _, _, _, _, _, _, _, _, _, _, _, _, _, _, _, _, _, _, _, _, _, _, _, _, _, _, _, _, _, _, _, _, _, _, _, _, _, _, _, _, _, _, _, _, _, _, _, _, _, _, _, _, _, _, _, v, _) => v
def xg_trCross (u : SX) : Nat → Int32 := match u with | (_, _, _, _, _, _, _, _, _, _, _, _, _, _, _, _, _, _, _, _, _, _, _, _, _, _, _, _, _, _, _, _, _, _, _, _, _, _, _, _, _, _, _, _, _, _, _, _, _, _, _, _, _, _, _, _, _, _, _, _, v, _) => v
def xg_trMiss (u : SX) : Nat → Int32 := match u with | (_, _, _, _, _, _, _, _, _, _, _, _, _, _, _, _, _, _, _, _, _, _, _, _, _, _, _, _, _, _, _, _, _, _, _, _, _, _, _, _, _, _, _, _, _, _, _, _, _, _, _, _, _, _, _, _, _, _, _, _, _, v, _) => v
def xg_trTargets (u : SX) : Nat → Int32 := match u with | (_, _, _, _, _, _, _, _, _, _, _, _, _, _, _, _, _, _, _, _, _, _, _, _, _, _, _, _, _, _, _, _, _, _, _, _, _, _, _, _, _, _, _, _, _, _, _, _, _, _, _, _, _, _, _, _, _, _, _, _, _, _, v, _) => v
def xg_irOp (u : SX) : Nat → Int32 := match u with | (_, _, _, _, _, _, _, _, _, _, _, _, _, _, _, _, _, _, _, _, _, _, _, _, _, _, _, _, _, _, _, _, _, _, _, _, _, _, _, _, _, _, _, _, _, _, _, _, _, _, _, _, _, _, _, _, _, _, _, _, _, _, _, v, _) => v
def xg_irA (u : SX) : Nat → Int32 := match u with | (_, _, _, _, _, _, _, _, _, _, _, _, _, _, _, _, _, _, _, _, _, _, _, _, _, _, _, _, _, _, _, _, _, _, _, _, _, _, _, _, _, _, _, _, _, _, _, _, _, _, _, _, _, _, _, _, _, _, _, _, _, _, _, _, v, _) => v
def xg_irB (u : SX) : Nat → Int32 := match u with | (_, _, _, _, _, _, _, _, _, _, _, _, _, _, _, _, _, _, _, _, _, _, _, _, _, _, _, _, _, _, _, _, _, _, _, _, _, _, _, _, _, _, _, _, _, _, _, _, _, _, _, _, _, _, _, _, _, _, _, _, _, _, _, _, _, v, _) => v
def xg_irD (u : SX) : Nat → Int32 := match u with | (_, _, _, _, _, _, _, _, _, _, _, _, _, _, _, _, _, _, _, _, _, _, _, _, _, _, _, _, _, _, _, _, _, _, _, _, _, _, _, _, _, _, _, _, _, _, _, _, _, _, _, _, _, _, _, _, _, _, _, _, _, _, _, _, _, _, v, _) => v
def xg_kFlag (u : SX) : Nat → Int32 := match u with | (_, _, _, _, _, _, _, _, _, _, _, _, _, _, _, _, _, _, _, _, _, _, _, _, _, _, _, _, _, _, _, _, _, _, _, _, _, _, _, _, _, _, _, _, _, _, _, _, _, _, _, _, _, _, _, _, _, _, _, _, _, _, _, _, _, _, _, v, _) => v
def xg_kVal (u : SX) : Nat → Int32 := match u with | (_, _, _, _, _, _, _, _, _, _, _, _, _, _, _, _, _, _, _, _, _, _, _, _, _, _, _, _, _, _, _, _, _, _, _, _, _, _, _, _, _, _, _, _, _, _, _, _, _, _, _, _, _, _, _, _, _, _, _, _, _, _, _, _, _, _, _, _, v, _) => v
def xg_exPc (u : SX) : Nat → Int32 := match u with | (_, _, _, _, _, _, _, _, _, _, _, _, _, _, _, _, _, _, _, _, _, _, _, _, _, _, _, _, _, _, _, _, _, _, _, _, _, _, _, _, _, _, _, _, _, _, _, _, _, _, _, _, _, _, _, _, _, _, _, _, _, _, _, _, _, _, _, _, _, v, _) => v
def xg_exSteps (u : SX) : Nat → Int32 := match u with | (_, _, _, _, _, _, _, _, _, _, _, _, _, _, _, _, _, _, _, _, _, _, _, _, _, _, _, _, _, _, _, _, _, _, _, _, _, _, _, _, _, _, _, _, _, _, _, _, _, _, _, _, _, _, _, _, _, _, _, _, _, _, _, _, _, _, _, _, _, _, v, _) => v
def xg_exCross (u : SX) : Nat → Int32 := match u with | (_, _, _, _, _, _, _, _, _, _, _, _, _, _, _, _, _, _, _, _, _, _, _, _, _, _, _, _, _, _, _, _, _, _, _, _, _, _, _, _, _, _, _, _, _, _, _, _, _, _, _, _, _, _, _, _, _, _, _, _, _, _, _, _, _, _, _, _, _, _, _, v, _) => v
def xg_snap (u : SX) : Nat → Int32 := match u with | (_, _, _, _, _, _, _, _, _, _, _, _, _, _, _, _, _, _, _, _, _, _, _, _, _, _, _, _, _, _, _, _, _, _, _, _, _, _, _, _, _, _, _, _, _, _, _, _, _, _, _, _, _, _, _, _, _, _, _, _, _, _, _, _, _, _, _, _, _, _, _, _, v, _) => v
def xg_val (u : SX) : Nat → Int32 := match u with | (_, _, _, _, _, _, _, _, _, _, _, _, _, _, _, _, _, _, _, _, _, _, _, _, _, _, _, _, _, _, _, _, _, _, _, _, _, _, _, _, _, _, _, _, _, _, _, _, _, _, _, _, _, _, _, _, _, _, _, _, _, _, _, _, _, _, _, _, _, _, _, _, _, v, _) => v
def xg_env (u : SX) : Nat → Int32 := match u with | (_, _, _, _, _, _, _, _, _, _, _, _, _, _, _, _, _, _, _, _, _, _, _, _, _, _, _, _, _, _, _, _, _, _, _, _, _, _, _, _, _, _, _, _, _, _, _, _, _, _, _, _, _, _, _, _, _, _, _, _, _, _, _, _, _, _, _, _, _, _, _, _, _, _, v, _) => v
def xg_defAt (u : SX) : Nat → Int32 := match u with | (_, _, _, _, _, _, _, _, _, _, _, _, _, _, _, _, _, _, _, _, _, _, _, _, _, _, _, _, _, _, _, _, _, _, _, _, _, _, _, _, _, _, _, _, _, _, _, _, _, _, _, _, _, _, _, _, _, _, _, _, _, _, _, _, _, _, _, _, _, _, _, _, _, _, _, v, _) => v
def xg_used (u : SX) : Nat → Int32 := match u with | (_, _, _, _, _, _, _, _, _, _, _, _, _, _, _, _, _, _, _, _, _, _, _, _, _, _, _, _, _, _, _, _, _, _, _, _, _, _, _, _, _, _, _, _, _, _, _, _, _, _, _, _, _, _, _, _, _, _, _, _, _, _, _, _, _, _, _, _, _, _, _, _, _, _, _, _, v) => v
def xs_G_EQ (u : SX) (v : Int32) : SX := match u with | (_, r) => (v, r)
def xs_G_NE (u : SX) (v : Int32) : SX := match u with | (x0, _, r) => (x0, v, r)
def xs_G_LT (u : SX) (v : Int32) : SX := match u with | (x0, x1, _, r) => (x0, x1, v, r)
def xs_G_GE (u : SX) (v : Int32) : SX := match u with | (x0, x1, x2, _, r) => (x0, x1, x2, v, r)
def xs_G_MEM (u : SX) (v : Int32) : SX := match u with | (x0, x1, x2, x3, _, r) => (x0, x1, x2, x3, v, r)
def xs_G_CODE (u : SX) (v : Int32) : SX := match u with | (x0, x1, x2, x3, x4, _, r) => (x0, x1, x2, x3, x4, v, r)
def xs_G_STC (u : SX) (v : Int32) : SX := match u with | (x0, x1, x2, x3, x4, x5, _, r) => (x0, x1, x2, x3, x4, x5, v, r)
def xs_G_ROOM (u : SX) (v : Int32) : SX := match u with | (x0, x1, x2, x3, x4, x5, x6, _, r) => (x0, x1, x2, x3, x4, x5, x6, v, r)
def xs_SLOTS (u : SX) (v : Int32) : SX := match u with | (x0, x1, x2, x3, x4, x5, x6, x7, _, r) => (x0, x1, x2, x3, x4, x5, x6, x7, v, r)
def xs_REC_CAP (u : SX) (v : Int32) : SX := match u with | (x0, x1, x2, x3, x4, x5, x6, x7, x8, _, r) => (x0, x1, x2, x3, x4, x5, x6, x7, x8, v, r)
def xs_IR_CAP (u : SX) (v : Int32) : SX := match u with | (x0, x1, x2, x3, x4, x5, x6, x7, x8, x9, _, r) => (x0, x1, x2, x3, x4, x5, x6, x7, x8, x9, v, r)
def xs_VAL_CAP (u : SX) (v : Int32) : SX := match u with | (x0, x1, x2, x3, x4, x5, x6, x7, x8, x9, x10, _, r) => (x0, x1, x2, x3, x4, x5, x6, x7, x8, x9, x10, v, r)
def xs_EXIT_CAP (u : SX) (v : Int32) : SX := match u with | (x0, x1, x2, x3, x4, x5, x6, x7, x8, x9, x10, x11, _, r) => (x0, x1, x2, x3, x4, x5, x6, x7, x8, x9, x10, x11, v, r)
def xs_MAX_FAILS (u : SX) (v : Int32) : SX := match u with | (x0, x1, x2, x3, x4, x5, x6, x7, x8, x9, x10, x11, x12, _, r) => (x0, x1, x2, x3, x4, x5, x6, x7, x8, x9, x10, x11, x12, v, r)
def xs_MAX_MISSES (u : SX) (v : Int32) : SX := match u with | (x0, x1, x2, x3, x4, x5, x6, x7, x8, x9, x10, x11, x12, x13, _, r) => (x0, x1, x2, x3, x4, x5, x6, x7, x8, x9, x10, x11, x12, x13, v, r)
def xs_codeSize (u : SX) (v : Int32) : SX := match u with | (x0, x1, x2, x3, x4, x5, x6, x7, x8, x9, x10, x11, x12, x13, x14, _, r) => (x0, x1, x2, x3, x4, x5, x6, x7, x8, x9, x10, x11, x12, x13, x14, v, r)
def xs_memSize (u : SX) (v : Int32) : SX := match u with | (x0, x1, x2, x3, x4, x5, x6, x7, x8, x9, x10, x11, x12, x13, x14, x15, _, r) => (x0, x1, x2, x3, x4, x5, x6, x7, x8, x9, x10, x11, x12, x13, x14, x15, v, r)
def xs_outCount (u : SX) (v : Int32) : SX := match u with | (x0, x1, x2, x3, x4, x5, x6, x7, x8, x9, x10, x11, x12, x13, x14, x15, x16, _, r) => (x0, x1, x2, x3, x4, x5, x6, x7, x8, x9, x10, x11, x12, x13, x14, x15, x16, v, r)
def xs_pc (u : SX) (v : Int32) : SX := match u with | (x0, x1, x2, x3, x4, x5, x6, x7, x8, x9, x10, x11, x12, x13, x14, x15, x16, x17, _, r) => (x0, x1, x2, x3, x4, x5, x6, x7, x8, x9, x10, x11, x12, x13, x14, x15, x16, x17, v, r)
def xs_status (u : SX) (v : Int32) : SX := match u with | (x0, x1, x2, x3, x4, x5, x6, x7, x8, x9, x10, x11, x12, x13, x14, x15, x16, x17, x18, _, r) => (x0, x1, x2, x3, x4, x5, x6, x7, x8, x9, x10, x11, x12, x13, x14, x15, x16, x17, x18, v, r)
def xs_steps (u : SX) (v : Int32) : SX := match u with | (x0, x1, x2, x3, x4, x5, x6, x7, x8, x9, x10, x11, x12, x13, x14, x15, x16, x17, x18, x19, _, r) => (x0, x1, x2, x3, x4, x5, x6, x7, x8, x9, x10, x11, x12, x13, x14, x15, x16, x17, x18, x19, v, r)
def xs_cursor (u : SX) (v : Int32) : SX := match u with | (x0, x1, x2, x3, x4, x5, x6, x7, x8, x9, x10, x11, x12, x13, x14, x15, x16, x17, x18, x19, x20, _, r) => (x0, x1, x2, x3, x4, x5, x6, x7, x8, x9, x10, x11, x12, x13, x14, x15, x16, x17, x18, x19, x20, v, r)
def xs_hot (u : SX) (v : Int32) : SX := match u with | (x0, x1, x2, x3, x4, x5, x6, x7, x8, x9, x10, x11, x12, x13, x14, x15, x16, x17, x18, x19, x20, x21, _, r) => (x0, x1, x2, x3, x4, x5, x6, x7, x8, x9, x10, x11, x12, x13, x14, x15, x16, x17, x18, x19, x20, x21, v, r)
def xs_done (u : SX) (v : Int32) : SX := match u with | (x0, x1, x2, x3, x4, x5, x6, x7, x8, x9, x10, x11, x12, x13, x14, x15, x16, x17, x18, x19, x20, x21, x22, _, r) => (x0, x1, x2, x3, x4, x5, x6, x7, x8, x9, x10, x11, x12, x13, x14, x15, x16, x17, x18, x19, x20, x21, x22, v, r)
def xs_crossed (u : SX) (v : Int32) : SX := match u with | (x0, x1, x2, x3, x4, x5, x6, x7, x8, x9, x10, x11, x12, x13, x14, x15, x16, x17, x18, x19, x20, x21, x22, x23, _, r) => (x0, x1, x2, x3, x4, x5, x6, x7, x8, x9, x10, x11, x12, x13, x14, x15, x16, x17, x18, x19, x20, x21, x22, x23, v, r)
def xs_nextPc (u : SX) (v : Int32) : SX := match u with | (x0, x1, x2, x3, x4, x5, x6, x7, x8, x9, x10, x11, x12, x13, x14, x15, x16, x17, x18, x19, x20, x21, x22, x23, x24, _, r) => (x0, x1, x2, x3, x4, x5, x6, x7, x8, x9, x10, x11, x12, x13, x14, x15, x16, x17, x18, x19, x20, x21, x22, x23, x24, v, r)
def xs_crossedTo (u : SX) (v : Int32) : SX := match u with | (x0, x1, x2, x3, x4, x5, x6, x7, x8, x9, x10, x11, x12, x13, x14, x15, x16, x17, x18, x19, x20, x21, x22, x23, x24, x25, _, r) => (x0, x1, x2, x3, x4, x5, x6, x7, x8, x9, x10, x11, x12, x13, x14, x15, x16, x17, x18, x19, x20, x21, x22, x23, x24, x25, v, r)
def xs_recording (u : SX) (v : Int32) : SX := match u with | (x0, x1, x2, x3, x4, x5, x6, x7, x8, x9, x10, x11, x12, x13, x14, x15, x16, x17, x18, x19, x20, x21, x22, x23, x24, x25, x26, _, r) => (x0, x1, x2, x3, x4, x5, x6, x7, x8, x9, x10, x11, x12, x13, x14, x15, x16, x17, x18, x19, x20, x21, x22, x23, x24, x25, x26, v, r)
def xs_recHead (u : SX) (v : Int32) : SX := match u with | (x0, x1, x2, x3, x4, x5, x6, x7, x8, x9, x10, x11, x12, x13, x14, x15, x16, x17, x18, x19, x20, x21, x22, x23, x24, x25, x26, x27, _, r) => (x0, x1, x2, x3, x4, x5, x6, x7, x8, x9, x10, x11, x12, x13, x14, x15, x16, x17, x18, x19, x20, x21, x22, x23, x24, x25, x26, x27, v, r)
def xs_recLen (u : SX) (v : Int32) : SX := match u with | (x0, x1, x2, x3, x4, x5, x6, x7, x8, x9, x10, x11, x12, x13, x14, x15, x16, x17, x18, x19, x20, x21, x22, x23, x24, x25, x26, x27, x28, _, r) => (x0, x1, x2, x3, x4, x5, x6, x7, x8, x9, x10, x11, x12, x13, x14, x15, x16, x17, x18, x19, x20, x21, x22, x23, x24, x25, x26, x27, x28, v, r)
def xs_recMask (u : SX) (v : Int64) : SX := match u with | (x0, x1, x2, x3, x4, x5, x6, x7, x8, x9, x10, x11, x12, x13, x14, x15, x16, x17, x18, x19, x20, x21, x22, x23, x24, x25, x26, x27, x28, x29, _, r) => (x0, x1, x2, x3, x4, x5, x6, x7, x8, x9, x10, x11, x12, x13, x14, x15, x16, x17, x18, x19, x20, x21, x22, x23, x24, x25, x26, x27, x28, x29, v, r)
def xs_nextVictim (u : SX) (v : Int32) : SX := match u with | (x0, x1, x2, x3, x4, x5, x6, x7, x8, x9, x10, x11, x12, x13, x14, x15, x16, x17, x18, x19, x20, x21, x22, x23, x24, x25, x26, x27, x28, x29, x30, _, r) => (x0, x1, x2, x3, x4, x5, x6, x7, x8, x9, x10, x11, x12, x13, x14, x15, x16, x17, x18, x19, x20, x21, x22, x23, x24, x25, x26, x27, x28, x29, x30, v, r)
def xs_runMask (u : SX) (v : Int64) : SX := match u with | (x0, x1, x2, x3, x4, x5, x6, x7, x8, x9, x10, x11, x12, x13, x14, x15, x16, x17, x18, x19, x20, x21, x22, x23, x24, x25, x26, x27, x28, x29, x30, x31, _, r) => (x0, x1, x2, x3, x4, x5, x6, x7, x8, x9, x10, x11, x12, x13, x14, x15, x16, x17, x18, x19, x20, x21, x22, x23, x24, x25, x26, x27, x28, x29, x30, x31, v, r)
def xs_buildOk (u : SX) (v : Int32) : SX := match u with | (x0, x1, x2, x3, x4, x5, x6, x7, x8, x9, x10, x11, x12, x13, x14, x15, x16, x17, x18, x19, x20, x21, x22, x23, x24, x25, x26, x27, x28, x29, x30, x31, x32, _, r) => (x0, x1, x2, x3, x4, x5, x6, x7, x8, x9, x10, x11, x12, x13, x14, x15, x16, x17, x18, x19, x20, x21, x22, x23, x24, x25, x26, x27, x28, x29, x30, x31, x32, v, r)
def xs_buildSlot (u : SX) (v : Int32) : SX := match u with | (x0, x1, x2, x3, x4, x5, x6, x7, x8, x9, x10, x11, x12, x13, x14, x15, x16, x17, x18, x19, x20, x21, x22, x23, x24, x25, x26, x27, x28, x29, x30, x31, x32, x33, _, r) => (x0, x1, x2, x3, x4, x5, x6, x7, x8, x9, x10, x11, x12, x13, x14, x15, x16, x17, x18, x19, x20, x21, x22, x23, x24, x25, x26, x27, x28, x29, x30, x31, x32, x33, v, r)
def xs_buildStep (u : SX) (v : Int32) : SX := match u with | (x0, x1, x2, x3, x4, x5, x6, x7, x8, x9, x10, x11, x12, x13, x14, x15, x16, x17, x18, x19, x20, x21, x22, x23, x24, x25, x26, x27, x28, x29, x30, x31, x32, x33, x34, _, r) => (x0, x1, x2, x3, x4, x5, x6, x7, x8, x9, x10, x11, x12, x13, x14, x15, x16, x17, x18, x19, x20, x21, x22, x23, x24, x25, x26, x27, x28, x29, x30, x31, x32, x33, x34, v, r)
def xs_buildPc (u : SX) (v : Int32) : SX := match u with | (x0, x1, x2, x3, x4, x5, x6, x7, x8, x9, x10, x11, x12, x13, x14, x15, x16, x17, x18, x19, x20, x21, x22, x23, x24, x25, x26, x27, x28, x29, x30, x31, x32, x33, x34, x35, _, r) => (x0, x1, x2, x3, x4, x5, x6, x7, x8, x9, x10, x11, x12, x13, x14, x15, x16, x17, x18, x19, x20, x21, x22, x23, x24, x25, x26, x27, x28, x29, x30, x31, x32, x33, x34, x35, v, r)
def xs_bIr (u : SX) (v : Int32) : SX := match u with | (x0, x1, x2, x3, x4, x5, x6, x7, x8, x9, x10, x11, x12, x13, x14, x15, x16, x17, x18, x19, x20, x21, x22, x23, x24, x25, x26, x27, x28, x29, x30, x31, x32, x33, x34, x35, x36, _, r) => (x0, x1, x2, x3, x4, x5, x6, x7, x8, x9, x10, x11, x12, x13, x14, x15, x16, x17, x18, x19, x20, x21, x22, x23, x24, x25, x26, x27, x28, x29, x30, x31, x32, x33, x34, x35, x36, v, r)
def xs_bVal (u : SX) (v : Int32) : SX := match u with | (x0, x1, x2, x3, x4, x5, x6, x7, x8, x9, x10, x11, x12, x13, x14, x15, x16, x17, x18, x19, x20, x21, x22, x23, x24, x25, x26, x27, x28, x29, x30, x31, x32, x33, x34, x35, x36, x37, _, r) => (x0, x1, x2, x3, x4, x5, x6, x7, x8, x9, x10, x11, x12, x13, x14, x15, x16, x17, x18, x19, x20, x21, x22, x23, x24, x25, x26, x27, x28, x29, x30, x31, x32, x33, x34, x35, x36, x37, v, r)
def xs_irCount (u : SX) (v : Int32) : SX := match u with | (x0, x1, x2, x3, x4, x5, x6, x7, x8, x9, x10, x11, x12, x13, x14, x15, x16, x17, x18, x19, x20, x21, x22, x23, x24, x25, x26, x27, x28, x29, x30, x31, x32, x33, x34, x35, x36, x37, x38, _, r) => (x0, x1, x2, x3, x4, x5, x6, x7, x8, x9, x10, x11, x12, x13, x14, x15, x16, x17, x18, x19, x20, x21, x22, x23, x24, x25, x26, x27, x28, x29, x30, x31, x32, x33, x34, x35, x36, x37, x38, v, r)
def xs_valCount (u : SX) (v : Int32) : SX := match u with | (x0, x1, x2, x3, x4, x5, x6, x7, x8, x9, x10, x11, x12, x13, x14, x15, x16, x17, x18, x19, x20, x21, x22, x23, x24, x25, x26, x27, x28, x29, x30, x31, x32, x33, x34, x35, x36, x37, x38, x39, _, r) => (x0, x1, x2, x3, x4, x5, x6, x7, x8, x9, x10, x11, x12, x13, x14, x15, x16, x17, x18, x19, x20, x21, x22, x23, x24, x25, x26, x27, x28, x29, x30, x31, x32, x33, x34, x35, x36, x37, x38, x39, v, r)
def xs_exitCount (u : SX) (v : Int32) : SX := match u with | (x0, x1, x2, x3, x4, x5, x6, x7, x8, x9, x10, x11, x12, x13, x14, x15, x16, x17, x18, x19, x20, x21, x22, x23, x24, x25, x26, x27, x28, x29, x30, x31, x32, x33, x34, x35, x36, x37, x38, x39, x40, _, r) => (x0, x1, x2, x3, x4, x5, x6, x7, x8, x9, x10, x11, x12, x13, x14, x15, x16, x17, x18, x19, x20, x21, x22, x23, x24, x25, x26, x27, x28, x29, x30, x31, x32, x33, x34, x35, x36, x37, x38, x39, x40, v, r)
def xs_crossCount (u : SX) (v : Int32) : SX := match u with | (x0, x1, x2, x3, x4, x5, x6, x7, x8, x9, x10, x11, x12, x13, x14, x15, x16, x17, x18, x19, x20, x21, x22, x23, x24, x25, x26, x27, x28, x29, x30, x31, x32, x33, x34, x35, x36, x37, x38, x39, x40, x41, _, r) => (x0, x1, x2, x3, x4, x5, x6, x7, x8, x9, x10, x11, x12, x13, x14, x15, x16, x17, x18, x19, x20, x21, x22, x23, x24, x25, x26, x27, x28, x29, x30, x31, x32, x33, x34, x35, x36, x37, x38, x39, x40, x41, v, r)
def xs_code (u : SX) (v : Nat → Int32) : SX := match u with | (x0, x1, x2, x3, x4, x5, x6, x7, x8, x9, x10, x11, x12, x13, x14, x15, x16, x17, x18, x19, x20, x21, x22, x23, x24, x25, x26, x27, x28, x29, x30, x31, x32, x33, x34, x35, x36, x37, x38, x39, x40, x41, x42, _, r) => (x0, x1, x2, x3, x4, x5, x6, x7, x8, x9, x10, x11, x12, x13, x14, x15, x16, x17, x18, x19, x20, x21, x22, x23, x24, x25, x26, x27, x28, x29, x30, x31, x32, x33, x34, x35, x36, x37, x38, x39, x40, x41, x42, v, r)
def xs_mem (u : SX) (v : Nat → Int32) : SX := match u with | (x0, x1, x2, x3, x4, x5, x6, x7, x8, x9, x10, x11, x12, x13, x14, x15, x16, x17, x18, x19, x20, x21, x22, x23, x24, x25, x26, x27, x28, x29, x30, x31, x32, x33, x34, x35, x36, x37, x38, x39, x40, x41, x42, x43, _, r) => (x0, x1, x2, x3, x4, x5, x6, x7, x8, x9, x10, x11, x12, x13, x14, x15, x16, x17, x18, x19, x20, x21, x22, x23, x24, x25, x26, x27, x28, x29, x30, x31, x32, x33, x34, x35, x36, x37, x38, x39, x40, x41, x42, x43, v, r)
def xs_r (u : SX) (v : Nat → Int32) : SX := match u with | (x0, x1, x2, x3, x4, x5, x6, x7, x8, x9, x10, x11, x12, x13, x14, x15, x16, x17, x18, x19, x20, x21, x22, x23, x24, x25, x26, x27, x28, x29, x30, x31, x32, x33, x34, x35, x36, x37, x38, x39, x40, x41, x42, x43, x44, _, r) => (x0, x1, x2, x3, x4, x5, x6, x7, x8, x9, x10, x11, x12, x13, x14, x15, x16, x17, x18, x19, x20, x21, x22, x23, x24, x25, x26, x27, x28, x29, x30, x31, x32, x33, x34, x35, x36, x37, x38, x39, x40, x41, x42, x43, x44, v, r)
def xs_crossings (u : SX) (v : Nat → Int32) : SX := match u with | (x0, x1, x2, x3, x4, x5, x6, x7, x8, x9, x10, x11, x12, x13, x14, x15, x16, x17, x18, x19, x20, x21, x22, x23, x24, x25, x26, x27, x28, x29, x30, x31, x32, x33, x34, x35, x36, x37, x38, x39, x40, x41, x42, x43, x44, x45, _, r) => (x0, x1, x2, x3, x4, x5, x6, x7, x8, x9, x10, x11, x12, x13, x14, x15, x16, x17, x18, x19, x20, x21, x22, x23, x24, x25, x26, x27, x28, x29, x30, x31, x32, x33, x34, x35, x36, x37, x38, x39, x40, x41, x42, x43, x44, x45, v, r)
def xs_out (u : SX) (v : Nat → Int32) : SX := match u with | (x0, x1, x2, x3, x4, x5, x6, x7, x8, x9, x10, x11, x12, x13, x14, x15, x16, x17, x18, x19, x20, x21, x22, x23, x24, x25, x26, x27, x28, x29, x30, x31, x32, x33, x34, x35, x36, x37, x38, x39, x40, x41, x42, x43, x44, x45, x46, _, r) => (x0, x1, x2, x3, x4, x5, x6, x7, x8, x9, x10, x11, x12, x13, x14, x15, x16, x17, x18, x19, x20, x21, x22, x23, x24, x25, x26, x27, x28, x29, x30, x31, x32, x33, x34, x35, x36, x37, x38, x39, x40, x41, x42, x43, x44, x45, x46, v, r)
def xs_heat (u : SX) (v : Nat → Int32) : SX := match u with | (x0, x1, x2, x3, x4, x5, x6, x7, x8, x9, x10, x11, x12, x13, x14, x15, x16, x17, x18, x19, x20, x21, x22, x23, x24, x25, x26, x27, x28, x29, x30, x31, x32, x33, x34, x35, x36, x37, x38, x39, x40, x41, x42, x43, x44, x45, x46, x47, _, r) => (x0, x1, x2, x3, x4, x5, x6, x7, x8, x9, x10, x11, x12, x13, x14, x15, x16, x17, x18, x19, x20, x21, x22, x23, x24, x25, x26, x27, x28, x29, x30, x31, x32, x33, x34, x35, x36, x37, x38, x39, x40, x41, x42, x43, x44, x45, x46, x47, v, r)
def xs_fails (u : SX) (v : Nat → Int32) : SX := match u with | (x0, x1, x2, x3, x4, x5, x6, x7, x8, x9, x10, x11, x12, x13, x14, x15, x16, x17, x18, x19, x20, x21, x22, x23, x24, x25, x26, x27, x28, x29, x30, x31, x32, x33, x34, x35, x36, x37, x38, x39, x40, x41, x42, x43, x44, x45, x46, x47, x48, _, r) => (x0, x1, x2, x3, x4, x5, x6, x7, x8, x9, x10, x11, x12, x13, x14, x15, x16, x17, x18, x19, x20, x21, x22, x23, x24, x25, x26, x27, x28, x29, x30, x31, x32, x33, x34, x35, x36, x37, x38, x39, x40, x41, x42, x43, x44, x45, x46, x47, x48, v, r)
def xs_slotOf (u : SX) (v : Nat → Int32) : SX := match u with | (x0, x1, x2, x3, x4, x5, x6, x7, x8, x9, x10, x11, x12, x13, x14, x15, x16, x17, x18, x19, x20, x21, x22, x23, x24, x25, x26, x27, x28, x29, x30, x31, x32, x33, x34, x35, x36, x37, x38, x39, x40, x41, x42, x43, x44, x45, x46, x47, x48, x49, _, r) => (x0, x1, x2, x3, x4, x5, x6, x7, x8, x9, x10, x11, x12, x13, x14, x15, x16, x17, x18, x19, x20, x21, x22, x23, x24, x25, x26, x27, x28, x29, x30, x31, x32, x33, x34, x35, x36, x37, x38, x39, x40, x41, x42, x43, x44, x45, x46, x47, x48, x49, v, r)
def xs_recPc (u : SX) (v : Nat → Int32) : SX := match u with | (x0, x1, x2, x3, x4, x5, x6, x7, x8, x9, x10, x11, x12, x13, x14, x15, x16, x17, x18, x19, x20, x21, x22, x23, x24, x25, x26, x27, x28, x29, x30, x31, x32, x33, x34, x35, x36, x37, x38, x39, x40, x41, x42, x43, x44, x45, x46, x47, x48, x49, x50, _, r) => (x0, x1, x2, x3, x4, x5, x6, x7, x8, x9, x10, x11, x12, x13, x14, x15, x16, x17, x18, x19, x20, x21, x22, x23, x24, x25, x26, x27, x28, x29, x30, x31, x32, x33, x34, x35, x36, x37, x38, x39, x40, x41, x42, x43, x44, x45, x46, x47, x48, x49, x50, v, r)
def xs_recWord (u : SX) (v : Nat → Int32) : SX := match u with | (x0, x1, x2, x3, x4, x5, x6, x7, x8, x9, x10, x11, x12, x13, x14, x15, x16, x17, x18, x19, x20, x21, x22, x23, x24, x25, x26, x27, x28, x29, x30, x31, x32, x33, x34, x35, x36, x37, x38, x39, x40, x41, x42, x43, x44, x45, x46, x47, x48, x49, x50, x51, _, r) => (x0, x1, x2, x3, x4, x5, x6, x7, x8, x9, x10, x11, x12, x13, x14, x15, x16, x17, x18, x19, x20, x21, x22, x23, x24, x25, x26, x27, x28, x29, x30, x31, x32, x33, x34, x35, x36, x37, x38, x39, x40, x41, x42, x43, x44, x45, x46, x47, x48, x49, x50, x51, v, r)
def xs_recNext (u : SX) (v : Nat → Int32) : SX := match u with | (x0, x1, x2, x3, x4, x5, x6, x7, x8, x9, x10, x11, x12, x13, x14, x15, x16, x17, x18, x19, x20, x21, x22, x23, x24, x25, x26, x27, x28, x29, x30, x31, x32, x33, x34, x35, x36, x37, x38, x39, x40, x41, x42, x43, x44, x45, x46, x47, x48, x49, x50, x51, x52, _, r) => (x0, x1, x2, x3, x4, x5, x6, x7, x8, x9, x10, x11, x12, x13, x14, x15, x16, x17, x18, x19, x20, x21, x22, x23, x24, x25, x26, x27, x28, x29, x30, x31, x32, x33, x34, x35, x36, x37, x38, x39, x40, x41, x42, x43, x44, x45, x46, x47, x48, x49, x50, x51, x52, v, r)
def xs_trLive (u : SX) (v : Nat → Int32) : SX := match u with | (x0, x1, x2, x3, x4, x5, x6, x7, x8, x9, x10, x11, x12, x13, x14, x15, x16, x17, x18, x19, x20, x21, x22, x23, x24, x25, x26, x27, x28, x29, x30, x31, x32, x33, x34, x35, x36, x37, x38, x39, x40, x41, x42, x43, x44, x45, x46, x47, x48, x49, x50, x51, x52, x53, _, r) => (x0, x1, x2, x3, x4, x5, x6, x7, x8, x9, x10, x11, x12, x13, x14, x15, x16, x17, x18, x19, x20, x21, x22, x23, x24, x25, x26, x27, x28, x29, x30, x31, x32, x33, x34, x35, x36, x37, x38, x39, x40, x41, x42, x43, x44, x45, x46, x47, x48, x49, x50, x51, x52, x53, v, r)
def xs_trHead (u : SX) (v : Nat → Int32) : SX := match u with | (x0, x1, x2, x3, x4, x5, x6, x7, x8, x9, x10, x11, x12, x13, x14, x15, x16, x17, x18, x19, x20, x21, x22, x23, x24, x25, x26, x27, x28, x29, x30, x31, x32, x33, x34, x35, x36, x37, x38, x39, x40, x41, x42, x43, x44, x45, x46, x47, x48, x49, x50, x51, x52, x53, x54, _, r) => (x0, x1, x2, x3, x4, x5, x6, x7, x8, x9, x10, x11, x12, x13, x14, x15, x16, x17, x18, x19, x20, x21, x22, x23, x24, x25, x26, x27, x28, x29, x30, x31, x32, x33, x34, x35, x36, x37, x38, x39, x40, x41, x42, x43, x44, x45, x46, x47, x48, x49, x50, x51, x52, x53, x54, v, r)
def xs_trLen (u : SX) (v : Nat → Int32) : SX := match u with | (x0, x1, x2, x3, x4, x5, x6, x7, x8, x9, x10, x11, x12, x13, x14, x15, x16, x17, x18, x19, x20, x21, x22, x23, x24, x25, x26, x27, x28, x29, x30, x31, x32, x33, x34, x35, x36, x37, x38, x39, x40, x41, x42, x43, x44, x45, x46, x47, x48, x49, x50, x51, x52, x53, x54, x55, _, r) => (x0, x1, x2, x3, x4, x5, x6, x7, x8, x9, x10, x11, x12, x13, x14, x15, x16, x17, x18, x19, x20, x21, x22, x23, x24, x25, x26, x27, x28, x29, x30, x31, x32, x33, x34, x35, x36, x37, x38, x39, x40, x41, x42, x43, x44, x45, x46, x47, x48, x49, x50, x51, x52, x53, x54, x55, v, r)
def xs_trMask (u : SX) (v : Nat → Int64) : SX := match u with | (x0, x1, x2, x3, x4, x5, x6, x7, x8, x9, x10, x11, x12, x13, x14, x15, x16, x17, x18, x19, x20, x21, x22, x23, x24, x25, x26, x27, x28, x29, x30, x31, x32, x33, x34, x35, x36, x37, x38, x39, x40, x41, x42, x43, x44, x45, x46, x47, x48, x49, x50, x51, x52, x53, x54, x55, x56, _, r) => (x0, x1, x2, x3, x4, x5, x6, x7, x8, x9, x10, x11, x12, x13, x14, x15, x16, x17, x18, x19, x20, x21, x22, x23, x24, x25, x26, x27, x28, x29, x30, x31, x32, x33, x34, x35, x36, x37, x38, x39, x40, x41, x42, x43, x44, x45, x46, x47, x48, x49, x50, x51, x52, x53, x54, x55, x56, v, r)
def xs_trIr (u : SX) (v : Nat → Int32) : SX := match u with | (x0, x1, x2, x3, x4, x5, x6, x7, x8, x9, x10, x11, x12, x13, x14, x15, x16, x17, x18, x19, x20, x21, x22, x23, x24, x25, x26, x27, x28, x29, x30, x31, x32, x33, x34, x35, x36, x37, x38, x39, x40, x41, x42, x43, x44, x45, x46, x47, x48, x49, x50, x51, x52, x53, x54, x55, x56, x57, _, r) => (x0, x1, x2, x3, x4, x5, x6, x7, x8, x9, x10, x11, x12, x13, x14, x15, x16, x17, x18, x19, x20, x21, x22, x23, x24, x25, x26, x27, x28, x29, x30, x31, x32, x33, x34, x35, x36, x37, x38, x39, x40, x41, x42, x43, x44, x45, x46, x47, x48, x49, x50, x51, x52, x53, x54, x55, x56, x57, v, r)
def xs_trVals (u : SX) (v : Nat → Int32) : SX := match u with | (x0, x1, x2, x3, x4, x5, x6, x7, x8, x9, x10, x11, x12, x13, x14, x15, x16, x17, x18, x19, x20, x21, x22, x23, x24, x25, x26, x27, x28, x29, x30, x31, x32, x33, x34, x35, x36, x37, x38, x39, x40, x41, x42, x43, x44, x45, x46, x47, x48, x49, x50, x51, x52, x53, x54, x55, x56, x57, x58, _, r) => (x0, x1, x2, x3, x4, x5, x6, x7, x8, x9, x10, x11, x12, x13, x14, x15, x16, x17, x18, x19, x20, x21, x22, x23, x24, x25, x26, x27, x28, x29, x30, x31, x32, x33, x34, x35, x36, x37, x38, x39, x40, x41, x42, x43, x44, x45, x46, x47, x48, x49, x50, x51, x52, x53, x54, x55, x56, x57, x58, v, r)
def xs_trCross (u : SX) (v : Nat → Int32) : SX := match u with | (x0, x1, x2, x3, x4, x5, x6, x7, x8, x9, x10, x11, x12, x13, x14, x15, x16, x17, x18, x19, x20, x21, x22, x23, x24, x25, x26, x27, x28, x29, x30, x31, x32, x33, x34, x35, x36, x37, x38, x39, x40, x41, x42, x43, x44, x45, x46, x47, x48, x49, x50, x51, x52, x53, x54, x55, x56, x57, x58, x59, _, r) => (x0, x1, x2, x3, x4, x5, x6, x7, x8, x9, x10, x11, x12, x13, x14, x15, x16, x17, x18, x19, x20, x21, x22, x23, x24, x25, x26, x27, x28, x29, x30, x31, x32, x33, x34, x35, x36, x37, x38, x39, x40, x41, x42, x43, x44, x45, x46, x47, x48, x49, x50, x51, x52, x53, x54, x55, x56, x57, x58, x59, v, r)
def xs_trMiss (u : SX) (v : Nat → Int32) : SX := match u with | (x0, x1, x2, x3, x4, x5, x6, x7, x8, x9, x10, x11, x12, x13, x14, x15, x16, x17, x18, x19, x20, x21, x22, x23, x24, x25, x26, x27, x28, x29, x30, x31, x32, x33, x34, x35, x36, x37, x38, x39, x40, x41, x42, x43, x44, x45, x46, x47, x48, x49, x50, x51, x52, x53, x54, x55, x56, x57, x58, x59, x60, _, r) => (x0, x1, x2, x3, x4, x5, x6, x7, x8, x9, x10, x11, x12, x13, x14, x15, x16, x17, x18, x19, x20, x21, x22, x23, x24, x25, x26, x27, x28, x29, x30, x31, x32, x33, x34, x35, x36, x37, x38, x39, x40, x41, x42, x43, x44, x45, x46, x47, x48, x49, x50, x51, x52, x53, x54, x55, x56, x57, x58, x59, x60, v, r)
def xs_trTargets (u : SX) (v : Nat → Int32) : SX := match u with | (x0, x1, x2, x3, x4, x5, x6, x7, x8, x9, x10, x11, x12, x13, x14, x15, x16, x17, x18, x19, x20, x21, x22, x23, x24, x25, x26, x27, x28, x29, x30, x31, x32, x33, x34, x35, x36, x37, x38, x39, x40, x41, x42, x43, x44, x45, x46, x47, x48, x49, x50, x51, x52, x53, x54, x55, x56, x57, x58, x59, x60, x61, _, r) => (x0, x1, x2, x3, x4, x5, x6, x7, x8, x9, x10, x11, x12, x13, x14, x15, x16, x17, x18, x19, x20, x21, x22, x23, x24, x25, x26, x27, x28, x29, x30, x31, x32, x33, x34, x35, x36, x37, x38, x39, x40, x41, x42, x43, x44, x45, x46, x47, x48, x49, x50, x51, x52, x53, x54, x55, x56, x57, x58, x59, x60, x61, v, r)
def xs_irOp (u : SX) (v : Nat → Int32) : SX := match u with | (x0, x1, x2, x3, x4, x5, x6, x7, x8, x9, x10, x11, x12, x13, x14, x15, x16, x17, x18, x19, x20, x21, x22, x23, x24, x25, x26, x27, x28, x29, x30, x31, x32, x33, x34, x35, x36, x37, x38, x39, x40, x41, x42, x43, x44, x45, x46, x47, x48, x49, x50, x51, x52, x53, x54, x55, x56, x57, x58, x59, x60, x61, x62, _, r) => (x0, x1, x2, x3, x4, x5, x6, x7, x8, x9, x10, x11, x12, x13, x14, x15, x16, x17, x18, x19, x20, x21, x22, x23, x24, x25, x26, x27, x28, x29, x30, x31, x32, x33, x34, x35, x36, x37, x38, x39, x40, x41, x42, x43, x44, x45, x46, x47, x48, x49, x50, x51, x52, x53, x54, x55, x56, x57, x58, x59, x60, x61, x62, v, r)
def xs_irA (u : SX) (v : Nat → Int32) : SX := match u with | (x0, x1, x2, x3, x4, x5, x6, x7, x8, x9, x10, x11, x12, x13, x14, x15, x16, x17, x18, x19, x20, x21, x22, x23, x24, x25, x26, x27, x28, x29, x30, x31, x32, x33, x34, x35, x36, x37, x38, x39, x40, x41, x42, x43, x44, x45, x46, x47, x48, x49, x50, x51, x52, x53, x54, x55, x56, x57, x58, x59, x60, x61, x62, x63, _, r) => (x0, x1, x2, x3, x4, x5, x6, x7, x8, x9, x10, x11, x12, x13, x14, x15, x16, x17, x18, x19, x20, x21, x22, x23, x24, x25, x26, x27, x28, x29, x30, x31, x32, x33, x34, x35, x36, x37, x38, x39, x40, x41, x42, x43, x44, x45, x46, x47, x48, x49, x50, x51, x52, x53, x54, x55, x56, x57, x58, x59, x60, x61, x62, x63, v, r)
def xs_irB (u : SX) (v : Nat → Int32) : SX := match u with | (x0, x1, x2, x3, x4, x5, x6, x7, x8, x9, x10, x11, x12, x13, x14, x15, x16, x17, x18, x19, x20, x21, x22, x23, x24, x25, x26, x27, x28, x29, x30, x31, x32, x33, x34, x35, x36, x37, x38, x39, x40, x41, x42, x43, x44, x45, x46, x47, x48, x49, x50, x51, x52, x53, x54, x55, x56, x57, x58, x59, x60, x61, x62, x63, x64, _, r) => (x0, x1, x2, x3, x4, x5, x6, x7, x8, x9, x10, x11, x12, x13, x14, x15, x16, x17, x18, x19, x20, x21, x22, x23, x24, x25, x26, x27, x28, x29, x30, x31, x32, x33, x34, x35, x36, x37, x38, x39, x40, x41, x42, x43, x44, x45, x46, x47, x48, x49, x50, x51, x52, x53, x54, x55, x56, x57, x58, x59, x60, x61, x62, x63, x64, v, r)
def xs_irD (u : SX) (v : Nat → Int32) : SX := match u with | (x0, x1, x2, x3, x4, x5, x6, x7, x8, x9, x10, x11, x12, x13, x14, x15, x16, x17, x18, x19, x20, x21, x22, x23, x24, x25, x26, x27, x28, x29, x30, x31, x32, x33, x34, x35, x36, x37, x38, x39, x40, x41, x42, x43, x44, x45, x46, x47, x48, x49, x50, x51, x52, x53, x54, x55, x56, x57, x58, x59, x60, x61, x62, x63, x64, x65, _, r) => (x0, x1, x2, x3, x4, x5, x6, x7, x8, x9, x10, x11, x12, x13, x14, x15, x16, x17, x18, x19, x20, x21, x22, x23, x24, x25, x26, x27, x28, x29, x30, x31, x32, x33, x34, x35, x36, x37, x38, x39, x40, x41, x42, x43, x44, x45, x46, x47, x48, x49, x50, x51, x52, x53, x54, x55, x56, x57, x58, x59, x60, x61, x62, x63, x64, x65, v, r)
def xs_kFlag (u : SX) (v : Nat → Int32) : SX := match u with | (x0, x1, x2, x3, x4, x5, x6, x7, x8, x9, x10, x11, x12, x13, x14, x15, x16, x17, x18, x19, x20, x21, x22, x23, x24, x25, x26, x27, x28, x29, x30, x31, x32, x33, x34, x35, x36, x37, x38, x39, x40, x41, x42, x43, x44, x45, x46, x47, x48, x49, x50, x51, x52, x53, x54, x55, x56, x57, x58, x59, x60, x61, x62, x63, x64, x65, x66, _, r) => (x0, x1, x2, x3, x4, x5, x6, x7, x8, x9, x10, x11, x12, x13, x14, x15, x16, x17, x18, x19, x20, x21, x22, x23, x24, x25, x26, x27, x28, x29, x30, x31, x32, x33, x34, x35, x36, x37, x38, x39, x40, x41, x42, x43, x44, x45, x46, x47, x48, x49, x50, x51, x52, x53, x54, x55, x56, x57, x58, x59, x60, x61, x62, x63, x64, x65, x66, v, r)
def xs_kVal (u : SX) (v : Nat → Int32) : SX := match u with | (x0, x1, x2, x3, x4, x5, x6, x7, x8, x9, x10, x11, x12, x13, x14, x15, x16, x17, x18, x19, x20, x21, x22, x23, x24, x25, x26, x27, x28, x29, x30, x31, x32, x33, x34, x35, x36, x37, x38, x39, x40, x41, x42, x43, x44, x45, x46, x47, x48, x49, x50, x51, x52, x53, x54, x55, x56, x57, x58, x59, x60, x61, x62, x63, x64, x65, x66, x67, _, r) => (x0, x1, x2, x3, x4, x5, x6, x7, x8, x9, x10, x11, x12, x13, x14, x15, x16, x17, x18, x19, x20, x21, x22, x23, x24, x25, x26, x27, x28, x29, x30, x31, x32, x33, x34, x35, x36, x37, x38, x39, x40, x41, x42, x43, x44, x45, x46, x47, x48, x49, x50, x51, x52, x53, x54, x55, x56, x57, x58, x59, x60, x61, x62, x63, x64, x65, x66, x67, v, r)
def xs_exPc (u : SX) (v : Nat → Int32) : SX := match u with | (x0, x1, x2, x3, x4, x5, x6, x7, x8, x9, x10, x11, x12, x13, x14, x15, x16, x17, x18, x19, x20, x21, x22, x23, x24, x25, x26, x27, x28, x29, x30, x31, x32, x33, x34, x35, x36, x37, x38, x39, x40, x41, x42, x43, x44, x45, x46, x47, x48, x49, x50, x51, x52, x53, x54, x55, x56, x57, x58, x59, x60, x61, x62, x63, x64, x65, x66, x67, x68, _, r) => (x0, x1, x2, x3, x4, x5, x6, x7, x8, x9, x10, x11, x12, x13, x14, x15, x16, x17, x18, x19, x20, x21, x22, x23, x24, x25, x26, x27, x28, x29, x30, x31, x32, x33, x34, x35, x36, x37, x38, x39, x40, x41, x42, x43, x44, x45, x46, x47, x48, x49, x50, x51, x52, x53, x54, x55, x56, x57, x58, x59, x60, x61, x62, x63, x64, x65, x66, x67, x68, v, r)
def xs_exSteps (u : SX) (v : Nat → Int32) : SX := match u with | (x0, x1, x2, x3, x4, x5, x6, x7, x8, x9, x10, x11, x12, x13, x14, x15, x16, x17, x18, x19, x20, x21, x22, x23, x24, x25, x26, x27, x28, x29, x30, x31, x32, x33, x34, x35, x36, x37, x38, x39, x40, x41, x42, x43, x44, x45, x46, x47, x48, x49, x50, x51, x52, x53, x54, x55, x56, x57, x58, x59, x60, x61, x62, x63, x64, x65, x66, x67, x68, x69, _, r) => (x0, x1, x2, x3, x4, x5, x6, x7, x8, x9, x10, x11, x12, x13, x14, x15, x16, x17, x18, x19, x20, x21, x22, x23, x24, x25, x26, x27, x28, x29, x30, x31, x32, x33, x34, x35, x36, x37, x38, x39, x40, x41, x42, x43, x44, x45, x46, x47, x48, x49, x50, x51, x52, x53, x54, x55, x56, x57, x58, x59, x60, x61, x62, x63, x64, x65, x66, x67, x68, x69, v, r)
def xs_exCross (u : SX) (v : Nat → Int32) : SX := match u with | (x0, x1, x2, x3, x4, x5, x6, x7, x8, x9, x10, x11, x12, x13, x14, x15, x16, x17, x18, x19, x20, x21, x22, x23, x24, x25, x26, x27, x28, x29, x30, x31, x32, x33, x34, x35, x36, x37, x38, x39, x40, x41, x42, x43, x44, x45, x46, x47, x48, x49, x50, x51, x52, x53, x54, x55, x56, x57, x58, x59, x60, x61, x62, x63, x64, x65, x66, x67, x68, x69, x70, _, r) => (x0, x1, x2, x3, x4, x5, x6, x7, x8, x9, x10, x11, x12, x13, x14, x15, x16, x17, x18, x19, x20, x21, x22, x23, x24, x25, x26, x27, x28, x29, x30, x31, x32, x33, x34, x35, x36, x37, x38, x39, x40, x41, x42, x43, x44, x45, x46, x47, x48, x49, x50, x51, x52, x53, x54, x55, x56, x57, x58, x59, x60, x61, x62, x63, x64, x65, x66, x67, x68, x69, x70, v, r)
def xs_snap (u : SX) (v : Nat → Int32) : SX := match u with | (x0, x1, x2, x3, x4, x5, x6, x7, x8, x9, x10, x11, x12, x13, x14, x15, x16, x17, x18, x19, x20, x21, x22, x23, x24, x25, x26, x27, x28, x29, x30, x31, x32, x33, x34, x35, x36, x37, x38, x39, x40, x41, x42, x43, x44, x45, x46, x47, x48, x49, x50, x51, x52, x53, x54, x55, x56, x57, x58, x59, x60, x61, x62, x63, x64, x65, x66, x67, x68, x69, x70, x71, _, r) => (x0, x1, x2, x3, x4, x5, x6, x7, x8, x9, x10, x11, x12, x13, x14, x15, x16, x17, x18, x19, x20, x21, x22, x23, x24, x25, x26, x27, x28, x29, x30, x31, x32, x33, x34, x35, x36, x37, x38, x39, x40, x41, x42, x43, x44, x45, x46, x47, x48, x49, x50, x51, x52, x53, x54, x55, x56, x57, x58, x59, x60, x61, x62, x63, x64, x65, x66, x67, x68, x69, x70, x71, v, r)
def xs_val (u : SX) (v : Nat → Int32) : SX := match u with | (x0, x1, x2, x3, x4, x5, x6, x7, x8, x9, x10, x11, x12, x13, x14, x15, x16, x17, x18, x19, x20, x21, x22, x23, x24, x25, x26, x27, x28, x29, x30, x31, x32, x33, x34, x35, x36, x37, x38, x39, x40, x41, x42, x43, x44, x45, x46, x47, x48, x49, x50, x51, x52, x53, x54, x55, x56, x57, x58, x59, x60, x61, x62, x63, x64, x65, x66, x67, x68, x69, x70, x71, x72, _, r) => (x0, x1, x2, x3, x4, x5, x6, x7, x8, x9, x10, x11, x12, x13, x14, x15, x16, x17, x18, x19, x20, x21, x22, x23, x24, x25, x26, x27, x28, x29, x30, x31, x32, x33, x34, x35, x36, x37, x38, x39, x40, x41, x42, x43, x44, x45, x46, x47, x48, x49, x50, x51, x52, x53, x54, x55, x56, x57, x58, x59, x60, x61, x62, x63, x64, x65, x66, x67, x68, x69, x70, x71, x72, v, r)
def xs_env (u : SX) (v : Nat → Int32) : SX := match u with | (x0, x1, x2, x3, x4, x5, x6, x7, x8, x9, x10, x11, x12, x13, x14, x15, x16, x17, x18, x19, x20, x21, x22, x23, x24, x25, x26, x27, x28, x29, x30, x31, x32, x33, x34, x35, x36, x37, x38, x39, x40, x41, x42, x43, x44, x45, x46, x47, x48, x49, x50, x51, x52, x53, x54, x55, x56, x57, x58, x59, x60, x61, x62, x63, x64, x65, x66, x67, x68, x69, x70, x71, x72, x73, _, r) => (x0, x1, x2, x3, x4, x5, x6, x7, x8, x9, x10, x11, x12, x13, x14, x15, x16, x17, x18, x19, x20, x21, x22, x23, x24, x25, x26, x27, x28, x29, x30, x31, x32, x33, x34, x35, x36, x37, x38, x39, x40, x41, x42, x43, x44, x45, x46, x47, x48, x49, x50, x51, x52, x53, x54, x55, x56, x57, x58, x59, x60, x61, x62, x63, x64, x65, x66, x67, x68, x69, x70, x71, x72, x73, v, r)
def xs_defAt (u : SX) (v : Nat → Int32) : SX := match u with | (x0, x1, x2, x3, x4, x5, x6, x7, x8, x9, x10, x11, x12, x13, x14, x15, x16, x17, x18, x19, x20, x21, x22, x23, x24, x25, x26, x27, x28, x29, x30, x31, x32, x33, x34, x35, x36, x37, x38, x39, x40, x41, x42, x43, x44, x45, x46, x47, x48, x49, x50, x51, x52, x53, x54, x55, x56, x57, x58, x59, x60, x61, x62, x63, x64, x65, x66, x67, x68, x69, x70, x71, x72, x73, x74, _, r) => (x0, x1, x2, x3, x4, x5, x6, x7, x8, x9, x10, x11, x12, x13, x14, x15, x16, x17, x18, x19, x20, x21, x22, x23, x24, x25, x26, x27, x28, x29, x30, x31, x32, x33, x34, x35, x36, x37, x38, x39, x40, x41, x42, x43, x44, x45, x46, x47, x48, x49, x50, x51, x52, x53, x54, x55, x56, x57, x58, x59, x60, x61, x62, x63, x64, x65, x66, x67, x68, x69, x70, x71, x72, x73, x74, v, r)
def xs_used (u : SX) (v : Nat → Int32) : SX := match u with | (x0, x1, x2, x3, x4, x5, x6, x7, x8, x9, x10, x11, x12, x13, x14, x15, x16, x17, x18, x19, x20, x21, x22, x23, x24, x25, x26, x27, x28, x29, x30, x31, x32, x33, x34, x35, x36, x37, x38, x39, x40, x41, x42, x43, x44, x45, x46, x47, x48, x49, x50, x51, x52, x53, x54, x55, x56, x57, x58, x59, x60, x61, x62, x63, x64, x65, x66, x67, x68, x69, x70, x71, x72, x73, x74, x75, _) => (x0, x1, x2, x3, x4, x5, x6, x7, x8, x9, x10, x11, x12, x13, x14, x15, x16, x17, x18, x19, x20, x21, x22, x23, x24, x25, x26, x27, x28, x29, x30, x31, x32, x33, x34, x35, x36, x37, x38, x39, x40, x41, x42, x43, x44, x45, x46, x47, x48, x49, x50, x51, x52, x53, x54, x55, x56, x57, x58, x59, x60, x61, x62, x63, x64, x65, x66, x67, x68, x69, x70, x71, x72, x73, x74, x75, v)
/-! getters and setters of SY -/
def yg_codeSize (u : SY) : Int32 := match u with | (v, _) => v
def yg_memSize (u : SY) : Int32 := match u with | (_, v, _) => v
def yg_hot (u : SY) : Int32 := match u with | (_, _, v, _) => v
def yg_pc (u : SY) : Int32 := match u with | (_, _, _, v, _) => v
def yg_status (u : SY) : Int32 := match u with | (_, _, _, _, v, _) => v
def yg_steps (u : SY) : Int32 := match u with | (_, _, _, _, _, v, _) => v
def yg_cursor (u : SY) : Int32 := match u with | (_, _, _, _, _, _, v, _) => v
def yg_outCount (u : SY) : Int32 := match u with | (_, _, _, _, _, _, _, v, _) => v
def yg_code (u : SY) : Nat → Int32 := match u with | (_, _, _, _, _, _, _, _, v, _) => v
def yg_crossings (u : SY) : Nat → Int32 := match u with | (_, _, _, _, _, _, _, _, _, v, _) => v
def yg_mem (u : SY) : Nat → Int32 := match u with | (_, _, _, _, _, _, _, _, _, _, v, _) => v
def yg_r (u : SY) : Nat → Int32 := match u with | (_, _, _, _, _, _, _, _, _, _, _, v, _) => v
def yg_out (u : SY) : Nat → Int32 := match u with | (_, _, _, _, _, _, _, _, _, _, _, _, v) => v
def ys_codeSize (u : SY) (v : Int32) : SY := match u with | (_, r) => (v, r)
def ys_memSize (u : SY) (v : Int32) : SY := match u with | (x0, _, r) => (x0, v, r)
def ys_hot (u : SY) (v : Int32) : SY := match u with | (x0, x1, _, r) => (x0, x1, v, r)
def ys_pc (u : SY) (v : Int32) : SY := match u with | (x0, x1, x2, _, r) => (x0, x1, x2, v, r)
def ys_status (u : SY) (v : Int32) : SY := match u with | (x0, x1, x2, x3, _, r) => (x0, x1, x2, x3, v, r)
def ys_steps (u : SY) (v : Int32) : SY := match u with | (x0, x1, x2, x3, x4, _, r) => (x0, x1, x2, x3, x4, v, r)
def ys_cursor (u : SY) (v : Int32) : SY := match u with | (x0, x1, x2, x3, x4, x5, _, r) => (x0, x1, x2, x3, x4, x5, v, r)
def ys_outCount (u : SY) (v : Int32) : SY := match u with | (x0, x1, x2, x3, x4, x5, x6, _, r) => (x0, x1, x2, x3, x4, x5, x6, v, r)
def ys_code (u : SY) (v : Nat → Int32) : SY := match u with | (x0, x1, x2, x3, x4, x5, x6, x7, _, r) => (x0, x1, x2, x3, x4, x5, x6, x7, v, r)
def ys_crossings (u : SY) (v : Nat → Int32) : SY := match u with | (x0, x1, x2, x3, x4, x5, x6, x7, x8, _, r) => (x0, x1, x2, x3, x4, x5, x6, x7, x8, v, r)
def ys_mem (u : SY) (v : Nat → Int32) : SY := match u with | (x0, x1, x2, x3, x4, x5, x6, x7, x8, x9, _, r) => (x0, x1, x2, x3, x4, x5, x6, x7, x8, x9, v, r)
def ys_r (u : SY) (v : Nat → Int32) : SY := match u with | (x0, x1, x2, x3, x4, x5, x6, x7, x8, x9, x10, _, r) => (x0, x1, x2, x3, x4, x5, x6, x7, x8, x9, x10, v, r)
def ys_out (u : SY) (v : Nat → Int32) : SY := match u with | (x0, x1, x2, x3, x4, x5, x6, x7, x8, x9, x10, x11, _) => (x0, x1, x2, x3, x4, x5, x6, x7, x8, x9, x10, x11, v)
end
section
set_option maxRecDepth 20000
section
theorem xu_clamp (post : Int32 → Prop) (u : SX) (p0 : Int32) (p1 : Int32) (p2 : Int32) : wpX_clamp post u p0 p1 p2 = (((p1 ≤ p0 → (((p0 ≤ p2 → (post p0)) ∧ (¬ p0 ≤ p2 → (post p2))))) ∧ (¬ p1 ≤ p0 → (post p1)))) := rfl
theorem xu_inMask (post : Int32 → Prop) (u : SX) (p0 : Int64) (p1 : Int32) : wpX_inMask post u p0 p1 = ((((((p0.toUInt64 >>> (p1.toInt64.toUInt64 &&& Int64.toUInt64 63)).toInt64) &&& 1) = 0 → (post 0)) ∧ (¬ (((p0.toUInt64 >>> (p1.toInt64.toUInt64 &&& Int64.toUInt64 63)).toInt64) &&& 1) = 0 → (post 1)))) := rfl
theorem xu_dropSlot (post : SX → Prop) (u : SX) (p0 : Int32) : wpX_dropSlot post u p0 = (vp_in p0 8 ∧ (((((xg_trLive u) p0.toNatClampNeg) = 0 → (post u)) ∧ (¬ ((xg_trLive u) p0.toNatClampNeg) = 0 → (vp_in p0 8 ∧ ∀ a_trLive_4 : Nat → Int32, a_trLive_4 = upd (xg_trLive u) p0.toNatClampNeg (vp_nar .boolean 0) → (vp_in p0 8 ∧ (vp_in ((xg_trHead u) p0.toNatClampNeg) 64 ∧ ∀ a_slotOf_7 : Nat → Int32, a_slotOf_7 = upd (xg_slotOf u) ((xg_trHead u) p0.toNatClampNeg).toNatClampNeg 0 → (vp_in p0 8 ∧ (vp_in ((xg_trHead u) p0.toNatClampNeg) 64 ∧ ∀ a_heat_10 : Nat → Int32, a_heat_10 = upd (xg_heat u) ((xg_trHead u) p0.toNatClampNeg).toNatClampNeg 0 → (post (xs_trLive (xs_slotOf (xs_heat u a_heat_10) a_slotOf_7) a_trLive_4))))))))))) := rfl
theorem xu_abortRecording (post : SX → Prop) (u : SX) : wpX_abortRecording post u = ((((xg_recording u) = 0 → (post u)) ∧ (¬ (xg_recording u) = 0 → (vp_in (xg_recHead u) 64 ∧ (vp_in (xg_recHead u) 64 ∧ ∀ a_fails_4 : Nat → Int32, a_fails_4 = upd (xg_fails u) (xg_recHead u).toNatClampNeg (((xg_fails u) (xg_recHead u).toNatClampNeg) + 1) → (post (xs_fails (xs_recording u 0) a_fails_4))))))) := rfl
def xq_storeCode_32 (post : SX → Prop) (x1 : Int32) (n : Nat) (x3 : Int32) (u : SX) : Prop := wX_storeCode_32 post x1 n x3 (xg_G_EQ u) (xg_G_NE u) (xg_G_LT u) (xg_G_GE u) (xg_G_MEM u) (xg_G_CODE u) (xg_G_STC u) (xg_G_ROOM u) (xg_SLOTS u) (xg_REC_CAP u) (xg_IR_CAP u) (xg_VAL_CAP u) (xg_EXIT_CAP u) (xg_MAX_FAILS u) (xg_MAX_MISSES u) (xg_codeSize u) (xg_memSize u) (xg_outCount u) (xg_pc u) (xg_status u) (xg_steps u) (xg_cursor u) (xg_hot u) (xg_done u) (xg_crossed u) (xg_nextPc u) (xg_crossedTo u) (xg_recording u) (xg_recHead u) (xg_recLen u) (xg_recMask u) (xg_nextVictim u) (xg_runMask u) (xg_buildOk u) (xg_buildSlot u) (xg_buildStep u) (xg_buildPc u) (xg_bIr u) (xg_bVal u) (xg_irCount u) (xg_valCount u) (xg_exitCount u) (xg_crossCount u) (xg_code u) (xg_mem u) (xg_r u) (xg_crossings u) (xg_out u) (xg_heat u) (xg_fails u) (xg_slotOf u) (xg_recPc u) (xg_recWord u) (xg_recNext u) (xg_trLive u) (xg_trHead u) (xg_trLen u) (xg_trMask u) (xg_trIr u) (xg_trVals u) (xg_trCross u) (xg_trMiss u) (xg_trTargets u) (xg_irOp u) (xg_irA u) (xg_irB u) (xg_irD u) (xg_kFlag u) (xg_kVal u) (xg_exPc u) (xg_exSteps u) (xg_exCross u) (xg_snap u) (xg_val u) (xg_env u) (xg_defAt u) (xg_used u)
theorem xu_storeCode_32 (post : SX → Prop) (x1 : Int32) (n : Nat) (x3 : Int32) (u : SX) : xq_storeCode_32 post x1 (n + 1) x3 u = (((8 ≤ x3 → ((((xg_recording u) = 0 → (post u)) ∧ (¬ (xg_recording u) = 0 → (wpX_inMask (fun r_9 => (((r_9 = 0 → (post u)) ∧ (¬ r_9 = 0 → (wpX_abortRecording (fun u1 => (post u1)) u))))) u (xg_recMask u) x1))))) ∧ (¬ 8 ≤ x3 → (vp_in x3 8 ∧ (((((xg_trLive u) x3.toNatClampNeg) = 0 → (∀ x3_168 : Int32, x3_168 = x3 + 1 → (xq_storeCode_32 post x1 n x3_168 u))) ∧ (¬ ((xg_trLive u) x3.toNatClampNeg) = 0 → (vp_in x3 8 ∧ (wpX_inMask (fun r_170 => (((r_170 = 0 → (∀ x3_249 : Int32, x3_249 = x3 + 1 → (xq_storeCode_32 post x1 n x3_249 u))) ∧ (¬ r_170 = 0 → (wpX_dropSlot (fun u2 => (∀ x3_328 : Int32, x3_328 = x3 + 1 → (xq_storeCode_32 post x1 n x3_328 u2))) u x3))))) u ((xg_trMask u) x3.toNatClampNeg) x1))))))))) := rfl
theorem xu_storeCode (post : SX → Prop) (u : SX) (p0 : Int32) (p1 : Int32) : wpX_storeCode post u p0 p1 = (((p0 < 0 → (post u)) ∧ (¬ p0 < 0 → ((((xg_codeSize u) ≤ p0 → (post u)) ∧ (¬ (xg_codeSize u) ≤ p0 → (vp_in p0 64 ∧ (((((xg_code u) p0.toNatClampNeg) = p1 → (post u)) ∧ (¬ ((xg_code u) p0.toNatClampNeg) = p1 → (vp_in p0 64 ∧ ∀ a_code_6 : Nat → Int32, a_code_6 = upd (xg_code u) p0.toNatClampNeg p1 → (∃ n32 : Nat, xq_storeCode_32 post p0 n32 0 (xs_code u a_code_6))))))))))))) := rfl
def xq_forgive_2 (post : SX → Prop) (n : Nat) (x1 : Int32) (u : SX) : Prop := wX_forgive_2 post (xg_G_EQ u) (xg_G_NE u) (xg_G_LT u) (xg_G_GE u) (xg_G_MEM u) (xg_G_CODE u) (xg_G_STC u) (xg_G_ROOM u) (xg_SLOTS u) (xg_REC_CAP u) (xg_IR_CAP u) (xg_VAL_CAP u) (xg_EXIT_CAP u) (xg_MAX_FAILS u) (xg_MAX_MISSES u) (xg_codeSize u) (xg_memSize u) (xg_outCount u) (xg_pc u) (xg_status u) (xg_steps u) (xg_cursor u) (xg_hot u) (xg_done u) (xg_crossed u) (xg_nextPc u) (xg_crossedTo u) (xg_recording u) (xg_recHead u) (xg_recLen u) (xg_recMask u) (xg_nextVictim u) (xg_runMask u) (xg_buildOk u) (xg_buildSlot u) (xg_buildStep u) (xg_buildPc u) (xg_bIr u) (xg_bVal u) (xg_irCount u) (xg_valCount u) (xg_exitCount u) (xg_crossCount u) n x1 (xg_code u) (xg_mem u) (xg_r u) (xg_crossings u) (xg_out u) (xg_heat u) (xg_fails u) (xg_slotOf u) (xg_recPc u) (xg_recWord u) (xg_recNext u) (xg_trLive u) (xg_trHead u) (xg_trLen u) (xg_trMask u) (xg_trIr u) (xg_trVals u) (xg_trCross u) (xg_trMiss u) (xg_trTargets u) (xg_irOp u) (xg_irA u) (xg_irB u) (xg_irD u) (xg_kFlag u) (xg_kVal u) (xg_exPc u) (xg_exSteps u) (xg_exCross u) (xg_snap u) (xg_val u) (xg_env u) (xg_defAt u) (xg_used u)
theorem xu_forgive_2 (post : SX → Prop) (n : Nat) (x1 : Int32) (u : SX) : xq_forgive_2 post (n + 1) x1 u = (((64 ≤ x1 → (post u)) ∧ (¬ 64 ≤ x1 → (vp_in x1 64 ∧ ∀ a_fails_3 : Nat → Int32, a_fails_3 = upd (xg_fails u) x1.toNatClampNeg 0 → (∀ x1_4 : Int32, x1_4 = x1 + 1 → (xq_forgive_2 post n x1_4 (xs_fails u a_fails_3))))))) := rfl
theorem xu_forgive (post : SX → Prop) (u : SX) : wpX_forgive post u = (∃ n2 : Nat, xq_forgive_2 post n2 0 u) := rfl
theorem xu_emit (post : Int32 → SX → Prop) (u : SX) (p0 : Int32) (p1 : Int32) (p2 : Int32) (p3 : Int32) : wpX_emit post u p0 p1 p2 p3 = ((((xg_cursor u) < 0 → (post (-1) u)) ∧ (¬ (xg_cursor u) < 0 → ((((xg_cursor u) < (xg_codeSize u) → (∀ x6_3 : Int32, x6_3 = (((p0 &&& 31) ||| ((p1 &&& 7) <<< ((5 : Int32) &&& 31))) ||| ((p2 &&& 7) <<< ((8 : Int32) &&& 31))) ||| (p3 <<< ((11 : Int32) &&& 31)) → (wpX_storeCode (fun u3 => (wpX_forgive (fun u4 => (∀ f_cursor_160 : Int32, f_cursor_160 = (xg_cursor u) + 1 → (post (xg_cursor u) (xs_cursor u4 f_cursor_160)))) u3)) u (xg_cursor u) x6_3))) ∧ (¬ (xg_cursor u) < (xg_codeSize u) → (post (-1) u))))))) := rfl
theorem xu_putWord (post : Int32 → SX → Prop) (u : SX) (p0 : Int32) (p1 : Int32) : wpX_putWord post u p0 p1 = (((p0 < 0 → (post 0 u)) ∧ (¬ p0 < 0 → (((p0 < (xg_codeSize u) → (wpX_storeCode (fun u5 => (wpX_forgive (fun u6 => (post 1 u6)) u5)) u p0 p1)) ∧ (¬ p0 < (xg_codeSize u) → (post 0 u))))))) := rfl
theorem xu_setReg (post : Int32 → SX → Prop) (u : SX) (p0 : Int32) (p1 : Int32) : wpX_setReg post u p0 p1 = (((p0 < 0 → (post 0 u)) ∧ (¬ p0 < 0 → (((p0 < 8 → (vp_in p0 8 ∧ ∀ a_r_4 : Nat → Int32, a_r_4 = upd (xg_r u) p0.toNatClampNeg p1 → (post 1 (xs_r (xs_recording u 0) a_r_4)))) ∧ (¬ p0 < 8 → (post 0 u))))))) := rfl
theorem xu_setMem (post : Int32 → SX → Prop) (u : SX) (p0 : Int32) (p1 : Int32) : wpX_setMem post u p0 p1 = (((p0 < 0 → (post 0 u)) ∧ (¬ p0 < 0 → (((p0 < (xg_memSize u) → (vp_in p0 64 ∧ ∀ a_mem_4 : Nat → Int32, a_mem_4 = upd (xg_mem u) p0.toNatClampNeg p1 → (post 1 (xs_mem (xs_recording u 0) a_mem_4)))) ∧ (¬ p0 < (xg_memSize u) → (post 0 u))))))) := rfl
theorem xu_jumpTo (post : Int32 → SX → Prop) (u : SX) (p0 : Int32) : wpX_jumpTo post u p0 = (((p0 < 0 → (post 0 u)) ∧ (¬ p0 < 0 → (((p0 < (xg_codeSize u) → (post 1 (xs_recording (xs_status (xs_pc u p0) 0) 0))) ∧ (¬ p0 < (xg_codeSize u) → (post 0 u))))))) := rfl
theorem xu_setHot (post : SX → Prop) (u : SX) (p0 : Int32) : wpX_setHot post u p0 = (wpX_clamp (fun r_1 => (post (xs_hot u r_1))) u p0 1 32) := rfl
def xq_restart_69 (post : SX → Prop) (n : Nat) (x1 : Int32) (u : SX) : Prop := wX_restart_69 post (xg_G_EQ u) (xg_G_NE u) (xg_G_LT u) (xg_G_GE u) (xg_G_MEM u) (xg_G_CODE u) (xg_G_STC u) (xg_G_ROOM u) (xg_SLOTS u) (xg_REC_CAP u) (xg_IR_CAP u) (xg_VAL_CAP u) (xg_EXIT_CAP u) (xg_MAX_FAILS u) (xg_MAX_MISSES u) (xg_codeSize u) (xg_memSize u) (xg_outCount u) (xg_pc u) (xg_status u) (xg_steps u) (xg_cursor u) (xg_hot u) (xg_done u) (xg_crossed u) (xg_nextPc u) (xg_crossedTo u) (xg_recording u) (xg_recHead u) (xg_recLen u) (xg_recMask u) (xg_nextVictim u) (xg_runMask u) (xg_buildOk u) (xg_buildSlot u) (xg_buildStep u) (xg_buildPc u) (xg_bIr u) (xg_bVal u) (xg_irCount u) (xg_valCount u) (xg_exitCount u) (xg_crossCount u) n x1 (xg_code u) (xg_mem u) (xg_r u) (xg_crossings u) (xg_out u) (xg_heat u) (xg_fails u) (xg_slotOf u) (xg_recPc u) (xg_recWord u) (xg_recNext u) (xg_trLive u) (xg_trHead u) (xg_trLen u) (xg_trMask u) (xg_trIr u) (xg_trVals u) (xg_trCross u) (xg_trMiss u) (xg_trTargets u) (xg_irOp u) (xg_irA u) (xg_irB u) (xg_irD u) (xg_kFlag u) (xg_kVal u) (xg_exPc u) (xg_exSteps u) (xg_exCross u) (xg_snap u) (xg_val u) (xg_env u) (xg_defAt u) (xg_used u)
theorem xu_restart_69 (post : SX → Prop) (n : Nat) (x1 : Int32) (u : SX) : xq_restart_69 post (n + 1) x1 u = (((64 ≤ x1 → (post u)) ∧ (¬ 64 ≤ x1 → (vp_in x1 64 ∧ ∀ a_crossings_5 : Nat → Int32, a_crossings_5 = upd (xg_crossings u) x1.toNatClampNeg 0 → (vp_in x1 64 ∧ ∀ a_heat_7 : Nat → Int32, a_heat_7 = upd (xg_heat u) x1.toNatClampNeg 0 → (vp_in x1 64 ∧ ∀ a_fails_9 : Nat → Int32, a_fails_9 = upd (xg_fails u) x1.toNatClampNeg 0 → (∀ x1_10 : Int32, x1_10 = x1 + 1 → (xq_restart_69 post n x1_10 (xs_fails (xs_heat (xs_crossings u a_crossings_5) a_heat_7) a_fails_9))))))))) := rfl
def xq_restart_48 (post : SX → Prop) (n : Nat) (x1 : Int32) (u : SX) : Prop := wX_restart_48 post (xg_G_EQ u) (xg_G_NE u) (xg_G_LT u) (xg_G_GE u) (xg_G_MEM u) (xg_G_CODE u) (xg_G_STC u) (xg_G_ROOM u) (xg_SLOTS u) (xg_REC_CAP u) (xg_IR_CAP u) (xg_VAL_CAP u) (xg_EXIT_CAP u) (xg_MAX_FAILS u) (xg_MAX_MISSES u) (xg_codeSize u) (xg_memSize u) (xg_outCount u) (xg_pc u) (xg_status u) (xg_steps u) (xg_cursor u) (xg_hot u) (xg_done u) (xg_crossed u) (xg_nextPc u) (xg_crossedTo u) (xg_recording u) (xg_recHead u) (xg_recLen u) (xg_recMask u) (xg_nextVictim u) (xg_runMask u) (xg_buildOk u) (xg_buildSlot u) (xg_buildStep u) (xg_buildPc u) (xg_bIr u) (xg_bVal u) (xg_irCount u) (xg_valCount u) (xg_exitCount u) (xg_crossCount u) n x1 (xg_code u) (xg_mem u) (xg_r u) (xg_crossings u) (xg_out u) (xg_heat u) (xg_fails u) (xg_slotOf u) (xg_recPc u) (xg_recWord u) (xg_recNext u) (xg_trLive u) (xg_trHead u) (xg_trLen u) (xg_trMask u) (xg_trIr u) (xg_trVals u) (xg_trCross u) (xg_trMiss u) (xg_trTargets u) (xg_irOp u) (xg_irA u) (xg_irB u) (xg_irD u) (xg_kFlag u) (xg_kVal u) (xg_exPc u) (xg_exSteps u) (xg_exCross u) (xg_snap u) (xg_val u) (xg_env u) (xg_defAt u) (xg_used u)
theorem xu_restart_48 (post : SX → Prop) (n : Nat) (x1 : Int32) (u : SX) : xq_restart_48 post (n + 1) x1 u = (((64 ≤ x1 → (∃ n69 : Nat, xq_restart_69 post n69 0 u)) ∧ (¬ 64 ≤ x1 → (vp_in x1 64 ∧ ∀ a_mem_12 : Nat → Int32, a_mem_12 = upd (xg_mem u) x1.toNatClampNeg 0 → (∀ x1_13 : Int32, x1_13 = x1 + 1 → (xq_restart_48 post n x1_13 (xs_mem u a_mem_12))))))) := rfl
def xq_restart_27 (post : SX → Prop) (n : Nat) (x1 : Int32) (u : SX) : Prop := wX_restart_27 post (xg_G_EQ u) (xg_G_NE u) (xg_G_LT u) (xg_G_GE u) (xg_G_MEM u) (xg_G_CODE u) (xg_G_STC u) (xg_G_ROOM u) (xg_SLOTS u) (xg_REC_CAP u) (xg_IR_CAP u) (xg_VAL_CAP u) (xg_EXIT_CAP u) (xg_MAX_FAILS u) (xg_MAX_MISSES u) (xg_codeSize u) (xg_memSize u) (xg_outCount u) (xg_pc u) (xg_status u) (xg_steps u) (xg_cursor u) (xg_hot u) (xg_done u) (xg_crossed u) (xg_nextPc u) (xg_crossedTo u) (xg_recording u) (xg_recHead u) (xg_recLen u) (xg_recMask u) (xg_nextVictim u) (xg_runMask u) (xg_buildOk u) (xg_buildSlot u) (xg_buildStep u) (xg_buildPc u) (xg_bIr u) (xg_bVal u) (xg_irCount u) (xg_valCount u) (xg_exitCount u) (xg_crossCount u) n x1 (xg_code u) (xg_mem u) (xg_r u) (xg_crossings u) (xg_out u) (xg_heat u) (xg_fails u) (xg_slotOf u) (xg_recPc u) (xg_recWord u) (xg_recNext u) (xg_trLive u) (xg_trHead u) (xg_trLen u) (xg_trMask u) (xg_trIr u) (xg_trVals u) (xg_trCross u) (xg_trMiss u) (xg_trTargets u) (xg_irOp u) (xg_irA u) (xg_irB u) (xg_irD u) (xg_kFlag u) (xg_kVal u) (xg_exPc u) (xg_exSteps u) (xg_exCross u) (xg_snap u) (xg_val u) (xg_env u) (xg_defAt u) (xg_used u)
theorem xu_restart_27 (post : SX → Prop) (n : Nat) (x1 : Int32) (u : SX) : xq_restart_27 post (n + 1) x1 u = (((8 ≤ x1 → (∃ n48 : Nat, xq_restart_48 post n48 0 u)) ∧ (¬ 8 ≤ x1 → (vp_in x1 8 ∧ ∀ a_r_15 : Nat → Int32, a_r_15 = upd (xg_r u) x1.toNatClampNeg 0 → (∀ x1_16 : Int32, x1_16 = x1 + 1 → (xq_restart_27 post n x1_16 (xs_r u a_r_15))))))) := rfl
theorem xu_restart (post : SX → Prop) (u : SX) : wpX_restart post u = (∃ n27 : Nat, xq_restart_27 post n27 0 (xs_recording (xs_steps (xs_status (xs_pc (xs_outCount u 0) 0) 0) 0) 0)) := rfl
theorem xu_roundsAllowed (post : Int32 → Prop) (u : SX) (p0 : Int32) (p1 : Int32) (p2 : Int32) : wpX_roundsAllowed post u p0 p1 p2 = (vp_in p0 8 ∧ (∀ x4_2 : Int32, x4_2 = (xg_trLen u) p0.toNatClampNeg → (vp_in p0 8 ∧ (∀ x5_4 : Int32, x5_4 = (xg_trCross u) p0.toNatClampNeg → (((x4_2 ≤ 0 → (post 0)) ∧ (¬ x4_2 ≤ 0 → (((x5_4 ≤ 0 → (post 0)) ∧ (¬ x5_4 ≤ 0 → (¬ x4_2 = 0 ∧ (∀ x6_8 : Int32, x6_8 = p1 / x4_2 → (¬ x5_4 = 0 ∧ (∀ x7_10 : Int32, x7_10 = p2 / x5_4 → (((x6_8 ≤ x7_10 → (post x6_8)) ∧ (¬ x6_8 ≤ x7_10 → (post x7_10)))))))))))))))))) := rfl
def xq_loadValues_35 (post : SX → Prop) (x1 : Int32) (x2 : Int32) (n : Nat) (x3 : Int32) (u : SX) : Prop := wX_loadValues_35 post x1 x2 (xg_G_EQ u) (xg_G_NE u) (xg_G_LT u) (xg_G_GE u) (xg_G_MEM u) (xg_G_CODE u) (xg_G_STC u) (xg_G_ROOM u) (xg_SLOTS u) (xg_REC_CAP u) (xg_IR_CAP u) (xg_VAL_CAP u) (xg_EXIT_CAP u) (xg_MAX_FAILS u) (xg_MAX_MISSES u) (xg_codeSize u) (xg_memSize u) (xg_outCount u) (xg_pc u) (xg_status u) (xg_steps u) (xg_cursor u) (xg_hot u) (xg_done u) (xg_crossed u) (xg_nextPc u) (xg_crossedTo u) (xg_recording u) (xg_recHead u) (xg_recLen u) (xg_recMask u) (xg_nextVictim u) (xg_runMask u) (xg_buildOk u) (xg_buildSlot u) (xg_buildStep u) (xg_buildPc u) (xg_bIr u) (xg_bVal u) (xg_irCount u) (xg_valCount u) (xg_exitCount u) (xg_crossCount u) n x3 (xg_code u) (xg_mem u) (xg_r u) (xg_crossings u) (xg_out u) (xg_heat u) (xg_fails u) (xg_slotOf u) (xg_recPc u) (xg_recWord u) (xg_recNext u) (xg_trLive u) (xg_trHead u) (xg_trLen u) (xg_trMask u) (xg_trIr u) (xg_trVals u) (xg_trCross u) (xg_trMiss u) (xg_trTargets u) (xg_irOp u) (xg_irA u) (xg_irB u) (xg_irD u) (xg_kFlag u) (xg_kVal u) (xg_exPc u) (xg_exSteps u) (xg_exCross u) (xg_snap u) (xg_val u) (xg_env u) (xg_defAt u) (xg_used u)
theorem xu_loadValues_35 (post : SX → Prop) (x1 : Int32) (x2 : Int32) (n : Nat) (x3 : Int32) (u : SX) : xq_loadValues_35 post x1 x2 (n + 1) x3 u = (vp_in x1 8 ∧ (((((xg_trVals u) x1.toNatClampNeg) ≤ x3 → (post u)) ∧ (¬ ((xg_trVals u) x1.toNatClampNeg) ≤ x3 → (((256 ≤ x3 → (post u)) ∧ (¬ 256 ≤ x3 → (vp_in (x2 + x3) 2048 ∧ (((((xg_kFlag u) (x2 + x3).toNatClampNeg) = 0 → (∀ x3_8 : Int32, x3_8 = x3 + 1 → (xq_loadValues_35 post x1 x2 n x3_8 u))) ∧ (¬ ((xg_kFlag u) (x2 + x3).toNatClampNeg) = 0 → (vp_in (x2 + x3) 2048 ∧ (vp_in x3 256 ∧ ∀ a_val_11 : Nat → Int32, a_val_11 = upd (xg_val u) x3.toNatClampNeg ((xg_kVal u) (x2 + x3).toNatClampNeg) → (∀ x3_12 : Int32, x3_12 = x3 + 1 → (xq_loadValues_35 post x1 x2 n x3_12 (xs_val u a_val_11)))))))))))))))) := rfl
def xq_loadValues_8 (post : SX → Prop) (x1 : Int32) (x2 : Int32) (n : Nat) (x3 : Int32) (u : SX) : Prop := wX_loadValues_8 post x1 x2 (xg_G_EQ u) (xg_G_NE u) (xg_G_LT u) (xg_G_GE u) (xg_G_MEM u) (xg_G_CODE u) (xg_G_STC u) (xg_G_ROOM u) (xg_SLOTS u) (xg_REC_CAP u) (xg_IR_CAP u) (xg_VAL_CAP u) (xg_EXIT_CAP u) (xg_MAX_FAILS u) (xg_MAX_MISSES u) (xg_codeSize u) (xg_memSize u) (xg_outCount u) (xg_pc u) (xg_status u) (xg_steps u) (xg_cursor u) (xg_hot u) (xg_done u) (xg_crossed u) (xg_nextPc u) (xg_crossedTo u) (xg_recording u) (xg_recHead u) (xg_recLen u) (xg_recMask u) (xg_nextVictim u) (xg_runMask u) (xg_buildOk u) (xg_buildSlot u) (xg_buildStep u) (xg_buildPc u) (xg_bIr u) (xg_bVal u) (xg_irCount u) (xg_valCount u) (xg_exitCount u) (xg_crossCount u) n x3 (xg_code u) (xg_mem u) (xg_r u) (xg_crossings u) (xg_out u) (xg_heat u) (xg_fails u) (xg_slotOf u) (xg_recPc u) (xg_recWord u) (xg_recNext u) (xg_trLive u) (xg_trHead u) (xg_trLen u) (xg_trMask u) (xg_trIr u) (xg_trVals u) (xg_trCross u) (xg_trMiss u) (xg_trTargets u) (xg_irOp u) (xg_irA u) (xg_irB u) (xg_irD u) (xg_kFlag u) (xg_kVal u) (xg_exPc u) (xg_exSteps u) (xg_exCross u) (xg_snap u) (xg_val u) (xg_env u) (xg_defAt u) (xg_used u)
theorem xu_loadValues_8 (post : SX → Prop) (x1 : Int32) (x2 : Int32) (n : Nat) (x3 : Int32) (u : SX) : xq_loadValues_8 post x1 x2 (n + 1) x3 u = (((8 ≤ x3 → (∃ n35 : Nat, xq_loadValues_35 post x1 x2 n35 8 u)) ∧ (¬ 8 ≤ x3 → (vp_in x3 8 ∧ (vp_in x3 256 ∧ ∀ a_val_15 : Nat → Int32, a_val_15 = upd (xg_val u) x3.toNatClampNeg ((xg_r u) x3.toNatClampNeg) → (∀ x3_16 : Int32, x3_16 = x3 + 1 → (xq_loadValues_8 post x1 x2 n x3_16 (xs_val u a_val_15)))))))) := rfl
theorem xu_loadValues (post : SX → Prop) (u : SX) (p0 : Int32) : wpX_loadValues post u p0 = (∀ x2_1 : Int32, x2_1 = p0 * 256 → (∃ n8 : Nat, xq_loadValues_8 post p0 x2_1 n8 0 u)) := rfl
theorem xu_alu (post : Int32 → Prop) (u : SX) (p0 : Int32) (p1 : Int32) (p2 : Int32) : wpX_alu post u p0 p1 p2 = (((p0 < 3 → (post 0)) ∧ (¬ p0 < 3 → (((15 < p0 → (post 0)) ∧ (¬ 15 < p0 → (((p0 = 3 → (post (p1 + p2))) ∧ (¬ p0 = 3 → (((p0 = 4 → (post (p1 - p2))) ∧ (¬ p0 = 4 → (((p0 = 5 → (post (p1 * p2))) ∧ (¬ p0 = 5 → (((p0 = 6 → (((p2 = 0 → (post 0)) ∧ (¬ p2 = 0 → (¬ p2 = 0 ∧ (post (p1 / p2))))))) ∧ (¬ p0 = 6 → (((p0 = 7 → (((p2 = 0 → (post 0)) ∧ (¬ p2 = 0 → (¬ p2 = 0 ∧ (post (p1 - p1 / p2 * p2))))))) ∧ (¬ p0 = 7 → (((p0 = 8 → (post (p1 &&& p2))) ∧ (¬ p0 = 8 → (((p0 = 9 → (post (p1 ||| p2))) ∧ (¬ p0 = 9 → (((p0 = 10 → (post (p1 ^^^ p2))) ∧ (¬ p0 = 10 → (((p0 = 11 → (post (p1 <<< ((p2 &&& 31) &&& 31)))) ∧ (¬ p0 = 11 → (((p0 = 12 → (post (p1 >>> ((p2 &&& 31) &&& 31)))) ∧ (¬ p0 = 12 → (((p0 = 13 → (post 0)) ∧ (¬ p0 = 13 → (((p0 = 14 → (((p2 ≤ p1 → (post 0)) ∧ (¬ p2 ≤ p1 → (post 1))))) ∧ (¬ p0 = 14 → (((p0 = 15 → (((p1 = p2 → (post 1)) ∧ (¬ p1 = p2 → (post 0))))) ∧ (¬ p0 = 15 → (True)))))))))))))))))))))))))))))))))))))))))))))) := rfl
theorem xu_mem (post : Int32 → Prop) (u : SX) (p0 : Int32) : wpX_mem post u p0 = (((p0 < 0 → (post 0)) ∧ (¬ p0 < 0 → (((p0 < (xg_memSize u) → (vp_in p0 64 ∧ (post ((xg_mem u) p0.toNatClampNeg)))) ∧ (¬ p0 < (xg_memSize u) → (post 0))))))) := rfl
theorem xu_code (post : Int32 → Prop) (u : SX) (p0 : Int32) : wpX_code post u p0 = (((p0 < 0 → (post 0)) ∧ (¬ p0 < 0 → (((p0 < (xg_codeSize u) → (vp_in p0 64 ∧ (post ((xg_code u) p0.toNatClampNeg)))) ∧ (¬ p0 < (xg_codeSize u) → (post 0))))))) := rfl
theorem xu_access (post : SX → Prop) (u : SX) (p0 : Int32) (p1 : Int32) (p2 : Int32) (p3 : Int32) : wpX_access post u p0 p1 p2 p3 = (((p0 = 16 → (wpX_mem (fun r_171 => (vp_in p3 256 ∧ ∀ a_val_250 : Nat → Int32, a_val_250 = upd (xg_val u) p3.toNatClampNeg r_171 → (post (xs_val u a_val_250)))) u p1)) ∧ (¬ p0 = 16 → (((p0 = 18 → (wpX_code (fun r_91 => (vp_in p3 256 ∧ ∀ a_val_170 : Nat → Int32, a_val_170 = upd (xg_val u) p3.toNatClampNeg r_91 → (post (xs_val u a_val_170)))) u p1)) ∧ (¬ p0 = 18 → (((p0 = 17 → (((p1 < 0 → (post u)) ∧ (¬ p1 < 0 → ((((xg_memSize u) ≤ p1 → (post u)) ∧ (¬ (xg_memSize u) ≤ p1 → (vp_in p1 64 ∧ ∀ a_mem_90 : Nat → Int32, a_mem_90 = upd (xg_mem u) p1.toNatClampNeg p2 → (post (xs_mem u a_mem_90)))))))))) ∧ (¬ p0 = 17 → (((p0 = 19 → (wpX_storeCode (fun u7 => (post u7)) u p1 p2)) ∧ (¬ p0 = 19 → (((64 ≤ (xg_outCount u) → (post u)) ∧ (¬ 64 ≤ (xg_outCount u) → (vp_in (xg_outCount u) 64 ∧ ∀ a_out_7 : Nat → Int32, a_out_7 = upd (xg_out u) (xg_outCount u).toNatClampNeg p1 → (∀ f_outCount_8 : Int32, f_outCount_8 = (xg_outCount u) + 1 → (post (xs_out (xs_outCount u f_outCount_8) a_out_7))))))))))))))))))) := rfl
theorem xu_holds (post : Int32 → Prop) (u : SX) (p0 : Int32) (p1 : Int32) (p2 : Int32) : wpX_holds post u p0 p1 p2 = (((p0 < 32 → (((64 ≤ (xg_outCount u) → (post 0)) ∧ (¬ 64 ≤ (xg_outCount u) → (post 1))))) ∧ (¬ p0 < 32 → (((38 < p0 → (((64 ≤ (xg_outCount u) → (post 0)) ∧ (¬ 64 ≤ (xg_outCount u) → (post 1))))) ∧ (¬ 38 < p0 → (((p0 = 32 → (((p1 = p2 → (post 1)) ∧ (¬ p1 = p2 → (post 0))))) ∧ (¬ p0 = 32 → (((p0 = 33 → (((p1 = p2 → (post 0)) ∧ (¬ p1 = p2 → (post 1))))) ∧ (¬ p0 = 33 → (((p0 = 34 → (((p2 ≤ p1 → (post 0)) ∧ (¬ p2 ≤ p1 → (post 1))))) ∧ (¬ p0 = 34 → (((p0 = 35 → (((p1 < p2 → (post 0)) ∧ (¬ p1 < p2 → (post 1))))) ∧ (¬ p0 = 35 → (((p0 = 36 → (((p1 < 0 → (post 0)) ∧ (¬ p1 < 0 → ((((xg_memSize u) ≤ p1 → (post 0)) ∧ (¬ (xg_memSize u) ≤ p1 → (post 1)))))))) ∧ (¬ p0 = 36 → (((p0 = 37 → (((p1 < 0 → (post 0)) ∧ (¬ p1 < 0 → ((((xg_codeSize u) ≤ p1 → (post 0)) ∧ (¬ (xg_codeSize u) ≤ p1 → (post 1)))))))) ∧ (¬ p0 = 37 → (((p0 = 38 → (((p1 < 0 → (post 0)) ∧ (¬ p1 < 0 → ((((xg_codeSize u) ≤ p1 → (post 0)) ∧ (¬ (xg_codeSize u) ≤ p1 → (wpX_inMask (fun r_22 => (((r_22 = 0 → (post 1)) ∧ (¬ r_22 = 0 → (vp_in p1 64 ∧ (((((xg_code u) p1.toNatClampNeg) = p2 → (post 1)) ∧ (¬ ((xg_code u) p1.toNatClampNeg) = p2 → (post 0))))))))) u (xg_runMask u) p1)))))))) ∧ (¬ p0 = 38 → (True)))))))))))))))))))))))))))) := rfl
def xq_runBody_16 (post : Int32 → SX → Prop) (x2 : Int32) (x3 : Int32) (n : Nat) (x4 : Int32) (u : SX) : Prop := wX_runBody_16 post x2 x3 n x4 (xg_G_EQ u) (xg_G_NE u) (xg_G_LT u) (xg_G_GE u) (xg_G_MEM u) (xg_G_CODE u) (xg_G_STC u) (xg_G_ROOM u) (xg_SLOTS u) (xg_REC_CAP u) (xg_IR_CAP u) (xg_VAL_CAP u) (xg_EXIT_CAP u) (xg_MAX_FAILS u) (xg_MAX_MISSES u) (xg_codeSize u) (xg_memSize u) (xg_outCount u) (xg_pc u) (xg_status u) (xg_steps u) (xg_cursor u) (xg_hot u) (xg_done u) (xg_crossed u) (xg_nextPc u) (xg_crossedTo u) (xg_recording u) (xg_recHead u) (xg_recLen u) (xg_recMask u) (xg_nextVictim u) (xg_runMask u) (xg_buildOk u) (xg_buildSlot u) (xg_buildStep u) (xg_buildPc u) (xg_bIr u) (xg_bVal u) (xg_irCount u) (xg_valCount u) (xg_exitCount u) (xg_crossCount u) (xg_code u) (xg_mem u) (xg_r u) (xg_crossings u) (xg_out u) (xg_heat u) (xg_fails u) (xg_slotOf u) (xg_recPc u) (xg_recWord u) (xg_recNext u) (xg_trLive u) (xg_trHead u) (xg_trLen u) (xg_trMask u) (xg_trIr u) (xg_trVals u) (xg_trCross u) (xg_trMiss u) (xg_trTargets u) (xg_irOp u) (xg_irA u) (xg_irB u) (xg_irD u) (xg_kFlag u) (xg_kVal u) (xg_exPc u) (xg_exSteps u) (xg_exCross u) (xg_snap u) (xg_val u) (xg_env u) (xg_defAt u) (xg_used u)
theorem xu_runBody_16 (post : Int32 → SX → Prop) (x2 : Int32) (x3 : Int32) (n : Nat) (x4 : Int32) (u : SX) : xq_runBody_16 post x2 x3 (n + 1) x4 u = (((x3 ≤ x4 → (post 0 u)) ∧ (¬ x3 ≤ x4 → (((256 ≤ x4 → (post 0 u)) ∧ (¬ 256 ≤ x4 → (∀ x5_6 : Int32, x5_6 = x2 + x4 → (vp_in x5_6 2048 ∧ (∀ x6_8 : Int32, x6_8 = (xg_irOp u) x5_6.toNatClampNeg → (vp_in x5_6 2048 ∧ (vp_in ((xg_irA u) x5_6.toNatClampNeg) 256 ∧ (∀ x7_11 : Int32, x7_11 = (xg_val u) ((xg_irA u) x5_6.toNatClampNeg).toNatClampNeg → (vp_in x5_6 2048 ∧ (vp_in ((xg_irB u) x5_6.toNatClampNeg) 256 ∧ (∀ x8_14 : Int32, x8_14 = (xg_val u) ((xg_irB u) x5_6.toNatClampNeg).toNatClampNeg → (((15 < x6_8 → (((20 < x6_8 → (wpX_holds (fun r_17 => (((r_17 = 0 → (vp_in x5_6 2048 ∧ (post ((xg_irD u) x5_6.toNatClampNeg) u))) ∧ (¬ r_17 = 0 → (∀ x4_96 : Int32, x4_96 = x4 + 1 → (xq_runBody_16 post x2 x3 n x4_96 u)))))) u x6_8 x7_11 x8_14)) ∧ (¬ 20 < x6_8 → (vp_in x5_6 2048 ∧ (wpX_access (fun u8 => (∀ x4_177 : Int32, x4_177 = x4 + 1 → (xq_runBody_16 post x2 x3 n x4_177 u8))) u x6_8 x7_11 x8_14 ((xg_irD u) x5_6.toNatClampNeg))))))) ∧ (¬ 15 < x6_8 → (vp_in x5_6 2048 ∧ (wpX_alu (fun r_179 => (vp_in ((xg_irD u) x5_6.toNatClampNeg) 256 ∧ ∀ a_val_258 : Nat → Int32, a_val_258 = upd (xg_val u) ((xg_irD u) x5_6.toNatClampNeg).toNatClampNeg r_179 → (∀ x4_259 : Int32, x4_259 = x4 + 1 → (xq_runBody_16 post x2 x3 n x4_259 (xs_val u a_val_258))))) u x6_8 x7_11 x8_14)))))))))))))))))))) := rfl
theorem xu_runBody (post : Int32 → SX → Prop) (u : SX) (p0 : Int32) : wpX_runBody post u p0 = (∀ x2_1 : Int32, x2_1 = p0 * 256 → (vp_in p0 8 ∧ (∀ x3_3 : Int32, x3_3 = (xg_trIr u) p0.toNatClampNeg → (∃ n16 : Nat, xq_runBody_16 post x2_1 x3_3 n16 0 u)))) := rfl
def xq_restoreRegs_14 (post : SX → Prop) (x3 : Int32) (n : Nat) (x4 : Int32) (u : SX) : Prop := wX_restoreRegs_14 post x3 (xg_G_EQ u) (xg_G_NE u) (xg_G_LT u) (xg_G_GE u) (xg_G_MEM u) (xg_G_CODE u) (xg_G_STC u) (xg_G_ROOM u) (xg_SLOTS u) (xg_REC_CAP u) (xg_IR_CAP u) (xg_VAL_CAP u) (xg_EXIT_CAP u) (xg_MAX_FAILS u) (xg_MAX_MISSES u) (xg_codeSize u) (xg_memSize u) (xg_outCount u) (xg_pc u) (xg_status u) (xg_steps u) (xg_cursor u) (xg_hot u) (xg_done u) (xg_crossed u) (xg_nextPc u) (xg_crossedTo u) (xg_recording u) (xg_recHead u) (xg_recLen u) (xg_recMask u) (xg_nextVictim u) (xg_runMask u) (xg_buildOk u) (xg_buildSlot u) (xg_buildStep u) (xg_buildPc u) (xg_bIr u) (xg_bVal u) (xg_irCount u) (xg_valCount u) (xg_exitCount u) (xg_crossCount u) n x4 (xg_code u) (xg_mem u) (xg_r u) (xg_crossings u) (xg_out u) (xg_heat u) (xg_fails u) (xg_slotOf u) (xg_recPc u) (xg_recWord u) (xg_recNext u) (xg_trLive u) (xg_trHead u) (xg_trLen u) (xg_trMask u) (xg_trIr u) (xg_trVals u) (xg_trCross u) (xg_trMiss u) (xg_trTargets u) (xg_irOp u) (xg_irA u) (xg_irB u) (xg_irD u) (xg_kFlag u) (xg_kVal u) (xg_exPc u) (xg_exSteps u) (xg_exCross u) (xg_snap u) (xg_val u) (xg_env u) (xg_defAt u) (xg_used u)
theorem xu_restoreRegs_14 (post : SX → Prop) (x3 : Int32) (n : Nat) (x4 : Int32) (u : SX) : xq_restoreRegs_14 post x3 (n + 1) x4 u = (((8 ≤ x4 → (post u)) ∧ (¬ 8 ≤ x4 → (vp_in (x3 + x4) 8192 ∧ (vp_in ((xg_snap u) (x3 + x4).toNatClampNeg) 256 ∧ (vp_in x4 8 ∧ ∀ a_r_6 : Nat → Int32, a_r_6 = upd (xg_r u) x4.toNatClampNeg ((xg_val u) ((xg_snap u) (x3 + x4).toNatClampNeg).toNatClampNeg) → (∀ x4_7 : Int32, x4_7 = x4 + 1 → (xq_restoreRegs_14 post x3 n x4_7 (xs_r u a_r_6))))))))) := rfl
theorem xu_restoreRegs (post : SX → Prop) (u : SX) (p0 : Int32) (p1 : Int32) : wpX_restoreRegs post u p0 p1 = (∀ x3_1 : Int32, x3_1 = ((p0 * 128) + p1) * 8 → (∃ n14 : Nat, xq_restoreRegs_14 post x3_1 n14 0 u)) := rfl
def xq_closeRound_8 (post : SX → Prop) (n : Nat) (x2 : Int32) (u : SX) : Prop := wX_closeRound_8 post (xg_G_EQ u) (xg_G_NE u) (xg_G_LT u) (xg_G_GE u) (xg_G_MEM u) (xg_G_CODE u) (xg_G_STC u) (xg_G_ROOM u) (xg_SLOTS u) (xg_REC_CAP u) (xg_IR_CAP u) (xg_VAL_CAP u) (xg_EXIT_CAP u) (xg_MAX_FAILS u) (xg_MAX_MISSES u) (xg_codeSize u) (xg_memSize u) (xg_outCount u) (xg_pc u) (xg_status u) (xg_steps u) (xg_cursor u) (xg_hot u) (xg_done u) (xg_crossed u) (xg_nextPc u) (xg_crossedTo u) (xg_recording u) (xg_recHead u) (xg_recLen u) (xg_recMask u) (xg_nextVictim u) (xg_runMask u) (xg_buildOk u) (xg_buildSlot u) (xg_buildStep u) (xg_buildPc u) (xg_bIr u) (xg_bVal u) (xg_irCount u) (xg_valCount u) (xg_exitCount u) (xg_crossCount u) n x2 (xg_code u) (xg_mem u) (xg_r u) (xg_crossings u) (xg_out u) (xg_heat u) (xg_fails u) (xg_slotOf u) (xg_recPc u) (xg_recWord u) (xg_recNext u) (xg_trLive u) (xg_trHead u) (xg_trLen u) (xg_trMask u) (xg_trIr u) (xg_trVals u) (xg_trCross u) (xg_trMiss u) (xg_trTargets u) (xg_irOp u) (xg_irA u) (xg_irB u) (xg_irD u) (xg_kFlag u) (xg_kVal u) (xg_exPc u) (xg_exSteps u) (xg_exCross u) (xg_snap u) (xg_val u) (xg_env u) (xg_defAt u) (xg_used u)
theorem xu_closeRound_8 (post : SX → Prop) (n : Nat) (x2 : Int32) (u : SX) : xq_closeRound_8 post (n + 1) x2 u = (((8 ≤ x2 → (post u)) ∧ (¬ 8 ≤ x2 → (vp_in x2 8 ∧ (vp_in x2 256 ∧ ∀ a_val_82 : Nat → Int32, a_val_82 = upd (xg_val u) x2.toNatClampNeg ((xg_r u) x2.toNatClampNeg) → (∀ x2_83 : Int32, x2_83 = x2 + 1 → (xq_closeRound_8 post n x2_83 (xs_val u a_val_82)))))))) := rfl
theorem xu_closeRound (post : SX → Prop) (u : SX) (p0 : Int32) : wpX_closeRound post u p0 = (wpX_restoreRegs (fun u9 => (∃ n8 : Nat, xq_closeRound_8 post n8 0 u9)) u p0 0) := rfl
def xq_leaveTrace_196 (post : SX → Prop) (x1 : Int32) (x3 : Int32) (u : SX) : Prop := wX_leaveTrace_196 post x1 x3 (xg_G_EQ u) (xg_G_NE u) (xg_G_LT u) (xg_G_GE u) (xg_G_MEM u) (xg_G_CODE u) (xg_G_STC u) (xg_G_ROOM u) (xg_SLOTS u) (xg_REC_CAP u) (xg_IR_CAP u) (xg_VAL_CAP u) (xg_EXIT_CAP u) (xg_MAX_FAILS u) (xg_MAX_MISSES u) (xg_codeSize u) (xg_memSize u) (xg_outCount u) (xg_pc u) (xg_status u) (xg_steps u) (xg_cursor u) (xg_hot u) (xg_done u) (xg_crossed u) (xg_nextPc u) (xg_crossedTo u) (xg_recording u) (xg_recHead u) (xg_recLen u) (xg_recMask u) (xg_nextVictim u) (xg_runMask u) (xg_buildOk u) (xg_buildSlot u) (xg_buildStep u) (xg_buildPc u) (xg_bIr u) (xg_bVal u) (xg_irCount u) (xg_valCount u) (xg_exitCount u) (xg_crossCount u) (xg_code u) (xg_mem u) (xg_r u) (xg_crossings u) (xg_out u) (xg_heat u) (xg_fails u) (xg_slotOf u) (xg_recPc u) (xg_recWord u) (xg_recNext u) (xg_trLive u) (xg_trHead u) (xg_trLen u) (xg_trMask u) (xg_trIr u) (xg_trVals u) (xg_trCross u) (xg_trMiss u) (xg_trTargets u) (xg_irOp u) (xg_irA u) (xg_irB u) (xg_irD u) (xg_kFlag u) (xg_kVal u) (xg_exPc u) (xg_exSteps u) (xg_exCross u) (xg_snap u) (xg_val u) (xg_env u) (xg_defAt u) (xg_used u)
theorem xu_leaveTrace_196 (post : SX → Prop) (x1 : Int32) (x3 : Int32) (u : SX) : xq_leaveTrace_196 post x1 x3 u = (((x3 ≤ 0 → (vp_in x1 8 ∧ (vp_in x1 8 ∧ ∀ a_trMiss_15 : Nat → Int32, a_trMiss_15 = upd (xg_trMiss u) x1.toNatClampNeg (((xg_trMiss u) x1.toNatClampNeg) + 1) → (vp_in x1 8 ∧ ((((a_trMiss_15 x1.toNatClampNeg) < 16 → (post (xs_trMiss u a_trMiss_15))) ∧ (¬ (a_trMiss_15 x1.toNatClampNeg) < 16 → (wpX_dropSlot (fun u10 => (post u10)) (xs_trMiss u a_trMiss_15) x1)))))))) ∧ (¬ x3 ≤ 0 → (vp_in x1 8 ∧ ∀ a_trMiss_97 : Nat → Int32, a_trMiss_97 = upd (xg_trMiss u) x1.toNatClampNeg 0 → (post (xs_trMiss u a_trMiss_97)))))) := rfl
def xq_leaveTrace_129 (post : SX → Prop) (x1 : Int32) (x3 : Int32) (x5 : Int32) (n : Nat) (x7 : Int32) (u : SX) : Prop := wX_leaveTrace_129 post x1 x3 x5 (xg_G_EQ u) (xg_G_NE u) (xg_G_LT u) (xg_G_GE u) (xg_G_MEM u) (xg_G_CODE u) (xg_G_STC u) (xg_G_ROOM u) (xg_SLOTS u) (xg_REC_CAP u) (xg_IR_CAP u) (xg_VAL_CAP u) (xg_EXIT_CAP u) (xg_MAX_FAILS u) (xg_MAX_MISSES u) (xg_codeSize u) (xg_memSize u) (xg_outCount u) (xg_pc u) (xg_status u) (xg_steps u) (xg_cursor u) (xg_hot u) (xg_done u) (xg_crossed u) (xg_nextPc u) (xg_crossedTo u) (xg_recording u) (xg_recHead u) (xg_recLen u) (xg_recMask u) (xg_nextVictim u) (xg_runMask u) (xg_buildOk u) (xg_buildSlot u) (xg_buildStep u) (xg_buildPc u) (xg_bIr u) (xg_bVal u) (xg_irCount u) (xg_valCount u) (xg_exitCount u) (xg_crossCount u) n x7 (xg_code u) (xg_mem u) (xg_r u) (xg_crossings u) (xg_out u) (xg_heat u) (xg_fails u) (xg_slotOf u) (xg_recPc u) (xg_recWord u) (xg_recNext u) (xg_trLive u) (xg_trHead u) (xg_trLen u) (xg_trMask u) (xg_trIr u) (xg_trVals u) (xg_trCross u) (xg_trMiss u) (xg_trTargets u) (xg_irOp u) (xg_irA u) (xg_irB u) (xg_irD u) (xg_kFlag u) (xg_kVal u) (xg_exPc u) (xg_exSteps u) (xg_exCross u) (xg_snap u) (xg_val u) (xg_env u) (xg_defAt u) (xg_used u)
theorem xu_leaveTrace_129 (post : SX → Prop) (x1 : Int32) (x3 : Int32) (x5 : Int32) (n : Nat) (x7 : Int32) (u : SX) : xq_leaveTrace_129 post x1 x3 x5 (n + 1) x7 u = (vp_in x1 8 ∧ (((((xg_trCross u) x1.toNatClampNeg) ≤ x7 → (xq_leaveTrace_196 post x1 x3 u)) ∧ (¬ ((xg_trCross u) x1.toNatClampNeg) ≤ x7 → (((96 ≤ x7 → (xq_leaveTrace_196 post x1 x3 u)) ∧ (¬ 96 ≤ x7 → (vp_in ((x1 * 96) + x7) 768 ∧ (∀ x8_100 : Int32, x8_100 = (xg_trTargets u) ((x1 * 96) + x7).toNatClampNeg → (vp_in x8_100 64 ∧ (vp_in x8_100 64 ∧ ∀ a_crossings_103 : Nat → Int32, a_crossings_103 = upd (xg_crossings u) x8_100.toNatClampNeg (((xg_crossings u) x8_100.toNatClampNeg) + x3) → (((x5 ≤ x7 → (∀ x7_105 : Int32, x7_105 = x7 + 1 → (xq_leaveTrace_129 post x1 x3 x5 n x7_105 (xs_crossings u a_crossings_103)))) ∧ (¬ x5 ≤ x7 → (vp_in x8_100 64 ∧ (vp_in x8_100 64 ∧ ∀ a_crossings_108 : Nat → Int32, a_crossings_108 = upd a_crossings_103 x8_100.toNatClampNeg ((a_crossings_103 x8_100.toNatClampNeg) + 1) → (∀ x7_109 : Int32, x7_109 = x7 + 1 → (xq_leaveTrace_129 post x1 x3 x5 n x7_109 (xs_crossings u a_crossings_108))))))))))))))))))) := rfl
def xq_leaveTrace_71 (post : SX → Prop) (x1 : Int32) (x3 : Int32) (x4 : Int32) (x5 : Int32) (u : SX) : Prop := wX_leaveTrace_71 post x1 x3 x4 x5 (xg_G_EQ u) (xg_G_NE u) (xg_G_LT u) (xg_G_GE u) (xg_G_MEM u) (xg_G_CODE u) (xg_G_STC u) (xg_G_ROOM u) (xg_SLOTS u) (xg_REC_CAP u) (xg_IR_CAP u) (xg_VAL_CAP u) (xg_EXIT_CAP u) (xg_MAX_FAILS u) (xg_MAX_MISSES u) (xg_codeSize u) (xg_memSize u) (xg_outCount u) (xg_pc u) (xg_status u) (xg_steps u) (xg_cursor u) (xg_hot u) (xg_done u) (xg_crossed u) (xg_nextPc u) (xg_crossedTo u) (xg_recording u) (xg_recHead u) (xg_recLen u) (xg_recMask u) (xg_nextVictim u) (xg_runMask u) (xg_buildOk u) (xg_buildSlot u) (xg_buildStep u) (xg_buildPc u) (xg_bIr u) (xg_bVal u) (xg_irCount u) (xg_valCount u) (xg_exitCount u) (xg_crossCount u) (xg_code u) (xg_mem u) (xg_r u) (xg_crossings u) (xg_out u) (xg_heat u) (xg_fails u) (xg_slotOf u) (xg_recPc u) (xg_recWord u) (xg_recNext u) (xg_trLive u) (xg_trHead u) (xg_trLen u) (xg_trMask u) (xg_trIr u) (xg_trVals u) (xg_trCross u) (xg_trMiss u) (xg_trTargets u) (xg_irOp u) (xg_irA u) (xg_irB u) (xg_irD u) (xg_kFlag u) (xg_kVal u) (xg_exPc u) (xg_exSteps u) (xg_exCross u) (xg_snap u) (xg_val u) (xg_env u) (xg_defAt u) (xg_used u)
theorem xu_leaveTrace_71 (post : SX → Prop) (x1 : Int32) (x3 : Int32) (x4 : Int32) (x5 : Int32) (u : SX) : xq_leaveTrace_71 post x1 x3 x4 x5 u = (vp_in x1 8 ∧ (∀ x6_5 : Int32, x6_5 = (x3 * ((xg_trLen u) x1.toNatClampNeg)) + x4 → (∀ f_steps_6 : Int32, f_steps_6 = (xg_steps u) + x6_5 → (∀ f_done_7 : Int32, f_done_7 = (xg_done u) + x6_5 → (vp_in x1 8 ∧ (∀ f_crossed_9 : Int32, f_crossed_9 = (xg_crossed u) + ((x3 * ((xg_trCross u) x1.toNatClampNeg)) + x5) → (∃ n129 : Nat, xq_leaveTrace_129 post x1 x3 x5 n129 0 (xs_crossed (xs_done (xs_steps u f_steps_6) f_done_7) f_crossed_9)))))))) := rfl
theorem xu_leaveTrace (post : SX → Prop) (u : SX) (p0 : Int32) (p1 : Int32) (p2 : Int32) : wpX_leaveTrace post u p0 p1 p2 = (vp_in p0 8 ∧ (∀ f_pc_2 : Int32, f_pc_2 = (xg_trHead u) p0.toNatClampNeg → (((p1 ≤ 0 → (xq_leaveTrace_71 post p0 p2 0 0 (xs_pc u f_pc_2))) ∧ (¬ p1 ≤ 0 → (((128 ≤ p1 → (xq_leaveTrace_71 post p0 p2 0 0 (xs_pc u f_pc_2))) ∧ (¬ 128 ≤ p1 → (∀ x6_111 : Int32, x6_111 = (p0 * 128) + p1 → (wpX_restoreRegs (fun u11 => (vp_in x6_111 1024 ∧ (∀ f_pc_191 : Int32, f_pc_191 = (xg_exPc u11) x6_111.toNatClampNeg → (vp_in x6_111 1024 ∧ (∀ x4_193 : Int32, x4_193 = (xg_exSteps u11) x6_111.toNatClampNeg → (vp_in x6_111 1024 ∧ (∀ x5_195 : Int32, x5_195 = (xg_exCross u11) x6_111.toNatClampNeg → (xq_leaveTrace_71 post p0 p2 x4_193 x5_195 (xs_pc u11 f_pc_191))))))))) (xs_pc u f_pc_2) p0 p1)))))))))) := rfl
def xq_runTrace_60 (post : SX → Prop) (x1 : Int32) (x3 : Int32) (x4 : Int32) (u : SX) : Prop := wX_runTrace_60 post x1 x3 x4 (xg_G_EQ u) (xg_G_NE u) (xg_G_LT u) (xg_G_GE u) (xg_G_MEM u) (xg_G_CODE u) (xg_G_STC u) (xg_G_ROOM u) (xg_SLOTS u) (xg_REC_CAP u) (xg_IR_CAP u) (xg_VAL_CAP u) (xg_EXIT_CAP u) (xg_MAX_FAILS u) (xg_MAX_MISSES u) (xg_codeSize u) (xg_memSize u) (xg_outCount u) (xg_pc u) (xg_status u) (xg_steps u) (xg_cursor u) (xg_hot u) (xg_done u) (xg_crossed u) (xg_nextPc u) (xg_crossedTo u) (xg_recording u) (xg_recHead u) (xg_recLen u) (xg_recMask u) (xg_nextVictim u) (xg_runMask u) (xg_buildOk u) (xg_buildSlot u) (xg_buildStep u) (xg_buildPc u) (xg_bIr u) (xg_bVal u) (xg_irCount u) (xg_valCount u) (xg_exitCount u) (xg_crossCount u) (xg_code u) (xg_mem u) (xg_r u) (xg_crossings u) (xg_out u) (xg_heat u) (xg_fails u) (xg_slotOf u) (xg_recPc u) (xg_recWord u) (xg_recNext u) (xg_trLive u) (xg_trHead u) (xg_trLen u) (xg_trMask u) (xg_trIr u) (xg_trVals u) (xg_trCross u) (xg_trMiss u) (xg_trTargets u) (xg_irOp u) (xg_irA u) (xg_irB u) (xg_irD u) (xg_kFlag u) (xg_kVal u) (xg_exPc u) (xg_exSteps u) (xg_exCross u) (xg_snap u) (xg_val u) (xg_env u) (xg_defAt u) (xg_used u)
theorem xu_runTrace_60 (post : SX → Prop) (x1 : Int32) (x3 : Int32) (x4 : Int32) (u : SX) : xq_runTrace_60 post x1 x3 x4 u = (wpX_leaveTrace (fun u12 => (post u12)) u x1 x4 x3) := rfl
def xq_runTrace_23 (post : SX → Prop) (x1 : Int32) (x2 : Int32) (n : Nat) (x3 : Int32) (x4 : Int32) (x5 : Int32) (u : SX) : Prop := wX_runTrace_23 post x1 x2 n x3 x4 x5 (xg_G_EQ u) (xg_G_NE u) (xg_G_LT u) (xg_G_GE u) (xg_G_MEM u) (xg_G_CODE u) (xg_G_STC u) (xg_G_ROOM u) (xg_SLOTS u) (xg_REC_CAP u) (xg_IR_CAP u) (xg_VAL_CAP u) (xg_EXIT_CAP u) (xg_MAX_FAILS u) (xg_MAX_MISSES u) (xg_codeSize u) (xg_memSize u) (xg_outCount u) (xg_pc u) (xg_status u) (xg_steps u) (xg_cursor u) (xg_hot u) (xg_done u) (xg_crossed u) (xg_nextPc u) (xg_crossedTo u) (xg_recording u) (xg_recHead u) (xg_recLen u) (xg_recMask u) (xg_nextVictim u) (xg_runMask u) (xg_buildOk u) (xg_buildSlot u) (xg_buildStep u) (xg_buildPc u) (xg_bIr u) (xg_bVal u) (xg_irCount u) (xg_valCount u) (xg_exitCount u) (xg_crossCount u) (xg_code u) (xg_mem u) (xg_r u) (xg_crossings u) (xg_out u) (xg_heat u) (xg_fails u) (xg_slotOf u) (xg_recPc u) (xg_recWord u) (xg_recNext u) (xg_trLive u) (xg_trHead u) (xg_trLen u) (xg_trMask u) (xg_trIr u) (xg_trVals u) (xg_trCross u) (xg_trMiss u) (xg_trTargets u) (xg_irOp u) (xg_irA u) (xg_irB u) (xg_irD u) (xg_kFlag u) (xg_kVal u) (xg_exPc u) (xg_exSteps u) (xg_exCross u) (xg_snap u) (xg_val u) (xg_env u) (xg_defAt u) (xg_used u)
theorem xu_runTrace_23 (post : SX → Prop) (x1 : Int32) (x2 : Int32) (n : Nat) (x3 : Int32) (x4 : Int32) (x5 : Int32) (u : SX) : xq_runTrace_23 post x1 x2 (n + 1) x3 x4 x5 u = (((x2 ≤ x5 → (xq_runTrace_60 post x1 x3 x4 u)) ∧ (¬ x2 ≤ x5 → (((x4 = 0 → (wpX_runBody (fun r_161 u13 => (((r_161 = 0 → (wpX_closeRound (fun u14 => (∀ x3_319 : Int32, x3_319 = x3 + 1 → (∀ x5_320 : Int32, x5_320 = x5 + 1 → (xq_runTrace_23 post x1 x2 n x3_319 r_161 x5_320 u14)))) u13 x1)) ∧ (¬ r_161 = 0 → (∀ x5_240 : Int32, x5_240 = x5 + 1 → (xq_runTrace_23 post x1 x2 n x3 r_161 x5_240 u13)))))) u x1)) ∧ (¬ x4 = 0 → (xq_runTrace_60 post x1 x3 x4 u))))))) := rfl
theorem xu_runTrace (post : SX → Prop) (u : SX) (p0 : Int32) (p1 : Int32) : wpX_runTrace post u p0 p1 = (wpX_loadValues (fun u15 => (vp_in p0 8 ∧ (∀ f_runMask_80 : Int64, f_runMask_80 = (xg_trMask u15) p0.toNatClampNeg → (∃ n23 : Nat, xq_runTrace_23 post p0 p1 n23 0 0 0 (xs_runMask u15 f_runMask_80))))) u p0) := rfl
def xq_enterIfPossible_80 (post : SX → Prop) (x1 : Int32) (x3 : Int32) (x4 : Int32) (u : SX) : Prop := wX_enterIfPossible_80 post x1 x3 x4 (xg_G_EQ u) (xg_G_NE u) (xg_G_LT u) (xg_G_GE u) (xg_G_MEM u) (xg_G_CODE u) (xg_G_STC u) (xg_G_ROOM u) (xg_SLOTS u) (xg_REC_CAP u) (xg_IR_CAP u) (xg_VAL_CAP u) (xg_EXIT_CAP u) (xg_MAX_FAILS u) (xg_MAX_MISSES u) (xg_codeSize u) (xg_memSize u) (xg_outCount u) (xg_pc u) (xg_status u) (xg_steps u) (xg_cursor u) (xg_hot u) (xg_done u) (xg_crossed u) (xg_nextPc u) (xg_crossedTo u) (xg_recording u) (xg_recHead u) (xg_recLen u) (xg_recMask u) (xg_nextVictim u) (xg_runMask u) (xg_buildOk u) (xg_buildSlot u) (xg_buildStep u) (xg_buildPc u) (xg_bIr u) (xg_bVal u) (xg_irCount u) (xg_valCount u) (xg_exitCount u) (xg_crossCount u) (xg_code u) (xg_mem u) (xg_r u) (xg_crossings u) (xg_out u) (xg_heat u) (xg_fails u) (xg_slotOf u) (xg_recPc u) (xg_recWord u) (xg_recNext u) (xg_trLive u) (xg_trHead u) (xg_trLen u) (xg_trMask u) (xg_trIr u) (xg_trVals u) (xg_trCross u) (xg_trMiss u) (xg_trTargets u) (xg_irOp u) (xg_irA u) (xg_irB u) (xg_irD u) (xg_kFlag u) (xg_kVal u) (xg_exPc u) (xg_exSteps u) (xg_exCross u) (xg_snap u) (xg_val u) (xg_env u) (xg_defAt u) (xg_used u)
theorem xu_enterIfPossible_80 (post : SX → Prop) (x1 : Int32) (x3 : Int32) (x4 : Int32) (u : SX) : xq_enterIfPossible_80 post x1 x3 x4 u = (wpX_roundsAllowed (fun r_9 => (((r_9 ≤ 0 → (post u)) ∧ (¬ r_9 ≤ 0 → (wpX_runTrace (fun u16 => (post u16)) u x4 r_9))))) u x4 (x1 - (xg_done u)) ((x3 - 1) - (xg_crossed u))) := rfl
theorem xu_enterIfPossible (post : SX → Prop) (u : SX) (p0 : Int32) (p1 : Int32) (p2 : Int32) : wpX_enterIfPossible post u p0 p1 p2 = ((((xg_recording u) = 0 → ((((xg_pc u) < 0 → (post u)) ∧ (¬ (xg_pc u) < 0 → ((((xg_pc u) < (xg_codeSize u) → (vp_in (xg_pc u) 64 ∧ (∀ x4_5 : Int32, x4_5 = ((xg_slotOf u) (xg_pc u).toNatClampNeg) - 1 → (((x4_5 < 0 → (post u)) ∧ (¬ x4_5 < 0 → (((x4_5 < 8 → (((p1 < 0 → (xq_enterIfPossible_80 post p0 p2 x4_5 u)) ∧ (¬ p1 < 0 → ((((xg_codeSize u) ≤ p1 → (xq_enterIfPossible_80 post p0 p2 x4_5 u)) ∧ (¬ (xg_codeSize u) ≤ p1 → (vp_in x4_5 8 ∧ (wpX_inMask (fun r_168 => (((r_168 = 0 → (xq_enterIfPossible_80 post p0 p2 x4_5 u)) ∧ (¬ r_168 = 0 → (post u))))) u ((xg_trMask u) x4_5.toNatClampNeg) p1))))))))) ∧ (¬ x4_5 < 8 → (post u)))))))))) ∧ (¬ (xg_pc u) < (xg_codeSize u) → (post u)))))))) ∧ (¬ (xg_recording u) = 0 → (post u)))) := rfl
theorem xu_noteBefore (post : SX → Prop) (u : SX) (p0 : Int32) (p1 : Int32) : wpX_noteBefore post u p0 p1 = (((96 ≤ (xg_recLen u) → (post u)) ∧ (¬ 96 ≤ (xg_recLen u) → (vp_in (xg_recLen u) 96 ∧ ∀ a_recPc_3 : Nat → Int32, a_recPc_3 = upd (xg_recPc u) (xg_recLen u).toNatClampNeg p0 → (vp_in (xg_recLen u) 96 ∧ ∀ a_recWord_5 : Nat → Int32, a_recWord_5 = upd (xg_recWord u) (xg_recLen u).toNatClampNeg p1 → (∀ f_recMask_6 : Int64, f_recMask_6 = (xg_recMask u) ||| ((1 : Int64) <<< (p0.toInt64 &&& 63)) → (post (xs_recWord (xs_recPc (xs_recMask u f_recMask_6) a_recPc_3) a_recWord_5)))))))) := rfl
def xq_doArithmetic_58 (post : Int32 → SX → Prop) (x1 : Int32) (x3 : Int32) (x4 : Int32) (x5 : Int32) (x6 : Int32) (u : SX) : Prop := wX_doArithmetic_58 post x1 x3 x4 x5 x6 (xg_G_EQ u) (xg_G_NE u) (xg_G_LT u) (xg_G_GE u) (xg_G_MEM u) (xg_G_CODE u) (xg_G_STC u) (xg_G_ROOM u) (xg_SLOTS u) (xg_REC_CAP u) (xg_IR_CAP u) (xg_VAL_CAP u) (xg_EXIT_CAP u) (xg_MAX_FAILS u) (xg_MAX_MISSES u) (xg_codeSize u) (xg_memSize u) (xg_outCount u) (xg_pc u) (xg_status u) (xg_steps u) (xg_cursor u) (xg_hot u) (xg_done u) (xg_crossed u) (xg_nextPc u) (xg_crossedTo u) (xg_recording u) (xg_recHead u) (xg_recLen u) (xg_recMask u) (xg_nextVictim u) (xg_runMask u) (xg_buildOk u) (xg_buildSlot u) (xg_buildStep u) (xg_buildPc u) (xg_bIr u) (xg_bVal u) (xg_irCount u) (xg_valCount u) (xg_exitCount u) (xg_crossCount u) (xg_code u) (xg_mem u) (xg_r u) (xg_crossings u) (xg_out u) (xg_heat u) (xg_fails u) (xg_slotOf u) (xg_recPc u) (xg_recWord u) (xg_recNext u) (xg_trLive u) (xg_trHead u) (xg_trLen u) (xg_trMask u) (xg_trIr u) (xg_trVals u) (xg_trCross u) (xg_trMiss u) (xg_trTargets u) (xg_irOp u) (xg_irA u) (xg_irB u) (xg_irD u) (xg_kFlag u) (xg_kVal u) (xg_exPc u) (xg_exSteps u) (xg_exCross u) (xg_snap u) (xg_val u) (xg_env u) (xg_defAt u) (xg_used u)
theorem xu_doArithmetic_58 (post : Int32 → SX → Prop) (x1 : Int32) (x3 : Int32) (x4 : Int32) (x5 : Int32) (x6 : Int32) (u : SX) : xq_doArithmetic_58 post x1 x3 x4 x5 x6 u = (((x1 = 1 → (vp_in x3 8 ∧ ∀ a_r_97 : Nat → Int32, a_r_97 = upd (xg_r u) x3.toNatClampNeg x4 → (post 0 (xs_r u a_r_97)))) ∧ (¬ x1 = 1 → (((x1 = 2 → (vp_in x3 8 ∧ ∀ a_r_95 : Nat → Int32, a_r_95 = upd (xg_r u) x3.toNatClampNeg x5 → (post 0 (xs_r u a_r_95)))) ∧ (¬ x1 = 2 → (((x1 = 13 → (vp_in x3 8 ∧ ∀ a_r_93 : Nat → Int32, a_r_93 = upd (xg_r u) x3.toNatClampNeg (x5 + x4) → (post 0 (xs_r u a_r_93)))) ∧ (¬ x1 = 13 → (wpX_alu (fun r_12 => (vp_in x3 8 ∧ ∀ a_r_91 : Nat → Int32, a_r_91 = upd (xg_r u) x3.toNatClampNeg r_12 → (post 0 (xs_r u a_r_91)))) u x1 x5 x6)))))))))) := rfl
end
end
section
set_option maxRecDepth 20000
section
def xq_doArithmetic_51 (post : Int32 → SX → Prop) (x1 : Int32) (x3 : Int32) (x4 : Int32) (x5 : Int32) (x6 : Int32) (u : SX) : Prop := wX_doArithmetic_51 post x1 x3 x4 x5 x6 (xg_G_EQ u) (xg_G_NE u) (xg_G_LT u) (xg_G_GE u) (xg_G_MEM u) (xg_G_CODE u) (xg_G_STC u) (xg_G_ROOM u) (xg_SLOTS u) (xg_REC_CAP u) (xg_IR_CAP u) (xg_VAL_CAP u) (xg_EXIT_CAP u) (xg_MAX_FAILS u) (xg_MAX_MISSES u) (xg_codeSize u) (xg_memSize u) (xg_outCount u) (xg_pc u) (xg_status u) (xg_steps u) (xg_cursor u) (xg_hot u) (xg_done u) (xg_crossed u) (xg_nextPc u) (xg_crossedTo u) (xg_recording u) (xg_recHead u) (xg_recLen u) (xg_recMask u) (xg_nextVictim u) (xg_runMask u) (xg_buildOk u) (xg_buildSlot u) (xg_buildStep u) (xg_buildPc u) (xg_bIr u) (xg_bVal u) (xg_irCount u) (xg_valCount u) (xg_exitCount u) (xg_crossCount u) (xg_code u) (xg_mem u) (xg_r u) (xg_crossings u) (xg_out u) (xg_heat u) (xg_fails u) (xg_slotOf u) (xg_recPc u) (xg_recWord u) (xg_recNext u) (xg_trLive u) (xg_trHead u) (xg_trLen u) (xg_trMask u) (xg_trIr u) (xg_trVals u) (xg_trCross u) (xg_trMiss u) (xg_trTargets u) (xg_irOp u) (xg_irA u) (xg_irB u) (xg_irD u) (xg_kFlag u) (xg_kVal u) (xg_exPc u) (xg_exSteps u) (xg_exCross u) (xg_snap u) (xg_val u) (xg_env u) (xg_defAt u) (xg_used u)
theorem xu_doArithmetic_51 (post : Int32 → SX → Prop) (x1 : Int32) (x3 : Int32) (x4 : Int32) (x5 : Int32) (x6 : Int32) (u : SX) : xq_doArithmetic_51 post x1 x3 x4 x5 x6 u = (((x6 = 0 → (post 3 u)) ∧ (¬ x6 = 0 → (xq_doArithmetic_58 post x1 x3 x4 x5 x6 u)))) := rfl
theorem xu_doArithmetic (post : Int32 → SX → Prop) (u : SX) (p0 : Int32) (p1 : Int32) : wpX_doArithmetic post u p0 p1 = (∀ x3_1 : Int32, x3_1 = ((p1.toUInt32 >>> ((5 : Int32).toUInt32 &&& Int32.toUInt32 31)).toInt32) &&& 7 → (∀ x4_2 : Int32, x4_2 = p1 >>> ((11 : Int32) &&& 31) → (vp_in (((p1.toUInt32 >>> ((8 : Int32).toUInt32 &&& Int32.toUInt32 31)).toInt32) &&& 7) 8 ∧ (∀ x5_4 : Int32, x5_4 = (xg_r u) (((p1.toUInt32 >>> ((8 : Int32).toUInt32 &&& Int32.toUInt32 31)).toInt32) &&& 7).toNatClampNeg → (vp_in (x4_2 &&& 7) 8 ∧ (∀ x6_6 : Int32, x6_6 = (xg_r u) (x4_2 &&& 7).toNatClampNeg → (((p0 = 6 → (xq_doArithmetic_51 post p0 x3_1 x4_2 x5_4 x6_6 u)) ∧ (¬ p0 = 6 → (((p0 = 7 → (xq_doArithmetic_51 post p0 x3_1 x4_2 x5_4 x6_6 u)) ∧ (¬ p0 = 7 → (xq_doArithmetic_58 post p0 x3_1 x4_2 x5_4 x6_6 u))))))))))))) := rfl
def xq_doAccess_83 (post : Int32 → SX → Prop) (x1 : Int32) (x3 : Int32) (x4 : Int32) (u : SX) : Prop := wX_doAccess_83 post x1 x3 x4 (xg_G_EQ u) (xg_G_NE u) (xg_G_LT u) (xg_G_GE u) (xg_G_MEM u) (xg_G_CODE u) (xg_G_STC u) (xg_G_ROOM u) (xg_SLOTS u) (xg_REC_CAP u) (xg_IR_CAP u) (xg_VAL_CAP u) (xg_EXIT_CAP u) (xg_MAX_FAILS u) (xg_MAX_MISSES u) (xg_codeSize u) (xg_memSize u) (xg_outCount u) (xg_pc u) (xg_status u) (xg_steps u) (xg_cursor u) (xg_hot u) (xg_done u) (xg_crossed u) (xg_nextPc u) (xg_crossedTo u) (xg_recording u) (xg_recHead u) (xg_recLen u) (xg_recMask u) (xg_nextVictim u) (xg_runMask u) (xg_buildOk u) (xg_buildSlot u) (xg_buildStep u) (xg_buildPc u) (xg_bIr u) (xg_bVal u) (xg_irCount u) (xg_valCount u) (xg_exitCount u) (xg_crossCount u) (xg_code u) (xg_mem u) (xg_r u) (xg_crossings u) (xg_out u) (xg_heat u) (xg_fails u) (xg_slotOf u) (xg_recPc u) (xg_recWord u) (xg_recNext u) (xg_trLive u) (xg_trHead u) (xg_trLen u) (xg_trMask u) (xg_trIr u) (xg_trVals u) (xg_trCross u) (xg_trMiss u) (xg_trTargets u) (xg_irOp u) (xg_irA u) (xg_irB u) (xg_irD u) (xg_kFlag u) (xg_kVal u) (xg_exPc u) (xg_exSteps u) (xg_exCross u) (xg_snap u) (xg_val u) (xg_env u) (xg_defAt u) (xg_used u)
theorem xu_doAccess_83 (post : Int32 → SX → Prop) (x1 : Int32) (x3 : Int32) (x4 : Int32) (u : SX) : xq_doAccess_83 post x1 x3 x4 u = (((x4 < 0 → (post 4 u)) ∧ (¬ x4 < 0 → (((x4 < (xg_memSize u) → (((x1 = 16 → (vp_in x4 64 ∧ (vp_in x3 8 ∧ ∀ a_r_14 : Nat → Int32, a_r_14 = upd (xg_r u) x3.toNatClampNeg ((xg_mem u) x4.toNatClampNeg) → (post 0 (xs_r u a_r_14))))) ∧ (¬ x1 = 16 → (vp_in x3 8 ∧ (vp_in x4 64 ∧ ∀ a_mem_11 : Nat → Int32, a_mem_11 = upd (xg_mem u) x4.toNatClampNeg ((xg_r u) x3.toNatClampNeg) → (post 0 (xs_mem u a_mem_11)))))))) ∧ (¬ x4 < (xg_memSize u) → (post 4 u))))))) := rfl
theorem xu_doAccess (post : Int32 → SX → Prop) (u : SX) (p0 : Int32) (p1 : Int32) : wpX_doAccess post u p0 p1 = (∀ x3_1 : Int32, x3_1 = ((p1.toUInt32 >>> ((5 : Int32).toUInt32 &&& Int32.toUInt32 31)).toInt32) &&& 7 → (((p0 = 20 → ((((xg_outCount u) < 64 → (vp_in x3_1 8 ∧ (vp_in (xg_outCount u) 64 ∧ ∀ a_out_104 : Nat → Int32, a_out_104 = upd (xg_out u) (xg_outCount u).toNatClampNeg ((xg_r u) x3_1.toNatClampNeg) → (∀ f_outCount_105 : Int32, f_outCount_105 = (xg_outCount u) + 1 → (post 0 (xs_out (xs_outCount u f_outCount_105) a_out_104)))))) ∧ (¬ (xg_outCount u) < 64 → (post 6 u))))) ∧ (¬ p0 = 20 → (vp_in (((p1.toUInt32 >>> ((8 : Int32).toUInt32 &&& Int32.toUInt32 31)).toInt32) &&& 7) 8 ∧ (∀ x4_4 : Int32, x4_4 = ((xg_r u) (((p1.toUInt32 >>> ((8 : Int32).toUInt32 &&& Int32.toUInt32 31)).toInt32) &&& 7).toNatClampNeg) + (p1 >>> ((11 : Int32) &&& 31)) → (((p0 = 16 → (xq_doAccess_83 post p0 x3_1 x4_4 u)) ∧ (¬ p0 = 16 → (((p0 = 17 → (xq_doAccess_83 post p0 x3_1 x4_4 u)) ∧ (¬ p0 = 17 → (((x4_4 < 0 → (post 5 u)) ∧ (¬ x4_4 < 0 → (((x4_4 < (xg_codeSize u) → (((p0 = 18 → (vp_in x4_4 64 ∧ (vp_in x3_1 8 ∧ ∀ a_r_100 : Nat → Int32, a_r_100 = upd (xg_r u) x3_1.toNatClampNeg ((xg_code u) x4_4.toNatClampNeg) → (post 0 (xs_r u a_r_100))))) ∧ (¬ p0 = 18 → (vp_in x3_1 8 ∧ (wpX_storeCode (fun u17 => (post 0 u17)) u x4_4 ((xg_r u) x3_1.toNatClampNeg))))))) ∧ (¬ x4_4 < (xg_codeSize u) → (post 5 u))))))))))))))))))) := rfl
theorem xu_isTaken (post : Int32 → Prop) (u : SX) (p0 : Int32) (p1 : Int32) (p2 : Int32) : wpX_isTaken post u p0 p1 p2 = (((p0 < 22 → (post 1)) ∧ (¬ p0 < 22 → (((27 < p0 → (post 1)) ∧ (¬ 27 < p0 → (((p0 = 22 → (((p1 = 0 → (post 1)) ∧ (¬ p1 = 0 → (post 0))))) ∧ (¬ p0 = 22 → (((p0 = 23 → (((p1 = 0 → (post 0)) ∧ (¬ p1 = 0 → (post 1))))) ∧ (¬ p0 = 23 → (((p0 = 24 → (((p2 ≤ p1 → (post 0)) ∧ (¬ p2 ≤ p1 → (post 1))))) ∧ (¬ p0 = 24 → (((p0 = 25 → (((p1 < p2 → (post 0)) ∧ (¬ p1 < p2 → (post 1))))) ∧ (¬ p0 = 25 → (((p0 = 26 → (((p1 = p2 → (post 1)) ∧ (¬ p1 = p2 → (post 0))))) ∧ (¬ p0 = 26 → (((p0 = 27 → (((p1 = p2 → (post 0)) ∧ (¬ p1 = p2 → (post 1))))) ∧ (¬ p0 = 27 → (True))))))))))))))))))))))))) := rfl
def xq_doJump_99 (post : Int32 → SX → Prop) (x3 : Int32) (x7 : Int32) (u : SX) : Prop := wX_doJump_99 post x3 x7 (xg_G_EQ u) (xg_G_NE u) (xg_G_LT u) (xg_G_GE u) (xg_G_MEM u) (xg_G_CODE u) (xg_G_STC u) (xg_G_ROOM u) (xg_SLOTS u) (xg_REC_CAP u) (xg_IR_CAP u) (xg_VAL_CAP u) (xg_EXIT_CAP u) (xg_MAX_FAILS u) (xg_MAX_MISSES u) (xg_codeSize u) (xg_memSize u) (xg_outCount u) (xg_pc u) (xg_status u) (xg_steps u) (xg_cursor u) (xg_hot u) (xg_done u) (xg_crossed u) (xg_nextPc u) (xg_crossedTo u) (xg_recording u) (xg_recHead u) (xg_recLen u) (xg_recMask u) (xg_nextVictim u) (xg_runMask u) (xg_buildOk u) (xg_buildSlot u) (xg_buildStep u) (xg_buildPc u) (xg_bIr u) (xg_bVal u) (xg_irCount u) (xg_valCount u) (xg_exitCount u) (xg_crossCount u) (xg_code u) (xg_mem u) (xg_r u) (xg_crossings u) (xg_out u) (xg_heat u) (xg_fails u) (xg_slotOf u) (xg_recPc u) (xg_recWord u) (xg_recNext u) (xg_trLive u) (xg_trHead u) (xg_trLen u) (xg_trMask u) (xg_trIr u) (xg_trVals u) (xg_trCross u) (xg_trMiss u) (xg_trTargets u) (xg_irOp u) (xg_irA u) (xg_irB u) (xg_irD u) (xg_kFlag u) (xg_kVal u) (xg_exPc u) (xg_exSteps u) (xg_exCross u) (xg_snap u) (xg_val u) (xg_env u) (xg_defAt u) (xg_used u)
theorem xu_doJump_99 (post : Int32 → SX → Prop) (x3 : Int32) (x7 : Int32) (u : SX) : xq_doJump_99 post x3 x7 u = (((x3 < x7 → (post 0 (xs_nextPc u x7))) ∧ (¬ x3 < x7 → (vp_in x7 64 ∧ (vp_in x7 64 ∧ ∀ a_crossings_92 : Nat → Int32, a_crossings_92 = upd (xg_crossings u) x7.toNatClampNeg (((xg_crossings u) x7.toNatClampNeg) + 1) → (∀ f_crossed_93 : Int32, f_crossed_93 = (xg_crossed u) + 1 → (post 0 (xs_crossings (xs_crossedTo (xs_nextPc (xs_crossed u f_crossed_93) x7) x7) a_crossings_92)))))))) := rfl
def xq_doJump_66 (post : Int32 → SX → Prop) (x1 : Int32) (x3 : Int32) (x4 : Int32) (x7 : Int32) (u : SX) : Prop := wX_doJump_66 post x1 x3 x4 x7 (xg_G_EQ u) (xg_G_NE u) (xg_G_LT u) (xg_G_GE u) (xg_G_MEM u) (xg_G_CODE u) (xg_G_STC u) (xg_G_ROOM u) (xg_SLOTS u) (xg_REC_CAP u) (xg_IR_CAP u) (xg_VAL_CAP u) (xg_EXIT_CAP u) (xg_MAX_FAILS u) (xg_MAX_MISSES u) (xg_codeSize u) (xg_memSize u) (xg_outCount u) (xg_pc u) (xg_status u) (xg_steps u) (xg_cursor u) (xg_hot u) (xg_done u) (xg_crossed u) (xg_nextPc u) (xg_crossedTo u) (xg_recording u) (xg_recHead u) (xg_recLen u) (xg_recMask u) (xg_nextVictim u) (xg_runMask u) (xg_buildOk u) (xg_buildSlot u) (xg_buildStep u) (xg_buildPc u) (xg_bIr u) (xg_bVal u) (xg_irCount u) (xg_valCount u) (xg_exitCount u) (xg_crossCount u) (xg_code u) (xg_mem u) (xg_r u) (xg_crossings u) (xg_out u) (xg_heat u) (xg_fails u) (xg_slotOf u) (xg_recPc u) (xg_recWord u) (xg_recNext u) (xg_trLive u) (xg_trHead u) (xg_trLen u) (xg_trMask u) (xg_trIr u) (xg_trVals u) (xg_trCross u) (xg_trMiss u) (xg_trTargets u) (xg_irOp u) (xg_irA u) (xg_irB u) (xg_irD u) (xg_kFlag u) (xg_kVal u) (xg_exPc u) (xg_exSteps u) (xg_exCross u) (xg_snap u) (xg_val u) (xg_env u) (xg_defAt u) (xg_used u)
theorem xu_doJump_66 (post : Int32 → SX → Prop) (x1 : Int32) (x3 : Int32) (x4 : Int32) (x7 : Int32) (u : SX) : xq_doJump_66 post x1 x3 x4 x7 u = (((x7 < 0 → (post 7 u)) ∧ (¬ x7 < 0 → (((x7 < (xg_codeSize u) → (((x1 = 28 → (vp_in x4 8 ∧ ∀ a_r_95 : Nat → Int32, a_r_95 = upd (xg_r u) x4.toNatClampNeg (x3 + 1) → (xq_doJump_99 post x3 x7 (xs_r u a_r_95)))) ∧ (¬ x1 = 28 → (xq_doJump_99 post x3 x7 u))))) ∧ (¬ x7 < (xg_codeSize u) → (post 7 u))))))) := rfl
theorem xu_doJump (post : Int32 → SX → Prop) (u : SX) (p0 : Int32) (p1 : Int32) (p2 : Int32) : wpX_doJump post u p0 p1 p2 = (∀ x4_1 : Int32, x4_1 = ((p1.toUInt32 >>> ((5 : Int32).toUInt32 &&& Int32.toUInt32 31)).toInt32) &&& 7 → (∀ x5_2 : Int32, x5_2 = ((p1.toUInt32 >>> ((8 : Int32).toUInt32 &&& Int32.toUInt32 31)).toInt32) &&& 7 → (vp_in x4_1 8 ∧ (vp_in x5_2 8 ∧ (wpX_isTaken (fun r_5 => (((r_5 = 0 → (post 0 u)) ∧ (¬ r_5 = 0 → (∀ x7_84 : Int32, x7_84 = p1 >>> ((11 : Int32) &&& 31) → (((p0 = 29 → (vp_in x4_1 8 ∧ (∀ x7_97 : Int32, x7_97 = (xg_r u) x4_1.toNatClampNeg → (xq_doJump_66 post p0 p2 x4_1 x7_97 u)))) ∧ (¬ p0 = 29 → (xq_doJump_66 post p0 p2 x4_1 x7_84 u))))))))) u p0 ((xg_r u) x4_1.toNatClampNeg) ((xg_r u) x5_2.toNatClampNeg)))))) := rfl
theorem xu_perform (post : Int32 → SX → Prop) (u : SX) (p0 : Int32) (p1 : Int32) : wpX_perform post u p0 p1 = (∀ x3_1 : Int32, x3_1 = p1 &&& 31 → (∀ f_nextPc_2 : Int32, f_nextPc_2 = p0 + 1 → (((x3_1 = 0 → (post 1 (xs_nextPc u f_nextPc_2))) ∧ (¬ x3_1 = 0 → (((15 < x3_1 → (((20 < x3_1 → (((29 < x3_1 → (post 2 (xs_nextPc u f_nextPc_2))) ∧ (¬ 29 < x3_1 → (wpX_doJump (fun r_7 u18 => (post r_7 u18)) (xs_nextPc u f_nextPc_2) x3_1 p1 p0))))) ∧ (¬ 20 < x3_1 → (wpX_doAccess (fun r_85 u19 => (post r_85 u19)) (xs_nextPc u f_nextPc_2) x3_1 p1))))) ∧ (¬ 15 < x3_1 → (wpX_doArithmetic (fun r_163 u20 => (post r_163 u20)) (xs_nextPc u f_nextPc_2) x3_1 p1))))))))) := rfl
def xq_pickSlot_2 (post : Int32 → SX → Prop) (n : Nat) (x1 : Int32) (u : SX) : Prop := wX_pickSlot_2 post (xg_G_EQ u) (xg_G_NE u) (xg_G_LT u) (xg_G_GE u) (xg_G_MEM u) (xg_G_CODE u) (xg_G_STC u) (xg_G_ROOM u) (xg_SLOTS u) (xg_REC_CAP u) (xg_IR_CAP u) (xg_VAL_CAP u) (xg_EXIT_CAP u) (xg_MAX_FAILS u) (xg_MAX_MISSES u) (xg_codeSize u) (xg_memSize u) (xg_outCount u) (xg_pc u) (xg_status u) (xg_steps u) (xg_cursor u) (xg_hot u) (xg_done u) (xg_crossed u) (xg_nextPc u) (xg_crossedTo u) (xg_recording u) (xg_recHead u) (xg_recLen u) (xg_recMask u) (xg_nextVictim u) (xg_runMask u) (xg_buildOk u) (xg_buildSlot u) (xg_buildStep u) (xg_buildPc u) (xg_bIr u) (xg_bVal u) (xg_irCount u) (xg_valCount u) (xg_exitCount u) (xg_crossCount u) (xg_code u) (xg_mem u) (xg_r u) (xg_crossings u) (xg_out u) (xg_heat u) (xg_fails u) (xg_slotOf u) (xg_recPc u) (xg_recWord u) (xg_recNext u) (xg_trLive u) (xg_trHead u) (xg_trLen u) (xg_trMask u) (xg_trIr u) (xg_trVals u) (xg_trCross u) (xg_trMiss u) (xg_trTargets u) (xg_irOp u) (xg_irA u) (xg_irB u) (xg_irD u) (xg_kFlag u) (xg_kVal u) (xg_exPc u) (xg_exSteps u) (xg_exCross u) (xg_snap u) (xg_val u) (xg_env u) (xg_defAt u) (xg_used u) n x1
theorem xu_pickSlot_2 (post : Int32 → SX → Prop) (n : Nat) (x1 : Int32) (u : SX) : xq_pickSlot_2 post (n + 1) x1 u = (((8 ≤ x1 → (∀ f_nextVictim_2 : Int32, f_nextVictim_2 = ((xg_nextVictim u) + 1) &&& 7 → (wpX_dropSlot (fun u21 => (post (xg_nextVictim u) u21)) (xs_nextVictim u f_nextVictim_2) (xg_nextVictim u)))) ∧ (¬ 8 ≤ x1 → (vp_in x1 8 ∧ (((((xg_trLive u) x1.toNatClampNeg) = 0 → (post x1 u)) ∧ (¬ ((xg_trLive u) x1.toNatClampNeg) = 0 → (∀ x1_83 : Int32, x1_83 = x1 + 1 → (xq_pickSlot_2 post n x1_83 u))))))))) := rfl
theorem xu_pickSlot (post : Int32 → SX → Prop) (u : SX) : wpX_pickSlot post u = (∃ n2 : Nat, xq_pickSlot_2 post n2 0 u) := rfl
def xq_beginBuild_51 (post : SX → Prop) (n : Nat) (x2 : Int32) (u : SX) : Prop := wX_beginBuild_51 post (xg_G_EQ u) (xg_G_NE u) (xg_G_LT u) (xg_G_GE u) (xg_G_MEM u) (xg_G_CODE u) (xg_G_STC u) (xg_G_ROOM u) (xg_SLOTS u) (xg_REC_CAP u) (xg_IR_CAP u) (xg_VAL_CAP u) (xg_EXIT_CAP u) (xg_MAX_FAILS u) (xg_MAX_MISSES u) (xg_codeSize u) (xg_memSize u) (xg_outCount u) (xg_pc u) (xg_status u) (xg_steps u) (xg_cursor u) (xg_hot u) (xg_done u) (xg_crossed u) (xg_nextPc u) (xg_crossedTo u) (xg_recording u) (xg_recHead u) (xg_recLen u) (xg_recMask u) (xg_nextVictim u) (xg_runMask u) (xg_buildOk u) (xg_buildSlot u) (xg_buildStep u) (xg_buildPc u) (xg_bIr u) (xg_bVal u) (xg_irCount u) (xg_valCount u) (xg_exitCount u) (xg_crossCount u) n x2 (xg_code u) (xg_mem u) (xg_r u) (xg_crossings u) (xg_out u) (xg_heat u) (xg_fails u) (xg_slotOf u) (xg_recPc u) (xg_recWord u) (xg_recNext u) (xg_trLive u) (xg_trHead u) (xg_trLen u) (xg_trMask u) (xg_trIr u) (xg_trVals u) (xg_trCross u) (xg_trMiss u) (xg_trTargets u) (xg_irOp u) (xg_irA u) (xg_irB u) (xg_irD u) (xg_kFlag u) (xg_kVal u) (xg_exPc u) (xg_exSteps u) (xg_exCross u) (xg_snap u) (xg_val u) (xg_env u) (xg_defAt u) (xg_used u)
theorem xu_beginBuild_51 (post : SX → Prop) (n : Nat) (x2 : Int32) (u : SX) : xq_beginBuild_51 post (n + 1) x2 u = (((8 ≤ x2 → (post u)) ∧ (¬ 8 ≤ x2 → (vp_in x2 8 ∧ ∀ a_env_5 : Nat → Int32, a_env_5 = upd (xg_env u) x2.toNatClampNeg x2 → (vp_in x2 256 ∧ ∀ a_defAt_7 : Nat → Int32, a_defAt_7 = upd (xg_defAt u) x2.toNatClampNeg 0 → (vp_in ((xg_bVal u) + x2) 2048 ∧ ∀ a_kFlag_9 : Nat → Int32, a_kFlag_9 = upd (xg_kFlag u) ((xg_bVal u) + x2).toNatClampNeg (vp_nar .boolean 0) → (∀ x2_10 : Int32, x2_10 = x2 + 1 → (xq_beginBuild_51 post n x2_10 (xs_defAt (xs_env (xs_kFlag u a_kFlag_9) a_env_5) a_defAt_7))))))))) := rfl
theorem xu_beginBuild (post : SX → Prop) (u : SX) (p0 : Int32) : wpX_beginBuild post u p0 = (∀ f_bIr_1 : Int32, f_bIr_1 = p0 * 256 → (∀ f_bVal_2 : Int32, f_bVal_2 = p0 * 256 → (∃ n51 : Nat, xq_beginBuild_51 post n51 0 (xs_crossCount (xs_exitCount (xs_valCount (xs_irCount (xs_bVal (xs_bIr (xs_buildSlot (xs_buildOk u 1) p0) f_bIr_1) f_bVal_2) 0) 8) 1) 0)))) := rfl
theorem xu_freshValue (post : Int32 → SX → Prop) (u : SX) : wpX_freshValue post u = ((((xg_valCount u) < 256 → (∀ f_valCount_2 : Int32, f_valCount_2 = (xg_valCount u) + 1 → (vp_in (xg_valCount u) 256 ∧ ∀ a_defAt_4 : Nat → Int32, a_defAt_4 = upd (xg_defAt u) (xg_valCount u).toNatClampNeg 0 → (vp_in ((xg_bVal u) + (xg_valCount u)) 2048 ∧ ∀ a_kFlag_6 : Nat → Int32, a_kFlag_6 = upd (xg_kFlag u) ((xg_bVal u) + (xg_valCount u)).toNatClampNeg (vp_nar .boolean 0) → (post (xg_valCount u) (xs_defAt (xs_kFlag (xs_valCount u f_valCount_2) a_kFlag_6) a_defAt_4)))))) ∧ (¬ (xg_valCount u) < 256 → (post 0 (xs_buildOk u 0))))) := rfl
def xq_constant_3 (post : Int32 → SX → Prop) (x1 : Int32) (n : Nat) (x2 : Int32) (u : SX) : Prop := wX_constant_3 post x1 (xg_G_EQ u) (xg_G_NE u) (xg_G_LT u) (xg_G_GE u) (xg_G_MEM u) (xg_G_CODE u) (xg_G_STC u) (xg_G_ROOM u) (xg_SLOTS u) (xg_REC_CAP u) (xg_IR_CAP u) (xg_VAL_CAP u) (xg_EXIT_CAP u) (xg_MAX_FAILS u) (xg_MAX_MISSES u) (xg_codeSize u) (xg_memSize u) (xg_outCount u) (xg_pc u) (xg_status u) (xg_steps u) (xg_cursor u) (xg_hot u) (xg_done u) (xg_crossed u) (xg_nextPc u) (xg_crossedTo u) (xg_recording u) (xg_recHead u) (xg_recLen u) (xg_recMask u) (xg_nextVictim u) (xg_runMask u) (xg_buildOk u) (xg_buildSlot u) (xg_buildStep u) (xg_buildPc u) (xg_bIr u) (xg_bVal u) (xg_irCount u) (xg_valCount u) (xg_exitCount u) (xg_crossCount u) (xg_code u) (xg_mem u) (xg_r u) (xg_crossings u) (xg_out u) (xg_heat u) (xg_fails u) (xg_slotOf u) (xg_recPc u) (xg_recWord u) (xg_recNext u) (xg_trLive u) (xg_trHead u) (xg_trLen u) (xg_trMask u) (xg_trIr u) (xg_trVals u) (xg_trCross u) (xg_trMiss u) (xg_trTargets u) (xg_irOp u) (xg_irA u) (xg_irB u) (xg_irD u) (xg_kFlag u) (xg_kVal u) (xg_exPc u) (xg_exSteps u) (xg_exCross u) (xg_snap u) (xg_val u) (xg_env u) (xg_defAt u) (xg_used u) n x2
theorem xu_constant_3 (post : Int32 → SX → Prop) (x1 : Int32) (n : Nat) (x2 : Int32) (u : SX) : xq_constant_3 post x1 (n + 1) x2 u = ((((xg_valCount u) ≤ x2 → (wpX_freshValue (fun r_2 u22 => ((((xg_buildOk u22) = 0 → (post r_2 u22)) ∧ (¬ (xg_buildOk u22) = 0 → (vp_in ((xg_bVal u22) + r_2) 2048 ∧ ∀ a_kFlag_82 : Nat → Int32, a_kFlag_82 = upd (xg_kFlag u22) ((xg_bVal u22) + r_2).toNatClampNeg (vp_nar .boolean 1) → (vp_in ((xg_bVal u22) + r_2) 2048 ∧ ∀ a_kVal_84 : Nat → Int32, a_kVal_84 = upd (xg_kVal u22) ((xg_bVal u22) + r_2).toNatClampNeg x1 → (post r_2 (xs_kVal (xs_kFlag u22 a_kFlag_82) a_kVal_84)))))))) u)) ∧ (¬ (xg_valCount u) ≤ x2 → (vp_in ((xg_bVal u) + x2) 2048 ∧ (((((xg_kFlag u) ((xg_bVal u) + x2).toNatClampNeg) = 0 → (∀ x2_87 : Int32, x2_87 = x2 + 1 → (xq_constant_3 post x1 n x2_87 u))) ∧ (¬ ((xg_kFlag u) ((xg_bVal u) + x2).toNatClampNeg) = 0 → (vp_in ((xg_bVal u) + x2) 2048 ∧ (((((xg_kVal u) ((xg_bVal u) + x2).toNatClampNeg) = x1 → (post x2 u)) ∧ (¬ ((xg_kVal u) ((xg_bVal u) + x2).toNatClampNeg) = x1 → (∀ x2_90 : Int32, x2_90 = x2 + 1 → (xq_constant_3 post x1 n x2_90 u))))))))))))) := rfl
theorem xu_constant (post : Int32 → SX → Prop) (u : SX) (p0 : Int32) : wpX_constant post u p0 = (∃ n3 : Nat, xq_constant_3 post p0 n3 8 u) := rfl
theorem xu_isK (post : Int32 → Prop) (u : SX) (p0 : Int32) : wpX_isK post u p0 = (vp_in ((xg_bVal u) + p0) 2048 ∧ (narrow .boolean (.int ((xg_kFlag u) ((xg_bVal u) + p0).toNatClampNeg)) = .int ((xg_kFlag u) ((xg_bVal u) + p0).toNatClampNeg) ∧ (post ((xg_kFlag u) ((xg_bVal u) + p0).toNatClampNeg)))) := rfl
theorem xu_commutes (post : Int32 → Prop) (u : SX) (p0 : Int32) : wpX_commutes post u p0 = (((p0 = 3 → (post 1)) ∧ (¬ p0 = 3 → (((p0 = 5 → (post 1)) ∧ (¬ p0 = 5 → (((p0 = 8 → (post 1)) ∧ (¬ p0 = 8 → (((p0 = 9 → (post 1)) ∧ (¬ p0 = 9 → (((p0 = 10 → (post 1)) ∧ (¬ p0 = 10 → (((p0 = 15 → (post 1)) ∧ (¬ p0 = 15 → (post 0))))))))))))))))))) := rfl
def xq_simplify_129 (post : Int32 → SX → Prop) (x1 : Int32) (x2 : Int32) (x4 : Int32) (u : SX) : Prop := wX_simplify_129 post x1 x2 x4 (xg_G_EQ u) (xg_G_NE u) (xg_G_LT u) (xg_G_GE u) (xg_G_MEM u) (xg_G_CODE u) (xg_G_STC u) (xg_G_ROOM u) (xg_SLOTS u) (xg_REC_CAP u) (xg_IR_CAP u) (xg_VAL_CAP u) (xg_EXIT_CAP u) (xg_MAX_FAILS u) (xg_MAX_MISSES u) (xg_codeSize u) (xg_memSize u) (xg_outCount u) (xg_pc u) (xg_status u) (xg_steps u) (xg_cursor u) (xg_hot u) (xg_done u) (xg_crossed u) (xg_nextPc u) (xg_crossedTo u) (xg_recording u) (xg_recHead u) (xg_recLen u) (xg_recMask u) (xg_nextVictim u) (xg_runMask u) (xg_buildOk u) (xg_buildSlot u) (xg_buildStep u) (xg_buildPc u) (xg_bIr u) (xg_bVal u) (xg_irCount u) (xg_valCount u) (xg_exitCount u) (xg_crossCount u) (xg_code u) (xg_mem u) (xg_r u) (xg_crossings u) (xg_out u) (xg_heat u) (xg_fails u) (xg_slotOf u) (xg_recPc u) (xg_recWord u) (xg_recNext u) (xg_trLive u) (xg_trHead u) (xg_trLen u) (xg_trMask u) (xg_trIr u) (xg_trVals u) (xg_trCross u) (xg_trMiss u) (xg_trTargets u) (xg_irOp u) (xg_irA u) (xg_irB u) (xg_irD u) (xg_kFlag u) (xg_kVal u) (xg_exPc u) (xg_exSteps u) (xg_exCross u) (xg_snap u) (xg_val u) (xg_env u) (xg_defAt u) (xg_used u)
theorem xu_simplify_129 (post : Int32 → SX → Prop) (x1 : Int32) (x2 : Int32) (x4 : Int32) (u : SX) : xq_simplify_129 post x1 x2 x4 u = (((x4 = 1 → (((x1 = 5 → (post x2 u)) ∧ (¬ x1 = 5 → (((x1 = 6 → (post x2 u)) ∧ (¬ x1 = 6 → (post (-1) u)))))))) ∧ (¬ x4 = 1 → (post (-1) u)))) := rfl
def xq_simplify_111 (post : Int32 → SX → Prop) (x1 : Int32) (x2 : Int32) (x3 : Int32) (x4 : Int32) (u : SX) : Prop := wX_simplify_111 post x1 x2 x3 x4 (xg_G_EQ u) (xg_G_NE u) (xg_G_LT u) (xg_G_GE u) (xg_G_MEM u) (xg_G_CODE u) (xg_G_STC u) (xg_G_ROOM u) (xg_SLOTS u) (xg_REC_CAP u) (xg_IR_CAP u) (xg_VAL_CAP u) (xg_EXIT_CAP u) (xg_MAX_FAILS u) (xg_MAX_MISSES u) (xg_codeSize u) (xg_memSize u) (xg_outCount u) (xg_pc u) (xg_status u) (xg_steps u) (xg_cursor u) (xg_hot u) (xg_done u) (xg_crossed u) (xg_nextPc u) (xg_crossedTo u) (xg_recording u) (xg_recHead u) (xg_recLen u) (xg_recMask u) (xg_nextVictim u) (xg_runMask u) (xg_buildOk u) (xg_buildSlot u) (xg_buildStep u) (xg_buildPc u) (xg_bIr u) (xg_bVal u) (xg_irCount u) (xg_valCount u) (xg_exitCount u) (xg_crossCount u) (xg_code u) (xg_mem u) (xg_r u) (xg_crossings u) (xg_out u) (xg_heat u) (xg_fails u) (xg_slotOf u) (xg_recPc u) (xg_recWord u) (xg_recNext u) (xg_trLive u) (xg_trHead u) (xg_trLen u) (xg_trMask u) (xg_trIr u) (xg_trVals u) (xg_trCross u) (xg_trMiss u) (xg_trTargets u) (xg_irOp u) (xg_irA u) (xg_irB u) (xg_irD u) (xg_kFlag u) (xg_kVal u) (xg_exPc u) (xg_exSteps u) (xg_exCross u) (xg_snap u) (xg_val u) (xg_env u) (xg_defAt u) (xg_used u)
theorem xu_simplify_111 (post : Int32 → SX → Prop) (x1 : Int32) (x2 : Int32) (x3 : Int32) (x4 : Int32) (u : SX) : xq_simplify_111 post x1 x2 x3 x4 u = (((x4 = 0 → (((x1 = 5 → (post x3 u)) ∧ (¬ x1 = 5 → (((x1 = 8 → (post x3 u)) ∧ (¬ x1 = 8 → (xq_simplify_129 post x1 x2 x4 u)))))))) ∧ (¬ x4 = 0 → (xq_simplify_129 post x1 x2 x4 u)))) := rfl
def xq_simplify_54 (post : Int32 → SX → Prop) (x1 : Int32) (x2 : Int32) (x3 : Int32) (u : SX) : Prop := wX_simplify_54 post x1 x2 x3 (xg_G_EQ u) (xg_G_NE u) (xg_G_LT u) (xg_G_GE u) (xg_G_MEM u) (xg_G_CODE u) (xg_G_STC u) (xg_G_ROOM u) (xg_SLOTS u) (xg_REC_CAP u) (xg_IR_CAP u) (xg_VAL_CAP u) (xg_EXIT_CAP u) (xg_MAX_FAILS u) (xg_MAX_MISSES u) (xg_codeSize u) (xg_memSize u) (xg_outCount u) (xg_pc u) (xg_status u) (xg_steps u) (xg_cursor u) (xg_hot u) (xg_done u) (xg_crossed u) (xg_nextPc u) (xg_crossedTo u) (xg_recording u) (xg_recHead u) (xg_recLen u) (xg_recMask u) (xg_nextVictim u) (xg_runMask u) (xg_buildOk u) (xg_buildSlot u) (xg_buildStep u) (xg_buildPc u) (xg_bIr u) (xg_bVal u) (xg_irCount u) (xg_valCount u) (xg_exitCount u) (xg_crossCount u) (xg_code u) (xg_mem u) (xg_r u) (xg_crossings u) (xg_out u) (xg_heat u) (xg_fails u) (xg_slotOf u) (xg_recPc u) (xg_recWord u) (xg_recNext u) (xg_trLive u) (xg_trHead u) (xg_trLen u) (xg_trMask u) (xg_trIr u) (xg_trVals u) (xg_trCross u) (xg_trMiss u) (xg_trTargets u) (xg_irOp u) (xg_irA u) (xg_irB u) (xg_irD u) (xg_kFlag u) (xg_kVal u) (xg_exPc u) (xg_exSteps u) (xg_exCross u) (xg_snap u) (xg_val u) (xg_env u) (xg_defAt u) (xg_used u)
theorem xu_simplify_54 (post : Int32 → SX → Prop) (x1 : Int32) (x2 : Int32) (x3 : Int32) (u : SX) : xq_simplify_54 post x1 x2 x3 u = (wpX_isK (fun r_2 => (((r_2 = 0 → (post (-1) u)) ∧ (¬ r_2 = 0 → (vp_in ((xg_bVal u) + x3) 2048 ∧ (∀ x4_82 : Int32, x4_82 = (xg_kVal u) ((xg_bVal u) + x3).toNatClampNeg → (((x4_82 = 0 → (((x1 = 3 → (post x2 u)) ∧ (¬ x1 = 3 → (((x1 = 9 → (post x2 u)) ∧ (¬ x1 = 9 → (((x1 = 10 → (post x2 u)) ∧ (¬ x1 = 10 → (((x1 = 11 → (post x2 u)) ∧ (¬ x1 = 11 → (((x1 = 12 → (post x2 u)) ∧ (¬ x1 = 12 → (xq_simplify_111 post x1 x2 x3 x4_82 u))))))))))))))))) ∧ (¬ x4_82 = 0 → (xq_simplify_111 post x1 x2 x3 x4_82 u)))))))))) u x3) := rfl
def xq_simplify_22 (post : Int32 → SX → Prop) (u : SX) : Prop := wX_simplify_22 post (xg_G_EQ u) (xg_G_NE u) (xg_G_LT u) (xg_G_GE u) (xg_G_MEM u) (xg_G_CODE u) (xg_G_STC u) (xg_G_ROOM u) (xg_SLOTS u) (xg_REC_CAP u) (xg_IR_CAP u) (xg_VAL_CAP u) (xg_EXIT_CAP u) (xg_MAX_FAILS u) (xg_MAX_MISSES u) (xg_codeSize u) (xg_memSize u) (xg_outCount u) (xg_pc u) (xg_status u) (xg_steps u) (xg_cursor u) (xg_hot u) (xg_done u) (xg_crossed u) (xg_nextPc u) (xg_crossedTo u) (xg_recording u) (xg_recHead u) (xg_recLen u) (xg_recMask u) (xg_nextVictim u) (xg_runMask u) (xg_buildOk u) (xg_buildSlot u) (xg_buildStep u) (xg_buildPc u) (xg_bIr u) (xg_bVal u) (xg_irCount u) (xg_valCount u) (xg_exitCount u) (xg_crossCount u) (xg_code u) (xg_mem u) (xg_r u) (xg_crossings u) (xg_out u) (xg_heat u) (xg_fails u) (xg_slotOf u) (xg_recPc u) (xg_recWord u) (xg_recNext u) (xg_trLive u) (xg_trHead u) (xg_trLen u) (xg_trMask u) (xg_trIr u) (xg_trVals u) (xg_trCross u) (xg_trMiss u) (xg_trTargets u) (xg_irOp u) (xg_irA u) (xg_irB u) (xg_irD u) (xg_kFlag u) (xg_kVal u) (xg_exPc u) (xg_exSteps u) (xg_exCross u) (xg_snap u) (xg_val u) (xg_env u) (xg_defAt u) (xg_used u)
theorem xu_simplify_22 (post : Int32 → SX → Prop) (u : SX) : xq_simplify_22 post u = (wpX_constant (fun r_96 u23 => (post r_96 u23)) u 0) := rfl
theorem xu_simplify (post : Int32 → SX → Prop) (u : SX) (p0 : Int32) (p1 : Int32) (p2 : Int32) : wpX_simplify post u p0 p1 p2 = (((p1 = p2 → (((p0 = 4 → (xq_simplify_22 post u)) ∧ (¬ p0 = 4 → (((p0 = 10 → (xq_simplify_22 post u)) ∧ (¬ p0 = 10 → (((p0 = 14 → (xq_simplify_22 post u)) ∧ (¬ p0 = 14 → (((p0 = 15 → (wpX_constant (fun r_179 u24 => (post r_179 u24)) u 1)) ∧ (¬ p0 = 15 → (((p0 = 8 → (post p1 u)) ∧ (¬ p0 = 8 → (((p0 = 9 → (post p1 u)) ∧ (¬ p0 = 9 → (xq_simplify_54 post p0 p1 p2 u)))))))))))))))))))) ∧ (¬ p1 = p2 → (xq_simplify_54 post p0 p1 p2 u)))) := rfl
theorem xu_addIr (post : SX → Prop) (u : SX) (p0 : Int32) (p1 : Int32) (p2 : Int32) (p3 : Int32) : wpX_addIr post u p0 p1 p2 p3 = ((((xg_irCount u) < 256 → (∀ x5_2 : Int32, x5_2 = (xg_bIr u) + (xg_irCount u) → (vp_in x5_2 2048 ∧ ∀ a_irOp_4 : Nat → Int32, a_irOp_4 = upd (xg_irOp u) x5_2.toNatClampNeg p0 → (vp_in x5_2 2048 ∧ ∀ a_irA_6 : Nat → Int32, a_irA_6 = upd (xg_irA u) x5_2.toNatClampNeg p1 → (vp_in x5_2 2048 ∧ ∀ a_irB_8 : Nat → Int32, a_irB_8 = upd (xg_irB u) x5_2.toNatClampNeg p2 → (vp_in x5_2 2048 ∧ ∀ a_irD_10 : Nat → Int32, a_irD_10 = upd (xg_irD u) x5_2.toNatClampNeg p3 → (∀ f_irCount_11 : Int32, f_irCount_11 = (xg_irCount u) + 1 → (post (xs_irD (xs_irB (xs_irA (xs_irOp (xs_irCount u f_irCount_11) a_irOp_4) a_irA_6) a_irB_8) a_irD_10))))))))) ∧ (¬ (xg_irCount u) < 256 → (post (xs_buildOk u 0))))) := rfl
def xq_pure_287 (post : Int32 → SX → Prop) (x4 : Int32) (x5 : Int32) (x6 : Int32) (n : Nat) (x10 : Int32) (u : SX) : Prop := wX_pure_287 post x4 x5 x6 (xg_G_EQ u) (xg_G_NE u) (xg_G_LT u) (xg_G_GE u) (xg_G_MEM u) (xg_G_CODE u) (xg_G_STC u) (xg_G_ROOM u) (xg_SLOTS u) (xg_REC_CAP u) (xg_IR_CAP u) (xg_VAL_CAP u) (xg_EXIT_CAP u) (xg_MAX_FAILS u) (xg_MAX_MISSES u) (xg_codeSize u) (xg_memSize u) (xg_outCount u) (xg_pc u) (xg_status u) (xg_steps u) (xg_cursor u) (xg_hot u) (xg_done u) (xg_crossed u) (xg_nextPc u) (xg_crossedTo u) (xg_recording u) (xg_recHead u) (xg_recLen u) (xg_recMask u) (xg_nextVictim u) (xg_runMask u) (xg_buildOk u) (xg_buildSlot u) (xg_buildStep u) (xg_buildPc u) (xg_bIr u) (xg_bVal u) (xg_irCount u) (xg_valCount u) (xg_exitCount u) (xg_crossCount u) (xg_code u) (xg_mem u) (xg_r u) (xg_crossings u) (xg_out u) (xg_heat u) (xg_fails u) (xg_slotOf u) (xg_recPc u) (xg_recWord u) (xg_recNext u) (xg_trLive u) (xg_trHead u) (xg_trLen u) (xg_trMask u) (xg_trIr u) (xg_trVals u) (xg_trCross u) (xg_trMiss u) (xg_trTargets u) (xg_irOp u) (xg_irA u) (xg_irB u) (xg_irD u) (xg_kFlag u) (xg_kVal u) (xg_exPc u) (xg_exSteps u) (xg_exCross u) (xg_snap u) (xg_val u) (xg_env u) (xg_defAt u) (xg_used u) n x10
theorem xu_pure_287 (post : Int32 → SX → Prop) (x4 : Int32) (x5 : Int32) (x6 : Int32) (n : Nat) (x10 : Int32) (u : SX) : xq_pure_287 post x4 x5 x6 (n + 1) x10 u = ((((xg_irCount u) ≤ x10 → (wpX_freshValue (fun r_319 u25 => (wpX_addIr (fun u26 => ((((xg_buildOk u26) = 0 → (post r_319 u26)) ∧ (¬ (xg_buildOk u26) = 0 → (vp_in r_319 256 ∧ ∀ a_defAt_477 : Nat → Int32, a_defAt_477 = upd (xg_defAt u26) r_319.toNatClampNeg (xg_irCount u26) → (post r_319 (xs_defAt u26 a_defAt_477))))))) u25 x4 x5 x6 r_319)) u)) ∧ (¬ (xg_irCount u) ≤ x10 → (vp_in ((xg_bIr u) + x10) 2048 ∧ (((((xg_irOp u) ((xg_bIr u) + x10).toNatClampNeg) = x4 → (vp_in ((xg_bIr u) + x10) 2048 ∧ (((((xg_irA u) ((xg_bIr u) + x10).toNatClampNeg) = x5 → (vp_in ((xg_bIr u) + x10) 2048 ∧ (((((xg_irB u) ((xg_bIr u) + x10).toNatClampNeg) = x6 → (vp_in ((xg_bIr u) + x10) 2048 ∧ (post ((xg_irD u) ((xg_bIr u) + x10).toNatClampNeg) u))) ∧ (¬ ((xg_irB u) ((xg_bIr u) + x10).toNatClampNeg) = x6 → (∀ x10_486 : Int32, x10_486 = x10 + 1 → (xq_pure_287 post x4 x5 x6 n x10_486 u))))))) ∧ (¬ ((xg_irA u) ((xg_bIr u) + x10).toNatClampNeg) = x5 → (∀ x10_483 : Int32, x10_483 = x10 + 1 → (xq_pure_287 post x4 x5 x6 n x10_483 u))))))) ∧ (¬ ((xg_irOp u) ((xg_bIr u) + x10).toNatClampNeg) = x4 → (∀ x10_480 : Int32, x10_480 = x10 + 1 → (xq_pure_287 post x4 x5 x6 n x10_480 u))))))))) := rfl
def xq_pure_264 (post : Int32 → SX → Prop) (x4 : Int32) (x5 : Int32) (x6 : Int32) (u : SX) : Prop := wX_pure_264 post x4 x5 x6 (xg_G_EQ u) (xg_G_NE u) (xg_G_LT u) (xg_G_GE u) (xg_G_MEM u) (xg_G_CODE u) (xg_G_STC u) (xg_G_ROOM u) (xg_SLOTS u) (xg_REC_CAP u) (xg_IR_CAP u) (xg_VAL_CAP u) (xg_EXIT_CAP u) (xg_MAX_FAILS u) (xg_MAX_MISSES u) (xg_codeSize u) (xg_memSize u) (xg_outCount u) (xg_pc u) (xg_status u) (xg_steps u) (xg_cursor u) (xg_hot u) (xg_done u) (xg_crossed u) (xg_nextPc u) (xg_crossedTo u) (xg_recording u) (xg_recHead u) (xg_recLen u) (xg_recMask u) (xg_nextVictim u) (xg_runMask u) (xg_buildOk u) (xg_buildSlot u) (xg_buildStep u) (xg_buildPc u) (xg_bIr u) (xg_bVal u) (xg_irCount u) (xg_valCount u) (xg_exitCount u) (xg_crossCount u) (xg_code u) (xg_mem u) (xg_r u) (xg_crossings u) (xg_out u) (xg_heat u) (xg_fails u) (xg_slotOf u) (xg_recPc u) (xg_recWord u) (xg_recNext u) (xg_trLive u) (xg_trHead u) (xg_trLen u) (xg_trMask u) (xg_trIr u) (xg_trVals u) (xg_trCross u) (xg_trMiss u) (xg_trTargets u) (xg_irOp u) (xg_irA u) (xg_irB u) (xg_irD u) (xg_kFlag u) (xg_kVal u) (xg_exPc u) (xg_exSteps u) (xg_exCross u) (xg_snap u) (xg_val u) (xg_env u) (xg_defAt u) (xg_used u)
theorem xu_pure_264 (post : Int32 → SX → Prop) (x4 : Int32) (x5 : Int32) (x6 : Int32) (u : SX) : xq_pure_264 post x4 x5 x6 u = (wpX_simplify (fun r_239 u27 => (((r_239 < 0 → (∃ n287 : Nat, xq_pure_287 post x4 x5 x6 n287 0 u27)) ∧ (¬ r_239 < 0 → (post r_239 u27))))) u x4 x5 x6) := rfl
def xq_pure_143 (post : Int32 → SX → Prop) (x4 : Int32) (x5 : Int32) (x6 : Int32) (u : SX) : Prop := wX_pure_143 post x4 x5 x6 (xg_G_EQ u) (xg_G_NE u) (xg_G_LT u) (xg_G_GE u) (xg_G_MEM u) (xg_G_CODE u) (xg_G_STC u) (xg_G_ROOM u) (xg_SLOTS u) (xg_REC_CAP u) (xg_IR_CAP u) (xg_VAL_CAP u) (xg_EXIT_CAP u) (xg_MAX_FAILS u) (xg_MAX_MISSES u) (xg_codeSize u) (xg_memSize u) (xg_outCount u) (xg_pc u) (xg_status u) (xg_steps u) (xg_cursor u) (xg_hot u) (xg_done u) (xg_crossed u) (xg_nextPc u) (xg_crossedTo u) (xg_recording u) (xg_recHead u) (xg_recLen u) (xg_recMask u) (xg_nextVictim u) (xg_runMask u) (xg_buildOk u) (xg_buildSlot u) (xg_buildStep u) (xg_buildPc u) (xg_bIr u) (xg_bVal u) (xg_irCount u) (xg_valCount u) (xg_exitCount u) (xg_crossCount u) (xg_code u) (xg_mem u) (xg_r u) (xg_crossings u) (xg_out u) (xg_heat u) (xg_fails u) (xg_slotOf u) (xg_recPc u) (xg_recWord u) (xg_recNext u) (xg_trLive u) (xg_trHead u) (xg_trLen u) (xg_trMask u) (xg_trIr u) (xg_trVals u) (xg_trCross u) (xg_trMiss u) (xg_trTargets u) (xg_irOp u) (xg_irA u) (xg_irB u) (xg_irD u) (xg_kFlag u) (xg_kVal u) (xg_exPc u) (xg_exSteps u) (xg_exCross u) (xg_snap u) (xg_val u) (xg_env u) (xg_defAt u) (xg_used u)
theorem xu_pure_143 (post : Int32 → SX → Prop) (x4 : Int32) (x5 : Int32) (x6 : Int32) (u : SX) : xq_pure_143 post x4 x5 x6 u = (((x4 = 3 → (wpX_isK (fun r_488 => (((r_488 = 0 → (xq_pure_264 post x4 x5 x6 u)) ∧ (¬ r_488 = 0 → (vp_in x5 256 ∧ (∀ x9_568 : Int32, x9_568 = ((xg_defAt u) x5.toNatClampNeg) - 1 → (((x9_568 < 0 → (xq_pure_264 post x4 x5 x6 u)) ∧ (¬ x9_568 < 0 → (vp_in ((xg_bIr u) + x9_568) 2048 ∧ (((((xg_irOp u) ((xg_bIr u) + x9_568).toNatClampNeg) = 3 → (vp_in ((xg_bIr u) + x9_568) 2048 ∧ (wpX_isK (fun r_573 => (((r_573 = 0 → (xq_pure_264 post x4 x5 x6 u)) ∧ (¬ r_573 = 0 → (vp_in ((xg_bVal u) + x6) 2048 ∧ (vp_in ((xg_bIr u) + x9_568) 2048 ∧ (vp_in ((xg_bVal u) + ((xg_irB u) ((xg_bIr u) + x9_568).toNatClampNeg)) 2048 ∧ (wpX_constant (fun r_655 u28 => (vp_in ((xg_bIr u28) + x9_568) 2048 ∧ (∀ x5_734 : Int32, x5_734 = (xg_irA u28) ((xg_bIr u28) + x9_568).toNatClampNeg → (xq_pure_264 post x4 x5_734 r_655 u28)))) u (((xg_kVal u) ((xg_bVal u) + x6).toNatClampNeg) + ((xg_kVal u) ((xg_bVal u) + ((xg_irB u) ((xg_bIr u) + x9_568).toNatClampNeg)).toNatClampNeg)))))))))) u ((xg_irB u) ((xg_bIr u) + x9_568).toNatClampNeg)))) ∧ (¬ ((xg_irOp u) ((xg_bIr u) + x9_568).toNatClampNeg) = 3 → (xq_pure_264 post x4 x5 x6 u)))))))))))))) u x6)) ∧ (¬ x4 = 3 → (xq_pure_264 post x4 x5 x6 u)))) := rfl
def xq_pure_106 (post : Int32 → SX → Prop) (x4 : Int32) (x5 : Int32) (x6 : Int32) (u : SX) : Prop := wX_pure_106 post x4 x5 x6 (xg_G_EQ u) (xg_G_NE u) (xg_G_LT u) (xg_G_GE u) (xg_G_MEM u) (xg_G_CODE u) (xg_G_STC u) (xg_G_ROOM u) (xg_SLOTS u) (xg_REC_CAP u) (xg_IR_CAP u) (xg_VAL_CAP u) (xg_EXIT_CAP u) (xg_MAX_FAILS u) (xg_MAX_MISSES u) (xg_codeSize u) (xg_memSize u) (xg_outCount u) (xg_pc u) (xg_status u) (xg_steps u) (xg_cursor u) (xg_hot u) (xg_done u) (xg_crossed u) (xg_nextPc u) (xg_crossedTo u) (xg_recording u) (xg_recHead u) (xg_recLen u) (xg_recMask u) (xg_nextVictim u) (xg_runMask u) (xg_buildOk u) (xg_buildSlot u) (xg_buildStep u) (xg_buildPc u) (xg_bIr u) (xg_bVal u) (xg_irCount u) (xg_valCount u) (xg_exitCount u) (xg_crossCount u) (xg_code u) (xg_mem u) (xg_r u) (xg_crossings u) (xg_out u) (xg_heat u) (xg_fails u) (xg_slotOf u) (xg_recPc u) (xg_recWord u) (xg_recNext u) (xg_trLive u) (xg_trHead u) (xg_trLen u) (xg_trMask u) (xg_trIr u) (xg_trVals u) (xg_trCross u) (xg_trMiss u) (xg_trTargets u) (xg_irOp u) (xg_irA u) (xg_irB u) (xg_irD u) (xg_kFlag u) (xg_kVal u) (xg_exPc u) (xg_exSteps u) (xg_exCross u) (xg_snap u) (xg_val u) (xg_env u) (xg_defAt u) (xg_used u)
theorem xu_pure_106 (post : Int32 → SX → Prop) (x4 : Int32) (x5 : Int32) (x6 : Int32) (u : SX) : xq_pure_106 post x4 x5 x6 u = (((x4 = 4 → (wpX_isK (fun r_735 => (((r_735 = 0 → (xq_pure_143 post x4 x5 x6 u)) ∧ (¬ r_735 = 0 → (vp_in ((xg_bVal u) + x6) 2048 ∧ (wpX_constant (fun r_815 u29 => (xq_pure_143 post 3 x5 r_815 u29)) u (- ((xg_kVal u) ((xg_bVal u) + x6).toNatClampNeg)))))))) u x6)) ∧ (¬ x4 = 4 → (xq_pure_143 post x4 x5 x6 u)))) := rfl
def xq_pure_100 (post : Int32 → SX → Prop) (x2 : Int32) (x3 : Int32) (x4 : Int32) (u : SX) : Prop := wX_pure_100 post x2 x3 x4 (xg_G_EQ u) (xg_G_NE u) (xg_G_LT u) (xg_G_GE u) (xg_G_MEM u) (xg_G_CODE u) (xg_G_STC u) (xg_G_ROOM u) (xg_SLOTS u) (xg_REC_CAP u) (xg_IR_CAP u) (xg_VAL_CAP u) (xg_EXIT_CAP u) (xg_MAX_FAILS u) (xg_MAX_MISSES u) (xg_codeSize u) (xg_memSize u) (xg_outCount u) (xg_pc u) (xg_status u) (xg_steps u) (xg_cursor u) (xg_hot u) (xg_done u) (xg_crossed u) (xg_nextPc u) (xg_crossedTo u) (xg_recording u) (xg_recHead u) (xg_recLen u) (xg_recMask u) (xg_nextVictim u) (xg_runMask u) (xg_buildOk u) (xg_buildSlot u) (xg_buildStep u) (xg_buildPc u) (xg_bIr u) (xg_bVal u) (xg_irCount u) (xg_valCount u) (xg_exitCount u) (xg_crossCount u) (xg_code u) (xg_mem u) (xg_r u) (xg_crossings u) (xg_out u) (xg_heat u) (xg_fails u) (xg_slotOf u) (xg_recPc u) (xg_recWord u) (xg_recNext u) (xg_trLive u) (xg_trHead u) (xg_trLen u) (xg_trMask u) (xg_trIr u) (xg_trVals u) (xg_trCross u) (xg_trMiss u) (xg_trTargets u) (xg_irOp u) (xg_irA u) (xg_irB u) (xg_irD u) (xg_kFlag u) (xg_kVal u) (xg_exPc u) (xg_exSteps u) (xg_exCross u) (xg_snap u) (xg_val u) (xg_env u) (xg_defAt u) (xg_used u)
theorem xu_pure_100 (post : Int32 → SX → Prop) (x2 : Int32) (x3 : Int32) (x4 : Int32) (u : SX) : xq_pure_100 post x2 x3 x4 u = (xq_pure_106 post x4 x3 x2 u) := rfl
def xq_pure_74 (post : Int32 → SX → Prop) (x2 : Int32) (x3 : Int32) (x4 : Int32) (x5 : Int32) (x6 : Int32) (x7 : Int32) (x8 : Int32) (u : SX) : Prop := wX_pure_74 post x2 x3 x4 x5 x6 x7 x8 (xg_G_EQ u) (xg_G_NE u) (xg_G_LT u) (xg_G_GE u) (xg_G_MEM u) (xg_G_CODE u) (xg_G_STC u) (xg_G_ROOM u) (xg_SLOTS u) (xg_REC_CAP u) (xg_IR_CAP u) (xg_VAL_CAP u) (xg_EXIT_CAP u) (xg_MAX_FAILS u) (xg_MAX_MISSES u) (xg_codeSize u) (xg_memSize u) (xg_outCount u) (xg_pc u) (xg_status u) (xg_steps u) (xg_cursor u) (xg_hot u) (xg_done u) (xg_crossed u) (xg_nextPc u) (xg_crossedTo u) (xg_recording u) (xg_recHead u) (xg_recLen u) (xg_recMask u) (xg_nextVictim u) (xg_runMask u) (xg_buildOk u) (xg_buildSlot u) (xg_buildStep u) (xg_buildPc u) (xg_bIr u) (xg_bVal u) (xg_irCount u) (xg_valCount u) (xg_exitCount u) (xg_crossCount u) (xg_code u) (xg_mem u) (xg_r u) (xg_crossings u) (xg_out u) (xg_heat u) (xg_fails u) (xg_slotOf u) (xg_recPc u) (xg_recWord u) (xg_recNext u) (xg_trLive u) (xg_trHead u) (xg_trLen u) (xg_trMask u) (xg_trIr u) (xg_trVals u) (xg_trCross u) (xg_trMiss u) (xg_trTargets u) (xg_irOp u) (xg_irA u) (xg_irB u) (xg_irD u) (xg_kFlag u) (xg_kVal u) (xg_exPc u) (xg_exSteps u) (xg_exCross u) (xg_snap u) (xg_val u) (xg_env u) (xg_defAt u) (xg_used u)
theorem xu_pure_74 (post : Int32 → SX → Prop) (x2 : Int32) (x3 : Int32) (x4 : Int32) (x5 : Int32) (x6 : Int32) (x7 : Int32) (x8 : Int32) (u : SX) : xq_pure_74 post x2 x3 x4 x5 x6 x7 x8 u = (wpX_commutes (fun r_158 => (((r_158 = 0 → (xq_pure_106 post x4 x5 x6 u)) ∧ (¬ r_158 = 0 → (((x7 = 0 → (((x8 = 0 → (((x5 ≤ x6 → (xq_pure_106 post x4 x5 x6 u)) ∧ (¬ x5 ≤ x6 → (xq_pure_100 post x2 x3 x4 u))))) ∧ (¬ x8 = 0 → (xq_pure_106 post x4 x5 x6 u))))) ∧ (¬ x7 = 0 → (xq_pure_100 post x2 x3 x4 u)))))))) u x4) := rfl
theorem xu_pure (post : Int32 → SX → Prop) (u : SX) (p0 : Int32) (p1 : Int32) (p2 : Int32) : wpX_pure post u p0 p1 p2 = (wpX_isK (fun r_1 => (wpX_isK (fun r_79 => (((r_1 = 0 → (xq_pure_74 post p1 p2 p0 p1 p2 r_1 r_79 u)) ∧ (¬ r_1 = 0 → (((r_79 = 0 → (xq_pure_74 post p1 p2 p0 p1 p2 r_1 r_79 u)) ∧ (¬ r_79 = 0 → (vp_in ((xg_bVal u) + p1) 2048 ∧ (vp_in ((xg_bVal u) + p2) 2048 ∧ (wpX_alu (fun r_899 => (wpX_constant (fun r_977 u30 => (post r_977 u30)) u r_899)) u p0 ((xg_kVal u) ((xg_bVal u) + p1).toNatClampNeg) ((xg_kVal u) ((xg_bVal u) + p2).toNatClampNeg))))))))))) u p2)) u p1) := rfl
theorem xu_knownStore (post : Int32 → Prop) (u : SX) (p0 : Int32) : wpX_knownStore post u p0 = (wpX_isK (fun r_1 => (((r_1 = 0 → (post (-1))) ∧ (¬ r_1 = 0 → (vp_in ((xg_bVal u) + p0) 2048 ∧ (∀ x2_81 : Int32, x2_81 = (xg_kVal u) ((xg_bVal u) + p0).toNatClampNeg → (((x2_81 < 0 → (post 0)) ∧ (¬ x2_81 < 0 → (((x2_81 < (xg_codeSize u) → (wpX_inMask (fun r_84 => (((r_84 = 0 → (post 1)) ∧ (¬ r_84 = 0 → (post (-1)))))) u (xg_recMask u) x2_81)) ∧ (¬ x2_81 < (xg_codeSize u) → (post 0))))))))))))) u p0) := rfl
def xq_implied_165 (post : Int32 → Prop) (x5 : Int32) (x7 : Int32) (u : SX) : Prop := wX_implied_165 post x5 x7 (xg_G_EQ u) (xg_G_NE u) (xg_G_LT u) (xg_G_GE u) (xg_G_MEM u) (xg_G_CODE u) (xg_G_STC u) (xg_G_ROOM u) (xg_SLOTS u) (xg_REC_CAP u) (xg_IR_CAP u) (xg_VAL_CAP u) (xg_EXIT_CAP u) (xg_MAX_FAILS u) (xg_MAX_MISSES u) (xg_codeSize u) (xg_memSize u) (xg_outCount u) (xg_pc u) (xg_status u) (xg_steps u) (xg_cursor u) (xg_hot u) (xg_done u) (xg_crossed u) (xg_nextPc u) (xg_crossedTo u) (xg_recording u) (xg_recHead u) (xg_recLen u) (xg_recMask u) (xg_nextVictim u) (xg_runMask u) (xg_buildOk u) (xg_buildSlot u) (xg_buildStep u) (xg_buildPc u) (xg_bIr u) (xg_bVal u) (xg_irCount u) (xg_valCount u) (xg_exitCount u) (xg_crossCount u) (xg_code u) (xg_mem u) (xg_r u) (xg_crossings u) (xg_out u) (xg_heat u) (xg_fails u) (xg_slotOf u) (xg_recPc u) (xg_recWord u) (xg_recNext u) (xg_trLive u) (xg_trHead u) (xg_trLen u) (xg_trMask u) (xg_trIr u) (xg_trVals u) (xg_trCross u) (xg_trMiss u) (xg_trTargets u) (xg_irOp u) (xg_irA u) (xg_irB u) (xg_irD u) (xg_kFlag u) (xg_kVal u) (xg_exPc u) (xg_exSteps u) (xg_exCross u) (xg_snap u) (xg_val u) (xg_env u) (xg_defAt u) (xg_used u)
theorem xu_implied_165 (post : Int32 → Prop) (x5 : Int32) (x7 : Int32) (u : SX) : xq_implied_165 post x5 x7 u = (((x5 = 34 → (((x7 = 0 → (post 0)) ∧ (¬ x7 = 0 → (post 1))))) ∧ (¬ x5 = 34 → (post 0)))) := rfl
def xq_implied_119 (post : Int32 → Prop) (x5 : Int32) (x6 : Int32) (x7 : Int32) (u : SX) : Prop := wX_implied_119 post x5 x6 x7 (xg_G_EQ u) (xg_G_NE u) (xg_G_LT u) (xg_G_GE u) (xg_G_MEM u) (xg_G_CODE u) (xg_G_STC u) (xg_G_ROOM u) (xg_SLOTS u) (xg_REC_CAP u) (xg_IR_CAP u) (xg_VAL_CAP u) (xg_EXIT_CAP u) (xg_MAX_FAILS u) (xg_MAX_MISSES u) (xg_codeSize u) (xg_memSize u) (xg_outCount u) (xg_pc u) (xg_status u) (xg_steps u) (xg_cursor u) (xg_hot u) (xg_done u) (xg_crossed u) (xg_nextPc u) (xg_crossedTo u) (xg_recording u) (xg_recHead u) (xg_recLen u) (xg_recMask u) (xg_nextVictim u) (xg_runMask u) (xg_buildOk u) (xg_buildSlot u) (xg_buildStep u) (xg_buildPc u) (xg_bIr u) (xg_bVal u) (xg_irCount u) (xg_valCount u) (xg_exitCount u) (xg_crossCount u) (xg_code u) (xg_mem u) (xg_r u) (xg_crossings u) (xg_out u) (xg_heat u) (xg_fails u) (xg_slotOf u) (xg_recPc u) (xg_recWord u) (xg_recNext u) (xg_trLive u) (xg_trHead u) (xg_trLen u) (xg_trMask u) (xg_trIr u) (xg_trVals u) (xg_trCross u) (xg_trMiss u) (xg_trTargets u) (xg_irOp u) (xg_irA u) (xg_irB u) (xg_irD u) (xg_kFlag u) (xg_kVal u) (xg_exPc u) (xg_exSteps u) (xg_exCross u) (xg_snap u) (xg_val u) (xg_env u) (xg_defAt u) (xg_used u)
theorem xu_implied_119 (post : Int32 → Prop) (x5 : Int32) (x6 : Int32) (x7 : Int32) (u : SX) : xq_implied_119 post x5 x6 x7 u = (((x5 = 34 → (((x6 = 0 → (((x7 = 0 → (post 0)) ∧ (¬ x7 = 0 → (post 1))))) ∧ (¬ x6 = 0 → (post 1))))) ∧ (¬ x5 = 34 → (post 0)))) := rfl
def xq_implied_77 (post : Int32 → Prop) (x2 : Int32) (x5 : Int32) (x6 : Int32) (x7 : Int32) (u : SX) : Prop := wX_implied_77 post x2 x5 x6 x7 (xg_G_EQ u) (xg_G_NE u) (xg_G_LT u) (xg_G_GE u) (xg_G_MEM u) (xg_G_CODE u) (xg_G_STC u) (xg_G_ROOM u) (xg_SLOTS u) (xg_REC_CAP u) (xg_IR_CAP u) (xg_VAL_CAP u) (xg_EXIT_CAP u) (xg_MAX_FAILS u) (xg_MAX_MISSES u) (xg_codeSize u) (xg_memSize u) (xg_outCount u) (xg_pc u) (xg_status u) (xg_steps u) (xg_cursor u) (xg_hot u) (xg_done u) (xg_crossed u) (xg_nextPc u) (xg_crossedTo u) (xg_recording u) (xg_recHead u) (xg_recLen u) (xg_recMask u) (xg_nextVictim u) (xg_runMask u) (xg_buildOk u) (xg_buildSlot u) (xg_buildStep u) (xg_buildPc u) (xg_bIr u) (xg_bVal u) (xg_irCount u) (xg_valCount u) (xg_exitCount u) (xg_crossCount u) (xg_code u) (xg_mem u) (xg_r u) (xg_crossings u) (xg_out u) (xg_heat u) (xg_fails u) (xg_slotOf u) (xg_recPc u) (xg_recWord u) (xg_recNext u) (xg_trLive u) (xg_trHead u) (xg_trLen u) (xg_trMask u) (xg_trIr u) (xg_trVals u) (xg_trCross u) (xg_trMiss u) (xg_trTargets u) (xg_irOp u) (xg_irA u) (xg_irB u) (xg_irD u) (xg_kFlag u) (xg_kVal u) (xg_exPc u) (xg_exSteps u) (xg_exCross u) (xg_snap u) (xg_val u) (xg_env u) (xg_defAt u) (xg_used u)
theorem xu_implied_77 (post : Int32 → Prop) (x2 : Int32) (x5 : Int32) (x6 : Int32) (x7 : Int32) (u : SX) : xq_implied_77 post x2 x5 x6 x7 u = (((x2 = 32 → (((x5 = 32 → (((x7 = 0 → (post 0)) ∧ (¬ x7 = 0 → (post 1))))) ∧ (¬ x5 = 32 → (post 0))))) ∧ (¬ x2 = 32 → (((x2 = 33 → (((x5 = 33 → (((x7 = 0 → (xq_implied_119 post x5 x6 x7 u)) ∧ (¬ x7 = 0 → (post 1))))) ∧ (¬ x5 = 33 → (xq_implied_119 post x5 x6 x7 u))))) ∧ (¬ x2 = 33 → (((x2 = 35 → (((x5 = 32 → (((x6 = 0 → (((x7 = 0 → (xq_implied_165 post x5 x7 u)) ∧ (¬ x7 = 0 → (post 1))))) ∧ (¬ x6 = 0 → (post 1))))) ∧ (¬ x5 = 32 → (xq_implied_165 post x5 x7 u))))) ∧ (¬ x2 = 35 → (post 0)))))))))) := rfl
def xq_implied_62 (post : Int32 → Prop) (x2 : Int32) (x5 : Int32) (x6 : Int32) (z0 : Int32) (u : SX) : Prop := wX_implied_62 post x2 x5 x6 z0 (xg_G_EQ u) (xg_G_NE u) (xg_G_LT u) (xg_G_GE u) (xg_G_MEM u) (xg_G_CODE u) (xg_G_STC u) (xg_G_ROOM u) (xg_SLOTS u) (xg_REC_CAP u) (xg_IR_CAP u) (xg_VAL_CAP u) (xg_EXIT_CAP u) (xg_MAX_FAILS u) (xg_MAX_MISSES u) (xg_codeSize u) (xg_memSize u) (xg_outCount u) (xg_pc u) (xg_status u) (xg_steps u) (xg_cursor u) (xg_hot u) (xg_done u) (xg_crossed u) (xg_nextPc u) (xg_crossedTo u) (xg_recording u) (xg_recHead u) (xg_recLen u) (xg_recMask u) (xg_nextVictim u) (xg_runMask u) (xg_buildOk u) (xg_buildSlot u) (xg_buildStep u) (xg_buildPc u) (xg_bIr u) (xg_bVal u) (xg_irCount u) (xg_valCount u) (xg_exitCount u) (xg_crossCount u) (xg_code u) (xg_mem u) (xg_r u) (xg_crossings u) (xg_out u) (xg_heat u) (xg_fails u) (xg_slotOf u) (xg_recPc u) (xg_recWord u) (xg_recNext u) (xg_trLive u) (xg_trHead u) (xg_trLen u) (xg_trMask u) (xg_trIr u) (xg_trVals u) (xg_trCross u) (xg_trMiss u) (xg_trTargets u) (xg_irOp u) (xg_irA u) (xg_irB u) (xg_irD u) (xg_kFlag u) (xg_kVal u) (xg_exPc u) (xg_exSteps u) (xg_exCross u) (xg_snap u) (xg_val u) (xg_env u) (xg_defAt u) (xg_used u)
theorem xu_implied_62 (post : Int32 → Prop) (x2 : Int32) (x5 : Int32) (x6 : Int32) (z0 : Int32) (u : SX) : xq_implied_62 post x2 x5 x6 z0 u = (((x5 = x2 → (((x6 = 0 → (xq_implied_77 post x2 x5 x6 z0 u)) ∧ (¬ x6 = 0 → (post 1))))) ∧ (¬ x5 = x2 → (xq_implied_77 post x2 x5 x6 z0 u)))) := rfl
def xq_implied_61 (post : Int32 → Prop) (x2 : Int32) (x5 : Int32) (x6 : Int32) (u : SX) : Prop := wX_implied_61 post x2 x5 x6 (xg_G_EQ u) (xg_G_NE u) (xg_G_LT u) (xg_G_GE u) (xg_G_MEM u) (xg_G_CODE u) (xg_G_STC u) (xg_G_ROOM u) (xg_SLOTS u) (xg_REC_CAP u) (xg_IR_CAP u) (xg_VAL_CAP u) (xg_EXIT_CAP u) (xg_MAX_FAILS u) (xg_MAX_MISSES u) (xg_codeSize u) (xg_memSize u) (xg_outCount u) (xg_pc u) (xg_status u) (xg_steps u) (xg_cursor u) (xg_hot u) (xg_done u) (xg_crossed u) (xg_nextPc u) (xg_crossedTo u) (xg_recording u) (xg_recHead u) (xg_recLen u) (xg_recMask u) (xg_nextVictim u) (xg_runMask u) (xg_buildOk u) (xg_buildSlot u) (xg_buildStep u) (xg_buildPc u) (xg_bIr u) (xg_bVal u) (xg_irCount u) (xg_valCount u) (xg_exitCount u) (xg_crossCount u) (xg_code u) (xg_mem u) (xg_r u) (xg_crossings u) (xg_out u) (xg_heat u) (xg_fails u) (xg_slotOf u) (xg_recPc u) (xg_recWord u) (xg_recNext u) (xg_trLive u) (xg_trHead u) (xg_trLen u) (xg_trMask u) (xg_trIr u) (xg_trVals u) (xg_trCross u) (xg_trMiss u) (xg_trTargets u) (xg_irOp u) (xg_irA u) (xg_irB u) (xg_irD u) (xg_kFlag u) (xg_kVal u) (xg_exPc u) (xg_exSteps u) (xg_exCross u) (xg_snap u) (xg_val u) (xg_env u) (xg_defAt u) (xg_used u)
theorem xu_implied_61 (post : Int32 → Prop) (x2 : Int32) (x5 : Int32) (x6 : Int32) (u : SX) : xq_implied_61 post x2 x5 x6 u = (xq_implied_62 post x2 x5 x6 0 u) := rfl
def xq_implied_34 (post : Int32 → Prop) (x1 : Int32) (x2 : Int32) (x3 : Int32) (x4 : Int32) (x5 : Int32) (z0 : Int32) (u : SX) : Prop := wX_implied_34 post x1 x2 x3 x4 x5 z0 (xg_G_EQ u) (xg_G_NE u) (xg_G_LT u) (xg_G_GE u) (xg_G_MEM u) (xg_G_CODE u) (xg_G_STC u) (xg_G_ROOM u) (xg_SLOTS u) (xg_REC_CAP u) (xg_IR_CAP u) (xg_VAL_CAP u) (xg_EXIT_CAP u) (xg_MAX_FAILS u) (xg_MAX_MISSES u) (xg_codeSize u) (xg_memSize u) (xg_outCount u) (xg_pc u) (xg_status u) (xg_steps u) (xg_cursor u) (xg_hot u) (xg_done u) (xg_crossed u) (xg_nextPc u) (xg_crossedTo u) (xg_recording u) (xg_recHead u) (xg_recLen u) (xg_recMask u) (xg_nextVictim u) (xg_runMask u) (xg_buildOk u) (xg_buildSlot u) (xg_buildStep u) (xg_buildPc u) (xg_bIr u) (xg_bVal u) (xg_irCount u) (xg_valCount u) (xg_exitCount u) (xg_crossCount u) (xg_code u) (xg_mem u) (xg_r u) (xg_crossings u) (xg_out u) (xg_heat u) (xg_fails u) (xg_slotOf u) (xg_recPc u) (xg_recWord u) (xg_recNext u) (xg_trLive u) (xg_trHead u) (xg_trLen u) (xg_trMask u) (xg_trIr u) (xg_trVals u) (xg_trCross u) (xg_trMiss u) (xg_trTargets u) (xg_irOp u) (xg_irA u) (xg_irB u) (xg_irD u) (xg_kFlag u) (xg_kVal u) (xg_exPc u) (xg_exSteps u) (xg_exCross u) (xg_snap u) (xg_val u) (xg_env u) (xg_defAt u) (xg_used u)
theorem xu_implied_34 (post : Int32 → Prop) (x1 : Int32) (x2 : Int32) (x3 : Int32) (x4 : Int32) (x5 : Int32) (z0 : Int32) (u : SX) : xq_implied_34 post x1 x2 x3 x4 x5 z0 u = (vp_in x1 2048 ∧ (((((xg_irA u) x1.toNatClampNeg) = x4 → (vp_in x1 2048 ∧ (((((xg_irB u) x1.toNatClampNeg) = x3 → (xq_implied_62 post x2 x5 z0 1 u)) ∧ (¬ ((xg_irB u) x1.toNatClampNeg) = x3 → (xq_implied_61 post x2 x5 z0 u)))))) ∧ (¬ ((xg_irA u) x1.toNatClampNeg) = x4 → (xq_implied_61 post x2 x5 z0 u))))) := rfl
end
end
section
set_option maxRecDepth 20000
section
def xq_implied_33 (post : Int32 → Prop) (x1 : Int32) (x2 : Int32) (x3 : Int32) (x4 : Int32) (x5 : Int32) (u : SX) : Prop := wX_implied_33 post x1 x2 x3 x4 x5 (xg_G_EQ u) (xg_G_NE u) (xg_G_LT u) (xg_G_GE u) (xg_G_MEM u) (xg_G_CODE u) (xg_G_STC u) (xg_G_ROOM u) (xg_SLOTS u) (xg_REC_CAP u) (xg_IR_CAP u) (xg_VAL_CAP u) (xg_EXIT_CAP u) (xg_MAX_FAILS u) (xg_MAX_MISSES u) (xg_codeSize u) (xg_memSize u) (xg_outCount u) (xg_pc u) (xg_status u) (xg_steps u) (xg_cursor u) (xg_hot u) (xg_done u) (xg_crossed u) (xg_nextPc u) (xg_crossedTo u) (xg_recording u) (xg_recHead u) (xg_recLen u) (xg_recMask u) (xg_nextVictim u) (xg_runMask u) (xg_buildOk u) (xg_buildSlot u) (xg_buildStep u) (xg_buildPc u) (xg_bIr u) (xg_bVal u) (xg_irCount u) (xg_valCount u) (xg_exitCount u) (xg_crossCount u) (xg_code u) (xg_mem u) (xg_r u) (xg_crossings u) (xg_out u) (xg_heat u) (xg_fails u) (xg_slotOf u) (xg_recPc u) (xg_recWord u) (xg_recNext u) (xg_trLive u) (xg_trHead u) (xg_trLen u) (xg_trMask u) (xg_trIr u) (xg_trVals u) (xg_trCross u) (xg_trMiss u) (xg_trTargets u) (xg_irOp u) (xg_irA u) (xg_irB u) (xg_irD u) (xg_kFlag u) (xg_kVal u) (xg_exPc u) (xg_exSteps u) (xg_exCross u) (xg_snap u) (xg_val u) (xg_env u) (xg_defAt u) (xg_used u)
theorem xu_implied_33 (post : Int32 → Prop) (x1 : Int32) (x2 : Int32) (x3 : Int32) (x4 : Int32) (x5 : Int32) (u : SX) : xq_implied_33 post x1 x2 x3 x4 x5 u = (xq_implied_34 post x1 x2 x3 x4 x5 0 u) := rfl
theorem xu_implied (post : Int32 → Prop) (u : SX) (p0 : Int32) (p1 : Int32) (p2 : Int32) (p3 : Int32) : wpX_implied post u p0 p1 p2 p3 = (vp_in p0 2048 ∧ (∀ x5_2 : Int32, x5_2 = (xg_irOp u) p0.toNatClampNeg → (vp_in p0 2048 ∧ (((((xg_irA u) p0.toNatClampNeg) = p2 → (vp_in p0 2048 ∧ (((((xg_irB u) p0.toNatClampNeg) = p3 → (xq_implied_34 post p0 p1 p2 p3 x5_2 1 u)) ∧ (¬ ((xg_irB u) p0.toNatClampNeg) = p3 → (xq_implied_33 post p0 p1 p2 p3 x5_2 u)))))) ∧ (¬ ((xg_irA u) p0.toNatClampNeg) = p2 → (xq_implied_33 post p0 p1 p2 p3 x5_2 u))))))) := rfl
def xq_known_117 (post : Int32 → Prop) (x1 : Int32) (x2 : Int32) (x3 : Int32) (n : Nat) (x4 : Int32) (u : SX) : Prop := wX_known_117 post x1 x2 x3 (xg_G_EQ u) (xg_G_NE u) (xg_G_LT u) (xg_G_GE u) (xg_G_MEM u) (xg_G_CODE u) (xg_G_STC u) (xg_G_ROOM u) (xg_SLOTS u) (xg_REC_CAP u) (xg_IR_CAP u) (xg_VAL_CAP u) (xg_EXIT_CAP u) (xg_MAX_FAILS u) (xg_MAX_MISSES u) (xg_codeSize u) (xg_memSize u) (xg_outCount u) (xg_pc u) (xg_status u) (xg_steps u) (xg_cursor u) (xg_hot u) (xg_done u) (xg_crossed u) (xg_nextPc u) (xg_crossedTo u) (xg_recording u) (xg_recHead u) (xg_recLen u) (xg_recMask u) (xg_nextVictim u) (xg_runMask u) (xg_buildOk u) (xg_buildSlot u) (xg_buildStep u) (xg_buildPc u) (xg_bIr u) (xg_bVal u) (xg_irCount u) (xg_valCount u) (xg_exitCount u) (xg_crossCount u) (xg_code u) (xg_mem u) (xg_r u) (xg_crossings u) (xg_out u) (xg_heat u) (xg_fails u) (xg_slotOf u) (xg_recPc u) (xg_recWord u) (xg_recNext u) (xg_trLive u) (xg_trHead u) (xg_trLen u) (xg_trMask u) (xg_trIr u) (xg_trVals u) (xg_trCross u) (xg_trMiss u) (xg_trTargets u) (xg_irOp u) (xg_irA u) (xg_irB u) (xg_irD u) (xg_kFlag u) (xg_kVal u) (xg_exPc u) (xg_exSteps u) (xg_exCross u) (xg_snap u) (xg_val u) (xg_env u) (xg_defAt u) (xg_used u) n x4
theorem xu_known_117 (post : Int32 → Prop) (x1 : Int32) (x2 : Int32) (x3 : Int32) (n : Nat) (x4 : Int32) (u : SX) : xq_known_117 post x1 x2 x3 (n + 1) x4 u = ((((xg_irCount u) ≤ x4 → (post (-1))) ∧ (¬ (xg_irCount u) ≤ x4 → (wpX_implied (fun r_85 => (((r_85 = 0 → (∀ x4_164 : Int32, x4_164 = x4 + 1 → (xq_known_117 post x1 x2 x3 n x4_164 u))) ∧ (¬ r_85 = 0 → (post 1))))) u ((xg_bIr u) + x4) x1 x2 x3)))) := rfl
def xq_known_95 (post : Int32 → Prop) (x1 : Int32) (x2 : Int32) (x3 : Int32) (u : SX) : Prop := wX_known_95 post x1 x2 x3 (xg_G_EQ u) (xg_G_NE u) (xg_G_LT u) (xg_G_GE u) (xg_G_MEM u) (xg_G_CODE u) (xg_G_STC u) (xg_G_ROOM u) (xg_SLOTS u) (xg_REC_CAP u) (xg_IR_CAP u) (xg_VAL_CAP u) (xg_EXIT_CAP u) (xg_MAX_FAILS u) (xg_MAX_MISSES u) (xg_codeSize u) (xg_memSize u) (xg_outCount u) (xg_pc u) (xg_status u) (xg_steps u) (xg_cursor u) (xg_hot u) (xg_done u) (xg_crossed u) (xg_nextPc u) (xg_crossedTo u) (xg_recording u) (xg_recHead u) (xg_recLen u) (xg_recMask u) (xg_nextVictim u) (xg_runMask u) (xg_buildOk u) (xg_buildSlot u) (xg_buildStep u) (xg_buildPc u) (xg_bIr u) (xg_bVal u) (xg_irCount u) (xg_valCount u) (xg_exitCount u) (xg_crossCount u) (xg_code u) (xg_mem u) (xg_r u) (xg_crossings u) (xg_out u) (xg_heat u) (xg_fails u) (xg_slotOf u) (xg_recPc u) (xg_recWord u) (xg_recNext u) (xg_trLive u) (xg_trHead u) (xg_trLen u) (xg_trMask u) (xg_trIr u) (xg_trVals u) (xg_trCross u) (xg_trMiss u) (xg_trTargets u) (xg_irOp u) (xg_irA u) (xg_irB u) (xg_irD u) (xg_kFlag u) (xg_kVal u) (xg_exPc u) (xg_exSteps u) (xg_exCross u) (xg_snap u) (xg_val u) (xg_env u) (xg_defAt u) (xg_used u)
theorem xu_known_95 (post : Int32 → Prop) (x1 : Int32) (x2 : Int32) (x3 : Int32) (u : SX) : xq_known_95 post x1 x2 x3 u = (((x2 = x3 → (((x1 = 33 → (post 0)) ∧ (¬ x1 = 33 → (((x1 = 34 → (post 0)) ∧ (¬ x1 = 34 → (∃ n117 : Nat, xq_known_117 post x1 x2 x3 n117 0 u)))))))) ∧ (¬ x2 = x3 → (∃ n117 : Nat, xq_known_117 post x1 x2 x3 n117 0 u)))) := rfl
def xq_known_76 (post : Int32 → Prop) (x1 : Int32) (x2 : Int32) (x3 : Int32) (u : SX) : Prop := wX_known_76 post x1 x2 x3 (xg_G_EQ u) (xg_G_NE u) (xg_G_LT u) (xg_G_GE u) (xg_G_MEM u) (xg_G_CODE u) (xg_G_STC u) (xg_G_ROOM u) (xg_SLOTS u) (xg_REC_CAP u) (xg_IR_CAP u) (xg_VAL_CAP u) (xg_EXIT_CAP u) (xg_MAX_FAILS u) (xg_MAX_MISSES u) (xg_codeSize u) (xg_memSize u) (xg_outCount u) (xg_pc u) (xg_status u) (xg_steps u) (xg_cursor u) (xg_hot u) (xg_done u) (xg_crossed u) (xg_nextPc u) (xg_crossedTo u) (xg_recording u) (xg_recHead u) (xg_recLen u) (xg_recMask u) (xg_nextVictim u) (xg_runMask u) (xg_buildOk u) (xg_buildSlot u) (xg_buildStep u) (xg_buildPc u) (xg_bIr u) (xg_bVal u) (xg_irCount u) (xg_valCount u) (xg_exitCount u) (xg_crossCount u) (xg_code u) (xg_mem u) (xg_r u) (xg_crossings u) (xg_out u) (xg_heat u) (xg_fails u) (xg_slotOf u) (xg_recPc u) (xg_recWord u) (xg_recNext u) (xg_trLive u) (xg_trHead u) (xg_trLen u) (xg_trMask u) (xg_trIr u) (xg_trVals u) (xg_trCross u) (xg_trMiss u) (xg_trTargets u) (xg_irOp u) (xg_irA u) (xg_irB u) (xg_irD u) (xg_kFlag u) (xg_kVal u) (xg_exPc u) (xg_exSteps u) (xg_exCross u) (xg_snap u) (xg_val u) (xg_env u) (xg_defAt u) (xg_used u)
theorem xu_known_76 (post : Int32 → Prop) (x1 : Int32) (x2 : Int32) (x3 : Int32) (u : SX) : xq_known_76 post x1 x2 x3 u = (((x2 = x3 → (((x1 = 32 → (post 1)) ∧ (¬ x1 = 32 → (((x1 = 35 → (post 1)) ∧ (¬ x1 = 35 → (xq_known_95 post x1 x2 x3 u)))))))) ∧ (¬ x2 = x3 → (xq_known_95 post x1 x2 x3 u)))) := rfl
theorem xu_known (post : Int32 → Prop) (u : SX) (p0 : Int32) (p1 : Int32) (p2 : Int32) : wpX_known post u p0 p1 p2 = (((p0 = 39 → (post (-1))) ∧ (¬ p0 = 39 → (((p0 = 38 → (wpX_knownStore (fun r_329 => (post r_329)) u p1)) ∧ (¬ p0 = 38 → (wpX_isK (fun r_3 => (((r_3 = 0 → (xq_known_76 post p0 p1 p2 u)) ∧ (¬ r_3 = 0 → (wpX_isK (fun r_169 => (((r_169 = 0 → (xq_known_76 post p0 p1 p2 u)) ∧ (¬ r_169 = 0 → (vp_in ((xg_bVal u) + p1) 2048 ∧ (vp_in ((xg_bVal u) + p2) 2048 ∧ (wpX_holds (fun r_250 => (((r_250 = 0 → (post 0)) ∧ (¬ r_250 = 0 → (post 1))))) u p0 ((xg_kVal u) ((xg_bVal u) + p1).toNatClampNeg) ((xg_kVal u) ((xg_bVal u) + p2).toNatClampNeg)))))))) u p2))))) u p1))))))) := rfl
def xq_capture_43 (post : SX → Prop) (x2 : Int32) (n : Nat) (x3 : Int32) (u : SX) : Prop := wX_capture_43 post x2 (xg_G_EQ u) (xg_G_NE u) (xg_G_LT u) (xg_G_GE u) (xg_G_MEM u) (xg_G_CODE u) (xg_G_STC u) (xg_G_ROOM u) (xg_SLOTS u) (xg_REC_CAP u) (xg_IR_CAP u) (xg_VAL_CAP u) (xg_EXIT_CAP u) (xg_MAX_FAILS u) (xg_MAX_MISSES u) (xg_codeSize u) (xg_memSize u) (xg_outCount u) (xg_pc u) (xg_status u) (xg_steps u) (xg_cursor u) (xg_hot u) (xg_done u) (xg_crossed u) (xg_nextPc u) (xg_crossedTo u) (xg_recording u) (xg_recHead u) (xg_recLen u) (xg_recMask u) (xg_nextVictim u) (xg_runMask u) (xg_buildOk u) (xg_buildSlot u) (xg_buildStep u) (xg_buildPc u) (xg_bIr u) (xg_bVal u) (xg_irCount u) (xg_valCount u) (xg_exitCount u) (xg_crossCount u) n x3 (xg_code u) (xg_mem u) (xg_r u) (xg_crossings u) (xg_out u) (xg_heat u) (xg_fails u) (xg_slotOf u) (xg_recPc u) (xg_recWord u) (xg_recNext u) (xg_trLive u) (xg_trHead u) (xg_trLen u) (xg_trMask u) (xg_trIr u) (xg_trVals u) (xg_trCross u) (xg_trMiss u) (xg_trTargets u) (xg_irOp u) (xg_irA u) (xg_irB u) (xg_irD u) (xg_kFlag u) (xg_kVal u) (xg_exPc u) (xg_exSteps u) (xg_exCross u) (xg_snap u) (xg_val u) (xg_env u) (xg_defAt u) (xg_used u)
theorem xu_capture_43 (post : SX → Prop) (x2 : Int32) (n : Nat) (x3 : Int32) (u : SX) : xq_capture_43 post x2 (n + 1) x3 u = (((8 ≤ x3 → (post u)) ∧ (¬ 8 ≤ x3 → (vp_in x3 8 ∧ (vp_in ((x2 * 8) + x3) 8192 ∧ ∀ a_snap_11 : Nat → Int32, a_snap_11 = upd (xg_snap u) ((x2 * 8) + x3).toNatClampNeg ((xg_env u) x3.toNatClampNeg) → (∀ x3_12 : Int32, x3_12 = x3 + 1 → (xq_capture_43 post x2 n x3_12 (xs_snap u a_snap_11)))))))) := rfl
theorem xu_capture (post : SX → Prop) (u : SX) (p0 : Int32) : wpX_capture post u p0 = (∀ x2_1 : Int32, x2_1 = ((xg_buildSlot u) * 128) + p0 → (vp_in x2_1 1024 ∧ ∀ a_exPc_3 : Nat → Int32, a_exPc_3 = upd (xg_exPc u) x2_1.toNatClampNeg (xg_buildPc u) → (vp_in x2_1 1024 ∧ ∀ a_exSteps_5 : Nat → Int32, a_exSteps_5 = upd (xg_exSteps u) x2_1.toNatClampNeg (xg_buildStep u) → (vp_in x2_1 1024 ∧ ∀ a_exCross_7 : Nat → Int32, a_exCross_7 = upd (xg_exCross u) x2_1.toNatClampNeg (xg_crossCount u) → (∃ n43 : Nat, xq_capture_43 post x2_1 n43 0 (xs_exCross (xs_exSteps (xs_exPc u a_exPc_3) a_exSteps_5) a_exCross_7)))))) := rfl
theorem xu_require (post : SX → Prop) (u : SX) (p0 : Int32) (p1 : Int32) (p2 : Int32) : wpX_require post u p0 p1 p2 = (wpX_known (fun r_1 => (((r_1 = 1 → (post u)) ∧ (¬ r_1 = 1 → (((r_1 = 0 → (post (xs_buildOk u 0))) ∧ (¬ r_1 = 0 → ((((xg_exitCount u) < 128 → (∀ f_exitCount_82 : Int32, f_exitCount_82 = (xg_exitCount u) + 1 → (wpX_capture (fun u31 => (wpX_addIr (fun u32 => (post u32)) u31 p0 p1 p2 (xg_exitCount u))) (xs_exitCount u f_exitCount_82) (xg_exitCount u)))) ∧ (¬ (xg_exitCount u) < 128 → (post (xs_buildOk u 0)))))))))))) u p0 p1 p2) := rfl
def xq_replaceInEnv_2 (post : SX → Prop) (x1 : Int32) (x2 : Int32) (n : Nat) (x3 : Int32) (u : SX) : Prop := wX_replaceInEnv_2 post x1 x2 (xg_G_EQ u) (xg_G_NE u) (xg_G_LT u) (xg_G_GE u) (xg_G_MEM u) (xg_G_CODE u) (xg_G_STC u) (xg_G_ROOM u) (xg_SLOTS u) (xg_REC_CAP u) (xg_IR_CAP u) (xg_VAL_CAP u) (xg_EXIT_CAP u) (xg_MAX_FAILS u) (xg_MAX_MISSES u) (xg_codeSize u) (xg_memSize u) (xg_outCount u) (xg_pc u) (xg_status u) (xg_steps u) (xg_cursor u) (xg_hot u) (xg_done u) (xg_crossed u) (xg_nextPc u) (xg_crossedTo u) (xg_recording u) (xg_recHead u) (xg_recLen u) (xg_recMask u) (xg_nextVictim u) (xg_runMask u) (xg_buildOk u) (xg_buildSlot u) (xg_buildStep u) (xg_buildPc u) (xg_bIr u) (xg_bVal u) (xg_irCount u) (xg_valCount u) (xg_exitCount u) (xg_crossCount u) n x3 (xg_code u) (xg_mem u) (xg_r u) (xg_crossings u) (xg_out u) (xg_heat u) (xg_fails u) (xg_slotOf u) (xg_recPc u) (xg_recWord u) (xg_recNext u) (xg_trLive u) (xg_trHead u) (xg_trLen u) (xg_trMask u) (xg_trIr u) (xg_trVals u) (xg_trCross u) (xg_trMiss u) (xg_trTargets u) (xg_irOp u) (xg_irA u) (xg_irB u) (xg_irD u) (xg_kFlag u) (xg_kVal u) (xg_exPc u) (xg_exSteps u) (xg_exCross u) (xg_snap u) (xg_val u) (xg_env u) (xg_defAt u) (xg_used u)
theorem xu_replaceInEnv_2 (post : SX → Prop) (x1 : Int32) (x2 : Int32) (n : Nat) (x3 : Int32) (u : SX) : xq_replaceInEnv_2 post x1 x2 (n + 1) x3 u = (((8 ≤ x3 → (post u)) ∧ (¬ 8 ≤ x3 → (vp_in x3 8 ∧ (((((xg_env u) x3.toNatClampNeg) = x1 → (vp_in x3 8 ∧ ∀ a_env_6 : Nat → Int32, a_env_6 = upd (xg_env u) x3.toNatClampNeg x2 → (∀ x3_7 : Int32, x3_7 = x3 + 1 → (xq_replaceInEnv_2 post x1 x2 n x3_7 (xs_env u a_env_6))))) ∧ (¬ ((xg_env u) x3.toNatClampNeg) = x1 → (∀ x3_4 : Int32, x3_4 = x3 + 1 → (xq_replaceInEnv_2 post x1 x2 n x3_4 u))))))))) := rfl
theorem xu_replaceInEnv (post : SX → Prop) (u : SX) (p0 : Int32) (p1 : Int32) : wpX_replaceInEnv post u p0 p1 = (∃ n2 : Nat, xq_replaceInEnv_2 post p0 p1 n2 0 u) := rfl
theorem xu_learnEqual (post : SX → Prop) (u : SX) (p0 : Int32) (p1 : Int32) : wpX_learnEqual post u p0 p1 = (wpX_isK (fun r_1 => (((r_1 = 0 → (wpX_isK (fun r_80 => (((r_80 = 0 → (post u)) ∧ (¬ r_80 = 0 → (wpX_replaceInEnv (fun u33 => (post u33)) u p1 p0))))) u p0)) ∧ (¬ r_1 = 0 → (wpX_replaceInEnv (fun u34 => (post u34)) u p0 p1))))) u p1) := rfl
def xq_guard_189 (post : SX → Prop) (x2 : Int32) (x7 : Int32) (u : SX) : Prop := wX_guard_189 post x2 x7 (xg_G_EQ u) (xg_G_NE u) (xg_G_LT u) (xg_G_GE u) (xg_G_MEM u) (xg_G_CODE u) (xg_G_STC u) (xg_G_ROOM u) (xg_SLOTS u) (xg_REC_CAP u) (xg_IR_CAP u) (xg_VAL_CAP u) (xg_EXIT_CAP u) (xg_MAX_FAILS u) (xg_MAX_MISSES u) (xg_codeSize u) (xg_memSize u) (xg_outCount u) (xg_pc u) (xg_status u) (xg_steps u) (xg_cursor u) (xg_hot u) (xg_done u) (xg_crossed u) (xg_nextPc u) (xg_crossedTo u) (xg_recording u) (xg_recHead u) (xg_recLen u) (xg_recMask u) (xg_nextVictim u) (xg_runMask u) (xg_buildOk u) (xg_buildSlot u) (xg_buildStep u) (xg_buildPc u) (xg_bIr u) (xg_bVal u) (xg_irCount u) (xg_valCount u) (xg_exitCount u) (xg_crossCount u) (xg_code u) (xg_mem u) (xg_r u) (xg_crossings u) (xg_out u) (xg_heat u) (xg_fails u) (xg_slotOf u) (xg_recPc u) (xg_recWord u) (xg_recNext u) (xg_trLive u) (xg_trHead u) (xg_trLen u) (xg_trMask u) (xg_trIr u) (xg_trVals u) (xg_trCross u) (xg_trMiss u) (xg_trTargets u) (xg_irOp u) (xg_irA u) (xg_irB u) (xg_irD u) (xg_kFlag u) (xg_kVal u) (xg_exPc u) (xg_exSteps u) (xg_exCross u) (xg_snap u) (xg_val u) (xg_env u) (xg_defAt u) (xg_used u)
theorem xu_guard_189 (post : SX → Prop) (x2 : Int32) (x7 : Int32) (u : SX) : xq_guard_189 post x2 x7 u = (((x7 < 0 → (post u)) ∧ (¬ x7 < 0 → (wpX_constant (fun r_161 u35 => (wpX_replaceInEnv (fun u36 => (post u36)) u35 x2 r_161)) u x7)))) := rfl
def xq_guard_164 (post : SX → Prop) (x2 : Int32) (x4 : Int32) (x5 : Int32) (x6 : Int32) (x7 : Int32) (u : SX) : Prop := wX_guard_164 post x2 x4 x5 x6 x7 (xg_G_EQ u) (xg_G_NE u) (xg_G_LT u) (xg_G_GE u) (xg_G_MEM u) (xg_G_CODE u) (xg_G_STC u) (xg_G_ROOM u) (xg_SLOTS u) (xg_REC_CAP u) (xg_IR_CAP u) (xg_VAL_CAP u) (xg_EXIT_CAP u) (xg_MAX_FAILS u) (xg_MAX_MISSES u) (xg_codeSize u) (xg_memSize u) (xg_outCount u) (xg_pc u) (xg_status u) (xg_steps u) (xg_cursor u) (xg_hot u) (xg_done u) (xg_crossed u) (xg_nextPc u) (xg_crossedTo u) (xg_recording u) (xg_recHead u) (xg_recLen u) (xg_recMask u) (xg_nextVictim u) (xg_runMask u) (xg_buildOk u) (xg_buildSlot u) (xg_buildStep u) (xg_buildPc u) (xg_bIr u) (xg_bVal u) (xg_irCount u) (xg_valCount u) (xg_exitCount u) (xg_crossCount u) (xg_code u) (xg_mem u) (xg_r u) (xg_crossings u) (xg_out u) (xg_heat u) (xg_fails u) (xg_slotOf u) (xg_recPc u) (xg_recWord u) (xg_recNext u) (xg_trLive u) (xg_trHead u) (xg_trLen u) (xg_trMask u) (xg_trIr u) (xg_trVals u) (xg_trCross u) (xg_trMiss u) (xg_trTargets u) (xg_irOp u) (xg_irA u) (xg_irB u) (xg_irD u) (xg_kFlag u) (xg_kVal u) (xg_exPc u) (xg_exSteps u) (xg_exCross u) (xg_snap u) (xg_val u) (xg_env u) (xg_defAt u) (xg_used u)
theorem xu_guard_164 (post : SX → Prop) (x2 : Int32) (x4 : Int32) (x5 : Int32) (x6 : Int32) (x7 : Int32) (u : SX) : xq_guard_164 post x2 x4 x5 x6 x7 u = (wpX_require (fun u37 => (((x4 = 32 → (wpX_learnEqual (fun u38 => (xq_guard_189 post x2 x7 u38)) u37 x5 x6)) ∧ (¬ x4 = 32 → (xq_guard_189 post x2 x7 u37))))) u x4 x5 x6) := rfl
def xq_guard_162 (post : SX → Prop) (x2 : Int32) (x5 : Int32) (x6 : Int32) (x7 : Int32) (z0 : Int32) (u : SX) : Prop := wX_guard_162 post x2 x5 x6 x7 z0 (xg_G_EQ u) (xg_G_NE u) (xg_G_LT u) (xg_G_GE u) (xg_G_MEM u) (xg_G_CODE u) (xg_G_STC u) (xg_G_ROOM u) (xg_SLOTS u) (xg_REC_CAP u) (xg_IR_CAP u) (xg_VAL_CAP u) (xg_EXIT_CAP u) (xg_MAX_FAILS u) (xg_MAX_MISSES u) (xg_codeSize u) (xg_memSize u) (xg_outCount u) (xg_pc u) (xg_status u) (xg_steps u) (xg_cursor u) (xg_hot u) (xg_done u) (xg_crossed u) (xg_nextPc u) (xg_crossedTo u) (xg_recording u) (xg_recHead u) (xg_recLen u) (xg_recMask u) (xg_nextVictim u) (xg_runMask u) (xg_buildOk u) (xg_buildSlot u) (xg_buildStep u) (xg_buildPc u) (xg_bIr u) (xg_bVal u) (xg_irCount u) (xg_valCount u) (xg_exitCount u) (xg_crossCount u) (xg_code u) (xg_mem u) (xg_r u) (xg_crossings u) (xg_out u) (xg_heat u) (xg_fails u) (xg_slotOf u) (xg_recPc u) (xg_recWord u) (xg_recNext u) (xg_trLive u) (xg_trHead u) (xg_trLen u) (xg_trMask u) (xg_trIr u) (xg_trVals u) (xg_trCross u) (xg_trMiss u) (xg_trTargets u) (xg_irOp u) (xg_irA u) (xg_irB u) (xg_irD u) (xg_kFlag u) (xg_kVal u) (xg_exPc u) (xg_exSteps u) (xg_exCross u) (xg_snap u) (xg_val u) (xg_env u) (xg_defAt u) (xg_used u)
theorem xu_guard_162 (post : SX → Prop) (x2 : Int32) (x5 : Int32) (x6 : Int32) (x7 : Int32) (z0 : Int32) (u : SX) : xq_guard_162 post x2 x5 x6 x7 z0 u = (xq_guard_164 post x2 z0 x5 x6 x7 u) := rfl
def xq_guard_144 (post : SX → Prop) (x2 : Int32) (x5 : Int32) (x6 : Int32) (x7 : Int32) (z0 : Int32) (u : SX) : Prop := wX_guard_144 post x2 x5 x6 x7 z0 (xg_G_EQ u) (xg_G_NE u) (xg_G_LT u) (xg_G_GE u) (xg_G_MEM u) (xg_G_CODE u) (xg_G_STC u) (xg_G_ROOM u) (xg_SLOTS u) (xg_REC_CAP u) (xg_IR_CAP u) (xg_VAL_CAP u) (xg_EXIT_CAP u) (xg_MAX_FAILS u) (xg_MAX_MISSES u) (xg_codeSize u) (xg_memSize u) (xg_outCount u) (xg_pc u) (xg_status u) (xg_steps u) (xg_cursor u) (xg_hot u) (xg_done u) (xg_crossed u) (xg_nextPc u) (xg_crossedTo u) (xg_recording u) (xg_recHead u) (xg_recLen u) (xg_recMask u) (xg_nextVictim u) (xg_runMask u) (xg_buildOk u) (xg_buildSlot u) (xg_buildStep u) (xg_buildPc u) (xg_bIr u) (xg_bVal u) (xg_irCount u) (xg_valCount u) (xg_exitCount u) (xg_crossCount u) (xg_code u) (xg_mem u) (xg_r u) (xg_crossings u) (xg_out u) (xg_heat u) (xg_fails u) (xg_slotOf u) (xg_recPc u) (xg_recWord u) (xg_recNext u) (xg_trLive u) (xg_trHead u) (xg_trLen u) (xg_trMask u) (xg_trIr u) (xg_trVals u) (xg_trCross u) (xg_trMiss u) (xg_trTargets u) (xg_irOp u) (xg_irA u) (xg_irB u) (xg_irD u) (xg_kFlag u) (xg_kVal u) (xg_exPc u) (xg_exSteps u) (xg_exCross u) (xg_snap u) (xg_val u) (xg_env u) (xg_defAt u) (xg_used u)
theorem xu_guard_144 (post : SX → Prop) (x2 : Int32) (x5 : Int32) (x6 : Int32) (x7 : Int32) (z0 : Int32) (u : SX) : xq_guard_144 post x2 x5 x6 x7 z0 u = (xq_guard_164 post x2 z0 x5 x6 x7 u) := rfl
def xq_guard_104 (post : SX → Prop) (x2 : Int32) (x8 : Int32) (x9 : Int32) (z0 : Int32) (u : SX) : Prop := wX_guard_104 post x2 x8 x9 z0 (xg_G_EQ u) (xg_G_NE u) (xg_G_LT u) (xg_G_GE u) (xg_G_MEM u) (xg_G_CODE u) (xg_G_STC u) (xg_G_ROOM u) (xg_SLOTS u) (xg_REC_CAP u) (xg_IR_CAP u) (xg_VAL_CAP u) (xg_EXIT_CAP u) (xg_MAX_FAILS u) (xg_MAX_MISSES u) (xg_codeSize u) (xg_memSize u) (xg_outCount u) (xg_pc u) (xg_status u) (xg_steps u) (xg_cursor u) (xg_hot u) (xg_done u) (xg_crossed u) (xg_nextPc u) (xg_crossedTo u) (xg_recording u) (xg_recHead u) (xg_recLen u) (xg_recMask u) (xg_nextVictim u) (xg_runMask u) (xg_buildOk u) (xg_buildSlot u) (xg_buildStep u) (xg_buildPc u) (xg_bIr u) (xg_bVal u) (xg_irCount u) (xg_valCount u) (xg_exitCount u) (xg_crossCount u) (xg_code u) (xg_mem u) (xg_r u) (xg_crossings u) (xg_out u) (xg_heat u) (xg_fails u) (xg_slotOf u) (xg_recPc u) (xg_recWord u) (xg_recNext u) (xg_trLive u) (xg_trHead u) (xg_trLen u) (xg_trMask u) (xg_trIr u) (xg_trVals u) (xg_trCross u) (xg_trMiss u) (xg_trTargets u) (xg_irOp u) (xg_irA u) (xg_irB u) (xg_irD u) (xg_kFlag u) (xg_kVal u) (xg_exPc u) (xg_exSteps u) (xg_exCross u) (xg_snap u) (xg_val u) (xg_env u) (xg_defAt u) (xg_used u)
theorem xu_guard_104 (post : SX → Prop) (x2 : Int32) (x8 : Int32) (x9 : Int32) (z0 : Int32) (u : SX) : xq_guard_104 post x2 x8 x9 z0 u = (vp_in x8 2048 ∧ (∀ x5_406 : Int32, x5_406 = (xg_irA u) x8.toNatClampNeg → (vp_in x8 2048 ∧ (∀ x6_408 : Int32, x6_408 = (xg_irB u) x8.toNatClampNeg → (((x9 = 14 → (((z0 = 1 → (xq_guard_144 post x2 x5_406 x6_408 z0 34 u)) ∧ (¬ z0 = 1 → (xq_guard_144 post x2 x5_406 x6_408 z0 35 u))))) ∧ (¬ x9 = 14 → (((z0 = 1 → (xq_guard_162 post x2 x5_406 x6_408 z0 32 u)) ∧ (¬ z0 = 1 → (xq_guard_162 post x2 x5_406 x6_408 z0 33 u))))))))))) := rfl
def xq_guard_93 (post : SX → Prop) (x1 : Int32) (x2 : Int32) (x8 : Int32) (x9 : Int32) (u : SX) : Prop := wX_guard_93 post x1 x2 x8 x9 (xg_G_EQ u) (xg_G_NE u) (xg_G_LT u) (xg_G_GE u) (xg_G_MEM u) (xg_G_CODE u) (xg_G_STC u) (xg_G_ROOM u) (xg_SLOTS u) (xg_REC_CAP u) (xg_IR_CAP u) (xg_VAL_CAP u) (xg_EXIT_CAP u) (xg_MAX_FAILS u) (xg_MAX_MISSES u) (xg_codeSize u) (xg_memSize u) (xg_outCount u) (xg_pc u) (xg_status u) (xg_steps u) (xg_cursor u) (xg_hot u) (xg_done u) (xg_crossed u) (xg_nextPc u) (xg_crossedTo u) (xg_recording u) (xg_recHead u) (xg_recLen u) (xg_recMask u) (xg_nextVictim u) (xg_runMask u) (xg_buildOk u) (xg_buildSlot u) (xg_buildStep u) (xg_buildPc u) (xg_bIr u) (xg_bVal u) (xg_irCount u) (xg_valCount u) (xg_exitCount u) (xg_crossCount u) (xg_code u) (xg_mem u) (xg_r u) (xg_crossings u) (xg_out u) (xg_heat u) (xg_fails u) (xg_slotOf u) (xg_recPc u) (xg_recWord u) (xg_recNext u) (xg_trLive u) (xg_trHead u) (xg_trLen u) (xg_trMask u) (xg_trIr u) (xg_trVals u) (xg_trCross u) (xg_trMiss u) (xg_trTargets u) (xg_irOp u) (xg_irA u) (xg_irB u) (xg_irD u) (xg_kFlag u) (xg_kVal u) (xg_exPc u) (xg_exSteps u) (xg_exCross u) (xg_snap u) (xg_val u) (xg_env u) (xg_defAt u) (xg_used u)
theorem xu_guard_93 (post : SX → Prop) (x1 : Int32) (x2 : Int32) (x8 : Int32) (x9 : Int32) (u : SX) : xq_guard_93 post x1 x2 x8 x9 u = (((x1 = 33 → (xq_guard_104 post x2 x8 x9 1 u)) ∧ (¬ x1 = 33 → (xq_guard_104 post x2 x8 x9 0 u)))) := rfl
def xq_guard_24 (post : SX → Prop) (x1 : Int32) (x2 : Int32) (x3 : Int32) (x4 : Int32) (x5 : Int32) (x6 : Int32) (x7 : Int32) (u : SX) : Prop := wX_guard_24 post x1 x2 x3 x4 x5 x6 x7 (xg_G_EQ u) (xg_G_NE u) (xg_G_LT u) (xg_G_GE u) (xg_G_MEM u) (xg_G_CODE u) (xg_G_STC u) (xg_G_ROOM u) (xg_SLOTS u) (xg_REC_CAP u) (xg_IR_CAP u) (xg_VAL_CAP u) (xg_EXIT_CAP u) (xg_MAX_FAILS u) (xg_MAX_MISSES u) (xg_codeSize u) (xg_memSize u) (xg_outCount u) (xg_pc u) (xg_status u) (xg_steps u) (xg_cursor u) (xg_hot u) (xg_done u) (xg_crossed u) (xg_nextPc u) (xg_crossedTo u) (xg_recording u) (xg_recHead u) (xg_recLen u) (xg_recMask u) (xg_nextVictim u) (xg_runMask u) (xg_buildOk u) (xg_buildSlot u) (xg_buildStep u) (xg_buildPc u) (xg_bIr u) (xg_bVal u) (xg_irCount u) (xg_valCount u) (xg_exitCount u) (xg_crossCount u) (xg_code u) (xg_mem u) (xg_r u) (xg_crossings u) (xg_out u) (xg_heat u) (xg_fails u) (xg_slotOf u) (xg_recPc u) (xg_recWord u) (xg_recNext u) (xg_trLive u) (xg_trHead u) (xg_trLen u) (xg_trMask u) (xg_trIr u) (xg_trVals u) (xg_trCross u) (xg_trMiss u) (xg_trTargets u) (xg_irOp u) (xg_irA u) (xg_irB u) (xg_irD u) (xg_kFlag u) (xg_kVal u) (xg_exPc u) (xg_exSteps u) (xg_exCross u) (xg_snap u) (xg_val u) (xg_env u) (xg_defAt u) (xg_used u)
theorem xu_guard_24 (post : SX → Prop) (x1 : Int32) (x2 : Int32) (x3 : Int32) (x4 : Int32) (x5 : Int32) (x6 : Int32) (x7 : Int32) (u : SX) : xq_guard_24 post x1 x2 x3 x4 x5 x6 x7 u = (wpX_isK (fun r_2 => (((r_2 = 0 → (xq_guard_164 post x2 x4 x5 x6 x7 u)) ∧ (¬ r_2 = 0 → (vp_in ((xg_bVal u) + x3) 2048 ∧ (((((xg_kVal u) ((xg_bVal u) + x3).toNatClampNeg) = 0 → (vp_in x2 256 ∧ (((((xg_defAt u) x2.toNatClampNeg) ≤ 0 → (xq_guard_164 post x2 x4 x5 x6 x7 u)) ∧ (¬ ((xg_defAt u) x2.toNatClampNeg) ≤ 0 → (vp_in x2 256 ∧ (∀ x8_400 : Int32, x8_400 = ((xg_bIr u) + ((xg_defAt u) x2.toNatClampNeg)) - 1 → (vp_in x8_400 2048 ∧ (∀ x9_402 : Int32, x9_402 = (xg_irOp u) x8_400.toNatClampNeg → (((x9_402 = 14 → (xq_guard_93 post x1 x2 x8_400 x9_402 u)) ∧ (¬ x9_402 = 14 → (((x9_402 = 15 → (xq_guard_93 post x1 x2 x8_400 x9_402 u)) ∧ (¬ x9_402 = 15 → (xq_guard_164 post x2 x4 x5 x6 x7 u)))))))))))))))) ∧ (¬ ((xg_kVal u) ((xg_bVal u) + x3).toNatClampNeg) = 0 → (xq_guard_164 post x2 x4 x5 x6 x7 u))))))))) u x3) := rfl
theorem xu_guard (post : SX → Prop) (u : SX) (p0 : Int32) (p1 : Int32) (p2 : Int32) : wpX_guard post u p0 p1 p2 = (((p0 = 32 → (xq_guard_24 post p0 p1 p2 p0 p1 p2 (-1) u)) ∧ (¬ p0 = 32 → (((p0 = 33 → (xq_guard_24 post p0 p1 p2 p0 p1 p2 (-1) u)) ∧ (¬ p0 = 33 → (xq_guard_164 post p1 p0 p1 p2 (-1) u))))))) := rfl
def xq_translateArithmetic_141 (post : SX → Prop) (x1 : Int32) (x3 : Int32) (x4 : Int32) (x6 : Int32) (u : SX) : Prop := wX_translateArithmetic_141 post x1 x3 x4 x6 (xg_G_EQ u) (xg_G_NE u) (xg_G_LT u) (xg_G_GE u) (xg_G_MEM u) (xg_G_CODE u) (xg_G_STC u) (xg_G_ROOM u) (xg_SLOTS u) (xg_REC_CAP u) (xg_IR_CAP u) (xg_VAL_CAP u) (xg_EXIT_CAP u) (xg_MAX_FAILS u) (xg_MAX_MISSES u) (xg_codeSize u) (xg_memSize u) (xg_outCount u) (xg_pc u) (xg_status u) (xg_steps u) (xg_cursor u) (xg_hot u) (xg_done u) (xg_crossed u) (xg_nextPc u) (xg_crossedTo u) (xg_recording u) (xg_recHead u) (xg_recLen u) (xg_recMask u) (xg_nextVictim u) (xg_runMask u) (xg_buildOk u) (xg_buildSlot u) (xg_buildStep u) (xg_buildPc u) (xg_bIr u) (xg_bVal u) (xg_irCount u) (xg_valCount u) (xg_exitCount u) (xg_crossCount u) (xg_code u) (xg_mem u) (xg_r u) (xg_crossings u) (xg_out u) (xg_heat u) (xg_fails u) (xg_slotOf u) (xg_recPc u) (xg_recWord u) (xg_recNext u) (xg_trLive u) (xg_trHead u) (xg_trLen u) (xg_trMask u) (xg_trIr u) (xg_trVals u) (xg_trCross u) (xg_trMiss u) (xg_trTargets u) (xg_irOp u) (xg_irA u) (xg_irB u) (xg_irD u) (xg_kFlag u) (xg_kVal u) (xg_exPc u) (xg_exSteps u) (xg_exCross u) (xg_snap u) (xg_val u) (xg_env u) (xg_defAt u) (xg_used u)
theorem xu_translateArithmetic_141 (post : SX → Prop) (x1 : Int32) (x3 : Int32) (x4 : Int32) (x6 : Int32) (u : SX) : xq_translateArithmetic_141 post x1 x3 x4 x6 u = (vp_in x4 8 ∧ (vp_in x6 8 ∧ (wpX_pure (fun r_168 u39 => (vp_in x3 8 ∧ ∀ a_env_247 : Nat → Int32, a_env_247 = upd (xg_env u39) x3.toNatClampNeg r_168 → (post (xs_env u39 a_env_247)))) u x1 ((xg_env u) x4.toNatClampNeg) ((xg_env u) x6.toNatClampNeg)))) := rfl
def xq_translateArithmetic_119 (post : SX → Prop) (x1 : Int32) (x3 : Int32) (x4 : Int32) (x6 : Int32) (u : SX) : Prop := wX_translateArithmetic_119 post x1 x3 x4 x6 (xg_G_EQ u) (xg_G_NE u) (xg_G_LT u) (xg_G_GE u) (xg_G_MEM u) (xg_G_CODE u) (xg_G_STC u) (xg_G_ROOM u) (xg_SLOTS u) (xg_REC_CAP u) (xg_IR_CAP u) (xg_VAL_CAP u) (xg_EXIT_CAP u) (xg_MAX_FAILS u) (xg_MAX_MISSES u) (xg_codeSize u) (xg_memSize u) (xg_outCount u) (xg_pc u) (xg_status u) (xg_steps u) (xg_cursor u) (xg_hot u) (xg_done u) (xg_crossed u) (xg_nextPc u) (xg_crossedTo u) (xg_recording u) (xg_recHead u) (xg_recLen u) (xg_recMask u) (xg_nextVictim u) (xg_runMask u) (xg_buildOk u) (xg_buildSlot u) (xg_buildStep u) (xg_buildPc u) (xg_bIr u) (xg_bVal u) (xg_irCount u) (xg_valCount u) (xg_exitCount u) (xg_crossCount u) (xg_code u) (xg_mem u) (xg_r u) (xg_crossings u) (xg_out u) (xg_heat u) (xg_fails u) (xg_slotOf u) (xg_recPc u) (xg_recWord u) (xg_recNext u) (xg_trLive u) (xg_trHead u) (xg_trLen u) (xg_trMask u) (xg_trIr u) (xg_trVals u) (xg_trCross u) (xg_trMiss u) (xg_trTargets u) (xg_irOp u) (xg_irA u) (xg_irB u) (xg_irD u) (xg_kFlag u) (xg_kVal u) (xg_exPc u) (xg_exSteps u) (xg_exCross u) (xg_snap u) (xg_val u) (xg_env u) (xg_defAt u) (xg_used u)
theorem xu_translateArithmetic_119 (post : SX → Prop) (x1 : Int32) (x3 : Int32) (x4 : Int32) (x6 : Int32) (u : SX) : xq_translateArithmetic_119 post x1 x3 x4 x6 u = (wpX_constant (fun r_9 u40 => (vp_in x6 8 ∧ (wpX_guard (fun u41 => (xq_translateArithmetic_141 post x1 x3 x4 x6 u41)) u40 33 ((xg_env u40) x6.toNatClampNeg) r_9))) u 0) := rfl
theorem xu_translateArithmetic (post : SX → Prop) (u : SX) (p0 : Int32) (p1 : Int32) : wpX_translateArithmetic post u p0 p1 = (∀ x3_1 : Int32, x3_1 = ((p1.toUInt32 >>> ((5 : Int32).toUInt32 &&& Int32.toUInt32 31)).toInt32) &&& 7 → (∀ x4_2 : Int32, x4_2 = ((p1.toUInt32 >>> ((8 : Int32).toUInt32 &&& Int32.toUInt32 31)).toInt32) &&& 7 → (∀ x5_3 : Int32, x5_3 = p1 >>> ((11 : Int32) &&& 31) → (∀ x6_4 : Int32, x6_4 = x5_3 &&& 7 → (((p0 = 1 → (wpX_constant (fun r_411 u42 => (vp_in x3_1 8 ∧ ∀ a_env_490 : Nat → Int32, a_env_490 = upd (xg_env u42) x3_1.toNatClampNeg r_411 → (post (xs_env u42 a_env_490)))) u x5_3)) ∧ (¬ p0 = 1 → (((p0 = 2 → (vp_in x4_2 8 ∧ (vp_in x3_1 8 ∧ ∀ a_env_410 : Nat → Int32, a_env_410 = upd (xg_env u) x3_1.toNatClampNeg ((xg_env u) x4_2.toNatClampNeg) → (post (xs_env u a_env_410))))) ∧ (¬ p0 = 2 → (((p0 = 13 → (wpX_constant (fun r_249 u43 => (vp_in x4_2 8 ∧ (wpX_pure (fun r_328 u44 => (vp_in x3_1 8 ∧ ∀ a_env_407 : Nat → Int32, a_env_407 = upd (xg_env u44) x3_1.toNatClampNeg r_328 → (post (xs_env u44 a_env_407)))) u43 3 ((xg_env u43) x4_2.toNatClampNeg) r_249))) u x5_3)) ∧ (¬ p0 = 13 → (((p0 = 6 → (xq_translateArithmetic_119 post p0 x3_1 x4_2 x6_4 u)) ∧ (¬ p0 = 6 → (((p0 = 7 → (xq_translateArithmetic_119 post p0 x3_1 x4_2 x6_4 u)) ∧ (¬ p0 = 7 → (xq_translateArithmetic_141 post p0 x3_1 x4_2 x6_4 u)))))))))))))))))))) := rfl
def xq_loadValue_121 (post : Int32 → SX → Prop) (x1 : Int32) (u : SX) : Prop := wX_loadValue_121 post x1 (xg_G_EQ u) (xg_G_NE u) (xg_G_LT u) (xg_G_GE u) (xg_G_MEM u) (xg_G_CODE u) (xg_G_STC u) (xg_G_ROOM u) (xg_SLOTS u) (xg_REC_CAP u) (xg_IR_CAP u) (xg_VAL_CAP u) (xg_EXIT_CAP u) (xg_MAX_FAILS u) (xg_MAX_MISSES u) (xg_codeSize u) (xg_memSize u) (xg_outCount u) (xg_pc u) (xg_status u) (xg_steps u) (xg_cursor u) (xg_hot u) (xg_done u) (xg_crossed u) (xg_nextPc u) (xg_crossedTo u) (xg_recording u) (xg_recHead u) (xg_recLen u) (xg_recMask u) (xg_nextVictim u) (xg_runMask u) (xg_buildOk u) (xg_buildSlot u) (xg_buildStep u) (xg_buildPc u) (xg_bIr u) (xg_bVal u) (xg_irCount u) (xg_valCount u) (xg_exitCount u) (xg_crossCount u) (xg_code u) (xg_mem u) (xg_r u) (xg_crossings u) (xg_out u) (xg_heat u) (xg_fails u) (xg_slotOf u) (xg_recPc u) (xg_recWord u) (xg_recNext u) (xg_trLive u) (xg_trHead u) (xg_trLen u) (xg_trMask u) (xg_trIr u) (xg_trVals u) (xg_trCross u) (xg_trMiss u) (xg_trTargets u) (xg_irOp u) (xg_irA u) (xg_irB u) (xg_irD u) (xg_kFlag u) (xg_kVal u) (xg_exPc u) (xg_exSteps u) (xg_exCross u) (xg_snap u) (xg_val u) (xg_env u) (xg_defAt u) (xg_used u)
theorem xu_loadValue_121 (post : Int32 → SX → Prop) (x1 : Int32) (u : SX) : xq_loadValue_121 post x1 u = (wpX_freshValue (fun r_3 u45 => (wpX_addIr (fun u46 => (post r_3 u46)) u45 16 x1 0 r_3)) u) := rfl
def xq_loadValue_56 (post : Int32 → SX → Prop) (J9 : Int32 → Int32 → Prop) (x1 : Int32) (x2 : Int32) (x3 : Int32) (x4 : Int32) (u : SX) : Prop := wX_loadValue_56 post J9 x1 x2 x3 x4 (xg_G_EQ u) (xg_G_NE u) (xg_G_LT u) (xg_G_GE u) (xg_G_MEM u) (xg_G_CODE u) (xg_G_STC u) (xg_G_ROOM u) (xg_SLOTS u) (xg_REC_CAP u) (xg_IR_CAP u) (xg_VAL_CAP u) (xg_EXIT_CAP u) (xg_MAX_FAILS u) (xg_MAX_MISSES u) (xg_codeSize u) (xg_memSize u) (xg_outCount u) (xg_pc u) (xg_status u) (xg_steps u) (xg_cursor u) (xg_hot u) (xg_done u) (xg_crossed u) (xg_nextPc u) (xg_crossedTo u) (xg_recording u) (xg_recHead u) (xg_recLen u) (xg_recMask u) (xg_nextVictim u) (xg_runMask u) (xg_buildOk u) (xg_buildSlot u) (xg_buildStep u) (xg_buildPc u) (xg_bIr u) (xg_bVal u) (xg_irCount u) (xg_valCount u) (xg_exitCount u) (xg_crossCount u) (xg_code u) (xg_mem u) (xg_r u) (xg_crossings u) (xg_out u) (xg_heat u) (xg_fails u) (xg_slotOf u) (xg_recPc u) (xg_recWord u) (xg_recNext u) (xg_trLive u) (xg_trHead u) (xg_trLen u) (xg_trMask u) (xg_trIr u) (xg_trVals u) (xg_trCross u) (xg_trMiss u) (xg_trTargets u) (xg_irOp u) (xg_irA u) (xg_irB u) (xg_irD u) (xg_kFlag u) (xg_kVal u) (xg_exPc u) (xg_exSteps u) (xg_exCross u) (xg_snap u) (xg_val u) (xg_env u) (xg_defAt u) (xg_used u)
theorem xu_loadValue_56 (post : Int32 → SX → Prop) (J9 : Int32 → Int32 → Prop) (x1 : Int32) (x2 : Int32) (x3 : Int32) (x4 : Int32) (u : SX) : xq_loadValue_56 post J9 x1 x2 x3 x4 u = (vp_in x4 2048 ∧ (((((xg_irOp u) x4.toNatClampNeg) = 17 → (vp_in x4 2048 ∧ (((((xg_irA u) x4.toNatClampNeg) = x1 → (vp_in x4 2048 ∧ (post ((xg_irB u) x4.toNatClampNeg) u))) ∧ (¬ ((xg_irA u) x4.toNatClampNeg) = x1 → (wpX_isK (fun r_168 => (((r_168 = 0 → (∀ x3_247 : Int32, x3_247 = x3 + (-1) → (J9 0 x3_247))) ∧ (¬ r_168 = 0 → (vp_in x4 2048 ∧ (wpX_isK (fun r_249 => (((r_249 = 0 → (∀ x3_328 : Int32, x3_328 = x3 + (-1) → (J9 0 x3_328))) ∧ (¬ r_249 = 0 → (∀ x3_329 : Int32, x3_329 = x3 + (-1) → (J9 1 x3_329)))))) u ((xg_irA u) x4.toNatClampNeg))))))) u x1)))))) ∧ (¬ ((xg_irOp u) x4.toNatClampNeg) = 17 → (∀ x3_165 : Int32, x3_165 = x3 + (-1) → (J9 x2 x3_165)))))) := rfl
def xq_loadValue_9 (post : Int32 → SX → Prop) (x1 : Int32) (n : Nat) (x2 : Int32) (x3 : Int32) (u : SX) : Prop := wX_loadValue_9 post x1 (xg_G_EQ u) (xg_G_NE u) (xg_G_LT u) (xg_G_GE u) (xg_G_MEM u) (xg_G_CODE u) (xg_G_STC u) (xg_G_ROOM u) (xg_SLOTS u) (xg_REC_CAP u) (xg_IR_CAP u) (xg_VAL_CAP u) (xg_EXIT_CAP u) (xg_MAX_FAILS u) (xg_MAX_MISSES u) (xg_codeSize u) (xg_memSize u) (xg_outCount u) (xg_pc u) (xg_status u) (xg_steps u) (xg_cursor u) (xg_hot u) (xg_done u) (xg_crossed u) (xg_nextPc u) (xg_crossedTo u) (xg_recording u) (xg_recHead u) (xg_recLen u) (xg_recMask u) (xg_nextVictim u) (xg_runMask u) (xg_buildOk u) (xg_buildSlot u) (xg_buildStep u) (xg_buildPc u) (xg_bIr u) (xg_bVal u) (xg_irCount u) (xg_valCount u) (xg_exitCount u) (xg_crossCount u) (xg_code u) (xg_mem u) (xg_r u) (xg_crossings u) (xg_out u) (xg_heat u) (xg_fails u) (xg_slotOf u) (xg_recPc u) (xg_recWord u) (xg_recNext u) (xg_trLive u) (xg_trHead u) (xg_trLen u) (xg_trMask u) (xg_trIr u) (xg_trVals u) (xg_trCross u) (xg_trMiss u) (xg_trTargets u) (xg_irOp u) (xg_irA u) (xg_irB u) (xg_irD u) (xg_kFlag u) (xg_kVal u) (xg_exPc u) (xg_exSteps u) (xg_exCross u) (xg_snap u) (xg_val u) (xg_env u) (xg_defAt u) (xg_used u) n x2 x3
theorem xu_loadValue_9 (post : Int32 → SX → Prop) (x1 : Int32) (n : Nat) (x2 : Int32) (x3 : Int32) (u : SX) : xq_loadValue_9 post x1 (n + 1) x2 x3 u = (((x3 < 0 → (xq_loadValue_121 post x1 u)) ∧ (¬ x3 < 0 → (((x2 = 0 → (xq_loadValue_121 post x1 u)) ∧ (¬ x2 = 0 → (∀ x4_160 : Int32, x4_160 = (xg_bIr u) + x3 → (vp_in x4_160 2048 ∧ (((((xg_irOp u) x4_160.toNatClampNeg) = 16 → (vp_in x4_160 2048 ∧ (((((xg_irA u) x4_160.toNatClampNeg) = x1 → (vp_in x4_160 2048 ∧ (post ((xg_irD u) x4_160.toNatClampNeg) u))) ∧ (¬ ((xg_irA u) x4_160.toNatClampNeg) = x1 → (xq_loadValue_56 post (fun j1 j2 => xq_loadValue_9 post x1 n j1 j2 u) x1 x2 x3 x4_160 u)))))) ∧ (¬ ((xg_irOp u) x4_160.toNatClampNeg) = 16 → (xq_loadValue_56 post (fun j1 j2 => xq_loadValue_9 post x1 n j1 j2 u) x1 x2 x3 x4_160 u)))))))))))) := rfl
theorem xu_loadValue (post : Int32 → SX → Prop) (u : SX) (p0 : Int32) : wpX_loadValue post u p0 = (∀ x3_1 : Int32, x3_1 = (xg_irCount u) - 1 → (∃ n9 : Nat, xq_loadValue_9 post p0 n9 1 x3_1 u)) := rfl
theorem xu_translateAccess (post : SX → Prop) (u : SX) (p0 : Int32) (p1 : Int32) : wpX_translateAccess post u p0 p1 = (∀ x3_1 : Int32, x3_1 = ((p1.toUInt32 >>> ((5 : Int32).toUInt32 &&& Int32.toUInt32 31)).toInt32) &&& 7 → (∀ x4_2 : Int32, x4_2 = ((p1.toUInt32 >>> ((8 : Int32).toUInt32 &&& Int32.toUInt32 31)).toInt32) &&& 7 → (((p0 = 20 → (wpX_guard (fun u47 => (vp_in x3_1 8 ∧ (wpX_addIr (fun u48 => (post u48)) u47 20 ((xg_env u47) x3_1.toNatClampNeg) 0 0))) u 39 0 0)) ∧ (¬ p0 = 20 → (wpX_constant (fun r_4 u49 => (vp_in x4_2 8 ∧ (wpX_pure (fun r_83 u50 => (((p0 = 16 → (wpX_guard (fun u51 => (wpX_loadValue (fun r_793 u52 => (vp_in x3_1 8 ∧ ∀ a_env_872 : Nat → Int32, a_env_872 = upd (xg_env u52) x3_1.toNatClampNeg r_793 → (post (xs_env u52 a_env_872)))) u51 r_83)) u50 36 r_83 r_83)) ∧ (¬ p0 = 16 → (((p0 = 17 → (wpX_guard (fun u53 => (vp_in x3_1 8 ∧ (wpX_addIr (fun u54 => (post u54)) u53 17 r_83 ((xg_env u53) x3_1.toNatClampNeg) 0))) u50 36 r_83 r_83)) ∧ (¬ p0 = 17 → (((p0 = 18 → (wpX_guard (fun u55 => (wpX_freshValue (fun r_400 u56 => (wpX_addIr (fun u57 => (vp_in x3_1 8 ∧ ∀ a_env_557 : Nat → Int32, a_env_557 = upd (xg_env u57) x3_1.toNatClampNeg r_400 → (post (xs_env u57 a_env_557)))) u56 18 r_83 0 r_400)) u55)) u50 37 r_83 r_83)) ∧ (¬ p0 = 18 → (vp_in x3_1 8 ∧ (wpX_guard (fun u58 => (vp_in x3_1 8 ∧ (wpX_addIr (fun u59 => (post u59)) u58 19 r_83 ((xg_env u58) x3_1.toNatClampNeg) 0))) u50 38 r_83 ((xg_env u50) x3_1.toNatClampNeg))))))))))))) u49 3 ((xg_env u49) x4_2.toNatClampNeg) r_4))) u (p1 >>> ((11 : Int32) &&& 31)))))))) := rfl
def xq_guardBranch_122 (post : SX → Prop) (x2 : Int32) (x5 : Int32) (x6 : Int32) (u : SX) : Prop := wX_guardBranch_122 post x2 x5 x6 (xg_G_EQ u) (xg_G_NE u) (xg_G_LT u) (xg_G_GE u) (xg_G_MEM u) (xg_G_CODE u) (xg_G_STC u) (xg_G_ROOM u) (xg_SLOTS u) (xg_REC_CAP u) (xg_IR_CAP u) (xg_VAL_CAP u) (xg_EXIT_CAP u) (xg_MAX_FAILS u) (xg_MAX_MISSES u) (xg_codeSize u) (xg_memSize u) (xg_outCount u) (xg_pc u) (xg_status u) (xg_steps u) (xg_cursor u) (xg_hot u) (xg_done u) (xg_crossed u) (xg_nextPc u) (xg_crossedTo u) (xg_recording u) (xg_recHead u) (xg_recLen u) (xg_recMask u) (xg_nextVictim u) (xg_runMask u) (xg_buildOk u) (xg_buildSlot u) (xg_buildStep u) (xg_buildPc u) (xg_bIr u) (xg_bVal u) (xg_irCount u) (xg_valCount u) (xg_exitCount u) (xg_crossCount u) (xg_code u) (xg_mem u) (xg_r u) (xg_crossings u) (xg_out u) (xg_heat u) (xg_fails u) (xg_slotOf u) (xg_recPc u) (xg_recWord u) (xg_recNext u) (xg_trLive u) (xg_trHead u) (xg_trLen u) (xg_trMask u) (xg_trIr u) (xg_trVals u) (xg_trCross u) (xg_trMiss u) (xg_trTargets u) (xg_irOp u) (xg_irA u) (xg_irB u) (xg_irD u) (xg_kFlag u) (xg_kVal u) (xg_exPc u) (xg_exSteps u) (xg_exCross u) (xg_snap u) (xg_val u) (xg_env u) (xg_defAt u) (xg_used u)
theorem xu_guardBranch_122 (post : SX → Prop) (x2 : Int32) (x5 : Int32) (x6 : Int32) (u : SX) : xq_guardBranch_122 post x2 x5 x6 u = (vp_in x2 8 ∧ (wpX_guard (fun u60 => (post u60)) u x6 ((xg_env u) x2.toNatClampNeg) x5)) := rfl
def xq_guardBranch_51 (post : SX → Prop) (x2 : Int32) (x5 : Int32) (z0 : Int32) (u : SX) : Prop := wX_guardBranch_51 post x2 x5 z0 (xg_G_EQ u) (xg_G_NE u) (xg_G_LT u) (xg_G_GE u) (xg_G_MEM u) (xg_G_CODE u) (xg_G_STC u) (xg_G_ROOM u) (xg_SLOTS u) (xg_REC_CAP u) (xg_IR_CAP u) (xg_VAL_CAP u) (xg_EXIT_CAP u) (xg_MAX_FAILS u) (xg_MAX_MISSES u) (xg_codeSize u) (xg_memSize u) (xg_outCount u) (xg_pc u) (xg_status u) (xg_steps u) (xg_cursor u) (xg_hot u) (xg_done u) (xg_crossed u) (xg_nextPc u) (xg_crossedTo u) (xg_recording u) (xg_recHead u) (xg_recLen u) (xg_recMask u) (xg_nextVictim u) (xg_runMask u) (xg_buildOk u) (xg_buildSlot u) (xg_buildStep u) (xg_buildPc u) (xg_bIr u) (xg_bVal u) (xg_irCount u) (xg_valCount u) (xg_exitCount u) (xg_crossCount u) (xg_code u) (xg_mem u) (xg_r u) (xg_crossings u) (xg_out u) (xg_heat u) (xg_fails u) (xg_slotOf u) (xg_recPc u) (xg_recWord u) (xg_recNext u) (xg_trLive u) (xg_trHead u) (xg_trLen u) (xg_trMask u) (xg_trIr u) (xg_trVals u) (xg_trCross u) (xg_trMiss u) (xg_trTargets u) (xg_irOp u) (xg_irA u) (xg_irB u) (xg_irD u) (xg_kFlag u) (xg_kVal u) (xg_exPc u) (xg_exSteps u) (xg_exCross u) (xg_snap u) (xg_val u) (xg_env u) (xg_defAt u) (xg_used u)
theorem xu_guardBranch_51 (post : SX → Prop) (x2 : Int32) (x5 : Int32) (z0 : Int32) (u : SX) : xq_guardBranch_51 post x2 x5 z0 u = (xq_guardBranch_122 post x2 x5 z0 u) := rfl
def xq_guardBranch_39 (post : SX → Prop) (x2 : Int32) (x4 : Int32) (x5 : Int32) (u : SX) : Prop := wX_guardBranch_39 post x2 x4 x5 (xg_G_EQ u) (xg_G_NE u) (xg_G_LT u) (xg_G_GE u) (xg_G_MEM u) (xg_G_CODE u) (xg_G_STC u) (xg_G_ROOM u) (xg_SLOTS u) (xg_REC_CAP u) (xg_IR_CAP u) (xg_VAL_CAP u) (xg_EXIT_CAP u) (xg_MAX_FAILS u) (xg_MAX_MISSES u) (xg_codeSize u) (xg_memSize u) (xg_outCount u) (xg_pc u) (xg_status u) (xg_steps u) (xg_cursor u) (xg_hot u) (xg_done u) (xg_crossed u) (xg_nextPc u) (xg_crossedTo u) (xg_recording u) (xg_recHead u) (xg_recLen u) (xg_recMask u) (xg_nextVictim u) (xg_runMask u) (xg_buildOk u) (xg_buildSlot u) (xg_buildStep u) (xg_buildPc u) (xg_bIr u) (xg_bVal u) (xg_irCount u) (xg_valCount u) (xg_exitCount u) (xg_crossCount u) (xg_code u) (xg_mem u) (xg_r u) (xg_crossings u) (xg_out u) (xg_heat u) (xg_fails u) (xg_slotOf u) (xg_recPc u) (xg_recWord u) (xg_recNext u) (xg_trLive u) (xg_trHead u) (xg_trLen u) (xg_trMask u) (xg_trIr u) (xg_trVals u) (xg_trCross u) (xg_trMiss u) (xg_trTargets u) (xg_irOp u) (xg_irA u) (xg_irB u) (xg_irD u) (xg_kFlag u) (xg_kVal u) (xg_exPc u) (xg_exSteps u) (xg_exCross u) (xg_snap u) (xg_val u) (xg_env u) (xg_defAt u) (xg_used u)
theorem xu_guardBranch_39 (post : SX → Prop) (x2 : Int32) (x4 : Int32) (x5 : Int32) (u : SX) : xq_guardBranch_39 post x2 x4 x5 u = (((x4 = 0 → (xq_guardBranch_51 post x2 x5 33 u)) ∧ (¬ x4 = 0 → (xq_guardBranch_51 post x2 x5 32 u)))) := rfl
def xq_guardBranch_80 (post : SX → Prop) (x2 : Int32) (x5 : Int32) (z0 : Int32) (u : SX) : Prop := wX_guardBranch_80 post x2 x5 z0 (xg_G_EQ u) (xg_G_NE u) (xg_G_LT u) (xg_G_GE u) (xg_G_MEM u) (xg_G_CODE u) (xg_G_STC u) (xg_G_ROOM u) (xg_SLOTS u) (xg_REC_CAP u) (xg_IR_CAP u) (xg_VAL_CAP u) (xg_EXIT_CAP u) (xg_MAX_FAILS u) (xg_MAX_MISSES u) (xg_codeSize u) (xg_memSize u) (xg_outCount u) (xg_pc u) (xg_status u) (xg_steps u) (xg_cursor u) (xg_hot u) (xg_done u) (xg_crossed u) (xg_nextPc u) (xg_crossedTo u) (xg_recording u) (xg_recHead u) (xg_recLen u) (xg_recMask u) (xg_nextVictim u) (xg_runMask u) (xg_buildOk u) (xg_buildSlot u) (xg_buildStep u) (xg_buildPc u) (xg_bIr u) (xg_bVal u) (xg_irCount u) (xg_valCount u) (xg_exitCount u) (xg_crossCount u) (xg_code u) (xg_mem u) (xg_r u) (xg_crossings u) (xg_out u) (xg_heat u) (xg_fails u) (xg_slotOf u) (xg_recPc u) (xg_recWord u) (xg_recNext u) (xg_trLive u) (xg_trHead u) (xg_trLen u) (xg_trMask u) (xg_trIr u) (xg_trVals u) (xg_trCross u) (xg_trMiss u) (xg_trTargets u) (xg_irOp u) (xg_irA u) (xg_irB u) (xg_irD u) (xg_kFlag u) (xg_kVal u) (xg_exPc u) (xg_exSteps u) (xg_exCross u) (xg_snap u) (xg_val u) (xg_env u) (xg_defAt u) (xg_used u)
theorem xu_guardBranch_80 (post : SX → Prop) (x2 : Int32) (x5 : Int32) (z0 : Int32) (u : SX) : xq_guardBranch_80 post x2 x5 z0 u = (xq_guardBranch_122 post x2 x5 z0 u) := rfl
def xq_guardBranch_68 (post : SX → Prop) (x2 : Int32) (x4 : Int32) (x5 : Int32) (u : SX) : Prop := wX_guardBranch_68 post x2 x4 x5 (xg_G_EQ u) (xg_G_NE u) (xg_G_LT u) (xg_G_GE u) (xg_G_MEM u) (xg_G_CODE u) (xg_G_STC u) (xg_G_ROOM u) (xg_SLOTS u) (xg_REC_CAP u) (xg_IR_CAP u) (xg_VAL_CAP u) (xg_EXIT_CAP u) (xg_MAX_FAILS u) (xg_MAX_MISSES u) (xg_codeSize u) (xg_memSize u) (xg_outCount u) (xg_pc u) (xg_status u) (xg_steps u) (xg_cursor u) (xg_hot u) (xg_done u) (xg_crossed u) (xg_nextPc u) (xg_crossedTo u) (xg_recording u) (xg_recHead u) (xg_recLen u) (xg_recMask u) (xg_nextVictim u) (xg_runMask u) (xg_buildOk u) (xg_buildSlot u) (xg_buildStep u) (xg_buildPc u) (xg_bIr u) (xg_bVal u) (xg_irCount u) (xg_valCount u) (xg_exitCount u) (xg_crossCount u) (xg_code u) (xg_mem u) (xg_r u) (xg_crossings u) (xg_out u) (xg_heat u) (xg_fails u) (xg_slotOf u) (xg_recPc u) (xg_recWord u) (xg_recNext u) (xg_trLive u) (xg_trHead u) (xg_trLen u) (xg_trMask u) (xg_trIr u) (xg_trVals u) (xg_trCross u) (xg_trMiss u) (xg_trTargets u) (xg_irOp u) (xg_irA u) (xg_irB u) (xg_irD u) (xg_kFlag u) (xg_kVal u) (xg_exPc u) (xg_exSteps u) (xg_exCross u) (xg_snap u) (xg_val u) (xg_env u) (xg_defAt u) (xg_used u)
theorem xu_guardBranch_68 (post : SX → Prop) (x2 : Int32) (x4 : Int32) (x5 : Int32) (u : SX) : xq_guardBranch_68 post x2 x4 x5 u = (((x4 = 0 → (xq_guardBranch_80 post x2 x5 32 u)) ∧ (¬ x4 = 0 → (xq_guardBranch_80 post x2 x5 33 u)))) := rfl
def xq_guardBranch_120 (post : SX → Prop) (x2 : Int32) (x5 : Int32) (z0 : Int32) (u : SX) : Prop := wX_guardBranch_120 post x2 x5 z0 (xg_G_EQ u) (xg_G_NE u) (xg_G_LT u) (xg_G_GE u) (xg_G_MEM u) (xg_G_CODE u) (xg_G_STC u) (xg_G_ROOM u) (xg_SLOTS u) (xg_REC_CAP u) (xg_IR_CAP u) (xg_VAL_CAP u) (xg_EXIT_CAP u) (xg_MAX_FAILS u) (xg_MAX_MISSES u) (xg_codeSize u) (xg_memSize u) (xg_outCount u) (xg_pc u) (xg_status u) (xg_steps u) (xg_cursor u) (xg_hot u) (xg_done u) (xg_crossed u) (xg_nextPc u) (xg_crossedTo u) (xg_recording u) (xg_recHead u) (xg_recLen u) (xg_recMask u) (xg_nextVictim u) (xg_runMask u) (xg_buildOk u) (xg_buildSlot u) (xg_buildStep u) (xg_buildPc u) (xg_bIr u) (xg_bVal u) (xg_irCount u) (xg_valCount u) (xg_exitCount u) (xg_crossCount u) (xg_code u) (xg_mem u) (xg_r u) (xg_crossings u) (xg_out u) (xg_heat u) (xg_fails u) (xg_slotOf u) (xg_recPc u) (xg_recWord u) (xg_recNext u) (xg_trLive u) (xg_trHead u) (xg_trLen u) (xg_trMask u) (xg_trIr u) (xg_trVals u) (xg_trCross u) (xg_trMiss u) (xg_trTargets u) (xg_irOp u) (xg_irA u) (xg_irB u) (xg_irD u) (xg_kFlag u) (xg_kVal u) (xg_exPc u) (xg_exSteps u) (xg_exCross u) (xg_snap u) (xg_val u) (xg_env u) (xg_defAt u) (xg_used u)
theorem xu_guardBranch_120 (post : SX → Prop) (x2 : Int32) (x5 : Int32) (z0 : Int32) (u : SX) : xq_guardBranch_120 post x2 x5 z0 u = (xq_guardBranch_122 post x2 x5 z0 u) := rfl
def xq_guardBranch_103 (post : SX → Prop) (x2 : Int32) (x5 : Int32) (z0 : Int32) (u : SX) : Prop := wX_guardBranch_103 post x2 x5 z0 (xg_G_EQ u) (xg_G_NE u) (xg_G_LT u) (xg_G_GE u) (xg_G_MEM u) (xg_G_CODE u) (xg_G_STC u) (xg_G_ROOM u) (xg_SLOTS u) (xg_REC_CAP u) (xg_IR_CAP u) (xg_VAL_CAP u) (xg_EXIT_CAP u) (xg_MAX_FAILS u) (xg_MAX_MISSES u) (xg_codeSize u) (xg_memSize u) (xg_outCount u) (xg_pc u) (xg_status u) (xg_steps u) (xg_cursor u) (xg_hot u) (xg_done u) (xg_crossed u) (xg_nextPc u) (xg_crossedTo u) (xg_recording u) (xg_recHead u) (xg_recLen u) (xg_recMask u) (xg_nextVictim u) (xg_runMask u) (xg_buildOk u) (xg_buildSlot u) (xg_buildStep u) (xg_buildPc u) (xg_bIr u) (xg_bVal u) (xg_irCount u) (xg_valCount u) (xg_exitCount u) (xg_crossCount u) (xg_code u) (xg_mem u) (xg_r u) (xg_crossings u) (xg_out u) (xg_heat u) (xg_fails u) (xg_slotOf u) (xg_recPc u) (xg_recWord u) (xg_recNext u) (xg_trLive u) (xg_trHead u) (xg_trLen u) (xg_trMask u) (xg_trIr u) (xg_trVals u) (xg_trCross u) (xg_trMiss u) (xg_trTargets u) (xg_irOp u) (xg_irA u) (xg_irB u) (xg_irD u) (xg_kFlag u) (xg_kVal u) (xg_exPc u) (xg_exSteps u) (xg_exCross u) (xg_snap u) (xg_val u) (xg_env u) (xg_defAt u) (xg_used u)
theorem xu_guardBranch_103 (post : SX → Prop) (x2 : Int32) (x5 : Int32) (z0 : Int32) (u : SX) : xq_guardBranch_103 post x2 x5 z0 u = (xq_guardBranch_122 post x2 x5 z0 u) := rfl
def xq_guardBranch_27 (post : SX → Prop) (x1 : Int32) (x2 : Int32) (x4 : Int32) (x5 : Int32) (u : SX) : Prop := wX_guardBranch_27 post x1 x2 x4 x5 (xg_G_EQ u) (xg_G_NE u) (xg_G_LT u) (xg_G_GE u) (xg_G_MEM u) (xg_G_CODE u) (xg_G_STC u) (xg_G_ROOM u) (xg_SLOTS u) (xg_REC_CAP u) (xg_IR_CAP u) (xg_VAL_CAP u) (xg_EXIT_CAP u) (xg_MAX_FAILS u) (xg_MAX_MISSES u) (xg_codeSize u) (xg_memSize u) (xg_outCount u) (xg_pc u) (xg_status u) (xg_steps u) (xg_cursor u) (xg_hot u) (xg_done u) (xg_crossed u) (xg_nextPc u) (xg_crossedTo u) (xg_recording u) (xg_recHead u) (xg_recLen u) (xg_recMask u) (xg_nextVictim u) (xg_runMask u) (xg_buildOk u) (xg_buildSlot u) (xg_buildStep u) (xg_buildPc u) (xg_bIr u) (xg_bVal u) (xg_irCount u) (xg_valCount u) (xg_exitCount u) (xg_crossCount u) (xg_code u) (xg_mem u) (xg_r u) (xg_crossings u) (xg_out u) (xg_heat u) (xg_fails u) (xg_slotOf u) (xg_recPc u) (xg_recWord u) (xg_recNext u) (xg_trLive u) (xg_trHead u) (xg_trLen u) (xg_trMask u) (xg_trIr u) (xg_trVals u) (xg_trCross u) (xg_trMiss u) (xg_trTargets u) (xg_irOp u) (xg_irA u) (xg_irB u) (xg_irD u) (xg_kFlag u) (xg_kVal u) (xg_exPc u) (xg_exSteps u) (xg_exCross u) (xg_snap u) (xg_val u) (xg_env u) (xg_defAt u) (xg_used u)
end
end
section
set_option maxRecDepth 20000
section
theorem xu_guardBranch_27 (post : SX → Prop) (x1 : Int32) (x2 : Int32) (x4 : Int32) (x5 : Int32) (u : SX) : xq_guardBranch_27 post x1 x2 x4 x5 u = (((x1 = 22 → (xq_guardBranch_39 post x2 x4 x5 u)) ∧ (¬ x1 = 22 → (((x1 = 26 → (xq_guardBranch_39 post x2 x4 x5 u)) ∧ (¬ x1 = 26 → (((x1 = 23 → (xq_guardBranch_68 post x2 x4 x5 u)) ∧ (¬ x1 = 23 → (((x1 = 27 → (xq_guardBranch_68 post x2 x4 x5 u)) ∧ (¬ x1 = 27 → (((x1 = 24 → (((x4 = 0 → (xq_guardBranch_103 post x2 x5 35 u)) ∧ (¬ x4 = 0 → (xq_guardBranch_103 post x2 x5 34 u))))) ∧ (¬ x1 = 24 → (((x4 = 0 → (xq_guardBranch_120 post x2 x5 34 u)) ∧ (¬ x4 = 0 → (xq_guardBranch_120 post x2 x5 35 u))))))))))))))))))) := rfl
def xq_guardBranch_20 (post : SX → Prop) (x1 : Int32) (x2 : Int32) (x4 : Int32) (u : SX) : Prop := wX_guardBranch_20 post x1 x2 x4 (xg_G_EQ u) (xg_G_NE u) (xg_G_LT u) (xg_G_GE u) (xg_G_MEM u) (xg_G_CODE u) (xg_G_STC u) (xg_G_ROOM u) (xg_SLOTS u) (xg_REC_CAP u) (xg_IR_CAP u) (xg_VAL_CAP u) (xg_EXIT_CAP u) (xg_MAX_FAILS u) (xg_MAX_MISSES u) (xg_codeSize u) (xg_memSize u) (xg_outCount u) (xg_pc u) (xg_status u) (xg_steps u) (xg_cursor u) (xg_hot u) (xg_done u) (xg_crossed u) (xg_nextPc u) (xg_crossedTo u) (xg_recording u) (xg_recHead u) (xg_recLen u) (xg_recMask u) (xg_nextVictim u) (xg_runMask u) (xg_buildOk u) (xg_buildSlot u) (xg_buildStep u) (xg_buildPc u) (xg_bIr u) (xg_bVal u) (xg_irCount u) (xg_valCount u) (xg_exitCount u) (xg_crossCount u) (xg_code u) (xg_mem u) (xg_r u) (xg_crossings u) (xg_out u) (xg_heat u) (xg_fails u) (xg_slotOf u) (xg_recPc u) (xg_recWord u) (xg_recNext u) (xg_trLive u) (xg_trHead u) (xg_trLen u) (xg_trMask u) (xg_trIr u) (xg_trVals u) (xg_trCross u) (xg_trMiss u) (xg_trTargets u) (xg_irOp u) (xg_irA u) (xg_irB u) (xg_irD u) (xg_kFlag u) (xg_kVal u) (xg_exPc u) (xg_exSteps u) (xg_exCross u) (xg_snap u) (xg_val u) (xg_env u) (xg_defAt u) (xg_used u)
theorem xu_guardBranch_20 (post : SX → Prop) (x1 : Int32) (x2 : Int32) (x4 : Int32) (u : SX) : xq_guardBranch_20 post x1 x2 x4 u = (wpX_constant (fun r_4 u61 => (xq_guardBranch_27 post x1 x2 x4 r_4 u61)) u 0) := rfl
theorem xu_guardBranch (post : SX → Prop) (u : SX) (p0 : Int32) (p1 : Int32) (p2 : Int32) (p3 : Int32) : wpX_guardBranch post u p0 p1 p2 p3 = (vp_in p2 8 ∧ (∀ x5_2 : Int32, x5_2 = (xg_env u) p2.toNatClampNeg → (((p0 = 22 → (xq_guardBranch_20 post p0 p1 p3 u)) ∧ (¬ p0 = 22 → (((p0 = 23 → (xq_guardBranch_20 post p0 p1 p3 u)) ∧ (¬ p0 = 23 → (xq_guardBranch_27 post p0 p1 p3 x5_2 u))))))))) := rfl
def xq_translateJump_115 (post : SX → Prop) (z0 : Int32) (z1 : Int32) (z2 : Int32) (z3 : Int32) (u : SX) : Prop := wX_translateJump_115 post z0 z1 z2 z3 (xg_G_EQ u) (xg_G_NE u) (xg_G_LT u) (xg_G_GE u) (xg_G_MEM u) (xg_G_CODE u) (xg_G_STC u) (xg_G_ROOM u) (xg_SLOTS u) (xg_REC_CAP u) (xg_IR_CAP u) (xg_VAL_CAP u) (xg_EXIT_CAP u) (xg_MAX_FAILS u) (xg_MAX_MISSES u) (xg_codeSize u) (xg_memSize u) (xg_outCount u) (xg_pc u) (xg_status u) (xg_steps u) (xg_cursor u) (xg_hot u) (xg_done u) (xg_crossed u) (xg_nextPc u) (xg_crossedTo u) (xg_recording u) (xg_recHead u) (xg_recLen u) (xg_recMask u) (xg_nextVictim u) (xg_runMask u) (xg_buildOk u) (xg_buildSlot u) (xg_buildStep u) (xg_buildPc u) (xg_bIr u) (xg_bVal u) (xg_irCount u) (xg_valCount u) (xg_exitCount u) (xg_crossCount u) (xg_code u) (xg_mem u) (xg_r u) (xg_crossings u) (xg_out u) (xg_heat u) (xg_fails u) (xg_slotOf u) (xg_recPc u) (xg_recWord u) (xg_recNext u) (xg_trLive u) (xg_trHead u) (xg_trLen u) (xg_trMask u) (xg_trIr u) (xg_trVals u) (xg_trCross u) (xg_trMiss u) (xg_trTargets u) (xg_irOp u) (xg_irA u) (xg_irB u) (xg_irD u) (xg_kFlag u) (xg_kVal u) (xg_exPc u) (xg_exSteps u) (xg_exCross u) (xg_snap u) (xg_val u) (xg_env u) (xg_defAt u) (xg_used u)
theorem xu_translateJump_115 (post : SX → Prop) (z0 : Int32) (z1 : Int32) (z2 : Int32) (z3 : Int32) (u : SX) : xq_translateJump_115 post z0 z1 z2 z3 u = (wpX_guardBranch (fun u62 => (post u62)) u z3 z2 z1 z0) := rfl
theorem xu_translateJump (post : SX → Prop) (u : SX) (p0 : Int32) (p1 : Int32) (p2 : Int32) : wpX_translateJump post u p0 p1 p2 = (∀ x4_1 : Int32, x4_1 = ((p1.toUInt32 >>> ((5 : Int32).toUInt32 &&& Int32.toUInt32 31)).toInt32) &&& 7 → (∀ x5_2 : Int32, x5_2 = ((p1.toUInt32 >>> ((8 : Int32).toUInt32 &&& Int32.toUInt32 31)).toInt32) &&& 7 → (∀ x6_3 : Int32, x6_3 = p1 >>> ((11 : Int32) &&& 31) → (((p0 = 21 → (post u)) ∧ (¬ p0 = 21 → (((p0 = 28 → (wpX_constant (fun r_244 u63 => (vp_in x4_1 8 ∧ ∀ a_env_323 : Nat → Int32, a_env_323 = upd (xg_env u63) x4_1.toNatClampNeg r_244 → (post (xs_env u63 a_env_323)))) u ((xg_buildPc u) + 1))) ∧ (¬ p0 = 28 → (((p0 = 29 → (wpX_constant (fun r_87 u64 => (vp_in x4_1 8 ∧ (wpX_guard (fun u65 => (post u65)) u64 32 ((xg_env u64) x4_1.toNatClampNeg) r_87))) u p2)) ∧ (¬ p0 = 29 → (((x6_3 = ((xg_buildPc u) + 1) → (post u)) ∧ (¬ x6_3 = ((xg_buildPc u) + 1) → (((p2 = x6_3 → (xq_translateJump_115 post 1 x5_2 x4_1 p0 u)) ∧ (¬ p2 = x6_3 → (xq_translateJump_115 post 0 x5_2 x4_1 p0 u))))))))))))))))))) := rfl
def xq_translate_87 (post : SX → Prop) (x1 : Int32) (u : SX) : Prop := wX_translate_87 post x1 (xg_G_EQ u) (xg_G_NE u) (xg_G_LT u) (xg_G_GE u) (xg_G_MEM u) (xg_G_CODE u) (xg_G_STC u) (xg_G_ROOM u) (xg_SLOTS u) (xg_REC_CAP u) (xg_IR_CAP u) (xg_VAL_CAP u) (xg_EXIT_CAP u) (xg_MAX_FAILS u) (xg_MAX_MISSES u) (xg_codeSize u) (xg_memSize u) (xg_outCount u) (xg_pc u) (xg_status u) (xg_steps u) (xg_cursor u) (xg_hot u) (xg_done u) (xg_crossed u) (xg_nextPc u) (xg_crossedTo u) (xg_recording u) (xg_recHead u) (xg_recLen u) (xg_recMask u) (xg_nextVictim u) (xg_runMask u) (xg_buildOk u) (xg_buildSlot u) (xg_buildStep u) (xg_buildPc u) (xg_bIr u) (xg_bVal u) (xg_irCount u) (xg_valCount u) (xg_exitCount u) (xg_crossCount u) (xg_code u) (xg_mem u) (xg_r u) (xg_crossings u) (xg_out u) (xg_heat u) (xg_fails u) (xg_slotOf u) (xg_recPc u) (xg_recWord u) (xg_recNext u) (xg_trLive u) (xg_trHead u) (xg_trLen u) (xg_trMask u) (xg_trIr u) (xg_trVals u) (xg_trCross u) (xg_trMiss u) (xg_trTargets u) (xg_irOp u) (xg_irA u) (xg_irB u) (xg_irD u) (xg_kFlag u) (xg_kVal u) (xg_exPc u) (xg_exSteps u) (xg_exCross u) (xg_snap u) (xg_val u) (xg_env u) (xg_defAt u) (xg_used u)
theorem xu_translate_87 (post : SX → Prop) (x1 : Int32) (u : SX) : xq_translate_87 post x1 u = (vp_in x1 96 ∧ (vp_in x1 96 ∧ (((((xg_recPc u) x1.toNatClampNeg) < ((xg_recNext u) x1.toNatClampNeg) → (post u)) ∧ (¬ ((xg_recPc u) x1.toNatClampNeg) < ((xg_recNext u) x1.toNatClampNeg) → (((96 ≤ (xg_crossCount u) → (post u)) ∧ (¬ 96 ≤ (xg_crossCount u) → (vp_in x1 96 ∧ (vp_in (((xg_buildSlot u) * 96) + (xg_crossCount u)) 768 ∧ ∀ a_trTargets_13 : Nat → Int32, a_trTargets_13 = upd (xg_trTargets u) (((xg_buildSlot u) * 96) + (xg_crossCount u)).toNatClampNeg ((xg_recNext u) x1.toNatClampNeg) → (∀ f_crossCount_14 : Int32, f_crossCount_14 = (xg_crossCount u) + 1 → (post (xs_trTargets (xs_crossCount u f_crossCount_14) a_trTargets_13))))))))))))) := rfl
def xq_translate_37 (post : SX → Prop) (x1 : Int32) (u : SX) : Prop := wX_translate_37 post x1 (xg_G_EQ u) (xg_G_NE u) (xg_G_LT u) (xg_G_GE u) (xg_G_MEM u) (xg_G_CODE u) (xg_G_STC u) (xg_G_ROOM u) (xg_SLOTS u) (xg_REC_CAP u) (xg_IR_CAP u) (xg_VAL_CAP u) (xg_EXIT_CAP u) (xg_MAX_FAILS u) (xg_MAX_MISSES u) (xg_codeSize u) (xg_memSize u) (xg_outCount u) (xg_pc u) (xg_status u) (xg_steps u) (xg_cursor u) (xg_hot u) (xg_done u) (xg_crossed u) (xg_nextPc u) (xg_crossedTo u) (xg_recording u) (xg_recHead u) (xg_recLen u) (xg_recMask u) (xg_nextVictim u) (xg_runMask u) (xg_buildOk u) (xg_buildSlot u) (xg_buildStep u) (xg_buildPc u) (xg_bIr u) (xg_bVal u) (xg_irCount u) (xg_valCount u) (xg_exitCount u) (xg_crossCount u) (xg_code u) (xg_mem u) (xg_r u) (xg_crossings u) (xg_out u) (xg_heat u) (xg_fails u) (xg_slotOf u) (xg_recPc u) (xg_recWord u) (xg_recNext u) (xg_trLive u) (xg_trHead u) (xg_trLen u) (xg_trMask u) (xg_trIr u) (xg_trVals u) (xg_trCross u) (xg_trMiss u) (xg_trTargets u) (xg_irOp u) (xg_irA u) (xg_irB u) (xg_irD u) (xg_kFlag u) (xg_kVal u) (xg_exPc u) (xg_exSteps u) (xg_exCross u) (xg_snap u) (xg_val u) (xg_env u) (xg_defAt u) (xg_used u)
theorem xu_translate_37 (post : SX → Prop) (x1 : Int32) (u : SX) : xq_translate_37 post x1 u = (xq_translate_87 post x1 (xs_buildOk u 0)) := rfl
theorem xu_translate (post : SX → Prop) (u : SX) (p0 : Int32) : wpX_translate post u p0 = (vp_in p0 96 ∧ (∀ x2_2 : Int32, x2_2 = (xg_recWord u) p0.toNatClampNeg → (∀ x3_3 : Int32, x3_3 = x2_2 &&& 31 → (vp_in p0 96 ∧ (∀ f_buildPc_5 : Int32, f_buildPc_5 = (xg_recPc u) p0.toNatClampNeg → (((x3_3 = 0 → (xq_translate_37 post p0 (xs_buildPc (xs_buildStep u p0) f_buildPc_5))) ∧ (¬ x3_3 = 0 → (((x3_3 ≤ 29 → (((15 < x3_3 → (((20 < x3_3 → (vp_in p0 96 ∧ (wpX_translateJump (fun u66 => (xq_translate_87 post p0 u66)) (xs_buildPc (xs_buildStep u p0) f_buildPc_5) x3_3 x2_2 ((xg_recNext u) p0.toNatClampNeg)))) ∧ (¬ 20 < x3_3 → (wpX_translateAccess (fun u67 => (xq_translate_87 post p0 u67)) (xs_buildPc (xs_buildStep u p0) f_buildPc_5) x3_3 x2_2))))) ∧ (¬ 15 < x3_3 → (wpX_translateArithmetic (fun u68 => (xq_translate_87 post p0 u68)) (xs_buildPc (xs_buildStep u p0) f_buildPc_5) x3_3 x2_2))))) ∧ (¬ x3_3 ≤ 29 → (xq_translate_37 post p0 (xs_buildPc (xs_buildStep u p0) f_buildPc_5))))))))))))) := rfl
def xq_eliminateDead_184 (post : SX → Prop) (n : Nat) (x2 : Int32) (x3 : Int32) (u : SX) : Prop := wX_eliminateDead_184 post (xg_G_EQ u) (xg_G_NE u) (xg_G_LT u) (xg_G_GE u) (xg_G_MEM u) (xg_G_CODE u) (xg_G_STC u) (xg_G_ROOM u) (xg_SLOTS u) (xg_REC_CAP u) (xg_IR_CAP u) (xg_VAL_CAP u) (xg_EXIT_CAP u) (xg_MAX_FAILS u) (xg_MAX_MISSES u) (xg_codeSize u) (xg_memSize u) (xg_outCount u) (xg_pc u) (xg_status u) (xg_steps u) (xg_cursor u) (xg_hot u) (xg_done u) (xg_crossed u) (xg_nextPc u) (xg_crossedTo u) (xg_recording u) (xg_recHead u) (xg_recLen u) (xg_recMask u) (xg_nextVictim u) (xg_runMask u) (xg_buildOk u) (xg_buildSlot u) (xg_buildStep u) (xg_buildPc u) (xg_bIr u) (xg_bVal u) (xg_irCount u) (xg_valCount u) (xg_exitCount u) (xg_crossCount u) n x2 x3 (xg_code u) (xg_mem u) (xg_r u) (xg_crossings u) (xg_out u) (xg_heat u) (xg_fails u) (xg_slotOf u) (xg_recPc u) (xg_recWord u) (xg_recNext u) (xg_trLive u) (xg_trHead u) (xg_trLen u) (xg_trMask u) (xg_trIr u) (xg_trVals u) (xg_trCross u) (xg_trMiss u) (xg_trTargets u) (xg_irOp u) (xg_irA u) (xg_irB u) (xg_irD u) (xg_kFlag u) (xg_kVal u) (xg_exPc u) (xg_exSteps u) (xg_exCross u) (xg_snap u) (xg_val u) (xg_env u) (xg_defAt u) (xg_used u)
theorem xu_eliminateDead_184 (post : SX → Prop) (n : Nat) (x2 : Int32) (x3 : Int32) (u : SX) : xq_eliminateDead_184 post (n + 1) x2 x3 u = ((((xg_irCount u) ≤ x3 → (post (xs_irCount u x2))) ∧ (¬ (xg_irCount u) ≤ x3 → (∀ x4_7 : Int32, x4_7 = (xg_bIr u) + x3 → (vp_in x4_7 2048 ∧ (((((xg_irOp u) x4_7.toNatClampNeg) = 0 → (∀ x3_10 : Int32, x3_10 = x3 + 1 → (xq_eliminateDead_184 post n x2 x3_10 u))) ∧ (¬ ((xg_irOp u) x4_7.toNatClampNeg) = 0 → (∀ x5_11 : Int32, x5_11 = (xg_bIr u) + x2 → (vp_in x4_7 2048 ∧ (vp_in x5_11 2048 ∧ ∀ a_irOp_14 : Nat → Int32, a_irOp_14 = upd (xg_irOp u) x5_11.toNatClampNeg ((xg_irOp u) x4_7.toNatClampNeg) → (vp_in x4_7 2048 ∧ (vp_in x5_11 2048 ∧ ∀ a_irA_17 : Nat → Int32, a_irA_17 = upd (xg_irA u) x5_11.toNatClampNeg ((xg_irA u) x4_7.toNatClampNeg) → (vp_in x4_7 2048 ∧ (vp_in x5_11 2048 ∧ ∀ a_irB_20 : Nat → Int32, a_irB_20 = upd (xg_irB u) x5_11.toNatClampNeg ((xg_irB u) x4_7.toNatClampNeg) → (vp_in x4_7 2048 ∧ (vp_in x5_11 2048 ∧ ∀ a_irD_23 : Nat → Int32, a_irD_23 = upd (xg_irD u) x5_11.toNatClampNeg ((xg_irD u) x4_7.toNatClampNeg) → (∀ x2_24 : Int32, x2_24 = x2 + 1 → (∀ x3_25 : Int32, x3_25 = x3 + 1 → (xq_eliminateDead_184 post n x2_24 x3_25 (xs_irD (xs_irB (xs_irA (xs_irOp u a_irOp_14) a_irA_17) a_irB_20) a_irD_23))))))))))))))))))))) := rfl
def xq_eliminateDead_150 (post : SX → Prop) (J74 : Int32 → SX → Prop) (x2 : Int32) (x3 : Int32) (u : SX) : Prop := wX_eliminateDead_150 post (fun k0 b0 b1 b2 b3 b4 b5 b6 b7 b8 b9 b10 b11 b12 b13 b14 b15 b16 b17 b18 b19 b20 b21 b22 b23 b24 b25 b26 b27 b28 b29 b30 b31 b32 b33 => J74 k0 (xg_G_EQ u, xg_G_NE u, xg_G_LT u, xg_G_GE u, xg_G_MEM u, xg_G_CODE u, xg_G_STC u, xg_G_ROOM u, xg_SLOTS u, xg_REC_CAP u, xg_IR_CAP u, xg_VAL_CAP u, xg_EXIT_CAP u, xg_MAX_FAILS u, xg_MAX_MISSES u, xg_codeSize u, xg_memSize u, xg_outCount u, xg_pc u, xg_status u, xg_steps u, xg_cursor u, xg_hot u, xg_done u, xg_crossed u, xg_nextPc u, xg_crossedTo u, xg_recording u, xg_recHead u, xg_recLen u, xg_recMask u, xg_nextVictim u, xg_runMask u, xg_buildOk u, xg_buildSlot u, xg_buildStep u, xg_buildPc u, xg_bIr u, xg_bVal u, xg_irCount u, xg_valCount u, xg_exitCount u, xg_crossCount u, b0, b1, b2, b3, b4, b5, b6, b7, b8, b9, b10, b11, b12, b13, b14, b15, b16, b17, b18, b19, b20, b21, b22, b23, b24, b25, b26, b27, b28, b29, b30, b31, b32, b33)) x2 x3 (xg_G_EQ u) (xg_G_NE u) (xg_G_LT u) (xg_G_GE u) (xg_G_MEM u) (xg_G_CODE u) (xg_G_STC u) (xg_G_ROOM u) (xg_SLOTS u) (xg_REC_CAP u) (xg_IR_CAP u) (xg_VAL_CAP u) (xg_EXIT_CAP u) (xg_MAX_FAILS u) (xg_MAX_MISSES u) (xg_codeSize u) (xg_memSize u) (xg_outCount u) (xg_pc u) (xg_status u) (xg_steps u) (xg_cursor u) (xg_hot u) (xg_done u) (xg_crossed u) (xg_nextPc u) (xg_crossedTo u) (xg_recording u) (xg_recHead u) (xg_recLen u) (xg_recMask u) (xg_nextVictim u) (xg_runMask u) (xg_buildOk u) (xg_buildSlot u) (xg_buildStep u) (xg_buildPc u) (xg_bIr u) (xg_bVal u) (xg_irCount u) (xg_valCount u) (xg_exitCount u) (xg_crossCount u) (xg_code u) (xg_mem u) (xg_r u) (xg_crossings u) (xg_out u) (xg_heat u) (xg_fails u) (xg_slotOf u) (xg_recPc u) (xg_recWord u) (xg_recNext u) (xg_trLive u) (xg_trHead u) (xg_trLen u) (xg_trMask u) (xg_trIr u) (xg_trVals u) (xg_trCross u) (xg_trMiss u) (xg_trTargets u) (xg_irOp u) (xg_irA u) (xg_irB u) (xg_irD u) (xg_kFlag u) (xg_kVal u) (xg_exPc u) (xg_exSteps u) (xg_exCross u) (xg_snap u) (xg_val u) (xg_env u) (xg_defAt u) (xg_used u)
theorem xu_eliminateDead_150 (post : SX → Prop) (J74 : Int32 → SX → Prop) (x2 : Int32) (x3 : Int32) (u : SX) : xq_eliminateDead_150 post J74 x2 x3 u = (vp_in x3 2048 ∧ (vp_in ((xg_irA u) x3.toNatClampNeg) 256 ∧ ∀ a_used_33 : Nat → Int32, a_used_33 = upd (xg_used u) ((xg_irA u) x3.toNatClampNeg).toNatClampNeg (vp_nar .boolean 1) → (vp_in x3 2048 ∧ (vp_in ((xg_irB u) x3.toNatClampNeg) 256 ∧ ∀ a_used_36 : Nat → Int32, a_used_36 = upd a_used_33 ((xg_irB u) x3.toNatClampNeg).toNatClampNeg (vp_nar .boolean 1) → (∀ x2_37 : Int32, x2_37 = x2 + (-1) → (J74 x2_37 (xs_used u a_used_36))))))) := rfl
def xq_eliminateDead_119 (post : SX → Prop) (J74 : Int32 → SX → Prop) (x2 : Int32) (x3 : Int32) (z0 : Int32) (u : SX) : Prop := wX_eliminateDead_119 post (fun k0 b0 b1 b2 b3 b4 b5 b6 b7 b8 b9 b10 b11 b12 b13 b14 b15 b16 b17 b18 b19 b20 b21 b22 b23 b24 b25 b26 b27 b28 b29 b30 b31 b32 b33 => J74 k0 (xg_G_EQ u, xg_G_NE u, xg_G_LT u, xg_G_GE u, xg_G_MEM u, xg_G_CODE u, xg_G_STC u, xg_G_ROOM u, xg_SLOTS u, xg_REC_CAP u, xg_IR_CAP u, xg_VAL_CAP u, xg_EXIT_CAP u, xg_MAX_FAILS u, xg_MAX_MISSES u, xg_codeSize u, xg_memSize u, xg_outCount u, xg_pc u, xg_status u, xg_steps u, xg_cursor u, xg_hot u, xg_done u, xg_crossed u, xg_nextPc u, xg_crossedTo u, xg_recording u, xg_recHead u, xg_recLen u, xg_recMask u, xg_nextVictim u, xg_runMask u, xg_buildOk u, xg_buildSlot u, xg_buildStep u, xg_buildPc u, xg_bIr u, xg_bVal u, xg_irCount u, xg_valCount u, xg_exitCount u, xg_crossCount u, b0, b1, b2, b3, b4, b5, b6, b7, b8, b9, b10, b11, b12, b13, b14, b15, b16, b17, b18, b19, b20, b21, b22, b23, b24, b25, b26, b27, b28, b29, b30, b31, b32, b33)) x2 x3 z0 (xg_G_EQ u) (xg_G_NE u) (xg_G_LT u) (xg_G_GE u) (xg_G_MEM u) (xg_G_CODE u) (xg_G_STC u) (xg_G_ROOM u) (xg_SLOTS u) (xg_REC_CAP u) (xg_IR_CAP u) (xg_VAL_CAP u) (xg_EXIT_CAP u) (xg_MAX_FAILS u) (xg_MAX_MISSES u) (xg_codeSize u) (xg_memSize u) (xg_outCount u) (xg_pc u) (xg_status u) (xg_steps u) (xg_cursor u) (xg_hot u) (xg_done u) (xg_crossed u) (xg_nextPc u) (xg_crossedTo u) (xg_recording u) (xg_recHead u) (xg_recLen u) (xg_recMask u) (xg_nextVictim u) (xg_runMask u) (xg_buildOk u) (xg_buildSlot u) (xg_buildStep u) (xg_buildPc u) (xg_bIr u) (xg_bVal u) (xg_irCount u) (xg_valCount u) (xg_exitCount u) (xg_crossCount u) (xg_code u) (xg_mem u) (xg_r u) (xg_crossings u) (xg_out u) (xg_heat u) (xg_fails u) (xg_slotOf u) (xg_recPc u) (xg_recWord u) (xg_recNext u) (xg_trLive u) (xg_trHead u) (xg_trLen u) (xg_trMask u) (xg_trIr u) (xg_trVals u) (xg_trCross u) (xg_trMiss u) (xg_trTargets u) (xg_irOp u) (xg_irA u) (xg_irB u) (xg_irD u) (xg_kFlag u) (xg_kVal u) (xg_exPc u) (xg_exSteps u) (xg_exCross u) (xg_snap u) (xg_val u) (xg_env u) (xg_defAt u) (xg_used u)
theorem xu_eliminateDead_119 (post : SX → Prop) (J74 : Int32 → SX → Prop) (x2 : Int32) (x3 : Int32) (z0 : Int32) (u : SX) : xq_eliminateDead_119 post J74 x2 x3 z0 u = (((z0 = 0 → (xq_eliminateDead_150 post J74 x2 x3 u)) ∧ (¬ z0 = 0 → (vp_in x3 2048 ∧ (vp_in ((xg_irD u) x3.toNatClampNeg) 256 ∧ (((((xg_used u) ((xg_irD u) x3.toNatClampNeg).toNatClampNeg) = 0 → (vp_in x3 2048 ∧ ∀ a_irOp_42 : Nat → Int32, a_irOp_42 = upd (xg_irOp u) x3.toNatClampNeg 0 → (∀ x2_43 : Int32, x2_43 = x2 + (-1) → (J74 x2_43 (xs_irOp u a_irOp_42))))) ∧ (¬ ((xg_used u) ((xg_irD u) x3.toNatClampNeg).toNatClampNeg) = 0 → (xq_eliminateDead_150 post J74 x2 x3 u))))))))) := rfl
def xq_eliminateDead_114 (post : SX → Prop) (J74 : Int32 → SX → Prop) (x2 : Int32) (x3 : Int32) (u : SX) : Prop := wX_eliminateDead_114 post (fun k0 b0 b1 b2 b3 b4 b5 b6 b7 b8 b9 b10 b11 b12 b13 b14 b15 b16 b17 b18 b19 b20 b21 b22 b23 b24 b25 b26 b27 b28 b29 b30 b31 b32 b33 => J74 k0 (xg_G_EQ u, xg_G_NE u, xg_G_LT u, xg_G_GE u, xg_G_MEM u, xg_G_CODE u, xg_G_STC u, xg_G_ROOM u, xg_SLOTS u, xg_REC_CAP u, xg_IR_CAP u, xg_VAL_CAP u, xg_EXIT_CAP u, xg_MAX_FAILS u, xg_MAX_MISSES u, xg_codeSize u, xg_memSize u, xg_outCount u, xg_pc u, xg_status u, xg_steps u, xg_cursor u, xg_hot u, xg_done u, xg_crossed u, xg_nextPc u, xg_crossedTo u, xg_recording u, xg_recHead u, xg_recLen u, xg_recMask u, xg_nextVictim u, xg_runMask u, xg_buildOk u, xg_buildSlot u, xg_buildStep u, xg_buildPc u, xg_bIr u, xg_bVal u, xg_irCount u, xg_valCount u, xg_exitCount u, xg_crossCount u, b0, b1, b2, b3, b4, b5, b6, b7, b8, b9, b10, b11, b12, b13, b14, b15, b16, b17, b18, b19, b20, b21, b22, b23, b24, b25, b26, b27, b28, b29, b30, b31, b32, b33)) x2 x3 (xg_G_EQ u) (xg_G_NE u) (xg_G_LT u) (xg_G_GE u) (xg_G_MEM u) (xg_G_CODE u) (xg_G_STC u) (xg_G_ROOM u) (xg_SLOTS u) (xg_REC_CAP u) (xg_IR_CAP u) (xg_VAL_CAP u) (xg_EXIT_CAP u) (xg_MAX_FAILS u) (xg_MAX_MISSES u) (xg_codeSize u) (xg_memSize u) (xg_outCount u) (xg_pc u) (xg_status u) (xg_steps u) (xg_cursor u) (xg_hot u) (xg_done u) (xg_crossed u) (xg_nextPc u) (xg_crossedTo u) (xg_recording u) (xg_recHead u) (xg_recLen u) (xg_recMask u) (xg_nextVictim u) (xg_runMask u) (xg_buildOk u) (xg_buildSlot u) (xg_buildStep u) (xg_buildPc u) (xg_bIr u) (xg_bVal u) (xg_irCount u) (xg_valCount u) (xg_exitCount u) (xg_crossCount u) (xg_code u) (xg_mem u) (xg_r u) (xg_crossings u) (xg_out u) (xg_heat u) (xg_fails u) (xg_slotOf u) (xg_recPc u) (xg_recWord u) (xg_recNext u) (xg_trLive u) (xg_trHead u) (xg_trLen u) (xg_trMask u) (xg_trIr u) (xg_trVals u) (xg_trCross u) (xg_trMiss u) (xg_trTargets u) (xg_irOp u) (xg_irA u) (xg_irB u) (xg_irD u) (xg_kFlag u) (xg_kVal u) (xg_exPc u) (xg_exSteps u) (xg_exCross u) (xg_snap u) (xg_val u) (xg_env u) (xg_defAt u) (xg_used u)
theorem xu_eliminateDead_114 (post : SX → Prop) (J74 : Int32 → SX → Prop) (x2 : Int32) (x3 : Int32) (u : SX) : xq_eliminateDead_114 post J74 x2 x3 u = (xq_eliminateDead_119 post J74 x2 x3 1 u) := rfl
def xq_eliminateDead_74 (post : SX → Prop) (n : Nat) (x2 : Int32) (u : SX) : Prop := wX_eliminateDead_74 post (xg_G_EQ u) (xg_G_NE u) (xg_G_LT u) (xg_G_GE u) (xg_G_MEM u) (xg_G_CODE u) (xg_G_STC u) (xg_G_ROOM u) (xg_SLOTS u) (xg_REC_CAP u) (xg_IR_CAP u) (xg_VAL_CAP u) (xg_EXIT_CAP u) (xg_MAX_FAILS u) (xg_MAX_MISSES u) (xg_codeSize u) (xg_memSize u) (xg_outCount u) (xg_pc u) (xg_status u) (xg_steps u) (xg_cursor u) (xg_hot u) (xg_done u) (xg_crossed u) (xg_nextPc u) (xg_crossedTo u) (xg_recording u) (xg_recHead u) (xg_recLen u) (xg_recMask u) (xg_nextVictim u) (xg_runMask u) (xg_buildOk u) (xg_buildSlot u) (xg_buildStep u) (xg_buildPc u) (xg_bIr u) (xg_bVal u) (xg_irCount u) (xg_valCount u) (xg_exitCount u) (xg_crossCount u) n x2 (xg_code u) (xg_mem u) (xg_r u) (xg_crossings u) (xg_out u) (xg_heat u) (xg_fails u) (xg_slotOf u) (xg_recPc u) (xg_recWord u) (xg_recNext u) (xg_trLive u) (xg_trHead u) (xg_trLen u) (xg_trMask u) (xg_trIr u) (xg_trVals u) (xg_trCross u) (xg_trMiss u) (xg_trTargets u) (xg_irOp u) (xg_irA u) (xg_irB u) (xg_irD u) (xg_kFlag u) (xg_kVal u) (xg_exPc u) (xg_exSteps u) (xg_exCross u) (xg_snap u) (xg_val u) (xg_env u) (xg_defAt u) (xg_used u)
theorem xu_eliminateDead_74 (post : SX → Prop) (n : Nat) (x2 : Int32) (u : SX) : xq_eliminateDead_74 post (n + 1) x2 u = (((x2 < 0 → (∃ n184 : Nat, xq_eliminateDead_184 post n184 0 0 u)) ∧ (¬ x2 < 0 → (∀ x3_26 : Int32, x3_26 = (xg_bIr u) + x2 → (vp_in x3_26 2048 ∧ (∀ x4_28 : Int32, x4_28 = (xg_irOp u) x3_26.toNatClampNeg → (((x4_28 ≤ 15 → (xq_eliminateDead_114 post (fun j1 w => xq_eliminateDead_74 post n j1 w) x2 x3_26 u)) ∧ (¬ x4_28 ≤ 15 → (((x4_28 = 16 → (xq_eliminateDead_114 post (fun j1 w => xq_eliminateDead_74 post n j1 w) x2 x3_26 u)) ∧ (¬ x4_28 = 16 → (((x4_28 = 18 → (xq_eliminateDead_114 post (fun j1 w => xq_eliminateDead_74 post n j1 w) x2 x3_26 u)) ∧ (¬ x4_28 = 18 → (xq_eliminateDead_119 post (fun j1 w => xq_eliminateDead_74 post n j1 w) x2 x3_26 0 u)))))))))))))))) := rfl
def xq_eliminateDead_36 (post : SX → Prop) (x1 : Int32) (n : Nat) (x2 : Int32) (u : SX) : Prop := wX_eliminateDead_36 post x1 (xg_G_EQ u) (xg_G_NE u) (xg_G_LT u) (xg_G_GE u) (xg_G_MEM u) (xg_G_CODE u) (xg_G_STC u) (xg_G_ROOM u) (xg_SLOTS u) (xg_REC_CAP u) (xg_IR_CAP u) (xg_VAL_CAP u) (xg_EXIT_CAP u) (xg_MAX_FAILS u) (xg_MAX_MISSES u) (xg_codeSize u) (xg_memSize u) (xg_outCount u) (xg_pc u) (xg_status u) (xg_steps u) (xg_cursor u) (xg_hot u) (xg_done u) (xg_crossed u) (xg_nextPc u) (xg_crossedTo u) (xg_recording u) (xg_recHead u) (xg_recLen u) (xg_recMask u) (xg_nextVictim u) (xg_runMask u) (xg_buildOk u) (xg_buildSlot u) (xg_buildStep u) (xg_buildPc u) (xg_bIr u) (xg_bVal u) (xg_irCount u) (xg_valCount u) (xg_exitCount u) (xg_crossCount u) n x2 (xg_code u) (xg_mem u) (xg_r u) (xg_crossings u) (xg_out u) (xg_heat u) (xg_fails u) (xg_slotOf u) (xg_recPc u) (xg_recWord u) (xg_recNext u) (xg_trLive u) (xg_trHead u) (xg_trLen u) (xg_trMask u) (xg_trIr u) (xg_trVals u) (xg_trCross u) (xg_trMiss u) (xg_trTargets u) (xg_irOp u) (xg_irA u) (xg_irB u) (xg_irD u) (xg_kFlag u) (xg_kVal u) (xg_exPc u) (xg_exSteps u) (xg_exCross u) (xg_snap u) (xg_val u) (xg_env u) (xg_defAt u) (xg_used u)
theorem xu_eliminateDead_36 (post : SX → Prop) (x1 : Int32) (n : Nat) (x2 : Int32) (u : SX) : xq_eliminateDead_36 post x1 (n + 1) x2 u = (((((xg_exitCount u) * 8) ≤ x2 → (∀ x2_4 : Int32, x2_4 = (xg_irCount u) - 1 → (∃ n74 : Nat, xq_eliminateDead_74 post n74 x2_4 u))) ∧ (¬ ((xg_exitCount u) * 8) ≤ x2 → (vp_in (x1 + x2) 8192 ∧ (vp_in ((xg_snap u) (x1 + x2).toNatClampNeg) 256 ∧ ∀ a_used_48 : Nat → Int32, a_used_48 = upd (xg_used u) ((xg_snap u) (x1 + x2).toNatClampNeg).toNatClampNeg (vp_nar .boolean 1) → (∀ x2_49 : Int32, x2_49 = x2 + 1 → (xq_eliminateDead_36 post x1 n x2_49 (xs_used u a_used_48)))))))) := rfl
def xq_eliminateDead_2 (post : SX → Prop) (n : Nat) (x1 : Int32) (u : SX) : Prop := wX_eliminateDead_2 post (xg_G_EQ u) (xg_G_NE u) (xg_G_LT u) (xg_G_GE u) (xg_G_MEM u) (xg_G_CODE u) (xg_G_STC u) (xg_G_ROOM u) (xg_SLOTS u) (xg_REC_CAP u) (xg_IR_CAP u) (xg_VAL_CAP u) (xg_EXIT_CAP u) (xg_MAX_FAILS u) (xg_MAX_MISSES u) (xg_codeSize u) (xg_memSize u) (xg_outCount u) (xg_pc u) (xg_status u) (xg_steps u) (xg_cursor u) (xg_hot u) (xg_done u) (xg_crossed u) (xg_nextPc u) (xg_crossedTo u) (xg_recording u) (xg_recHead u) (xg_recLen u) (xg_recMask u) (xg_nextVictim u) (xg_runMask u) (xg_buildOk u) (xg_buildSlot u) (xg_buildStep u) (xg_buildPc u) (xg_bIr u) (xg_bVal u) (xg_irCount u) (xg_valCount u) (xg_exitCount u) (xg_crossCount u) n x1 (xg_code u) (xg_mem u) (xg_r u) (xg_crossings u) (xg_out u) (xg_heat u) (xg_fails u) (xg_slotOf u) (xg_recPc u) (xg_recWord u) (xg_recNext u) (xg_trLive u) (xg_trHead u) (xg_trLen u) (xg_trMask u) (xg_trIr u) (xg_trVals u) (xg_trCross u) (xg_trMiss u) (xg_trTargets u) (xg_irOp u) (xg_irA u) (xg_irB u) (xg_irD u) (xg_kFlag u) (xg_kVal u) (xg_exPc u) (xg_exSteps u) (xg_exCross u) (xg_snap u) (xg_val u) (xg_env u) (xg_defAt u) (xg_used u)
theorem xu_eliminateDead_2 (post : SX → Prop) (n : Nat) (x1 : Int32) (u : SX) : xq_eliminateDead_2 post (n + 1) x1 u = (((256 ≤ x1 → (∀ x1_2 : Int32, x1_2 = ((xg_buildSlot u) * 128) * 8 → (∃ n36 : Nat, xq_eliminateDead_36 post x1_2 n36 0 u))) ∧ (¬ 256 ≤ x1 → (vp_in x1 256 ∧ ∀ a_used_51 : Nat → Int32, a_used_51 = upd (xg_used u) x1.toNatClampNeg (vp_nar .boolean 0) → (∀ x1_52 : Int32, x1_52 = x1 + 1 → (xq_eliminateDead_2 post n x1_52 (xs_used u a_used_51))))))) := rfl
theorem xu_eliminateDead (post : SX → Prop) (u : SX) : wpX_eliminateDead post u = (∃ n2 : Nat, xq_eliminateDead_2 post n2 0 u) := rfl
def xq_compileTrace_44 (post : SX → Prop) (x1 : Int32) (u : SX) : Prop := wX_compileTrace_44 post x1 (xg_G_EQ u) (xg_G_NE u) (xg_G_LT u) (xg_G_GE u) (xg_G_MEM u) (xg_G_CODE u) (xg_G_STC u) (xg_G_ROOM u) (xg_SLOTS u) (xg_REC_CAP u) (xg_IR_CAP u) (xg_VAL_CAP u) (xg_EXIT_CAP u) (xg_MAX_FAILS u) (xg_MAX_MISSES u) (xg_codeSize u) (xg_memSize u) (xg_outCount u) (xg_pc u) (xg_status u) (xg_steps u) (xg_cursor u) (xg_hot u) (xg_done u) (xg_crossed u) (xg_nextPc u) (xg_crossedTo u) (xg_recording u) (xg_recHead u) (xg_recLen u) (xg_recMask u) (xg_nextVictim u) (xg_runMask u) (xg_buildOk u) (xg_buildSlot u) (xg_buildStep u) (xg_buildPc u) (xg_bIr u) (xg_bVal u) (xg_irCount u) (xg_valCount u) (xg_exitCount u) (xg_crossCount u) (xg_code u) (xg_mem u) (xg_r u) (xg_crossings u) (xg_out u) (xg_heat u) (xg_fails u) (xg_slotOf u) (xg_recPc u) (xg_recWord u) (xg_recNext u) (xg_trLive u) (xg_trHead u) (xg_trLen u) (xg_trMask u) (xg_trIr u) (xg_trVals u) (xg_trCross u) (xg_trMiss u) (xg_trTargets u) (xg_irOp u) (xg_irA u) (xg_irB u) (xg_irD u) (xg_kFlag u) (xg_kVal u) (xg_exPc u) (xg_exSteps u) (xg_exCross u) (xg_snap u) (xg_val u) (xg_env u) (xg_defAt u) (xg_used u)
theorem xu_compileTrace_44 (post : SX → Prop) (x1 : Int32) (u : SX) : xq_compileTrace_44 post x1 u = ((((xg_buildOk u) = 0 → (vp_in (xg_recHead u) 64 ∧ (vp_in (xg_recHead u) 64 ∧ ∀ a_fails_335 : Nat → Int32, a_fails_335 = upd (xg_fails u) (xg_recHead u).toNatClampNeg (((xg_fails u) (xg_recHead u).toNatClampNeg) + 1) → (post (xs_fails u a_fails_335))))) ∧ (¬ (xg_buildOk u) = 0 → (wpX_capture (fun u69 => (wpX_eliminateDead (fun u70 => (vp_in x1 8 ∧ ∀ a_trHead_316 : Nat → Int32, a_trHead_316 = upd (xg_trHead u70) x1.toNatClampNeg (xg_recHead u70) → (vp_in x1 8 ∧ ∀ a_trLen_318 : Nat → Int32, a_trLen_318 = upd (xg_trLen u70) x1.toNatClampNeg (xg_recLen u70) → (vp_in x1 8 ∧ ∀ a_trMask_320 : Nat → Int64, a_trMask_320 = vp_updL (xg_trMask u70) x1.toNatClampNeg (xg_recMask u70) → (vp_in x1 8 ∧ ∀ a_trIr_322 : Nat → Int32, a_trIr_322 = upd (xg_trIr u70) x1.toNatClampNeg (xg_irCount u70) → (vp_in x1 8 ∧ ∀ a_trVals_324 : Nat → Int32, a_trVals_324 = upd (xg_trVals u70) x1.toNatClampNeg (xg_valCount u70) → (vp_in x1 8 ∧ ∀ a_trCross_326 : Nat → Int32, a_trCross_326 = upd (xg_trCross u70) x1.toNatClampNeg (xg_crossCount u70) → (vp_in x1 8 ∧ ∀ a_trMiss_328 : Nat → Int32, a_trMiss_328 = upd (xg_trMiss u70) x1.toNatClampNeg 0 → (vp_in x1 8 ∧ ∀ a_trLive_330 : Nat → Int32, a_trLive_330 = upd (xg_trLive u70) x1.toNatClampNeg (vp_nar .boolean 1) → (vp_in (xg_recHead u70) 64 ∧ ∀ a_slotOf_332 : Nat → Int32, a_slotOf_332 = upd (xg_slotOf u70) (xg_recHead u70).toNatClampNeg (x1 + 1) → (post (xs_trMiss (xs_trCross (xs_trVals (xs_trIr (xs_trMask (xs_trLen (xs_trHead (xs_trLive (xs_slotOf u70 a_slotOf_332) a_trLive_330) a_trHead_316) a_trLen_318) a_trMask_320) a_trIr_322) a_trVals_324) a_trCross_326) a_trMiss_328)))))))))))) u69)) (xs_buildPc (xs_buildStep u (xg_recLen u)) (xg_recHead u)) 0)))) := rfl
def xq_compileTrace_12 (post : SX → Prop) (x1 : Int32) (n : Nat) (x2 : Int32) (u : SX) : Prop := wX_compileTrace_12 post x1 n x2 (xg_G_EQ u) (xg_G_NE u) (xg_G_LT u) (xg_G_GE u) (xg_G_MEM u) (xg_G_CODE u) (xg_G_STC u) (xg_G_ROOM u) (xg_SLOTS u) (xg_REC_CAP u) (xg_IR_CAP u) (xg_VAL_CAP u) (xg_EXIT_CAP u) (xg_MAX_FAILS u) (xg_MAX_MISSES u) (xg_codeSize u) (xg_memSize u) (xg_outCount u) (xg_pc u) (xg_status u) (xg_steps u) (xg_cursor u) (xg_hot u) (xg_done u) (xg_crossed u) (xg_nextPc u) (xg_crossedTo u) (xg_recording u) (xg_recHead u) (xg_recLen u) (xg_recMask u) (xg_nextVictim u) (xg_runMask u) (xg_buildOk u) (xg_buildSlot u) (xg_buildStep u) (xg_buildPc u) (xg_bIr u) (xg_bVal u) (xg_irCount u) (xg_valCount u) (xg_exitCount u) (xg_crossCount u) (xg_code u) (xg_mem u) (xg_r u) (xg_crossings u) (xg_out u) (xg_heat u) (xg_fails u) (xg_slotOf u) (xg_recPc u) (xg_recWord u) (xg_recNext u) (xg_trLive u) (xg_trHead u) (xg_trLen u) (xg_trMask u) (xg_trIr u) (xg_trVals u) (xg_trCross u) (xg_trMiss u) (xg_trTargets u) (xg_irOp u) (xg_irA u) (xg_irB u) (xg_irD u) (xg_kFlag u) (xg_kVal u) (xg_exPc u) (xg_exSteps u) (xg_exCross u) (xg_snap u) (xg_val u) (xg_env u) (xg_defAt u) (xg_used u)
theorem xu_compileTrace_12 (post : SX → Prop) (x1 : Int32) (n : Nat) (x2 : Int32) (u : SX) : xq_compileTrace_12 post x1 (n + 1) x2 u = ((((xg_recLen u) ≤ x2 → (xq_compileTrace_44 post x1 u)) ∧ (¬ (xg_recLen u) ≤ x2 → (((96 ≤ x2 → (xq_compileTrace_44 post x1 u)) ∧ (¬ 96 ≤ x2 → ((((xg_buildOk u) = 0 → (xq_compileTrace_44 post x1 u)) ∧ (¬ (xg_buildOk u) = 0 → (wpX_translate (fun u71 => (∀ x2_416 : Int32, x2_416 = x2 + 1 → (xq_compileTrace_12 post x1 n x2_416 u71))) u x2)))))))))) := rfl
theorem xu_compileTrace (post : SX → Prop) (u : SX) : wpX_compileTrace post u = (wpX_pickSlot (fun r_1 u72 => (wpX_beginBuild (fun u73 => (∃ n12 : Nat, xq_compileTrace_12 post r_1 n12 0 u73)) u72 r_1)) u) := rfl
def xq_noteAfter_32 (post : SX → Prop) (u : SX) : Prop := wX_noteAfter_32 post (xg_G_EQ u) (xg_G_NE u) (xg_G_LT u) (xg_G_GE u) (xg_G_MEM u) (xg_G_CODE u) (xg_G_STC u) (xg_G_ROOM u) (xg_SLOTS u) (xg_REC_CAP u) (xg_IR_CAP u) (xg_VAL_CAP u) (xg_EXIT_CAP u) (xg_MAX_FAILS u) (xg_MAX_MISSES u) (xg_codeSize u) (xg_memSize u) (xg_outCount u) (xg_pc u) (xg_status u) (xg_steps u) (xg_cursor u) (xg_hot u) (xg_done u) (xg_crossed u) (xg_nextPc u) (xg_crossedTo u) (xg_recording u) (xg_recHead u) (xg_recLen u) (xg_recMask u) (xg_nextVictim u) (xg_runMask u) (xg_buildOk u) (xg_buildSlot u) (xg_buildStep u) (xg_buildPc u) (xg_bIr u) (xg_bVal u) (xg_irCount u) (xg_valCount u) (xg_exitCount u) (xg_crossCount u) (xg_code u) (xg_mem u) (xg_r u) (xg_crossings u) (xg_out u) (xg_heat u) (xg_fails u) (xg_slotOf u) (xg_recPc u) (xg_recWord u) (xg_recNext u) (xg_trLive u) (xg_trHead u) (xg_trLen u) (xg_trMask u) (xg_trIr u) (xg_trVals u) (xg_trCross u) (xg_trMiss u) (xg_trTargets u) (xg_irOp u) (xg_irA u) (xg_irB u) (xg_irD u) (xg_kFlag u) (xg_kVal u) (xg_exPc u) (xg_exSteps u) (xg_exCross u) (xg_snap u) (xg_val u) (xg_env u) (xg_defAt u) (xg_used u)
theorem xu_noteAfter_32 (post : SX → Prop) (u : SX) : xq_noteAfter_32 post u = ((((xg_pc u) = (xg_recHead u) → (wpX_compileTrace (fun u74 => (post u74)) (xs_recording u 0))) ∧ (¬ (xg_pc u) = (xg_recHead u) → ((((xg_recLen u) < 96 → (post u)) ∧ (¬ (xg_recLen u) < 96 → (wpX_abortRecording (fun u75 => (post u75)) u))))))) := rfl
theorem xu_noteAfter (post : SX → Prop) (u : SX) : wpX_noteAfter post u = (((96 ≤ (xg_recLen u) → (xq_noteAfter_32 post u)) ∧ (¬ 96 ≤ (xg_recLen u) → (vp_in (xg_recLen u) 96 ∧ ∀ a_recNext_161 : Nat → Int32, a_recNext_161 = upd (xg_recNext u) (xg_recLen u).toNatClampNeg (xg_pc u) → (∀ f_recLen_162 : Int32, f_recLen_162 = (xg_recLen u) + 1 → (xq_noteAfter_32 post (xs_recNext (xs_recLen u f_recLen_162) a_recNext_161))))))) := rfl
theorem xu_warmUp (post : SX → Prop) (u : SX) (p0 : Int32) : wpX_warmUp post u p0 = ((((xg_recording u) = 0 → (vp_in p0 64 ∧ (((((xg_slotOf u) p0.toNatClampNeg) = 0 → (vp_in p0 64 ∧ (((((xg_fails u) p0.toNatClampNeg) < 3 → (vp_in p0 64 ∧ (vp_in p0 64 ∧ ∀ a_heat_8 : Nat → Int32, a_heat_8 = upd (xg_heat u) p0.toNatClampNeg (((xg_heat u) p0.toNatClampNeg) + 1) → (vp_in p0 64 ∧ ((((a_heat_8 p0.toNatClampNeg) < (xg_hot u) → (post (xs_heat u a_heat_8))) ∧ (¬ (a_heat_8 p0.toNatClampNeg) < (xg_hot u) → (vp_in p0 64 ∧ ∀ a_heat_12 : Nat → Int32, a_heat_12 = upd a_heat_8 p0.toNatClampNeg 0 → (post (xs_heat (xs_recMask (xs_recLen (xs_recHead (xs_recording u 1) p0) 0) 0) a_heat_12)))))))))) ∧ (¬ ((xg_fails u) p0.toNatClampNeg) < 3 → (post u)))))) ∧ (¬ ((xg_slotOf u) p0.toNatClampNeg) = 0 → (post u)))))) ∧ (¬ (xg_recording u) = 0 → (post u)))) := rfl
def xq_step_18 (post : Int32 → SX → Prop) (u : SX) : Prop := wX_step_18 post (xg_G_EQ u) (xg_G_NE u) (xg_G_LT u) (xg_G_GE u) (xg_G_MEM u) (xg_G_CODE u) (xg_G_STC u) (xg_G_ROOM u) (xg_SLOTS u) (xg_REC_CAP u) (xg_IR_CAP u) (xg_VAL_CAP u) (xg_EXIT_CAP u) (xg_MAX_FAILS u) (xg_MAX_MISSES u) (xg_codeSize u) (xg_memSize u) (xg_outCount u) (xg_pc u) (xg_status u) (xg_steps u) (xg_cursor u) (xg_hot u) (xg_done u) (xg_crossed u) (xg_nextPc u) (xg_crossedTo u) (xg_recording u) (xg_recHead u) (xg_recLen u) (xg_recMask u) (xg_nextVictim u) (xg_runMask u) (xg_buildOk u) (xg_buildSlot u) (xg_buildStep u) (xg_buildPc u) (xg_bIr u) (xg_bVal u) (xg_irCount u) (xg_valCount u) (xg_exitCount u) (xg_crossCount u) (xg_code u) (xg_mem u) (xg_r u) (xg_crossings u) (xg_out u) (xg_heat u) (xg_fails u) (xg_slotOf u) (xg_recPc u) (xg_recWord u) (xg_recNext u) (xg_trLive u) (xg_trHead u) (xg_trLen u) (xg_trMask u) (xg_trIr u) (xg_trVals u) (xg_trCross u) (xg_trMiss u) (xg_trTargets u) (xg_irOp u) (xg_irA u) (xg_irB u) (xg_irD u) (xg_kFlag u) (xg_kVal u) (xg_exPc u) (xg_exSteps u) (xg_exCross u) (xg_snap u) (xg_val u) (xg_env u) (xg_defAt u) (xg_used u)
theorem xu_step_18 (post : Int32 → SX → Prop) (u : SX) : xq_step_18 post u = (wpX_abortRecording (fun u76 => (post 0 u76)) (xs_status u 8)) := rfl
def xq_step_100 (post : Int32 → SX → Prop) (u : SX) : Prop := wX_step_100 post (xg_G_EQ u) (xg_G_NE u) (xg_G_LT u) (xg_G_GE u) (xg_G_MEM u) (xg_G_CODE u) (xg_G_STC u) (xg_G_ROOM u) (xg_SLOTS u) (xg_REC_CAP u) (xg_IR_CAP u) (xg_VAL_CAP u) (xg_EXIT_CAP u) (xg_MAX_FAILS u) (xg_MAX_MISSES u) (xg_codeSize u) (xg_memSize u) (xg_outCount u) (xg_pc u) (xg_status u) (xg_steps u) (xg_cursor u) (xg_hot u) (xg_done u) (xg_crossed u) (xg_nextPc u) (xg_crossedTo u) (xg_recording u) (xg_recHead u) (xg_recLen u) (xg_recMask u) (xg_nextVictim u) (xg_runMask u) (xg_buildOk u) (xg_buildSlot u) (xg_buildStep u) (xg_buildPc u) (xg_bIr u) (xg_bVal u) (xg_irCount u) (xg_valCount u) (xg_exitCount u) (xg_crossCount u) (xg_code u) (xg_mem u) (xg_r u) (xg_crossings u) (xg_out u) (xg_heat u) (xg_fails u) (xg_slotOf u) (xg_recPc u) (xg_recWord u) (xg_recNext u) (xg_trLive u) (xg_trHead u) (xg_trLen u) (xg_trMask u) (xg_trIr u) (xg_trVals u) (xg_trCross u) (xg_trMiss u) (xg_trTargets u) (xg_irOp u) (xg_irA u) (xg_irB u) (xg_irD u) (xg_kFlag u) (xg_kVal u) (xg_exPc u) (xg_exSteps u) (xg_exCross u) (xg_snap u) (xg_val u) (xg_env u) (xg_defAt u) (xg_used u)
theorem xu_step_100 (post : Int32 → SX → Prop) (u : SX) : xq_step_100 post u = ((((xg_crossedTo u) < 0 → (post 1 u)) ∧ (¬ (xg_crossedTo u) < 0 → (wpX_warmUp (fun u77 => (post 1 u77)) u (xg_crossedTo u))))) := rfl
def xq_step_55 (post : Int32 → SX → Prop) (x1 : Int32) (x2 : Int32) (u : SX) : Prop := wX_step_55 post x1 x2 (xg_G_EQ u) (xg_G_NE u) (xg_G_LT u) (xg_G_GE u) (xg_G_MEM u) (xg_G_CODE u) (xg_G_STC u) (xg_G_ROOM u) (xg_SLOTS u) (xg_REC_CAP u) (xg_IR_CAP u) (xg_VAL_CAP u) (xg_EXIT_CAP u) (xg_MAX_FAILS u) (xg_MAX_MISSES u) (xg_codeSize u) (xg_memSize u) (xg_outCount u) (xg_pc u) (xg_status u) (xg_steps u) (xg_cursor u) (xg_hot u) (xg_done u) (xg_crossed u) (xg_nextPc u) (xg_crossedTo u) (xg_recording u) (xg_recHead u) (xg_recLen u) (xg_recMask u) (xg_nextVictim u) (xg_runMask u) (xg_buildOk u) (xg_buildSlot u) (xg_buildStep u) (xg_buildPc u) (xg_bIr u) (xg_bVal u) (xg_irCount u) (xg_valCount u) (xg_exitCount u) (xg_crossCount u) (xg_code u) (xg_mem u) (xg_r u) (xg_crossings u) (xg_out u) (xg_heat u) (xg_fails u) (xg_slotOf u) (xg_recPc u) (xg_recWord u) (xg_recNext u) (xg_trLive u) (xg_trHead u) (xg_trLen u) (xg_trMask u) (xg_trIr u) (xg_trVals u) (xg_trCross u) (xg_trMiss u) (xg_trTargets u) (xg_irOp u) (xg_irA u) (xg_irB u) (xg_irD u) (xg_kFlag u) (xg_kVal u) (xg_exPc u) (xg_exSteps u) (xg_exCross u) (xg_snap u) (xg_val u) (xg_env u) (xg_defAt u) (xg_used u)
theorem xu_step_55 (post : Int32 → SX → Prop) (x1 : Int32) (x2 : Int32) (u : SX) : xq_step_55 post x1 x2 u = (wpX_perform (fun r_84 u78 => (((r_84 = 0 → (∀ f_steps_243 : Int32, f_steps_243 = (xg_steps u78) + 1 → ((((xg_recording u78) = 0 → (xq_step_100 post (xs_steps (xs_pc u78 (xg_nextPc u78)) f_steps_243))) ∧ (¬ (xg_recording u78) = 0 → (wpX_noteAfter (fun u79 => (xq_step_100 post u79)) (xs_steps (xs_pc u78 (xg_nextPc u78)) f_steps_243))))))) ∧ (¬ r_84 = 0 → (wpX_abortRecording (fun u80 => (((r_84 = 1 → (∀ f_steps_242 : Int32, f_steps_242 = (xg_steps u80) + 1 → (post 1 (xs_steps u80 f_steps_242)))) ∧ (¬ r_84 = 1 → (post 0 u80))))) (xs_status u78 r_84)))))) (xs_crossedTo u (-1)) x1 x2) := rfl
theorem xu_step (post : Int32 → SX → Prop) (u : SX) : wpX_step post u = ((((xg_pc u) < 0 → (xq_step_18 post u)) ∧ (¬ (xg_pc u) < 0 → ((((xg_pc u) < (xg_codeSize u) → (vp_in (xg_pc u) 64 ∧ (∀ x2_82 : Int32, x2_82 = (xg_code u) (xg_pc u).toNatClampNeg → ((((xg_recording u) = 0 → (xq_step_55 post (xg_pc u) x2_82 u)) ∧ (¬ (xg_recording u) = 0 → (wpX_noteBefore (fun u81 => (xq_step_55 post (xg_pc u) x2_82 u81)) u (xg_pc u) x2_82))))))) ∧ (¬ (xg_pc u) < (xg_codeSize u) → (xq_step_18 post u))))))) := rfl
def xq_drive_27 (post : Int32 → SX → Prop) (x2 : Int32) (x3 : Int32) (x4 : Int32) (n : Nat) (x5 : Int32) (x6 : Int32) (u : SX) : Prop := wX_drive_27 post x2 x3 x4 n x5 x6 (xg_G_EQ u) (xg_G_NE u) (xg_G_LT u) (xg_G_GE u) (xg_G_MEM u) (xg_G_CODE u) (xg_G_STC u) (xg_G_ROOM u) (xg_SLOTS u) (xg_REC_CAP u) (xg_IR_CAP u) (xg_VAL_CAP u) (xg_EXIT_CAP u) (xg_MAX_FAILS u) (xg_MAX_MISSES u) (xg_codeSize u) (xg_memSize u) (xg_outCount u) (xg_pc u) (xg_status u) (xg_steps u) (xg_cursor u) (xg_hot u) (xg_done u) (xg_crossed u) (xg_nextPc u) (xg_crossedTo u) (xg_recording u) (xg_recHead u) (xg_recLen u) (xg_recMask u) (xg_nextVictim u) (xg_runMask u) (xg_buildOk u) (xg_buildSlot u) (xg_buildStep u) (xg_buildPc u) (xg_bIr u) (xg_bVal u) (xg_irCount u) (xg_valCount u) (xg_exitCount u) (xg_crossCount u) (xg_code u) (xg_mem u) (xg_r u) (xg_crossings u) (xg_out u) (xg_heat u) (xg_fails u) (xg_slotOf u) (xg_recPc u) (xg_recWord u) (xg_recNext u) (xg_trLive u) (xg_trHead u) (xg_trLen u) (xg_trMask u) (xg_trIr u) (xg_trVals u) (xg_trCross u) (xg_trMiss u) (xg_trTargets u) (xg_irOp u) (xg_irA u) (xg_irB u) (xg_irD u) (xg_kFlag u) (xg_kVal u) (xg_exPc u) (xg_exSteps u) (xg_exCross u) (xg_snap u) (xg_val u) (xg_env u) (xg_defAt u) (xg_used u)
theorem xu_drive_27 (post : Int32 → SX → Prop) (x2 : Int32) (x3 : Int32) (x4 : Int32) (n : Nat) (x5 : Int32) (x6 : Int32) (u : SX) : xq_drive_27 post x2 x3 x4 (n + 1) x5 x6 u = (((2000 ≤ x6 → (post (xg_done u) u)) ∧ (¬ 2000 ≤ x6 → (((x5 = 0 → ((((xg_status u) = 0 → (((x4 ≤ (xg_done u) → (post (xg_done u) u)) ∧ (¬ x4 ≤ (xg_done u) → (wpX_enterIfPossible (fun u82 => (((x4 ≤ (xg_done u82) → (∀ x6_162 : Int32, x6_162 = x6 + 1 → (xq_drive_27 post x2 x3 x4 n x5 x6_162 u82))) ∧ (¬ x4 ≤ (xg_done u82) → (wpX_step (fun r_163 u83 => (((r_163 = 0 → (∀ x6_242 : Int32, x6_242 = x6 + 1 → (xq_drive_27 post x2 x3 x4 n x5 x6_242 u83))) ∧ (¬ r_163 = 0 → (∀ f_done_243 : Int32, f_done_243 = (xg_done u83) + 1 → ((((xg_pc u83) = x2 → (∀ x6_245 : Int32, x6_245 = x6 + 1 → (xq_drive_27 post x2 x3 x4 n 1 x6_245 (xs_done u83 f_done_243)))) ∧ (¬ (xg_pc u83) = x2 → ((((xg_crossed u83) < x3 → (∀ x6_247 : Int32, x6_247 = x6 + 1 → (xq_drive_27 post x2 x3 x4 n 0 x6_247 (xs_done u83 f_done_243)))) ∧ (¬ (xg_crossed u83) < x3 → (∀ x6_248 : Int32, x6_248 = x6 + 1 → (xq_drive_27 post x2 x3 x4 n 1 x6_248 (xs_done u83 f_done_243)))))))))))))) u82))))) u x4 x2 x3))))) ∧ (¬ (xg_status u) = 0 → (post (xg_done u) u))))) ∧ (¬ x5 = 0 → (post (xg_done u) u))))))) := rfl
theorem xu_drive (post : Int32 → SX → Prop) (u : SX) (p0 : Int32) (p1 : Int32) (p2 : Int32) : wpX_drive post u p0 p1 p2 = (wpX_clamp (fun r_1 => (∃ n27 : Nat, xq_drive_27 post p1 p2 r_1 n27 0 0 (xs_crossed (xs_done u 0) 0))) u p0 0 2000) := rfl
theorem xu_run (post : Int32 → SX → Prop) (u : SX) (p0 : Int32) : wpX_run post u p0 = (wpX_drive (fun r_1 u84 => (post r_1 u84)) u p0 (-1) 2001) := rfl
theorem xu_runTo (post : Int32 → SX → Prop) (u : SX) (p0 : Int32) (p1 : Int32) : wpX_runTo post u p0 p1 = (wpX_drive (fun r_1 u85 => (post r_1 u85)) u p1 p0 2001) := rfl
def xq_runCross_9 (post : Int32 → SX → Prop) (x2 : Int32) (x3 : Int32) (u : SX) : Prop := wX_runCross_9 post x2 x3 (xg_G_EQ u) (xg_G_NE u) (xg_G_LT u) (xg_G_GE u) (xg_G_MEM u) (xg_G_CODE u) (xg_G_STC u) (xg_G_ROOM u) (xg_SLOTS u) (xg_REC_CAP u) (xg_IR_CAP u) (xg_VAL_CAP u) (xg_EXIT_CAP u) (xg_MAX_FAILS u) (xg_MAX_MISSES u) (xg_codeSize u) (xg_memSize u) (xg_outCount u) (xg_pc u) (xg_status u) (xg_steps u) (xg_cursor u) (xg_hot u) (xg_done u) (xg_crossed u) (xg_nextPc u) (xg_crossedTo u) (xg_recording u) (xg_recHead u) (xg_recLen u) (xg_recMask u) (xg_nextVictim u) (xg_runMask u) (xg_buildOk u) (xg_buildSlot u) (xg_buildStep u) (xg_buildPc u) (xg_bIr u) (xg_bVal u) (xg_irCount u) (xg_valCount u) (xg_exitCount u) (xg_crossCount u) (xg_code u) (xg_mem u) (xg_r u) (xg_crossings u) (xg_out u) (xg_heat u) (xg_fails u) (xg_slotOf u) (xg_recPc u) (xg_recWord u) (xg_recNext u) (xg_trLive u) (xg_trHead u) (xg_trLen u) (xg_trMask u) (xg_trIr u) (xg_trVals u) (xg_trCross u) (xg_trMiss u) (xg_trTargets u) (xg_irOp u) (xg_irA u) (xg_irB u) (xg_irD u) (xg_kFlag u) (xg_kVal u) (xg_exPc u) (xg_exSteps u) (xg_exCross u) (xg_snap u) (xg_val u) (xg_env u) (xg_defAt u) (xg_used u)
theorem xu_runCross_9 (post : Int32 → SX → Prop) (x2 : Int32) (x3 : Int32) (u : SX) : xq_runCross_9 post x2 x3 u = (wpX_drive (fun r_2 u86 => (post r_2 u86)) u x2 (-1) x3) := rfl
theorem xu_runCross (post : Int32 → SX → Prop) (u : SX) (p0 : Int32) (p1 : Int32) : wpX_runCross post u p0 p1 = (((1 ≤ p0 → (xq_runCross_9 post p1 p0 u)) ∧ (¬ 1 ≤ p0 → (xq_runCross_9 post p1 1 u)))) := rfl
theorem xu_clearOut (post : Int32 → SX → Prop) (u : SX) : wpX_clearOut post u = (post (xg_outCount u) (xs_outCount u 0)) := rfl
theorem xu_pc (post : Int32 → Prop) (u : SX) : wpX_pc post u = (post (xg_pc u)) := rfl
theorem xu_status (post : Int32 → Prop) (u : SX) : wpX_status post u = (post (xg_status u)) := rfl
theorem xu_steps (post : Int32 → Prop) (u : SX) : wpX_steps post u = (post (xg_steps u)) := rfl
theorem xu_reg (post : Int32 → Prop) (u : SX) (p0 : Int32) : wpX_reg post u p0 = (((p0 < 0 → (post 0)) ∧ (¬ p0 < 0 → (((p0 < 8 → (vp_in p0 8 ∧ (post ((xg_r u) p0.toNatClampNeg)))) ∧ (¬ p0 < 8 → (post 0))))))) := rfl
theorem xu_crossings (post : Int32 → Prop) (u : SX) (p0 : Int32) : wpX_crossings post u p0 = (((p0 < 0 → (post 0)) ∧ (¬ p0 < 0 → (((p0 < (xg_codeSize u) → (vp_in p0 64 ∧ (post ((xg_crossings u) p0.toNatClampNeg)))) ∧ (¬ p0 < (xg_codeSize u) → (post 0))))))) := rfl
theorem xu_outCount (post : Int32 → Prop) (u : SX) : wpX_outCount post u = (post (xg_outCount u)) := rfl
theorem xu_out (post : Int32 → Prop) (u : SX) (p0 : Int32) : wpX_out post u p0 = (((p0 < 0 → (post 0)) ∧ (¬ p0 < 0 → ((((xg_outCount u) ≤ p0 → (post 0)) ∧ (¬ (xg_outCount u) ≤ p0 → (((p0 < 64 → (vp_in p0 64 ∧ (post ((xg_out u) p0.toNatClampNeg)))) ∧ (¬ p0 < 64 → (post 0)))))))))) := rfl
theorem xu_cursor (post : Int32 → Prop) (u : SX) : wpX_cursor post u = (post (xg_cursor u)) := rfl
theorem xu_hot (post : Int32 → Prop) (u : SX) : wpX_hot post u = (post (xg_hot u)) := rfl
end
end
section
section
theorem yu_clamp (post : Int32 → Prop) (u : SY) (p0 : Int32) (p1 : Int32) (p2 : Int32) : wpY_clamp post u p0 p1 p2 = (((p1 ≤ p0 → (((p0 ≤ p2 → (post p0)) ∧ (¬ p0 ≤ p2 → (post p2))))) ∧ (¬ p1 ≤ p0 → (post p1)))) := rfl
theorem yu_emit (post : Int32 → SY → Prop) (u : SY) (p0 : Int32) (p1 : Int32) (p2 : Int32) (p3 : Int32) : wpY_emit post u p0 p1 p2 p3 = ((((yg_cursor u) < (yg_codeSize u) → (vp_in (yg_cursor u) 64 ∧ ∀ a_code_3 : Nat → Int32, a_code_3 = upd (yg_code u) (yg_cursor u).toNatClampNeg ((((p0 &&& 31) ||| ((p1 &&& 7) <<< ((5 : Int32) &&& 31))) ||| ((p2 &&& 7) <<< ((8 : Int32) &&& 31))) ||| (p3 <<< ((11 : Int32) &&& 31))) → (∀ f_cursor_4 : Int32, f_cursor_4 = (yg_cursor u) + 1 → (post (yg_cursor u) (ys_code (ys_cursor u f_cursor_4) a_code_3))))) ∧ (¬ (yg_cursor u) < (yg_codeSize u) → (post (-1) u)))) := rfl
theorem yu_putWord (post : Int32 → SY → Prop) (u : SY) (p0 : Int32) (p1 : Int32) : wpY_putWord post u p0 p1 = (((p0 < 0 → (post 0 u)) ∧ (¬ p0 < 0 → (((p0 < (yg_codeSize u) → (vp_in p0 64 ∧ ∀ a_code_4 : Nat → Int32, a_code_4 = upd (yg_code u) p0.toNatClampNeg p1 → (post 1 (ys_code u a_code_4)))) ∧ (¬ p0 < (yg_codeSize u) → (post 0 u))))))) := rfl
theorem yu_setReg (post : Int32 → SY → Prop) (u : SY) (p0 : Int32) (p1 : Int32) : wpY_setReg post u p0 p1 = (((p0 < 0 → (post 0 u)) ∧ (¬ p0 < 0 → (((p0 < 8 → (vp_in p0 8 ∧ ∀ a_r_4 : Nat → Int32, a_r_4 = upd (yg_r u) p0.toNatClampNeg p1 → (post 1 (ys_r u a_r_4)))) ∧ (¬ p0 < 8 → (post 0 u))))))) := rfl
theorem yu_setMem (post : Int32 → SY → Prop) (u : SY) (p0 : Int32) (p1 : Int32) : wpY_setMem post u p0 p1 = (((p0 < 0 → (post 0 u)) ∧ (¬ p0 < 0 → (((p0 < (yg_memSize u) → (vp_in p0 64 ∧ ∀ a_mem_4 : Nat → Int32, a_mem_4 = upd (yg_mem u) p0.toNatClampNeg p1 → (post 1 (ys_mem u a_mem_4)))) ∧ (¬ p0 < (yg_memSize u) → (post 0 u))))))) := rfl
theorem yu_jumpTo (post : Int32 → SY → Prop) (u : SY) (p0 : Int32) : wpY_jumpTo post u p0 = (((p0 < 0 → (post 0 u)) ∧ (¬ p0 < 0 → (((p0 < (yg_codeSize u) → (post 1 (ys_status (ys_pc u p0) 0))) ∧ (¬ p0 < (yg_codeSize u) → (post 0 u))))))) := rfl
theorem yu_setHot (post : SY → Prop) (u : SY) (p0 : Int32) : wpY_setHot post u p0 = (wpY_clamp (fun r_1 => (post (ys_hot u r_1))) u p0 1 32) := rfl
def yq_restart_64 (post : SY → Prop) (n : Nat) (x1 : Int32) (u : SY) : Prop := wY_restart_64 post (yg_codeSize u) (yg_memSize u) (yg_hot u) (yg_pc u) (yg_status u) (yg_steps u) (yg_cursor u) (yg_outCount u) n x1 (yg_code u) (yg_crossings u) (yg_mem u) (yg_r u) (yg_out u)
theorem yu_restart_64 (post : SY → Prop) (n : Nat) (x1 : Int32) (u : SY) : yq_restart_64 post (n + 1) x1 u = (((64 ≤ x1 → (post u)) ∧ (¬ 64 ≤ x1 → (vp_in x1 64 ∧ ∀ a_crossings_5 : Nat → Int32, a_crossings_5 = upd (yg_crossings u) x1.toNatClampNeg 0 → (∀ x1_6 : Int32, x1_6 = x1 + 1 → (yq_restart_64 post n x1_6 (ys_crossings u a_crossings_5))))))) := rfl
def yq_restart_43 (post : SY → Prop) (n : Nat) (x1 : Int32) (u : SY) : Prop := wY_restart_43 post (yg_codeSize u) (yg_memSize u) (yg_hot u) (yg_pc u) (yg_status u) (yg_steps u) (yg_cursor u) (yg_outCount u) n x1 (yg_code u) (yg_crossings u) (yg_mem u) (yg_r u) (yg_out u)
theorem yu_restart_43 (post : SY → Prop) (n : Nat) (x1 : Int32) (u : SY) : yq_restart_43 post (n + 1) x1 u = (((64 ≤ x1 → (∃ n64 : Nat, yq_restart_64 post n64 0 u)) ∧ (¬ 64 ≤ x1 → (vp_in x1 64 ∧ ∀ a_mem_8 : Nat → Int32, a_mem_8 = upd (yg_mem u) x1.toNatClampNeg 0 → (∀ x1_9 : Int32, x1_9 = x1 + 1 → (yq_restart_43 post n x1_9 (ys_mem u a_mem_8))))))) := rfl
def yq_restart_22 (post : SY → Prop) (n : Nat) (x1 : Int32) (u : SY) : Prop := wY_restart_22 post (yg_codeSize u) (yg_memSize u) (yg_hot u) (yg_pc u) (yg_status u) (yg_steps u) (yg_cursor u) (yg_outCount u) n x1 (yg_code u) (yg_crossings u) (yg_mem u) (yg_r u) (yg_out u)
theorem yu_restart_22 (post : SY → Prop) (n : Nat) (x1 : Int32) (u : SY) : yq_restart_22 post (n + 1) x1 u = (((8 ≤ x1 → (∃ n43 : Nat, yq_restart_43 post n43 0 u)) ∧ (¬ 8 ≤ x1 → (vp_in x1 8 ∧ ∀ a_r_11 : Nat → Int32, a_r_11 = upd (yg_r u) x1.toNatClampNeg 0 → (∀ x1_12 : Int32, x1_12 = x1 + 1 → (yq_restart_22 post n x1_12 (ys_r u a_r_11))))))) := rfl
theorem yu_restart (post : SY → Prop) (u : SY) : wpY_restart post u = (∃ n22 : Nat, yq_restart_22 post n22 0 (ys_outCount (ys_steps (ys_status (ys_pc u 0) 0) 0) 0)) := rfl
theorem yu_fault (post : Int32 → SY → Prop) (u : SY) (p0 : Int32) : wpY_fault post u p0 = (post 0 (ys_status u p0)) := rfl
theorem yu_next (post : Int32 → SY → Prop) (u : SY) : wpY_next post u = (∀ f_steps_1 : Int32, f_steps_1 = (yg_steps u) + 1 → (∀ f_pc_2 : Int32, f_pc_2 = (yg_pc u) + 1 → (post 1 (ys_steps (ys_pc u f_pc_2) f_steps_1)))) := rfl
theorem yu_put (post : Int32 → SY → Prop) (u : SY) (p0 : Int32) (p1 : Int32) : wpY_put post u p0 p1 = (vp_in p0 8 ∧ ∀ a_r_2 : Nat → Int32, a_r_2 = upd (yg_r u) p0.toNatClampNeg p1 → (wpY_next (fun r_3 u87 => (post r_3 u87)) (ys_r u a_r_2))) := rfl
def yq_jump_21 (post : Int32 → SY → Prop) (u : SY) : Prop := wY_jump_21 post (yg_codeSize u) (yg_memSize u) (yg_hot u) (yg_pc u) (yg_status u) (yg_steps u) (yg_cursor u) (yg_outCount u) (yg_code u) (yg_crossings u) (yg_mem u) (yg_r u) (yg_out u)
theorem yu_jump_21 (post : Int32 → SY → Prop) (u : SY) : yq_jump_21 post u = (wpY_fault (fun r_3 u88 => (post r_3 u88)) u 7) := rfl
def yq_jump_50 (post : Int32 → SY → Prop) (x2 : Int32) (x3 : Int32) (u : SY) : Prop := wY_jump_50 post x2 x3 (yg_codeSize u) (yg_memSize u) (yg_hot u) (yg_pc u) (yg_status u) (yg_steps u) (yg_cursor u) (yg_outCount u) (yg_code u) (yg_crossings u) (yg_mem u) (yg_r u) (yg_out u)
theorem yu_jump_50 (post : Int32 → SY → Prop) (x2 : Int32) (x3 : Int32) (u : SY) : yq_jump_50 post x2 x3 u = (∀ f_steps_19 : Int32, f_steps_19 = (yg_steps u) + 1 → (post x3 (ys_steps (ys_pc u x2) f_steps_19))) := rfl
theorem yu_jump (post : Int32 → SY → Prop) (u : SY) (p0 : Int32) (p1 : Int32) : wpY_jump post u p0 p1 = (((p0 = 0 → (wpY_next (fun r_23 u89 => (post r_23 u89)) u)) ∧ (¬ p0 = 0 → (((p1 < 0 → (yq_jump_21 post u)) ∧ (¬ p1 < 0 → (((p1 < (yg_codeSize u) → ((((yg_pc u) < p1 → (yq_jump_50 post p1 1 u)) ∧ (¬ (yg_pc u) < p1 → (vp_in p1 64 ∧ (vp_in p1 64 ∧ ∀ a_crossings_22 : Nat → Int32, a_crossings_22 = upd (yg_crossings u) p1.toNatClampNeg (((yg_crossings u) p1.toNatClampNeg) + 1) → (yq_jump_50 post p1 2 (ys_crossings u a_crossings_22)))))))) ∧ (¬ p1 < (yg_codeSize u) → (yq_jump_21 post u)))))))))) := rfl
def yq_step_17 (post : Int32 → SY → Prop) (u : SY) : Prop := wY_step_17 post (yg_codeSize u) (yg_memSize u) (yg_hot u) (yg_pc u) (yg_status u) (yg_steps u) (yg_cursor u) (yg_outCount u) (yg_code u) (yg_crossings u) (yg_mem u) (yg_r u) (yg_out u)
theorem yu_step_17 (post : Int32 → SY → Prop) (u : SY) : yq_step_17 post u = (wpY_fault (fun r_2 u90 => (post r_2 u90)) u 8) := rfl
def yq_step_443 (post : Int32 → SY → Prop) (z0 : Int32) (z1 : Int32) (u : SY) : Prop := wY_step_443 post z0 z1 (yg_codeSize u) (yg_memSize u) (yg_hot u) (yg_pc u) (yg_status u) (yg_steps u) (yg_cursor u) (yg_outCount u) (yg_code u) (yg_crossings u) (yg_mem u) (yg_r u) (yg_out u)
theorem yu_step_443 (post : Int32 → SY → Prop) (z0 : Int32) (z1 : Int32) (u : SY) : yq_step_443 post z0 z1 u = (wpY_put (fun r_292 u91 => (post r_292 u91)) u z1 z0) := rfl
def yq_step_462 (post : Int32 → SY → Prop) (z0 : Int32) (z1 : Int32) (u : SY) : Prop := wY_step_462 post z0 z1 (yg_codeSize u) (yg_memSize u) (yg_hot u) (yg_pc u) (yg_status u) (yg_steps u) (yg_cursor u) (yg_outCount u) (yg_code u) (yg_crossings u) (yg_mem u) (yg_r u) (yg_out u)
theorem yu_step_462 (post : Int32 → SY → Prop) (z0 : Int32) (z1 : Int32) (u : SY) : yq_step_462 post z0 z1 u = (wpY_put (fun r_308 u92 => (post r_308 u92)) u z1 z0) := rfl
def yq_step_480 (post : Int32 → SY → Prop) (u : SY) : Prop := wY_step_480 post (yg_codeSize u) (yg_memSize u) (yg_hot u) (yg_pc u) (yg_status u) (yg_steps u) (yg_cursor u) (yg_outCount u) (yg_code u) (yg_crossings u) (yg_mem u) (yg_r u) (yg_out u)
theorem yu_step_480 (post : Int32 → SY → Prop) (u : SY) : yq_step_480 post u = (wpY_fault (fun r_324 u93 => (post r_324 u93)) u 4) := rfl
def yq_step_514 (post : Int32 → SY → Prop) (u : SY) : Prop := wY_step_514 post (yg_codeSize u) (yg_memSize u) (yg_hot u) (yg_pc u) (yg_status u) (yg_steps u) (yg_cursor u) (yg_outCount u) (yg_code u) (yg_crossings u) (yg_mem u) (yg_r u) (yg_out u)
theorem yu_step_514 (post : Int32 → SY → Prop) (u : SY) : yq_step_514 post u = (wpY_fault (fun r_356 u94 => (post r_356 u94)) u 4) := rfl
def yq_step_548 (post : Int32 → SY → Prop) (u : SY) : Prop := wY_step_548 post (yg_codeSize u) (yg_memSize u) (yg_hot u) (yg_pc u) (yg_status u) (yg_steps u) (yg_cursor u) (yg_outCount u) (yg_code u) (yg_crossings u) (yg_mem u) (yg_r u) (yg_out u)
theorem yu_step_548 (post : Int32 → SY → Prop) (u : SY) : yq_step_548 post u = (wpY_fault (fun r_389 u95 => (post r_389 u95)) u 5) := rfl
def yq_step_582 (post : Int32 → SY → Prop) (u : SY) : Prop := wY_step_582 post (yg_codeSize u) (yg_memSize u) (yg_hot u) (yg_pc u) (yg_status u) (yg_steps u) (yg_cursor u) (yg_outCount u) (yg_code u) (yg_crossings u) (yg_mem u) (yg_r u) (yg_out u)
theorem yu_step_582 (post : Int32 → SY → Prop) (u : SY) : yq_step_582 post u = (wpY_fault (fun r_421 u96 => (post r_421 u96)) u 5) := rfl
def yq_step_663 (post : Int32 → SY → Prop) (x6 : Int32) (z0 : Int32) (u : SY) : Prop := wY_step_663 post x6 z0 (yg_codeSize u) (yg_memSize u) (yg_hot u) (yg_pc u) (yg_status u) (yg_steps u) (yg_cursor u) (yg_outCount u) (yg_code u) (yg_crossings u) (yg_mem u) (yg_r u) (yg_out u)
theorem yu_step_663 (post : Int32 → SY → Prop) (x6 : Int32) (z0 : Int32) (u : SY) : yq_step_663 post x6 z0 u = (wpY_jump (fun r_502 u97 => (post r_502 u97)) u z0 x6) := rfl
def yq_step_680 (post : Int32 → SY → Prop) (x6 : Int32) (z0 : Int32) (u : SY) : Prop := wY_step_680 post x6 z0 (yg_codeSize u) (yg_memSize u) (yg_hot u) (yg_pc u) (yg_status u) (yg_steps u) (yg_cursor u) (yg_outCount u) (yg_code u) (yg_crossings u) (yg_mem u) (yg_r u) (yg_out u)
theorem yu_step_680 (post : Int32 → SY → Prop) (x6 : Int32) (z0 : Int32) (u : SY) : yq_step_680 post x6 z0 u = (wpY_jump (fun r_518 u98 => (post r_518 u98)) u z0 x6) := rfl
def yq_step_699 (post : Int32 → SY → Prop) (x6 : Int32) (z0 : Int32) (u : SY) : Prop := wY_step_699 post x6 z0 (yg_codeSize u) (yg_memSize u) (yg_hot u) (yg_pc u) (yg_status u) (yg_steps u) (yg_cursor u) (yg_outCount u) (yg_code u) (yg_crossings u) (yg_mem u) (yg_r u) (yg_out u)
theorem yu_step_699 (post : Int32 → SY → Prop) (x6 : Int32) (z0 : Int32) (u : SY) : yq_step_699 post x6 z0 u = (wpY_jump (fun r_534 u99 => (post r_534 u99)) u z0 x6) := rfl
def yq_step_718 (post : Int32 → SY → Prop) (x6 : Int32) (z0 : Int32) (u : SY) : Prop := wY_step_718 post x6 z0 (yg_codeSize u) (yg_memSize u) (yg_hot u) (yg_pc u) (yg_status u) (yg_steps u) (yg_cursor u) (yg_outCount u) (yg_code u) (yg_crossings u) (yg_mem u) (yg_r u) (yg_out u)
theorem yu_step_718 (post : Int32 → SY → Prop) (x6 : Int32) (z0 : Int32) (u : SY) : yq_step_718 post x6 z0 u = (wpY_jump (fun r_550 u100 => (post r_550 u100)) u z0 x6) := rfl
def yq_step_737 (post : Int32 → SY → Prop) (x6 : Int32) (z0 : Int32) (u : SY) : Prop := wY_step_737 post x6 z0 (yg_codeSize u) (yg_memSize u) (yg_hot u) (yg_pc u) (yg_status u) (yg_steps u) (yg_cursor u) (yg_outCount u) (yg_code u) (yg_crossings u) (yg_mem u) (yg_r u) (yg_out u)
theorem yu_step_737 (post : Int32 → SY → Prop) (x6 : Int32) (z0 : Int32) (u : SY) : yq_step_737 post x6 z0 u = (wpY_jump (fun r_566 u101 => (post r_566 u101)) u z0 x6) := rfl
def yq_step_756 (post : Int32 → SY → Prop) (x6 : Int32) (z0 : Int32) (u : SY) : Prop := wY_step_756 post x6 z0 (yg_codeSize u) (yg_memSize u) (yg_hot u) (yg_pc u) (yg_status u) (yg_steps u) (yg_cursor u) (yg_outCount u) (yg_code u) (yg_crossings u) (yg_mem u) (yg_r u) (yg_out u)
theorem yu_step_756 (post : Int32 → SY → Prop) (x6 : Int32) (z0 : Int32) (u : SY) : yq_step_756 post x6 z0 u = (wpY_jump (fun r_582 u102 => (post r_582 u102)) u z0 x6) := rfl
def yq_step_776 (post : Int32 → SY → Prop) (u : SY) : Prop := wY_step_776 post (yg_codeSize u) (yg_memSize u) (yg_hot u) (yg_pc u) (yg_status u) (yg_steps u) (yg_cursor u) (yg_outCount u) (yg_code u) (yg_crossings u) (yg_mem u) (yg_r u) (yg_out u)
theorem yu_step_776 (post : Int32 → SY → Prop) (u : SY) : yq_step_776 post u = (wpY_fault (fun r_598 u103 => (post r_598 u103)) u 7) := rfl
theorem yu_step (post : Int32 → SY → Prop) (u : SY) : wpY_step post u = ((((yg_pc u) < 0 → (yq_step_17 post u)) ∧ (¬ (yg_pc u) < 0 → ((((yg_pc u) < (yg_codeSize u) → (vp_in (yg_pc u) 64 ∧ (∀ x2_18 : Int32, x2_18 = (yg_code u) (yg_pc u).toNatClampNeg → (∀ x3_19 : Int32, x3_19 = x2_18 &&& 31 → (∀ x4_20 : Int32, x4_20 = ((x2_18.toUInt32 >>> ((5 : Int32).toUInt32 &&& Int32.toUInt32 31)).toInt32) &&& 7 → (∀ x5_21 : Int32, x5_21 = ((x2_18.toUInt32 >>> ((8 : Int32).toUInt32 &&& Int32.toUInt32 31)).toInt32) &&& 7 → (∀ x6_22 : Int32, x6_22 = x2_18 >>> ((11 : Int32) &&& 31) → (∀ x7_23 : Int32, x7_23 = x6_22 &&& 7 → (vp_in x4_20 8 ∧ (∀ x8_25 : Int32, x8_25 = (yg_r u) x4_20.toNatClampNeg → (vp_in x5_21 8 ∧ (∀ x9_27 : Int32, x9_27 = (yg_r u) x5_21.toNatClampNeg → (vp_in x7_23 8 ∧ (∀ x10_29 : Int32, x10_29 = (yg_r u) x7_23.toNatClampNeg → (∀ x11_30 : Int32, x11_30 = x9_27 + x6_22 → (((x3_19 < 0 → (wpY_fault (fun r_33 u104 => (post r_33 u104)) u 2)) ∧ (¬ x3_19 < 0 → (((29 < x3_19 → (wpY_fault (fun r_47 u105 => (post r_47 u105)) u 2)) ∧ (¬ 29 < x3_19 → (((x3_19 = 0 → (∀ f_steps_62 : Int32, f_steps_62 = (yg_steps u) + 1 → (post 1 (ys_steps (ys_status u 1) f_steps_62)))) ∧ (¬ x3_19 = 0 → (((x3_19 = 1 → (wpY_put (fun r_64 u106 => (post r_64 u106)) u x4_20 x6_22)) ∧ (¬ x3_19 = 1 → (((x3_19 = 2 → (wpY_put (fun r_79 u107 => (post r_79 u107)) u x4_20 x9_27)) ∧ (¬ x3_19 = 2 → (((x3_19 = 3 → (wpY_put (fun r_94 u108 => (post r_94 u108)) u x4_20 (x9_27 + x10_29))) ∧ (¬ x3_19 = 3 → (((x3_19 = 4 → (wpY_put (fun r_109 u109 => (post r_109 u109)) u x4_20 (x9_27 - x10_29))) ∧ (¬ x3_19 = 4 → (((x3_19 = 5 → (wpY_put (fun r_124 u110 => (post r_124 u110)) u x4_20 (x9_27 * x10_29))) ∧ (¬ x3_19 = 5 → (((x3_19 = 6 → (((x10_29 = 0 → (wpY_fault (fun r_155 u111 => (post r_155 u111)) u 3)) ∧ (¬ x10_29 = 0 → (¬ x10_29 = 0 ∧ (wpY_put (fun r_141 u112 => (post r_141 u112)) u x4_20 (x9_27 / x10_29))))))) ∧ (¬ x3_19 = 6 → (((x3_19 = 7 → (((x10_29 = 0 → (wpY_fault (fun r_186 u113 => (post r_186 u113)) u 3)) ∧ (¬ x10_29 = 0 → (¬ x10_29 = 0 ∧ (wpY_put (fun r_172 u114 => (post r_172 u114)) u x4_20 (x9_27 - x9_27 / x10_29 * x10_29))))))) ∧ (¬ x3_19 = 7 → (((x3_19 = 8 → (wpY_put (fun r_201 u115 => (post r_201 u115)) u x4_20 (x9_27 &&& x10_29))) ∧ (¬ x3_19 = 8 → (((x3_19 = 9 → (wpY_put (fun r_216 u116 => (post r_216 u116)) u x4_20 (x9_27 ||| x10_29))) ∧ (¬ x3_19 = 9 → (((x3_19 = 10 → (wpY_put (fun r_231 u117 => (post r_231 u117)) u x4_20 (x9_27 ^^^ x10_29))) ∧ (¬ x3_19 = 10 → (((x3_19 = 11 → (wpY_put (fun r_246 u118 => (post r_246 u118)) u x4_20 (x9_27 <<< ((x10_29 &&& 31) &&& 31)))) ∧ (¬ x3_19 = 11 → (((x3_19 = 12 → (wpY_put (fun r_261 u119 => (post r_261 u119)) u x4_20 (x9_27 >>> ((x10_29 &&& 31) &&& 31)))) ∧ (¬ x3_19 = 12 → (((x3_19 = 13 → (wpY_put (fun r_276 u120 => (post r_276 u120)) u x4_20 x11_30)) ∧ (¬ x3_19 = 13 → (((x3_19 = 14 → (((x10_29 ≤ x9_27 → (yq_step_443 post 0 x4_20 u)) ∧ (¬ x10_29 ≤ x9_27 → (yq_step_443 post 1 x4_20 u))))) ∧ (¬ x3_19 = 14 → (((x3_19 = 15 → (((x9_27 = x10_29 → (yq_step_462 post 1 x4_20 u)) ∧ (¬ x9_27 = x10_29 → (yq_step_462 post 0 x4_20 u))))) ∧ (¬ x3_19 = 15 → (((x3_19 = 16 → (((x11_30 < 0 → (yq_step_480 post u)) ∧ (¬ x11_30 < 0 → (((x11_30 < (yg_memSize u) → (vp_in x11_30 64 ∧ (wpY_put (fun r_340 u121 => (post r_340 u121)) u x4_20 ((yg_mem u) x11_30.toNatClampNeg)))) ∧ (¬ x11_30 < (yg_memSize u) → (yq_step_480 post u)))))))) ∧ (¬ x3_19 = 16 → (((x3_19 = 17 → (((x11_30 < 0 → (yq_step_514 post u)) ∧ (¬ x11_30 < 0 → (((x11_30 < (yg_memSize u) → (vp_in x11_30 64 ∧ ∀ a_mem_372 : Nat → Int32, a_mem_372 = upd (yg_mem u) x11_30.toNatClampNeg x8_25 → (wpY_next (fun r_373 u122 => (post r_373 u122)) (ys_mem u a_mem_372)))) ∧ (¬ x11_30 < (yg_memSize u) → (yq_step_514 post u)))))))) ∧ (¬ x3_19 = 17 → (((x3_19 = 18 → (((x11_30 < 0 → (yq_step_548 post u)) ∧ (¬ x11_30 < 0 → (((x11_30 < (yg_codeSize u) → (vp_in x11_30 64 ∧ (wpY_put (fun r_405 u123 => (post r_405 u123)) u x4_20 ((yg_code u) x11_30.toNatClampNeg)))) ∧ (¬ x11_30 < (yg_codeSize u) → (yq_step_548 post u)))))))) ∧ (¬ x3_19 = 18 → (((x3_19 = 19 → (((x11_30 < 0 → (yq_step_582 post u)) ∧ (¬ x11_30 < 0 → (((x11_30 < (yg_codeSize u) → (vp_in x11_30 64 ∧ ∀ a_code_437 : Nat → Int32, a_code_437 = upd (yg_code u) x11_30.toNatClampNeg x8_25 → (wpY_next (fun r_438 u124 => (post r_438 u124)) (ys_code u a_code_437)))) ∧ (¬ x11_30 < (yg_codeSize u) → (yq_step_582 post u)))))))) ∧ (¬ x3_19 = 19 → (((x3_19 = 20 → ((((yg_outCount u) < 64 → (vp_in (yg_outCount u) 64 ∧ ∀ a_out_455 : Nat → Int32, a_out_455 = upd (yg_out u) (yg_outCount u).toNatClampNeg x8_25 → (∀ f_outCount_456 : Int32, f_outCount_456 = (yg_outCount u) + 1 → (wpY_next (fun r_457 u125 => (post r_457 u125)) (ys_out (ys_outCount u f_outCount_456) a_out_455))))) ∧ (¬ (yg_outCount u) < 64 → (wpY_fault (fun r_471 u126 => (post r_471 u126)) u 6))))) ∧ (¬ x3_19 = 20 → (((x3_19 = 21 → (wpY_jump (fun r_486 u127 => (post r_486 u127)) u 1 x6_22)) ∧ (¬ x3_19 = 21 → (((x3_19 = 22 → (((x8_25 = 0 → (yq_step_663 post x6_22 1 u)) ∧ (¬ x8_25 = 0 → (yq_step_663 post x6_22 0 u))))) ∧ (¬ x3_19 = 22 → (((x3_19 = 23 → (((x8_25 = 0 → (yq_step_680 post x6_22 0 u)) ∧ (¬ x8_25 = 0 → (yq_step_680 post x6_22 1 u))))) ∧ (¬ x3_19 = 23 → (((x3_19 = 24 → (((x9_27 ≤ x8_25 → (yq_step_699 post x6_22 0 u)) ∧ (¬ x9_27 ≤ x8_25 → (yq_step_699 post x6_22 1 u))))) ∧ (¬ x3_19 = 24 → (((x3_19 = 25 → (((x8_25 < x9_27 → (yq_step_718 post x6_22 0 u)) ∧ (¬ x8_25 < x9_27 → (yq_step_718 post x6_22 1 u))))) ∧ (¬ x3_19 = 25 → (((x3_19 = 26 → (((x8_25 = x9_27 → (yq_step_737 post x6_22 1 u)) ∧ (¬ x8_25 = x9_27 → (yq_step_737 post x6_22 0 u))))) ∧ (¬ x3_19 = 26 → (((x3_19 = 27 → (((x8_25 = x9_27 → (yq_step_756 post x6_22 0 u)) ∧ (¬ x8_25 = x9_27 → (yq_step_756 post x6_22 1 u))))) ∧ (¬ x3_19 = 27 → (((x3_19 = 28 → (((x6_22 < 0 → (yq_step_776 post u)) ∧ (¬ x6_22 < 0 → (((x6_22 < (yg_codeSize u) → (vp_in x4_20 8 ∧ ∀ a_r_614 : Nat → Int32, a_r_614 = upd (yg_r u) x4_20.toNatClampNeg ((yg_pc u) + 1) → (wpY_jump (fun r_615 u128 => (post r_615 u128)) (ys_r u a_r_614) 1 x6_22))) ∧ (¬ x6_22 < (yg_codeSize u) → (yq_step_776 post u)))))))) ∧ (¬ x3_19 = 28 → (((x3_19 = 29 → (wpY_jump (fun r_630 u129 => (post r_630 u129)) u 1 x8_25)) ∧ (¬ x3_19 = 29 → (True)))))))))))))))))))))))))))))))))))))))))))))))))))))))))))))))))))))))))))))))))))))))))))))))))))))))))))))))) ∧ (¬ (yg_pc u) < (yg_codeSize u) → (yq_step_17 post u))))))) := rfl
def yq_run_12 (post : Int32 → SY → Prop) (x2 : Int32) (n : Nat) (x3 : Int32) (u : SY) : Prop := wY_run_12 post x2 n x3 (yg_codeSize u) (yg_memSize u) (yg_hot u) (yg_pc u) (yg_status u) (yg_steps u) (yg_cursor u) (yg_outCount u) (yg_code u) (yg_crossings u) (yg_mem u) (yg_r u) (yg_out u)
theorem yu_run_12 (post : Int32 → SY → Prop) (x2 : Int32) (n : Nat) (x3 : Int32) (u : SY) : yq_run_12 post x2 (n + 1) x3 u = (((x2 ≤ x3 → (post x2 u)) ∧ (¬ x2 ≤ x3 → ((((yg_status u) = 0 → (wpY_step (fun r_17 u130 => (((r_17 = 0 → (post x3 u130)) ∧ (¬ r_17 = 0 → (∀ x3_32 : Int32, x3_32 = x3 + 1 → (yq_run_12 post x2 n x3_32 u130)))))) u)) ∧ (¬ (yg_status u) = 0 → (post x3 u))))))) := rfl
theorem yu_run (post : Int32 → SY → Prop) (u : SY) (p0 : Int32) : wpY_run post u p0 = (wpY_clamp (fun r_1 => (∃ n12 : Nat, yq_run_12 post r_1 n12 0 u)) u p0 0 2000) := rfl
def yq_runTo_13 (post : Int32 → SY → Prop) (x1 : Int32) (x3 : Int32) (n : Nat) (x4 : Int32) (u : SY) : Prop := wY_runTo_13 post x1 x3 n x4 (yg_codeSize u) (yg_memSize u) (yg_hot u) (yg_pc u) (yg_status u) (yg_steps u) (yg_cursor u) (yg_outCount u) (yg_code u) (yg_crossings u) (yg_mem u) (yg_r u) (yg_out u)
theorem yu_runTo_13 (post : Int32 → SY → Prop) (x1 : Int32) (x3 : Int32) (n : Nat) (x4 : Int32) (u : SY) : yq_runTo_13 post x1 x3 (n + 1) x4 u = (((x3 ≤ x4 → (post x3 u)) ∧ (¬ x3 ≤ x4 → ((((yg_status u) = 0 → (wpY_step (fun r_17 u131 => (((r_17 = 0 → (post x4 u131)) ∧ (¬ r_17 = 0 → ((((yg_pc u131) = x1 → (post (x4 + 1) u131)) ∧ (¬ (yg_pc u131) = x1 → (∀ x4_33 : Int32, x4_33 = x4 + 1 → (yq_runTo_13 post x1 x3 n x4_33 u131))))))))) u)) ∧ (¬ (yg_status u) = 0 → (post x4 u))))))) := rfl
theorem yu_runTo (post : Int32 → SY → Prop) (u : SY) (p0 : Int32) (p1 : Int32) : wpY_runTo post u p0 p1 = (wpY_clamp (fun r_1 => (∃ n13 : Nat, yq_runTo_13 post p0 r_1 n13 0 u)) u p1 0 2000) := rfl
def yq_runCross_28 (post : Int32 → SY → Prop) (x3 : Int32) (x4 : Int32) (n : Nat) (x5 : Int32) (x6 : Int32) (u : SY) : Prop := wY_runCross_28 post x3 x4 n x5 x6 (yg_codeSize u) (yg_memSize u) (yg_hot u) (yg_pc u) (yg_status u) (yg_steps u) (yg_cursor u) (yg_outCount u) (yg_code u) (yg_crossings u) (yg_mem u) (yg_r u) (yg_out u)
theorem yu_runCross_28 (post : Int32 → SY → Prop) (x3 : Int32) (x4 : Int32) (n : Nat) (x5 : Int32) (x6 : Int32) (u : SY) : yq_runCross_28 post x3 x4 (n + 1) x5 x6 u = (((x3 ≤ x6 → (post x3 u)) ∧ (¬ x3 ≤ x6 → ((((yg_status u) = 0 → (wpY_step (fun r_18 u132 => (((r_18 = 0 → (post x6 u132)) ∧ (¬ r_18 = 0 → (((r_18 = 2 → (∀ x5_35 : Int32, x5_35 = x5 + 1 → (((x5_35 = x4 → (post (x6 + 1) u132)) ∧ (¬ x5_35 = x4 → (∀ x6_37 : Int32, x6_37 = x6 + 1 → (yq_runCross_28 post x3 x4 n x5_35 x6_37 u132))))))) ∧ (¬ r_18 = 2 → (∀ x6_34 : Int32, x6_34 = x6 + 1 → (yq_runCross_28 post x3 x4 n x5 x6_34 u132))))))))) u)) ∧ (¬ (yg_status u) = 0 → (post x6 u))))))) := rfl
theorem yu_runCross (post : Int32 → SY → Prop) (u : SY) (p0 : Int32) (p1 : Int32) : wpY_runCross post u p0 p1 = (wpY_clamp (fun r_1 => (((1 ≤ p0 → (∃ n28 : Nat, yq_runCross_28 post r_1 p0 n28 0 0 u)) ∧ (¬ 1 ≤ p0 → (∃ n28 : Nat, yq_runCross_28 post r_1 1 n28 0 0 u))))) u p1 0 2000) := rfl
theorem yu_clearOut (post : Int32 → SY → Prop) (u : SY) : wpY_clearOut post u = (post (yg_outCount u) (ys_outCount u 0)) := rfl
theorem yu_pc (post : Int32 → Prop) (u : SY) : wpY_pc post u = (post (yg_pc u)) := rfl
theorem yu_status (post : Int32 → Prop) (u : SY) : wpY_status post u = (post (yg_status u)) := rfl
theorem yu_steps (post : Int32 → Prop) (u : SY) : wpY_steps post u = (post (yg_steps u)) := rfl
theorem yu_reg (post : Int32 → Prop) (u : SY) (p0 : Int32) : wpY_reg post u p0 = (((p0 < 0 → (post 0)) ∧ (¬ p0 < 0 → (((p0 < 8 → (vp_in p0 8 ∧ (post ((yg_r u) p0.toNatClampNeg)))) ∧ (¬ p0 < 8 → (post 0))))))) := rfl
theorem yu_mem (post : Int32 → Prop) (u : SY) (p0 : Int32) : wpY_mem post u p0 = (((p0 < 0 → (post 0)) ∧ (¬ p0 < 0 → (((p0 < (yg_memSize u) → (vp_in p0 64 ∧ (post ((yg_mem u) p0.toNatClampNeg)))) ∧ (¬ p0 < (yg_memSize u) → (post 0))))))) := rfl
theorem yu_code (post : Int32 → Prop) (u : SY) (p0 : Int32) : wpY_code post u p0 = (((p0 < 0 → (post 0)) ∧ (¬ p0 < 0 → (((p0 < (yg_codeSize u) → (vp_in p0 64 ∧ (post ((yg_code u) p0.toNatClampNeg)))) ∧ (¬ p0 < (yg_codeSize u) → (post 0))))))) := rfl
theorem yu_crossings (post : Int32 → Prop) (u : SY) (p0 : Int32) : wpY_crossings post u p0 = (((p0 < 0 → (post 0)) ∧ (¬ p0 < 0 → (((p0 < (yg_codeSize u) → (vp_in p0 64 ∧ (post ((yg_crossings u) p0.toNatClampNeg)))) ∧ (¬ p0 < (yg_codeSize u) → (post 0))))))) := rfl
theorem yu_outCount (post : Int32 → Prop) (u : SY) : wpY_outCount post u = (post (yg_outCount u)) := rfl
theorem yu_out (post : Int32 → Prop) (u : SY) (p0 : Int32) : wpY_out post u p0 = (((p0 < 0 → (post 0)) ∧ (¬ p0 < 0 → (((p0 < (yg_outCount u) → (vp_in p0 64 ∧ (post ((yg_out u) p0.toNatClampNeg)))) ∧ (¬ p0 < (yg_outCount u) → (post 0))))))) := rfl
theorem yu_cursor (post : Int32 → Prop) (u : SY) : wpY_cursor post u = (post (yg_cursor u)) := rfl
theorem yu_hot (post : Int32 → Prop) (u : SY) : wpY_hot post u = (post (yg_hot u)) := rfl
end
end
section
/-! pure rows to paste: stores, nI and lN arithmetic, masks, shifts, narrowing, branches by naturals (pk_le, pk_lt, pk_eq), loops (lp1 .. lp16: the measure of the state; rp1 ..: recursion), negatives. Take what you need -/
theorem pk_us {f : Nat → Int32} {k : Nat} {x : Int32} : upd f k x k = x := if_pos rfl
theorem pk_un {f : Nat → Int32} {k j : Nat} {x : Int32} (h : j ≠ k) : upd f k x j = f j := if_neg h
theorem pk_uLs {f : Nat → Int64} {k : Nat} {x : Int64} : vp_updL f k x k = x := if_pos rfl
theorem pk_uLn {f : Nat → Int64} {k j : Nat} {x : Int64} (h : j ≠ k) : vp_updL f k x j = f j := if_neg h
theorem pk_sub {a b : Nat} (h : b ≤ a) : nI a - nI b = nI (a - b) := by
  obtain ⟨c, rfl⟩ : ∃ c, a = c + b := ⟨a - b, by omega⟩
  rw [← nI_add, Int32.add_sub_cancel, Nat.add_sub_cancel]
theorem pk_m1 (n : Nat) : nI (n + 1) + (-1) = nI n := by
  rw [← nI_1, Int32.add_assoc, show (1 : Int32) + (-1) = 0 from rfl, Int32.add_zero]
theorem pk_mul (a b : Nat) : nI a * nI b = nI (a * b) := (Int32.ofNat_mul a b).symm
theorem pk_div {a d : Nat} (ha : a < 2 ^ 31) (h0 : 0 < d) (hd : d < 2 ^ 31) : nI a / nI d = nI (a / d) := by
  apply Int32.toInt_inj.mp
  rw [lg_idiv_nonneg (by rw [nI_toInt ha]; omega) (by rw [nI_toInt hd]; omega), nI_toInt ha, nI_toInt hd, nI_toInt (Nat.lt_of_le_of_lt (Nat.div_le_self a d) ha)]
  first | rfl | exact (Int.natCast_ediv _ _).symm
theorem pk_rem {a d : Nat} (ha : a < 2 ^ 31) (h0 : 0 < d) (hd : d < 2 ^ 31) : nI a - nI a / nI d * nI d = nI (a % d) := by
  rw [pk_div ha h0 hd, pk_mul, pk_sub (Nat.div_mul_le_self a d)]
  exact congrArg nI (by have := Nat.div_add_mod' a d; omega)
theorem pk_sub_toInt {a b : Nat} (ha : a < 2 ^ 30) (hb : b < 2 ^ 30) : (nI a - nI b).toInt = (a : Int) - b := by
  rw [Int32.toInt_sub, nI_toInt (by omega), nI_toInt (by omega)]
  exact Int.bmod_eq_of_le (by omega) (by omega)
theorem pk_sneg {a b : Nat} (hb : b < 2 ^ 30) (h : a < b) : nI a - nI b < 0 := by
  rw [Int32.lt_iff_toInt_lt, pk_sub_toInt (by omega) hb, show (0 : Int32).toInt = 0 from by decide]
  omega
theorem pk_ix (x : Int32) {n : Nat} (hn : n < 2 ^ 31) : x < 0 ∨ nI n ≤ x ∨ ∃ j : Nat, j < n ∧ x = nI j := by
  by_cases h : x < 0
  · exact Or.inl h
  · obtain ⟨j, hj, rfl⟩ := nI_of h
    by_cases h2 : j < n
    · exact Or.inr (Or.inr ⟨j, h2, rfl⟩)
    · exact Or.inr (Or.inl (nI_le (by omega) hj))
theorem pk_le {x y : Int32} {A B : Prop} (a b : Nat) (f : a ≤ b → A) (g : b < a → B) (hx : x = nI a := by rfl) (hy : y = nI b := by rfl) (ha : a < 2 ^ 31 := by omega) (hb : b < 2 ^ 31 := by omega) : (x ≤ y → A) ∧ (¬ x ≤ y → B) := by
  subst hx hy
  rw [nI_leI ha hb]
  exact ⟨f, fun z => g (by omega)⟩
theorem pk_lt {x y : Int32} {A B : Prop} (a b : Nat) (f : a < b → A) (g : b ≤ a → B) (hx : x = nI a := by rfl) (hy : y = nI b := by rfl) (ha : a < 2 ^ 31 := by omega) (hb : b < 2 ^ 31 := by omega) : (x < y → A) ∧ (¬ x < y → B) := by
  subst hx hy
  rw [nI_ltI ha hb]
  exact ⟨f, fun z => g (by omega)⟩
theorem pk_eq {x y : Int32} {A B : Prop} (a b : Nat) (f : a = b → A) (g : a ≠ b → B) (hx : x = nI a := by rfl) (hy : y = nI b := by rfl) (ha : a < 2 ^ 31 := by omega) (hb : b < 2 ^ 31 := by omega) : (x = y → A) ∧ (¬ x = y → B) := by
  subst hx hy
  rw [nI_eq ha hb]
  exact ⟨f, g⟩
theorem pk_in {x : Int32} (n N : Nat) (h : n < N) (hx : x = nI n := by rfl) (hN : N < 2 ^ 31 := by omega) : vp_in x N := by
  subst hx
  exact vp_in_nI h hN
theorem pk_cl {x : Int32} (n : Nat) (hx : x = nI n := by rfl) (h : n < 2 ^ 31 := by omega) : x.toNatClampNeg = n := by
  subst hx
  exact nI_clamp h
theorem pk_tn {n : Nat} (h : n < 2 ^ 32) : (nI n).toBitVec.toNat = n := Nat.mod_eq_of_lt h
theorem pk_and (x : Int32) {m : Int32} (k : Nat) (hm : m.toBitVec.toNat = 2 ^ k - 1) : x &&& m = nI (x.toBitVec.toNat % 2 ^ k) := by
  apply Int32.toBitVec_inj.mp
  apply BitVec.eq_of_toNat_eq
  rw [Int32.toBitVec_and, BitVec.toNat_and, hm, Nat.and_two_pow_sub_one_eq_mod]
  show _ = (BitVec.ofNat 32 _).toNat
  rw [BitVec.toNat_ofNat]
  exact (Nat.mod_eq_of_lt (Nat.lt_of_le_of_lt (Nat.mod_le _ _) x.toBitVec.isLt)).symm
theorem pk_andN {n : Nat} (h : n < 2 ^ 32) {m : Int32} (k : Nat) (hm : m.toBitVec.toNat = 2 ^ k - 1) : nI n &&& m = nI (n % 2 ^ k) := by
  rw [pk_and _ k hm, pk_tn h]
theorem pk_andE (x : Int32) {m : Int32} (k : Nat) (hm : m.toBitVec.toNat = 2 ^ k - 1) : ∃ j : Nat, j < 2 ^ k ∧ x &&& m = nI j := ⟨_, Nat.mod_lt _ (Nat.two_pow_pos k), pk_and x k hm⟩
theorem pk_andIn (x : Int32) {m : Int32} (k : Nat) (hm : m.toBitVec.toNat = 2 ^ k - 1) (hk : k ≤ 30) : vp_in (x &&& m) (2 ^ k) := by
  obtain ⟨j, hj, e⟩ := pk_andE x k hm
  rw [e]
  exact vp_in_nI hj (Nat.lt_of_le_of_lt (Nat.pow_le_pow_right (by decide) hk) (by decide))
theorem pk_shl (a s : Int32) (k : Nat) (hs : (s.toBitVec.smod 32).toNat = k) : (a <<< s).toBitVec.toNat = a.toBitVec.toNat * 2 ^ k % 2 ^ 32 := by
  show (a.toBitVec <<< (s.toBitVec.smod 32).toNat).toNat = _
  rw [hs, BitVec.toNat_shiftLeft, Nat.shiftLeft_eq]
theorem pk_shlN {n : Nat} (s : Int32) (k : Nat) (hs : (s.toBitVec.smod 32).toNat = k) (h : n * 2 ^ k < 2 ^ 32) : nI n <<< s = nI (n * 2 ^ k) := by
  apply Int32.toBitVec_inj.mp
  apply BitVec.eq_of_toNat_eq
  have hn : n < 2 ^ 32 := Nat.lt_of_le_of_lt (Nat.le_mul_of_pos_right n (Nat.two_pow_pos k)) h
  rw [pk_shl _ _ k hs, pk_tn hn, pk_tn h, Nat.mod_eq_of_lt h]
theorem pk_shr (a s : Int32) (k : Nat) (hs : (s.toBitVec.smod 32).toNat = k) : (a >>> s).toInt = a.toInt >>> k := by
  show (a.toBitVec.sshiftRight (s.toBitVec.smod 32).toNat).toInt = _
  rw [hs, BitVec.toInt_sshiftRight]
  rfl
theorem pk_shrN {n : Nat} (h : n < 2 ^ 31) (s : Int32) (k : Nat) (hs : (s.toBitVec.smod 32).toNat = k) : nI n >>> s = nI (n / 2 ^ k) := by
  apply Int32.toInt_inj.mp
  have h2 : n / 2 ^ k ≤ n := Nat.div_le_self _ _
  rw [pk_shr _ _ k hs, nI_toInt h, nI_toInt (by omega), Int.shiftRight_eq_div_pow]
  rfl
theorem pk_ushr (x s : Int32) (k : Nat) (hs : ((s.toUInt32 &&& Int32.toUInt32 31).toBitVec % 32).toNat = k) : (x.toUInt32 >>> (s.toUInt32 &&& Int32.toUInt32 31)).toInt32.toBitVec.toNat = x.toBitVec.toNat / 2 ^ k := by
  have e : (x.toUInt32 >>> (s.toUInt32 &&& Int32.toUInt32 31)).toInt32.toBitVec = x.toBitVec >>> k := by
    rw [← hs]
    exact UInt32.toBitVec_shiftRight _ _
  rw [e, BitVec.toNat_ushiftRight, Nat.shiftRight_eq_div_pow]
theorem pk_ushrN {n : Nat} (hn : n < 2 ^ 32) (s : Int32) (k : Nat) (hs : ((s.toUInt32 &&& Int32.toUInt32 31).toBitVec % 32).toNat = k) : ((nI n).toUInt32 >>> (s.toUInt32 &&& Int32.toUInt32 31)).toInt32 = nI (n / 2 ^ k) := by
  apply Int32.toBitVec_inj.mp
  apply BitVec.eq_of_toNat_eq
  rw [pk_ushr _ s k hs, pk_tn hn, pk_tn (Nat.lt_of_le_of_lt (Nat.div_le_self _ _) hn)]
theorem pk_nb (z : Int32) : narrow .byte (.int z.toInt8.toInt32) = .int z.toInt8.toInt32 := congrArg Value.int (by simp)
theorem pk_ns (z : Int32) : narrow .short (.int z.toInt16.toInt32) = .int z.toInt16.toInt32 := congrArg Value.int (by simp)
theorem pk_fb (r : Int32) : fits .byte (.int r.toInt8.toInt32) = true := by
  have ⟨a, b⟩ := lg_i2b_range r
  have h1 : (-128 : Int32).toInt = -128 := by decide
  have h2 : (127 : Int32).toInt = 127 := by decide
  simp only [fits, Bool.and_eq_true, decide_eq_true_eq, Int32.le_iff_toInt_le, h1, h2]
  omega
theorem pk_fs (r : Int32) : fits .short (.int r.toInt16.toInt32) = true := by
  have ⟨a, b⟩ := lg_i2s_range r
  have h1 : (-32768 : Int32).toInt = -32768 := by decide
  have h2 : (32767 : Int32).toInt = 32767 := by decide
  simp only [fits, Bool.and_eq_true, decide_eq_true_eq, Int32.le_iff_toInt_le, h1, h2]
  omega
theorem pk_charN {q : Nat} (hq : q < 65536) : narrow .char (.int (nI q)) = .int (nI q) ∧ fits .char (.int (nI q)) = true := by
  constructor
  · have e : (nI q).toUInt32.toUInt16.toUInt32.toInt32 = nI q := by
      apply Int32.toBitVec_inj.mp
      apply BitVec.eq_of_toNat_eq
      show (nI q).toUInt32.toUInt16.toUInt32.toNat = q % 2 ^ 32
      rw [UInt16.toNat_toUInt32, UInt32.toNat_toUInt16, show (nI q).toUInt32.toNat = q % 2 ^ 32 from rfl]
      omega
    exact congrArg Value.int e
  · have a : (0 : Int32) ≤ nI q := nI_pos' (by omega)
    have b : nI q ≤ 65535 := nI_le (b := 65535) (by omega) (by decide)
    show (decide ((0 : Int32) ≤ nI q) && decide (nI q ≤ 65535)) = true
    rw [decide_eq_true a, decide_eq_true b]
    rfl
theorem pk_char (x : Int32) : (x.toUInt32 % 65536).toInt32 = nI (x.toBitVec.toNat % 65536) := by
  apply Int32.toBitVec_inj.mp
  apply BitVec.eq_of_toNat_eq
  rw [pk_tn (by omega)]
  show (x.toUInt32 % 65536).toNat = _
  rw [UInt32.toNat_mod]
  rfl
theorem pk_nc (x : Int32) : narrow .char (.int (x.toUInt32 % 65536).toInt32) = .int (x.toUInt32 % 65536).toInt32 := by
  rw [pk_char]
  exact (pk_charN (Nat.mod_lt _ (by decide))).1
theorem pk_fc (x : Int32) : fits .char (.int (x.toUInt32 % 65536).toInt32) = true := by
  rw [pk_char]
  exact (pk_charN (Nat.mod_lt _ (by decide))).2
theorem pk_vb (z : Int32) : vp_nar .byte z.toInt8.toInt32 = z.toInt8.toInt32 := by rw [vp_nar_byte]; simp
theorem pk_vs (z : Int32) : vp_nar .short z.toInt16.toInt32 = z.toInt16.toInt32 := by rw [vp_nar_short]; simp
theorem pk_vc (z : Int32) : vp_nar .char (z.toUInt32 % 65536).toInt32 = (z.toUInt32 % 65536).toInt32 := Value.int.inj (pk_nc z)
theorem pk_lT {n : Nat} (h : n < 2 ^ 63) : (lN n).toInt = (n : Int) := lg_ofNat_toInt h
theorem pk_lLT {a b : Nat} (ha : a < 2 ^ 63) (hb : b < 2 ^ 63) : lN a < lN b ↔ a < b := by
  rw [Int64.lt_iff_toInt_lt, pk_lT ha, pk_lT hb]; omega
theorem pk_lLE {a b : Nat} (ha : a < 2 ^ 63) (hb : b < 2 ^ 63) : lN a ≤ lN b ↔ a ≤ b := by
  rw [Int64.le_iff_toInt_le, pk_lT ha, pk_lT hb]; omega
theorem pk_lEQ {a b : Nat} (ha : a < 2 ^ 63) (hb : b < 2 ^ 63) : lN a = lN b ↔ a = b := by
  rw [← Int64.toInt_inj, pk_lT ha, pk_lT hb]; omega
theorem pk_lOf {x : Int64} (h : ¬ x < 0) : ∃ k : Nat, k < 2 ^ 63 ∧ x = lN k := by
  rw [Int64.lt_iff_toInt_lt] at h
  have h0 : (0 : Int64).toInt = 0 := by decide
  have hx := Int64.toInt_lt x
  refine ⟨x.toInt.toNat, by omega, Int64.toInt_inj.mp ?_⟩
  rw [pk_lT (by omega)]
  omega
theorem pk_lDiv {a b : Nat} (ha : a < 2 ^ 63) (h0 : 0 < b) (hb : b < 2 ^ 63) : lN a / lN b = lN (a / b) := by
  apply Int64.toInt_inj.mp
  rw [lg_ldiv_nonneg (by rw [pk_lT ha]; omega) (by rw [pk_lT hb]; omega), pk_lT ha, pk_lT hb, pk_lT (Nat.lt_of_le_of_lt (Nat.div_le_self a b) ha)]
  rfl
theorem pk_lRem {a b : Nat} (ha : a < 2 ^ 63) (h0 : 0 < b) (hb : b < 2 ^ 63) : lN a - lN a / lN b * lN b = lN (a % b) := by
  rw [pk_lDiv ha h0 hb, lN_mul, lN_sub (Nat.div_mul_le_self a b)]
  exact congrArg lN (by have := Nat.div_add_mod' a b; omega)
theorem pk_loop {σ : Type} (W : Nat → Nat → σ → Prop) (I : Nat → σ → Prop) (e i0 : Nat) (s : σ) (hi : i0 ≤ e) (h0 : I i0 s) (hx : ∀ n s, I e s → W (n + 1) e s)
    (hs : ∀ n i s, i < e → I i s → (∀ s', I (i + 1) s' → W n (i + 1) s') → W (n + 1) i s) : ∃ n, W n i0 s :=
  ⟨e + 1, loop_i W I e hx hs (e + 1) i0 s hi (by omega) h0⟩
theorem pk_loopD {σ : Type} (W : Nat → Nat → σ → Prop) (I : Nat → σ → Prop) (hx : ∀ n s, I 0 s → W (n + 1) 0 s)
    (hs : ∀ n i s, I (i + 1) s → (∀ s', I i s' → W n i s') → W (n + 1) (i + 1) s) : ∀ (e : Nat) (s : σ), I e s → W (e + 1) e s := by
  intro e
  induction e with
  | zero => exact fun s h => hx 0 s h
  | succ e ih => exact fun s h => hs (e + 1) e s h (fun s' h' => ih s' h')
theorem lp1 {A1 : Type} (W : Nat → A1 → Prop) (I : A1 → Prop) (μ : A1 → Nat) (hs : ∀ (n : Nat) (a1 : A1), I a1 → (∀ (b1 : A1), I b1 → μ b1 < μ a1 → W n b1) → W (n + 1) a1) (a1 : A1) (h : I a1) : ∃ n, W n a1 :=
  loop_m (σ := A1) (fun n s => W n s) (fun s => I s) (fun s => μ s) (fun n s hI hk => hs n s hI (fun b1 h9 hm => hk b1 h9 hm)) a1 h
theorem lp2 {A1 A2 : Type} (W : Nat → A1 → A2 → Prop) (I : A1 → A2 → Prop) (μ : A1 → A2 → Nat) (hs : ∀ (n : Nat) (a1 : A1) (a2 : A2), I a1 a2 → (∀ (b1 : A1) (b2 : A2), I b1 b2 → μ b1 b2 < μ a1 a2 → W n b1 b2) → W (n + 1) a1 a2) (a1 : A1) (a2 : A2) (h : I a1 a2) : ∃ n, W n a1 a2 :=
  loop_m (σ := A1 × A2) (fun n s => W n s.1 s.2) (fun s => I s.1 s.2) (fun s => μ s.1 s.2) (fun n s hI hk => hs n s.1 s.2 hI (fun b1 b2 h9 hm => hk (b1, b2) h9 hm)) (a1, a2) h
theorem lp3 {A1 A2 A3 : Type} (W : Nat → A1 → A2 → A3 → Prop) (I : A1 → A2 → A3 → Prop) (μ : A1 → A2 → A3 → Nat) (hs : ∀ (n : Nat) (a1 : A1) (a2 : A2) (a3 : A3), I a1 a2 a3 → (∀ (b1 : A1) (b2 : A2) (b3 : A3), I b1 b2 b3 → μ b1 b2 b3 < μ a1 a2 a3 → W n b1 b2 b3) → W (n + 1) a1 a2 a3) (a1 : A1) (a2 : A2) (a3 : A3) (h : I a1 a2 a3) : ∃ n, W n a1 a2 a3 :=
  loop_m (σ := A1 × A2 × A3) (fun n s => W n s.1 s.2.1 s.2.2) (fun s => I s.1 s.2.1 s.2.2) (fun s => μ s.1 s.2.1 s.2.2) (fun n s hI hk => hs n s.1 s.2.1 s.2.2 hI (fun b1 b2 b3 h9 hm => hk (b1, b2, b3) h9 hm)) (a1, a2, a3) h
theorem lp4 {A1 A2 A3 A4 : Type} (W : Nat → A1 → A2 → A3 → A4 → Prop) (I : A1 → A2 → A3 → A4 → Prop) (μ : A1 → A2 → A3 → A4 → Nat) (hs : ∀ (n : Nat) (a1 : A1) (a2 : A2) (a3 : A3) (a4 : A4), I a1 a2 a3 a4 → (∀ (b1 : A1) (b2 : A2) (b3 : A3) (b4 : A4), I b1 b2 b3 b4 → μ b1 b2 b3 b4 < μ a1 a2 a3 a4 → W n b1 b2 b3 b4) → W (n + 1) a1 a2 a3 a4) (a1 : A1) (a2 : A2) (a3 : A3) (a4 : A4) (h : I a1 a2 a3 a4) : ∃ n, W n a1 a2 a3 a4 :=
  loop_m (σ := A1 × A2 × A3 × A4) (fun n s => W n s.1 s.2.1 s.2.2.1 s.2.2.2) (fun s => I s.1 s.2.1 s.2.2.1 s.2.2.2) (fun s => μ s.1 s.2.1 s.2.2.1 s.2.2.2) (fun n s hI hk => hs n s.1 s.2.1 s.2.2.1 s.2.2.2 hI (fun b1 b2 b3 b4 h9 hm => hk (b1, b2, b3, b4) h9 hm)) (a1, a2, a3, a4) h
theorem lp5 {A1 A2 A3 A4 A5 : Type} (W : Nat → A1 → A2 → A3 → A4 → A5 → Prop) (I : A1 → A2 → A3 → A4 → A5 → Prop) (μ : A1 → A2 → A3 → A4 → A5 → Nat) (hs : ∀ (n : Nat) (a1 : A1) (a2 : A2) (a3 : A3) (a4 : A4) (a5 : A5), I a1 a2 a3 a4 a5 → (∀ (b1 : A1) (b2 : A2) (b3 : A3) (b4 : A4) (b5 : A5), I b1 b2 b3 b4 b5 → μ b1 b2 b3 b4 b5 < μ a1 a2 a3 a4 a5 → W n b1 b2 b3 b4 b5) → W (n + 1) a1 a2 a3 a4 a5) (a1 : A1) (a2 : A2) (a3 : A3) (a4 : A4) (a5 : A5) (h : I a1 a2 a3 a4 a5) : ∃ n, W n a1 a2 a3 a4 a5 :=
  loop_m (σ := A1 × A2 × A3 × A4 × A5) (fun n s => W n s.1 s.2.1 s.2.2.1 s.2.2.2.1 s.2.2.2.2) (fun s => I s.1 s.2.1 s.2.2.1 s.2.2.2.1 s.2.2.2.2) (fun s => μ s.1 s.2.1 s.2.2.1 s.2.2.2.1 s.2.2.2.2) (fun n s hI hk => hs n s.1 s.2.1 s.2.2.1 s.2.2.2.1 s.2.2.2.2 hI (fun b1 b2 b3 b4 b5 h9 hm => hk (b1, b2, b3, b4, b5) h9 hm)) (a1, a2, a3, a4, a5) h
theorem lp6 {A1 A2 A3 A4 A5 A6 : Type} (W : Nat → A1 → A2 → A3 → A4 → A5 → A6 → Prop) (I : A1 → A2 → A3 → A4 → A5 → A6 → Prop) (μ : A1 → A2 → A3 → A4 → A5 → A6 → Nat) (hs : ∀ (n : Nat) (a1 : A1) (a2 : A2) (a3 : A3) (a4 : A4) (a5 : A5) (a6 : A6), I a1 a2 a3 a4 a5 a6 → (∀ (b1 : A1) (b2 : A2) (b3 : A3) (b4 : A4) (b5 : A5) (b6 : A6), I b1 b2 b3 b4 b5 b6 → μ b1 b2 b3 b4 b5 b6 < μ a1 a2 a3 a4 a5 a6 → W n b1 b2 b3 b4 b5 b6) → W (n + 1) a1 a2 a3 a4 a5 a6) (a1 : A1) (a2 : A2) (a3 : A3) (a4 : A4) (a5 : A5) (a6 : A6) (h : I a1 a2 a3 a4 a5 a6) : ∃ n, W n a1 a2 a3 a4 a5 a6 :=
  loop_m (σ := A1 × A2 × A3 × A4 × A5 × A6) (fun n s => W n s.1 s.2.1 s.2.2.1 s.2.2.2.1 s.2.2.2.2.1 s.2.2.2.2.2) (fun s => I s.1 s.2.1 s.2.2.1 s.2.2.2.1 s.2.2.2.2.1 s.2.2.2.2.2) (fun s => μ s.1 s.2.1 s.2.2.1 s.2.2.2.1 s.2.2.2.2.1 s.2.2.2.2.2) (fun n s hI hk => hs n s.1 s.2.1 s.2.2.1 s.2.2.2.1 s.2.2.2.2.1 s.2.2.2.2.2 hI (fun b1 b2 b3 b4 b5 b6 h9 hm => hk (b1, b2, b3, b4, b5, b6) h9 hm)) (a1, a2, a3, a4, a5, a6) h
theorem lp7 {A1 A2 A3 A4 A5 A6 A7 : Type} (W : Nat → A1 → A2 → A3 → A4 → A5 → A6 → A7 → Prop) (I : A1 → A2 → A3 → A4 → A5 → A6 → A7 → Prop) (μ : A1 → A2 → A3 → A4 → A5 → A6 → A7 → Nat) (hs : ∀ (n : Nat) (a1 : A1) (a2 : A2) (a3 : A3) (a4 : A4) (a5 : A5) (a6 : A6) (a7 : A7), I a1 a2 a3 a4 a5 a6 a7 → (∀ (b1 : A1) (b2 : A2) (b3 : A3) (b4 : A4) (b5 : A5) (b6 : A6) (b7 : A7), I b1 b2 b3 b4 b5 b6 b7 → μ b1 b2 b3 b4 b5 b6 b7 < μ a1 a2 a3 a4 a5 a6 a7 → W n b1 b2 b3 b4 b5 b6 b7) → W (n + 1) a1 a2 a3 a4 a5 a6 a7) (a1 : A1) (a2 : A2) (a3 : A3) (a4 : A4) (a5 : A5) (a6 : A6) (a7 : A7) (h : I a1 a2 a3 a4 a5 a6 a7) : ∃ n, W n a1 a2 a3 a4 a5 a6 a7 :=
  loop_m (σ := A1 × A2 × A3 × A4 × A5 × A6 × A7) (fun n s => W n s.1 s.2.1 s.2.2.1 s.2.2.2.1 s.2.2.2.2.1 s.2.2.2.2.2.1 s.2.2.2.2.2.2) (fun s => I s.1 s.2.1 s.2.2.1 s.2.2.2.1 s.2.2.2.2.1 s.2.2.2.2.2.1 s.2.2.2.2.2.2) (fun s => μ s.1 s.2.1 s.2.2.1 s.2.2.2.1 s.2.2.2.2.1 s.2.2.2.2.2.1 s.2.2.2.2.2.2) (fun n s hI hk => hs n s.1 s.2.1 s.2.2.1 s.2.2.2.1 s.2.2.2.2.1 s.2.2.2.2.2.1 s.2.2.2.2.2.2 hI (fun b1 b2 b3 b4 b5 b6 b7 h9 hm => hk (b1, b2, b3, b4, b5, b6, b7) h9 hm)) (a1, a2, a3, a4, a5, a6, a7) h
theorem lp8 {A1 A2 A3 A4 A5 A6 A7 A8 : Type} (W : Nat → A1 → A2 → A3 → A4 → A5 → A6 → A7 → A8 → Prop) (I : A1 → A2 → A3 → A4 → A5 → A6 → A7 → A8 → Prop) (μ : A1 → A2 → A3 → A4 → A5 → A6 → A7 → A8 → Nat) (hs : ∀ (n : Nat) (a1 : A1) (a2 : A2) (a3 : A3) (a4 : A4) (a5 : A5) (a6 : A6) (a7 : A7) (a8 : A8), I a1 a2 a3 a4 a5 a6 a7 a8 → (∀ (b1 : A1) (b2 : A2) (b3 : A3) (b4 : A4) (b5 : A5) (b6 : A6) (b7 : A7) (b8 : A8), I b1 b2 b3 b4 b5 b6 b7 b8 → μ b1 b2 b3 b4 b5 b6 b7 b8 < μ a1 a2 a3 a4 a5 a6 a7 a8 → W n b1 b2 b3 b4 b5 b6 b7 b8) → W (n + 1) a1 a2 a3 a4 a5 a6 a7 a8) (a1 : A1) (a2 : A2) (a3 : A3) (a4 : A4) (a5 : A5) (a6 : A6) (a7 : A7) (a8 : A8) (h : I a1 a2 a3 a4 a5 a6 a7 a8) : ∃ n, W n a1 a2 a3 a4 a5 a6 a7 a8 :=
  loop_m (σ := A1 × A2 × A3 × A4 × A5 × A6 × A7 × A8) (fun n s => W n s.1 s.2.1 s.2.2.1 s.2.2.2.1 s.2.2.2.2.1 s.2.2.2.2.2.1 s.2.2.2.2.2.2.1 s.2.2.2.2.2.2.2) (fun s => I s.1 s.2.1 s.2.2.1 s.2.2.2.1 s.2.2.2.2.1 s.2.2.2.2.2.1 s.2.2.2.2.2.2.1 s.2.2.2.2.2.2.2) (fun s => μ s.1 s.2.1 s.2.2.1 s.2.2.2.1 s.2.2.2.2.1 s.2.2.2.2.2.1 s.2.2.2.2.2.2.1 s.2.2.2.2.2.2.2) (fun n s hI hk => hs n s.1 s.2.1 s.2.2.1 s.2.2.2.1 s.2.2.2.2.1 s.2.2.2.2.2.1 s.2.2.2.2.2.2.1 s.2.2.2.2.2.2.2 hI (fun b1 b2 b3 b4 b5 b6 b7 b8 h9 hm => hk (b1, b2, b3, b4, b5, b6, b7, b8) h9 hm)) (a1, a2, a3, a4, a5, a6, a7, a8) h
theorem lp9 {A1 A2 A3 A4 A5 A6 A7 A8 A9 : Type} (W : Nat → A1 → A2 → A3 → A4 → A5 → A6 → A7 → A8 → A9 → Prop) (I : A1 → A2 → A3 → A4 → A5 → A6 → A7 → A8 → A9 → Prop) (μ : A1 → A2 → A3 → A4 → A5 → A6 → A7 → A8 → A9 → Nat) (hs : ∀ (n : Nat) (a1 : A1) (a2 : A2) (a3 : A3) (a4 : A4) (a5 : A5) (a6 : A6) (a7 : A7) (a8 : A8) (a9 : A9), I a1 a2 a3 a4 a5 a6 a7 a8 a9 → (∀ (b1 : A1) (b2 : A2) (b3 : A3) (b4 : A4) (b5 : A5) (b6 : A6) (b7 : A7) (b8 : A8) (b9 : A9), I b1 b2 b3 b4 b5 b6 b7 b8 b9 → μ b1 b2 b3 b4 b5 b6 b7 b8 b9 < μ a1 a2 a3 a4 a5 a6 a7 a8 a9 → W n b1 b2 b3 b4 b5 b6 b7 b8 b9) → W (n + 1) a1 a2 a3 a4 a5 a6 a7 a8 a9) (a1 : A1) (a2 : A2) (a3 : A3) (a4 : A4) (a5 : A5) (a6 : A6) (a7 : A7) (a8 : A8) (a9 : A9) (h : I a1 a2 a3 a4 a5 a6 a7 a8 a9) : ∃ n, W n a1 a2 a3 a4 a5 a6 a7 a8 a9 :=
  loop_m (σ := A1 × A2 × A3 × A4 × A5 × A6 × A7 × A8 × A9) (fun n s => W n s.1 s.2.1 s.2.2.1 s.2.2.2.1 s.2.2.2.2.1 s.2.2.2.2.2.1 s.2.2.2.2.2.2.1 s.2.2.2.2.2.2.2.1 s.2.2.2.2.2.2.2.2) (fun s => I s.1 s.2.1 s.2.2.1 s.2.2.2.1 s.2.2.2.2.1 s.2.2.2.2.2.1 s.2.2.2.2.2.2.1 s.2.2.2.2.2.2.2.1 s.2.2.2.2.2.2.2.2) (fun s => μ s.1 s.2.1 s.2.2.1 s.2.2.2.1 s.2.2.2.2.1 s.2.2.2.2.2.1 s.2.2.2.2.2.2.1 s.2.2.2.2.2.2.2.1 s.2.2.2.2.2.2.2.2) (fun n s hI hk => hs n s.1 s.2.1 s.2.2.1 s.2.2.2.1 s.2.2.2.2.1 s.2.2.2.2.2.1 s.2.2.2.2.2.2.1 s.2.2.2.2.2.2.2.1 s.2.2.2.2.2.2.2.2 hI (fun b1 b2 b3 b4 b5 b6 b7 b8 b9 h9 hm => hk (b1, b2, b3, b4, b5, b6, b7, b8, b9) h9 hm)) (a1, a2, a3, a4, a5, a6, a7, a8, a9) h
theorem lp10 {A1 A2 A3 A4 A5 A6 A7 A8 A9 A10 : Type} (W : Nat → A1 → A2 → A3 → A4 → A5 → A6 → A7 → A8 → A9 → A10 → Prop) (I : A1 → A2 → A3 → A4 → A5 → A6 → A7 → A8 → A9 → A10 → Prop) (μ : A1 → A2 → A3 → A4 → A5 → A6 → A7 → A8 → A9 → A10 → Nat) (hs : ∀ (n : Nat) (a1 : A1) (a2 : A2) (a3 : A3) (a4 : A4) (a5 : A5) (a6 : A6) (a7 : A7) (a8 : A8) (a9 : A9) (a10 : A10), I a1 a2 a3 a4 a5 a6 a7 a8 a9 a10 → (∀ (b1 : A1) (b2 : A2) (b3 : A3) (b4 : A4) (b5 : A5) (b6 : A6) (b7 : A7) (b8 : A8) (b9 : A9) (b10 : A10), I b1 b2 b3 b4 b5 b6 b7 b8 b9 b10 → μ b1 b2 b3 b4 b5 b6 b7 b8 b9 b10 < μ a1 a2 a3 a4 a5 a6 a7 a8 a9 a10 → W n b1 b2 b3 b4 b5 b6 b7 b8 b9 b10) → W (n + 1) a1 a2 a3 a4 a5 a6 a7 a8 a9 a10) (a1 : A1) (a2 : A2) (a3 : A3) (a4 : A4) (a5 : A5) (a6 : A6) (a7 : A7) (a8 : A8) (a9 : A9) (a10 : A10) (h : I a1 a2 a3 a4 a5 a6 a7 a8 a9 a10) : ∃ n, W n a1 a2 a3 a4 a5 a6 a7 a8 a9 a10 :=
  loop_m (σ := A1 × A2 × A3 × A4 × A5 × A6 × A7 × A8 × A9 × A10) (fun n s => W n s.1 s.2.1 s.2.2.1 s.2.2.2.1 s.2.2.2.2.1 s.2.2.2.2.2.1 s.2.2.2.2.2.2.1 s.2.2.2.2.2.2.2.1 s.2.2.2.2.2.2.2.2.1 s.2.2.2.2.2.2.2.2.2) (fun s => I s.1 s.2.1 s.2.2.1 s.2.2.2.1 s.2.2.2.2.1 s.2.2.2.2.2.1 s.2.2.2.2.2.2.1 s.2.2.2.2.2.2.2.1 s.2.2.2.2.2.2.2.2.1 s.2.2.2.2.2.2.2.2.2) (fun s => μ s.1 s.2.1 s.2.2.1 s.2.2.2.1 s.2.2.2.2.1 s.2.2.2.2.2.1 s.2.2.2.2.2.2.1 s.2.2.2.2.2.2.2.1 s.2.2.2.2.2.2.2.2.1 s.2.2.2.2.2.2.2.2.2) (fun n s hI hk => hs n s.1 s.2.1 s.2.2.1 s.2.2.2.1 s.2.2.2.2.1 s.2.2.2.2.2.1 s.2.2.2.2.2.2.1 s.2.2.2.2.2.2.2.1 s.2.2.2.2.2.2.2.2.1 s.2.2.2.2.2.2.2.2.2 hI (fun b1 b2 b3 b4 b5 b6 b7 b8 b9 b10 h9 hm => hk (b1, b2, b3, b4, b5, b6, b7, b8, b9, b10) h9 hm)) (a1, a2, a3, a4, a5, a6, a7, a8, a9, a10) h
theorem lp11 {A1 A2 A3 A4 A5 A6 A7 A8 A9 A10 A11 : Type} (W : Nat → A1 → A2 → A3 → A4 → A5 → A6 → A7 → A8 → A9 → A10 → A11 → Prop) (I : A1 → A2 → A3 → A4 → A5 → A6 → A7 → A8 → A9 → A10 → A11 → Prop) (μ : A1 → A2 → A3 → A4 → A5 → A6 → A7 → A8 → A9 → A10 → A11 → Nat) (hs : ∀ (n : Nat) (a1 : A1) (a2 : A2) (a3 : A3) (a4 : A4) (a5 : A5) (a6 : A6) (a7 : A7) (a8 : A8) (a9 : A9) (a10 : A10) (a11 : A11), I a1 a2 a3 a4 a5 a6 a7 a8 a9 a10 a11 → (∀ (b1 : A1) (b2 : A2) (b3 : A3) (b4 : A4) (b5 : A5) (b6 : A6) (b7 : A7) (b8 : A8) (b9 : A9) (b10 : A10) (b11 : A11), I b1 b2 b3 b4 b5 b6 b7 b8 b9 b10 b11 → μ b1 b2 b3 b4 b5 b6 b7 b8 b9 b10 b11 < μ a1 a2 a3 a4 a5 a6 a7 a8 a9 a10 a11 → W n b1 b2 b3 b4 b5 b6 b7 b8 b9 b10 b11) → W (n + 1) a1 a2 a3 a4 a5 a6 a7 a8 a9 a10 a11) (a1 : A1) (a2 : A2) (a3 : A3) (a4 : A4) (a5 : A5) (a6 : A6) (a7 : A7) (a8 : A8) (a9 : A9) (a10 : A10) (a11 : A11) (h : I a1 a2 a3 a4 a5 a6 a7 a8 a9 a10 a11) : ∃ n, W n a1 a2 a3 a4 a5 a6 a7 a8 a9 a10 a11 :=
  loop_m (σ := A1 × A2 × A3 × A4 × A5 × A6 × A7 × A8 × A9 × A10 × A11) (fun n s => W n s.1 s.2.1 s.2.2.1 s.2.2.2.1 s.2.2.2.2.1 s.2.2.2.2.2.1 s.2.2.2.2.2.2.1 s.2.2.2.2.2.2.2.1 s.2.2.2.2.2.2.2.2.1 s.2.2.2.2.2.2.2.2.2.1 s.2.2.2.2.2.2.2.2.2.2) (fun s => I s.1 s.2.1 s.2.2.1 s.2.2.2.1 s.2.2.2.2.1 s.2.2.2.2.2.1 s.2.2.2.2.2.2.1 s.2.2.2.2.2.2.2.1 s.2.2.2.2.2.2.2.2.1 s.2.2.2.2.2.2.2.2.2.1 s.2.2.2.2.2.2.2.2.2.2) (fun s => μ s.1 s.2.1 s.2.2.1 s.2.2.2.1 s.2.2.2.2.1 s.2.2.2.2.2.1 s.2.2.2.2.2.2.1 s.2.2.2.2.2.2.2.1 s.2.2.2.2.2.2.2.2.1 s.2.2.2.2.2.2.2.2.2.1 s.2.2.2.2.2.2.2.2.2.2) (fun n s hI hk => hs n s.1 s.2.1 s.2.2.1 s.2.2.2.1 s.2.2.2.2.1 s.2.2.2.2.2.1 s.2.2.2.2.2.2.1 s.2.2.2.2.2.2.2.1 s.2.2.2.2.2.2.2.2.1 s.2.2.2.2.2.2.2.2.2.1 s.2.2.2.2.2.2.2.2.2.2 hI (fun b1 b2 b3 b4 b5 b6 b7 b8 b9 b10 b11 h9 hm => hk (b1, b2, b3, b4, b5, b6, b7, b8, b9, b10, b11) h9 hm)) (a1, a2, a3, a4, a5, a6, a7, a8, a9, a10, a11) h
theorem lp12 {A1 A2 A3 A4 A5 A6 A7 A8 A9 A10 A11 A12 : Type} (W : Nat → A1 → A2 → A3 → A4 → A5 → A6 → A7 → A8 → A9 → A10 → A11 → A12 → Prop) (I : A1 → A2 → A3 → A4 → A5 → A6 → A7 → A8 → A9 → A10 → A11 → A12 → Prop) (μ : A1 → A2 → A3 → A4 → A5 → A6 → A7 → A8 → A9 → A10 → A11 → A12 → Nat) (hs : ∀ (n : Nat) (a1 : A1) (a2 : A2) (a3 : A3) (a4 : A4) (a5 : A5) (a6 : A6) (a7 : A7) (a8 : A8) (a9 : A9) (a10 : A10) (a11 : A11) (a12 : A12), I a1 a2 a3 a4 a5 a6 a7 a8 a9 a10 a11 a12 → (∀ (b1 : A1) (b2 : A2) (b3 : A3) (b4 : A4) (b5 : A5) (b6 : A6) (b7 : A7) (b8 : A8) (b9 : A9) (b10 : A10) (b11 : A11) (b12 : A12), I b1 b2 b3 b4 b5 b6 b7 b8 b9 b10 b11 b12 → μ b1 b2 b3 b4 b5 b6 b7 b8 b9 b10 b11 b12 < μ a1 a2 a3 a4 a5 a6 a7 a8 a9 a10 a11 a12 → W n b1 b2 b3 b4 b5 b6 b7 b8 b9 b10 b11 b12) → W (n + 1) a1 a2 a3 a4 a5 a6 a7 a8 a9 a10 a11 a12) (a1 : A1) (a2 : A2) (a3 : A3) (a4 : A4) (a5 : A5) (a6 : A6) (a7 : A7) (a8 : A8) (a9 : A9) (a10 : A10) (a11 : A11) (a12 : A12) (h : I a1 a2 a3 a4 a5 a6 a7 a8 a9 a10 a11 a12) : ∃ n, W n a1 a2 a3 a4 a5 a6 a7 a8 a9 a10 a11 a12 :=
  loop_m (σ := A1 × A2 × A3 × A4 × A5 × A6 × A7 × A8 × A9 × A10 × A11 × A12) (fun n s => W n s.1 s.2.1 s.2.2.1 s.2.2.2.1 s.2.2.2.2.1 s.2.2.2.2.2.1 s.2.2.2.2.2.2.1 s.2.2.2.2.2.2.2.1 s.2.2.2.2.2.2.2.2.1 s.2.2.2.2.2.2.2.2.2.1 s.2.2.2.2.2.2.2.2.2.2.1 s.2.2.2.2.2.2.2.2.2.2.2) (fun s => I s.1 s.2.1 s.2.2.1 s.2.2.2.1 s.2.2.2.2.1 s.2.2.2.2.2.1 s.2.2.2.2.2.2.1 s.2.2.2.2.2.2.2.1 s.2.2.2.2.2.2.2.2.1 s.2.2.2.2.2.2.2.2.2.1 s.2.2.2.2.2.2.2.2.2.2.1 s.2.2.2.2.2.2.2.2.2.2.2) (fun s => μ s.1 s.2.1 s.2.2.1 s.2.2.2.1 s.2.2.2.2.1 s.2.2.2.2.2.1 s.2.2.2.2.2.2.1 s.2.2.2.2.2.2.2.1 s.2.2.2.2.2.2.2.2.1 s.2.2.2.2.2.2.2.2.2.1 s.2.2.2.2.2.2.2.2.2.2.1 s.2.2.2.2.2.2.2.2.2.2.2) (fun n s hI hk => hs n s.1 s.2.1 s.2.2.1 s.2.2.2.1 s.2.2.2.2.1 s.2.2.2.2.2.1 s.2.2.2.2.2.2.1 s.2.2.2.2.2.2.2.1 s.2.2.2.2.2.2.2.2.1 s.2.2.2.2.2.2.2.2.2.1 s.2.2.2.2.2.2.2.2.2.2.1 s.2.2.2.2.2.2.2.2.2.2.2 hI (fun b1 b2 b3 b4 b5 b6 b7 b8 b9 b10 b11 b12 h9 hm => hk (b1, b2, b3, b4, b5, b6, b7, b8, b9, b10, b11, b12) h9 hm)) (a1, a2, a3, a4, a5, a6, a7, a8, a9, a10, a11, a12) h
theorem lp13 {A1 A2 A3 A4 A5 A6 A7 A8 A9 A10 A11 A12 A13 : Type} (W : Nat → A1 → A2 → A3 → A4 → A5 → A6 → A7 → A8 → A9 → A10 → A11 → A12 → A13 → Prop) (I : A1 → A2 → A3 → A4 → A5 → A6 → A7 → A8 → A9 → A10 → A11 → A12 → A13 → Prop) (μ : A1 → A2 → A3 → A4 → A5 → A6 → A7 → A8 → A9 → A10 → A11 → A12 → A13 → Nat) (hs : ∀ (n : Nat) (a1 : A1) (a2 : A2) (a3 : A3) (a4 : A4) (a5 : A5) (a6 : A6) (a7 : A7) (a8 : A8) (a9 : A9) (a10 : A10) (a11 : A11) (a12 : A12) (a13 : A13), I a1 a2 a3 a4 a5 a6 a7 a8 a9 a10 a11 a12 a13 → (∀ (b1 : A1) (b2 : A2) (b3 : A3) (b4 : A4) (b5 : A5) (b6 : A6) (b7 : A7) (b8 : A8) (b9 : A9) (b10 : A10) (b11 : A11) (b12 : A12) (b13 : A13), I b1 b2 b3 b4 b5 b6 b7 b8 b9 b10 b11 b12 b13 → μ b1 b2 b3 b4 b5 b6 b7 b8 b9 b10 b11 b12 b13 < μ a1 a2 a3 a4 a5 a6 a7 a8 a9 a10 a11 a12 a13 → W n b1 b2 b3 b4 b5 b6 b7 b8 b9 b10 b11 b12 b13) → W (n + 1) a1 a2 a3 a4 a5 a6 a7 a8 a9 a10 a11 a12 a13) (a1 : A1) (a2 : A2) (a3 : A3) (a4 : A4) (a5 : A5) (a6 : A6) (a7 : A7) (a8 : A8) (a9 : A9) (a10 : A10) (a11 : A11) (a12 : A12) (a13 : A13) (h : I a1 a2 a3 a4 a5 a6 a7 a8 a9 a10 a11 a12 a13) : ∃ n, W n a1 a2 a3 a4 a5 a6 a7 a8 a9 a10 a11 a12 a13 :=
  loop_m (σ := A1 × A2 × A3 × A4 × A5 × A6 × A7 × A8 × A9 × A10 × A11 × A12 × A13) (fun n s => W n s.1 s.2.1 s.2.2.1 s.2.2.2.1 s.2.2.2.2.1 s.2.2.2.2.2.1 s.2.2.2.2.2.2.1 s.2.2.2.2.2.2.2.1 s.2.2.2.2.2.2.2.2.1 s.2.2.2.2.2.2.2.2.2.1 s.2.2.2.2.2.2.2.2.2.2.1 s.2.2.2.2.2.2.2.2.2.2.2.1 s.2.2.2.2.2.2.2.2.2.2.2.2) (fun s => I s.1 s.2.1 s.2.2.1 s.2.2.2.1 s.2.2.2.2.1 s.2.2.2.2.2.1 s.2.2.2.2.2.2.1 s.2.2.2.2.2.2.2.1 s.2.2.2.2.2.2.2.2.1 s.2.2.2.2.2.2.2.2.2.1 s.2.2.2.2.2.2.2.2.2.2.1 s.2.2.2.2.2.2.2.2.2.2.2.1 s.2.2.2.2.2.2.2.2.2.2.2.2) (fun s => μ s.1 s.2.1 s.2.2.1 s.2.2.2.1 s.2.2.2.2.1 s.2.2.2.2.2.1 s.2.2.2.2.2.2.1 s.2.2.2.2.2.2.2.1 s.2.2.2.2.2.2.2.2.1 s.2.2.2.2.2.2.2.2.2.1 s.2.2.2.2.2.2.2.2.2.2.1 s.2.2.2.2.2.2.2.2.2.2.2.1 s.2.2.2.2.2.2.2.2.2.2.2.2) (fun n s hI hk => hs n s.1 s.2.1 s.2.2.1 s.2.2.2.1 s.2.2.2.2.1 s.2.2.2.2.2.1 s.2.2.2.2.2.2.1 s.2.2.2.2.2.2.2.1 s.2.2.2.2.2.2.2.2.1 s.2.2.2.2.2.2.2.2.2.1 s.2.2.2.2.2.2.2.2.2.2.1 s.2.2.2.2.2.2.2.2.2.2.2.1 s.2.2.2.2.2.2.2.2.2.2.2.2 hI (fun b1 b2 b3 b4 b5 b6 b7 b8 b9 b10 b11 b12 b13 h9 hm => hk (b1, b2, b3, b4, b5, b6, b7, b8, b9, b10, b11, b12, b13) h9 hm)) (a1, a2, a3, a4, a5, a6, a7, a8, a9, a10, a11, a12, a13) h
theorem lp14 {A1 A2 A3 A4 A5 A6 A7 A8 A9 A10 A11 A12 A13 A14 : Type} (W : Nat → A1 → A2 → A3 → A4 → A5 → A6 → A7 → A8 → A9 → A10 → A11 → A12 → A13 → A14 → Prop) (I : A1 → A2 → A3 → A4 → A5 → A6 → A7 → A8 → A9 → A10 → A11 → A12 → A13 → A14 → Prop) (μ : A1 → A2 → A3 → A4 → A5 → A6 → A7 → A8 → A9 → A10 → A11 → A12 → A13 → A14 → Nat) (hs : ∀ (n : Nat) (a1 : A1) (a2 : A2) (a3 : A3) (a4 : A4) (a5 : A5) (a6 : A6) (a7 : A7) (a8 : A8) (a9 : A9) (a10 : A10) (a11 : A11) (a12 : A12) (a13 : A13) (a14 : A14), I a1 a2 a3 a4 a5 a6 a7 a8 a9 a10 a11 a12 a13 a14 → (∀ (b1 : A1) (b2 : A2) (b3 : A3) (b4 : A4) (b5 : A5) (b6 : A6) (b7 : A7) (b8 : A8) (b9 : A9) (b10 : A10) (b11 : A11) (b12 : A12) (b13 : A13) (b14 : A14), I b1 b2 b3 b4 b5 b6 b7 b8 b9 b10 b11 b12 b13 b14 → μ b1 b2 b3 b4 b5 b6 b7 b8 b9 b10 b11 b12 b13 b14 < μ a1 a2 a3 a4 a5 a6 a7 a8 a9 a10 a11 a12 a13 a14 → W n b1 b2 b3 b4 b5 b6 b7 b8 b9 b10 b11 b12 b13 b14) → W (n + 1) a1 a2 a3 a4 a5 a6 a7 a8 a9 a10 a11 a12 a13 a14) (a1 : A1) (a2 : A2) (a3 : A3) (a4 : A4) (a5 : A5) (a6 : A6) (a7 : A7) (a8 : A8) (a9 : A9) (a10 : A10) (a11 : A11) (a12 : A12) (a13 : A13) (a14 : A14) (h : I a1 a2 a3 a4 a5 a6 a7 a8 a9 a10 a11 a12 a13 a14) : ∃ n, W n a1 a2 a3 a4 a5 a6 a7 a8 a9 a10 a11 a12 a13 a14 :=
  loop_m (σ := A1 × A2 × A3 × A4 × A5 × A6 × A7 × A8 × A9 × A10 × A11 × A12 × A13 × A14) (fun n s => W n s.1 s.2.1 s.2.2.1 s.2.2.2.1 s.2.2.2.2.1 s.2.2.2.2.2.1 s.2.2.2.2.2.2.1 s.2.2.2.2.2.2.2.1 s.2.2.2.2.2.2.2.2.1 s.2.2.2.2.2.2.2.2.2.1 s.2.2.2.2.2.2.2.2.2.2.1 s.2.2.2.2.2.2.2.2.2.2.2.1 s.2.2.2.2.2.2.2.2.2.2.2.2.1 s.2.2.2.2.2.2.2.2.2.2.2.2.2) (fun s => I s.1 s.2.1 s.2.2.1 s.2.2.2.1 s.2.2.2.2.1 s.2.2.2.2.2.1 s.2.2.2.2.2.2.1 s.2.2.2.2.2.2.2.1 s.2.2.2.2.2.2.2.2.1 s.2.2.2.2.2.2.2.2.2.1 s.2.2.2.2.2.2.2.2.2.2.1 s.2.2.2.2.2.2.2.2.2.2.2.1 s.2.2.2.2.2.2.2.2.2.2.2.2.1 s.2.2.2.2.2.2.2.2.2.2.2.2.2) (fun s => μ s.1 s.2.1 s.2.2.1 s.2.2.2.1 s.2.2.2.2.1 s.2.2.2.2.2.1 s.2.2.2.2.2.2.1 s.2.2.2.2.2.2.2.1 s.2.2.2.2.2.2.2.2.1 s.2.2.2.2.2.2.2.2.2.1 s.2.2.2.2.2.2.2.2.2.2.1 s.2.2.2.2.2.2.2.2.2.2.2.1 s.2.2.2.2.2.2.2.2.2.2.2.2.1 s.2.2.2.2.2.2.2.2.2.2.2.2.2) (fun n s hI hk => hs n s.1 s.2.1 s.2.2.1 s.2.2.2.1 s.2.2.2.2.1 s.2.2.2.2.2.1 s.2.2.2.2.2.2.1 s.2.2.2.2.2.2.2.1 s.2.2.2.2.2.2.2.2.1 s.2.2.2.2.2.2.2.2.2.1 s.2.2.2.2.2.2.2.2.2.2.1 s.2.2.2.2.2.2.2.2.2.2.2.1 s.2.2.2.2.2.2.2.2.2.2.2.2.1 s.2.2.2.2.2.2.2.2.2.2.2.2.2 hI (fun b1 b2 b3 b4 b5 b6 b7 b8 b9 b10 b11 b12 b13 b14 h9 hm => hk (b1, b2, b3, b4, b5, b6, b7, b8, b9, b10, b11, b12, b13, b14) h9 hm)) (a1, a2, a3, a4, a5, a6, a7, a8, a9, a10, a11, a12, a13, a14) h
theorem lp15 {A1 A2 A3 A4 A5 A6 A7 A8 A9 A10 A11 A12 A13 A14 A15 : Type} (W : Nat → A1 → A2 → A3 → A4 → A5 → A6 → A7 → A8 → A9 → A10 → A11 → A12 → A13 → A14 → A15 → Prop) (I : A1 → A2 → A3 → A4 → A5 → A6 → A7 → A8 → A9 → A10 → A11 → A12 → A13 → A14 → A15 → Prop) (μ : A1 → A2 → A3 → A4 → A5 → A6 → A7 → A8 → A9 → A10 → A11 → A12 → A13 → A14 → A15 → Nat) (hs : ∀ (n : Nat) (a1 : A1) (a2 : A2) (a3 : A3) (a4 : A4) (a5 : A5) (a6 : A6) (a7 : A7) (a8 : A8) (a9 : A9) (a10 : A10) (a11 : A11) (a12 : A12) (a13 : A13) (a14 : A14) (a15 : A15), I a1 a2 a3 a4 a5 a6 a7 a8 a9 a10 a11 a12 a13 a14 a15 → (∀ (b1 : A1) (b2 : A2) (b3 : A3) (b4 : A4) (b5 : A5) (b6 : A6) (b7 : A7) (b8 : A8) (b9 : A9) (b10 : A10) (b11 : A11) (b12 : A12) (b13 : A13) (b14 : A14) (b15 : A15), I b1 b2 b3 b4 b5 b6 b7 b8 b9 b10 b11 b12 b13 b14 b15 → μ b1 b2 b3 b4 b5 b6 b7 b8 b9 b10 b11 b12 b13 b14 b15 < μ a1 a2 a3 a4 a5 a6 a7 a8 a9 a10 a11 a12 a13 a14 a15 → W n b1 b2 b3 b4 b5 b6 b7 b8 b9 b10 b11 b12 b13 b14 b15) → W (n + 1) a1 a2 a3 a4 a5 a6 a7 a8 a9 a10 a11 a12 a13 a14 a15) (a1 : A1) (a2 : A2) (a3 : A3) (a4 : A4) (a5 : A5) (a6 : A6) (a7 : A7) (a8 : A8) (a9 : A9) (a10 : A10) (a11 : A11) (a12 : A12) (a13 : A13) (a14 : A14) (a15 : A15) (h : I a1 a2 a3 a4 a5 a6 a7 a8 a9 a10 a11 a12 a13 a14 a15) : ∃ n, W n a1 a2 a3 a4 a5 a6 a7 a8 a9 a10 a11 a12 a13 a14 a15 :=
  loop_m (σ := A1 × A2 × A3 × A4 × A5 × A6 × A7 × A8 × A9 × A10 × A11 × A12 × A13 × A14 × A15) (fun n s => W n s.1 s.2.1 s.2.2.1 s.2.2.2.1 s.2.2.2.2.1 s.2.2.2.2.2.1 s.2.2.2.2.2.2.1 s.2.2.2.2.2.2.2.1 s.2.2.2.2.2.2.2.2.1 s.2.2.2.2.2.2.2.2.2.1 s.2.2.2.2.2.2.2.2.2.2.1 s.2.2.2.2.2.2.2.2.2.2.2.1 s.2.2.2.2.2.2.2.2.2.2.2.2.1 s.2.2.2.2.2.2.2.2.2.2.2.2.2.1 s.2.2.2.2.2.2.2.2.2.2.2.2.2.2) (fun s => I s.1 s.2.1 s.2.2.1 s.2.2.2.1 s.2.2.2.2.1 s.2.2.2.2.2.1 s.2.2.2.2.2.2.1 s.2.2.2.2.2.2.2.1 s.2.2.2.2.2.2.2.2.1 s.2.2.2.2.2.2.2.2.2.1 s.2.2.2.2.2.2.2.2.2.2.1 s.2.2.2.2.2.2.2.2.2.2.2.1 s.2.2.2.2.2.2.2.2.2.2.2.2.1 s.2.2.2.2.2.2.2.2.2.2.2.2.2.1 s.2.2.2.2.2.2.2.2.2.2.2.2.2.2) (fun s => μ s.1 s.2.1 s.2.2.1 s.2.2.2.1 s.2.2.2.2.1 s.2.2.2.2.2.1 s.2.2.2.2.2.2.1 s.2.2.2.2.2.2.2.1 s.2.2.2.2.2.2.2.2.1 s.2.2.2.2.2.2.2.2.2.1 s.2.2.2.2.2.2.2.2.2.2.1 s.2.2.2.2.2.2.2.2.2.2.2.1 s.2.2.2.2.2.2.2.2.2.2.2.2.1 s.2.2.2.2.2.2.2.2.2.2.2.2.2.1 s.2.2.2.2.2.2.2.2.2.2.2.2.2.2) (fun n s hI hk => hs n s.1 s.2.1 s.2.2.1 s.2.2.2.1 s.2.2.2.2.1 s.2.2.2.2.2.1 s.2.2.2.2.2.2.1 s.2.2.2.2.2.2.2.1 s.2.2.2.2.2.2.2.2.1 s.2.2.2.2.2.2.2.2.2.1 s.2.2.2.2.2.2.2.2.2.2.1 s.2.2.2.2.2.2.2.2.2.2.2.1 s.2.2.2.2.2.2.2.2.2.2.2.2.1 s.2.2.2.2.2.2.2.2.2.2.2.2.2.1 s.2.2.2.2.2.2.2.2.2.2.2.2.2.2 hI (fun b1 b2 b3 b4 b5 b6 b7 b8 b9 b10 b11 b12 b13 b14 b15 h9 hm => hk (b1, b2, b3, b4, b5, b6, b7, b8, b9, b10, b11, b12, b13, b14, b15) h9 hm)) (a1, a2, a3, a4, a5, a6, a7, a8, a9, a10, a11, a12, a13, a14, a15) h
theorem lp16 {A1 A2 A3 A4 A5 A6 A7 A8 A9 A10 A11 A12 A13 A14 A15 A16 : Type} (W : Nat → A1 → A2 → A3 → A4 → A5 → A6 → A7 → A8 → A9 → A10 → A11 → A12 → A13 → A14 → A15 → A16 → Prop) (I : A1 → A2 → A3 → A4 → A5 → A6 → A7 → A8 → A9 → A10 → A11 → A12 → A13 → A14 → A15 → A16 → Prop) (μ : A1 → A2 → A3 → A4 → A5 → A6 → A7 → A8 → A9 → A10 → A11 → A12 → A13 → A14 → A15 → A16 → Nat) (hs : ∀ (n : Nat) (a1 : A1) (a2 : A2) (a3 : A3) (a4 : A4) (a5 : A5) (a6 : A6) (a7 : A7) (a8 : A8) (a9 : A9) (a10 : A10) (a11 : A11) (a12 : A12) (a13 : A13) (a14 : A14) (a15 : A15) (a16 : A16), I a1 a2 a3 a4 a5 a6 a7 a8 a9 a10 a11 a12 a13 a14 a15 a16 → (∀ (b1 : A1) (b2 : A2) (b3 : A3) (b4 : A4) (b5 : A5) (b6 : A6) (b7 : A7) (b8 : A8) (b9 : A9) (b10 : A10) (b11 : A11) (b12 : A12) (b13 : A13) (b14 : A14) (b15 : A15) (b16 : A16), I b1 b2 b3 b4 b5 b6 b7 b8 b9 b10 b11 b12 b13 b14 b15 b16 → μ b1 b2 b3 b4 b5 b6 b7 b8 b9 b10 b11 b12 b13 b14 b15 b16 < μ a1 a2 a3 a4 a5 a6 a7 a8 a9 a10 a11 a12 a13 a14 a15 a16 → W n b1 b2 b3 b4 b5 b6 b7 b8 b9 b10 b11 b12 b13 b14 b15 b16) → W (n + 1) a1 a2 a3 a4 a5 a6 a7 a8 a9 a10 a11 a12 a13 a14 a15 a16) (a1 : A1) (a2 : A2) (a3 : A3) (a4 : A4) (a5 : A5) (a6 : A6) (a7 : A7) (a8 : A8) (a9 : A9) (a10 : A10) (a11 : A11) (a12 : A12) (a13 : A13) (a14 : A14) (a15 : A15) (a16 : A16) (h : I a1 a2 a3 a4 a5 a6 a7 a8 a9 a10 a11 a12 a13 a14 a15 a16) : ∃ n, W n a1 a2 a3 a4 a5 a6 a7 a8 a9 a10 a11 a12 a13 a14 a15 a16 :=
  loop_m (σ := A1 × A2 × A3 × A4 × A5 × A6 × A7 × A8 × A9 × A10 × A11 × A12 × A13 × A14 × A15 × A16) (fun n s => W n s.1 s.2.1 s.2.2.1 s.2.2.2.1 s.2.2.2.2.1 s.2.2.2.2.2.1 s.2.2.2.2.2.2.1 s.2.2.2.2.2.2.2.1 s.2.2.2.2.2.2.2.2.1 s.2.2.2.2.2.2.2.2.2.1 s.2.2.2.2.2.2.2.2.2.2.1 s.2.2.2.2.2.2.2.2.2.2.2.1 s.2.2.2.2.2.2.2.2.2.2.2.2.1 s.2.2.2.2.2.2.2.2.2.2.2.2.2.1 s.2.2.2.2.2.2.2.2.2.2.2.2.2.2.1 s.2.2.2.2.2.2.2.2.2.2.2.2.2.2.2) (fun s => I s.1 s.2.1 s.2.2.1 s.2.2.2.1 s.2.2.2.2.1 s.2.2.2.2.2.1 s.2.2.2.2.2.2.1 s.2.2.2.2.2.2.2.1 s.2.2.2.2.2.2.2.2.1 s.2.2.2.2.2.2.2.2.2.1 s.2.2.2.2.2.2.2.2.2.2.1 s.2.2.2.2.2.2.2.2.2.2.2.1 s.2.2.2.2.2.2.2.2.2.2.2.2.1 s.2.2.2.2.2.2.2.2.2.2.2.2.2.1 s.2.2.2.2.2.2.2.2.2.2.2.2.2.2.1 s.2.2.2.2.2.2.2.2.2.2.2.2.2.2.2) (fun s => μ s.1 s.2.1 s.2.2.1 s.2.2.2.1 s.2.2.2.2.1 s.2.2.2.2.2.1 s.2.2.2.2.2.2.1 s.2.2.2.2.2.2.2.1 s.2.2.2.2.2.2.2.2.1 s.2.2.2.2.2.2.2.2.2.1 s.2.2.2.2.2.2.2.2.2.2.1 s.2.2.2.2.2.2.2.2.2.2.2.1 s.2.2.2.2.2.2.2.2.2.2.2.2.1 s.2.2.2.2.2.2.2.2.2.2.2.2.2.1 s.2.2.2.2.2.2.2.2.2.2.2.2.2.2.1 s.2.2.2.2.2.2.2.2.2.2.2.2.2.2.2) (fun n s hI hk => hs n s.1 s.2.1 s.2.2.1 s.2.2.2.1 s.2.2.2.2.1 s.2.2.2.2.2.1 s.2.2.2.2.2.2.1 s.2.2.2.2.2.2.2.1 s.2.2.2.2.2.2.2.2.1 s.2.2.2.2.2.2.2.2.2.1 s.2.2.2.2.2.2.2.2.2.2.1 s.2.2.2.2.2.2.2.2.2.2.2.1 s.2.2.2.2.2.2.2.2.2.2.2.2.1 s.2.2.2.2.2.2.2.2.2.2.2.2.2.1 s.2.2.2.2.2.2.2.2.2.2.2.2.2.2.1 s.2.2.2.2.2.2.2.2.2.2.2.2.2.2.2 hI (fun b1 b2 b3 b4 b5 b6 b7 b8 b9 b10 b11 b12 b13 b14 b15 b16 h9 hm => hk (b1, b2, b3, b4, b5, b6, b7, b8, b9, b10, b11, b12, b13, b14, b15, b16) h9 hm)) (a1, a2, a3, a4, a5, a6, a7, a8, a9, a10, a11, a12, a13, a14, a15, a16) h
theorem pk_least (P : Nat → Prop) (h : ∃ k, P k) : ∃ k, P k ∧ ∀ j, j < k → ¬ P j := by
  obtain ⟨k, hk⟩ := h
  induction k using Nat.strongRecOn with
  | ind k ih =>
    by_cases e : ∃ j, j < k ∧ P j
    · obtain ⟨j, hj, pj⟩ := e
      exact ih j hj pj
    · exact ⟨k, hk, fun j hj pj => e ⟨j, hj, pj⟩⟩
theorem rp1 {ρ A1 : Type} (W : Nat → (ρ → Prop) → A1 → Prop) (ok : A1 → Prop) (μ : A1 → Nat) (val : A1 → ρ)
    (hs : ∀ (d : Nat) (post : ρ → Prop) (a1 : A1), ok a1 → post (val a1) → (∀ (post' : ρ → Prop) (b1 : A1), ok b1 → μ b1 < μ a1 → post' (val b1) → W d post' b1) → W (d + 1) post a1) :
    ∀ (d : Nat) (post : ρ → Prop) (a1 : A1), ok a1 → μ a1 < d → post (val a1) → W d post a1 := by
  intro d
  induction d with
  | zero => intro post a1 _ h; omega
  | succ d ih =>
    intro post a1 ho hm hp
    exact hs d post a1 ho hp (fun post' b1 ho' hm' hp' => ih post' b1 ho' (by omega) hp')
theorem rp2 {ρ A1 A2 : Type} (W : Nat → (ρ → Prop) → A1 → A2 → Prop) (ok : A1 → A2 → Prop) (μ : A1 → A2 → Nat) (val : A1 → A2 → ρ)
    (hs : ∀ (d : Nat) (post : ρ → Prop) (a1 : A1) (a2 : A2), ok a1 a2 → post (val a1 a2) → (∀ (post' : ρ → Prop) (b1 : A1) (b2 : A2), ok b1 b2 → μ b1 b2 < μ a1 a2 → post' (val b1 b2) → W d post' b1 b2) → W (d + 1) post a1 a2) :
    ∀ (d : Nat) (post : ρ → Prop) (a1 : A1) (a2 : A2), ok a1 a2 → μ a1 a2 < d → post (val a1 a2) → W d post a1 a2 := by
  intro d
  induction d with
  | zero => intro post a1 a2 _ h; omega
  | succ d ih =>
    intro post a1 a2 ho hm hp
    exact hs d post a1 a2 ho hp (fun post' b1 b2 ho' hm' hp' => ih post' b1 b2 ho' (by omega) hp')
theorem rp3 {ρ A1 A2 A3 : Type} (W : Nat → (ρ → Prop) → A1 → A2 → A3 → Prop) (ok : A1 → A2 → A3 → Prop) (μ : A1 → A2 → A3 → Nat) (val : A1 → A2 → A3 → ρ)
    (hs : ∀ (d : Nat) (post : ρ → Prop) (a1 : A1) (a2 : A2) (a3 : A3), ok a1 a2 a3 → post (val a1 a2 a3) → (∀ (post' : ρ → Prop) (b1 : A1) (b2 : A2) (b3 : A3), ok b1 b2 b3 → μ b1 b2 b3 < μ a1 a2 a3 → post' (val b1 b2 b3) → W d post' b1 b2 b3) → W (d + 1) post a1 a2 a3) :
    ∀ (d : Nat) (post : ρ → Prop) (a1 : A1) (a2 : A2) (a3 : A3), ok a1 a2 a3 → μ a1 a2 a3 < d → post (val a1 a2 a3) → W d post a1 a2 a3 := by
  intro d
  induction d with
  | zero => intro post a1 a2 a3 _ h; omega
  | succ d ih =>
    intro post a1 a2 a3 ho hm hp
    exact hs d post a1 a2 a3 ho hp (fun post' b1 b2 b3 ho' hm' hp' => ih post' b1 b2 b3 ho' (by omega) hp')
theorem rp4 {ρ A1 A2 A3 A4 : Type} (W : Nat → (ρ → Prop) → A1 → A2 → A3 → A4 → Prop) (ok : A1 → A2 → A3 → A4 → Prop) (μ : A1 → A2 → A3 → A4 → Nat) (val : A1 → A2 → A3 → A4 → ρ)
    (hs : ∀ (d : Nat) (post : ρ → Prop) (a1 : A1) (a2 : A2) (a3 : A3) (a4 : A4), ok a1 a2 a3 a4 → post (val a1 a2 a3 a4) → (∀ (post' : ρ → Prop) (b1 : A1) (b2 : A2) (b3 : A3) (b4 : A4), ok b1 b2 b3 b4 → μ b1 b2 b3 b4 < μ a1 a2 a3 a4 → post' (val b1 b2 b3 b4) → W d post' b1 b2 b3 b4) → W (d + 1) post a1 a2 a3 a4) :
    ∀ (d : Nat) (post : ρ → Prop) (a1 : A1) (a2 : A2) (a3 : A3) (a4 : A4), ok a1 a2 a3 a4 → μ a1 a2 a3 a4 < d → post (val a1 a2 a3 a4) → W d post a1 a2 a3 a4 := by
  intro d
  induction d with
  | zero => intro post a1 a2 a3 a4 _ h; omega
  | succ d ih =>
    intro post a1 a2 a3 a4 ho hm hp
    exact hs d post a1 a2 a3 a4 ho hp (fun post' b1 b2 b3 b4 ho' hm' hp' => ih post' b1 b2 b3 b4 ho' (by omega) hp')
theorem rp5 {ρ A1 A2 A3 A4 A5 : Type} (W : Nat → (ρ → Prop) → A1 → A2 → A3 → A4 → A5 → Prop) (ok : A1 → A2 → A3 → A4 → A5 → Prop) (μ : A1 → A2 → A3 → A4 → A5 → Nat) (val : A1 → A2 → A3 → A4 → A5 → ρ)
    (hs : ∀ (d : Nat) (post : ρ → Prop) (a1 : A1) (a2 : A2) (a3 : A3) (a4 : A4) (a5 : A5), ok a1 a2 a3 a4 a5 → post (val a1 a2 a3 a4 a5) → (∀ (post' : ρ → Prop) (b1 : A1) (b2 : A2) (b3 : A3) (b4 : A4) (b5 : A5), ok b1 b2 b3 b4 b5 → μ b1 b2 b3 b4 b5 < μ a1 a2 a3 a4 a5 → post' (val b1 b2 b3 b4 b5) → W d post' b1 b2 b3 b4 b5) → W (d + 1) post a1 a2 a3 a4 a5) :
    ∀ (d : Nat) (post : ρ → Prop) (a1 : A1) (a2 : A2) (a3 : A3) (a4 : A4) (a5 : A5), ok a1 a2 a3 a4 a5 → μ a1 a2 a3 a4 a5 < d → post (val a1 a2 a3 a4 a5) → W d post a1 a2 a3 a4 a5 := by
  intro d
  induction d with
  | zero => intro post a1 a2 a3 a4 a5 _ h; omega
  | succ d ih =>
    intro post a1 a2 a3 a4 a5 ho hm hp
    exact hs d post a1 a2 a3 a4 a5 ho hp (fun post' b1 b2 b3 b4 b5 ho' hm' hp' => ih post' b1 b2 b3 b4 b5 ho' (by omega) hp')
theorem rp6 {ρ A1 A2 A3 A4 A5 A6 : Type} (W : Nat → (ρ → Prop) → A1 → A2 → A3 → A4 → A5 → A6 → Prop) (ok : A1 → A2 → A3 → A4 → A5 → A6 → Prop) (μ : A1 → A2 → A3 → A4 → A5 → A6 → Nat) (val : A1 → A2 → A3 → A4 → A5 → A6 → ρ)
    (hs : ∀ (d : Nat) (post : ρ → Prop) (a1 : A1) (a2 : A2) (a3 : A3) (a4 : A4) (a5 : A5) (a6 : A6), ok a1 a2 a3 a4 a5 a6 → post (val a1 a2 a3 a4 a5 a6) → (∀ (post' : ρ → Prop) (b1 : A1) (b2 : A2) (b3 : A3) (b4 : A4) (b5 : A5) (b6 : A6), ok b1 b2 b3 b4 b5 b6 → μ b1 b2 b3 b4 b5 b6 < μ a1 a2 a3 a4 a5 a6 → post' (val b1 b2 b3 b4 b5 b6) → W d post' b1 b2 b3 b4 b5 b6) → W (d + 1) post a1 a2 a3 a4 a5 a6) :
    ∀ (d : Nat) (post : ρ → Prop) (a1 : A1) (a2 : A2) (a3 : A3) (a4 : A4) (a5 : A5) (a6 : A6), ok a1 a2 a3 a4 a5 a6 → μ a1 a2 a3 a4 a5 a6 < d → post (val a1 a2 a3 a4 a5 a6) → W d post a1 a2 a3 a4 a5 a6 := by
  intro d
  induction d with
  | zero => intro post a1 a2 a3 a4 a5 a6 _ h; omega
  | succ d ih =>
    intro post a1 a2 a3 a4 a5 a6 ho hm hp
    exact hs d post a1 a2 a3 a4 a5 a6 ho hp (fun post' b1 b2 b3 b4 b5 b6 ho' hm' hp' => ih post' b1 b2 b3 b4 b5 b6 ho' (by omega) hp')
theorem rec_p {σ ρ : Type} (W : Nat → (ρ → Prop) → σ → Prop) (ok : σ → Prop) (μ : σ → Nat) (val : σ → ρ)
    (hs : ∀ d s post, ok s → post (val s) → (∀ s' post', ok s' → μ s' < μ s → post' (val s') → W d post' s') → W (d + 1) post s) :
    ∀ d s post, ok s → μ s < d → post (val s) → W d post s := by
  intro d
  induction d with
  | zero => intro s post _ h; omega
  | succ d ih =>
    intro s post ho hm hp
    exact hs d s post ho hp (fun s' post' ho' hm' hp' => ih s' post' ho' (by omega) hp')
theorem rec_q {σ ρ : Type} (W : Nat → (ρ → Prop) → σ → Prop) (ok : σ → Prop) (μ : σ → Nat) (Q : σ → ρ → Prop)
    (hs : ∀ d s post, ok s → (∀ r, Q s r → post r) → (∀ s' post', ok s' → μ s' < μ s → (∀ r, Q s' r → post' r) → W d post' s') → W (d + 1) post s) :
    ∀ d s post, ok s → μ s < d → (∀ r, Q s r → post r) → W d post s := by
  intro d
  induction d with
  | zero => intro s post _ h; omega
  | succ d ih =>
    intro s post ho hm hp
    exact hs d s post ho hp (fun s' post' ho' hm' hp' => ih s' post' ho' (by omega) hp')
def bx_sum (f : Nat → Int32) : Nat → Int32
  | 0 => 0
  | n + 1 => bx_sum f n + f n
theorem ek_u {A : Prop} {B : Nat → Prop} {k N : Nat} (hk : k < N) (h : B k) : (some k = none → A) ∧ (∀ y : Nat, some k = some y → (y < N ∧ B y)) :=
  ⟨fun z => absurd z (Option.some_ne_none k), fun _ e => (by cases e; exact ⟨hk, h⟩)⟩
theorem ek_nu {A : Prop} {B : Nat → Prop} (h : A) : ((none : Option Nat) = none → A) ∧ (∀ y : Nat, (none : Option Nat) = some y → B y) :=
  ⟨fun _ => h, fun _ e => (by cases e)⟩
theorem ek_if {c d A B : Prop} (e : c ↔ d) (f : d → A) (g : ¬ d → B) : (c → A) ∧ (¬ c → B) :=
  ⟨fun z => f (e.mp z), fun z => g (fun y => z (e.mpr y))⟩
theorem ek_v {α : Sort _} {P : α → Prop} {a b : α} (e : a = b) (h : P b) : P a := e ▸ h
theorem co_some {x : Option Nat} {A : Prop} {B : Nat → Prop} (i : Nat) (h : B i) (hx : x = some i := by rfl) : (x = none → A) ∧ (∀ y : Nat, x = some y → B y) := by
  subst hx
  exact ⟨fun e => (nomatch e), fun y e => Option.some.inj e ▸ h⟩
theorem co_none {x : Option Nat} {A : Prop} {B : Nat → Prop} (h : A) (hx : x = none := by rfl) : (x = none → A) ∧ (∀ y : Nat, x = some y → B y) := by
  subst hx
  exact ⟨fun _ => h, fun y e => (nomatch e)⟩
theorem co_any {x : Option Nat} {A : Prop} {B : Nat → Prop} (hn : x = none → A) (hs : ∀ i : Nat, x = some i → B i) : (x = none → A) ∧ (∀ y : Nat, x = some y → B y) := ⟨hn, hs⟩
theorem co_2 {P : Nat → Prop} (h0 : P 0) (h1 : P 1) {i : Nat} (hi : i < 2) : P i :=
  match i, hi with
  | 0, _ => h0
  | 1, _ => h1
theorem co_3 {P : Nat → Prop} (h0 : P 0) (h1 : P 1) (h2 : P 2) {i : Nat} (hi : i < 3) : P i :=
  match i, hi with
  | 0, _ => h0
  | 1, _ => h1
  | 2, _ => h2
theorem co_4 {P : Nat → Prop} (h0 : P 0) (h1 : P 1) (h2 : P 2) (h3 : P 3) {i : Nat} (hi : i < 4) : P i :=
  match i, hi with
  | 0, _ => h0
  | 1, _ => h1
  | 2, _ => h2
  | 3, _ => h3
theorem co_dec {N : Nat} {P : Nat → Prop} [DecidablePred P] (h : (List.range N).all (fun i => decide (P i)) = true) {i : Nat} (hi : i < N) : P i := by
  have := List.all_eq_true.mp h i (List.mem_range.mpr hi)
  exact of_decide_eq_true this
theorem co_tab {α : Type} {l : List α} {d : α} {P : α → Prop} (h : ∀ a, a ∈ l → P a) {i : Nat} (hi : i < l.length) : P (l.getD i d) := by
  rw [List.getD_eq_getElem?_getD, List.getElem?_eq_getElem hi]
  exact h _ (List.getElem_mem hi)
theorem pk_mu {x : Int32} {L : Nat} (h0 : ¬ x < 0) (h : ¬ nI L ≤ x) (hL : L < 2 ^ 31) : ∃ j : Nat, j < L ∧ x = nI j ∧ x + 1 = nI (j + 1) ∧ x.toNatClampNeg = j ∧ L - (x + 1).toNatClampNeg < L - x.toNatClampNeg := by
  obtain ⟨j, hj, rfl⟩ := nI_of h0
  have hl : j < L := Nat.not_le.mp fun q => h (nI_le q hj)
  refine ⟨j, hl, rfl, nI_1 j, nI_clamp hj, ?_⟩
  rw [nI_1, nI_clamp (by omega), nI_clamp hj]
  omega
theorem op_s {α : Type} {r : Option α} {A : Prop} {B : α → Prop} {y : α} (h : r = some y) (b : B y) : (r = none → A) ∧ ∀ z, r = some z → B z :=
  ⟨fun e => (by rw [h] at e; cases e), fun z e => (by rw [h] at e; cases e; exact b)⟩
def l_holds {α : Type} (a : Nat → Option Nat) (LP : List Nat) (p : Nat → α) (c : Nat) (b : Nat → α) : Prop :=
  ∀ j, j < c → ∃ y, a j = some y ∧ y ∈ LP ∧ p y = b j
theorem l_holds_0 {α : Type} {a : Nat → Option Nat} {LP : List Nat} {p b : Nat → α} : l_holds a LP p 0 b := fun j h => absurd h (Nat.not_lt_zero j)
theorem l_in_new (LP : List Nat) (q : Nat) : q ∈ LP ++ [q] := List.mem_append.mpr (Or.inr (List.mem_singleton.mpr rfl))
def l_sum (b : Nat → Int32) : Nat → Int32
  | 0 => 0
  | k + 1 => l_sum b k + b k
theorem sb_shr0 (x : Int32) : x >>> ((0 : Int32) &&& 31) = x := by
  rw [show ((0 : Int32) &&& 31) = 0 by decide]
  simp
theorem sb_shl0 (x : Int32) : x <<< ((0 : Int32) &&& 31) = x := by
  rw [show ((0 : Int32) &&& 31) = 0 by decide]
  simp
theorem sb_cl0 : (0 : Int32).toNatClampNeg = 0 := by decide
theorem sb_m1 {p : Nat} (h : 0 < p) : nI p + (-1) = nI (p - 1) := by
  obtain ⟨q, rfl⟩ : ∃ q, p = q + 1 := ⟨p - 1, by omega⟩
  exact pk_m1 q
def sb_b (c : Nat) : Int32 := (nI c).toInt8.toInt32
theorem sb_byte : ∀ c, c < 256 → sb_b c &&& 255 = nI c ∧ ((nI c).toUInt32 % 65536).toInt32 = nI c ∧ nI c ≤ 255 := by decide +kernel
def sb_Fit (a : Nat → Int32) : Prop := ∀ j, fits .byte (.int (a j)) = true
def sb_Lat (t : Nat → Nat) (n : Nat) (a : Nat → Int32) : Prop := ∀ j, j < n → t j < 256 ∧ a j = sb_b (t j)
theorem sb_fitB (c : Nat) : fits .byte (.int (sb_b c)) = true := pk_fb _
theorem sb_fit0 : sb_Fit (fun _ => 0) := fun _ => by
  show fits .byte (.int 0) = true
  decide
theorem sb_fitU {a : Nat → Int32} {k : Nat} {x : Int32} (h : sb_Fit a) (hx : fits .byte (.int x) = true) : sb_Fit (upd a k x) := by
  intro j
  by_cases e : j = k
  · subst e
    rw [pk_us]
    exact hx
  · rw [pk_un e]
    exact h j
def sb_cat (t : Nat → Nat) (n : Nat) (s : Nat → Nat) : Nat → Nat := fun j => if j < n then t j else s (j - n)
theorem sb_cat_lo {t s : Nat → Nat} {n j : Nat} (h : j < n) : sb_cat t n s j = t j := if_pos h
theorem sb_cat_hi {t s : Nat → Nat} {n j : Nat} : sb_cat t n s (n + j) = s j := by
  show (if n + j < n then t (n + j) else s (n + j - n)) = s j
  rw [if_neg (by omega), Nat.add_sub_cancel_left]
theorem sb_latPut {t s : Nat → Nat} {n w : Nat} {a a' : Nat → Int32} (h : sb_Lat t n a) (hk : ∀ j, j < n → a' j = a j) (hs : ∀ i, i < w → s i < 256 ∧ a' (n + i) = sb_b (s i)) : sb_Lat (sb_cat t n s) (n + w) a' := by
  intro j hj
  by_cases e : j < n
  · rw [sb_cat_lo e, hk j e]
    exact h j e
  · obtain ⟨i, rfl⟩ : ∃ i, j = n + i := ⟨j - n, by omega⟩
    rw [sb_cat_hi]
    exact hs i (by omega)
theorem sb_latKeep {t : Nat → Nat} {n : Nat} {a a' : Nat → Int32} (h : sb_Lat t n a) (hk : ∀ j, j < n → a' j = a j) : sb_Lat t n a' := fun j hj => by
  rw [hk j hj]
  exact h j hj
def sb_cap (q m : Nat) : Nat := if q ≤ m then m else if 2 * m + 2 < q then q else 2 * m + 2
def sb_Room (q m mc ms : Nat) : Prop := q ≤ m ∨ (1 ≤ mc ∧ sb_cap q m ≤ ms ∧ sb_cap q m ≤ 65536)
theorem sb_cap_ge (q m : Nat) : q ≤ sb_cap q m := by
  unfold sb_cap
  split
  · omega
  · split <;> omega
theorem sb_cap_gem (q m : Nat) : m ≤ sb_cap q m := by
  unfold sb_cap
  split
  · omega
  · split <;> omega
theorem sb_cap_le {q m mc ms : Nat} (hm : m ≤ 65536) (hr : sb_Room q m mc ms) : sb_cap q m ≤ 65536 := by
  rcases hr with h | h
  · rw [sb_cap, if_pos h]
    exact hm
  · exact h.2.2
theorem sb_at {P : Int32 → Prop} {x y : Int32} (e : x = y) (h : P y) : P x := e ▸ h
def sb_dg (w : Nat) : Nat := if w < 10 then 1 else if w < 100 then 2 else if w < 1000 then 3 else if w < 10000 then 4 else if w < 100000 then 5 else if w < 1000000 then 6 else if w < 10000000 then 7 else if w < 100000000 then 8 else if w < 1000000000 then 9 else 10
def sb_dec (v : Nat) : Nat → Nat := fun i => 48 + v / 10 ^ (sb_dg v - 1 - i) % 10
theorem sb_dg_in (w : Nat) : 1 ≤ sb_dg w ∧ sb_dg w ≤ 10 := by
  unfold sb_dg
  constructor <;> (repeat' split) <;> omega
theorem sb_dg100 {w : Nat} (h : 100 ≤ w) (hw : w < 2 ^ 31) : sb_dg w = sb_dg (w / 100) + 2 := by
  rw [sb_dg, sb_dg, if_neg (show ¬ w < 10 by omega), if_neg (show ¬ w < 100 by omega)]
  by_cases h3 : w < 1000
  · rw [if_pos h3, if_pos (show w / 100 < 10 by omega)]
  rw [if_neg h3, if_neg (show ¬ w / 100 < 10 by omega)]
  by_cases h4 : w < 10000
  · rw [if_pos h4, if_pos (show w / 100 < 100 by omega)]
  rw [if_neg h4, if_neg (show ¬ w / 100 < 100 by omega)]
  by_cases h5 : w < 100000
  · rw [if_pos h5, if_pos (show w / 100 < 1000 by omega)]
  rw [if_neg h5, if_neg (show ¬ w / 100 < 1000 by omega)]
  by_cases h6 : w < 1000000
  · rw [if_pos h6, if_pos (show w / 100 < 10000 by omega)]
  rw [if_neg h6, if_neg (show ¬ w / 100 < 10000 by omega)]
  by_cases h7 : w < 10000000
  · rw [if_pos h7, if_pos (show w / 100 < 100000 by omega)]
  rw [if_neg h7, if_neg (show ¬ w / 100 < 100000 by omega)]
  by_cases h8 : w < 100000000
  · rw [if_pos h8, if_pos (show w / 100 < 1000000 by omega)]
  rw [if_neg h8, if_neg (show ¬ w / 100 < 1000000 by omega)]
  by_cases h9 : w < 1000000000
  · rw [if_pos h9, if_pos (show w / 100 < 10000000 by omega)]
  rw [if_neg h9, if_neg (show ¬ w / 100 < 10000000 by omega)]
  rw [if_pos (show w / 100 < 100000000 by omega)]
theorem sb_negT {w : Nat} (h : w < 2 ^ 31) : (-nI w).toInt = -(w : Int) := by
  rw [Int32.toInt_neg, nI_toInt h]
  exact Int.bmod_eq_of_le (by omega) (by omega)
theorem sb_nle {a b : Nat} (ha : a < 2 ^ 31) (hb : b < 2 ^ 31) : -nI a ≤ -nI b ↔ b ≤ a := by
  rw [Int32.le_iff_toInt_le, sb_negT ha, sb_negT hb]
  omega
theorem sb_nlt {a b : Nat} (ha : a < 2 ^ 31) (hb : b < 2 ^ 31) : -nI a < -nI b ↔ b < a := by
  rw [Int32.lt_iff_toInt_lt, sb_negT ha, sb_negT hb]
  omega
theorem sb_cmp {A B : Prop} {x : Int32} (v c : Nat) (f : c ≤ v → A) (g : v < c → B) (hv : v < 2 ^ 31) (hx : x = -nI c := by rfl) (hc : c < 2 ^ 31 := by omega) : (-nI v ≤ x → A) ∧ (¬ -nI v ≤ x → B) := by
  subst hx
  rw [sb_nle hv hc]
  exact ⟨f, fun z => g (by omega)⟩
theorem sb_ndiv {w : Nat} (hw : w < 2 ^ 31) : (-nI w) / 100 = -nI (w / 100) := by
  apply Int32.toInt_inj.mp
  have h100 : (100 : Int32).toInt = 100 := by decide
  rw [Int32.toInt_div, sb_negT hw, h100, sb_negT (by omega), Int.neg_tdiv, Int.tdiv_eq_ediv_of_nonneg (by omega), Int.bmod_eq_of_le (by omega) (by omega)]
  omega
theorem sb_nrem {w : Nat} (hw : w < 2 ^ 31) : (-nI (w / 100)) * 100 - (-nI w) = nI (w % 100) := by
  have h := pk_rem (a := w) (d := 100) hw (by decide) (by decide)
  rw [pk_div hw (by decide) (by decide)] at h
  rw [← h]
  show (-nI (w / 100)) * nI 100 - (-nI w) = nI w - nI (w / 100) * nI 100
  rw [Int32.neg_mul, Int32.sub_neg, Int32.add_comm, ← Int32.sub_eq_add_neg]
end
section
theorem ts_nf {x : Bool} (h : ¬ x = false) : x = true := by cases x <;> first | rfl | exact absurd rfl h
theorem ts_nt {x : Bool} (h : ¬ x = true) : x = false := by cases x <;> first | rfl | exact absurd rfl h
theorem ts_bit {w : Int64} {s : UInt64} {j : Nat} (hj : j < 64) (hs : s.toNat = j) : ((w.toUInt64 >>> s).toInt64 &&& 1) = 0 ↔ w.toBitVec.getLsbD j = false := by
  have e : (w.toUInt64 >>> s).toInt64.toBitVec = w.toBitVec >>> j := by
    apply BitVec.eq_of_toNat_eq
    show (w.toUInt64 >>> s).toNat = _
    rw [UInt64.toNat_shiftRight, hs, Nat.mod_eq_of_lt hj, BitVec.toNat_ushiftRight]
    rfl
  rw [← Int64.toBitVec_inj, Int64.toBitVec_and, e]
  show w.toBitVec >>> j &&& 1#64 = 0#64 ↔ _
  constructor
  · intro h
    have t := congrArg (fun x => x.getLsbD 0) h
    simpa using t
  · intro h
    apply BitVec.eq_of_getLsbD_eq
    intro i hi
    cases i with
    | zero => simp [h]
    | succ i => simp
theorem wb_cu : ∀ k, k < 64 → ((nI k).toInt64.toUInt64 &&& Int64.toUInt64 63) = UInt64.ofNat k := by decide +kernel
/-! decode, arithmetic, masks -/
def dc_o (w : Int32) : Int32 := w &&& 31
def dc_a (w : Int32) : Int32 := ((w.toUInt32 >>> ((5 : Int32).toUInt32 &&& Int32.toUInt32 31)).toInt32) &&& 7
def dc_b (w : Int32) : Int32 := ((w.toUInt32 >>> ((8 : Int32).toUInt32 &&& Int32.toUInt32 31)).toInt32) &&& 7
def dc_i (w : Int32) : Int32 := w >>> ((11 : Int32) &&& 31)
def dc_c (w : Int32) : Int32 := dc_i w &&& 7
theorem dc_a8 (w : Int32) : vp_in (dc_a w) 8 := pk_andIn _ 3 (by decide) (by decide)
theorem dc_b8 (w : Int32) : vp_in (dc_b w) 8 := pk_andIn _ 3 (by decide) (by decide)
theorem dc_c8 (w : Int32) : vp_in (dc_c w) 8 := pk_andIn _ 3 (by decide) (by decide)
theorem dc_o32 (w : Int32) : ∃ k : Nat, k < 32 ∧ dc_o w = nI k := pk_andE _ 5 (by decide)
theorem vn_mono {x : Int32} {n m : Nat} (h : vp_in x n) (hnm : n ≤ m) : vp_in x m := fun z => h (by
  rcases z with z | z
  · exact Or.inl z
  · exact Or.inr (Nat.le_trans hnm z))
theorem vn_lt {x : Int32} {n : Nat} (h : vp_in x n) : x.toNatClampNeg < n := Nat.lt_of_not_le (fun z => h (Or.inr z))
theorem vn_pos {x : Int32} {n : Nat} (h : vp_in x n) : ¬ x < 0 := fun z => h (Or.inl z)
theorem vn_eq {x : Int32} {n : Nat} (h : vp_in x n) (hn : n < 2 ^ 31) : x = nI x.toNatClampNeg := by
  obtain ⟨j, hj, rfl⟩ := vp_in_of h hn
  rw [nI_clamp (by omega)]
theorem vn_inj {x y : Int32} {n : Nat} (hx : vp_in x n) (hy : vp_in y n) (hn : n < 2 ^ 31) (h : x.toNatClampNeg = y.toNatClampNeg) : x = y := by
  rw [vn_eq hx hn, vn_eq hy hn, h]
/-- x lies in [0, c) -/
theorem vn_rng {x : Int32} {c : Nat} (hc : c < 2 ^ 31) (h0 : ¬ x < 0) (h1 : x < nI c) : ∃ j : Nat, j < c ∧ x = nI j := by
  obtain ⟨j, hj, rfl⟩ := nI_of h0
  rw [nI_ltI hj hc] at h1
  exact ⟨j, h1, rfl⟩
theorem vn_rng' {x : Int32} {c : Nat} (hc : c < 2 ^ 31) (h0 : ¬ x < 0) (h1 : ¬ nI c ≤ x) : ∃ j : Nat, j < c ∧ x = nI j := vn_rng hc h0 (Int32.not_le.mp h1)
theorem ud_self {f : Nat → Int32} {k : Nat} {x : Int32} (h : f k = x) : upd f k x = f := by
  funext j
  by_cases e : j = k
  · rw [e, pk_us, h]
  · exact pk_un e
def al_f (o x y : Int32) : Int32 :=
  if o = 3 then x + y else if o = 4 then x - y else if o = 5 then x * y
  else if o = 6 then (if y = 0 then 0 else x / y)
  else if o = 7 then (if y = 0 then 0 else x - x / y * y)
  else if o = 8 then x &&& y else if o = 9 then x ||| y else if o = 10 then x ^^^ y
  else if o = 11 then x <<< ((y &&& 31) &&& 31) else if o = 12 then x >>> ((y &&& 31) &&& 31)
  else if o = 14 then (if y ≤ x then 0 else 1)
  else if o = 15 then (if x = y then 1 else 0) else 0
theorem al_3 (x y : Int32) : al_f 3 x y = x + y := if_pos rfl
theorem al_4 (x y : Int32) : al_f 4 x y = x - y := by unfold al_f; rw [if_neg (by decide), if_pos rfl]
theorem al_5 (x y : Int32) : al_f 5 x y = x * y := by unfold al_f; rw [if_neg (by decide), if_neg (by decide), if_pos rfl]
theorem al_6 (x y : Int32) : al_f 6 x y = if y = 0 then 0 else x / y := by unfold al_f; rw [if_neg (by decide), if_neg (by decide), if_neg (by decide), if_pos rfl]
theorem al_7 (x y : Int32) : al_f 7 x y = if y = 0 then 0 else x - x / y * y := by unfold al_f; rw [if_neg (by decide), if_neg (by decide), if_neg (by decide), if_neg (by decide), if_pos rfl]
theorem al_8 (x y : Int32) : al_f 8 x y = x &&& y := by unfold al_f; rw [if_neg (by decide), if_neg (by decide), if_neg (by decide), if_neg (by decide), if_neg (by decide), if_pos rfl]
theorem al_9 (x y : Int32) : al_f 9 x y = x ||| y := by unfold al_f; rw [if_neg (by decide), if_neg (by decide), if_neg (by decide), if_neg (by decide), if_neg (by decide), if_neg (by decide), if_pos rfl]
theorem al_10 (x y : Int32) : al_f 10 x y = x ^^^ y := by unfold al_f; rw [if_neg (by decide), if_neg (by decide), if_neg (by decide), if_neg (by decide), if_neg (by decide), if_neg (by decide), if_neg (by decide), if_pos rfl]
theorem al_11 (x y : Int32) : al_f 11 x y = x <<< ((y &&& 31) &&& 31) := by unfold al_f; rw [if_neg (by decide), if_neg (by decide), if_neg (by decide), if_neg (by decide), if_neg (by decide), if_neg (by decide), if_neg (by decide), if_neg (by decide), if_pos rfl]
theorem al_12 (x y : Int32) : al_f 12 x y = x >>> ((y &&& 31) &&& 31) := by unfold al_f; rw [if_neg (by decide), if_neg (by decide), if_neg (by decide), if_neg (by decide), if_neg (by decide), if_neg (by decide), if_neg (by decide), if_neg (by decide), if_neg (by decide), if_pos rfl]
theorem al_14 (x y : Int32) : al_f 14 x y = if y ≤ x then 0 else 1 := by unfold al_f; rw [if_neg (by decide), if_neg (by decide), if_neg (by decide), if_neg (by decide), if_neg (by decide), if_neg (by decide), if_neg (by decide), if_neg (by decide), if_neg (by decide), if_neg (by decide), if_pos rfl]
theorem al_15 (x y : Int32) : al_f 15 x y = if x = y then 1 else 0 := by unfold al_f; rw [if_neg (by decide), if_neg (by decide), if_neg (by decide), if_neg (by decide), if_neg (by decide), if_neg (by decide), if_neg (by decide), if_neg (by decide), if_neg (by decide), if_neg (by decide), if_neg (by decide), if_pos rfl]
theorem xw_alu {post : Int32 → Prop} {u : SX} {o x y : Int32} (h : post (al_f o x y)) : wpX_alu post u o x y := by
  rw [xu_alu]
  by_cases e3 : o = 3
  · subst e3; rw [al_3] at h; exact br_f (by decide) (br_f (by decide) (br_t rfl h))
  by_cases e4 : o = 4
  · subst e4; rw [al_4] at h; exact br_f (by decide) (br_f (by decide) (br_f e3 (br_t rfl h)))
  by_cases e5 : o = 5
  · subst e5; rw [al_5] at h; exact br_f (by decide) (br_f (by decide) (br_f e3 (br_f e4 (br_t rfl h))))
  by_cases e6 : o = 6
  · subst e6; rw [al_6] at h
    refine br_f (by decide) (br_f (by decide) (br_f e3 (br_f e4 (br_f e5 (br_t rfl ?_)))))
    by_cases hy : y = 0
    · rw [if_pos hy] at h; exact br_t hy h
    · rw [if_neg hy] at h; exact br_f hy ⟨hy, h⟩
  by_cases e7 : o = 7
  · subst e7; rw [al_7] at h
    refine br_f (by decide) (br_f (by decide) (br_f e3 (br_f e4 (br_f e5 (br_f e6 (br_t rfl ?_))))))
    by_cases hy : y = 0
    · rw [if_pos hy] at h; exact br_t hy h
    · rw [if_neg hy] at h; exact br_f hy ⟨hy, h⟩
  by_cases e8 : o = 8
  · subst e8; rw [al_8] at h; exact br_f (by decide) (br_f (by decide) (br_f e3 (br_f e4 (br_f e5 (br_f e6 (br_f e7 (br_t rfl h)))))))
  by_cases e9 : o = 9
  · subst e9; rw [al_9] at h; exact br_f (by decide) (br_f (by decide) (br_f e3 (br_f e4 (br_f e5 (br_f e6 (br_f e7 (br_f e8 (br_t rfl h))))))))
  by_cases e10 : o = 10
  · subst e10; rw [al_10] at h; exact br_f (by decide) (br_f (by decide) (br_f e3 (br_f e4 (br_f e5 (br_f e6 (br_f e7 (br_f e8 (br_f e9 (br_t rfl h)))))))))
  by_cases e11 : o = 11
  · subst e11; rw [al_11] at h; exact br_f (by decide) (br_f (by decide) (br_f e3 (br_f e4 (br_f e5 (br_f e6 (br_f e7 (br_f e8 (br_f e9 (br_f e10 (br_t rfl h))))))))))
  by_cases e12 : o = 12
  · subst e12; rw [al_12] at h; exact br_f (by decide) (br_f (by decide) (br_f e3 (br_f e4 (br_f e5 (br_f e6 (br_f e7 (br_f e8 (br_f e9 (br_f e10 (br_f e11 (br_t rfl h)))))))))))
  by_cases e14 : o = 14
  · subst e14; rw [al_14] at h
    refine br_f (by decide) (br_f (by decide) (br_f e3 (br_f e4 (br_f e5 (br_f e6 (br_f e7 (br_f e8 (br_f e9 (br_f e10 (br_f e11 (br_f e12 (br_f (by decide) (br_t rfl ?_)))))))))))))
    by_cases hy : y ≤ x
    · rw [if_pos hy] at h; exact br_t hy h
    · rw [if_neg hy] at h; exact br_f hy h
  by_cases e15 : o = 15
  · subst e15; rw [al_15] at h
    refine br_f (by decide) (br_f (by decide) (br_f e3 (br_f e4 (br_f e5 (br_f e6 (br_f e7 (br_f e8 (br_f e9 (br_f e10 (br_f e11 (br_f e12 (br_f (by decide) (br_f e14 (br_t rfl ?_))))))))))))))
    by_cases hy : x = y
    · rw [if_pos hy] at h; exact br_t hy h
    · rw [if_neg hy] at h; exact br_f hy h
  have h0 : post 0 := by
    unfold al_f at h
    rw [if_neg e3, if_neg e4, if_neg e5, if_neg e6, if_neg e7, if_neg e8, if_neg e9, if_neg e10, if_neg e11, if_neg e12, if_neg e14, if_neg e15] at h
    exact h
  exact br_c (fun _ => h0) (fun _ => br_c (fun _ => h0) (fun _ => br_f e3 (br_f e4 (br_f e5 (br_f e6 (br_f e7 (br_f e8 (br_f e9 (br_f e10 (br_f e11 (br_f e12 (br_c (fun _ => h0) (fun _ => br_f e14 (br_f e15 trivial))))))))))))))
/-! masks -/
def mb_p (m : Int64) (x : Int32) : Prop := ¬ (((m.toUInt64 >>> (x.toInt64.toUInt64 &&& Int64.toUInt64 63)).toInt64) &&& 1) = 0
theorem mb_iff {m : Int64} {j : Nat} (hj : j < 64) : mb_p m (nI j) ↔ m.toBitVec.getLsbD j = true := by
  unfold mb_p
  rw [wb_cu j hj, ts_bit hj (by show (UInt64.ofNat j).toNat = j; exact Nat.mod_eq_of_lt (Nat.lt_of_lt_of_le hj (by decide)))]
  exact ⟨ts_nf, fun h z => by rw [h] at z; cases z⟩
theorem mb_tp : ∀ j, j < 64 → ((1 : Int64) <<< ((nI j).toInt64 &&& 63)).toBitVec = BitVec.twoPow 64 j := by decide +kernel
theorem mb_or {m : Int64} {p j : Nat} (hp : p < 64) (hj : j < 64) (h : mb_p m (nI j) ∨ j = p) : mb_p (m ||| ((1 : Int64) <<< ((nI p).toInt64 &&& 63))) (nI j) := by
  rw [mb_iff hj, Int64.toBitVec_or, BitVec.getLsbD_or, mb_tp p hp, BitVec.getLsbD_twoPow]
  rcases h with h | h
  · rw [(mb_iff hj).mp h]; rfl
  · subst h; simp [hj]
theorem xw_inMask {post : Int32 → Prop} {u : SX} {m : Int64} {x : Int32} (h1 : mb_p m x → post 1) (h0 : ¬ mb_p m x → post 0) : wpX_inMask post u m x := by
  rw [xu_inMask]; exact br_c (fun h => h0 (fun z => z h)) (fun h => h1 h)
/-! the guards' conditions -/
def hd_p (cs ms : Int32) (mk : Int64) (code : Nat → Int32) (oc k x y : Int32) : Prop :=
  if k = 32 then x = y else if k = 33 then ¬ x = y else if k = 34 then ¬ y ≤ x else if k = 35 then ¬ x < y
  else if k = 36 then (¬ x < 0 ∧ ¬ ms ≤ x) else if k = 37 then (¬ x < 0 ∧ ¬ cs ≤ x)
  else if k = 38 then (¬ x < 0 ∧ ¬ cs ≤ x ∧ (mb_p mk x → code x.toNatClampNeg = y)) else ¬ 64 ≤ oc
theorem hd_32 {cs ms : Int32} {mk : Int64} {code : Nat → Int32} {oc x y : Int32} : hd_p cs ms mk code oc 32 x y = (x = y) := if_pos rfl
theorem hd_33 {cs ms : Int32} {mk : Int64} {code : Nat → Int32} {oc x y : Int32} : hd_p cs ms mk code oc 33 x y = (¬ x = y) := by unfold hd_p; rw [if_neg (by decide), if_pos rfl]
theorem hd_34 {cs ms : Int32} {mk : Int64} {code : Nat → Int32} {oc x y : Int32} : hd_p cs ms mk code oc 34 x y = (¬ y ≤ x) := by unfold hd_p; rw [if_neg (by decide), if_neg (by decide), if_pos rfl]
theorem hd_35 {cs ms : Int32} {mk : Int64} {code : Nat → Int32} {oc x y : Int32} : hd_p cs ms mk code oc 35 x y = (¬ x < y) := by unfold hd_p; rw [if_neg (by decide), if_neg (by decide), if_neg (by decide), if_pos rfl]
theorem hd_36 {cs ms : Int32} {mk : Int64} {code : Nat → Int32} {oc x y : Int32} : hd_p cs ms mk code oc 36 x y = (¬ x < 0 ∧ ¬ ms ≤ x) := by unfold hd_p; rw [if_neg (by decide), if_neg (by decide), if_neg (by decide), if_neg (by decide), if_pos rfl]
theorem hd_37 {cs ms : Int32} {mk : Int64} {code : Nat → Int32} {oc x y : Int32} : hd_p cs ms mk code oc 37 x y = (¬ x < 0 ∧ ¬ cs ≤ x) := by unfold hd_p; rw [if_neg (by decide), if_neg (by decide), if_neg (by decide), if_neg (by decide), if_neg (by decide), if_pos rfl]
theorem hd_38 {cs ms : Int32} {mk : Int64} {code : Nat → Int32} {oc x y : Int32} : hd_p cs ms mk code oc 38 x y = (¬ x < 0 ∧ ¬ cs ≤ x ∧ (mb_p mk x → code x.toNatClampNeg = y)) := by unfold hd_p; rw [if_neg (by decide), if_neg (by decide), if_neg (by decide), if_neg (by decide), if_neg (by decide), if_neg (by decide), if_pos rfl]
theorem hd_39 {cs ms : Int32} {mk : Int64} {code : Nat → Int32} {oc k x y : Int32} (h2 : ¬ k = 32) (h3 : ¬ k = 33) (h4 : ¬ k = 34) (h5 : ¬ k = 35) (h6 : ¬ k = 36) (h7 : ¬ k = 37) (h8 : ¬ k = 38) : hd_p cs ms mk code oc k x y = (¬ 64 ≤ oc) := by unfold hd_p; rw [if_neg h2, if_neg h3, if_neg h4, if_neg h5, if_neg h6, if_neg h7, if_neg h8]
theorem xw_holds {post : Int32 → Prop} {u : SX} {k x y : Int32} (hcs : ∃ c : Nat, c ≤ 64 ∧ xg_codeSize u = nI c) (h1 : hd_p (xg_codeSize u) (xg_memSize u) (xg_runMask u) (xg_code u) (xg_outCount u) k x y → post 1) (h0 : ¬ hd_p (xg_codeSize u) (xg_memSize u) (xg_runMask u) (xg_code u) (xg_outCount u) k x y → post 0) : wpX_holds post u k x y := by
  rw [xu_holds]
  by_cases e2 : k = 32
  · subst e2; rw [hd_32] at h1 h0; exact br_f (by decide) (br_f (by decide) (br_t rfl (br_c h1 h0)))
  by_cases e3 : k = 33
  · subst e3; rw [hd_33] at h1 h0; exact br_f (by decide) (br_f (by decide) (br_f e2 (br_t rfl (br_c (fun z => h0 (fun q => q z)) h1))))
  by_cases e4 : k = 34
  · subst e4; rw [hd_34] at h1 h0; exact br_f (by decide) (br_f (by decide) (br_f e2 (br_f e3 (br_t rfl (br_c (fun z => h0 (fun q => q z)) h1)))))
  by_cases e5 : k = 35
  · subst e5; rw [hd_35] at h1 h0; exact br_f (by decide) (br_f (by decide) (br_f e2 (br_f e3 (br_f e4 (br_t rfl (br_c (fun z => h0 (fun q => q z)) h1))))))
  by_cases e6 : k = 36
  · subst e6; rw [hd_36] at h1 h0
    exact br_f (by decide) (br_f (by decide) (br_f e2 (br_f e3 (br_f e4 (br_f e5 (br_t rfl (br_c (fun z => h0 (fun q => q.1 z)) (fun z => br_c (fun y => h0 (fun q => q.2 y)) (fun y => h1 ⟨z, y⟩)))))))))
  by_cases e7 : k = 37
  · subst e7; rw [hd_37] at h1 h0
    exact br_f (by decide) (br_f (by decide) (br_f e2 (br_f e3 (br_f e4 (br_f e5 (br_f e6 (br_t rfl (br_c (fun z => h0 (fun q => q.1 z)) (fun z => br_c (fun y => h0 (fun q => q.2 y)) (fun y => h1 ⟨z, y⟩))))))))))
  by_cases e8 : k = 38
  · subst e8; rw [hd_38] at h1 h0
    refine br_f (by decide) (br_f (by decide) (br_f e2 (br_f e3 (br_f e4 (br_f e5 (br_f e6 (br_f e7 (br_t rfl (br_c (fun z => h0 (fun q => q.1 z)) (fun z => br_c (fun y => h0 (fun q => q.2.1 y)) (fun y => xw_inMask (fun mk => ?_) (fun mk => ?_))))))))))))
    · obtain ⟨c, hc, ec⟩ := hcs
      have hv : vp_in x 64 := by
        rw [ec] at y
        obtain ⟨j, hj, rfl⟩ := vn_rng' (by omega) z y
        exact vp_in_nI (by omega) (by decide)
      exact br_f (by decide) ⟨hv, br_c (fun e => h1 ⟨z, y, fun _ => e⟩) (fun e => h0 (fun q => e (q.2.2 mk)))⟩
    · exact br_t rfl (h1 ⟨z, y, fun q => absurd q mk⟩)
  rw [hd_39 e2 e3 e4 e5 e6 e7 e8] at h1 h0
  have ho : (64 ≤ xg_outCount u → post 0) ∧ (¬ 64 ≤ xg_outCount u → post 1) := br_c (fun z => h0 (fun q => q z)) h1
  exact br_c (fun _ => ho) (fun _ => br_c (fun _ => ho) (fun _ => br_f e2 (br_f e3 (br_f e4 (br_f e5 (br_f e6 (br_f e7 (br_f e8 trivial))))))))
end
section
/-! one step of the reference, by instruction number -/
def yb_sw (post : Int32 → SY → Prop) (u : SY) (x3_19 x4_20 x6_22 x8_25 x9_27 x10_29 x11_30 : Int32) : Prop := (((x3_19 < 0 → (wpY_fault (fun r_33 u104 => (post r_33 u104)) u 2)) ∧ (¬ x3_19 < 0 → (((29 < x3_19 → (wpY_fault (fun r_47 u105 => (post r_47 u105)) u 2)) ∧ (¬ 29 < x3_19 → (((x3_19 = 0 → (∀ f_steps_62 : Int32, f_steps_62 = (yg_steps u) + 1 → (post 1 (ys_steps (ys_status u 1) f_steps_62)))) ∧ (¬ x3_19 = 0 → (((x3_19 = 1 → (wpY_put (fun r_64 u106 => (post r_64 u106)) u x4_20 x6_22)) ∧ (¬ x3_19 = 1 → (((x3_19 = 2 → (wpY_put (fun r_79 u107 => (post r_79 u107)) u x4_20 x9_27)) ∧ (¬ x3_19 = 2 → (((x3_19 = 3 → (wpY_put (fun r_94 u108 => (post r_94 u108)) u x4_20 (x9_27 + x10_29))) ∧ (¬ x3_19 = 3 → (((x3_19 = 4 → (wpY_put (fun r_109 u109 => (post r_109 u109)) u x4_20 (x9_27 - x10_29))) ∧ (¬ x3_19 = 4 → (((x3_19 = 5 → (wpY_put (fun r_124 u110 => (post r_124 u110)) u x4_20 (x9_27 * x10_29))) ∧ (¬ x3_19 = 5 → (((x3_19 = 6 → (((x10_29 = 0 → (wpY_fault (fun r_155 u111 => (post r_155 u111)) u 3)) ∧ (¬ x10_29 = 0 → (¬ x10_29 = 0 ∧ (wpY_put (fun r_141 u112 => (post r_141 u112)) u x4_20 (x9_27 / x10_29))))))) ∧ (¬ x3_19 = 6 → (((x3_19 = 7 → (((x10_29 = 0 → (wpY_fault (fun r_186 u113 => (post r_186 u113)) u 3)) ∧ (¬ x10_29 = 0 → (¬ x10_29 = 0 ∧ (wpY_put (fun r_172 u114 => (post r_172 u114)) u x4_20 (x9_27 - x9_27 / x10_29 * x10_29))))))) ∧ (¬ x3_19 = 7 → (((x3_19 = 8 → (wpY_put (fun r_201 u115 => (post r_201 u115)) u x4_20 (x9_27 &&& x10_29))) ∧ (¬ x3_19 = 8 → (((x3_19 = 9 → (wpY_put (fun r_216 u116 => (post r_216 u116)) u x4_20 (x9_27 ||| x10_29))) ∧ (¬ x3_19 = 9 → (((x3_19 = 10 → (wpY_put (fun r_231 u117 => (post r_231 u117)) u x4_20 (x9_27 ^^^ x10_29))) ∧ (¬ x3_19 = 10 → (((x3_19 = 11 → (wpY_put (fun r_246 u118 => (post r_246 u118)) u x4_20 (x9_27 <<< ((x10_29 &&& 31) &&& 31)))) ∧ (¬ x3_19 = 11 → (((x3_19 = 12 → (wpY_put (fun r_261 u119 => (post r_261 u119)) u x4_20 (x9_27 >>> ((x10_29 &&& 31) &&& 31)))) ∧ (¬ x3_19 = 12 → (((x3_19 = 13 → (wpY_put (fun r_276 u120 => (post r_276 u120)) u x4_20 x11_30)) ∧ (¬ x3_19 = 13 → (((x3_19 = 14 → (((x10_29 ≤ x9_27 → (yq_step_443 post 0 x4_20 u)) ∧ (¬ x10_29 ≤ x9_27 → (yq_step_443 post 1 x4_20 u))))) ∧ (¬ x3_19 = 14 → (((x3_19 = 15 → (((x9_27 = x10_29 → (yq_step_462 post 1 x4_20 u)) ∧ (¬ x9_27 = x10_29 → (yq_step_462 post 0 x4_20 u))))) ∧ (¬ x3_19 = 15 → (((x3_19 = 16 → (((x11_30 < 0 → (yq_step_480 post u)) ∧ (¬ x11_30 < 0 → (((x11_30 < (yg_memSize u) → (vp_in x11_30 64 ∧ (wpY_put (fun r_340 u121 => (post r_340 u121)) u x4_20 ((yg_mem u) x11_30.toNatClampNeg)))) ∧ (¬ x11_30 < (yg_memSize u) → (yq_step_480 post u)))))))) ∧ (¬ x3_19 = 16 → (((x3_19 = 17 → (((x11_30 < 0 → (yq_step_514 post u)) ∧ (¬ x11_30 < 0 → (((x11_30 < (yg_memSize u) → (vp_in x11_30 64 ∧ ∀ a_mem_372 : Nat → Int32, a_mem_372 = upd (yg_mem u) x11_30.toNatClampNeg x8_25 → (wpY_next (fun r_373 u122 => (post r_373 u122)) (ys_mem u a_mem_372)))) ∧ (¬ x11_30 < (yg_memSize u) → (yq_step_514 post u)))))))) ∧ (¬ x3_19 = 17 → (((x3_19 = 18 → (((x11_30 < 0 → (yq_step_548 post u)) ∧ (¬ x11_30 < 0 → (((x11_30 < (yg_codeSize u) → (vp_in x11_30 64 ∧ (wpY_put (fun r_405 u123 => (post r_405 u123)) u x4_20 ((yg_code u) x11_30.toNatClampNeg)))) ∧ (¬ x11_30 < (yg_codeSize u) → (yq_step_548 post u)))))))) ∧ (¬ x3_19 = 18 → (((x3_19 = 19 → (((x11_30 < 0 → (yq_step_582 post u)) ∧ (¬ x11_30 < 0 → (((x11_30 < (yg_codeSize u) → (vp_in x11_30 64 ∧ ∀ a_code_437 : Nat → Int32, a_code_437 = upd (yg_code u) x11_30.toNatClampNeg x8_25 → (wpY_next (fun r_438 u124 => (post r_438 u124)) (ys_code u a_code_437)))) ∧ (¬ x11_30 < (yg_codeSize u) → (yq_step_582 post u)))))))) ∧ (¬ x3_19 = 19 → (((x3_19 = 20 → ((((yg_outCount u) < 64 → (vp_in (yg_outCount u) 64 ∧ ∀ a_out_455 : Nat → Int32, a_out_455 = upd (yg_out u) (yg_outCount u).toNatClampNeg x8_25 → (∀ f_outCount_456 : Int32, f_outCount_456 = (yg_outCount u) + 1 → (wpY_next (fun r_457 u125 => (post r_457 u125)) (ys_out (ys_outCount u f_outCount_456) a_out_455))))) ∧ (¬ (yg_outCount u) < 64 → (wpY_fault (fun r_471 u126 => (post r_471 u126)) u 6))))) ∧ (¬ x3_19 = 20 → (((x3_19 = 21 → (wpY_jump (fun r_486 u127 => (post r_486 u127)) u 1 x6_22)) ∧ (¬ x3_19 = 21 → (((x3_19 = 22 → (((x8_25 = 0 → (yq_step_663 post x6_22 1 u)) ∧ (¬ x8_25 = 0 → (yq_step_663 post x6_22 0 u))))) ∧ (¬ x3_19 = 22 → (((x3_19 = 23 → (((x8_25 = 0 → (yq_step_680 post x6_22 0 u)) ∧ (¬ x8_25 = 0 → (yq_step_680 post x6_22 1 u))))) ∧ (¬ x3_19 = 23 → (((x3_19 = 24 → (((x9_27 ≤ x8_25 → (yq_step_699 post x6_22 0 u)) ∧ (¬ x9_27 ≤ x8_25 → (yq_step_699 post x6_22 1 u))))) ∧ (¬ x3_19 = 24 → (((x3_19 = 25 → (((x8_25 < x9_27 → (yq_step_718 post x6_22 0 u)) ∧ (¬ x8_25 < x9_27 → (yq_step_718 post x6_22 1 u))))) ∧ (¬ x3_19 = 25 → (((x3_19 = 26 → (((x8_25 = x9_27 → (yq_step_737 post x6_22 1 u)) ∧ (¬ x8_25 = x9_27 → (yq_step_737 post x6_22 0 u))))) ∧ (¬ x3_19 = 26 → (((x3_19 = 27 → (((x8_25 = x9_27 → (yq_step_756 post x6_22 0 u)) ∧ (¬ x8_25 = x9_27 → (yq_step_756 post x6_22 1 u))))) ∧ (¬ x3_19 = 27 → (((x3_19 = 28 → (((x6_22 < 0 → (yq_step_776 post u)) ∧ (¬ x6_22 < 0 → (((x6_22 < (yg_codeSize u) → (vp_in x4_20 8 ∧ ∀ a_r_614 : Nat → Int32, a_r_614 = upd (yg_r u) x4_20.toNatClampNeg ((yg_pc u) + 1) → (wpY_jump (fun r_615 u128 => (post r_615 u128)) (ys_r u a_r_614) 1 x6_22))) ∧ (¬ x6_22 < (yg_codeSize u) → (yq_step_776 post u)))))))) ∧ (¬ x3_19 = 28 → (((x3_19 = 29 → (wpY_jump (fun r_630 u129 => (post r_630 u129)) u 1 x8_25)) ∧ (¬ x3_19 = 29 → (True)))))))))))))))))))))))))))))))))))))))))))))))))))))))))))))))))))))))))))))))))))))))))))))))))
def yo_S (v : SY) (k : Int32) (v' : SY) : Prop := ∀ post : Int32 → SY → Prop, post k v' → wpY_step post v
def yo_P (u : SY) (p : Nat) (w : Int32) : Prop := yg_pc u = nI p ∧ (∃ c : Nat, yg_codeSize u = nI c ∧ p < c ∧ c ≤ 64) ∧ yg_code u p = w
def yp_next (u : SY) : SY := ys_steps (ys_pc u (yg_pc u + 1)) (yg_steps u + 1)
def yp_put (u : SY) (a x : Int32) : SY := yp_next (ys_r u (upd (yg_r u) a.toNatClampNeg x))
def yp_go (u : SY) (t : Int32) : SY := ys_steps (ys_pc u t) (yg_steps u + 1)
def yp_cross (u : SY) (t : Int32) : SY := yp_go (ys_crossings u (upd (yg_crossings u) t.toNatClampNeg (yg_crossings u t.toNatClampNeg + 1))) t
theorem yb_off {v : SY} (h : yg_pc v < 0 ∨ ¬ yg_pc v < yg_codeSize v) : yo_S v 0 (ys_status v 8) := by
  intro post hp
  rw [yu_step]
  by_cases h0 : yg_pc v < 0
  · exact br_t h0 hp
  · exact br_f h0 (br_f (by rcases h with h | h; exact absurd h h0; exact h) hp)
theorem yb_pre {post : Int32 → SY → Prop} {u : SY} {p : Nat} {w o : Int32} (hP : yo_P u p w) (ho : dc_o w = o) (h : yb_sw post u o (dc_a w) (dc_i w) (yg_r u (dc_a w).toNatClampNeg) (yg_r u (dc_b w).toNatClampNeg) (yg_r u (dc_c w).toNatClampNeg) (yg_r u (dc_b w).toNatClampNeg + dc_i w)) : wpY_step post u := by
  obtain ⟨hp, ⟨c, hc, hpc, h64⟩, hw⟩ := hP
  rw [yu_step]
  have a0 : ¬ yg_pc u < 0 := by rw [hp]; exact nI_pos (by omega)
  have a1 : yg_pc u < yg_codeSize u := by rw [hp, hc]; exact nI_lt hpc (by omega)
  have a2 : vp_in (yg_pc u) 64 := by rw [hp]; exact vp_in_nI (by omega) (by decide)
  have a3 : yg_code u (yg_pc u).toNatClampNeg = w := by rw [hp, nI_clamp (by omega)]; exact hw
  exact br_f a0 (br_t a1 ⟨a2, nm_r a3 (nm_r ho (nm_e (nm_e (nm_e (nm_e ⟨dc_a8 w, nm_e ⟨dc_b8 w, nm_e ⟨dc_c8 w, nm_e (nm_e h)⟩⟩⟩)))))⟩)
theorem yw_next {post : Int32 → SY → Prop} {u : SY} (h : post 1 (yp_next u)) : wpY_next post u := by
  rw [yu_next]; exact nm_e (nm_e h)
theorem yw_put {post : Int32 → SY → Prop} {u : SY} {a x : Int32} (ha : vp_in a 8) (h : post 1 (yp_put u a x)) : wpY_put post u a x := by
  rw [yu_put]; exact ⟨ha, nm_e (yw_next h)⟩
theorem yw_jn {post : Int32 → SY → Prop} {u : SY} {t : Int32} (h : post 1 (yp_next u)) : wpY_jump post u 0 t := by
  rw [yu_jump]; exact br_t rfl (yw_next h)
theorem yw_jf {post : Int32 → SY → Prop} {u : SY} {t : Int32} (ht : t < 0 ∨ ¬ t < yg_codeSize u) (h : post 0 (ys_status u 7)) : wpY_jump post u 1 t := by
  rw [yu_jump]
  refine br_f (by decide) ?_
  by_cases h0 : t < 0
  · exact br_t h0 h
  · exact br_f h0 (br_f (by rcases ht with ht | ht; exact absurd ht h0; exact ht) h)
theorem yw_jg {post : Int32 → SY → Prop} {u : SY} {t : Int32} (h0 : ¬ t < 0) (h1 : t < yg_codeSize u) (hp : yg_pc u < t) (h : post 1 (yp_go u t)) : wpY_jump post u 1 t := by
  rw [yu_jump]
  exact br_f (by decide) (br_f h0 (br_t h1 (br_t hp (nm_e h))))
theorem yw_jc {post : Int32 → SY → Prop} {u : SY} {t : Int32} (h0 : ¬ t < 0) (h1 : t < yg_codeSize u) (h6 : vp_in t 64) (hp : ¬ yg_pc u < t) (h : post 2 (yp_cross u t)) : wpY_jump post u 1 t := by
  rw [yu_jump]
  exact br_f (by decide) (br_f h0 (br_t h1 (br_f hp ⟨h6, h6, nm_e (nm_e h)⟩)))
theorem yo_0 {u : SY} {p : Nat} {w : Int32} (hP : yo_P u p w) (ho : dc_o w = 0) : yo_S u 1 (ys_steps (ys_status u 1) (yg_steps u + 1)) := fun post h => yb_pre hP ho (br_f (by decide) (br_f (by decide) (br_t rfl (nm_e h))))
theorem yo_1 {u : SY} {p : Nat} {w : Int32} (hP : yo_P u p w) (ho : dc_o w = 1)  : yo_S u 1 (yp_put u (dc_a w) (dc_i w)) := fun post h => yb_pre hP ho (br_f (by decide) (br_f (by decide) (br_f (by decide) (br_t rfl (yw_put (dc_a8 w) h)))))
theorem yo_2 {u : SY} {p : Nat} {w : Int32} (hP : yo_P u p w) (ho : dc_o w = 2)  : yo_S u 1 (yp_put u (dc_a w) (yg_r u (dc_b w).toNatClampNeg)) := fun post h => yb_pre hP ho (br_f (by decide) (br_f (by decide) (br_f (by decide) (br_f (by decide) (br_t rfl (yw_put (dc_a8 w) h))))))
theorem yo_3 {u : SY} {p : Nat} {w : Int32} (hP : yo_P u p w) (ho : dc_o w = 3)  : yo_S u 1 (yp_put u (dc_a w) ((yg_r u (dc_b w).toNatClampNeg) + (yg_r u (dc_c w).toNatClampNeg))) := fun post h => yb_pre hP ho (br_f (by decide) (br_f (by decide) (br_f (by decide) (br_f (by decide) (br_f (by decide) (br_t rfl (yw_put (dc_a8 w) h)))))))
theorem yo_4 {u : SY} {p : Nat} {w : Int32} (hP : yo_P u p w) (ho : dc_o w = 4)  : yo_S u 1 (yp_put u (dc_a w) ((yg_r u (dc_b w).toNatClampNeg) - (yg_r u (dc_c w).toNatClampNeg))) := fun post h => yb_pre hP ho (br_f (by decide) (br_f (by decide) (br_f (by decide) (br_f (by decide) (br_f (by decide) (br_f (by decide) (br_t rfl (yw_put (dc_a8 w) h))))))))
theorem yo_5 {u : SY} {p : Nat} {w : Int32} (hP : yo_P u p w) (ho : dc_o w = 5)  : yo_S u 1 (yp_put u (dc_a w) ((yg_r u (dc_b w).toNatClampNeg) * (yg_r u (dc_c w).toNatClampNeg))) := fun post h => yb_pre hP ho (br_f (by decide) (br_f (by decide) (br_f (by decide) (br_f (by decide) (br_f (by decide) (br_f (by decide) (br_f (by decide) (br_t rfl (yw_put (dc_a8 w) h)))))))))
theorem yo_8 {u : SY} {p : Nat} {w : Int32} (hP : yo_P u p w) (ho : dc_o w = 8)  : yo_S u 1 (yp_put u (dc_a w) ((yg_r u (dc_b w).toNatClampNeg) &&& (yg_r u (dc_c w).toNatClampNeg))) := fun post h => yb_pre hP ho (br_f (by decide) (br_f (by decide) (br_f (by decide) (br_f (by decide) (br_f (by decide) (br_f (by decide) (br_f (by decide) (br_f (by decide) (br_f (by decide) (br_f (by decide) (br_t rfl (yw_put (dc_a8 w) h))))))))))))
theorem yo_9 {u : SY} {p : Nat} {w : Int32} (hP : yo_P u p w) (ho : dc_o w = 9)  : yo_S u 1 (yp_put u (dc_a w) ((yg_r u (dc_b w).toNatClampNeg) ||| (yg_r u (dc_c w).toNatClampNeg))) := fun post h => yb_pre hP ho (br_f (by decide) (br_f (by decide) (br_f (by decide) (br_f (by decide) (br_f (by decide) (br_f (by decide) (br_f (by decide) (br_f (by decide) (br_f (by decide) (br_f (by decide) (br_f (by decide) (br_t rfl (yw_put (dc_a8 w) h)))))))))))))
theorem yo_10 {u : SY} {p : Nat} {w : Int32} (hP : yo_P u p w) (ho : dc_o w = 10)  : yo_S u 1 (yp_put u (dc_a w) ((yg_r u (dc_b w).toNatClampNeg) ^^^ (yg_r u (dc_c w).toNatClampNeg))) := fun post h => yb_pre hP ho (br_f (by decide) (br_f (by decide) (br_f (by decide) (br_f (by decide) (br_f (by decide) (br_f (by decide) (br_f (by decide) (br_f (by decide) (br_f (by decide) (br_f (by decide) (br_f (by decide) (br_f (by decide) (br_t rfl (yw_put (dc_a8 w) h))))))))))))))
theorem yo_11 {u : SY} {p : Nat} {w : Int32} (hP : yo_P u p w) (ho : dc_o w = 11)  : yo_S u 1 (yp_put u (dc_a w) ((yg_r u (dc_b w).toNatClampNeg) <<< (((yg_r u (dc_c w).toNatClampNeg) &&& 31) &&& 31))) := fun post h => yb_pre hP ho (br_f (by decide) (br_f (by decide) (br_f (by decide) (br_f (by decide) (br_f (by decide) (br_f (by decide) (br_f (by decide) (br_f (by decide) (br_f (by decide) (br_f (by decide) (br_f (by decide) (br_f (by decide) (br_f (by decide) (br_t rfl (yw_put (dc_a8 w) h)))))))))))))))
theorem yo_12 {u : SY} {p : Nat} {w : Int32} (hP : yo_P u p w) (ho : dc_o w = 12)  : yo_S u 1 (yp_put u (dc_a w) ((yg_r u (dc_b w).toNatClampNeg) >>> (((yg_r u (dc_c w).toNatClampNeg) &&& 31) &&& 31))) := fun post h => yb_pre hP ho (br_f (by decide) (br_f (by decide) (br_f (by decide) (br_f (by decide) (br_f (by decide) (br_f (by decide) (br_f (by decide) (br_f (by decide) (br_f (by decide) (br_f (by decide) (br_f (by decide) (br_f (by decide) (br_f (by decide) (br_f (by decide) (br_t rfl (yw_put (dc_a8 w) h))))))))))))))))
theorem yo_13 {u : SY} {p : Nat} {w : Int32} (hP : yo_P u p w) (ho : dc_o w = 13)  : yo_S u 1 (yp_put u (dc_a w) (yg_r u (dc_b w).toNatClampNeg + dc_i w)) := fun post h => yb_pre hP ho (br_f (by decide) (br_f (by decide) (br_f (by decide) (br_f (by decide) (br_f (by decide) (br_f (by decide) (br_f (by decide) (br_f (by decide) (br_f (by decide) (br_f (by decide) (br_f (by decide) (br_f (by decide) (br_f (by decide) (br_f (by decide) (br_f (by decide) (br_t rfl (yw_put (dc_a8 w) h)))))))))))))))))
theorem yo_6 {u : SY} {p : Nat} {w : Int32} (hP : yo_P u p w) (ho : dc_o w = 6) (hz : ¬ (yg_r u (dc_c w).toNatClampNeg) = 0) : yo_S u 1 (yp_put u (dc_a w) ((yg_r u (dc_b w).toNatClampNeg) / (yg_r u (dc_c w).toNatClampNeg))) := fun post h => yb_pre hP ho (br_f (by decide) (br_f (by decide) (br_f (by decide) (br_f (by decide) (br_f (by decide) (br_f (by decide) (br_f (by decide) (br_f (by decide) (br_t rfl (br_f hz ⟨hz, yw_put (dc_a8 w) h⟩))))))))))
theorem yo_6z {u : SY} {p : Nat} {w : Int32} (hP : yo_P u p w) (ho : dc_o w = 6) (hz : (yg_r u (dc_c w).toNatClampNeg) = 0) : yo_S u 0 (ys_status u 3) := fun post h => yb_pre hP ho (br_f (by decide) (br_f (by decide) (br_f (by decide) (br_f (by decide) (br_f (by decide) (br_f (by decide) (br_f (by decide) (br_f (by decide) (br_t rfl (br_t hz h))))))))))
theorem yo_7 {u : SY} {p : Nat} {w : Int32} (hP : yo_P u p w) (ho : dc_o w = 7) (hz : ¬ (yg_r u (dc_c w).toNatClampNeg) = 0) : yo_S u 1 (yp_put u (dc_a w) ((yg_r u (dc_b w).toNatClampNeg) - (yg_r u (dc_b w).toNatClampNeg) / (yg_r u (dc_c w).toNatClampNeg) * (yg_r u (dc_c w).toNatClampNeg))) := fun post h => yb_pre hP ho (br_f (by decide) (br_f (by decide) (br_f (by decide) (br_f (by decide) (br_f (by decide) (br_f (by decide) (br_f (by decide) (br_f (by decide) (br_f (by decide) (br_t rfl (br_f hz ⟨hz, yw_put (dc_a8 w) h⟩)))))))))))
theorem yo_7z {u : SY} {p : Nat} {w : Int32} (hP : yo_P u p w) (ho : dc_o w = 7) (hz : (yg_r u (dc_c w).toNatClampNeg) = 0) : yo_S u 0 (ys_status u 3) := fun post h => yb_pre hP ho (br_f (by decide) (br_f (by decide) (br_f (by decide) (br_f (by decide) (br_f (by decide) (br_f (by decide) (br_f (by decide) (br_f (by decide) (br_f (by decide) (br_t rfl (br_t hz h)))))))))))
theorem yo_14a {u : SY} {p : Nat} {w : Int32} (hP : yo_P u p w) (ho : dc_o w = 14) (hz : (yg_r u (dc_c w).toNatClampNeg) ≤ (yg_r u (dc_b w).toNatClampNeg)) : yo_S u 1 (yp_put u (dc_a w) 0) := fun post h => yb_pre hP ho (br_f (by decide) (br_f (by decide) (br_f (by decide) (br_f (by decide) (br_f (by decide) (br_f (by decide) (br_f (by decide) (br_f (by decide) (br_f (by decide) (br_f (by decide) (br_f (by decide) (br_f (by decide) (br_f (by decide) (br_f (by decide) (br_f (by decide) (br_f (by decide) (br_t rfl (br_t hz (yw_put (dc_a8 w) h)))))))))))))))))))
theorem yo_14b {u : SY} {p : Nat} {w : Int32} (hP : yo_P u p w) (ho : dc_o w = 14) (hz : ¬ (yg_r u (dc_c w).toNatClampNeg) ≤ (yg_r u (dc_b w).toNatClampNeg)) : yo_S u 1 (yp_put u (dc_a w) 1) := fun post h => yb_pre hP ho (br_f (by decide) (br_f (by decide) (br_f (by decide) (br_f (by decide) (br_f (by decide) (br_f (by decide) (br_f (by decide) (br_f (by decide) (br_f (by decide) (br_f (by decide) (br_f (by decide) (br_f (by decide) (br_f (by decide) (br_f (by decide) (br_f (by decide) (br_f (by decide) (br_t rfl (br_f hz (yw_put (dc_a8 w) h)))))))))))))))))))
theorem yo_15a {u : SY} {p : Nat} {w : Int32} (hP : yo_P u p w) (ho : dc_o w = 15) (hz : (yg_r u (dc_b w).toNatClampNeg) = (yg_r u (dc_c w).toNatClampNeg)) : yo_S u 1 (yp_put u (dc_a w) 1) := fun post h => yb_pre hP ho (br_f (by decide) (br_f (by decide) (br_f (by decide) (br_f (by decide) (br_f (by decide) (br_f (by decide) (br_f (by decide) (br_f (by decide) (br_f (by decide) (br_f (by decide) (br_f (by decide) (br_f (by decide) (br_f (by decide) (br_f (by decide) (br_f (by decide) (br_f (by decide) (br_f (by decide) (br_t rfl (br_t hz (yw_put (dc_a8 w) h))))))))))))))))))))
theorem yo_15b {u : SY} {p : Nat} {w : Int32} (hP : yo_P u p w) (ho : dc_o w = 15) (hz : ¬ (yg_r u (dc_b w).toNatClampNeg) = (yg_r u (dc_c w).toNatClampNeg)) : yo_S u 1 (yp_put u (dc_a w) 0) := fun post h => yb_pre hP ho (br_f (by decide) (br_f (by decide) (br_f (by decide) (br_f (by decide) (br_f (by decide) (br_f (by decide) (br_f (by decide) (br_f (by decide) (br_f (by decide) (br_f (by decide) (br_f (by decide) (br_f (by decide) (br_f (by decide) (br_f (by decide) (br_f (by decide) (br_f (by decide) (br_f (by decide) (br_t rfl (br_f hz (yw_put (dc_a8 w) h))))))))))))))))))))
theorem yo_16f0 {u : SY} {p : Nat} {w : Int32} (hP : yo_P u p w) (ho : dc_o w = 16) (hz : (yg_r u (dc_b w).toNatClampNeg + dc_i w) < 0) : yo_S u 0 (ys_status u 4) := fun post h => yb_pre hP ho (br_f (by decide) (br_f (by decide) (br_f (by decide) (br_f (by decide) (br_f (by decide) (br_f (by decide) (br_f (by decide) (br_f (by decide) (br_f (by decide) (br_f (by decide) (br_f (by decide) (br_f (by decide) (br_f (by decide) (br_f (by decide) (br_f (by decide) (br_f (by decide) (br_f (by decide) (br_f (by decide) (br_t rfl (br_t hz h))))))))))))))))))))
theorem yo_16f1 {u : SY} {p : Nat} {w : Int32} (hP : yo_P u p w) (ho : dc_o w = 16) (h0 : ¬ (yg_r u (dc_b w).toNatClampNeg + dc_i w) < 0) (h1 : ¬ (yg_r u (dc_b w).toNatClampNeg + dc_i w) < yg_memSize u) : yo_S u 0 (ys_status u 4) := fun post h => yb_pre hP ho (br_f (by decide) (br_f (by decide) (br_f (by decide) (br_f (by decide) (br_f (by decide) (br_f (by decide) (br_f (by decide) (br_f (by decide) (br_f (by decide) (br_f (by decide) (br_f (by decide) (br_f (by decide) (br_f (by decide) (br_f (by decide) (br_f (by decide) (br_f (by decide) (br_f (by decide) (br_f (by decide) (br_t rfl (br_f h0 (br_f h1 h)))))))))))))))))))))
theorem yo_16 {u : SY} {p : Nat} {w : Int32} (hP : yo_P u p w) (ho : dc_o w = 16) (h0 : ¬ (yg_r u (dc_b w).toNatClampNeg + dc_i w) < 0) (h1 : (yg_r u (dc_b w).toNatClampNeg + dc_i w) < yg_memSize u) (h6 : vp_in (yg_r u (dc_b w).toNatClampNeg + dc_i w) 64) : yo_S u 1 (yp_put u (dc_a w) (yg_mem u (yg_r u (dc_b w).toNatClampNeg + dc_i w).toNatClampNeg)) := fun post h => yb_pre hP ho (br_f (by decide) (br_f (by decide) (br_f (by decide) (br_f (by decide) (br_f (by decide) (br_f (by decide) (br_f (by decide) (br_f (by decide) (br_f (by decide) (br_f (by decide) (br_f (by decide) (br_f (by decide) (br_f (by decide) (br_f (by decide) (br_f (by decide) (br_f (by decide) (br_f (by decide) (br_f (by decide) (br_t rfl (br_f h0 (br_t h1 ⟨h6, yw_put (dc_a8 w) h⟩)))))))))))))))))))))
theorem yo_17f0 {u : SY} {p : Nat} {w : Int32} (hP : yo_P u p w) (ho : dc_o w = 17) (hz : (yg_r u (dc_b w).toNatClampNeg + dc_i w) < 0) : yo_S u 0 (ys_status u 4) := fun post h => yb_pre hP ho (br_f (by decide) (br_f (by decide) (br_f (by decide) (br_f (by decide) (br_f (by decide) (br_f (by decide) (br_f (by decide) (br_f (by decide) (br_f (by decide) (br_f (by decide) (br_f (by decide) (br_f (by decide) (br_f (by decide) (br_f (by decide) (br_f (by decide) (br_f (by decide) (br_f (by decide) (br_f (by decide) (br_f (by decide) (br_t rfl (br_t hz h)))))))))))))))))))))
theorem yo_17f1 {u : SY} {p : Nat} {w : Int32} (hP : yo_P u p w) (ho : dc_o w = 17) (h0 : ¬ (yg_r u (dc_b w).toNatClampNeg + dc_i w) < 0) (h1 : ¬ (yg_r u (dc_b w).toNatClampNeg + dc_i w) < yg_memSize u) : yo_S u 0 (ys_status u 4) := fun post h => yb_pre hP ho (br_f (by decide) (br_f (by decide) (br_f (by decide) (br_f (by decide) (br_f (by decide) (br_f (by decide) (br_f (by decide) (br_f (by decide) (br_f (by decide) (br_f (by decide) (br_f (by decide) (br_f (by decide) (br_f (by decide) (br_f (by decide) (br_f (by decide) (br_f (by decide) (br_f (by decide) (br_f (by decide) (br_f (by decide) (br_t rfl (br_f h0 (br_f h1 h))))))))))))))))))))))
theorem yo_17 {u : SY} {p : Nat} {w : Int32} (hP : yo_P u p w) (ho : dc_o w = 17) (h0 : ¬ (yg_r u (dc_b w).toNatClampNeg + dc_i w) < 0) (h1 : (yg_r u (dc_b w).toNatClampNeg + dc_i w) < yg_memSize u) (h6 : vp_in (yg_r u (dc_b w).toNatClampNeg + dc_i w) 64) : yo_S u 1 (yp_next (ys_mem u (upd (yg_mem u) (yg_r u (dc_b w).toNatClampNeg + dc_i w).toNatClampNeg (yg_r u (dc_a w).toNatClampNeg)))) := fun post h => yb_pre hP ho (br_f (by decide) (br_f (by decide) (br_f (by decide) (br_f (by decide) (br_f (by decide) (br_f (by decide) (br_f (by decide) (br_f (by decide) (br_f (by decide) (br_f (by decide) (br_f (by decide) (br_f (by decide) (br_f (by decide) (br_f (by decide) (br_f (by decide) (br_f (by decide) (br_f (by decide) (br_f (by decide) (br_f (by decide) (br_t rfl (br_f h0 (br_t h1 ⟨h6, nm_e (yw_next h)⟩))))))))))))))))))))))
theorem yo_18f0 {u : SY} {p : Nat} {w : Int32} (hP : yo_P u p w) (ho : dc_o w = 18) (hz : (yg_r u (dc_b w).toNatClampNeg + dc_i w) < 0) : yo_S u 0 (ys_status u 5) := fun post h => yb_pre hP ho (br_f (by decide) (br_f (by decide) (br_f (by decide) (br_f (by decide) (br_f (by decide) (br_f (by decide) (br_f (by decide) (br_f (by decide) (br_f (by decide) (br_f (by decide) (br_f (by decide) (br_f (by decide) (br_f (by decide) (br_f (by decide) (br_f (by decide) (br_f (by decide) (br_f (by decide) (br_f (by decide) (br_f (by decide) (br_f (by decide) (br_t rfl (br_t hz h))))))))))))))))))))))
theorem yo_18f1 {u : SY} {p : Nat} {w : Int32} (hP : yo_P u p w) (ho : dc_o w = 18) (h0 : ¬ (yg_r u (dc_b w).toNatClampNeg + dc_i w) < 0) (h1 : ¬ (yg_r u (dc_b w).toNatClampNeg + dc_i w) < yg_codeSize u) : yo_S u 0 (ys_status u 5) := fun post h => yb_pre hP ho (br_f (by decide) (br_f (by decide) (br_f (by decide) (br_f (by decide) (br_f (by decide) (br_f (by decide) (br_f (by decide) (br_f (by decide) (br_f (by decide) (br_f (by decide) (br_f (by decide) (br_f (by decide) (br_f (by decide) (br_f (by decide) (br_f (by decide) (br_f (by decide) (br_f (by decide) (br_f (by decide) (br_f (by decide) (br_f (by decide) (br_t rfl (br_f h0 (br_f h1 h)))))))))))))))))))))))
theorem yo_18 {u : SY} {p : Nat} {w : Int32} (hP : yo_P u p w) (ho : dc_o w = 18) (h0 : ¬ (yg_r u (dc_b w).toNatClampNeg + dc_i w) < 0) (h1 : (yg_r u (dc_b w).toNatClampNeg + dc_i w) < yg_codeSize u) (h6 : vp_in (yg_r u (dc_b w).toNatClampNeg + dc_i w) 64) : yo_S u 1 (yp_put u (dc_a w) (yg_code u (yg_r u (dc_b w).toNatClampNeg + dc_i w).toNatClampNeg)) := fun post h => yb_pre hP ho (br_f (by decide) (br_f (by decide) (br_f (by decide) (br_f (by decide) (br_f (by decide) (br_f (by decide) (br_f (by decide) (br_f (by decide) (br_f (by decide) (br_f (by decide) (br_f (by decide) (br_f (by decide) (br_f (by decide) (br_f (by decide) (br_f (by decide) (br_f (by decide) (br_f (by decide) (br_f (by decide) (br_f (by decide) (br_f (by decide) (br_t rfl (br_f h0 (br_t h1 ⟨h6, yw_put (dc_a8 w) h⟩)))))))))))))))))))))))
theorem yo_19f0 {u : SY} {p : Nat} {w : Int32} (hP : yo_P u p w) (ho : dc_o w = 19) (hz : (yg_r u (dc_b w).toNatClampNeg + dc_i w) < 0) : yo_S u 0 (ys_status u 5) := fun post h => yb_pre hP ho (br_f (by decide) (br_f (by decide) (br_f (by decide) (br_f (by decide) (br_f (by decide) (br_f (by decide) (br_f (by decide) (br_f (by decide) (br_f (by decide) (br_f (by decide) (br_f (by decide) (br_f (by decide) (br_f (by decide) (br_f (by decide) (br_f (by decide) (br_f (by decide) (br_f (by decide) (br_f (by decide) (br_f (by decide) (br_f (by decide) (br_f (by decide) (br_t rfl (br_t hz h)))))))))))))))))))))))
theorem yo_19f1 {u : SY} {p : Nat} {w : Int32} (hP : yo_P u p w) (ho : dc_o w = 19) (h0 : ¬ (yg_r u (dc_b w).toNatClampNeg + dc_i w) < 0) (h1 : ¬ (yg_r u (dc_b w).toNatClampNeg + dc_i w) < yg_codeSize u) : yo_S u 0 (ys_status u 5) := fun post h => yb_pre hP ho (br_f (by decide) (br_f (by decide) (br_f (by decide) (br_f (by decide) (br_f (by decide) (br_f (by decide) (br_f (by decide) (br_f (by decide) (br_f (by decide) (br_f (by decide) (br_f (by decide) (br_f (by decide) (br_f (by decide) (br_f (by decide) (br_f (by decide) (br_f (by decide) (br_f (by decide) (br_f (by decide) (br_f (by decide) (br_f (by decide) (br_f (by decide) (br_t rfl (br_f h0 (br_f h1 h))))))))))))))))))))))))
theorem yo_19 {u : SY} {p : Nat} {w : Int32} (hP : yo_P u p w) (ho : dc_o w = 19) (h0 : ¬ (yg_r u (dc_b w).toNatClampNeg + dc_i w) < 0) (h1 : (yg_r u (dc_b w).toNatClampNeg + dc_i w) < yg_codeSize u) (h6 : vp_in (yg_r u (dc_b w).toNatClampNeg + dc_i w) 64) : yo_S u 1 (yp_next (ys_code u (upd (yg_code u) (yg_r u (dc_b w).toNatClampNeg + dc_i w).toNatClampNeg (yg_r u (dc_a w).toNatClampNeg)))) := fun post h => yb_pre hP ho (br_f (by decide) (br_f (by decide) (br_f (by decide) (br_f (by decide) (br_f (by decide) (br_f (by decide) (br_f (by decide) (br_f (by decide) (br_f (by decide) (br_f (by decide) (br_f (by decide) (br_f (by decide) (br_f (by decide) (br_f (by decide) (br_f (by decide) (br_f (by decide) (br_f (by decide) (br_f (by decide) (br_f (by decide) (br_f (by decide) (br_f (by decide) (br_t rfl (br_f h0 (br_t h1 ⟨h6, nm_e (yw_next h)⟩))))))))))))))))))))))))
theorem yo_20 {u : SY} {p : Nat} {w : Int32} (hP : yo_P u p w) (ho : dc_o w = 20) (h1 : yg_outCount u < 64) (h6 : vp_in (yg_outCount u) 64) : yo_S u 1 (yp_next (ys_out (ys_outCount u (yg_outCount u + 1)) (upd (yg_out u) (yg_outCount u).toNatClampNeg (yg_r u (dc_a w).toNatClampNeg)))) := fun post h => yb_pre hP ho (br_f (by decide) (br_f (by decide) (br_f (by decide) (br_f (by decide) (br_f (by decide) (br_f (by decide) (br_f (by decide) (br_f (by decide) (br_f (by decide) (br_f (by decide) (br_f (by decide) (br_f (by decide) (br_f (by decide) (br_f (by decide) (br_f (by decide) (br_f (by decide) (br_f (by decide) (br_f (by decide) (br_f (by decide) (br_f (by decide) (br_f (by decide) (br_f (by decide) (br_t rfl (br_t h1 ⟨h6, nm_e (nm_e (yw_next h))⟩))))))))))))))))))))))))
theorem yo_20f {u : SY} {p : Nat} {w : Int32} (hP : yo_P u p w) (ho : dc_o w = 20) (h1 : ¬ yg_outCount u < 64) : yo_S u 0 (ys_status u 6) := fun post h => yb_pre hP ho (br_f (by decide) (br_f (by decide) (br_f (by decide) (br_f (by decide) (br_f (by decide) (br_f (by decide) (br_f (by decide) (br_f (by decide) (br_f (by decide) (br_f (by decide) (br_f (by decide) (br_f (by decide) (br_f (by decide) (br_f (by decide) (br_f (by decide) (br_f (by decide) (br_f (by decide) (br_f (by decide) (br_f (by decide) (br_f (by decide) (br_f (by decide) (br_f (by decide) (br_t rfl (br_f h1 h))))))))))))))))))))))))
/-- what a jump at the state u, not taken, or taken to t, gives -/
def yo_j (u : SY) (tk : Prop) (t : Int32) (k : Int32) (v : SY) : Prop :=
  (¬ tk ∧ k = 1 ∧ v = yp_next u) ∨ (tk ∧ (t < 0 ∨ ¬ t < yg_codeSize u) ∧ k = 0 ∧ v = ys_status u 7) ∨
  (tk ∧ ¬ t < 0 ∧ t < yg_codeSize u ∧ yg_pc u < t ∧ k = 1 ∧ v = yp_go u t) ∨ (tk ∧ ¬ t < 0 ∧ t < yg_codeSize u ∧ ¬ yg_pc u < t ∧ k = 2 ∧ v = yp_cross u t)
theorem yo_j1 {post : Int32 → SY → Prop} {u : SY} {tk : Prop} {t k : Int32} {v : SY} (hc : ∃ c : Nat, yg_codeSize u = nI c ∧ c ≤ 64) (h : yo_j u tk t k v) (htk : tk) (hp : post k v) : wpY_jump post u 1 t := by
  rcases h with ⟨h, _⟩ | ⟨_, h, rfl, rfl⟩ | ⟨_, h0, h1, h2, rfl, rfl⟩ | ⟨_, h0, h1, h2, rfl, rfl⟩
  · exact absurd htk h
  · exact yw_jf h hp
  · exact yw_jg h0 h1 h2 hp
  · obtain ⟨c, hc, h64⟩ := hc
    obtain ⟨j, hj, rfl⟩ := nI_of h0
    rw [hc, nI_ltI hj (by omega)] at h1
    exact yw_jc h0 (by rw [hc]; exact nI_lt h1 (by omega)) (vp_in_nI (by omega) (by decide)) h2 hp
theorem yo_j0 {post : Int32 → SY → Prop} {u : SY} {tk : Prop} {t k : Int32} {v : SY} (h : yo_j u tk t k v) (htk : ¬ tk) (hp : post k v) : wpY_jump post u 0 t := by
  rcases h with ⟨_, rfl, rfl⟩ | ⟨h, _⟩ | ⟨h, _⟩ | ⟨h, _⟩
  · exact yw_jn hp
  · exact absurd h htk
  · exact absurd h htk
  · exact absurd h htk
theorem yo_Pc {u : SY} {p : Nat} {w : Int32} (hP : yo_P u p w) : ∃ c : Nat, yg_codeSize u = nI c ∧ c ≤ 64 := by
  obtain ⟨_, ⟨c, h1, _, h2⟩, _⟩ := hP
  exact ⟨c, h1, h2⟩
theorem yo_21 {u : SY} {p : Nat} {w : Int32} (hP : yo_P u p w) (ho : dc_o w = 21) {k : Int32} {v : SY} (hj : yo_j u (True) (dc_i w) k v) : yo_S u k v := by
  intro post h
  refine yb_pre hP ho (br_f (by decide) (br_f (by decide) (br_f (by decide) (br_f (by decide) (br_f (by decide) (br_f (by decide) (br_f (by decide) (br_f (by decide) (br_f (by decide) (br_f (by decide) (br_f (by decide) (br_f (by decide) (br_f (by decide) (br_f (by decide) (br_f (by decide) (br_f (by decide) (br_f (by decide) (br_f (by decide) (br_f (by decide) (br_f (by decide) (br_f (by decide) (br_f (by decide) (br_f (by decide) (br_t rfl (?_)))))))))))))))))))))))))
  exact yo_j1 (yo_Pc hP) hj trivial h
theorem yo_22 {u : SY} {p : Nat} {w : Int32} (hP : yo_P u p w) (ho : dc_o w = 22) {k : Int32} {v : SY} (hj : yo_j u ((yg_r u (dc_a w).toNatClampNeg) = 0) (dc_i w) k v) : yo_S u k v := by
  intro post h
  refine yb_pre hP ho (br_f (by decide) (br_f (by decide) (br_f (by decide) (br_f (by decide) (br_f (by decide) (br_f (by decide) (br_f (by decide) (br_f (by decide) (br_f (by decide) (br_f (by decide) (br_f (by decide) (br_f (by decide) (br_f (by decide) (br_f (by decide) (br_f (by decide) (br_f (by decide) (br_f (by decide) (br_f (by decide) (br_f (by decide) (br_f (by decide) (br_f (by decide) (br_f (by decide) (br_f (by decide) (br_f (by decide) (br_t rfl (?_))))))))))))))))))))))))))
  by_cases hz : (yg_r u (dc_a w).toNatClampNeg) = 0
  · exact br_t hz (yo_j1 (yo_Pc hP) hj hz h)
  · exact br_f hz (yo_j0 hj hz h)
theorem yo_23 {u : SY} {p : Nat} {w : Int32} (hP : yo_P u p w) (ho : dc_o w = 23) {k : Int32} {v : SY} (hj : yo_j u (¬ (yg_r u (dc_a w).toNatClampNeg) = 0) (dc_i w) k v) : yo_S u k v := by
  intro post h
  refine yb_pre hP ho (br_f (by decide) (br_f (by decide) (br_f (by decide) (br_f (by decide) (br_f (by decide) (br_f (by decide) (br_f (by decide) (br_f (by decide) (br_f (by decide) (br_f (by decide) (br_f (by decide) (br_f (by decide) (br_f (by decide) (br_f (by decide) (br_f (by decide) (br_f (by decide) (br_f (by decide) (br_f (by decide) (br_f (by decide) (br_f (by decide) (br_f (by decide) (br_f (by decide) (br_f (by decide) (br_f (by decide) (br_f (by decide) (br_t rfl (?_)))))))))))))))))))))))))))
  by_cases hz : (yg_r u (dc_a w).toNatClampNeg) = 0
  · exact br_t hz (yo_j0 hj (fun z => z hz) h)
  · exact br_f hz (yo_j1 (yo_Pc hP) hj hz h)
theorem yo_24 {u : SY} {p : Nat} {w : Int32} (hP : yo_P u p w) (ho : dc_o w = 24) {k : Int32} {v : SY} (hj : yo_j u (¬ (yg_r u (dc_b w).toNatClampNeg) ≤ (yg_r u (dc_a w).toNatClampNeg)) (dc_i w) k v) : yo_S u k v := by
  intro post h
  refine yb_pre hP ho (br_f (by decide) (br_f (by decide) (br_f (by decide) (br_f (by decide) (br_f (by decide) (br_f (by decide) (br_f (by decide) (br_f (by decide) (br_f (by decide) (br_f (by decide) (br_f (by decide) (br_f (by decide) (br_f (by decide) (br_f (by decide) (br_f (by decide) (br_f (by decide) (br_f (by decide) (br_f (by decide) (br_f (by decide) (br_f (by decide) (br_f (by decide) (br_f (by decide) (br_f (by decide) (br_f (by decide) (br_f (by decide) (br_f (by decide) (br_t rfl (?_))))))))))))))))))))))))))))
  by_cases hz : (yg_r u (dc_b w).toNatClampNeg) ≤ (yg_r u (dc_a w).toNatClampNeg)
  · exact br_t hz (yo_j0 hj (fun z => z hz) h)
  · exact br_f hz (yo_j1 (yo_Pc hP) hj hz h)
theorem yo_25 {u : SY} {p : Nat} {w : Int32} (hP : yo_P u p w) (ho : dc_o w = 25) {k : Int32} {v : SY} (hj : yo_j u (¬ (yg_r u (dc_a w).toNatClampNeg) < (yg_r u (dc_b w).toNatClampNeg)) (dc_i w) k v) : yo_S u k v := by
  intro post h
  refine yb_pre hP ho (br_f (by decide) (br_f (by decide) (br_f (by decide) (br_f (by decide) (br_f (by decide) (br_f (by decide) (br_f (by decide) (br_f (by decide) (br_f (by decide) (br_f (by decide) (br_f (by decide) (br_f (by decide) (br_f (by decide) (br_f (by decide) (br_f (by decide) (br_f (by decide) (br_f (by decide) (br_f (by decide) (br_f (by decide) (br_f (by decide) (br_f (by decide) (br_f (by decide) (br_f (by decide) (br_f (by decide) (br_f (by decide) (br_f (by decide) (br_f (by decide) (br_t rfl (?_)))))))))))))))))))))))))))))
  by_cases hz : (yg_r u (dc_a w).toNatClampNeg) < (yg_r u (dc_b w).toNatClampNeg)
  · exact br_t hz (yo_j0 hj (fun z => z hz) h)
  · exact br_f hz (yo_j1 (yo_Pc hP) hj hz h)
theorem yo_26 {u : SY} {p : Nat} {w : Int32} (hP : yo_P u p w) (ho : dc_o w = 26) {k : Int32} {v : SY} (hj : yo_j u ((yg_r u (dc_a w).toNatClampNeg) = (yg_r u (dc_b w).toNatClampNeg)) (dc_i w) k v) : yo_S u k v := by
  intro post h
  refine yb_pre hP ho (br_f (by decide) (br_f (by decide) (br_f (by decide) (br_f (by decide) (br_f (by decide) (br_f (by decide) (br_f (by decide) (br_f (by decide) (br_f (by decide) (br_f (by decide) (br_f (by decide) (br_f (by decide) (br_f (by decide) (br_f (by decide) (br_f (by decide) (br_f (by decide) (br_f (by decide) (br_f (by decide) (br_f (by decide) (br_f (by decide) (br_f (by decide) (br_f (by decide) (br_f (by decide) (br_f (by decide) (br_f (by decide) (br_f (by decide) (br_f (by decide) (br_f (by decide) (br_t rfl (?_))))))))))))))))))))))))))))))
  by_cases hz : (yg_r u (dc_a w).toNatClampNeg) = (yg_r u (dc_b w).toNatClampNeg)
  · exact br_t hz (yo_j1 (yo_Pc hP) hj hz h)
  · exact br_f hz (yo_j0 hj hz h)
theorem yo_27 {u : SY} {p : Nat} {w : Int32} (hP : yo_P u p w) (ho : dc_o w = 27) {k : Int32} {v : SY} (hj : yo_j u (¬ (yg_r u (dc_a w).toNatClampNeg) = (yg_r u (dc_b w).toNatClampNeg)) (dc_i w) k v) : yo_S u k v := by
  intro post h
  refine yb_pre hP ho (br_f (by decide) (br_f (by decide) (br_f (by decide) (br_f (by decide) (br_f (by decide) (br_f (by decide) (br_f (by decide) (br_f (by decide) (br_f (by decide) (br_f (by decide) (br_f (by decide) (br_f (by decide) (br_f (by decide) (br_f (by decide) (br_f (by decide) (br_f (by decide) (br_f (by decide) (br_f (by decide) (br_f (by decide) (br_f (by decide) (br_f (by decide) (br_f (by decide) (br_f (by decide) (br_f (by decide) (br_f (by decide) (br_f (by decide) (br_f (by decide) (br_f (by decide) (br_f (by decide) (br_t rfl (?_)))))))))))))))))))))))))))))))
  by_cases hz : (yg_r u (dc_a w).toNatClampNeg) = (yg_r u (dc_b w).toNatClampNeg)
  · exact br_t hz (yo_j0 hj (fun z => z hz) h)
  · exact br_f hz (yo_j1 (yo_Pc hP) hj hz h)
theorem yo_29 {u : SY} {p : Nat} {w : Int32} (hP : yo_P u p w) (ho : dc_o w = 29) {k : Int32} {v : SY} (hj : yo_j u True (yg_r u (dc_a w).toNatClampNeg) k v) : yo_S u k v := fun post h => yb_pre hP ho (br_f (by decide) (br_f (by decide) (br_f (by decide) (br_f (by decide) (br_f (by decide) (br_f (by decide) (br_f (by decide) (br_f (by decide) (br_f (by decide) (br_f (by decide) (br_f (by decide) (br_f (by decide) (br_f (by decide) (br_f (by decide) (br_f (by decide) (br_f (by decide) (br_f (by decide) (br_f (by decide) (br_f (by decide) (br_f (by decide) (br_f (by decide) (br_f (by decide) (br_f (by decide) (br_f (by decide) (br_f (by decide) (br_f (by decide) (br_f (by decide) (br_f (by decide) (br_f (by decide) (br_f (by decide) (br_f (by decide) (br_t rfl (yo_j1 (yo_Pc hP) hj trivial h)))))))))))))))))))))))))))))))))
theorem yo_28f {u : SY} {p : Nat} {w : Int32} (hP : yo_P u p w) (ho : dc_o w = 28) (ht : (dc_i w) < 0 ∨ ¬ (dc_i w) < yg_codeSize u) : yo_S u 0 (ys_status u 7) := by
  intro post h
  refine yb_pre hP ho (br_f (by decide) (br_f (by decide) (br_f (by decide) (br_f (by decide) (br_f (by decide) (br_f (by decide) (br_f (by decide) (br_f (by decide) (br_f (by decide) (br_f (by decide) (br_f (by decide) (br_f (by decide) (br_f (by decide) (br_f (by decide) (br_f (by decide) (br_f (by decide) (br_f (by decide) (br_f (by decide) (br_f (by decide) (br_f (by decide) (br_f (by decide) (br_f (by decide) (br_f (by decide) (br_f (by decide) (br_f (by decide) (br_f (by decide) (br_f (by decide) (br_f (by decide) (br_f (by decide) (br_f (by decide) (br_t rfl (?_))))))))))))))))))))))))))))))))
  by_cases h0 : dc_i w < 0
  · exact br_t h0 h
  · exact br_f h0 (br_f (by rcases ht with ht | ht; exact absurd ht h0; exact ht) h)
theorem yo_28 {u : SY} {p : Nat} {w : Int32} (hP : yo_P u p w) (ho : dc_o w = 28) (h0 : ¬ (dc_i w) < 0) (h1 : (dc_i w) < yg_codeSize u) {k : Int32} {v : SY} (hj : yo_j (ys_r u (upd (yg_r u) (dc_a w).toNatClampNeg (yg_pc u + 1))) True (dc_i w) k v) : yo_S u k v := fun post h => yb_pre hP ho (br_f (by decide) (br_f (by decide) (br_f (by decide) (br_f (by decide) (br_f (by decide) (br_f (by decide) (br_f (by decide) (br_f (by decide) (br_f (by decide) (br_f (by decide) (br_f (by decide) (br_f (by decide) (br_f (by decide) (br_f (by decide) (br_f (by decide) (br_f (by decide) (br_f (by decide) (br_f (by decide) (br_f (by decide) (br_f (by decide) (br_f (by decide) (br_f (by decide) (br_f (by decide) (br_f (by decide) (br_f (by decide) (br_f (by decide) (br_f (by decide) (br_f (by decide) (br_f (by decide) (br_f (by decide) (br_t rfl (br_f h0 (br_t h1 ⟨dc_a8 w, nm_e (yo_j1 (yo_Pc hP) hj trivial h)⟩)))))))))))))))))))))))))))))))))
theorem yo_bad {u : SY} {p : Nat} {w : Int32} (hP : yo_P u p w) {k : Nat} (ho : dc_o w = nI k) (hk : 29 < k) (hk2 : k < 32) : yo_S u 0 (ys_status u 2) := fun post h => yb_pre hP ho (br_f (nI_pos (by omega)) (br_t (nI_lt (a := 29) hk (by omega)) h))
end
section
/-! the visible state of the component, as a state of the reference -/
def xv_y (u : SX) : SY := (xg_codeSize u, xg_memSize u, xg_hot u, xg_pc u, xg_status u, xg_steps u, xg_cursor u, xg_outCount u, xg_code u, xg_crossings u, xg_mem u, xg_r u, xg_out u)
def iv_v (v : SY) : Prop := (∃ c : Nat, 8 ≤ c ∧ c ≤ 64 ∧ yg_codeSize v = nI c) ∧ (∃ m : Nat, 8 ≤ m ∧ m ≤ 64 ∧ yg_memSize v = nI m) ∧ (∃ o : Nat, o ≤ 64 ∧ yg_outCount v = nI o) ∧ (∃ k : Nat, k ≤ 64 ∧ yg_cursor v = nI k) ∧ (∃ p : Nat, p ≤ 64 ∧ yg_pc v = nI p)
/-! the trace code: values, memory, code, output, output count -/
abbrev ir_R : Type := (Nat → Int32) × (Nat → Int32) × (Nat → Int32) × (Nat → Int32) × Int32
def ir_ok (cs ms : Int32) (mk : Int64) (o x y : Int32) (R : ir_R) : Prop := 20 < o → hd_p cs ms mk R.2.2.1 R.2.2.2.2 o x y
def ir_rd (n : Int32) (f : Nat → Int32) (x : Int32) : Int32 := if x < 0 ∨ n ≤ x then 0 else f x.toNatClampNeg
def ir_wr (n : Int32) (f : Nat → Int32) (x y : Int32) : Nat → Int32 := if x < 0 ∨ n ≤ x then f else upd f x.toNatClampNeg y
def ir_f (cs ms : Int32) (o x y : Int32) (d : Nat) (R : ir_R) : ir_R :=
  if o ≤ 15 then (upd R.1 d (al_f o x y), R.2)
  else if o = 16 then (upd R.1 d (ir_rd ms R.2.1 x), R.2)
  else if o = 18 then (upd R.1 d (ir_rd cs R.2.2.1 x), R.2)
  else if o = 17 then (R.1, ir_wr ms R.2.1 x y, R.2.2)
  else if o = 19 then (R.1, R.2.1, ir_wr cs R.2.2.1 x y, R.2.2.2)
  else if o = 20 then (if 64 ≤ R.2.2.2.2 then R else (R.1, R.2.1, R.2.2.1, upd R.2.2.2.1 R.2.2.2.2.toNatClampNeg x, R.2.2.2.2 + 1))
  else R
def ir_go (cs ms : Int32) (mk : Int64) (o a b d : Nat → Int32) : Nat → ir_R → ir_R → Prop
  | 0 => fun R0 R => R = R0
  | n + 1 => fun R0 R => ∃ R1 : ir_R, ir_go cs ms mk o a b d n R0 R1 ∧ ir_ok cs ms mk (o n) (R1.1 (a n).toNatClampNeg) (R1.1 (b n).toNatClampNeg) R1 ∧ R = ir_f cs ms (o n) (R1.1 (a n).toNatClampNeg) (R1.1 (b n).toNatClampNeg) (d n).toNatClampNeg R1
/-! n steps of the reference, c of them crossings, each into the mask -/
def yr_n (cs : Int32) (mk : Int64) : Nat → Nat → SY → SY → Prop
  | 0 => fun c v v' => c = 0 ∧ v' = v
  | n + 1 => fun c v v' => ∃ (c1 : Nat) (vm : SY) (k : Int32), yr_n cs mk n c1 v vm ∧ yg_status vm = 0 ∧ yo_S vm k v' ∧ (¬ yg_pc v' < 0 ∧ yg_pc v' < cs ∧ mb_p mk (yg_pc v')) ∧ ((k = 1 ∧ c = c1) ∨ (k = 2 ∧ c = c1 + 1))
/-- the crossings counted n targets on -/
def bu_n (f tg : Nat → Int32) : Nat → (Nat → Int32)
  | 0 => f
  | n + 1 => upd (bu_n f tg n) (tg n).toNatClampNeg (bu_n f tg n (tg n).toNatClampNeg + 1)
def rg_f (r f : Nat → Int32) : Nat → Int32 := fun j => if j < 8 then f j else r j
def yr_st (v : SY) (pc : Int32) (n : Nat) (cr rf : Nat → Int32) (R : ir_R) : SY := (yg_codeSize v, yg_memSize v, yg_hot v, pc, 0, yg_steps v + nI n, yg_cursor v, R.2.2.2.2, R.2.2.1, cr, R.2.1, rf, R.2.2.2.1)
def sm_ag (mk : Int64) (code code' : Nat → Int32) : Prop := ∀ p : Nat, p < 64 → mb_p mk (nI p) → code' p = code p
def sm_ad (vc : Nat) (kf kv V : Nat → Int32) : Prop := ∀ k : Nat, 8 ≤ k → k < vc → kf k ≠ 0 → V k = kv k
def sm_oc (x : Int32) : Prop := ∃ o : Nat, o ≤ 64 ∧ x = nI o
def sm_st (cs ms : Int32) (mk : Int64) (code : Nat → Int32) (hd : Int32) (v : SY) (R : ir_R) : Prop :=
  yg_codeSize v = cs ∧ yg_memSize v = ms ∧ yg_pc v = hd ∧ yg_status v = 0 ∧ sm_oc (yg_outCount v) ∧ sm_ag mk code (yg_code v) ∧ (∀ j : Nat, j < 8 → R.1 j = yg_r v j) ∧ R.2 = (yg_mem v, yg_code v, yg_out v, yg_outCount v)
def sm_at (cs : Int32) (mk : Int64) (tg : Nat → Int32) (v0 : SY) (R : ir_R) (i : Nat) (p : Int32) (cc : Nat) (f : Nat → Int32) : Prop :=
  yr_n cs mk i cc v0 (yr_st v0 p i (bu_n (yg_crossings v0) tg cc) (rg_f (yg_r v0) f) R)
/-- the part of an array that belongs to slot s -/
def sl_c (n s : Nat) (f : Nat → Int32) : Nat → Int32 := fun i => if i < n then f (n * s + i) else 0
theorem sl_at {n s i : Nat} {f : Nat → Int32} (h : i < n) : sl_c n s f i = f (n * s + i) := if_pos h
theorem sl_upd {n s k : Nat} {f : Nat → Int32} {x : Int32} (h : k < n) : sl_c n s (upd f (n * s + k) x) = upd (sl_c n s f) k x := by
  funext i
  unfold sl_c
  by_cases e : i = k
  · subst e; rw [if_pos h, pk_us, pk_us]
  · rw [pk_un e]
    by_cases hi : i < n
    · rw [if_pos hi, if_pos hi, pk_un (by omega)]
    · rw [if_neg hi, if_neg hi]
theorem sl_ne (n s t i k : Nat) (hi : i < n) (hk : k < n) (hst : t ≠ s) : n * t + i ≠ n * s + k := by
  intro h
  have h1 : (n * t + i) / n = t := by rw [Nat.mul_add_div (by omega), Nat.div_eq_of_lt hi, Nat.add_zero]
  have h2 : (n * s + k) / n = s := by rw [Nat.mul_add_div (by omega), Nat.div_eq_of_lt hk, Nat.add_zero]
  rw [h, h2] at h1
  exact hst h1.symm
theorem sl_oth {n s t k : Nat} {f : Nat → Int32} {x : Int32} (h : k < n) (hst : t ≠ s) : sl_c n t (upd f (n * s + k) x) = sl_c n t f := by
  funext i
  unfold sl_c
  by_cases hi : i < n
  · rw [if_pos hi, if_pos hi, pk_un (sl_ne n s t i k hi h hst)]
  · rw [if_neg hi, if_neg hi]
/-! a finished trace -/
def tk_ok (cs ms : Int32) (code : Nat → Int32) (hd ln : Int32) (mk : Int64) (ir vl cx : Int32) (tg o a b d kf kv xp xs xc sn : Nat → Int32) : Prop :=
  ∃ c h n ni nv nc : Nat, cs = nI c ∧ c ≤ 64 ∧ hd = nI h ∧ h < c ∧ ln = nI n ∧ 1 ≤ n ∧ n ≤ 96 ∧ mb_p mk hd ∧ ir = nI ni ∧ ni ≤ 256 ∧ vl = nI nv ∧ nv ≤ 256 ∧ cx = nI nc ∧ nc ≤ 96 ∧
  (∀ i : Nat, i < ni → vp_in (a i) 256 ∧ vp_in (b i) 256 ∧ vp_in (d i) 256 ∧ ((o i ≤ 15 ∨ o i = 16 ∨ o i = 18) → 8 ≤ (d i).toNatClampNeg ∧ kf (d i).toNatClampNeg = 0)) ∧
  (∀ i : Nat, i < nc → vp_in (tg i) 64) ∧ (∀ j : Nat, j < 8 → vp_in (sn j) 256) ∧
  (∀ (v0 : SY) (R0 R : ir_R), sm_st cs ms mk code hd v0 R0 → sm_ad nv kf kv R0.1 → ir_go cs ms mk o a b d ni R0 R → sm_at cs mk tg v0 R n hd nc (fun j => R.1 (sn j).toNatClampNeg) ∧ sm_ag mk code R.2.2.1 ∧ sm_oc R.2.2.2.2) ∧
  (∀ (v0 : SY) (R0 R : ir_R) (m : Nat), sm_st cs ms mk code hd v0 R0 → sm_ad nv kf kv R0.1 → m < ni → ir_go cs ms mk o a b d m R0 R → ¬ ir_ok cs ms mk (o m) (R.1 (a m).toNatClampNeg) (R.1 (b m).toNatClampNeg) R →
    ∃ e k q : Nat, d m = nI e ∧ 1 ≤ e ∧ e < 128 ∧ xs e = nI k ∧ k ≤ n ∧ xc e = nI q ∧ q ≤ nc ∧ (∀ j : Nat, j < 8 → vp_in (sn (8 * e + j)) 256) ∧ sm_oc R.2.2.2.2 ∧
      (∃ p : Nat, p < c ∧ xp e = nI p) ∧ sm_at cs mk tg v0 R k (xp e) q (fun j => R.1 (sn (8 * e + j)).toNatClampNeg))
def tk_u (u : SX) (s : Nat) : Prop := tk_ok (xg_codeSize u) (xg_memSize u) (xg_code u) (xg_trHead u s) (xg_trLen u s) (xg_trMask u s) (xg_trIr u s) (xg_trVals u s) (xg_trCross u s) (sl_c 96 s (xg_trTargets u)) (sl_c 256 s (xg_irOp u)) (sl_c 256 s (xg_irA u)) (sl_c 256 s (xg_irB u)) (sl_c 256 s (xg_irD u)) (sl_c 256 s (xg_kFlag u)) (sl_c 256 s (xg_kVal u)) (sl_c 128 s (xg_exPc u)) (sl_c 128 s (xg_exSteps u)) (sl_c 128 s (xg_exCross u)) (sl_c 1024 s (xg_snap u))
theorem sm_ag_tr {mk : Int64} {f g h : Nat → Int32} (h1 : sm_ag mk f g) (h2 : sm_ag mk g h) : sm_ag mk f h := fun p hp hm => (h2 p hp hm).trans (h1 p hp hm)
theorem sm_ag_sy {mk : Int64} {f g : Nat → Int32} (h1 : sm_ag mk f g) : sm_ag mk g f := fun p hp hm => (h1 p hp hm).symm
theorem sm_ag_rf {mk : Int64} {f : Nat → Int32} : sm_ag mk f f := fun _ _ _ => rfl
theorem tk_code {cs ms : Int32} {code code' : Nat → Int32} {hd ln : Int32} {mk : Int64} {ir vl cx : Int32} {tg o a b d kf kv xp xs xc sn : Nat → Int32} (h : tk_ok cs ms code hd ln mk ir vl cx tg o a b d kf kv xp xs xc sn) (g : sm_ag mk code code') : tk_ok cs ms code' hd ln mk ir vl cx tg o a b d kf kv xp xs xc sn := by
  obtain ⟨c, h0, n, ni, nv, nc, a1, a2, a3, a4, a5, a6, a7, a8, a9, b1, b2, b3, b4, b5, b6, b7, b8, b9, b10⟩ := h
  refine ⟨c, h0, n, ni, nv, nc, a1, a2, a3, a4, a5, a6, a7, a8, a9, b1, b2, b3, b4, b5, b6, b7, b8, ?_, ?_⟩
  · intro v0 R0 R hs ha hr
    obtain ⟨s1, s2, s3, s4, s5, s6, s7⟩ := hs
    obtain ⟨k1, k2, k3⟩ := b9 v0 R0 R ⟨s1, s2, s3, s4, s5, fun p hp hm => (s6 p hp hm).trans (g p hp hm), s7⟩ ha hr
    exact ⟨k1, fun p hp hm => (k2 p hp hm).trans (g p hp hm).symm, k3⟩
  · intro v0 R0 R m hs ha hm hr hx
    obtain ⟨s1, s2, s3, s4, s5, s6, s7⟩ := hs
    exact b10 v0 R0 R m ⟨s1, s2, s3, s4, s5, fun p hp hm => (s6 p hp hm).trans (g p hp hm), s7⟩ ha hm hr hx
/-! the recording -/
def rc_ok (w : Int32) (p q : Nat) : Prop := (¬ 20 < dc_o w → q = p + 1) ∧ ((dc_o w = 21 ∨ dc_o w = 28) → nI q = dc_i w) ∧ (21 < dc_o w → dc_o w < 28 → nI q = dc_i w ∨ q = p + 1)
def iv_path (cs : Nat) (code : Nat → Int32) (mk : Int64) (h n : Nat) (rp rd rn : Nat → Int32) (pc : Int32) : Prop :=
  h < cs ∧ (n = 0 → pc = nI h) ∧ (0 < n → rp 0 = nI h) ∧
  ∀ i : Nat, i < n → ∃ p q : Nat, rp i = nI p ∧ p < cs ∧ mb_p mk (nI p) ∧ rd i = code p ∧ rn i = nI q ∧ q ≤ cs ∧ rc_ok (code p) p q ∧ (i + 1 < n → rp (i + 1) = nI q) ∧ (i + 1 = n → pc = nI q)
def iv_rec (u : SX) : Prop := xg_recording u = 0 ∨ ∃ cs h n : Nat, xg_codeSize u = nI cs ∧ cs ≤ 64 ∧ xg_recHead u = nI h ∧ xg_recLen u = nI n ∧ n < 96 ∧ iv_path cs (xg_code u) (xg_recMask u) h n (xg_recPc u) (xg_recWord u) (xg_recNext u) (xg_pc u)
def iv_sl (u : SX) : Prop := (∀ s : Nat, s < 8 → xg_trLive u s ≠ 0 → tk_u u s) ∧ (∀ h : Nat, h < 64 → xg_slotOf u h = 0 ∨ ∃ s : Nat, s < 8 ∧ xg_slotOf u h = nI (s + 1) ∧ xg_trLive u s ≠ 0 ∧ xg_trHead u s = nI h)
def iv_x (u : SX) : Prop := iv_v (xv_y u) ∧ iv_rec u ∧ iv_sl u ∧ (∃ k : Nat, k < 8 ∧ xg_nextVictim u = nI k)
end
section
/-! frames: tuples of fields, and what their equality says -/
def xo_t (u : SX) : Int32 × Int32 × Int32 × Int32 × Int32 × Int32 × Int32 × Int32 × (Nat → Int32) × (Nat → Int32) × (Nat → Int32) × (Nat → Int32) × (Nat → Int32) × Int32 × Int32 × Int32 × Int32 × Int32 × Int32 × Int32 × Int64 × (Nat → Int32) × (Nat → Int32) × (Nat → Int32) × Int32 × Int64 × (Nat → Int32) × (Nat → Int32) × (Nat → Int32) × (Nat → Int32) × (Nat → Int64) × (Nat → Int32) × (Nat → Int32) × (Nat → Int32) × (Nat → Int32) × (Nat → Int32) × Int32 × Int32 × Int32 × Int32 × Int32 × Int32 := (xg_codeSize u, xg_memSize u, xg_hot u, xg_pc u, xg_status u, xg_steps u, xg_cursor u, xg_outCount u, xg_code u, xg_crossings u, xg_mem u, xg_r u, xg_out u, xg_done u, xg_crossed u, xg_nextPc u, xg_crossedTo u, xg_recording u, xg_recHead u, xg_recLen u, xg_recMask u, xg_recPc u, xg_recWord u, xg_recNext u, xg_nextVictim u, xg_runMask u, xg_slotOf u, xg_trLive u, xg_trHead u, xg_trLen u, xg_trMask u, xg_trIr u, xg_trVals u, xg_trCross u, xg_val u, xg_trTargets u, xg_buildSlot u, xg_buildStep u, xg_buildPc u, xg_bIr u, xg_bVal u, xg_crossCount u)
theorem xo_codeSize {u u' : SX} (h : xo_t u' = xo_t u) : xg_codeSize u' = xg_codeSize u := congrArg (fun t => t.1) h
theorem xo_memSize {u u' : SX} (h : xo_t u' = xo_t u) : xg_memSize u' = xg_memSize u := congrArg (fun t => t.2.1) h
theorem xo_hot {u u' : SX} (h : xo_t u' = xo_t u) : xg_hot u' = xg_hot u := congrArg (fun t => t.2.2.1) h
theorem xo_pc {u u' : SX} (h : xo_t u' = xo_t u) : xg_pc u' = xg_pc u := congrArg (fun t => t.2.2.2.1) h
theorem xo_status {u u' : SX} (h : xo_t u' = xo_t u) : xg_status u' = xg_status u := congrArg (fun t => t.2.2.2.2.1) h
theorem xo_steps {u u' : SX} (h : xo_t u' = xo_t u) : xg_steps u' = xg_steps u := congrArg (fun t => t.2.2.2.2.2.1) h
theorem xo_cursor {u u' : SX} (h : xo_t u' = xo_t u) : xg_cursor u' = xg_cursor u := congrArg (fun t => t.2.2.2.2.2.2.1) h
theorem xo_outCount {u u' : SX} (h : xo_t u' = xo_t u) : xg_outCount u' = xg_outCount u := congrArg (fun t => t.2.2.2.2.2.2.2.1) h
theorem xo_code {u u' : SX} (h : xo_t u' = xo_t u) : xg_code u' = xg_code u := congrArg (fun t => t.2.2.2.2.2.2.2.2.1) h
theorem xo_crossings {u u' : SX} (h : xo_t u' = xo_t u) : xg_crossings u' = xg_crossings u := congrArg (fun t => t.2.2.2.2.2.2.2.2.2.1) h
theorem xo_mem {u u' : SX} (h : xo_t u' = xo_t u) : xg_mem u' = xg_mem u := congrArg (fun t => t.2.2.2.2.2.2.2.2.2.2.1) h
theorem xo_r {u u' : SX} (h : xo_t u' = xo_t u) : xg_r u' = xg_r u := congrArg (fun t => t.2.2.2.2.2.2.2.2.2.2.2.1) h
theorem xo_out {u u' : SX} (h : xo_t u' = xo_t u) : xg_out u' = xg_out u := congrArg (fun t => t.2.2.2.2.2.2.2.2.2.2.2.2.1) h
theorem xo_done {u u' : SX} (h : xo_t u' = xo_t u) : xg_done u' = xg_done u := congrArg (fun t => t.2.2.2.2.2.2.2.2.2.2.2.2.2.1) h
theorem xo_crossed {u u' : SX} (h : xo_t u' = xo_t u) : xg_crossed u' = xg_crossed u := congrArg (fun t => t.2.2.2.2.2.2.2.2.2.2.2.2.2.2.1) h
theorem xo_nextPc {u u' : SX} (h : xo_t u' = xo_t u) : xg_nextPc u' = xg_nextPc u := congrArg (fun t => t.2.2.2.2.2.2.2.2.2.2.2.2.2.2.2.1) h
theorem xo_crossedTo {u u' : SX} (h : xo_t u' = xo_t u) : xg_crossedTo u' = xg_crossedTo u := congrArg (fun t => t.2.2.2.2.2.2.2.2.2.2.2.2.2.2.2.2.1) h
theorem xo_recording {u u' : SX} (h : xo_t u' = xo_t u) : xg_recording u' = xg_recording u := congrArg (fun t => t.2.2.2.2.2.2.2.2.2.2.2.2.2.2.2.2.2.1) h
theorem xo_recHead {u u' : SX} (h : xo_t u' = xo_t u) : xg_recHead u' = xg_recHead u := congrArg (fun t => t.2.2.2.2.2.2.2.2.2.2.2.2.2.2.2.2.2.2.1) h
theorem xo_recLen {u u' : SX} (h : xo_t u' = xo_t u) : xg_recLen u' = xg_recLen u := congrArg (fun t => t.2.2.2.2.2.2.2.2.2.2.2.2.2.2.2.2.2.2.2.1) h
theorem xo_recMask {u u' : SX} (h : xo_t u' = xo_t u) : xg_recMask u' = xg_recMask u := congrArg (fun t => t.2.2.2.2.2.2.2.2.2.2.2.2.2.2.2.2.2.2.2.2.1) h
theorem xo_recPc {u u' : SX} (h : xo_t u' = xo_t u) : xg_recPc u' = xg_recPc u := congrArg (fun t => t.2.2.2.2.2.2.2.2.2.2.2.2.2.2.2.2.2.2.2.2.2.1) h
theorem xo_recWord {u u' : SX} (h : xo_t u' = xo_t u) : xg_recWord u' = xg_recWord u := congrArg (fun t => t.2.2.2.2.2.2.2.2.2.2.2.2.2.2.2.2.2.2.2.2.2.2.1) h
theorem xo_recNext {u u' : SX} (h : xo_t u' = xo_t u) : xg_recNext u' = xg_recNext u := congrArg (fun t => t.2.2.2.2.2.2.2.2.2.2.2.2.2.2.2.2.2.2.2.2.2.2.2.1) h
theorem xo_nextVictim {u u' : SX} (h : xo_t u' = xo_t u) : xg_nextVictim u' = xg_nextVictim u := congrArg (fun t => t.2.2.2.2.2.2.2.2.2.2.2.2.2.2.2.2.2.2.2.2.2.2.2.2.1) h
theorem xo_runMask {u u' : SX} (h : xo_t u' = xo_t u) : xg_runMask u' = xg_runMask u := congrArg (fun t => t.2.2.2.2.2.2.2.2.2.2.2.2.2.2.2.2.2.2.2.2.2.2.2.2.2.1) h
theorem xo_slotOf {u u' : SX} (h : xo_t u' = xo_t u) : xg_slotOf u' = xg_slotOf u := congrArg (fun t => t.2.2.2.2.2.2.2.2.2.2.2.2.2.2.2.2.2.2.2.2.2.2.2.2.2.2.1) h
theorem xo_trLive {u u' : SX} (h : xo_t u' = xo_t u) : xg_trLive u' = xg_trLive u := congrArg (fun t => t.2.2.2.2.2.2.2.2.2.2.2.2.2.2.2.2.2.2.2.2.2.2.2.2.2.2.2.1) h
theorem xo_trHead {u u' : SX} (h : xo_t u' = xo_t u) : xg_trHead u' = xg_trHead u := congrArg (fun t => t.2.2.2.2.2.2.2.2.2.2.2.2.2.2.2.2.2.2.2.2.2.2.2.2.2.2.2.2.1) h
theorem xo_trLen {u u' : SX} (h : xo_t u' = xo_t u) : xg_trLen u' = xg_trLen u := congrArg (fun t => t.2.2.2.2.2.2.2.2.2.2.2.2.2.2.2.2.2.2.2.2.2.2.2.2.2.2.2.2.2.1) h
theorem xo_trMask {u u' : SX} (h : xo_t u' = xo_t u) : xg_trMask u' = xg_trMask u := congrArg (fun t => t.2.2.2.2.2.2.2.2.2.2.2.2.2.2.2.2.2.2.2.2.2.2.2.2.2.2.2.2.2.2.1) h
theorem xo_trIr {u u' : SX} (h : xo_t u' = xo_t u) : xg_trIr u' = xg_trIr u := congrArg (fun t => t.2.2.2.2.2.2.2.2.2.2.2.2.2.2.2.2.2.2.2.2.2.2.2.2.2.2.2.2.2.2.2.1) h
theorem xo_trVals {u u' : SX} (h : xo_t u' = xo_t u) : xg_trVals u' = xg_trVals u := congrArg (fun t => t.2.2.2.2.2.2.2.2.2.2.2.2.2.2.2.2.2.2.2.2.2.2.2.2.2.2.2.2.2.2.2.2.1) h
theorem xo_trCross {u u' : SX} (h : xo_t u' = xo_t u) : xg_trCross u' = xg_trCross u := congrArg (fun t => t.2.2.2.2.2.2.2.2.2.2.2.2.2.2.2.2.2.2.2.2.2.2.2.2.2.2.2.2.2.2.2.2.2.1) h
theorem xo_val {u u' : SX} (h : xo_t u' = xo_t u) : xg_val u' = xg_val u := congrArg (fun t => t.2.2.2.2.2.2.2.2.2.2.2.2.2.2.2.2.2.2.2.2.2.2.2.2.2.2.2.2.2.2.2.2.2.2.1) h
theorem xo_trTargets {u u' : SX} (h : xo_t u' = xo_t u) : xg_trTargets u' = xg_trTargets u := congrArg (fun t => t.2.2.2.2.2.2.2.2.2.2.2.2.2.2.2.2.2.2.2.2.2.2.2.2.2.2.2.2.2.2.2.2.2.2.2.1) h
theorem xo_buildSlot {u u' : SX} (h : xo_t u' = xo_t u) : xg_buildSlot u' = xg_buildSlot u := congrArg (fun t => t.2.2.2.2.2.2.2.2.2.2.2.2.2.2.2.2.2.2.2.2.2.2.2.2.2.2.2.2.2.2.2.2.2.2.2.2.1) h
theorem xo_buildStep {u u' : SX} (h : xo_t u' = xo_t u) : xg_buildStep u' = xg_buildStep u := congrArg (fun t => t.2.2.2.2.2.2.2.2.2.2.2.2.2.2.2.2.2.2.2.2.2.2.2.2.2.2.2.2.2.2.2.2.2.2.2.2.2.1) h
theorem xo_buildPc {u u' : SX} (h : xo_t u' = xo_t u) : xg_buildPc u' = xg_buildPc u := congrArg (fun t => t.2.2.2.2.2.2.2.2.2.2.2.2.2.2.2.2.2.2.2.2.2.2.2.2.2.2.2.2.2.2.2.2.2.2.2.2.2.2.1) h
theorem xo_bIr {u u' : SX} (h : xo_t u' = xo_t u) : xg_bIr u' = xg_bIr u := congrArg (fun t => t.2.2.2.2.2.2.2.2.2.2.2.2.2.2.2.2.2.2.2.2.2.2.2.2.2.2.2.2.2.2.2.2.2.2.2.2.2.2.2.1) h
theorem xo_bVal {u u' : SX} (h : xo_t u' = xo_t u) : xg_bVal u' = xg_bVal u := congrArg (fun t => t.2.2.2.2.2.2.2.2.2.2.2.2.2.2.2.2.2.2.2.2.2.2.2.2.2.2.2.2.2.2.2.2.2.2.2.2.2.2.2.2.1) h
theorem xo_crossCount {u u' : SX} (h : xo_t u' = xo_t u) : xg_crossCount u' = xg_crossCount u := congrArg (fun t => t.2.2.2.2.2.2.2.2.2.2.2.2.2.2.2.2.2.2.2.2.2.2.2.2.2.2.2.2.2.2.2.2.2.2.2.2.2.2.2.2.2) h
def xk_t (u : SX) : Int32 × Int32 × Int32 × Int32 × Int32 × Int32 × Int32 × Int32 × (Nat → Int32) × (Nat → Int32) × (Nat → Int32) × (Nat → Int32) × Int32 × Int32 × Int32 × Int32 × Int32 × Int32 × Int64 × (Nat → Int32) × (Nat → Int32) × (Nat → Int32) × Int32 × Int64 × (Nat → Int32) × (Nat → Int32) × (Nat → Int32) × (Nat → Int64) × (Nat → Int32) × (Nat → Int32) × (Nat → Int32) × (Nat → Int32) × (Nat → Int32) × (Nat → Int32) × (Nat → Int32) × (Nat → Int32) × (Nat → Int32) × (Nat → Int32) × (Nat → Int32) × (Nat → Int32) × (Nat → Int32) × (Nat → Int32) := (xg_codeSize u, xg_memSize u, xg_hot u, xg_pc u, xg_status u, xg_steps u, xg_cursor u, xg_outCount u, xg_crossings u, xg_mem u, xg_r u, xg_out u, xg_done u, xg_crossed u, xg_nextPc u, xg_crossedTo u, xg_recHead u, xg_recLen u, xg_recMask u, xg_recPc u, xg_recWord u, xg_recNext u, xg_nextVictim u, xg_runMask u, xg_val u, xg_trHead u, xg_trLen u, xg_trMask u, xg_trIr u, xg_trVals u, xg_trCross u, xg_trTargets u, xg_irOp u, xg_irA u, xg_irB u, xg_irD u, xg_kFlag u, xg_kVal u, xg_exPc u, xg_exSteps u, xg_exCross u, xg_snap u)
theorem xk_codeSize {u u' : SX} (h : xk_t u' = xk_t u) : xg_codeSize u' = xg_codeSize u := congrArg (fun t => t.1) h
theorem xk_memSize {u u' : SX} (h : xk_t u' = xk_t u) : xg_memSize u' = xg_memSize u := congrArg (fun t => t.2.1) h
theorem xk_hot {u u' : SX} (h : xk_t u' = xk_t u) : xg_hot u' = xg_hot u := congrArg (fun t => t.2.2.1) h
theorem xk_pc {u u' : SX} (h : xk_t u' = xk_t u) : xg_pc u' = xg_pc u := congrArg (fun t => t.2.2.2.1) h
theorem xk_status {u u' : SX} (h : xk_t u' = xk_t u) : xg_status u' = xg_status u := congrArg (fun t => t.2.2.2.2.1) h
theorem xk_steps {u u' : SX} (h : xk_t u' = xk_t u) : xg_steps u' = xg_steps u := congrArg (fun t => t.2.2.2.2.2.1) h
theorem xk_cursor {u u' : SX} (h : xk_t u' = xk_t u) : xg_cursor u' = xg_cursor u := congrArg (fun t => t.2.2.2.2.2.2.1) h
theorem xk_outCount {u u' : SX} (h : xk_t u' = xk_t u) : xg_outCount u' = xg_outCount u := congrArg (fun t => t.2.2.2.2.2.2.2.1) h
theorem xk_crossings {u u' : SX} (h : xk_t u' = xk_t u) : xg_crossings u' = xg_crossings u := congrArg (fun t => t.2.2.2.2.2.2.2.2.1) h
theorem xk_mem {u u' : SX} (h : xk_t u' = xk_t u) : xg_mem u' = xg_mem u := congrArg (fun t => t.2.2.2.2.2.2.2.2.2.1) h
theorem xk_r {u u' : SX} (h : xk_t u' = xk_t u) : xg_r u' = xg_r u := congrArg (fun t => t.2.2.2.2.2.2.2.2.2.2.1) h
theorem xk_out {u u' : SX} (h : xk_t u' = xk_t u) : xg_out u' = xg_out u := congrArg (fun t => t.2.2.2.2.2.2.2.2.2.2.2.1) h
theorem xk_done {u u' : SX} (h : xk_t u' = xk_t u) : xg_done u' = xg_done u := congrArg (fun t => t.2.2.2.2.2.2.2.2.2.2.2.2.1) h
theorem xk_crossed {u u' : SX} (h : xk_t u' = xk_t u) : xg_crossed u' = xg_crossed u := congrArg (fun t => t.2.2.2.2.2.2.2.2.2.2.2.2.2.1) h
theorem xk_nextPc {u u' : SX} (h : xk_t u' = xk_t u) : xg_nextPc u' = xg_nextPc u := congrArg (fun t => t.2.2.2.2.2.2.2.2.2.2.2.2.2.2.1) h
theorem xk_crossedTo {u u' : SX} (h : xk_t u' = xk_t u) : xg_crossedTo u' = xg_crossedTo u := congrArg (fun t => t.2.2.2.2.2.2.2.2.2.2.2.2.2.2.2.1) h
theorem xk_recHead {u u' : SX} (h : xk_t u' = xk_t u) : xg_recHead u' = xg_recHead u := congrArg (fun t => t.2.2.2.2.2.2.2.2.2.2.2.2.2.2.2.2.1) h
theorem xk_recLen {u u' : SX} (h : xk_t u' = xk_t u) : xg_recLen u' = xg_recLen u := congrArg (fun t => t.2.2.2.2.2.2.2.2.2.2.2.2.2.2.2.2.2.1) h
theorem xk_recMask {u u' : SX} (h : xk_t u' = xk_t u) : xg_recMask u' = xg_recMask u := congrArg (fun t => t.2.2.2.2.2.2.2.2.2.2.2.2.2.2.2.2.2.2.1) h
theorem xk_recPc {u u' : SX} (h : xk_t u' = xk_t u) : xg_recPc u' = xg_recPc u := congrArg (fun t => t.2.2.2.2.2.2.2.2.2.2.2.2.2.2.2.2.2.2.2.1) h
theorem xk_recWord {u u' : SX} (h : xk_t u' = xk_t u) : xg_recWord u' = xg_recWord u := congrArg (fun t => t.2.2.2.2.2.2.2.2.2.2.2.2.2.2.2.2.2.2.2.2.1) h
theorem xk_recNext {u u' : SX} (h : xk_t u' = xk_t u) : xg_recNext u' = xg_recNext u := congrArg (fun t => t.2.2.2.2.2.2.2.2.2.2.2.2.2.2.2.2.2.2.2.2.2.1) h
theorem xk_nextVictim {u u' : SX} (h : xk_t u' = xk_t u) : xg_nextVictim u' = xg_nextVictim u := congrArg (fun t => t.2.2.2.2.2.2.2.2.2.2.2.2.2.2.2.2.2.2.2.2.2.2.1) h
theorem xk_runMask {u u' : SX} (h : xk_t u' = xk_t u) : xg_runMask u' = xg_runMask u := congrArg (fun t => t.2.2.2.2.2.2.2.2.2.2.2.2.2.2.2.2.2.2.2.2.2.2.2.1) h
theorem xk_val {u u' : SX} (h : xk_t u' = xk_t u) : xg_val u' = xg_val u := congrArg (fun t => t.2.2.2.2.2.2.2.2.2.2.2.2.2.2.2.2.2.2.2.2.2.2.2.2.1) h
theorem xk_trHead {u u' : SX} (h : xk_t u' = xk_t u) : xg_trHead u' = xg_trHead u := congrArg (fun t => t.2.2.2.2.2.2.2.2.2.2.2.2.2.2.2.2.2.2.2.2.2.2.2.2.2.1) h
theorem xk_trLen {u u' : SX} (h : xk_t u' = xk_t u) : xg_trLen u' = xg_trLen u := congrArg (fun t => t.2.2.2.2.2.2.2.2.2.2.2.2.2.2.2.2.2.2.2.2.2.2.2.2.2.2.1) h
theorem xk_trMask {u u' : SX} (h : xk_t u' = xk_t u) : xg_trMask u' = xg_trMask u := congrArg (fun t => t.2.2.2.2.2.2.2.2.2.2.2.2.2.2.2.2.2.2.2.2.2.2.2.2.2.2.2.1) h
theorem xk_trIr {u u' : SX} (h : xk_t u' = xk_t u) : xg_trIr u' = xg_trIr u := congrArg (fun t => t.2.2.2.2.2.2.2.2.2.2.2.2.2.2.2.2.2.2.2.2.2.2.2.2.2.2.2.2.1) h
theorem xk_trVals {u u' : SX} (h : xk_t u' = xk_t u) : xg_trVals u' = xg_trVals u := congrArg (fun t => t.2.2.2.2.2.2.2.2.2.2.2.2.2.2.2.2.2.2.2.2.2.2.2.2.2.2.2.2.2.1) h
theorem xk_trCross {u u' : SX} (h : xk_t u' = xk_t u) : xg_trCross u' = xg_trCross u := congrArg (fun t => t.2.2.2.2.2.2.2.2.2.2.2.2.2.2.2.2.2.2.2.2.2.2.2.2.2.2.2.2.2.2.1) h
theorem xk_trTargets {u u' : SX} (h : xk_t u' = xk_t u) : xg_trTargets u' = xg_trTargets u := congrArg (fun t => t.2.2.2.2.2.2.2.2.2.2.2.2.2.2.2.2.2.2.2.2.2.2.2.2.2.2.2.2.2.2.2.1) h
theorem xk_irOp {u u' : SX} (h : xk_t u' = xk_t u) : xg_irOp u' = xg_irOp u := congrArg (fun t => t.2.2.2.2.2.2.2.2.2.2.2.2.2.2.2.2.2.2.2.2.2.2.2.2.2.2.2.2.2.2.2.2.1) h
theorem xk_irA {u u' : SX} (h : xk_t u' = xk_t u) : xg_irA u' = xg_irA u := congrArg (fun t => t.2.2.2.2.2.2.2.2.2.2.2.2.2.2.2.2.2.2.2.2.2.2.2.2.2.2.2.2.2.2.2.2.2.1) h
theorem xk_irB {u u' : SX} (h : xk_t u' = xk_t u) : xg_irB u' = xg_irB u := congrArg (fun t => t.2.2.2.2.2.2.2.2.2.2.2.2.2.2.2.2.2.2.2.2.2.2.2.2.2.2.2.2.2.2.2.2.2.2.1) h
theorem xk_irD {u u' : SX} (h : xk_t u' = xk_t u) : xg_irD u' = xg_irD u := congrArg (fun t => t.2.2.2.2.2.2.2.2.2.2.2.2.2.2.2.2.2.2.2.2.2.2.2.2.2.2.2.2.2.2.2.2.2.2.2.1) h
theorem xk_kFlag {u u' : SX} (h : xk_t u' = xk_t u) : xg_kFlag u' = xg_kFlag u := congrArg (fun t => t.2.2.2.2.2.2.2.2.2.2.2.2.2.2.2.2.2.2.2.2.2.2.2.2.2.2.2.2.2.2.2.2.2.2.2.2.1) h
theorem xk_kVal {u u' : SX} (h : xk_t u' = xk_t u) : xg_kVal u' = xg_kVal u := congrArg (fun t => t.2.2.2.2.2.2.2.2.2.2.2.2.2.2.2.2.2.2.2.2.2.2.2.2.2.2.2.2.2.2.2.2.2.2.2.2.2.1) h
theorem xk_exPc {u u' : SX} (h : xk_t u' = xk_t u) : xg_exPc u' = xg_exPc u := congrArg (fun t => t.2.2.2.2.2.2.2.2.2.2.2.2.2.2.2.2.2.2.2.2.2.2.2.2.2.2.2.2.2.2.2.2.2.2.2.2.2.2.1) h
theorem xk_exSteps {u u' : SX} (h : xk_t u' = xk_t u) : xg_exSteps u' = xg_exSteps u := congrArg (fun t => t.2.2.2.2.2.2.2.2.2.2.2.2.2.2.2.2.2.2.2.2.2.2.2.2.2.2.2.2.2.2.2.2.2.2.2.2.2.2.2.1) h
theorem xk_exCross {u u' : SX} (h : xk_t u' = xk_t u) : xg_exCross u' = xg_exCross u := congrArg (fun t => t.2.2.2.2.2.2.2.2.2.2.2.2.2.2.2.2.2.2.2.2.2.2.2.2.2.2.2.2.2.2.2.2.2.2.2.2.2.2.2.2.1) h
theorem xk_snap {u u' : SX} (h : xk_t u' = xk_t u) : xg_snap u' = xg_snap u := congrArg (fun t => t.2.2.2.2.2.2.2.2.2.2.2.2.2.2.2.2.2.2.2.2.2.2.2.2.2.2.2.2.2.2.2.2.2.2.2.2.2.2.2.2.2) h
def xn_t (u : SX) : Int32 × Int32 × Int32 × Int32 × Int32 × Int32 × Int32 × (Nat → Int32) × (Nat → Int32) × Int32 × Int32 × Int32 × Int32 × Int32 × Int32 × Int32 × Int64 × (Nat → Int32) × (Nat → Int32) × (Nat → Int32) × Int32 × Int64 × (Nat → Int32) × (Nat → Int32) × (Nat → Int64) × (Nat → Int32) × (Nat → Int32) × (Nat → Int32) × (Nat → Int32) × (Nat → Int32) × (Nat → Int32) × (Nat → Int32) × (Nat → Int32) × (Nat → Int32) × (Nat → Int32) × (Nat → Int32) × (Nat → Int32) × (Nat → Int32) × (Nat → Int32) := (xg_codeSize u, xg_memSize u, xg_hot u, xg_pc u, xg_status u, xg_steps u, xg_cursor u, xg_crossings u, xg_r u, xg_done u, xg_crossed u, xg_nextPc u, xg_crossedTo u, xg_recording u, xg_recHead u, xg_recLen u, xg_recMask u, xg_recPc u, xg_recWord u, xg_recNext u, xg_nextVictim u, xg_runMask u, xg_trHead u, xg_trLen u, xg_trMask u, xg_trIr u, xg_trVals u, xg_trCross u, xg_trTargets u, xg_irOp u, xg_irA u, xg_irB u, xg_irD u, xg_kFlag u, xg_kVal u, xg_exPc u, xg_exSteps u, xg_exCross u, xg_snap u)
theorem xn_codeSize {u u' : SX} (h : xn_t u' = xn_t u) : xg_codeSize u' = xg_codeSize u := congrArg (fun t => t.1) h
theorem xn_memSize {u u' : SX} (h : xn_t u' = xn_t u) : xg_memSize u' = xg_memSize u := congrArg (fun t => t.2.1) h
theorem xn_hot {u u' : SX} (h : xn_t u' = xn_t u) : xg_hot u' = xg_hot u := congrArg (fun t => t.2.2.1) h
theorem xn_pc {u u' : SX} (h : xn_t u' = xn_t u) : xg_pc u' = xg_pc u := congrArg (fun t => t.2.2.2.1) h
theorem xn_status {u u' : SX} (h : xn_t u' = xn_t u) : xg_status u' = xg_status u := congrArg (fun t => t.2.2.2.2.1) h
theorem xn_steps {u u' : SX} (h : xn_t u' = xn_t u) : xg_steps u' = xg_steps u := congrArg (fun t => t.2.2.2.2.2.1) h
theorem xn_cursor {u u' : SX} (h : xn_t u' = xn_t u) : xg_cursor u' = xg_cursor u := congrArg (fun t => t.2.2.2.2.2.2.1) h
theorem xn_crossings {u u' : SX} (h : xn_t u' = xn_t u) : xg_crossings u' = xg_crossings u := congrArg (fun t => t.2.2.2.2.2.2.2.1) h
theorem xn_r {u u' : SX} (h : xn_t u' = xn_t u) : xg_r u' = xg_r u := congrArg (fun t => t.2.2.2.2.2.2.2.2.1) h
theorem xn_done {u u' : SX} (h : xn_t u' = xn_t u) : xg_done u' = xg_done u := congrArg (fun t => t.2.2.2.2.2.2.2.2.2.1) h
theorem xn_crossed {u u' : SX} (h : xn_t u' = xn_t u) : xg_crossed u' = xg_crossed u := congrArg (fun t => t.2.2.2.2.2.2.2.2.2.2.1) h
theorem xn_nextPc {u u' : SX} (h : xn_t u' = xn_t u) : xg_nextPc u' = xg_nextPc u := congrArg (fun t => t.2.2.2.2.2.2.2.2.2.2.2.1) h
theorem xn_crossedTo {u u' : SX} (h : xn_t u' = xn_t u) : xg_crossedTo u' = xg_crossedTo u := congrArg (fun t => t.2.2.2.2.2.2.2.2.2.2.2.2.1) h
theorem xn_recording {u u' : SX} (h : xn_t u' = xn_t u) : xg_recording u' = xg_recording u := congrArg (fun t => t.2.2.2.2.2.2.2.2.2.2.2.2.2.1) h
theorem xn_recHead {u u' : SX} (h : xn_t u' = xn_t u) : xg_recHead u' = xg_recHead u := congrArg (fun t => t.2.2.2.2.2.2.2.2.2.2.2.2.2.2.1) h
theorem xn_recLen {u u' : SX} (h : xn_t u' = xn_t u) : xg_recLen u' = xg_recLen u := congrArg (fun t => t.2.2.2.2.2.2.2.2.2.2.2.2.2.2.2.1) h
theorem xn_recMask {u u' : SX} (h : xn_t u' = xn_t u) : xg_recMask u' = xg_recMask u := congrArg (fun t => t.2.2.2.2.2.2.2.2.2.2.2.2.2.2.2.2.1) h
theorem xn_recPc {u u' : SX} (h : xn_t u' = xn_t u) : xg_recPc u' = xg_recPc u := congrArg (fun t => t.2.2.2.2.2.2.2.2.2.2.2.2.2.2.2.2.2.1) h
theorem xn_recWord {u u' : SX} (h : xn_t u' = xn_t u) : xg_recWord u' = xg_recWord u := congrArg (fun t => t.2.2.2.2.2.2.2.2.2.2.2.2.2.2.2.2.2.2.1) h
theorem xn_recNext {u u' : SX} (h : xn_t u' = xn_t u) : xg_recNext u' = xg_recNext u := congrArg (fun t => t.2.2.2.2.2.2.2.2.2.2.2.2.2.2.2.2.2.2.2.1) h
theorem xn_nextVictim {u u' : SX} (h : xn_t u' = xn_t u) : xg_nextVictim u' = xg_nextVictim u := congrArg (fun t => t.2.2.2.2.2.2.2.2.2.2.2.2.2.2.2.2.2.2.2.2.1) h
theorem xn_runMask {u u' : SX} (h : xn_t u' = xn_t u) : xg_runMask u' = xg_runMask u := congrArg (fun t => t.2.2.2.2.2.2.2.2.2.2.2.2.2.2.2.2.2.2.2.2.2.1) h
theorem xn_trHead {u u' : SX} (h : xn_t u' = xn_t u) : xg_trHead u' = xg_trHead u := congrArg (fun t => t.2.2.2.2.2.2.2.2.2.2.2.2.2.2.2.2.2.2.2.2.2.2.1) h
theorem xn_trLen {u u' : SX} (h : xn_t u' = xn_t u) : xg_trLen u' = xg_trLen u := congrArg (fun t => t.2.2.2.2.2.2.2.2.2.2.2.2.2.2.2.2.2.2.2.2.2.2.2.1) h
theorem xn_trMask {u u' : SX} (h : xn_t u' = xn_t u) : xg_trMask u' = xg_trMask u := congrArg (fun t => t.2.2.2.2.2.2.2.2.2.2.2.2.2.2.2.2.2.2.2.2.2.2.2.2.1) h
theorem xn_trIr {u u' : SX} (h : xn_t u' = xn_t u) : xg_trIr u' = xg_trIr u := congrArg (fun t => t.2.2.2.2.2.2.2.2.2.2.2.2.2.2.2.2.2.2.2.2.2.2.2.2.2.1) h
theorem xn_trVals {u u' : SX} (h : xn_t u' = xn_t u) : xg_trVals u' = xg_trVals u := congrArg (fun t => t.2.2.2.2.2.2.2.2.2.2.2.2.2.2.2.2.2.2.2.2.2.2.2.2.2.2.1) h
theorem xn_trCross {u u' : SX} (h : xn_t u' = xn_t u) : xg_trCross u' = xg_trCross u := congrArg (fun t => t.2.2.2.2.2.2.2.2.2.2.2.2.2.2.2.2.2.2.2.2.2.2.2.2.2.2.2.1) h
theorem xn_trTargets {u u' : SX} (h : xn_t u' = xn_t u) : xg_trTargets u' = xg_trTargets u := congrArg (fun t => t.2.2.2.2.2.2.2.2.2.2.2.2.2.2.2.2.2.2.2.2.2.2.2.2.2.2.2.2.1) h
theorem xn_irOp {u u' : SX} (h : xn_t u' = xn_t u) : xg_irOp u' = xg_irOp u := congrArg (fun t => t.2.2.2.2.2.2.2.2.2.2.2.2.2.2.2.2.2.2.2.2.2.2.2.2.2.2.2.2.2.1) h
theorem xn_irA {u u' : SX} (h : xn_t u' = xn_t u) : xg_irA u' = xg_irA u := congrArg (fun t => t.2.2.2.2.2.2.2.2.2.2.2.2.2.2.2.2.2.2.2.2.2.2.2.2.2.2.2.2.2.2.1) h
theorem xn_irB {u u' : SX} (h : xn_t u' = xn_t u) : xg_irB u' = xg_irB u := congrArg (fun t => t.2.2.2.2.2.2.2.2.2.2.2.2.2.2.2.2.2.2.2.2.2.2.2.2.2.2.2.2.2.2.2.1) h
theorem xn_irD {u u' : SX} (h : xn_t u' = xn_t u) : xg_irD u' = xg_irD u := congrArg (fun t => t.2.2.2.2.2.2.2.2.2.2.2.2.2.2.2.2.2.2.2.2.2.2.2.2.2.2.2.2.2.2.2.2.1) h
theorem xn_kFlag {u u' : SX} (h : xn_t u' = xn_t u) : xg_kFlag u' = xg_kFlag u := congrArg (fun t => t.2.2.2.2.2.2.2.2.2.2.2.2.2.2.2.2.2.2.2.2.2.2.2.2.2.2.2.2.2.2.2.2.2.1) h
theorem xn_kVal {u u' : SX} (h : xn_t u' = xn_t u) : xg_kVal u' = xg_kVal u := congrArg (fun t => t.2.2.2.2.2.2.2.2.2.2.2.2.2.2.2.2.2.2.2.2.2.2.2.2.2.2.2.2.2.2.2.2.2.2.1) h
theorem xn_exPc {u u' : SX} (h : xn_t u' = xn_t u) : xg_exPc u' = xg_exPc u := congrArg (fun t => t.2.2.2.2.2.2.2.2.2.2.2.2.2.2.2.2.2.2.2.2.2.2.2.2.2.2.2.2.2.2.2.2.2.2.2.1) h
theorem xn_exSteps {u u' : SX} (h : xn_t u' = xn_t u) : xg_exSteps u' = xg_exSteps u := congrArg (fun t => t.2.2.2.2.2.2.2.2.2.2.2.2.2.2.2.2.2.2.2.2.2.2.2.2.2.2.2.2.2.2.2.2.2.2.2.2.1) h
theorem xn_exCross {u u' : SX} (h : xn_t u' = xn_t u) : xg_exCross u' = xg_exCross u := congrArg (fun t => t.2.2.2.2.2.2.2.2.2.2.2.2.2.2.2.2.2.2.2.2.2.2.2.2.2.2.2.2.2.2.2.2.2.2.2.2.2.1) h
theorem xn_snap {u u' : SX} (h : xn_t u' = xn_t u) : xg_snap u' = xg_snap u := congrArg (fun t => t.2.2.2.2.2.2.2.2.2.2.2.2.2.2.2.2.2.2.2.2.2.2.2.2.2.2.2.2.2.2.2.2.2.2.2.2.2.2) h
end
section
/-! slots: dropping, storing code -/
theorem xw_dropSlot {post : SX → Prop} {u : SX} {s : Nat} (hs : s < 8) (hh : xg_trLive u s ≠ 0 → vp_in (xg_trHead u s) 64) (h0 : xg_trLive u s = 0 → post u)
    (h1 : ∀ u' : SX, xg_trLive u s ≠ 0 → xk_t u' = xk_t u → xg_code u' = xg_code u → xg_recording u' = xg_recording u → xg_trLive u' = upd (xg_trLive u) s 0 → xg_slotOf u' = upd (xg_slotOf u) (xg_trHead u s).toNatClampNeg 0 → post u') : wpX_dropSlot post u (nI s) := by
  have hv : vp_in (nI s) 8 := vp_in_nI hs (by decide)
  rw [xu_dropSlot, nI_clamp (by omega)]
  exact ⟨hv, br_c h0 (fun hl => ⟨hv, nm_e ⟨hv, hh hl, nm_e ⟨hv, hh hl, nm_e (h1 _ hl rfl rfl rfl rfl rfl)⟩⟩⟩)⟩
theorem xw_abort {post : SX → Prop} {u : SX} (hh : xg_recording u ≠ 0 → vp_in (xg_recHead u) 64) (h0 : xg_recording u = 0 → post u)
    (h1 : ∀ u' : SX, xg_recording u ≠ 0 → xk_t u' = xk_t u → xg_code u' = xg_code u → xg_recording u' = 0 → xg_trLive u' = xg_trLive u → xg_slotOf u' = xg_slotOf u → post u') : wpX_abortRecording post u := by
  rw [xu_abortRecording]
  exact br_c h0 (fun h => ⟨hh h, hh h, nm_e (h1 _ h rfl rfl rfl rfl rfl)⟩)
/-- what slotOf says of the live slots, whose heads are in range -/
def iv_s2 (tl so th : Nat → Int32) : Prop := (∀ s : Nat, s < 8 → tl s ≠ 0 → vp_in (th s) 64) ∧ (∀ h : Nat, h < 64 → so h = 0 ∨ ∃ s : Nat, s < 8 ∧ so h = nI (s + 1) ∧ tl s ≠ 0 ∧ th s = nI h)
theorem iv_s2_drop {tl so th : Nat → Int32} {s : Nat} (hs : s < 8) (h : iv_s2 tl so th) : iv_s2 (upd tl s 0) (upd so (th s).toNatClampNeg 0) th := by
  refine ⟨fun t ht hl => ?_, fun x hx => ?_⟩
  · by_cases e : t = s
    · subst e; exact absurd pk_us hl
    · rw [pk_un e] at hl; exact h.1 t ht hl
  · by_cases e : x = (th s).toNatClampNeg
    · left; rw [e]; exact pk_us
    · rw [pk_un e]
      rcases h.2 x hx with h0 | ⟨t, h1, h2, h3, h4⟩
      · exact Or.inl h0
      · right
        refine ⟨t, h1, h2, ?_, h4⟩
        have : t ≠ s := by
          intro z; subst z; apply e; rw [h4, nI_clamp (by omega)]
        rw [pk_un this]; exact h3
theorem xw_sc32 {post : SX → Prop} {a : Int32} {u1 : SX} (hh : xg_recording u1 ≠ 0 → vp_in (xg_recHead u1) 64)
    (K : ∀ u' : SX, xk_t u' = xk_t u1 → xg_code u' = xg_code u1 → iv_s2 (xg_trLive u') (xg_slotOf u') (xg_trHead u1) → (∀ t : Nat, t < 8 → xg_trLive u' t ≠ 0 → xg_trLive u' t = xg_trLive u1 t ∧ ¬ mb_p (xg_trMask u1 t) a) → (∀ t : Nat, ¬ mb_p (xg_trMask u1 t) a → xg_trLive u' t = xg_trLive u1 t) →
      (xg_recording u' ≠ 0 → xg_recording u' = xg_recording u1 ∧ ¬ mb_p (xg_recMask u1) a) → (xg_recording u1 = 0 → xg_recording u' = 0) → post u') :
    ∀ (k s : Nat), s + k = 8 → ∀ u : SX, xk_t u = xk_t u1 → xg_code u = xg_code u1 → xg_recording u = xg_recording u1 → iv_s2 (xg_trLive u) (xg_slotOf u) (xg_trHead u1) → (∀ t : Nat, t < 8 → xg_trLive u t ≠ 0 → xg_trLive u t = xg_trLive u1 t) → (∀ t : Nat, t < s → xg_trLive u t ≠ 0 → ¬ mb_p (xg_trMask u1 t) a) → (∀ t : Nat, ¬ mb_p (xg_trMask u1 t) a → xg_trLive u t = xg_trLive u1 t) →
      ∀ n : Nat, k < n → xq_storeCode_32 post a n (nI s) u := by
  intro k
  induction k with
  | zero =>
    intro s hsk u fk fc fr i2 h1 h2 h3 n hn
    obtain ⟨n, rfl⟩ : ∃ m, n = m + 1 := ⟨n - 1, by omega⟩
    rw [xu_storeCode_32]
    have e : s = 8 := by omega
    subst e
    have fm : xg_recMask u = xg_recMask u1 := xk_recMask fk
    have fh : xg_recHead u = xg_recHead u1 := xk_recHead fk
    refine br_t (Int32.le_refl _) (br_c (fun h => ?_) (fun h => xw_inMask (fun hm => ?_) (fun hm => ?_)))
    · exact K u fk fc i2 (fun t ht8 hl => ⟨h1 t ht8 hl, h2 t ht8 hl⟩) h3 (fun z => absurd h z) (fun _ => h)
    · refine br_f (by decide) (xw_abort (fun z => by rw [fh]; exact hh (fr ▸ z)) (fun z => absurd z h) (fun u' _ g1 g2 g3 g4 g5 => ?_))
      exact K u' (g1.trans fk) (g2.trans fc) (by rw [g4, g5]; exact i2) (fun t ht8 hl => by rw [g4] at hl ⊢; exact ⟨h1 t ht8 hl, h2 t ht8 hl⟩) (fun t ht => by rw [g4]; exact h3 t ht) (fun z => absurd g3 z) (fun _ => g3)
    · exact br_t rfl (K u fk fc i2 (fun t ht8 hl => ⟨h1 t ht8 hl, h2 t ht8 hl⟩) h3 (fun _ => ⟨fr, fm ▸ hm⟩) (fun z => fr.trans z))
  | succ k ih =>
    intro s hsk u fk fc fr i2 h1 h2 h3 n hn
    obtain ⟨n, rfl⟩ : ∃ m, n = m + 1 := ⟨n - 1, by omega⟩
    have ft : xg_trMask u = xg_trMask u1 := xk_trMask fk
    have fh : xg_trHead u = xg_trHead u1 := xk_trHead fk
    rw [xu_storeCode_32, nI_clamp (by omega), ft]
    have hs : s < 8 := by omega
    have hv : vp_in (nI s) 8 := vp_in_nI hs (by decide)
    refine br_f (nI_ge (b := 8) hs (by decide)) ⟨hv, br_c (fun hl => nm_r (nI_1 s) ?_) (fun hl => ⟨hv, xw_inMask (fun hm => ?_) (fun hm => ?_)⟩)⟩
    · exact ih (s + 1) (by omega) u fk fc fr i2 h1 (fun t ht8 hz => by
        by_cases e : t = s
        · subst e; exact absurd hl hz
        · exact h2 t (by omega) hz) h3 n (by omega)
    · refine br_f (by decide) (xw_dropSlot hs (fun hz => by rw [fh]; exact i2.1 s hs hz) (fun z => absurd z hl) (fun u' _ g1 g2 g3 g4 g5 => nm_r (nI_1 s) ?_))
      rw [fh] at g5
      refine ih (s + 1) (by omega) u' (g1.trans fk) (g2.trans fc) (g3.trans fr) (by rw [g4, g5]; exact iv_s2_drop hs i2) (fun t ht8 hz => ?_) (fun t ht8 hz => ?_) (fun t hz => ?_) n (by omega)
      · by_cases e : t = s
        · subst e; rw [g4] at hz; exact absurd pk_us hz
        · rw [g4, pk_un e] at hz ⊢; exact h1 t ht8 hz
      · by_cases e : t = s
        · subst e; rw [g4] at hz; exact absurd pk_us hz
        · rw [g4, pk_un e] at hz; exact h2 t (by omega) hz
      · by_cases e : t = s
        · subst e; exact absurd hm hz
        · rw [g4, pk_un e]; exact h3 t hz
    · refine br_t rfl (nm_r (nI_1 s) ?_)
      exact ih (s + 1) (by omega) u fk fc fr i2 h1 (fun t ht8 hz => by
        by_cases e : t = s
        · subst e; exact hm
        · exact h2 t (by omega) hz) h3 n (by omega)
theorem tk_head {u : SX} {s : Nat} (h : tk_u u s) : vp_in (xg_trHead u s) 64 := by
  obtain ⟨c, h0, n, ni, nv, nc, a1, a2, a3, a4, _⟩ := h
  rw [a3]
  exact vp_in_nI (by omega) (by decide)
theorem tk_xk {u u' : SX} {s : Nat} (h : xk_t u' = xk_t u) (hc : sm_ag (xg_trMask u s) (xg_code u) (xg_code u')) (ht : tk_u u s) : tk_u u' s := by
  unfold tk_u at ht ⊢
  rw [xk_codeSize h, xk_memSize h, xk_trHead h, xk_trLen h, xk_trMask h, xk_trIr h, xk_trVals h, xk_trCross h, xk_trTargets h, xk_irOp h, xk_irA h, xk_irB h, xk_irD h, xk_kFlag h, xk_kVal h, xk_exPc h, xk_exSteps h, xk_exCross h, xk_snap h]
  exact tk_code ht hc
theorem iv_sl_s2 {u : SX} (h : iv_sl u) : iv_s2 (xg_trLive u) (xg_slotOf u) (xg_trHead u) := ⟨fun s hs hl => tk_head (h.1 s hs hl), h.2⟩
/-- storing code at a cell in range: the code is written, the slots and the recording that it hits are dropped -/
theorem xw_storeCode {post : SX → Prop} {u : SX} {c j : Nat} {w : Int32} (hc : xg_codeSize u = nI c) (h64 : c ≤ 64) (hj : j < c) (hI : iv_sl u) (hh : xg_recording u ≠ 0 → vp_in (xg_recHead u) 64)
    (K : ∀ u' : SX, xk_t u' = xk_t u → xg_code u' = upd (xg_code u) j w → iv_sl u' → (∀ t : Nat, t < 8 → (¬ mb_p (xg_trMask u t) (nI j) ∨ xg_code u j = w) → xg_trLive u' t = xg_trLive u t) →
      (xg_recording u' ≠ 0 → xg_recording u' = xg_recording u ∧ (¬ mb_p (xg_recMask u) (nI j) ∨ xg_code u j = w)) → (xg_recording u = 0 → xg_recording u' = 0) → post u') : wpX_storeCode post u (nI j) w := by
  rw [xu_storeCode, nI_clamp (by omega), hc]
  have hv : vp_in (nI j) 64 := vp_in_nI (by omega) (by decide)
  refine br_f (nI_pos (by omega)) (br_f (nI_ge hj (by omega)) ⟨hv, br_c (fun he => ?_) (fun he => ⟨hv, nm_e ?_⟩)⟩)
  · exact K u rfl (ud_self he).symm hI (fun _ _ _ => rfl) (fun _ => ⟨rfl, Or.inr he⟩) (fun z => z)
  · obtain ⟨u1, hu1⟩ : ∃ u1, u1 = xs_code u (upd (xg_code u) j w) := ⟨_, rfl⟩
    have f1 : xk_t u1 = xk_t u := by rw [hu1]; rfl
    have f2 : xg_code u1 = upd (xg_code u) j w := by rw [hu1]; rfl
    have f3 : xg_recording u1 = xg_recording u := by rw [hu1]; rfl
    have f4 : xg_trLive u1 = xg_trLive u := by rw [hu1]; rfl
    have f5 : xg_slotOf u1 = xg_slotOf u := by rw [hu1]; rfl
    have f6 : xg_trHead u1 = xg_trHead u := xk_trHead f1
    have f7 : xg_trMask u1 = xg_trMask u := xk_trMask f1
    have f8 : xg_recMask u1 = xg_recMask u := xk_recMask f1
    rw [← hu1]
    refine ⟨9, xw_sc32 (u1 := u1) (fun z => by rw [xk_recHead f1]; exact hh (f3 ▸ z)) ?_ 8 0 rfl u1 rfl rfl rfl (by rw [f4, f5, f6]; exact iv_sl_s2 hI) (fun _ _ _ => rfl) (fun t ht => by omega) (fun _ _ => rfl) 9 (by omega)⟩
    intro u' g1 g2 g3 g4 g5 g6 g7
    rw [f7, f4] at g4 g5
    rw [f6] at g3
    rw [f3, f8] at g6
    refine K u' (g1.trans f1) (g2.trans f2) ⟨fun s hs hl => ?_, ?_⟩ (fun t ht8 hz => ?_) (fun hz => ⟨(g6 hz).1, Or.inl (g6 hz).2⟩) (fun z => g7 (f3.trans z))
    · obtain ⟨q1, q2⟩ := g4 s hs hl
      refine tk_xk (g1.trans f1) (fun p hp hm => ?_) (hI.1 s hs (by rw [← q1]; exact hl))
      rw [g2, f2]
      exact pk_un (fun z => q2 (by rw [← z]; exact hm))
    · have g3' := g3.2
      rw [show xg_trHead u' = xg_trHead u from xk_trHead (g1.trans f1)]
      exact g3'
    · rcases hz with hz | hz
      · exact g5 t hz
      · exact absurd hz he
end
section
/-! the trace code: what a run keeps -/
def bg_df (o : Int32) : Prop := o ≤ 15 ∨ o = 16 ∨ o = 18
theorem nb_of {x : Int32} {a : Nat} (ha : a < 2 ^ 31) (h : nI a ≤ x) : ∃ j : Nat, a ≤ j ∧ j < 2 ^ 31 ∧ x = nI j := by
  have h0 : ¬ x < 0 := by
    have : (0 : Int32) ≤ nI a := nI_pos' ha
    exact Int32.not_lt.mpr (Int32.le_trans this h)
  obtain ⟨j, hj, rfl⟩ := nI_of h0
  rw [nI_leI ha hj] at h
  exact ⟨j, h, hj, rfl⟩
theorem nb_lt {x : Int32} {a : Nat} (ha : a + 1 < 2 ^ 31) (h : nI a < x) : ∃ j : Nat, a < j ∧ j < 2 ^ 31 ∧ x = nI j := by
  obtain ⟨j, h1, h2, h3⟩ := nb_of (a := a) (by omega) (Int32.le_of_lt h)
  refine ⟨j, ?_, h2, h3⟩
  rw [h3, nI_ltI (by omega) h2] at h
  exact h
theorem ir_f15 {cs ms o x y : Int32} {d : Nat} {R : ir_R} (h : o ≤ 15) : ir_f cs ms o x y d R = (upd R.1 d (al_f o x y), R.2) := if_pos h
theorem ir_f16 {cs ms x y : Int32} {d : Nat} {R : ir_R} : ir_f cs ms 16 x y d R = (upd R.1 d (ir_rd ms R.2.1 x), R.2) := by unfold ir_f; rw [if_neg (by decide), if_pos rfl]
theorem ir_f18 {cs ms x y : Int32} {d : Nat} {R : ir_R} : ir_f cs ms 18 x y d R = (upd R.1 d (ir_rd cs R.2.2.1 x), R.2) := by unfold ir_f; rw [if_neg (by decide), if_neg (by decide), if_pos rfl]
theorem ir_f17 {cs ms x y : Int32} {d : Nat} {R : ir_R} : ir_f cs ms 17 x y d R = (R.1, ir_wr ms R.2.1 x y, R.2.2) := by unfold ir_f; rw [if_neg (by decide), if_neg (by decide), if_neg (by decide), if_pos rfl]
theorem ir_f19 {cs ms x y : Int32} {d : Nat} {R : ir_R} : ir_f cs ms 19 x y d R = (R.1, R.2.1, ir_wr cs R.2.2.1 x y, R.2.2.2) := by unfold ir_f; rw [if_neg (by decide), if_neg (by decide), if_neg (by decide), if_neg (by decide), if_pos rfl]
theorem ir_f20 {cs ms x y : Int32} {d : Nat} {R : ir_R} : ir_f cs ms 20 x y d R = (if 64 ≤ R.2.2.2.2 then R else (R.1, R.2.1, R.2.2.1, upd R.2.2.2.1 R.2.2.2.2.toNatClampNeg x, R.2.2.2.2 + 1)) := by unfold ir_f; rw [if_neg (by decide), if_neg (by decide), if_neg (by decide), if_neg (by decide), if_neg (by decide), if_pos rfl]
theorem ir_f21 {cs ms o x y : Int32} {d : Nat} {R : ir_R} (h : 20 < o) : ir_f cs ms o x y d R = R := by
  obtain ⟨j, h1, h2, rfl⟩ := nb_lt (a := 20) (by decide) h
  have ne : ∀ k : Nat, k ≤ 20 → ¬ nI j = nI k := fun k hk z => by
    rw [nI_eq h2 (by omega)] at z; omega
  have e15 : ¬ nI j ≤ 15 := nI_ge (b := j) (a := 15) (by omega) h2
  have e16 : ¬ nI j = 16 := ne 16 (by omega)
  have e17 : ¬ nI j = 17 := ne 17 (by omega)
  have e18 : ¬ nI j = 18 := ne 18 (by omega)
  have e19 : ¬ nI j = 19 := ne 19 (by omega)
  have e20 : ¬ nI j = 20 := ne 20 (by omega)
  unfold ir_f
  rw [if_neg e15, if_neg e16, if_neg e18, if_neg e17, if_neg e19, if_neg e20]
/-- a step leaves every value but the one it defines -/
theorem ir_fV {cs ms o x y : Int32} {d : Nat} {R : ir_R} {k : Nat} (h : bg_df o → k ≠ d) : (ir_f cs ms o x y d R).1 k = R.1 k := by
  by_cases h15 : o ≤ 15
  · rw [ir_f15 h15]; exact pk_un (h (Or.inl h15))
  by_cases h16 : o = 16
  · subst h16; rw [ir_f16]; exact pk_un (h (Or.inr (Or.inl rfl)))
  by_cases h18 : o = 18
  · subst h18; rw [ir_f18]; exact pk_un (h (Or.inr (Or.inr rfl)))
  unfold ir_f
  rw [if_neg h15, if_neg h16, if_neg h18]
  by_cases h17 : o = 17
  · rw [if_pos h17]
  rw [if_neg h17]
  by_cases h19 : o = 19
  · rw [if_pos h19]
  rw [if_neg h19]
  by_cases h20 : o = 20
  · rw [if_pos h20]
    by_cases hc : 64 ≤ R.2.2.2.2
    · rw [if_pos hc]
    · rw [if_neg hc]
  · rw [if_neg h20]
/-- a defining step touches nothing but the values -/
theorem ir_f2 {cs ms o x y : Int32} {d : Nat} {R : ir_R} (h : bg_df o) : (ir_f cs ms o x y d R).2 = R.2 := by
  rcases h with h | h | h
  · rw [ir_f15 h]
  · subst h; rw [ir_f16]
  · subst h; rw [ir_f18]
theorem ir_rw {n : Int32} {f : Nat → Int32} {x y : Int32} (h0 : ¬ x < 0) (h1 : ¬ n ≤ x) : ir_rd n (ir_wr n f x y) x = y := by
  unfold ir_rd ir_wr
  have h : ¬ (x < 0 ∨ n ≤ x) := by rintro (z | z); exact h0 z; exact h1 z
  rw [if_neg h, if_neg h, pk_us]
theorem ir_rn {n : Int32} {f : Nat → Int32} {x y z : Int32} (h : x ≠ z) : ir_rd n (ir_wr n f x y) z = ir_rd n f z := by
  unfold ir_rd ir_wr
  by_cases hz : z < 0 ∨ n ≤ z
  · rw [if_pos hz, if_pos hz]
  · rw [if_neg hz, if_neg hz]
    by_cases hx : x < 0 ∨ n ≤ x
    · rw [if_pos hx]
    · rw [if_neg hx]
      refine pk_un (fun e => h ?_)
      obtain ⟨i, hi, rfl⟩ := nI_of (x := x) (fun q => hx (Or.inl q))
      obtain ⟨j, hj, rfl⟩ := nI_of (x := z) (fun q => hz (Or.inl q))
      rw [nI_clamp hi, nI_clamp hj] at e
      rw [e]
theorem ir_fm {cs ms o x y : Int32} {d : Nat} {R : ir_R} (h : o ≠ 17) : (ir_f cs ms o x y d R).2.1 = R.2.1 := by
  by_cases h15 : o ≤ 15
  · rw [ir_f15 h15]
  by_cases h16 : o = 16
  · subst h16; rw [ir_f16]
  by_cases h18 : o = 18
  · subst h18; rw [ir_f18]
  unfold ir_f
  rw [if_neg h15, if_neg h16, if_neg h18, if_neg h]
  by_cases h19 : o = 19
  · rw [if_pos h19]
  rw [if_neg h19]
  by_cases h20 : o = 20
  · rw [if_pos h20]
    by_cases hc : 64 ≤ R.2.2.2.2
    · rw [if_pos hc]
    · rw [if_neg hc]
  · rw [if_neg h20]
section
variable {cs ms : Int32} {mk : Int64} {o a b d : Nat → Int32} {R0 : ir_R}
/-- the run depends on the rows below its length alone -/
theorem ir_cong {o' a' b' d' : Nat → Int32} : ∀ (n : Nat) (R : ir_R), (∀ i : Nat, i < n → o' i = o i ∧ a' i = a i ∧ b' i = b i ∧ d' i = d i) → (ir_go cs ms mk o' a' b' d' n R0 R ↔ ir_go cs ms mk o a b d n R0 R) := by
  intro n
  induction n with
  | zero => intro R _; exact Iff.rfl
  | succ n ih =>
    intro R h
    obtain ⟨e1, e2, e3, e4⟩ := h n (by omega)
    have ih' := fun R => ih R (fun i hi => h i (by omega))
    show (∃ R1 : ir_R, ir_go cs ms mk o' a' b' d' n R0 R1 ∧ ir_ok cs ms mk (o' n) (R1.1 (a' n).toNatClampNeg) (R1.1 (b' n).toNatClampNeg) R1 ∧ R = ir_f cs ms (o' n) (R1.1 (a' n).toNatClampNeg) (R1.1 (b' n).toNatClampNeg) (d' n).toNatClampNeg R1) ↔ (∃ R1 : ir_R, ir_go cs ms mk o a b d n R0 R1 ∧ ir_ok cs ms mk (o n) (R1.1 (a n).toNatClampNeg) (R1.1 (b n).toNatClampNeg) R1 ∧ R = ir_f cs ms (o n) (R1.1 (a n).toNatClampNeg) (R1.1 (b n).toNatClampNeg) (d n).toNatClampNeg R1)
    rw [e1, e2, e3, e4]
    exact ⟨fun ⟨R1, h1, h2⟩ => ⟨R1, (ih' R1).mp h1, h2⟩, fun ⟨R1, h1, h2⟩ => ⟨R1, (ih' R1).mpr h1, h2⟩⟩
/-- the earlier state of a run: values not defined since are the same, cells not stored to since too -/
theorem ir_back : ∀ (n : Nat) (R : ir_R), (∀ j : Nat, j < n → bg_df (o j) → ∀ i : Nat, i ≤ j → (a i).toNatClampNeg ≠ (d j).toNatClampNeg) → ir_go cs ms mk o a b d n R0 R → ∀ m : Nat, m ≤ n →
    ∃ Rm : ir_R, ir_go cs ms mk o a b d m R0 Rm ∧ (∀ k : Nat, (∀ j : Nat, m ≤ j → j < n → bg_df (o j) → k ≠ (d j).toNatClampNeg) → R.1 k = Rm.1 k) ∧
      (∀ x : Int32, (∀ j : Nat, m ≤ j → j < n → o j = 17 → R.1 (a j).toNatClampNeg ≠ x) → ir_rd ms R.2.1 x = ir_rd ms Rm.2.1 x) := by
  intro n
  induction n with
  | zero =>
    intro R hW h m hm
    have e : m = 0 := by omega
    subst e
    exact ⟨R, h, fun _ _ => rfl, fun _ _ => rfl⟩
  | succ n ih =>
    intro R hW h m hm
    by_cases e : m = n + 1
    · subst e; exact ⟨R, h, fun _ _ => rfl, fun _ _ => rfl⟩
    obtain ⟨R1, g1, g2, g3⟩ := h
    obtain ⟨Rm, i1, i2, i3⟩ := ih R1 (fun j hj => hW j (by omega)) g1 m (by omega)
    have kV : ∀ k : Nat, (bg_df (o n) → k ≠ (d n).toNatClampNeg) → R.1 k = R1.1 k := fun k hk => by rw [g3]; exact ir_fV hk
    refine ⟨Rm, i1, fun k hk => ?_, fun x hx => ?_⟩
    · rw [kV k (fun z => hk n (by omega) (by omega) z)]
      exact i2 k (fun j h1 h2 h3 => hk j h1 (by omega) h3)
    · rw [← i3 x (fun j h1 h2 h3 => by
        have := hx j h1 (by omega) h3
        rw [kV _ (fun z => hW n (by omega) z j (by omega))] at this
        exact this)]
      by_cases e17 : o n = 17
      · have hx' := hx n (by omega) (by omega) e17
        rw [kV _ (fun z => hW n (by omega) z n (by omega))] at hx'
        rw [g3, e17, ir_f17]
        exact ir_rn hx'
      · rw [g3, ir_fm e17]
/-- what a run that went through has made true: definitions and guards -/
theorem hd_ind {cs ms : Int32} {mk mk' : Int64} {code code' : Nat → Int32} {oc oc' k x y : Int32} (h1 : 31 < k) (h2 : k < 38) (h : hd_p cs ms mk code oc k x y) : hd_p cs ms mk' code' oc' k x y := by
  obtain ⟨j, g1, g2, rfl⟩ := nb_lt (a := 31) (by decide) h1
  have g3 : j < 38 := (nI_ltI (b := 38) g2 (by decide)).mp h2
  have : j = 32 ∨ j = 33 ∨ j = 34 ∨ j = 35 ∨ j = 36 ∨ j = 37 := by omega
  rcases this with rfl | rfl | rfl | rfl | rfl | rfl
  · have e := @hd_32 cs ms mk code oc x y; have e' := @hd_32 cs ms mk' code' oc' x y
    exact (Eq.mpr e' (Eq.mp e h))
  · have e := @hd_33 cs ms mk code oc x y; have e' := @hd_33 cs ms mk' code' oc' x y
    exact (Eq.mpr e' (Eq.mp e h))
  · have e := @hd_34 cs ms mk code oc x y; have e' := @hd_34 cs ms mk' code' oc' x y
    exact (Eq.mpr e' (Eq.mp e h))
  · have e := @hd_35 cs ms mk code oc x y; have e' := @hd_35 cs ms mk' code' oc' x y
    exact (Eq.mpr e' (Eq.mp e h))
  · have e := @hd_36 cs ms mk code oc x y; have e' := @hd_36 cs ms mk' code' oc' x y
    exact (Eq.mpr e' (Eq.mp e h))
  · have e := @hd_37 cs ms mk code oc x y; have e' := @hd_37 cs ms mk' code' oc' x y
    exact (Eq.mpr e' (Eq.mp e h))
theorem ir_fact : ∀ (n : Nat) (R : ir_R), (∀ j : Nat, j < n → bg_df (o j) → (∀ i : Nat, i ≤ j → (a i).toNatClampNeg ≠ (d j).toNatClampNeg ∧ (b i).toNatClampNeg ≠ (d j).toNatClampNeg) ∧ (∀ i : Nat, i < j → bg_df (o i) → (d i).toNatClampNeg ≠ (d j).toNatClampNeg)) → ir_go cs ms mk o a b d n R0 R →
    ∀ i : Nat, i < n → (o i ≤ 15 → R.1 (d i).toNatClampNeg = al_f (o i) (R.1 (a i).toNatClampNeg) (R.1 (b i).toNatClampNeg)) ∧ (31 < o i → o i < 38 → ∀ (code : Nat → Int32) (oc : Int32), hd_p cs ms mk code oc (o i) (R.1 (a i).toNatClampNeg) (R.1 (b i).toNatClampNeg)) := by
  intro n
  induction n with
  | zero => intro R _ _ i hi; omega
  | succ n ih =>
    intro R hW h i hi
    obtain ⟨R1, g1, g2, g3⟩ := h
    have kV : ∀ k : Nat, (bg_df (o n) → k ≠ (d n).toNatClampNeg) → R.1 k = R1.1 k := fun k hk => by rw [g3]; exact ir_fV hk
    have ea : R.1 (a i).toNatClampNeg = R1.1 (a i).toNatClampNeg := kV _ (fun z => ((hW n (by omega) z).1 i (by omega)).1)
    have eb : R.1 (b i).toNatClampNeg = R1.1 (b i).toNatClampNeg := kV _ (fun z => ((hW n (by omega) z).1 i (by omega)).2)
    rw [ea, eb]
    by_cases e : i = n
    · subst e
      refine ⟨fun h15 => ?_, fun h1 h2 code oc => ?_⟩
      · rw [g3, ir_f15 h15]; exact pk_us
      · exact hd_ind h1 h2 (g2 (Int32.lt_trans (by decide) h1))
    · obtain ⟨f1, f2⟩ := ih R1 (fun j hj => hW j (by omega)) g1 i (by omega)
      refine ⟨fun h15 => ?_, f2⟩
      rw [← f1 h15]
      exact kV _ (fun z => (hW n (by omega) z).2 i (by omega) (Or.inl h15))
end
end
section
/-! the builder: W (numbering), K (the run so far), X (the exits so far) -/
def bg_W (ic vc : Nat) (o a b d kf kv df : Nat → Int32) : Prop :=
  (∀ j : Nat, j < ic → bg_df (o j) → 8 ≤ (d j).toNatClampNeg ∧ (d j).toNatClampNeg < vc ∧ kf (d j).toNatClampNeg = 0 ∧ (∀ i : Nat, i ≤ j → (a i).toNatClampNeg < (d j).toNatClampNeg ∧ (b i).toNatClampNeg < (d j).toNatClampNeg) ∧ (∀ i : Nat, i < j → bg_df (o i) → (d i).toNatClampNeg < (d j).toNatClampNeg)) ∧
  (∀ i : Nat, i < ic → (a i).toNatClampNeg < vc ∧ (b i).toNatClampNeg < vc) ∧
  (∀ k k' : Nat, 8 ≤ k → k < vc → 8 ≤ k' → k' < vc → kf k ≠ 0 → kf k' ≠ 0 → kv k = kv k' → k = k') ∧
  (∀ k : Nat, k < 8 → kf k = 0) ∧
  (∀ v m : Nat, v < vc → m < ic → (df v).toNatClampNeg = m + 1 → (d m).toNatClampNeg = v ∧ 3 ≤ o m ∧ o m ≤ 15)
def bg_run (cs ms : Int32) (mk : Int64) (ic vc : Nat) (o a b d kf kv : Nat → Int32) (R0 R : ir_R) : Prop := sm_ad vc kf kv R0.1 ∧ ir_go cs ms mk o a b d ic R0 R
def bg_K (cs ms : Int32) (mk : Int64) (code : Nat → Int32) (hd : Int32) (tg : Nat → Int32) (ic vc : Nat) (o a b d kf kv en : Nat → Int32) (i : Nat) (p : Int32) (cc : Nat) : Prop :=
  ∀ (v0 : SY) (R0 R : ir_R), sm_st cs ms mk code hd v0 R0 → bg_run cs ms mk ic vc o a b d kf kv R0 R → sm_at cs mk tg v0 R i p cc (fun j => R.1 (en j).toNatClampNeg) ∧ sm_ag mk code R.2.2.1 ∧ sm_oc R.2.2.2.2
def bg_X (cs ms : Int32) (mk : Int64) (code : Nat → Int32) (hd : Int32) (tg : Nat → Int32) (c ic vc ec : Nat) (o a b d kf kv xp xs xc sn : Nat → Int32) (i cc : Nat) : Prop :=
  ∀ (v0 : SY) (R0 R : ir_R) (m : Nat), sm_st cs ms mk code hd v0 R0 → sm_ad vc kf kv R0.1 → m < ic → ir_go cs ms mk o a b d m R0 R → ¬ ir_ok cs ms mk (o m) (R.1 (a m).toNatClampNeg) (R.1 (b m).toNatClampNeg) R →
    ∃ e k q : Nat, d m = nI e ∧ 1 ≤ e ∧ e < ec ∧ xs e = nI k ∧ k ≤ i ∧ xc e = nI q ∧ q ≤ cc ∧ sm_oc R.2.2.2.2 ∧ (∃ p : Nat, p < c ∧ xp e = nI p) ∧ sm_at cs mk tg v0 R k (xp e) q (fun j => R.1 (sn (8 * e + j)).toNatClampNeg)
section
variable {cs ms : Int32} {mk : Int64} {code : Nat → Int32} {hd : Int32} {tg : Nat → Int32} {c ic vc ec : Nat} {o a b d kf kv xp xs xc sn en df : Nat → Int32} {i cc : Nat} {p : Int32}
theorem bg_W1 (h : bg_W ic vc o a b d kf kv df) : ∀ j : Nat, j < ic → bg_df (o j) → (∀ i : Nat, i ≤ j → (a i).toNatClampNeg ≠ (d j).toNatClampNeg ∧ (b i).toNatClampNeg ≠ (d j).toNatClampNeg) ∧ (∀ i : Nat, i < j → bg_df (o i) → (d i).toNatClampNeg ≠ (d j).toNatClampNeg) := by
  intro j hj hd
  obtain ⟨_, _, _, h4, h5⟩ := h.1 j hj hd
  exact ⟨fun i hi => ⟨Nat.ne_of_lt (h4 i hi).1, Nat.ne_of_lt (h4 i hi).2⟩, fun i hi hdi => Nat.ne_of_lt (h5 i hi hdi)⟩
theorem bg_W2 (h : bg_W ic vc o a b d kf kv df) : ∀ j : Nat, j < ic → bg_df (o j) → ∀ i : Nat, i ≤ j → (a i).toNatClampNeg ≠ (d j).toNatClampNeg := fun j hj hd i hi => ((bg_W1 h j hj hd).1 i hi).1
/-- constants hold their values in every run -/
theorem bg_const (h : bg_W ic vc o a b d kf kv df) {R0 R : ir_R} (hr : bg_run cs ms mk ic vc o a b d kf kv R0 R) {k : Nat} (h8 : 8 ≤ k) (hk : k < vc) (hf : kf k ≠ 0) : R.1 k = kv k := by
  obtain ⟨Rm, g1, g2, _⟩ := ir_back ic R (bg_W2 h) hr.2 0 (by omega)
  have e : Rm = R0 := g1
  rw [g2 k (fun j _ hj hd z => hf (by rw [z]; exact (h.1 j hj hd).2.2.1)), e]
  exact hr.1 k h8 hk hf
theorem bg_fact (h : bg_W ic vc o a b d kf kv df) {R0 R : ir_R} (hr : bg_run cs ms mk ic vc o a b d kf kv R0 R) {m : Nat} (hm : m < ic) : (o m ≤ 15 → R.1 (d m).toNatClampNeg = al_f (o m) (R.1 (a m).toNatClampNeg) (R.1 (b m).toNatClampNeg)) ∧ (31 < o m → o m < 38 → ∀ (code : Nat → Int32) (oc : Int32), hd_p cs ms mk code oc (o m) (R.1 (a m).toNatClampNeg) (R.1 (b m).toNatClampNeg)) :=
  ir_fact ic R (bg_W1 h) hr.2 m hm
/-! a new constant -/
theorem sm_ad_c {v : Int32} {V : Nat → Int32} (h : sm_ad (vc + 1) (upd kf vc v) kv V) : sm_ad vc kf kv V := fun k h8 hk hf => h k h8 (by omega) (by rw [pk_un (by omega)]; exact hf)
theorem sm_ad_k {v w : Int32} {V : Nat → Int32} (h : sm_ad (vc + 1) (upd kf vc v) (upd kv vc w) V) : sm_ad vc kf kv V := fun k h8 hk hf => by
  have := h k h8 (by omega) (by rw [pk_un (by omega)]; exact hf)
  rw [pk_un (by omega)] at this
  exact this
theorem bg_Wc {v : Int32} (h8 : 8 ≤ vc) (h : bg_W ic vc o a b d kf kv df) (hn : ∀ k : Nat, 8 ≤ k → k < vc → kf k ≠ 0 → kv k ≠ v) : bg_W ic (vc + 1) o a b d (upd kf vc 1) (upd kv vc v) (upd df vc 0) := by
  obtain ⟨w1, w2, w3, w4, w5⟩ := h
  refine ⟨fun j hj hd => ?_, fun i hi => ⟨by have := (w2 i hi).1; omega, by have := (w2 i hi).2; omega⟩, fun k k' a1 a2 a3 a4 a5 a6 a7 => ?_, fun k hk => ?_, fun x m hx hm hd => ?_⟩
  · obtain ⟨q1, q2, q3, q4, q5⟩ := w1 j hj hd
    exact ⟨q1, by omega, by rw [pk_un (by omega)]; exact q3, q4, q5⟩
  · by_cases e : k = vc
    · by_cases e' : k' = vc
      · omega
      · subst e
        rw [pk_us, pk_un e'] at a7
        rw [pk_un e'] at a6
        exact absurd a7.symm (hn k' a3 (by omega) a6)
    · by_cases e' : k' = vc
      · subst e'
        rw [pk_us, pk_un e] at a7
        rw [pk_un e] at a5
        exact absurd a7 (hn k a1 (by omega) a5)
      · rw [pk_un e, pk_un e'] at a7
        rw [pk_un e] at a5
        rw [pk_un e'] at a6
        exact w3 k k' a1 (by omega) a3 (by omega) a5 a6 a7
  · rw [pk_un (by omega)]; exact w4 k hk
  · by_cases e : x = vc
    · subst e
      rw [pk_us] at hd
      exact absurd hd (by rw [show (0 : Int32).toNatClampNeg = 0 from rfl]; omega)
    · rw [pk_un e] at hd
      exact w5 x m (by omega) hm hd
theorem bg_Kc {v w : Int32} (h : bg_K cs ms mk code hd tg ic vc o a b d kf kv en i p cc) : bg_K cs ms mk code hd tg ic (vc + 1) o a b d (upd kf vc v) (upd kv vc w) en i p cc := fun v0 R0 R hs hr => h v0 R0 R hs ⟨sm_ad_k hr.1, hr.2⟩
theorem bg_Xc {v w : Int32} (h : bg_X cs ms mk code hd tg c ic vc ec o a b d kf kv xp xs xc sn i cc) : bg_X cs ms mk code hd tg c ic (vc + 1) ec o a b d (upd kf vc v) (upd kv vc w) xp xs xc sn i cc := fun v0 R0 R m hs ha hm hr hx => h v0 R0 R m hs (sm_ad_k ha) hm hr hx
theorem rg_cong {r f g : Nat → Int32} (h : ∀ j : Nat, j < 8 → f j = g j) : rg_f r f = rg_f r g := by
  funext j
  unfold rg_f
  by_cases hj : j < 8
  · rw [if_pos hj, if_pos hj, h j hj]
  · rw [if_neg hj, if_neg hj]
theorem sm_at_c {v0 : SY} {R R' : ir_R} {f g : Nat → Int32} (h : sm_at cs mk tg v0 R i p cc f) (h2 : R'.2 = R.2) (hf : ∀ j : Nat, j < 8 → g j = f j) : sm_at cs mk tg v0 R' i p cc g := by
  unfold sm_at at h ⊢
  rw [rg_cong hf]
  have e : yr_st v0 p i (bu_n (yg_crossings v0) tg cc) (rg_f (yg_r v0) f) R' = yr_st v0 p i (bu_n (yg_crossings v0) tg cc) (rg_f (yg_r v0) f) R := by unfold yr_st; rw [h2]
  rw [e]; exact h
/-! one more row -/
theorem ir_snoc {op x y z : Int32} {R0 : ir_R} {n : Nat} (hn : n ≤ ic) (R : ir_R) : ir_go cs ms mk (upd o ic op) (upd a ic x) (upd b ic y) (upd d ic z) n R0 R ↔ ir_go cs ms mk o a b d n R0 R :=
  ir_cong n R (fun i hi => ⟨pk_un (by omega), pk_un (by omega), pk_un (by omega), pk_un (by omega)⟩)
theorem ir_last {op x y z : Int32} {R0 R' : ir_R} (h : ir_go cs ms mk (upd o ic op) (upd a ic x) (upd b ic y) (upd d ic z) (ic + 1) R0 R') : ∃ R : ir_R, ir_go cs ms mk o a b d ic R0 R ∧ ir_ok cs ms mk op (R.1 x.toNatClampNeg) (R.1 y.toNatClampNeg) R ∧ R' = ir_f cs ms op (R.1 x.toNatClampNeg) (R.1 y.toNatClampNeg) z.toNatClampNeg R := by
  obtain ⟨R, h1, h2, h3⟩ := h
  rw [pk_us, pk_us, pk_us] at h2
  rw [pk_us, pk_us, pk_us, pk_us] at h3
  exact ⟨R, (ir_snoc (Nat.le_refl _) R).mp h1, h2, h3⟩
theorem bg_Wn {op x y : Int32} (hop : bg_df op) (hv : vc < 256) (h8 : 8 ≤ vc) (hx : x.toNatClampNeg < vc) (hy : y.toNatClampNeg < vc) (h : bg_W ic vc o a b d kf kv df) {df' : Nat → Int32}
    (hdf : ∀ v : Nat, v < vc → df' v = df v) (hdv : ∀ m : Nat, m < ic + 1 → (df' vc).toNatClampNeg = m + 1 → m = ic ∧ 3 ≤ op ∧ op ≤ 15) (hdb : ∀ v : Nat, v < vc → (df v).toNatClampNeg ≤ ic) :
    bg_W (ic + 1) (vc + 1) (upd o ic op) (upd a ic x) (upd b ic y) (upd d ic (nI vc)) (upd kf vc 0) kv df' := by
  obtain ⟨w1, w2, w3, w4, w5⟩ := h
  have cl : (nI vc).toNatClampNeg = vc := nI_clamp (by omega)
  refine ⟨fun j hj hd => ?_, fun i hi => ?_, fun k k' a1 a2 a3 a4 a5 a6 a7 => ?_, fun k hk => ?_, fun x m hx hm hd => ?_⟩
  · by_cases e : j = ic
    · subst e
      rw [pk_us, cl]
      refine ⟨h8, by omega, pk_us, fun i hi => ?_, fun i hi hdi => ?_⟩
      · by_cases e : i = j
        · subst e; rw [pk_us, pk_us]; exact ⟨hx, hy⟩
        · rw [pk_un e, pk_un e]; exact w2 i (by omega)
      · rw [pk_un (by omega)] at hdi ⊢
        exact (w1 i hi hdi).2.1
    · rw [pk_un e] at hd ⊢
      obtain ⟨q1, q2, q3, q4, q5⟩ := w1 j (by omega) hd
      refine ⟨q1, by omega, by rw [pk_un (by omega)]; exact q3, fun i hi => ?_, fun i hi hdi => ?_⟩
      · rw [pk_un (by omega), pk_un (by omega)]; exact q4 i hi
      · rw [pk_un (by omega)] at hdi ⊢; exact q5 i hi hdi
  · by_cases e : i = ic
    · subst e; rw [pk_us, pk_us]; omega
    · rw [pk_un e, pk_un e]
      have := w2 i (by omega)
      omega
  · by_cases e : k = vc
    · subst e; exact absurd pk_us a5
    · by_cases e' : k' = vc
      · subst e'; exact absurd pk_us a6
      · rw [pk_un e] at a5
        rw [pk_un e'] at a6
        exact w3 k k' a1 (by omega) a3 (by omega) a5 a6 a7
  · rw [pk_un (by omega)]; exact w4 k hk
  · by_cases e : x = vc
    · subst e
      obtain ⟨rfl, h3, h15⟩ := hdv m hm hd
      rw [pk_us, pk_us]
      exact ⟨cl, h3, h15⟩
    · have hx' : x < vc := by omega
      rw [hdf x hx'] at hd
      have hm' : m < ic := by have := hdb x hx'; omega
      rw [pk_un (by omega), pk_un (by omega)]
      exact w5 x m hx' hm' hd
/-- a run of the longer code is a run of the shorter one and one step -/
theorem bg_rn {op x y : Int32} (hv : vc < 256) {R0 R' : ir_R} (h : bg_run cs ms mk (ic + 1) (vc + 1) (upd o ic op) (upd a ic x) (upd b ic y) (upd d ic (nI vc)) (upd kf vc 0) kv R0 R') : ∃ R : ir_R, bg_run cs ms mk ic vc o a b d kf kv R0 R ∧ R' = ir_f cs ms op (R.1 x.toNatClampNeg) (R.1 y.toNatClampNeg) vc R := by
  obtain ⟨R, h1, h2, h3⟩ := ir_last h.2
  rw [nI_clamp (by omega)] at h3
  exact ⟨R, ⟨sm_ad_c h.1, h1⟩, h3⟩
theorem bg_Kn {op x y : Int32} (hop : bg_df op) (hv : vc < 256) (he : ∀ j : Nat, j < 8 → (en j).toNatClampNeg < vc) (h : bg_K cs ms mk code hd tg ic vc o a b d kf kv en i p cc) : bg_K cs ms mk code hd tg (ic + 1) (vc + 1) (upd o ic op) (upd a ic x) (upd b ic y) (upd d ic (nI vc)) (upd kf vc 0) kv en i p cc := by
  intro v0 R0 R' hs hr
  obtain ⟨R, h1, rfl⟩ := bg_rn hv hr
  obtain ⟨k1, k2, k3⟩ := h v0 R0 R hs h1
  rw [ir_f2 hop]
  exact ⟨sm_at_c k1 (ir_f2 hop) (fun j hj => ir_fV (fun _ => Nat.ne_of_lt (he j hj))), k2, k3⟩
theorem bg_nf {op x y : Int32} {R : ir_R} (h : op ≤ 20) : ir_ok cs ms mk op x y R := fun z => absurd h (Int32.not_le.mpr z)
theorem bg_df20 {op : Int32} (h : bg_df op) : op ≤ 20 := by
  rcases h with h | h | h
  · exact Int32.le_trans h (by decide)
  · subst h; decide
  · subst h; decide
theorem bg_Xn {op x y z v : Int32} (hop : op ≤ 20) (h : bg_X cs ms mk code hd tg c ic vc ec o a b d kf kv xp xs xc sn i cc) : bg_X cs ms mk code hd tg c (ic + 1) (vc + 1) ec (upd o ic op) (upd a ic x) (upd b ic y) (upd d ic z) (upd kf vc v) kv xp xs xc sn i cc := by
  intro v0 R0 R m hs ha hm hr hx
  by_cases e : m = ic
  · subst e
    rw [pk_us] at hx
    exact absurd (bg_nf hop) hx
  · rw [pk_un e, pk_un e, pk_un e] at hx
    rw [pk_un e]
    exact h v0 R0 R m hs (sm_ad_c ha) (by omega) ((ir_snoc (by omega) R).mp hr) hx
/-- an effect: no value is defined -/
theorem bg_Xe {op x y z : Int32} (hop : op ≤ 20) (h : bg_X cs ms mk code hd tg c ic vc ec o a b d kf kv xp xs xc sn i cc) : bg_X cs ms mk code hd tg c (ic + 1) vc ec (upd o ic op) (upd a ic x) (upd b ic y) (upd d ic z) kf kv xp xs xc sn i cc := by
  intro v0 R0 R m hs ha hm hr hx
  by_cases e : m = ic
  · subst e
    rw [pk_us] at hx
    exact absurd (bg_nf hop) hx
  · rw [pk_un e, pk_un e, pk_un e] at hx
    rw [pk_un e]
    exact h v0 R0 R m hs ha (by omega) ((ir_snoc (by omega) R).mp hr) hx
theorem bg_We {op x y z : Int32} (hop : ¬ bg_df op) (hx : x.toNatClampNeg < vc) (hy : y.toNatClampNeg < vc) (hdb : ∀ v : Nat, v < vc → (df v).toNatClampNeg ≤ ic) (h : bg_W ic vc o a b d kf kv df) : bg_W (ic + 1) vc (upd o ic op) (upd a ic x) (upd b ic y) (upd d ic z) kf kv df := by
  obtain ⟨w1, w2, w3, w4, w5⟩ := h
  refine ⟨fun j hj hd => ?_, fun i hi => ?_, w3, w4, fun x m hx hm hd => ?_⟩
  · by_cases e : j = ic
    · subst e; rw [pk_us] at hd; exact absurd hd hop
    · rw [pk_un e] at hd ⊢
      obtain ⟨q1, q2, q3, q4, q5⟩ := w1 j (by omega) hd
      refine ⟨q1, q2, q3, fun i hi => ?_, fun i hi hdi => ?_⟩
      · rw [pk_un (by omega), pk_un (by omega)]; exact q4 i hi
      · rw [pk_un (by omega)] at hdi ⊢; exact q5 i hi hdi
  · by_cases e : i = ic
    · subst e; rw [pk_us, pk_us]; exact ⟨hx, hy⟩
    · rw [pk_un e, pk_un e]; exact w2 i (by omega)
  · have hm' : m < ic := by have := hdb x hx; omega
    rw [pk_un (by omega), pk_un (by omega)]
    exact w5 x m hx hm' hd
theorem bg_re {op x y z : Int32} {R0 R' : ir_R} (h : bg_run cs ms mk (ic + 1) vc (upd o ic op) (upd a ic x) (upd b ic y) (upd d ic z) kf kv R0 R') : ∃ R : ir_R, bg_run cs ms mk ic vc o a b d kf kv R0 R ∧ ir_ok cs ms mk op (R.1 x.toNatClampNeg) (R.1 y.toNatClampNeg) R ∧ R' = ir_f cs ms op (R.1 x.toNatClampNeg) (R.1 y.toNatClampNeg) z.toNatClampNeg R := by
  obtain ⟨R, h1, h2, h3⟩ := ir_last h.2
  exact ⟨R, ⟨h.1, h1⟩, h2, h3⟩
/-- a guard, with its exit -/
theorem bg_Kg {op x y : Int32} (hop : 20 < op) (h : bg_K cs ms mk code hd tg ic vc o a b d kf kv en i p cc) : bg_K cs ms mk code hd tg (ic + 1) vc (upd o ic op) (upd a ic x) (upd b ic y) (upd d ic (nI ec)) kf kv en i p cc := by
  intro v0 R0 R' hs hr
  obtain ⟨R, h1, h2, rfl⟩ := bg_re hr
  rw [ir_f21 hop]
  exact h v0 R0 R hs h1
theorem bg_Xg {op x y : Int32} {xp' xs' xc' sn' : Nat → Int32} {pn : Nat} (hop : 20 < op) (h1e : 1 ≤ ec) (hpn : p = nI pn) (hpc : pn < c)
    (e1 : ∀ e : Nat, e < ec → xp' e = xp e ∧ xs' e = xs e ∧ xc' e = xc e ∧ ∀ j : Nat, j < 8 → sn' (8 * e + j) = sn (8 * e + j)) (e2 : xp' ec = p) (e3 : xs' ec = nI i) (e4 : xc' ec = nI cc) (e5 : ∀ j : Nat, j < 8 → sn' (8 * ec + j) = en j)
    (hK : bg_K cs ms mk code hd tg ic vc o a b d kf kv en i p cc) (h : bg_X cs ms mk code hd tg c ic vc ec o a b d kf kv xp xs xc sn i cc) : bg_X cs ms mk code hd tg c (ic + 1) vc (ec + 1) (upd o ic op) (upd a ic x) (upd b ic y) (upd d ic (nI ec)) kf kv xp' xs' xc' sn' i cc := by
  intro v0 R0 R m hs ha hm hr hx
  by_cases e : m = ic
  · subst e
    obtain ⟨k1, k2, k3⟩ := hK v0 R0 R hs ⟨ha, (ir_snoc (Nat.le_refl _) R).mp hr⟩
    refine ⟨ec, i, cc, pk_us, h1e, by omega, e3, Nat.le_refl _, e4, Nat.le_refl _, k3, ⟨pn, hpc, e2.trans hpn⟩, ?_⟩
    rw [e2]
    exact sm_at_c k1 rfl (fun j hj => by rw [e5 j hj])
  · rw [pk_un e, pk_un e, pk_un e] at hx
    obtain ⟨n, k, q, g1, g2, g3, g4, g5, g6, g7, g8, g9, g10⟩ := h v0 R0 R m hs ha (by omega) ((ir_snoc (by omega) R).mp hr) hx
    obtain ⟨f1, f2, f3, f4⟩ := e1 n g3
    rw [pk_un e]
    refine ⟨n, k, q, g1, g2, by omega, f2.trans g4, g5, f3.trans g6, g7, g8, by rw [f1]; exact g9, ?_⟩
    rw [f1]
    exact sm_at_c g10 rfl (fun j hj => by rw [f4 j hj])
/-- the environment may be changed as long as its values stay -/
theorem bg_Ke {en' : Nat → Int32} (he : ∀ R0 R : ir_R, bg_run cs ms mk ic vc o a b d kf kv R0 R → ∀ j : Nat, j < 8 → R.1 (en' j).toNatClampNeg = R.1 (en j).toNatClampNeg) (h : bg_K cs ms mk code hd tg ic vc o a b d kf kv en i p cc) : bg_K cs ms mk code hd tg ic vc o a b d kf kv en' i p cc := by
  intro v0 R0 R hs hr
  obtain ⟨k1, k2, k3⟩ := h v0 R0 R hs hr
  exact ⟨sm_at_c k1 rfl (fun j hj => he R0 R hr j hj), k2, k3⟩
theorem bu_cong {f tg' : Nat → Int32} : ∀ n : Nat, (∀ j : Nat, j < n → tg' j = tg j) → bu_n f tg' n = bu_n f tg n := by
  intro n
  induction n with
  | zero => intro _; rfl
  | succ n ih =>
    intro h
    show upd (bu_n f tg' n) (tg' n).toNatClampNeg (bu_n f tg' n (tg' n).toNatClampNeg + 1) = upd (bu_n f tg n) (tg n).toNatClampNeg (bu_n f tg n (tg n).toNatClampNeg + 1)
    rw [ih (fun j hj => h j (by omega)), h n (by omega)]
theorem sm_at_tg {v0 : SY} {R : ir_R} {f tg' : Nat → Int32} (ht : ∀ j : Nat, j < cc → tg' j = tg j) (h : sm_at cs mk tg v0 R i p cc f) : sm_at cs mk tg' v0 R i p cc f := by
  unfold sm_at at h ⊢
  rw [bu_cong cc ht]; exact h
theorem bg_Xt {tg' : Nat → Int32} {i' cc' : Nat} (ht : ∀ j : Nat, j < cc → tg' j = tg j) (hi : i ≤ i') (hc : cc ≤ cc') (h : bg_X cs ms mk code hd tg c ic vc ec o a b d kf kv xp xs xc sn i cc) : bg_X cs ms mk code hd tg' c ic vc ec o a b d kf kv xp xs xc sn i' cc' := by
  intro v0 R0 R m hs ha hm hr hx
  obtain ⟨n, k, q, g1, g2, g3, g4, g5, g6, g7, g8, g9, g10⟩ := h v0 R0 R m hs ha hm hr hx
  exact ⟨n, k, q, g1, g2, g3, g4, by omega, g6, by omega, g8, g9, sm_at_tg (fun j hj => ht j (by omega)) g10⟩
end
end
section
/-! the arithmetic instructions as one -/
def ar_f (w : Int32) (r : Nat → Int32) : Int32 := if dc_o w = 1 then dc_i w else if dc_o w = 2 then r (dc_b w).toNatClampNeg else if dc_o w = 13 then r (dc_b w).toNatClampNeg + dc_i w else al_f (dc_o w) (r (dc_b w).toNatClampNeg) (r (dc_c w).toNatClampNeg)
theorem yo_ar {u : SY} {p : Nat} {w : Int32} (hP : yo_P u p w) {k : Nat} (hk : dc_o w = nI k) (h1 : 1 ≤ k) (h2 : k ≤ 15) (hz : k = 6 ∨ k = 7 → ¬ (yg_r u (dc_c w).toNatClampNeg) = 0) : yo_S u 1 (yp_put u (dc_a w) (ar_f w (yg_r u))) := by
  have hk15 : k = 1 ∨ k = 2 ∨ k = 3 ∨ k = 4 ∨ k = 5 ∨ k = 6 ∨ k = 7 ∨ k = 8 ∨ k = 9 ∨ k = 10 ∨ k = 11 ∨ k = 12 ∨ k = 13 ∨ k = 14 ∨ k = 15 := by omega
  rcases hk15 with rfl | rfl | rfl | rfl | rfl | rfl | rfl | rfl | rfl | rfl | rfl | rfl | rfl | rfl | rfl
  · have ho : dc_o w = 1 := hk
    have e : ar_f w (yg_r u) = dc_i w := by unfold ar_f; rw [ho, if_pos rfl]
    rw [e]; exact yo_1 hP ho
  · have ho : dc_o w = 2 := hk
    have e : ar_f w (yg_r u) = (yg_r u (dc_b w).toNatClampNeg) := by unfold ar_f; rw [ho, if_neg (by decide), if_pos rfl]
    rw [e]; exact yo_2 hP ho
  · have ho : dc_o w = 3 := hk
    have e : ar_f w (yg_r u) = (yg_r u (dc_b w).toNatClampNeg) + (yg_r u (dc_c w).toNatClampNeg) := by unfold ar_f; rw [ho, if_neg (by decide), if_neg (by decide), if_neg (by decide), al_3]
    rw [e]; exact yo_3 hP ho
  · have ho : dc_o w = 4 := hk
    have e : ar_f w (yg_r u) = (yg_r u (dc_b w).toNatClampNeg) - (yg_r u (dc_c w).toNatClampNeg) := by unfold ar_f; rw [ho, if_neg (by decide), if_neg (by decide), if_neg (by decide), al_4]
    rw [e]; exact yo_4 hP ho
  · have ho : dc_o w = 5 := hk
    have e : ar_f w (yg_r u) = (yg_r u (dc_b w).toNatClampNeg) * (yg_r u (dc_c w).toNatClampNeg) := by unfold ar_f; rw [ho, if_neg (by decide), if_neg (by decide), if_neg (by decide), al_5]
    rw [e]; exact yo_5 hP ho
  · have ho : dc_o w = 6 := hk
    have e : ar_f w (yg_r u) = (yg_r u (dc_b w).toNatClampNeg) / (yg_r u (dc_c w).toNatClampNeg) := by unfold ar_f; rw [ho, if_neg (by decide), if_neg (by decide), if_neg (by decide), al_6, if_neg (hz (by omega))]
    rw [e]; exact yo_6 hP ho (hz (by omega))
  · have ho : dc_o w = 7 := hk
    have e : ar_f w (yg_r u) = (yg_r u (dc_b w).toNatClampNeg) - (yg_r u (dc_b w).toNatClampNeg) / (yg_r u (dc_c w).toNatClampNeg) * (yg_r u (dc_c w).toNatClampNeg) := by unfold ar_f; rw [ho, if_neg (by decide), if_neg (by decide), if_neg (by decide), al_7, if_neg (hz (by omega))]
    rw [e]; exact yo_7 hP ho (hz (by omega))
  · have ho : dc_o w = 8 := hk
    have e : ar_f w (yg_r u) = (yg_r u (dc_b w).toNatClampNeg) &&& (yg_r u (dc_c w).toNatClampNeg) := by unfold ar_f; rw [ho, if_neg (by decide), if_neg (by decide), if_neg (by decide), al_8]
    rw [e]; exact yo_8 hP ho
  · have ho : dc_o w = 9 := hk
    have e : ar_f w (yg_r u) = (yg_r u (dc_b w).toNatClampNeg) ||| (yg_r u (dc_c w).toNatClampNeg) := by unfold ar_f; rw [ho, if_neg (by decide), if_neg (by decide), if_neg (by decide), al_9]
    rw [e]; exact yo_9 hP ho
  · have ho : dc_o w = 10 := hk
    have e : ar_f w (yg_r u) = (yg_r u (dc_b w).toNatClampNeg) ^^^ (yg_r u (dc_c w).toNatClampNeg) := by unfold ar_f; rw [ho, if_neg (by decide), if_neg (by decide), if_neg (by decide), al_10]
    rw [e]; exact yo_10 hP ho
  · have ho : dc_o w = 11 := hk
    have e : ar_f w (yg_r u) = (yg_r u (dc_b w).toNatClampNeg) <<< (((yg_r u (dc_c w).toNatClampNeg) &&& 31) &&& 31) := by unfold ar_f; rw [ho, if_neg (by decide), if_neg (by decide), if_neg (by decide), al_11]
    rw [e]; exact yo_11 hP ho
  · have ho : dc_o w = 12 := hk
    have e : ar_f w (yg_r u) = (yg_r u (dc_b w).toNatClampNeg) >>> (((yg_r u (dc_c w).toNatClampNeg) &&& 31) &&& 31) := by unfold ar_f; rw [ho, if_neg (by decide), if_neg (by decide), if_neg (by decide), al_12]
    rw [e]; exact yo_12 hP ho
  · have ho : dc_o w = 13 := hk
    have e : ar_f w (yg_r u) = (yg_r u (dc_b w).toNatClampNeg) + dc_i w := by unfold ar_f; rw [ho, if_neg (by decide), if_neg (by decide), if_pos rfl]
    rw [e]; exact yo_13 hP ho
  · have ho : dc_o w = 14 := hk
    by_cases hy : (yg_r u (dc_c w).toNatClampNeg) ≤ (yg_r u (dc_b w).toNatClampNeg)
    · have e : ar_f w (yg_r u) = 0 := by unfold ar_f; rw [ho, if_neg (by decide), if_neg (by decide), if_neg (by decide), al_14, if_pos hy]
      rw [e]; exact yo_14a hP ho hy
    · have e : ar_f w (yg_r u) = 1 := by unfold ar_f; rw [ho, if_neg (by decide), if_neg (by decide), if_neg (by decide), al_14, if_neg hy]
      rw [e]; exact yo_14b hP ho hy
  · have ho : dc_o w = 15 := hk
    by_cases hy : (yg_r u (dc_b w).toNatClampNeg) = (yg_r u (dc_c w).toNatClampNeg)
    · have e : ar_f w (yg_r u) = 1 := by unfold ar_f; rw [ho, if_neg (by decide), if_neg (by decide), if_neg (by decide), al_15, if_pos hy]
      rw [e]; exact yo_15a hP ho hy
    · have e : ar_f w (yg_r u) = 0 := by unfold ar_f; rw [ho, if_neg (by decide), if_neg (by decide), if_neg (by decide), al_15, if_neg hy]
      rw [e]; exact yo_15b hP ho hy
/-! the jumps as one -/
def jt_p (o x y : Int32) : Prop := if o = 22 then x = 0 else if o = 23 then ¬ x = 0 else if o = 24 then ¬ y ≤ x else if o = 25 then ¬ x < y else if o = 26 then x = y else if o = 27 then ¬ x = y else True
/-- a jump that isn't taken, or goes to a cell in range; JAL apart -/
theorem yo_jmp {u : SY} {p : Nat} {w : Int32} (hP : yo_P u p w) {m : Nat} (hk : dc_o w = nI m) (h1 : 21 ≤ m) (h2 : m ≤ 29) (h28 : m ≠ 28) {t : Int32} (ht : t = if m = 29 then yg_r u (dc_a w).toNatClampNeg else dc_i w) {k : Int32} {v : SY} (hj : yo_j u (jt_p (dc_o w) (yg_r u (dc_a w).toNatClampNeg) (yg_r u (dc_b w).toNatClampNeg)) t k v) : yo_S u k v := by
  have hm : m = 21 ∨ m = 22 ∨ m = 23 ∨ m = 24 ∨ m = 25 ∨ m = 26 ∨ m = 27 ∨ m = 29 := by omega
  rcases hm with rfl | rfl | rfl | rfl | rfl | rfl | rfl | rfl
  · have ho : dc_o w = 21 := hk
    have e : jt_p (dc_o w) (yg_r u (dc_a w).toNatClampNeg) (yg_r u (dc_b w).toNatClampNeg) = True := by unfold jt_p; rw [ho, if_neg (by decide), if_neg (by decide), if_neg (by decide), if_neg (by decide), if_neg (by decide), if_neg (by decide)]
    rw [e] at hj
    rw [if_neg (by decide)] at ht
    subst ht
    exact yo_21 hP ho hj
  · have ho : dc_o w = 22 := hk
    have e : jt_p (dc_o w) (yg_r u (dc_a w).toNatClampNeg) (yg_r u (dc_b w).toNatClampNeg) = ((yg_r u (dc_a w).toNatClampNeg) = 0) := by unfold jt_p; rw [ho, if_pos rfl]
    rw [e] at hj
    rw [if_neg (by decide)] at ht
    subst ht
    exact yo_22 hP ho hj
  · have ho : dc_o w = 23 := hk
    have e : jt_p (dc_o w) (yg_r u (dc_a w).toNatClampNeg) (yg_r u (dc_b w).toNatClampNeg) = (¬ (yg_r u (dc_a w).toNatClampNeg) = 0) := by unfold jt_p; rw [ho, if_neg (by decide), if_pos rfl]
    rw [e] at hj
    rw [if_neg (by decide)] at ht
    subst ht
    exact yo_23 hP ho hj
  · have ho : dc_o w = 24 := hk
    have e : jt_p (dc_o w) (yg_r u (dc_a w).toNatClampNeg) (yg_r u (dc_b w).toNatClampNeg) = (¬ (yg_r u (dc_b w).toNatClampNeg) ≤ (yg_r u (dc_a w).toNatClampNeg)) := by unfold jt_p; rw [ho, if_neg (by decide), if_neg (by decide), if_pos rfl]
    rw [e] at hj
    rw [if_neg (by decide)] at ht
    subst ht
    exact yo_24 hP ho hj
  · have ho : dc_o w = 25 := hk
    have e : jt_p (dc_o w) (yg_r u (dc_a w).toNatClampNeg) (yg_r u (dc_b w).toNatClampNeg) = (¬ (yg_r u (dc_a w).toNatClampNeg) < (yg_r u (dc_b w).toNatClampNeg)) := by unfold jt_p; rw [ho, if_neg (by decide), if_neg (by decide), if_neg (by decide), if_pos rfl]
    rw [e] at hj
    rw [if_neg (by decide)] at ht
    subst ht
    exact yo_25 hP ho hj
  · have ho : dc_o w = 26 := hk
    have e : jt_p (dc_o w) (yg_r u (dc_a w).toNatClampNeg) (yg_r u (dc_b w).toNatClampNeg) = ((yg_r u (dc_a w).toNatClampNeg) = (yg_r u (dc_b w).toNatClampNeg)) := by unfold jt_p; rw [ho, if_neg (by decide), if_neg (by decide), if_neg (by decide), if_neg (by decide), if_pos rfl]
    rw [e] at hj
    rw [if_neg (by decide)] at ht
    subst ht
    exact yo_26 hP ho hj
  · have ho : dc_o w = 27 := hk
    have e : jt_p (dc_o w) (yg_r u (dc_a w).toNatClampNeg) (yg_r u (dc_b w).toNatClampNeg) = (¬ (yg_r u (dc_a w).toNatClampNeg) = (yg_r u (dc_b w).toNatClampNeg)) := by unfold jt_p; rw [ho, if_neg (by decide), if_neg (by decide), if_neg (by decide), if_neg (by decide), if_neg (by decide), if_pos rfl]
    rw [e] at hj
    rw [if_neg (by decide)] at ht
    subst ht
    exact yo_27 hP ho hj
  · have ho : dc_o w = 29 := hk
    have e : jt_p (dc_o w) (yg_r u (dc_a w).toNatClampNeg) (yg_r u (dc_b w).toNatClampNeg) = True := by unfold jt_p; rw [ho, if_neg (by decide), if_neg (by decide), if_neg (by decide), if_neg (by decide), if_neg (by decide), if_neg (by decide)]
    rw [e] at hj
    rw [if_pos rfl] at ht
    subst ht
    exact yo_29 hP ho hj
end
section
/-! one recorded instruction on -/
section
variable {cs ms : Int32} {mk : Int64} {code : Nat → Int32} {hd : Int32} {tg : Nat → Int32} {c ic vc ec : Nat} {o a b d kf kv xp xs xc sn en df : Nat → Int32} {i cc : Nat} {p : Int32}
/-- the state of the reference at the point that the builder has reached -/
def mv_st (tg en : Nat → Int32) (i : Nat) (p : Int32) (cc : Nat) (v0 : SY) (R : ir_R) : SY := yr_st v0 p i (bu_n (yg_crossings v0) tg cc) (rg_f (yg_r v0) (fun j => R.1 (en j).toNatClampNeg)) R
theorem mv_gen {tg' : Nat → Int32} {ic' vc' : Nat} {o' a' b' d' kf' kv' en' : Nat → Int32} {cc' : Nat} {p' : Int32} (h : bg_K cs ms mk code hd tg ic vc o a b d kf kv en i p cc)
    (hp : ¬ p' < 0 ∧ p' < cs ∧ mb_p mk p')
    (H : ∀ (v0 : SY) (R0 R' : ir_R), sm_st cs ms mk code hd v0 R0 → bg_run cs ms mk ic' vc' o' a' b' d' kf' kv' R0 R' → ∃ R : ir_R, bg_run cs ms mk ic vc o a b d kf kv R0 R ∧ (sm_ag mk code R.2.2.1 → sm_oc R.2.2.2.2 → ∃ k : Int32, yo_S (mv_st tg en i p cc v0 R) k (mv_st tg' en' (i + 1) p' cc' v0 R') ∧ ((k = 1 ∧ cc' = cc) ∨ (k = 2 ∧ cc' = cc + 1)) ∧ sm_ag mk code R'.2.2.1 ∧ sm_oc R'.2.2.2.2)) :
    bg_K cs ms mk code hd tg' ic' vc' o' a' b' d' kf' kv' en' (i + 1) p' cc' := by
  intro v0 R0 R' hs hr
  obtain ⟨R, h1, h2⟩ := H v0 R0 R' hs hr
  obtain ⟨k1, k2, k3⟩ := h v0 R0 R hs h1
  obtain ⟨k, g1, g2, g3, g4⟩ := h2 k2 k3
  exact ⟨⟨cc, _, k, k1, rfl, g1, hp, g2⟩, g3, g4⟩
theorem mv_P {pn : Nat} {w : Int32} {v0 : SY} {R0 R : ir_R} (hs : sm_st cs ms mk code hd v0 R0) (hc : cs = nI c) (h64 : c ≤ 64) (hpc : pn < c) (hm : mb_p mk (nI pn)) (hw : code pn = w) (hag : sm_ag mk code R.2.2.1) : yo_P (mv_st tg en i (nI pn) cc v0 R) pn w :=
  ⟨rfl, ⟨c, hs.1.trans hc, hpc, h64⟩, (hag pn (by omega) hm).trans hw⟩
theorem rg_upd {r f : Nat → Int32} {k : Nat} {x : Int32} (hk : k < 8) : upd (rg_f r f) k x = rg_f r (upd f k x) := by
  funext j
  unfold rg_f
  by_cases e : j = k
  · subst e; rw [pk_us, if_pos hk, pk_us]
  · rw [pk_un e, pk_un e]
theorem rg_at {r f : Nat → Int32} {k : Nat} (hk : k < 8) : rg_f r f k = f k := if_pos hk
theorem mv_rr {v0 : SY} {R : ir_R} : yg_r (mv_st tg en i p cc v0 R) = rg_f (yg_r v0) (fun j => R.1 (en j).toNatClampNeg) := rfl
theorem mv_r {v0 : SY} {R : ir_R} {x : Int32} (hx : vp_in x 8) : yg_r (mv_st tg en i p cc v0 R) x.toNatClampNeg = R.1 (en x.toNatClampNeg).toNatClampNeg := by
  rw [mv_rr]; exact rg_at (vn_lt hx)
theorem mv_steps (x : Int32) (n : Nat) : x + nI n + 1 = x + nI (n + 1) := by rw [Int32.add_assoc, nI_1]
theorem mv_put {v0 : SY} {R : ir_R} {pn : Nat} {x z v : Int32} (hx : vp_in x 8) (hz : R.1 z.toNatClampNeg = v) : yp_put (mv_st tg en i (nI pn) cc v0 R) x v = mv_st tg (upd en x.toNatClampNeg z) (i + 1) (nI (pn + 1)) cc v0 R := by
  have e : yp_put (mv_st tg en i (nI pn) cc v0 R) x v = (yg_codeSize v0, yg_memSize v0, yg_hot v0, nI pn + 1, 0, yg_steps v0 + nI i + 1, yg_cursor v0, R.2.2.2.2, R.2.2.1, bu_n (yg_crossings v0) tg cc, R.2.1, upd (rg_f (yg_r v0) (fun j => R.1 (en j).toNatClampNeg)) x.toNatClampNeg v, R.2.2.2.1) := rfl
  rw [e, nI_1, mv_steps, rg_upd (vn_lt hx)]
  have e2 : upd (fun j => R.1 (en j).toNatClampNeg) x.toNatClampNeg v = fun j => R.1 (upd en x.toNatClampNeg z j).toNatClampNeg := by
    funext j
    by_cases e : j = x.toNatClampNeg
    · subst e; rw [pk_us, pk_us]; exact hz.symm
    · rw [pk_un e, pk_un e]
  rw [e2]
  rfl
/-- an instruction that writes one register and goes on -/
theorem mv_reg {pn : Nat} {w z : Int32} (h : bg_K cs ms mk code hd tg ic vc o a b d kf kv en i (nI pn) cc) (hc : cs = nI c) (h64 : c ≤ 64) (hpc : pn < c) (hm : mb_p mk (nI pn)) (hw : code pn = w) (hq : pn + 1 < c) (hmq : mb_p mk (nI (pn + 1)))
    (H : ∀ (v0 : SY) (R0 R : ir_R), sm_st cs ms mk code hd v0 R0 → bg_run cs ms mk ic vc o a b d kf kv R0 R → yo_P (mv_st tg en i (nI pn) cc v0 R) pn w → yo_S (mv_st tg en i (nI pn) cc v0 R) 1 (yp_put (mv_st tg en i (nI pn) cc v0 R) (dc_a w) (R.1 z.toNatClampNeg))) :
    bg_K cs ms mk code hd tg ic vc o a b d kf kv (upd en (dc_a w).toNatClampNeg z) (i + 1) (nI (pn + 1)) cc := by
  refine mv_gen h ⟨nI_pos (by omega), by rw [hc]; exact nI_lt hq (by omega), hmq⟩ ?_
  intro v0 R0 R hs hr
  refine ⟨R, hr, fun hag hoc => ⟨1, ?_, Or.inl ⟨rfl, rfl⟩, hag, hoc⟩⟩
  have := H v0 R0 R hs hr (mv_P hs hc h64 hpc hm hw hag)
  rw [mv_put (dc_a8 w) rfl] at this
  exact this
theorem mv_next {v0 : SY} {R : ir_R} {pn : Nat} : yp_next (mv_st tg en i (nI pn) cc v0 R) = mv_st tg en (i + 1) (nI (pn + 1)) cc v0 R := by
  have e : yp_next (mv_st tg en i (nI pn) cc v0 R) = (yg_codeSize v0, yg_memSize v0, yg_hot v0, nI pn + 1, 0, yg_steps v0 + nI i + 1, yg_cursor v0, R.2.2.2.2, R.2.2.1, bu_n (yg_crossings v0) tg cc, R.2.1, rg_f (yg_r v0) (fun j => R.1 (en j).toNatClampNeg), R.2.2.2.1) := rfl
  rw [e, nI_1, mv_steps]
  rfl
theorem mv_go {v0 : SY} {R : ir_R} {t : Int32} : yp_go (mv_st tg en i p cc v0 R) t = mv_st tg en (i + 1) t cc v0 R := by
  have e : yp_go (mv_st tg en i p cc v0 R) t = (yg_codeSize v0, yg_memSize v0, yg_hot v0, t, 0, yg_steps v0 + nI i + 1, yg_cursor v0, R.2.2.2.2, R.2.2.1, bu_n (yg_crossings v0) tg cc, R.2.1, rg_f (yg_r v0) (fun j => R.1 (en j).toNatClampNeg), R.2.2.2.1) := rfl
  rw [e, mv_steps]
  rfl
theorem mv_cross {v0 : SY} {R : ir_R} {t : Int32} : yp_cross (mv_st tg en i p cc v0 R) t = mv_st (upd tg cc t) en (i + 1) t (cc + 1) v0 R := by
  have e : yp_cross (mv_st tg en i p cc v0 R) t = (yg_codeSize v0, yg_memSize v0, yg_hot v0, t, 0, yg_steps v0 + nI i + 1, yg_cursor v0, R.2.2.2.2, R.2.2.1, upd (bu_n (yg_crossings v0) tg cc) t.toNatClampNeg (bu_n (yg_crossings v0) tg cc t.toNatClampNeg + 1), R.2.1, rg_f (yg_r v0) (fun j => R.1 (en j).toNatClampNeg), R.2.2.2.1) := rfl
  have e2 : bu_n (yg_crossings v0) (upd tg cc t) (cc + 1) = upd (bu_n (yg_crossings v0) tg cc) t.toNatClampNeg (bu_n (yg_crossings v0) tg cc t.toNatClampNeg + 1) := by
    show upd (bu_n (yg_crossings v0) (upd tg cc t) cc) (upd tg cc t cc).toNatClampNeg (bu_n (yg_crossings v0) (upd tg cc t) cc (upd tg cc t cc).toNatClampNeg + 1) = _
    rw [pk_us, bu_cong cc (fun j hj => pk_un (Nat.ne_of_lt hj))]
  rw [e, mv_steps, ← e2]
  rfl
theorem ar_cong {w : Int32} {r r' : Nat → Int32} (h : ∀ j : Nat, j < 8 → r j = r' j) : ar_f w r = ar_f w r' := by
  unfold ar_f
  rw [h _ (vn_lt (dc_b8 w)), h _ (vn_lt (dc_c8 w))]
theorem mv_ar {pn k : Nat} {w z : Int32} (h : bg_K cs ms mk code hd tg ic vc o a b d kf kv en i (nI pn) cc) (hc : cs = nI c) (h64 : c ≤ 64) (hpc : pn < c) (hm : mb_p mk (nI pn)) (hw : code pn = w) (hq : pn + 1 < c) (hmq : mb_p mk (nI (pn + 1))) (hk : dc_o w = nI k) (h1 : 1 ≤ k) (h2 : k ≤ 15)
    (H : ∀ R0 R : ir_R, bg_run cs ms mk ic vc o a b d kf kv R0 R → R.1 z.toNatClampNeg = ar_f w (fun j => R.1 (en j).toNatClampNeg) ∧ (k = 6 ∨ k = 7 → ¬ R.1 (en (dc_c w).toNatClampNeg).toNatClampNeg = 0)) :
    bg_K cs ms mk code hd tg ic vc o a b d kf kv (upd en (dc_a w).toNatClampNeg z) (i + 1) (nI (pn + 1)) cc := by
  refine mv_reg h hc h64 hpc hm hw hq hmq ?_
  intro v0 R0 R hs hr hP
  obtain ⟨g1, g2⟩ := H R0 R hr
  have e : ar_f w (yg_r (mv_st tg en i (nI pn) cc v0 R)) = R.1 z.toNatClampNeg := by
    rw [g1]; exact ar_cong (fun j hj => by rw [mv_rr]; exact rg_at hj)
  rw [← e]
  exact yo_ar hP hk h1 h2 (fun hz => by rw [mv_r (dc_c8 w)]; exact g2 hz)
theorem mv_in {n : Nat} {sz x : Int32} (hs : sz = nI n) (hn : n ≤ 64) (h0 : ¬ x < 0) (h1 : ¬ sz ≤ x) : x < sz ∧ vp_in x 64 := by
  subst hs
  obtain ⟨j, hj, rfl⟩ := vn_rng' (by omega) h0 h1
  exact ⟨nI_lt hj (by omega), vp_in_nI (by omega) (by decide)⟩
theorem ir_rdi {n x : Int32} {f : Nat → Int32} (h0 : ¬ x < 0) (h1 : ¬ n ≤ x) : ir_rd n f x = f x.toNatClampNeg := if_neg (fun z => by rcases z with z | z; exact h0 z; exact h1 z)
theorem ir_wri {n x y : Int32} {f : Nat → Int32} (h0 : ¬ x < 0) (h1 : ¬ n ≤ x) : ir_wr n f x y = upd f x.toNatClampNeg y := if_neg (fun z => by rcases z with z | z; exact h0 z; exact h1 z)
theorem mv_ld {pn m : Nat} {w z x : Int32} (h : bg_K cs ms mk code hd tg ic vc o a b d kf kv en i (nI pn) cc) (hc : cs = nI c) (h64 : c ≤ 64) (hpc : pn < c) (hm : mb_p mk (nI pn)) (hw : code pn = w) (hq : pn + 1 < c) (hmq : mb_p mk (nI (pn + 1))) (ho : dc_o w = 16) (hms : ms = nI m) (hm64 : m ≤ 64)
    (H : ∀ R0 R : ir_R, bg_run cs ms mk ic vc o a b d kf kv R0 R → R.1 z.toNatClampNeg = ir_rd ms R.2.1 (R.1 x.toNatClampNeg) ∧ R.1 x.toNatClampNeg = R.1 (en (dc_b w).toNatClampNeg).toNatClampNeg + dc_i w ∧ ¬ R.1 x.toNatClampNeg < 0 ∧ ¬ ms ≤ R.1 x.toNatClampNeg) :
    bg_K cs ms mk code hd tg ic vc o a b d kf kv (upd en (dc_a w).toNatClampNeg z) (i + 1) (nI (pn + 1)) cc := by
  refine mv_reg h hc h64 hpc hm hw hq hmq ?_
  intro v0 R0 R hs hr hP
  obtain ⟨g1, g2, g3, g4⟩ := H R0 R hr
  obtain ⟨q1, q2⟩ := mv_in hms hm64 g3 g4
  rw [g1, ir_rdi g3 g4]
  have eb : yg_r (mv_st tg en i (nI pn) cc v0 R) (dc_b w).toNatClampNeg + dc_i w = R.1 x.toNatClampNeg := by rw [mv_r (dc_b8 w)]; exact g2.symm
  have := yo_16 hP ho (by rw [eb]; exact g3) (by rw [eb]; exact hs.2.1 ▸ q1) (by rw [eb]; exact q2)
  rw [eb] at this
  exact this
theorem mv_ldc {pn : Nat} {w z x : Int32} (h : bg_K cs ms mk code hd tg ic vc o a b d kf kv en i (nI pn) cc) (hc : cs = nI c) (h64 : c ≤ 64) (hpc : pn < c) (hm : mb_p mk (nI pn)) (hw : code pn = w) (hq : pn + 1 < c) (hmq : mb_p mk (nI (pn + 1))) (ho : dc_o w = 18)
    (H : ∀ R0 R : ir_R, bg_run cs ms mk ic vc o a b d kf kv R0 R → R.1 z.toNatClampNeg = ir_rd cs R.2.2.1 (R.1 x.toNatClampNeg) ∧ R.1 x.toNatClampNeg = R.1 (en (dc_b w).toNatClampNeg).toNatClampNeg + dc_i w ∧ ¬ R.1 x.toNatClampNeg < 0 ∧ ¬ cs ≤ R.1 x.toNatClampNeg) :
    bg_K cs ms mk code hd tg ic vc o a b d kf kv (upd en (dc_a w).toNatClampNeg z) (i + 1) (nI (pn + 1)) cc := by
  refine mv_reg h hc h64 hpc hm hw hq hmq ?_
  intro v0 R0 R hs hr hP
  obtain ⟨g1, g2, g3, g4⟩ := H R0 R hr
  obtain ⟨q1, q2⟩ := mv_in hc h64 g3 g4
  rw [g1, ir_rdi g3 g4]
  have eb : yg_r (mv_st tg en i (nI pn) cc v0 R) (dc_b w).toNatClampNeg + dc_i w = R.1 x.toNatClampNeg := by rw [mv_r (dc_b8 w)]; exact g2.symm
  have := yo_18 hP ho (by rw [eb]; exact g3) (by rw [eb]; exact hs.1 ▸ q1) (by rw [eb]; exact q2)
  rw [eb] at this
  exact this
theorem mv_st17 {pn m : Nat} {w x z : Int32} (h : bg_K cs ms mk code hd tg ic vc o a b d kf kv en i (nI pn) cc) (hc : cs = nI c) (h64 : c ≤ 64) (hpc : pn < c) (hm : mb_p mk (nI pn)) (hw : code pn = w) (hq : pn + 1 < c) (hmq : mb_p mk (nI (pn + 1))) (ho : dc_o w = 17) (hms : ms = nI m) (hm64 : m ≤ 64)
    (H : ∀ R0 R : ir_R, bg_run cs ms mk ic vc o a b d kf kv R0 R → R.1 x.toNatClampNeg = R.1 (en (dc_b w).toNatClampNeg).toNatClampNeg + dc_i w ∧ ¬ R.1 x.toNatClampNeg < 0 ∧ ¬ ms ≤ R.1 x.toNatClampNeg) :
    bg_K cs ms mk code hd tg (ic + 1) vc (upd o ic 17) (upd a ic x) (upd b ic (en (dc_a w).toNatClampNeg)) (upd d ic z) kf kv en (i + 1) (nI (pn + 1)) cc := by
  refine mv_gen h ⟨nI_pos (by omega), by rw [hc]; exact nI_lt hq (by omega), hmq⟩ ?_
  intro v0 R0 R' hs hr
  obtain ⟨R, h1, _, rfl⟩ := bg_re hr
  refine ⟨R, h1, fun hag hoc => ⟨1, ?_, Or.inl ⟨rfl, rfl⟩, by rw [ir_f17]; exact hag, by rw [ir_f17]; exact hoc⟩⟩
  have hP := mv_P (tg := tg) (en := en) (i := i) (cc := cc) hs hc h64 hpc hm hw hag
  obtain ⟨g2, g3, g4⟩ := H R0 R h1
  obtain ⟨q1, q2⟩ := mv_in hms hm64 g3 g4
  have eb : yg_r (mv_st tg en i (nI pn) cc v0 R) (dc_b w).toNatClampNeg + dc_i w = R.1 x.toNatClampNeg := by rw [mv_r (dc_b8 w)]; exact g2.symm
  have := yo_17 hP ho (by rw [eb]; exact g3) (by rw [eb]; exact hs.2.1 ▸ q1) (by rw [eb]; exact q2)
  rw [eb, mv_r (dc_a8 w), show ∀ f, ys_mem (mv_st tg en i (nI pn) cc v0 R) f = mv_st tg en i (nI pn) cc v0 (R.1, f, R.2.2) from fun _ => rfl, mv_next] at this
  rw [ir_f17, ir_wri g3 g4]
  exact this
theorem mv_st19 {pn : Nat} {w x z : Int32} (h : bg_K cs ms mk code hd tg ic vc o a b d kf kv en i (nI pn) cc) (hc : cs = nI c) (h64 : c ≤ 64) (hpc : pn < c) (hm : mb_p mk (nI pn)) (hw : code pn = w) (hq : pn + 1 < c) (hmq : mb_p mk (nI (pn + 1))) (ho : dc_o w = 19)
    (H : ∀ R0 R : ir_R, bg_run cs ms mk ic vc o a b d kf kv R0 R → R.1 x.toNatClampNeg = R.1 (en (dc_b w).toNatClampNeg).toNatClampNeg + dc_i w ∧ ¬ R.1 x.toNatClampNeg < 0 ∧ ¬ cs ≤ R.1 x.toNatClampNeg ∧ (mb_p mk (R.1 x.toNatClampNeg) → R.2.2.1 (R.1 x.toNatClampNeg).toNatClampNeg = R.1 (en (dc_a w).toNatClampNeg).toNatClampNeg)) :
    bg_K cs ms mk code hd tg (ic + 1) vc (upd o ic 19) (upd a ic x) (upd b ic (en (dc_a w).toNatClampNeg)) (upd d ic z) kf kv en (i + 1) (nI (pn + 1)) cc := by
  refine mv_gen h ⟨nI_pos (by omega), by rw [hc]; exact nI_lt hq (by omega), hmq⟩ ?_
  intro v0 R0 R' hs hr
  obtain ⟨R, h1, _, rfl⟩ := bg_re hr
  obtain ⟨g2, g3, g4, g5⟩ := H R0 R h1
  obtain ⟨q1, q2⟩ := mv_in hc h64 g3 g4
  refine ⟨R, h1, fun hag hoc => ⟨1, ?_, Or.inl ⟨rfl, rfl⟩, ?_, by rw [ir_f19]; exact hoc⟩⟩
  · have hP := mv_P (tg := tg) (en := en) (i := i) (cc := cc) hs hc h64 hpc hm hw hag
    have eb : yg_r (mv_st tg en i (nI pn) cc v0 R) (dc_b w).toNatClampNeg + dc_i w = R.1 x.toNatClampNeg := by rw [mv_r (dc_b8 w)]; exact g2.symm
    have := yo_19 hP ho (by rw [eb]; exact g3) (by rw [eb]; exact hs.1 ▸ q1) (by rw [eb]; exact q2)
    rw [eb, mv_r (dc_a8 w), show ∀ f, ys_code (mv_st tg en i (nI pn) cc v0 R) f = mv_st tg en i (nI pn) cc v0 (R.1, R.2.1, f, R.2.2.2) from fun _ => rfl, mv_next] at this
    rw [ir_f19, ir_wri g3 g4]
    exact this
  · rw [ir_f19, ir_wri g3 g4]
    intro p' hp' hmp'
    by_cases e : p' = (R.1 x.toNatClampNeg).toNatClampNeg
    · have e3 : R.1 x.toNatClampNeg = nI p' := by rw [e]; exact vn_eq q2 (by decide)
      show upd R.2.2.1 _ _ p' = code p'
      rw [← hag p' hp' hmp', ← e, pk_us, ← g5 (by rw [e3]; exact hmp'), ← e]
    · show upd R.2.2.1 _ _ p' = code p'
      rw [pk_un e]; exact hag p' hp' hmp'
theorem mv_out {pn : Nat} {w y z : Int32} (h : bg_K cs ms mk code hd tg ic vc o a b d kf kv en i (nI pn) cc) (hc : cs = nI c) (h64 : c ≤ 64) (hpc : pn < c) (hm : mb_p mk (nI pn)) (hw : code pn = w) (hq : pn + 1 < c) (hmq : mb_p mk (nI (pn + 1))) (ho : dc_o w = 20)
    (H : ∀ R0 R : ir_R, bg_run cs ms mk ic vc o a b d kf kv R0 R → ¬ 64 ≤ R.2.2.2.2) :
    bg_K cs ms mk code hd tg (ic + 1) vc (upd o ic 20) (upd a ic (en (dc_a w).toNatClampNeg)) (upd b ic y) (upd d ic z) kf kv en (i + 1) (nI (pn + 1)) cc := by
  refine mv_gen h ⟨nI_pos (by omega), by rw [hc]; exact nI_lt hq (by omega), hmq⟩ ?_
  intro v0 R0 R' hs hr
  obtain ⟨R, h1, _, rfl⟩ := bg_re hr
  have g := H R0 R h1
  rw [ir_f20, if_neg g]
  refine ⟨R, h1, fun hag hoc => ⟨1, ?_, Or.inl ⟨rfl, rfl⟩, hag, ?_⟩⟩
  · have hP := mv_P (tg := tg) (en := en) (i := i) (cc := cc) hs hc h64 hpc hm hw hag
    obtain ⟨q, hq64, eq⟩ := hoc
    have hlt : q < 64 := by
      rw [eq] at g
      exact Nat.lt_of_not_le (fun z => g (nI_le (a := 64) z (by omega)))
    have := yo_20 hP ho (by show R.2.2.2.2 < 64; rw [eq]; exact nI_lt (b := 64) hlt (by decide)) (by show vp_in R.2.2.2.2 64; rw [eq]; exact vp_in_nI hlt (by decide))
    rw [mv_r (dc_a8 w), show ∀ f g, ys_out (ys_outCount (mv_st tg en i (nI pn) cc v0 R) g) f = mv_st tg en i (nI pn) cc v0 (R.1, R.2.1, R.2.2.1, f, g) from fun _ _ => rfl, mv_next] at this
    exact this
  · obtain ⟨q, hq64, eq⟩ := hoc
    have hlt : q < 64 := by
      rw [eq] at g
      exact Nat.lt_of_not_le (fun z => g (nI_le (a := 64) z (by omega)))
    exact ⟨q + 1, by omega, by show R.2.2.2.2 + 1 = _; rw [eq, nI_1]⟩
/-- a jump onwards (or one that isn't taken) -/
theorem mv_jf {pn m q : Nat} {w : Int32} (h : bg_K cs ms mk code hd tg ic vc o a b d kf kv en i (nI pn) cc) (hc : cs = nI c) (h64 : c ≤ 64) (hpc : pn < c) (hm : mb_p mk (nI pn)) (hw : code pn = w) (hq : q < c) (hmq : mb_p mk (nI q)) (hk : dc_o w = nI m) (h1 : 21 ≤ m) (h2 : m ≤ 29) (h28 : m ≠ 28) (hpq : pn < q)
    (H : ∀ R0 R : ir_R, bg_run cs ms mk ic vc o a b d kf kv R0 R → (¬ jt_p (dc_o w) (R.1 (en (dc_a w).toNatClampNeg).toNatClampNeg) (R.1 (en (dc_b w).toNatClampNeg).toNatClampNeg) ∧ q = pn + 1) ∨ (jt_p (dc_o w) (R.1 (en (dc_a w).toNatClampNeg).toNatClampNeg) (R.1 (en (dc_b w).toNatClampNeg).toNatClampNeg) ∧ (if m = 29 then R.1 (en (dc_a w).toNatClampNeg).toNatClampNeg else dc_i w) = nI q)) :
    bg_K cs ms mk code hd tg ic vc o a b d kf kv en (i + 1) (nI q) cc := by
  refine mv_gen h ⟨nI_pos (by omega), by rw [hc]; exact nI_lt hq (by omega), hmq⟩ ?_
  intro v0 R0 R hs hr
  refine ⟨R, hr, fun hag hoc => ⟨1, ?_, Or.inl ⟨rfl, rfl⟩, hag, hoc⟩⟩
  have hP := mv_P (tg := tg) (en := en) (i := i) (cc := cc) hs hc h64 hpc hm hw hag
  refine yo_jmp hP hk h1 h2 h28 rfl ?_
  rw [mv_r (dc_a8 w), mv_r (dc_b8 w)]
  rcases H R0 R hr with ⟨g1, g2⟩ | ⟨g1, g2⟩
  · refine Or.inl ⟨g1, rfl, ?_⟩
    rw [mv_next, g2]
  · rw [g2]
    refine Or.inr (Or.inr (Or.inl ⟨g1, nI_pos (by omega), ?_, nI_lt hpq (by omega), rfl, ?_⟩))
    · show nI q < yg_codeSize v0
      rw [hs.1, hc]; exact nI_lt hq (by omega)
    · rw [mv_go]
/-- a jump back -/
theorem mv_jb {pn m q : Nat} {w : Int32} (h : bg_K cs ms mk code hd tg ic vc o a b d kf kv en i (nI pn) cc) (hc : cs = nI c) (h64 : c ≤ 64) (hpc : pn < c) (hm : mb_p mk (nI pn)) (hw : code pn = w) (hq : q < c) (hmq : mb_p mk (nI q)) (hk : dc_o w = nI m) (h1 : 21 ≤ m) (h2 : m ≤ 29) (h28 : m ≠ 28) (hpq : q ≤ pn)
    (H : ∀ R0 R : ir_R, bg_run cs ms mk ic vc o a b d kf kv R0 R → (¬ jt_p (dc_o w) (R.1 (en (dc_a w).toNatClampNeg).toNatClampNeg) (R.1 (en (dc_b w).toNatClampNeg).toNatClampNeg) ∧ q = pn + 1) ∨ (jt_p (dc_o w) (R.1 (en (dc_a w).toNatClampNeg).toNatClampNeg) (R.1 (en (dc_b w).toNatClampNeg).toNatClampNeg) ∧ (if m = 29 then R.1 (en (dc_a w).toNatClampNeg).toNatClampNeg else dc_i w) = nI q)) :
    bg_K cs ms mk code hd (upd tg cc (nI q)) ic vc o a b d kf kv en (i + 1) (nI q) (cc + 1) := by
  refine mv_gen h ⟨nI_pos (by omega), by rw [hc]; exact nI_lt hq (by omega), hmq⟩ ?_
  intro v0 R0 R hs hr
  refine ⟨R, hr, fun hag hoc => ⟨2, ?_, Or.inr ⟨rfl, rfl⟩, hag, hoc⟩⟩
  have hP := mv_P (tg := tg) (en := en) (i := i) (cc := cc) hs hc h64 hpc hm hw hag
  refine yo_jmp hP hk h1 h2 h28 rfl ?_
  rw [mv_r (dc_a8 w), mv_r (dc_b8 w)]
  rcases H R0 R hr with ⟨g1, g2⟩ | ⟨g1, g2⟩
  · omega
  · rw [g2]
    refine Or.inr (Or.inr (Or.inr ⟨g1, nI_pos (by omega), ?_, nI_nlt hpq (by omega), rfl, ?_⟩))
    · show nI q < yg_codeSize v0
      rw [hs.1, hc]; exact nI_lt hq (by omega)
    · rw [mv_cross]
theorem mv_setr {v0 : SY} {R : ir_R} {x z v : Int32} (hx : vp_in x 8) (hz : R.1 z.toNatClampNeg = v) : ys_r (mv_st tg en i p cc v0 R) (upd (yg_r (mv_st tg en i p cc v0 R)) x.toNatClampNeg v) = mv_st tg (upd en x.toNatClampNeg z) i p cc v0 R := by
  have e : ys_r (mv_st tg en i p cc v0 R) (upd (yg_r (mv_st tg en i p cc v0 R)) x.toNatClampNeg v) = (yg_codeSize v0, yg_memSize v0, yg_hot v0, p, 0, yg_steps v0 + nI i, yg_cursor v0, R.2.2.2.2, R.2.2.1, bu_n (yg_crossings v0) tg cc, R.2.1, upd (rg_f (yg_r v0) (fun j => R.1 (en j).toNatClampNeg)) x.toNatClampNeg v, R.2.2.2.1) := rfl
  have e2 : upd (fun j => R.1 (en j).toNatClampNeg) x.toNatClampNeg v = fun j => R.1 (upd en x.toNatClampNeg z j).toNatClampNeg := by
    funext j
    by_cases e : j = x.toNatClampNeg
    · subst e; rw [pk_us, pk_us]; exact hz.symm
    · rw [pk_un e, pk_un e]
  rw [e, rg_upd (vn_lt hx), e2]
  rfl
theorem mv_alf {pn q : Nat} {w z : Int32} (h : bg_K cs ms mk code hd tg ic vc o a b d kf kv en i (nI pn) cc) (hc : cs = nI c) (h64 : c ≤ 64) (hpc : pn < c) (hm : mb_p mk (nI pn)) (hw : code pn = w) (hq : q < c) (hmq : mb_p mk (nI q)) (ho : dc_o w = 28) (hpq : pn < q) (hi : dc_i w = nI q)
    (H : ∀ R0 R : ir_R, bg_run cs ms mk ic vc o a b d kf kv R0 R → R.1 z.toNatClampNeg = nI (pn + 1)) :
    bg_K cs ms mk code hd tg ic vc o a b d kf kv (upd en (dc_a w).toNatClampNeg z) (i + 1) (nI q) cc := by
  refine mv_gen h ⟨nI_pos (by omega), by rw [hc]; exact nI_lt hq (by omega), hmq⟩ ?_
  intro v0 R0 R hs hr
  refine ⟨R, hr, fun hag hoc => ⟨1, ?_, Or.inl ⟨rfl, rfl⟩, hag, hoc⟩⟩
  have hP := mv_P (tg := tg) (en := en) (i := i) (cc := cc) hs hc h64 hpc hm hw hag
  have hlt : nI q < yg_codeSize v0 := by rw [hs.1, hc]; exact nI_lt hq (by omega)
  refine yo_28 hP ho (by rw [hi]; exact nI_pos (by omega)) (by rw [hi]; exact hlt) ?_
  rw [hi, show yg_pc (mv_st tg en i (nI pn) cc v0 R) + 1 = nI (pn + 1) from nI_1 pn, mv_setr (dc_a8 w) (H R0 R hr)]
  exact Or.inr (Or.inr (Or.inl ⟨trivial, nI_pos (by omega), hlt, nI_lt hpq (by omega), rfl, mv_go.symm⟩))
theorem mv_alb {pn q : Nat} {w z : Int32} (h : bg_K cs ms mk code hd tg ic vc o a b d kf kv en i (nI pn) cc) (hc : cs = nI c) (h64 : c ≤ 64) (hpc : pn < c) (hm : mb_p mk (nI pn)) (hw : code pn = w) (hq : q < c) (hmq : mb_p mk (nI q)) (ho : dc_o w = 28) (hpq : q ≤ pn) (hi : dc_i w = nI q)
    (H : ∀ R0 R : ir_R, bg_run cs ms mk ic vc o a b d kf kv R0 R → R.1 z.toNatClampNeg = nI (pn + 1)) :
    bg_K cs ms mk code hd (upd tg cc (nI q)) ic vc o a b d kf kv (upd en (dc_a w).toNatClampNeg z) (i + 1) (nI q) (cc + 1) := by
  refine mv_gen h ⟨nI_pos (by omega), by rw [hc]; exact nI_lt hq (by omega), hmq⟩ ?_
  intro v0 R0 R hs hr
  refine ⟨R, hr, fun hag hoc => ⟨2, ?_, Or.inr ⟨rfl, rfl⟩, hag, hoc⟩⟩
  have hP := mv_P (tg := tg) (en := en) (i := i) (cc := cc) hs hc h64 hpc hm hw hag
  have hlt : nI q < yg_codeSize v0 := by rw [hs.1, hc]; exact nI_lt hq (by omega)
  refine yo_28 hP ho (by rw [hi]; exact nI_pos (by omega)) (by rw [hi]; exact hlt) ?_
  rw [hi, show yg_pc (mv_st tg en i (nI pn) cc v0 R) + 1 = nI (pn + 1) from nI_1 pn, mv_setr (dc_a8 w) (H R0 R hr)]
  exact Or.inr (Or.inr (Or.inr ⟨trivial, nI_pos (by omega), hlt, nI_nlt hpq (by omega), rfl, mv_cross.symm⟩))
end
end
section
/-! removing dead rows -/
def dz_ag (us : Nat → Int32) (R R' : ir_R) : Prop := (∀ v : Nat, us v ≠ 0 → R.1 v = R'.1 v) ∧ R.2 = R'.2
theorem dz_f {cs ms o x y : Int32} {d : Nat} {us : Nat → Int32} {R R' : ir_R} (h : dz_ag us R R') : dz_ag us (ir_f cs ms o x y d R) (ir_f cs ms o x y d R') := by
  obtain ⟨h1, h2⟩ := h
  obtain ⟨V, M⟩ := R
  obtain ⟨V', M'⟩ := R'
  have e : M = M' := h2
  subst e
  have hu : ∀ z : Int32, ∀ v : Nat, us v ≠ 0 → upd V d z v = upd V' d z v := by
    intro z v hv
    by_cases e : v = d
    · subst e; rw [pk_us, pk_us]
    · rw [pk_un e, pk_un e]; exact h1 v hv
  by_cases h15 : o ≤ 15
  · rw [ir_f15 h15, ir_f15 h15]; exact ⟨hu _, rfl⟩
  by_cases h16 : o = 16
  · subst h16; rw [ir_f16, ir_f16]; exact ⟨hu _, rfl⟩
  by_cases h18 : o = 18
  · subst h18; rw [ir_f18, ir_f18]; exact ⟨hu _, rfl⟩
  unfold ir_f
  rw [if_neg h15, if_neg h16, if_neg h18, if_neg h15, if_neg h16, if_neg h18]
  by_cases h17 : o = 17
  · rw [if_pos h17, if_pos h17]; exact ⟨h1, rfl⟩
  rw [if_neg h17, if_neg h17]
  by_cases h19 : o = 19
  · rw [if_pos h19, if_pos h19]; exact ⟨h1, rfl⟩
  rw [if_neg h19, if_neg h19]
  by_cases h20 : o = 20
  · rw [if_pos h20, if_pos h20]
    by_cases hc : 64 ≤ M.2.2.2
    · rw [if_pos hc, if_pos hc]; exact ⟨h1, rfl⟩
    · rw [if_neg hc, if_neg hc]; exact ⟨h1, rfl⟩
  · rw [if_neg h20, if_neg h20]; exact ⟨h1, rfl⟩
theorem dz_ok {cs ms : Int32} {mk : Int64} {o x y : Int32} {us : Nat → Int32} {R R' : ir_R} (h : dz_ag us R R') : ir_ok cs ms mk o x y R' ↔ ir_ok cs ms mk o x y R := by
  unfold ir_ok; rw [h.2]
section
variable {cs ms : Int32} {mk : Int64} {o a b d : Nat → Int32} {us : Nat → Int32}
/-- the first k rows of the new code do what the first i rows of the old one do -/
def dz_S (cs ms : Int32) (mk : Int64) (o a b d us : Nat → Int32) (o' a' b' d' : Nat → Int32) (k i : Nat) : Prop :=
  (∀ R0 R' : ir_R, ir_go cs ms mk o' a' b' d' k R0 R' → ∃ R : ir_R, ir_go cs ms mk o a b d i R0 R ∧ dz_ag us R R') ∧
  (∀ (R0 R' : ir_R) (m' : Nat), m' < k → ir_go cs ms mk o' a' b' d' m' R0 R' → ¬ ir_ok cs ms mk (o' m') (R'.1 (a' m').toNatClampNeg) (R'.1 (b' m').toNatClampNeg) R' →
    ∃ (m : Nat) (R : ir_R), m < i ∧ ir_go cs ms mk o a b d m R0 R ∧ ¬ ir_ok cs ms mk (o m) (R.1 (a m).toNatClampNeg) (R.1 (b m).toNatClampNeg) R ∧ d m = d' m' ∧ dz_ag us R R') ∧
  (∀ j : Nat, j < k → ∃ m : Nat, m < i ∧ o' j = o m ∧ a' j = a m ∧ b' j = b m ∧ d' j = d m)
theorem dz_0 {o' a' b' d' : Nat → Int32} : dz_S cs ms mk o a b d us o' a' b' d' 0 0 := by
  refine ⟨fun R0 R' h => ⟨R', h, fun _ _ => rfl, rfl⟩, fun _ _ m h => absurd h (Nat.not_lt_zero m), fun j h => absurd h (Nat.not_lt_zero j)⟩
theorem dz_rm {o' a' b' d' : Nat → Int32} {k i : Nat} (h : dz_S cs ms mk o a b d us o' a' b' d' k i) (hd : bg_df (o i)) (hu : us (d i).toNatClampNeg = 0) : dz_S cs ms mk o a b d us o' a' b' d' k (i + 1) := by
  refine ⟨fun R0 R' hr => ?_, fun R0 R' m' hm hr hx => ?_, fun j hj => ?_⟩
  · obtain ⟨R, h1, h2, h3⟩ := h.1 R0 R' hr
    refine ⟨_, ⟨R, h1, bg_nf (bg_df20 hd), rfl⟩, fun v hv => ?_, ?_⟩
    · rw [ir_fV (fun _ z => hv (by rw [z]; exact hu))]; exact h2 v hv
    · rw [ir_f2 hd]; exact h3
  · obtain ⟨m, R, g1, g2⟩ := h.2.1 R0 R' m' hm hr hx
    exact ⟨m, R, by omega, g2⟩
  · obtain ⟨m, g1, g2⟩ := h.2.2 j hj
    exact ⟨m, by omega, g2⟩
theorem dz_kp {o' a' b' d' : Nat → Int32} {k i : Nat} (h : dz_S cs ms mk o a b d us o' a' b' d' k i) (ha : us (a i).toNatClampNeg ≠ 0) (hb : us (b i).toNatClampNeg ≠ 0) : dz_S cs ms mk o a b d us (upd o' k (o i)) (upd a' k (a i)) (upd b' k (b i)) (upd d' k (d i)) (k + 1) (i + 1) := by
  refine ⟨fun R0 R'' hr => ?_, fun R0 R' m' hm hr hx => ?_, fun j hj => ?_⟩
  · obtain ⟨R', g1, g2, rfl⟩ := ir_last hr
    obtain ⟨R, h1, h2⟩ := h.1 R0 R' g1
    rw [← h2.1 _ ha, ← h2.1 _ hb] at g2 ⊢
    exact ⟨_, ⟨R, h1, (dz_ok h2).mp g2, rfl⟩, dz_f h2⟩
  · have hr' := (ir_snoc (by omega) R').mp hr
    by_cases e : m' = k
    · subst e
      rw [pk_us, pk_us, pk_us] at hx
      obtain ⟨R, h1, h2⟩ := h.1 R0 R' hr'
      rw [← h2.1 _ ha, ← h2.1 _ hb] at hx
      exact ⟨i, R, by omega, h1, fun z => hx ((dz_ok h2).mpr z), pk_us.symm, h2⟩
    · rw [pk_un e, pk_un e, pk_un e] at hx
      obtain ⟨m, R, g1, g2, g3, g4, g5⟩ := h.2.1 R0 R' m' (by omega) hr' hx
      exact ⟨m, R, by omega, g2, g3, by rw [pk_un e]; exact g4, g5⟩
  · by_cases e : j = k
    · subst e; exact ⟨i, by omega, pk_us, pk_us, pk_us, pk_us⟩
    · obtain ⟨m, g1, g2, g3, g4, g5⟩ := h.2.2 j (by omega)
      exact ⟨m, by omega, by rw [pk_un e]; exact g2, by rw [pk_un e]; exact g3, by rw [pk_un e]; exact g4, by rw [pk_un e]; exact g5⟩
/-- row j is marked: removed, its value unused, or kept, its operands used -/
def dz_m (o a b d us o' : Nat → Int32) (j : Nat) : Prop := (o' j = 0 ∧ bg_df (o j) ∧ us (d j).toNatClampNeg = 0) ∨ (o' j = o j ∧ us (a j).toNatClampNeg ≠ 0 ∧ us (b j).toNatClampNeg ≠ 0)
end
/-- from the builder's end to the finished trace -/
theorem dz_tk {cs ms : Int32} {mk : Int64} {code : Nat → Int32} {hd : Int32} {tg : Nat → Int32} {c hn n ic vc ec k : Nat} {o a b d kf kv xp xs xc sn en df us o' a' b' d' : Nat → Int32} {cc : Nat}
    (hc : cs = nI c) (h64 : c ≤ 64) (hh : hd = nI hn) (hhc : hn < c) (hn1 : 1 ≤ n) (hn96 : n ≤ 96) (hmk : mb_p mk hd) (hk : k ≤ 256) (hvc : vc ≤ 256) (hcc : cc ≤ 96) (hec : ec ≤ 128)
    (hW : bg_W ic vc o a b d kf kv df) (hK : bg_K cs ms mk code hd tg ic vc o a b d kf kv en n hd cc) (hX : bg_X cs ms mk code hd tg c ic vc ec o a b d kf kv xp xs xc sn n cc)
    (hS : dz_S cs ms mk o a b d us o' a' b' d' k ic)
    (hi : ∀ i : Nat, i < ic → vp_in (a i) 256 ∧ vp_in (b i) 256 ∧ vp_in (d i) 256) (ht : ∀ i : Nat, i < cc → vp_in (tg i) 64) (hs0 : ∀ j : Nat, j < 8 → sn j = en j)
    (hsn : ∀ e j : Nat, e < ec → j < 8 → vp_in (sn (8 * e + j)) 256 ∧ us (sn (8 * e + j)).toNatClampNeg ≠ 0) (he1 : 1 ≤ ec) :
    tk_ok cs ms code hd (nI n) mk (nI k) (nI vc) (nI cc) tg o' a' b' d' kf kv xp xs xc sn := by
  refine ⟨c, hn, n, k, vc, cc, hc, h64, hh, hhc, rfl, hn1, hn96, hmk, rfl, hk, rfl, hvc, rfl, hcc, fun i hik => ?_, ht, fun j hj => ?_, fun v0 R0 R' hs ha hr => ?_, fun v0 R0 R' m' hs ha hm hr hx => ?_⟩
  · obtain ⟨m, g1, g2, g3, g4, g5⟩ := hS.2.2 i hik
    rw [g2, g3, g4, g5]
    obtain ⟨q1, q2, q3⟩ := hi m g1
    exact ⟨q1, q2, q3, fun z => ⟨(hW.1 m g1 z).1, (hW.1 m g1 z).2.2.1⟩⟩
  · have := (hsn 0 j (by omega) hj).1
    rw [Nat.mul_zero, Nat.zero_add] at this
    exact this
  · obtain ⟨R, h1, h2⟩ := hS.1 R0 R' hr
    obtain ⟨k1, k2, k3⟩ := hK v0 R0 R hs ⟨ha, h1⟩
    rw [← h2.2]
    refine ⟨sm_at_c k1 h2.2.symm (fun j hj => ?_), k2, k3⟩
    have := (hsn 0 j (by omega) hj).2
    rw [Nat.mul_zero, Nat.zero_add] at this
    rw [← hs0 j hj]
    exact (h2.1 _ this).symm
  · obtain ⟨m, R, g1, g2, g3, g4, g5⟩ := hS.2.1 R0 R' m' hm hr hx
    obtain ⟨e, k', q, f1, f2, f3, f4, f5, f6, f7, f8, f9, f10⟩ := hX v0 R0 R m hs ha g1 g2 g3
    refine ⟨e, k', q, g4.symm.trans f1, f2, by omega, f4, f5, f6, f7, fun j hj => (hsn e j f3 hj).1, by rw [← g5.2]; exact f8, f9, ?_⟩
    exact sm_at_c f10 g5.2.symm (fun j hj => (g5.1 _ (hsn e j f3 hj).2).symm)
end
section
/-! the builder's state in the component -/
def bo_o (u : SX) (s : Nat) : Nat → Int32 := sl_c 256 s (xg_irOp u)
def bo_a (u : SX) (s : Nat) : Nat → Int32 := sl_c 256 s (xg_irA u)
def bo_b (u : SX) (s : Nat) : Nat → Int32 := sl_c 256 s (xg_irB u)
def bo_d (u : SX) (s : Nat) : Nat → Int32 := sl_c 256 s (xg_irD u)
def bo_kf (u : SX) (s : Nat) : Nat → Int32 := sl_c 256 s (xg_kFlag u)
def bo_kv (u : SX) (s : Nat) : Nat → Int32 := sl_c 256 s (xg_kVal u)
def bo_xp (u : SX) (s : Nat) : Nat → Int32 := sl_c 128 s (xg_exPc u)
def bo_xs (u : SX) (s : Nat) : Nat → Int32 := sl_c 128 s (xg_exSteps u)
def bo_xc (u : SX) (s : Nat) : Nat → Int32 := sl_c 128 s (xg_exCross u)
def bo_sn (u : SX) (s : Nat) : Nat → Int32 := sl_c 1024 s (xg_snap u)
def bo_tg (u : SX) (s : Nat) : Nat → Int32 := sl_c 96 s (xg_trTargets u)
def bb_F (u : SX) (s ic vc ec c pn i cc : Nat) : Prop :=
  s < 8 ∧ xg_buildSlot u = nI s ∧ xg_bIr u = nI (256 * s) ∧ xg_bVal u = nI (256 * s) ∧ xg_irCount u = nI ic ∧ ic ≤ 256 ∧ xg_valCount u = nI vc ∧ 8 ≤ vc ∧ vc ≤ 256 ∧ xg_exitCount u = nI ec ∧ 1 ≤ ec ∧ ec ≤ 128 ∧ xg_codeSize u = nI c ∧ c ≤ 64 ∧ xg_buildPc u = nI pn ∧ pn < c ∧ xg_buildStep u = nI i ∧ i ≤ 96 ∧ xg_crossCount u = nI cc ∧ cc ≤ 96
def bb_S (u : SX) (s ic vc ec : Nat) : Prop :=
  (∀ j : Nat, j < 8 → vp_in (xg_env u j) vc) ∧ (∀ v : Nat, v < vc → vp_in (xg_defAt u v) (ic + 1)) ∧
  (∀ i : Nat, i < ic → vp_in (bo_a u s i) vc ∧ vp_in (bo_b u s i) vc ∧ vp_in (bo_d u s i) 256 ∧ (bo_o u s i ≤ 20 → vp_in (bo_d u s i) vc) ∧ 3 ≤ bo_o u s i) ∧
  (∀ k : Nat, k < vc → bo_kf u s k = 0 ∨ bo_kf u s k = 1) ∧ (∀ e : Nat, 1 ≤ e → e < ec → ∀ j : Nat, j < 8 → vp_in (bo_sn u s (8 * e + j)) vc)
def bb_O (s : Nat) (u u' : SX) : Prop := ∀ t : Nat, t ≠ s → bo_o u' t = bo_o u t ∧ bo_a u' t = bo_a u t ∧ bo_b u' t = bo_b u t ∧ bo_d u' t = bo_d u t ∧ bo_kf u' t = bo_kf u t ∧ bo_kv u' t = bo_kv u t ∧ bo_xp u' t = bo_xp u t ∧ bo_xs u' t = bo_xs u t ∧ bo_xc u' t = bo_xc u t ∧ bo_sn u' t = bo_sn u t
def bb_R (s : Nat) (u u' : SX) : Prop := xo_t u' = xo_t u ∧ bb_O s u u' ∧ (xg_buildOk u' ≠ 0 → xg_buildOk u ≠ 0)
theorem bb_R_rf (s : Nat) (u : SX) : bb_R s u u := ⟨rfl, fun _ _ => ⟨rfl, rfl, rfl, rfl, rfl, rfl, rfl, rfl, rfl, rfl⟩, fun h => h⟩
theorem bb_R_tr {s : Nat} {u u1 u2 : SX} (h1 : bb_R s u u1) (h2 : bb_R s u1 u2) : bb_R s u u2 := by
  refine ⟨h2.1.trans h1.1, fun t ht => ?_, fun h => h1.2.2 (h2.2.2 h)⟩
  obtain ⟨a1, a2, a3, a4, a5, a6, a7, a8, a9, a10⟩ := h1.2.1 t ht
  obtain ⟨b1, b2, b3, b4, b5, b6, b7, b8, b9, b10⟩ := h2.2.1 t ht
  exact ⟨b1.trans a1, b2.trans a2, b3.trans a3, b4.trans a4, b5.trans a5, b6.trans a6, b7.trans a7, b8.trans a8, b9.trans a9, b10.trans a10⟩
def bb_run (u : SX) (s ic vc : Nat) (R0 R : ir_R) : Prop := bg_run (xg_codeSize u) (xg_memSize u) (xg_recMask u) ic vc (bo_o u s) (bo_a u s) (bo_b u s) (bo_d u s) (bo_kf u s) (bo_kv u s) R0 R
def bb_W (u : SX) (s ic vc : Nat) : Prop := bg_W ic vc (bo_o u s) (bo_a u s) (bo_b u s) (bo_d u s) (bo_kf u s) (bo_kv u s) (xg_defAt u)
def bb_K (u : SX) (s ic vc i : Nat) (p : Int32) (cc : Nat) : Prop := bg_K (xg_codeSize u) (xg_memSize u) (xg_recMask u) (xg_code u) (xg_recHead u) (bo_tg u s) ic vc (bo_o u s) (bo_a u s) (bo_b u s) (bo_d u s) (bo_kf u s) (bo_kv u s) (xg_env u) i p cc
def bb_X (u : SX) (s ic vc ec c i cc : Nat) : Prop := bg_X (xg_codeSize u) (xg_memSize u) (xg_recMask u) (xg_code u) (xg_recHead u) (bo_tg u s) c ic vc ec (bo_o u s) (bo_a u s) (bo_b u s) (bo_d u s) (bo_kf u s) (bo_kv u s) (bo_xp u s) (bo_xs u s) (bo_xc u s) (bo_sn u s) i cc
def bb_G (u : SX) (s ic vc ec c pn i cc : Nat) : Prop := bb_W u s ic vc ∧ bb_K u s ic vc i (nI pn) cc ∧ bb_X u s ic vc ec c i cc
/-- the longer code's runs are the shorter one's, as far as its values go -/
def bb_E (s : Nat) (u : SX) (ic vc : Nat) (u' : SX) (ic' vc' : Nat) : Prop := ∀ R0 R' : ir_R, bb_run u' s ic' vc' R0 R' → ∃ R : ir_R, bb_run u s ic vc R0 R ∧ (∀ k : Nat, k < vc → R'.1 k = R.1 k) ∧ R'.2 = R.2 ∧ (∀ j : Nat, j < 8 → R'.1 (xg_env u' j).toNatClampNeg = R.1 (xg_env u j).toNatClampNeg)
/-- one stretch of the builder's work -/
def bb_P (s c pn i cc : Nat) (u : SX) (ic vc ec : Nat) (u' : SX) (ic' vc' ec' : Nat) : Prop :=
  bb_R s u u' ∧ bb_F u' s ic' vc' ec' c pn i cc ∧ bb_S u' s ic' vc' ec' ∧ vc ≤ vc' ∧ (xg_buildOk u' ≠ 0 → bb_G u s ic vc ec c pn i cc → bb_G u' s ic' vc' ec' c pn i cc ∧ bb_E s u ic vc u' ic' vc')
theorem bb_E_rf {s ic vc : Nat} {u : SX} : bb_E s u ic vc u ic vc := fun _ R h => ⟨R, h, fun _ _ => rfl, rfl, fun _ _ => rfl⟩
theorem bb_E_tr {s ic vc ic1 vc1 ic2 vc2 : Nat} {u u1 u2 : SX} (hv : vc ≤ vc1) (h1 : bb_E s u ic vc u1 ic1 vc1) (h2 : bb_E s u1 ic1 vc1 u2 ic2 vc2) : bb_E s u ic vc u2 ic2 vc2 := by
  intro R0 R2 hr
  obtain ⟨R1, g1, g2, g3, g4⟩ := h2 R0 R2 hr
  obtain ⟨R, f1, f2, f3, f4⟩ := h1 R0 R1 g1
  exact ⟨R, f1, fun k hk => (g2 k (by omega)).trans (f2 k hk), g3.trans f3, fun j hj => (g4 j hj).trans (f4 j hj)⟩
theorem bb_P_rf {s c pn i cc ic vc ec : Nat} {u : SX} (hF : bb_F u s ic vc ec c pn i cc) (hS : bb_S u s ic vc ec) : bb_P s c pn i cc u ic vc ec u ic vc ec := ⟨bb_R_rf s u, hF, hS, Nat.le_refl _, fun _ h => ⟨h, bb_E_rf⟩⟩
theorem bb_P_tr {s c pn i cc ic vc ec ic1 vc1 ec1 ic2 vc2 ec2 : Nat} {u u1 u2 : SX} (h1 : bb_P s c pn i cc u ic vc ec u1 ic1 vc1 ec1) (h2 : bb_P s c pn i cc u1 ic1 vc1 ec1 u2 ic2 vc2 ec2) : bb_P s c pn i cc u ic vc ec u2 ic2 vc2 ec2 := by
  obtain ⟨a1, a2, a3, a4, a5⟩ := h1
  obtain ⟨b1, b2, b3, b4, b5⟩ := h2
  refine ⟨bb_R_tr a1 b1, b2, b3, by omega, fun ok hG => ?_⟩
  obtain ⟨g1, g2⟩ := a5 (b1.2.2 ok) hG
  obtain ⟨f1, f2⟩ := b5 ok g1
  exact ⟨f1, bb_E_tr a4 g2 f2⟩
/-- a failed build: only the ranges matter -/
theorem bb_fail {s c pn i cc ic vc ec : Nat} {u : SX} (hF : bb_F u s ic vc ec c pn i cc) (hS : bb_S u s ic vc ec) : bb_P s c pn i cc u ic vc ec (xs_buildOk u 0) ic vc ec := ⟨⟨rfl, fun _ _ => ⟨rfl, rfl, rfl, rfl, rfl, rfl, rfl, rfl, rfl, rfl⟩, fun h => absurd rfl h⟩, hF, hS, Nat.le_refl _, fun h => absurd rfl h⟩
theorem bb_ix {s k : Nat} (hs : s < 8) (hk : k < 256) : vp_in (nI (256 * s) + nI k) 2048 ∧ (nI (256 * s) + nI k).toNatClampNeg = 256 * s + k := by
  rw [nI_add]
  exact ⟨vp_in_nI (by omega) (by decide), nI_clamp (by omega)⟩
theorem xw_isK {post : Int32 → Prop} {u : SX} {s ic vc ec c pn i cc : Nat} {x : Int32} (hF : bb_F u s ic vc ec c pn i cc) (hS : bb_S u s ic vc ec) (hx : vp_in x vc) (h : post (bo_kf u s x.toNatClampNeg)) : wpX_isK post u x := by
  obtain ⟨hs, f1, f2, f3, f4, f5, f6, f7, f8, _⟩ := hF
  obtain ⟨k, hk, rfl⟩ := vp_in_of hx (by omega)
  obtain ⟨i1, i2⟩ := bb_ix hs (k := k) (by omega)
  rw [xu_isK, f3, i2]
  have e : bo_kf u s k = xg_kFlag u (256 * s + k) := sl_at (by omega)
  rw [nI_clamp (by omega), e] at h
  refine ⟨i1, ?_, h⟩
  have := hS.2.2.2.1 k hk
  rw [e] at this
  rcases this with z | z <;> rw [z] <;> rfl
/-- the state behind a fresh value -/
def pr_f (s vc : Nat) (u u1 : SX) : Prop := bb_R s u u1 ∧ xg_buildOk u1 = xg_buildOk u ∧ xg_irCount u1 = xg_irCount u ∧ xg_exitCount u1 = xg_exitCount u ∧ xg_valCount u1 = nI (vc + 1) ∧ bo_o u1 s = bo_o u s ∧ bo_a u1 s = bo_a u s ∧ bo_b u1 s = bo_b u s ∧ bo_d u1 s = bo_d u s ∧ bo_kf u1 s = upd (bo_kf u s) vc 0 ∧ bo_kv u1 s = bo_kv u s ∧ bo_xp u1 s = bo_xp u s ∧ bo_xs u1 s = bo_xs u s ∧ bo_xc u1 s = bo_xc u s ∧ bo_sn u1 s = bo_sn u s ∧ xg_env u1 = xg_env u ∧ xg_defAt u1 = upd (xg_defAt u) vc 0 ∧ (xg_irOp u1 = xg_irOp u ∧ xg_irA u1 = xg_irA u ∧ xg_irB u1 = xg_irB u ∧ xg_irD u1 = xg_irD u)
theorem xw_fresh {post : Int32 → SX → Prop} {u : SX} {s ic vc ec c pn i cc : Nat} (hF : bb_F u s ic vc ec c pn i cc)
    (h1 : ∀ u1 : SX, vc < 256 → pr_f s vc u u1 → post (nI vc) u1) (h0 : post 0 (xs_buildOk u 0)) : wpX_freshValue post u := by
  obtain ⟨hs, f1, f2, f3, f4, f5, f6, f7, f8, _⟩ := hF
  rw [xu_freshValue, f6, f3]
  refine pk_lt vc 256 (fun hv => ?_) (fun _ => h0)
  obtain ⟨i1, i2⟩ := bb_ix hs hv
  rw [i2, nI_clamp (by omega)]
  refine nm_r (nI_1 vc) ⟨vp_in_nI hv (by decide), nm_e ⟨i1, nm_e (h1 _ hv ?_)⟩⟩
  exact ⟨⟨rfl, fun t ht => ⟨rfl, rfl, rfl, rfl, sl_oth hv ht, rfl, rfl, rfl, rfl, rfl⟩, fun h => h⟩, rfl, rfl, rfl, rfl, rfl, rfl, rfl, rfl, sl_upd hv, rfl, rfl, rfl, rfl, rfl, rfl, rfl, rfl, rfl, rfl, rfl⟩
theorem xw_addIr {post : SX → Prop} {u : SX} {s ic vc ec c pn i cc : Nat} {op x y z : Int32} (hF : bb_F u s ic vc ec c pn i cc)
    (h1 : ic < 256 → post (xs_irD (xs_irB (xs_irA (xs_irOp (xs_irCount u (nI (ic + 1))) (upd (xg_irOp u) (256 * s + ic) op)) (upd (xg_irA u) (256 * s + ic) x)) (upd (xg_irB u) (256 * s + ic) y)) (upd (xg_irD u) (256 * s + ic) z))) (h0 : post (xs_buildOk u 0)) : wpX_addIr post u op x y z := by
  obtain ⟨hs, f1, f2, f3, f4, f5, f6, f7, f8, _⟩ := hF
  rw [xu_addIr, f4, f2]
  refine pk_lt ic 256 (fun hv => ?_) (fun _ => h0)
  obtain ⟨i1, i2⟩ := bb_ix hs hv
  rw [nI_add] at i1 i2
  rw [nI_add]
  refine nm_e ?_
  rw [i2]
  exact ⟨i1, nm_e ⟨i1, nm_e ⟨i1, nm_e ⟨i1, nm_e (nm_r (nI_1 ic) (h1 hv))⟩⟩⟩⟩
end
section
/-! a fresh value, a new row, a new constant: the states -/
theorem ud_ud {f : Nat → Int32} {k : Nat} {x y : Int32} : upd (upd f k x) k y = upd f k y := by
  funext j
  by_cases e : j = k
  · subst e; rw [pk_us, pk_us]
  · rw [pk_un e, pk_un e, pk_un e]
theorem vn_0 {n : Nat} (h : 0 < n) : vp_in 0 n := by
  rintro (z | z)
  · exact absurd z (by decide)
  · have e : (0 : Int32).toNatClampNeg = 0 := rfl
    omega
theorem vn_nI {k n : Nat} (h : k < n) (hk : k < 2 ^ 31) : vp_in (nI k) n := by
  rintro (z | z)
  · exact absurd z (nI_pos hk)
  · rw [nI_clamp hk] at z; omega
def ba_1 (u : SX) (s ic : Nat) (op x y z : Int32) : SX := xs_irD (xs_irB (xs_irA (xs_irOp (xs_irCount u (nI (ic + 1))) (upd (xg_irOp u) (256 * s + ic) op)) (upd (xg_irA u) (256 * s + ic) x)) (upd (xg_irB u) (256 * s + ic) y)) (upd (xg_irD u) (256 * s + ic) z)
/-- what a new constant leaves alone -/
def cn_eq (u u' : SX) : Prop := xg_irOp u' = xg_irOp u ∧ xg_irA u' = xg_irA u ∧ xg_irB u' = xg_irB u ∧ xg_irD u' = xg_irD u ∧ xg_env u' = xg_env u
def bk_1 (u1 : SX) (s vc : Nat) (v : Int32) : SX := xs_kVal (xs_kFlag u1 (upd (xg_kFlag u1) (256 * s + vc) 1)) (upd (xg_kVal u1) (256 * s + vc) v)
section
variable {s ic vc ec c pn i cc : Nat} {u u1 : SX}
/-- the builder's goodness at a state that is given by equations -/
theorem bb_Gof {u2 : SX} {ic' vc' ec' : Nat} {o a b d kf kv xp xs xc sn en df : Nat → Int32} (hx : xo_t u2 = xo_t u) (e1 : bo_o u2 s = o) (e2 : bo_a u2 s = a) (e3 : bo_b u2 s = b) (e4 : bo_d u2 s = d) (e5 : bo_kf u2 s = kf) (e6 : bo_kv u2 s = kv) (e7 : bo_xp u2 s = xp) (e8 : bo_xs u2 s = xs) (e9 : bo_xc u2 s = xc) (e10 : bo_sn u2 s = sn) (e11 : xg_env u2 = en) (e12 : xg_defAt u2 = df)
    (hW : bg_W ic' vc' o a b d kf kv df) (hK : bg_K (xg_codeSize u) (xg_memSize u) (xg_recMask u) (xg_code u) (xg_recHead u) (bo_tg u s) ic' vc' o a b d kf kv en i (nI pn) cc) (hX : bg_X (xg_codeSize u) (xg_memSize u) (xg_recMask u) (xg_code u) (xg_recHead u) (bo_tg u s) c ic' vc' ec' o a b d kf kv xp xs xc sn i cc) : bb_G u2 s ic' vc' ec' c pn i cc := by
  subst e1 e2 e3 e4 e5 e6 e7 e8 e9 e10 e11 e12
  have t : bo_tg u2 s = bo_tg u s := by unfold bo_tg; rw [xo_trTargets hx]
  refine ⟨hW, ?_, ?_⟩
  · unfold bb_K; rw [xo_codeSize hx, xo_memSize hx, xo_recMask hx, xo_code hx, xo_recHead hx, t]; exact hK
  · unfold bb_X; rw [xo_codeSize hx, xo_memSize hx, xo_recMask hx, xo_code hx, xo_recHead hx, t]; exact hX
theorem bb_Rof {u2 : SX} {ic' vc' : Nat} {o a b d kf kv : Nat → Int32} (hx : xo_t u2 = xo_t u) (e1 : bo_o u2 s = o) (e2 : bo_a u2 s = a) (e3 : bo_b u2 s = b) (e4 : bo_d u2 s = d) (e5 : bo_kf u2 s = kf) (e6 : bo_kv u2 s = kv) {R0 R : ir_R} (h : bb_run u2 s ic' vc' R0 R) : bg_run (xg_codeSize u) (xg_memSize u) (xg_recMask u) ic' vc' o a b d kf kv R0 R := by
  subst e1 e2 e3 e4 e5 e6
  unfold bb_run at h; rw [xo_codeSize hx, xo_memSize hx, xo_recMask hx] at h; exact h
/-- the numbers of a state that is given by equations -/
theorem bb_Fof {u2 : SX} {ic' vc' ec' : Nat} (hF : bb_F u s ic vc ec c pn i cc) (hx : xo_t u2 = xo_t u) (e1 : xg_irCount u2 = nI ic') (e2 : xg_valCount u2 = nI vc') (e3 : xg_exitCount u2 = nI ec') (h1 : ic' ≤ 256) (h2 : vc ≤ vc') (h3 : vc' ≤ 256) (h4 : ec ≤ ec') (h5 : ec' ≤ 128) : bb_F u2 s ic' vc' ec' c pn i cc := by
  obtain ⟨hs, f1, f2, f3, f4, f5, f6, f7, f8, f9, f10, f11, f12, f13, f14, f15, f16, f17, f18, f19⟩ := hF
  exact ⟨hs, (xo_buildSlot hx).trans f1, (xo_bIr hx).trans f2, (xo_bVal hx).trans f3, e1, h1, e2, by omega, h3, e3, by omega, h5, (xo_codeSize hx).trans f12, f13, (xo_buildPc hx).trans f14, f15, (xo_buildStep hx).trans f16, f17, (xo_crossCount hx).trans f18, f19⟩
theorem bf_F (hv : vc < 256) (hp : pr_f s vc u u1) (hF : bb_F u s ic vc ec c pn i cc) : bb_F u1 s ic (vc + 1) ec c pn i cc := by
  obtain ⟨p1, p2, p3, p4, p5, _⟩ := hp
  exact bb_Fof hF p1.1 (p3.trans hF.2.2.2.2.1) p5 (p4.trans hF.2.2.2.2.2.2.2.2.2.1) hF.2.2.2.2.2.1 (by omega) (by omega) (Nat.le_refl _) hF.2.2.2.2.2.2.2.2.2.2.2.1
theorem bf_S (hp : pr_f s vc u u1) (hS : bb_S u s ic vc ec) : bb_S u1 s ic (vc + 1) ec := by
  obtain ⟨h1, h2, h3, h4, h5⟩ := hS
  obtain ⟨p1, p2, p3, p4, p5, p6, p7, p8, p9, p10, p11, p12, p13, p14, p15, p16, p17, p18⟩ := hp
  refine ⟨fun j hj => ?_, fun v hv' => ?_, fun k hk => ?_, fun k hk => ?_, fun e e1 e2 j hj => ?_⟩
  · rw [p16]; exact vn_mono (h1 j hj) (by omega)
  · rw [p17]
    by_cases e : v = vc
    · subst e; rw [pk_us]; exact vn_0 (by omega)
    · rw [pk_un e]; exact h2 v (by omega)
  · rw [p6, p7, p8, p9]
    obtain ⟨q1, q2, q3, q4, q5⟩ := h3 k hk
    exact ⟨vn_mono q1 (by omega), vn_mono q2 (by omega), q3, fun z => vn_mono (q4 z) (by omega), q5⟩
  · rw [p10]
    by_cases e : k = vc
    · subst e; rw [pk_us]; exact Or.inl rfl
    · rw [pk_un e]; exact h4 k (by omega)
  · rw [p15]; exact vn_mono (h5 e e1 e2 j hj) (by omega)
theorem ba_R {op x y z : Int32} (hv : ic < 256) : bb_R s u (ba_1 u s ic op x y z) := ⟨rfl, fun t ht => ⟨sl_oth hv ht, sl_oth hv ht, sl_oth hv ht, sl_oth hv ht, rfl, rfl, rfl, rfl, rfl, rfl⟩, fun h => h⟩
theorem ba_F {op x y z : Int32} (hv : ic < 256) (hF : bb_F u s ic vc ec c pn i cc) : bb_F (ba_1 u s ic op x y z) s (ic + 1) vc ec c pn i cc := by
  obtain ⟨hs, f1, f2, f3, f4, f5, f6⟩ := hF
  exact ⟨hs, f1, f2, f3, rfl, by omega, f6⟩
theorem ba_o {op x y z : Int32} (hv : ic < 256) : bo_o (ba_1 u s ic op x y z) s = upd (bo_o u s) ic op := sl_upd hv
theorem ba_a {op x y z : Int32} (hv : ic < 256) : bo_a (ba_1 u s ic op x y z) s = upd (bo_a u s) ic x := sl_upd hv
theorem ba_b {op x y z : Int32} (hv : ic < 256) : bo_b (ba_1 u s ic op x y z) s = upd (bo_b u s) ic y := sl_upd hv
theorem ba_d {op x y z : Int32} (hv : ic < 256) : bo_d (ba_1 u s ic op x y z) s = upd (bo_d u s) ic z := sl_upd hv
theorem ba_S {op x y z : Int32} (hv : ic < 256) (hS : bb_S u s ic vc ec) (hx : vp_in x vc) (hy : vp_in y vc) (hz : vp_in z 256) (hz2 : op ≤ 20 → vp_in z vc) (h3 : 3 ≤ op) : bb_S (ba_1 u s ic op x y z) s (ic + 1) vc ec := by
  obtain ⟨h1, h2, hi, h4, h5⟩ := hS
  refine ⟨h1, fun v hv' => vn_mono (h2 v hv') (by omega), fun k hk => ?_, h4, h5⟩
  rw [ba_o hv, ba_a hv, ba_b hv, ba_d hv]
  by_cases e : k = ic
  · subst e; rw [pk_us, pk_us, pk_us, pk_us]; exact ⟨hx, hy, hz, hz2, h3⟩
  · rw [pk_un e, pk_un e, pk_un e, pk_un e]; exact hi k (by omega)
theorem bk_R {v : Int32} (hv : vc < 256) : bb_R s u1 (bk_1 u1 s vc v) := ⟨rfl, fun t ht => ⟨rfl, rfl, rfl, rfl, sl_oth hv ht, sl_oth hv ht, rfl, rfl, rfl, rfl⟩, fun h => h⟩
theorem bk_kf {v : Int32} (hv : vc < 256) (hp : pr_f s vc u u1) : bo_kf (bk_1 u1 s vc v) s = upd (bo_kf u s) vc 1 := by
  have e : bo_kf (bk_1 u1 s vc v) s = upd (bo_kf u1 s) vc 1 := sl_upd hv
  rw [e, hp.2.2.2.2.2.2.2.2.2.1, ud_ud]
theorem bk_kv {v : Int32} (hv : vc < 256) (hp : pr_f s vc u u1) : bo_kv (bk_1 u1 s vc v) s = upd (bo_kv u s) vc v := by
  have e : bo_kv (bk_1 u1 s vc v) s = upd (bo_kv u1 s) vc v := sl_upd hv
  rw [e, hp.2.2.2.2.2.2.2.2.2.2.1]
theorem bk_F {v : Int32} (hF : bb_F u1 s ic (vc + 1) ec c pn i cc) : bb_F (bk_1 u1 s vc v) s ic (vc + 1) ec c pn i cc := hF
theorem bk_S {v : Int32} (hv : vc < 256) (hS : bb_S u1 s ic (vc + 1) ec) : bb_S (bk_1 u1 s vc v) s ic (vc + 1) ec := by
  obtain ⟨h1, h2, h3, h4, h5⟩ := hS
  refine ⟨h1, h2, h3, fun k hk => ?_, h5⟩
  have e : bo_kf (bk_1 u1 s vc v) s = upd (bo_kf u1 s) vc 1 := sl_upd hv
  rw [e]
  by_cases e : k = vc
  · subst e; rw [pk_us]; exact Or.inr rfl
  · rw [pk_un e]; exact h4 k (by omega)
/-- a new constant keeps the builder good -/
theorem bk_G {v : Int32} (hv : vc < 256) (hp : pr_f s vc u u1) (h8 : 8 ≤ vc) (hn : ∀ k : Nat, 8 ≤ k → k < vc → bo_kf u s k ≠ 0 → bo_kv u s k ≠ v) (hG : bb_G u s ic vc ec c pn i cc) : bb_G (bk_1 u1 s vc v) s ic (vc + 1) ec c pn i cc := by
  obtain ⟨g1, g2, g3⟩ := hG
  have ef := bk_kf (v := v) hv hp
  have ev := bk_kv (v := v) hv hp
  obtain ⟨p1, p2, p3, p4, p5, p6, p7, p8, p9, p10, p11, p12, p13, p14, p15, p16, p17, p18⟩ := hp
  exact bb_Gof (u := u) (u2 := bk_1 u1 s vc v) p1.1 p6 p7 p8 p9 ef ev p12 p13 p14 p15 p16 p17 (bg_Wc h8 g1 hn) (bg_Kc g2) (bg_Xc g3)
theorem bk_run {v : Int32} (hv : vc < 256) (hp : pr_f s vc u u1) {R0 R : ir_R} (h : bb_run (bk_1 u1 s vc v) s ic (vc + 1) R0 R) : bb_run u s ic vc R0 R := by
  have ef := bk_kf (v := v) hv hp
  have ev := bk_kv (v := v) hv hp
  obtain ⟨p1, p2, p3, p4, p5, p6, p7, p8, p9, p10, p11, p12, p13, p14, p15, p16, p17, p18⟩ := hp
  have h2 := bb_Rof (u := u) (u2 := bk_1 u1 s vc v) p1.1 p6 p7 p8 p9 ef ev h
  exact ⟨sm_ad_k h2.1, h2.2⟩
theorem bb_const {k : Nat} (hW : bb_W u s ic vc) {R0 R : ir_R} (hr : bb_run u s ic vc R0 R) (h8 : 8 ≤ k) (hk : k < vc) (hf : bo_kf u s k ≠ 0) : R.1 k = bo_kv u s k := bg_const hW hr h8 hk hf
/-- a constant's value number is 8 or more -/
theorem bb_k8 {k : Nat} (hW : bb_W u s ic vc) (hf : bo_kf u s k ≠ 0) : 8 ≤ k := Nat.le_of_not_lt (fun z => hf (hW.2.2.2.1 k z))
theorem xw_con3 {post : Int32 → SX → Prop} {v : Int32} (hF : bb_F u s ic vc ec c pn i cc) (hS : bb_S u s ic vc ec)
    (K : ∀ (r : Int32) (u' : SX) (vc' : Nat), bb_P s c pn i cc u ic vc ec u' ic vc' ec → cn_eq u u' → vp_in r vc' → (xg_buildOk u' ≠ 0 → bb_G u s ic vc ec c pn i cc → ∀ R0 R : ir_R, bb_run u' s ic vc' R0 R → R.1 r.toNatClampNeg = v) → post r u') :
    ∀ (k j : Nat), j + k = vc → 8 ≤ j → (∀ q : Nat, 8 ≤ q → q < j → bo_kf u s q ≠ 0 → bo_kv u s q ≠ v) → ∀ n : Nat, k < n → xq_constant_3 post v n (nI j) u := by
  obtain ⟨hs, f1, f2, f3, f4, f5, f6, f7, f8, f9⟩ := id hF
  intro k
  induction k with
  | zero =>
    intro j hj h8 hn n hk
    obtain ⟨n, rfl⟩ : ∃ m, n = m + 1 := ⟨n - 1, by omega⟩
    have e : j = vc := by omega
    subst e
    rw [xu_constant_3, f6]
    refine br_t (Int32.le_refl _) (xw_fresh hF (fun u1 hv hp => ?_) ?_)
    · obtain ⟨i1, i2⟩ := bb_ix hs hv
      have hF1 := bf_F hv hp hF
      have hS1 := bf_S hp hS
      have hR1 := hp.1
      have hq := hp
      obtain ⟨p1, p2, p3, p4, p5, p6, p7, p8, p9, p10, p11, p12, p13, p14, p15, p16, p17, p18, p19, p20, p21⟩ := hq
      refine br_c (fun z => ?_) (fun z => ?_)
      · exact K (nI j) u1 (j + 1) ⟨hR1, hF1, hS1, by omega, fun q => absurd z q⟩ ⟨p18, p19, p20, p21, p16⟩ (vp_in_nI (by omega) (by omega)) (fun q => absurd z q)
      · have eb : xg_bVal u1 = nI (256 * s) := (xo_bVal hR1.1).trans f3
        rw [eb, i2]
        refine ⟨i1, nm_e ⟨i1, nm_e ?_⟩⟩
        have hR2 : bb_R s u (bk_1 u1 s j v) := bb_R_tr hR1 (bk_R hv)
        refine K (nI j) (bk_1 u1 s j v) (j + 1) ⟨hR2, bk_F hF1, bk_S hv hS1, by omega, fun _ hG => ⟨bk_G hv hp f7 hn hG, fun R0 R hr => ⟨R, bk_run hv hp hr, fun _ _ => rfl, rfl, fun q _ => ?_⟩⟩⟩ ⟨p18, p19, p20, p21, p16⟩ (vp_in_nI (by omega) (by omega)) (fun _ hG R0 R hr => ?_)
        · show R.1 (xg_env u1 q).toNatClampNeg = _
          rw [p16]
        · have hW := (bk_G hv hp f7 hn hG).1
          rw [nI_clamp (by omega), bb_const hW hr (k := j) h8 (by omega) (by rw [bk_kf hv hp, pk_us]; decide), bk_kv hv hp, pk_us]
    · exact br_t rfl (K 0 (xs_buildOk u 0) j (bb_fail hF hS) ⟨rfl, rfl, rfl, rfl, rfl⟩ (vn_0 (by omega)) (fun z => absurd rfl z))
  | succ k ih =>
    intro j hj h8 hn n hk
    obtain ⟨n, rfl⟩ : ∃ m, n = m + 1 := ⟨n - 1, by omega⟩
    obtain ⟨i1, i2⟩ := bb_ix hs (k := j) (by omega)
    have ef : bo_kf u s j = xg_kFlag u (256 * s + j) := sl_at (by omega)
    have ev : bo_kv u s j = xg_kVal u (256 * s + j) := sl_at (by omega)
    rw [xu_constant_3, f6, f3, i2, ← ef, ← ev]
    refine br_f (nI_ge (by omega) (by omega)) ⟨i1, br_c (fun z => nm_r (nI_1 j) ?_) (fun z => ⟨i1, br_c (fun y => ?_) (fun y => nm_r (nI_1 j) ?_)⟩)⟩
    · exact ih (j + 1) (by omega) (by omega) (fun q h1 h2 h3 => by
        by_cases e : q = j
        · subst e; exact absurd z h3
        · exact hn q h1 (by omega) h3) n (by omega)
    · refine K (nI j) u vc (bb_P_rf hF hS) ⟨rfl, rfl, rfl, rfl, rfl⟩ (vp_in_nI (by omega) (by omega)) (fun _ hG R0 R hr => ?_)
      rw [nI_clamp (by omega), bb_const hG.1 hr h8 (by omega) z, y]
    · exact ih (j + 1) (by omega) (by omega) (fun q h1 h2 h3 => by
        by_cases e : q = j
        · subst e; exact y
        · exact hn q h1 (by omega) h3) n (by omega)
theorem xw_constant {post : Int32 → SX → Prop} {v : Int32} (hF : bb_F u s ic vc ec c pn i cc) (hS : bb_S u s ic vc ec)
    (K : ∀ (r : Int32) (u' : SX) (vc' : Nat), bb_P s c pn i cc u ic vc ec u' ic vc' ec → cn_eq u u' → vp_in r vc' → (xg_buildOk u' ≠ 0 → bb_G u s ic vc ec c pn i cc → ∀ R0 R : ir_R, bb_run u' s ic vc' R0 R → R.1 r.toNatClampNeg = v) → post r u') : wpX_constant post u v := by
  have h8 : 8 ≤ vc := hF.2.2.2.2.2.2.2.1
  rw [xu_constant]
  exact ⟨vc + 1, xw_con3 hF hS K (vc - 8) 8 (by omega) (by omega) (fun q h1 h2 => by omega) (vc + 1) (by omega)⟩
end
end
section
/-! a new defining row -/
section
variable {s ic vc ec c pn i cc : Nat} {u u1 : SX}
theorem xw_newop {Q : Int32 → SX → Prop} {op x y : Int32} (hF : bb_F u s ic vc ec c pn i cc) (hS : bb_S u s ic vc ec) (hx : vp_in x vc) (hy : vp_in y vc) (h3 : 3 ≤ op)
    (K : ∀ (r : Int32) (u2 : SX) (ic' vc' : Nat), bb_R s u u2 → bb_F u2 s ic' vc' ec c pn i cc → bb_S u2 s ic' vc' ec → vc ≤ vc' → vp_in r vc' → (xg_buildOk u2 ≠ 0 → ic' = ic + 1 ∧ vc' = vc + 1 ∧ vc < 256 ∧ ic < 256 ∧ r = nI vc ∧ ∃ u1 : SX, pr_f s vc u u1 ∧ u2 = ba_1 u1 s ic op x y (nI vc)) → Q r u2) :
    wpX_freshValue (fun r u1 => wpX_addIr (fun u2 => Q r u2) u1 op x y r) u := by
  refine xw_fresh hF (fun u1 hv hp => ?_) ?_
  · have hF1 : bb_F u1 s ic (vc + 1) ec c pn i cc := bf_F hv hp hF
    have hS1 : bb_S u1 s ic (vc + 1) ec := bf_S hp hS
    have hr : vp_in (nI vc) (vc + 1) := vp_in_nI (by omega) (by omega)
    refine xw_addIr hF1 (fun hi => ?_) ?_
    · exact K (nI vc) (ba_1 u1 s ic op x y (nI vc)) (ic + 1) (vc + 1) (bb_R_tr hp.1 (ba_R hi)) (ba_F hi hF1) (ba_S hi hS1 (vn_mono hx (by omega)) (vn_mono hy (by omega)) (vp_in_nI hv (by decide)) (fun _ => hr) h3) (by omega) hr (fun _ => ⟨rfl, rfl, hv, hi, rfl, u1, hp, rfl⟩)
    · have := bb_fail hF1 hS1
      exact K (nI vc) (xs_buildOk u1 0) ic (vc + 1) (bb_R_tr hp.1 this.1) this.2.1 this.2.2.1 (by omega) hr (fun z => absurd rfl z)
  · have h8 : 8 ≤ vc := hF.2.2.2.2.2.2.2.1
    have hP := bb_fail hF hS
    refine xw_addIr hP.2.1 (fun hi => ?_) ?_
    · exact K 0 (ba_1 (xs_buildOk u 0) s ic op x y 0) (ic + 1) vc (bb_R_tr hP.1 (ba_R hi)) (ba_F hi hP.2.1) (ba_S hi hP.2.2.1 hx hy (vn_0 (by omega)) (fun _ => vn_0 (by omega)) h3) (Nat.le_refl _) (vn_0 (by omega)) (fun z => absurd rfl z)
    · have h2 := bb_fail hP.2.1 hP.2.2.1
      exact K 0 (xs_buildOk (xs_buildOk u 0) 0) ic vc (bb_R_tr hP.1 h2.1) h2.2.1 h2.2.2.1 (Nat.le_refl _) (vn_0 (by omega)) (fun z => absurd rfl z)
theorem bn_eqs {op x y : Int32} {df' : Nat → Int32} (hp : pr_f s vc u u1) (hi : ic < 256) : bo_o (xs_defAt (ba_1 u1 s ic op x y (nI vc)) df') s = upd (bo_o u s) ic op ∧ bo_a (xs_defAt (ba_1 u1 s ic op x y (nI vc)) df') s = upd (bo_a u s) ic x ∧ bo_b (xs_defAt (ba_1 u1 s ic op x y (nI vc)) df') s = upd (bo_b u s) ic y ∧ bo_d (xs_defAt (ba_1 u1 s ic op x y (nI vc)) df') s = upd (bo_d u s) ic (nI vc) := by
  obtain ⟨p1, p2, p3, p4, p5, p6, p7, p8, p9, _⟩ := hp
  rw [← p6, ← p7, ← p8, ← p9]
  exact ⟨sl_upd hi, sl_upd hi, sl_upd hi, sl_upd hi⟩
theorem bn_run {op x y : Int32} {df' : Nat → Int32} (hv : vc < 256) (hi : ic < 256) (hp : pr_f s vc u u1) {R0 R' : ir_R} (h : bb_run (xs_defAt (ba_1 u1 s ic op x y (nI vc)) df') s (ic + 1) (vc + 1) R0 R') : ∃ R : ir_R, bb_run u s ic vc R0 R ∧ R' = ir_f (xg_codeSize u) (xg_memSize u) op (R.1 x.toNatClampNeg) (R.1 y.toNatClampNeg) vc R := by
  obtain ⟨e1, e2, e3, e4⟩ := bn_eqs (op := op) (x := x) (y := y) (df' := df') hp hi
  obtain ⟨p1, p2, p3, p4, p5, p6, p7, p8, p9, p10, p11, _⟩ := hp
  have h2 := bb_Rof (u := u) (u2 := xs_defAt (ba_1 u1 s ic op x y (nI vc)) df') p1.1 e1 e2 e3 e4 p10 p11 h
  exact bg_rn hv h2
theorem bn_E {op x y : Int32} {df' : Nat → Int32} (hv : vc < 256) (hi : ic < 256) (hp : pr_f s vc u u1) (hop : bg_df op) (hS : bb_S u s ic vc ec) : bb_E s u ic vc (xs_defAt (ba_1 u1 s ic op x y (nI vc)) df') (ic + 1) (vc + 1) := by
  intro R0 R' hr
  obtain ⟨R, h1, rfl⟩ := bn_run hv hi hp hr
  refine ⟨R, h1, fun k hk => ir_fV (fun _ => Nat.ne_of_lt hk), ir_f2 hop, fun j hj => ?_⟩
  have e : xg_env (xs_defAt (ba_1 u1 s ic op x y (nI vc)) df') = xg_env u := hp.2.2.2.2.2.2.2.2.2.2.2.2.2.2.2.1
  rw [e]
  exact ir_fV (fun _ => Nat.ne_of_lt (vn_lt (hS.1 j hj)))
theorem bn_G {op x y : Int32} {df' : Nat → Int32} (hv : vc < 256) (hi : ic < 256) (hp : pr_f s vc u u1) (h8 : 8 ≤ vc) (hop : bg_df op) (hx : vp_in x vc) (hy : vp_in y vc) (hS : bb_S u s ic vc ec)
    (hdf : ∀ v : Nat, v < vc → df' v = xg_defAt u v) (hdv : ∀ m : Nat, m < ic + 1 → (df' vc).toNatClampNeg = m + 1 → m = ic ∧ 3 ≤ op ∧ op ≤ 15)
    (hG : bb_G u s ic vc ec c pn i cc) : bb_G (xs_defAt (ba_1 u1 s ic op x y (nI vc)) df') s (ic + 1) (vc + 1) ec c pn i cc := by
  obtain ⟨g1, g2, g3⟩ := hG
  obtain ⟨e1, e2, e3, e4⟩ := bn_eqs (op := op) (x := x) (y := y) (df' := df') hp hi
  obtain ⟨p1, p2, p3, p4, p5, p6, p7, p8, p9, p10, p11, p12, p13, p14, p15, p16, p17, p18⟩ := hp
  exact bb_Gof (u := u) (u2 := xs_defAt (ba_1 u1 s ic op x y (nI vc)) df') p1.1 e1 e2 e3 e4 p10 p11 p12 p13 p14 p15 p16 rfl
    (bg_Wn hop hv h8 (vn_lt hx) (vn_lt hy) g1 hdf hdv (fun v hv' => by have := vn_lt (hS.2.1 v hv'); omega)) (bg_Kn hop hv (fun j hj => vn_lt (hS.1 j hj)) g2) (bg_Xn (bg_df20 hop) g3)
/-- a definition is noted, or stays -/
theorem xd_self (u : SX) : xs_defAt u (xg_defAt u) = u := rfl
/-- loads: a new row 16 or 18 -/
theorem bn_P {op x y : Int32} (hv : vc < 256) (hi : ic < 256) (hp : pr_f s vc u u1) (hop : bg_df op) (hF : bb_F u s ic vc ec c pn i cc) (hS : bb_S u s ic vc ec) (hx : vp_in x vc) (hy : vp_in y vc) : (bb_G u s ic vc ec c pn i cc → bb_G (ba_1 u1 s ic op x y (nI vc)) s (ic + 1) (vc + 1) ec c pn i cc) ∧ bb_E s u ic vc (ba_1 u1 s ic op x y (nI vc)) (ic + 1) (vc + 1) ∧
    (∀ R0 R' : ir_R, bb_run (ba_1 u1 s ic op x y (nI vc)) s (ic + 1) (vc + 1) R0 R' → ∃ R : ir_R, bb_run u s ic vc R0 R ∧ R' = ir_f (xg_codeSize u) (xg_memSize u) op (R.1 x.toNatClampNeg) (R.1 y.toNatClampNeg) vc R) := by
  have h := xd_self (ba_1 u1 s ic op x y (nI vc))
  have hd : xg_defAt (ba_1 u1 s ic op x y (nI vc)) = upd (xg_defAt u) vc 0 := hp.2.2.2.2.2.2.2.2.2.2.2.2.2.2.2.2.1
  rw [hd] at h
  rw [← h]
  refine ⟨fun hG => ?_, bn_E hv hi hp hop hS, fun R0 R' hr => bn_run hv hi hp hr⟩
  exact bn_G hv hi hp hF.2.2.2.2.2.2.2.1 hop hx hy hS (fun v hv' => pk_un (by omega)) (fun m hm hd => by rw [pk_us] at hd; exact absurd hd (by rw [sb_cl0]; omega)) hG
/-- values of earlier numbers in a later run -/
theorem bb_val {x : Int32} {R R' : ir_R} (hx : vp_in x vc) (h : ∀ k : Nat, k < vc → R'.1 k = R.1 k) : R'.1 x.toNatClampNeg = R.1 x.toNatClampNeg := h _ (vn_lt hx)
/-! algebra of the folded operations -/
theorem al_s11 (x : Int32) : al_f 11 x 0 = x := by rw [al_11]; exact Int32.shiftLeft_zero
theorem al_s12 (x : Int32) : al_f 12 x 0 = x := by rw [al_12]; exact Int32.shiftRight_zero
theorem xw_simp54 {post : Int32 → SX → Prop} {op x y : Int32} (hF : bb_F u s ic vc ec c pn i cc) (hS : bb_S u s ic vc ec) (hx : vp_in x vc) (hy : vp_in y vc)
    (Km : post (-1) u) (K : ∀ r : Int32, vp_in r vc → (bb_G u s ic vc ec c pn i cc → ∀ R0 R : ir_R, bb_run u s ic vc R0 R → R.1 r.toNatClampNeg = al_f op (R.1 x.toNatClampNeg) (R.1 y.toNatClampNeg)) → post r u) : xq_simplify_54 post op x y u := by
  rw [xu_simplify_54]
  refine xw_isK hF hS hy (br_c (fun _ => Km) (fun hk => ?_))
  obtain ⟨hs, f1, f2, f3, f4, f5, f6, f7, f8, f9⟩ := id hF
  obtain ⟨k, hk', rfl⟩ := vp_in_of hy (by omega)
  obtain ⟨i1, i2⟩ := bb_ix hs (k := k) (by omega)
  have ev : bo_kv u s k = xg_kVal u (256 * s + k) := sl_at (by omega)
  rw [nI_clamp (by omega)] at hk
  rw [nI_clamp (by omega)] at K
  rw [f3, i2, ← ev]
  have hc : bb_G u s ic vc ec c pn i cc → ∀ R0 R : ir_R, bb_run u s ic vc R0 R → R.1 k = bo_kv u s k := fun hG R0 R hr => bb_const hG.1 hr (bb_k8 hG.1 hk) hk' hk
  refine ⟨i1, nm_e ?_⟩
  have h129 : xq_simplify_129 post op x (bo_kv u s k) u := by
    rw [xu_simplify_129]
    refine br_c (fun h1 => br_c (fun h5 => K x hx (fun hG R0 R hr => ?_)) (fun _ => br_c (fun h6 => K x hx (fun hG R0 R hr => ?_)) (fun _ => Km))) (fun _ => Km)
    · rw [hc hG R0 R hr, h1, h5, al_5, Int32.mul_one]
    · rw [hc hG R0 R hr, h1, h6, al_6, if_neg (by decide), Int32.div_one]
  have h111 : xq_simplify_111 post op x (nI k) (bo_kv u s k) u := by
    rw [xu_simplify_111]
    refine br_c (fun h0 => br_c (fun h5 => K (nI k) hy (fun hG R0 R hr => ?_)) (fun _ => br_c (fun h8 => K (nI k) hy (fun hG R0 R hr => ?_)) (fun _ => h129))) (fun _ => h129)
    · rw [nI_clamp (by omega), hc hG R0 R hr, h0, h5, al_5, Int32.mul_zero]
    · rw [nI_clamp (by omega), hc hG R0 R hr, h0, h8, al_8, Int32.and_zero]
  refine br_c (fun h0 => ?_) (fun _ => h111)
  refine br_c (fun e => K x hx (fun hG R0 R hr => ?_)) (fun _ => br_c (fun e => K x hx (fun hG R0 R hr => ?_)) (fun _ => br_c (fun e => K x hx (fun hG R0 R hr => ?_)) (fun _ => br_c (fun e => K x hx (fun hG R0 R hr => ?_)) (fun _ => br_c (fun e => K x hx (fun hG R0 R hr => ?_)) (fun _ => h111)))))
  · rw [hc hG R0 R hr, h0, e, al_3, Int32.add_zero]
  · rw [hc hG R0 R hr, h0, e, al_9, Int32.or_zero]
  · rw [hc hG R0 R hr, h0, e, al_10, Int32.xor_zero]
  · rw [hc hG R0 R hr, h0, e, al_s11]
  · rw [hc hG R0 R hr, h0, e, al_s12]
theorem xw_simplify {post : Int32 → SX → Prop} {op x y : Int32} (hF : bb_F u s ic vc ec c pn i cc) (hS : bb_S u s ic vc ec) (hx : vp_in x vc) (hy : vp_in y vc)
    (Km : post (-1) u) (K : ∀ (r : Int32) (u' : SX) (vc' : Nat), bb_P s c pn i cc u ic vc ec u' ic vc' ec → vp_in r vc' → (xg_buildOk u' ≠ 0 → bb_G u s ic vc ec c pn i cc → ∀ R0 R : ir_R, bb_run u' s ic vc' R0 R → R.1 r.toNatClampNeg = al_f op (R.1 x.toNatClampNeg) (R.1 y.toNatClampNeg)) → post r u') : wpX_simplify post u op x y := by
  rw [xu_simplify]
  have K' : ∀ r : Int32, vp_in r vc → (bb_G u s ic vc ec c pn i cc → ∀ R0 R : ir_R, bb_run u s ic vc R0 R → R.1 r.toNatClampNeg = al_f op (R.1 x.toNatClampNeg) (R.1 y.toNatClampNeg)) → post r u := fun r hr hf => K r u vc (bb_P_rf hF hS) hr (fun _ hG => hf hG)
  have h54 := xw_simp54 (post := post) (op := op) hF hS hx hy Km K'
  refine br_c (fun e => ?_) (fun _ => h54)
  subst e
  have h22 : (∀ z : Int32, al_f op z z = 0) → xq_simplify_22 post u := fun h => by
    rw [xu_simplify_22]
    exact xw_constant hF hS (fun r u' vc' hP _ hr hf => K r u' vc' hP hr (fun ok hG R0 R hrun => by rw [hf ok hG R0 R hrun, h]))
  refine br_c (fun e => h22 (fun z => by rw [e, al_4, Int32.sub_self])) (fun _ => br_c (fun e => h22 (fun z => by rw [e, al_10, Int32.xor_self])) (fun _ => br_c (fun e => h22 (fun z => by rw [e, al_14, if_pos (Int32.le_refl z)])) (fun _ => br_c (fun e => ?_) (fun _ => br_c (fun e => ?_) (fun _ => br_c (fun e => ?_) (fun _ => h54))))))
  · exact xw_constant hF hS (fun r u' vc' hP _ hr hf => K r u' vc' hP hr (fun ok hG R0 R hrun => by rw [hf ok hG R0 R hrun, e, al_15, if_pos rfl]))
  · exact K' x hx (fun hG R0 R hrun => by rw [e, al_8, Int32.and_self])
  · exact K' x hx (fun hG R0 R hrun => by rw [e, al_9, Int32.or_self])
/-! the pure operations -/
def pu_K (post : Int32 → SX → Prop) (s c pn i cc ec : Nat) (u : SX) (ic vc : Nat) (op x y : Int32) : Prop := ∀ (r : Int32) (u' : SX) (ic' vc' : Nat), bb_P s c pn i cc u ic vc ec u' ic' vc' ec → vp_in r vc' → (xg_buildOk u' ≠ 0 → bb_G u s ic vc ec c pn i cc → ∀ R0 R : ir_R, bb_run u' s ic' vc' R0 R → R.1 r.toNatClampNeg = al_f op (R.1 x.toNatClampNeg) (R.1 y.toNatClampNeg)) → post r u'
/-- a later start -/
theorem pu_K_tr {post : Int32 → SX → Prop} {u1 : SX} {ic1 vc1 : Nat} {op x y op1 x1 y1 : Int32} (hP : bb_P s c pn i cc u ic vc ec u1 ic1 vc1 ec) (hx1 : vp_in x1 vc1) (hy1 : vp_in y1 vc1) (hx : vp_in x vc1) (hy : vp_in y vc1)
    (he : xg_buildOk u1 ≠ 0 → bb_G u s ic vc ec c pn i cc → ∀ R0 R : ir_R, bb_run u1 s ic1 vc1 R0 R → al_f op1 (R.1 x1.toNatClampNeg) (R.1 y1.toNatClampNeg) = al_f op (R.1 x.toNatClampNeg) (R.1 y.toNatClampNeg))
    (K : pu_K post s c pn i cc ec u ic vc op x y) : pu_K post s c pn i cc ec u1 ic1 vc1 op1 x1 y1 := by
  intro r u' ic' vc' hP' hr hf
  refine K r u' ic' vc' (bb_P_tr hP hP') hr (fun ok hG R0 R hrun => ?_)
  have ok1 := hP'.1.2.2 ok
  obtain ⟨G1, _⟩ := hP.2.2.2.2 ok1 hG
  obtain ⟨_, E⟩ := hP'.2.2.2.2 ok G1
  obtain ⟨R1, g1, g2, g3⟩ := E R0 R hrun
  rw [hf ok G1 R0 R hrun, g2 _ (vn_lt hx1), g2 _ (vn_lt hy1), g2 _ (vn_lt hx), g2 _ (vn_lt hy)]
  exact he ok1 hG R0 R1 g1
theorem bb_fact (hW : bb_W u s ic vc) {R0 R : ir_R} (hr : bb_run u s ic vc R0 R) {m : Nat} (hm : m < ic) : (bo_o u s m ≤ 15 → R.1 (bo_d u s m).toNatClampNeg = al_f (bo_o u s m) (R.1 (bo_a u s m).toNatClampNeg) (R.1 (bo_b u s m).toNatClampNeg)) ∧ (31 < bo_o u s m → bo_o u s m < 38 → ∀ (code : Nat → Int32) (oc : Int32), hd_p (xg_codeSize u) (xg_memSize u) (xg_recMask u) code oc (bo_o u s m) (R.1 (bo_a u s m).toNatClampNeg) (R.1 (bo_b u s m).toNatClampNeg)) := bg_fact hW hr hm
theorem pu_Rd (u : SX) (df : Nat → Int32) : bb_R s u (xs_defAt u df) := ⟨rfl, fun _ _ => ⟨rfl, rfl, rfl, rfl, rfl, rfl, rfl, rfl, rfl, rfl⟩, fun h => h⟩
theorem pu_Fd {df : Nat → Int32} (hF : bb_F u s ic vc ec c pn i cc) : bb_F (xs_defAt u df) s ic vc ec c pn i cc := hF
theorem pu_Sd {df : Nat → Int32} (hS : bb_S u s ic vc ec) (hd : ∀ v : Nat, v < vc → vp_in (df v) (ic + 1)) : bb_S (xs_defAt u df) s ic vc ec := ⟨hS.1, hd, hS.2.2⟩
theorem xw_pure287 {post : Int32 → SX → Prop} {op x y : Int32} (hF : bb_F u s ic vc ec c pn i cc) (hS : bb_S u s ic vc ec) (hx : vp_in x vc) (hy : vp_in y vc) (h3 : 3 ≤ op) (h15 : op ≤ 15) (K : pu_K post s c pn i cc ec u ic vc op x y) :
    ∀ (k j : Nat), j + k = ic → ∀ n : Nat, k < n → xq_pure_287 post op x y n (nI j) u := by
  obtain ⟨hs, f1, f2, f3, f4, f5, f6, f7, f8, f9⟩ := id hF
  intro k
  induction k with
  | zero =>
    intro j hj n hn
    obtain ⟨n, rfl⟩ : ∃ m, n = m + 1 := ⟨n - 1, by omega⟩
    have e : j = ic := by omega
    subst e
    rw [xu_pure_287, f4]
    refine br_t (Int32.le_refl _) (xw_newop hF hS hx hy h3 (fun r u2 ic' vc' hR2 hF2 hS2 hv2 hr hok => br_c (fun z => ?_) (fun z => ?_)))
    · exact K r u2 ic' vc' ⟨hR2, hF2, hS2, hv2, fun q => absurd z q⟩ hr (fun q => absurd z q)
    · obtain ⟨rfl, rfl, hv, hi, rfl, u1, hp, rfl⟩ := hok z
      have hop : bg_df op := Or.inl h15
      rw [nI_clamp (by omega)]
      refine ⟨vp_in_nI hv (by decide), nm_e ?_⟩
      have ei : xg_irCount (ba_1 u1 s j op x y (nI vc)) = nI (j + 1) := rfl
      have ed : xg_defAt (ba_1 u1 s j op x y (nI vc)) = upd (xg_defAt u) vc 0 := hp.2.2.2.2.2.2.2.2.2.2.2.2.2.2.2.2.1
      rw [ei, ed, ud_ud]
      have hG3 : bb_G u s j vc ec c pn i cc → bb_G (xs_defAt (ba_1 u1 s j op x y (nI vc)) (upd (xg_defAt u) vc (nI (j + 1)))) s (j + 1) (vc + 1) ec c pn i cc := fun hG => bn_G hv hi hp f7 hop hx hy hS (fun v hv' => pk_un (by omega)) (fun m hm hd => by
        rw [pk_us, nI_clamp (by omega)] at hd
        exact ⟨by omega, h3, h15⟩) hG
      have hE3 : bb_E s u j vc (xs_defAt (ba_1 u1 s j op x y (nI vc)) (upd (xg_defAt u) vc (nI (j + 1)))) (j + 1) (vc + 1) := bn_E hv hi hp hop hS
      have hR3 : bb_R s (ba_1 u1 s j op x y (nI vc)) (xs_defAt (ba_1 u1 s j op x y (nI vc)) (upd (xg_defAt u) vc (nI (j + 1)))) := pu_Rd _ _
      refine K (nI vc) (xs_defAt (ba_1 u1 s j op x y (nI vc)) (upd (xg_defAt u) vc (nI (j + 1)))) (j + 1) (vc + 1) ⟨bb_R_tr hR2 hR3, pu_Fd hF2, pu_Sd hS2 (fun v hv' => ?_), hv2, fun _ hG => ⟨hG3 hG, hE3⟩⟩ hr (fun _ hG R0 R' hrun => ?_)
      · by_cases e : v = vc
        · subst e; rw [pk_us]; exact vn_nI (by omega) (by omega)
        · rw [pk_un e]; exact vn_mono (hS.2.1 v (by omega)) (by omega)
      · obtain ⟨R, g1, rfl⟩ := bn_run hv hi hp hrun
        rw [nI_clamp (by omega), ir_fV (fun _ => Nat.ne_of_lt (vn_lt hx)), ir_fV (fun _ => Nat.ne_of_lt (vn_lt hy)), ir_f15 h15]
        exact pk_us
  | succ k ih =>
    intro j hj n hn
    obtain ⟨n, rfl⟩ : ∃ m, n = m + 1 := ⟨n - 1, by omega⟩
    obtain ⟨i1, i2⟩ := bb_ix hs (k := j) (by omega)
    have eo : bo_o u s j = xg_irOp u (256 * s + j) := sl_at (by omega)
    have ea : bo_a u s j = xg_irA u (256 * s + j) := sl_at (by omega)
    have eb : bo_b u s j = xg_irB u (256 * s + j) := sl_at (by omega)
    have ed : bo_d u s j = xg_irD u (256 * s + j) := sl_at (by omega)
    have next : ∀ z : Int32, z = nI j + 1 → xq_pure_287 post op x y n z u := nm_r (nI_1 j) (ih (j + 1) (by omega) n (by omega))
    rw [xu_pure_287, f4, f2, i2, ← eo, ← ea, ← eb, ← ed]
    refine br_f (nI_ge (by omega) (by omega)) ⟨i1, br_c (fun e1 => ⟨i1, br_c (fun e2 => ⟨i1, br_c (fun e3 => ⟨i1, ?_⟩) (fun _ => next)⟩) (fun _ => next)⟩) (fun _ => next)⟩
    obtain ⟨q1, q2, q3, q4, q5⟩ := hS.2.2.1 j (by omega)
    refine K _ u ic vc (bb_P_rf hF hS) (q4 (by rw [e1]; exact Int32.le_trans h15 (by decide))) (fun _ hG R0 R hrun => ?_)
    have := (bb_fact hG.1 hrun (m := j) (by omega)).1 (by rw [e1]; exact h15)
    rw [this, e1, e2, e3]
theorem xw_pure264 {post : Int32 → SX → Prop} {op x y : Int32} (hF : bb_F u s ic vc ec c pn i cc) (hS : bb_S u s ic vc ec) (hx : vp_in x vc) (hy : vp_in y vc) (h3 : 3 ≤ op) (h15 : op ≤ 15) (K : pu_K post s c pn i cc ec u ic vc op x y) : xq_pure_264 post op x y u := by
  rw [xu_pure_264]
  refine xw_simplify hF hS hx hy (br_t (by decide) ⟨ic + 1, xw_pure287 hF hS hx hy h3 h15 K ic 0 (by omega) (ic + 1) (by omega)⟩) (fun r u' vc' hP hr hf => br_f (vn_pos hr) (K r u' ic vc' hP hr hf))
theorem xw_pure143 {post : Int32 → SX → Prop} {op x y : Int32} (hF : bb_F u s ic vc ec c pn i cc) (hS : bb_S u s ic vc ec) (hx : vp_in x vc) (hy : vp_in y vc) (h3 : 3 ≤ op) (h15 : op ≤ 15) (K : pu_K post s c pn i cc ec u ic vc op x y) : xq_pure_143 post op x y u := by
  have h264 := xw_pure264 hF hS hx hy h3 h15 K
  obtain ⟨hs, f1, f2, f3, f4, f5, f6, f7, f8, f9⟩ := id hF
  rw [xu_pure_143]
  refine br_c (fun eop => xw_isK hF hS hy (br_c (fun _ => h264) (fun hk => ⟨vn_mono hx f8, nm_e (br_c (fun _ => h264) (fun hd => ?_))⟩))) (fun _ => h264)
  obtain ⟨m, hm, em⟩ := vp_in_of (hS.2.1 x.toNatClampNeg (vn_lt hx)) (by omega)
  have hm0 : m ≠ 0 := by
    intro z; rw [em, z] at hd; exact hd (by decide)
  obtain ⟨m, rfl⟩ : ∃ q, m = q + 1 := ⟨m - 1, by omega⟩
  rw [em, nI_pred]
  obtain ⟨i1, i2⟩ := bb_ix hs (k := m) (by omega)
  have eo : bo_o u s m = xg_irOp u (256 * s + m) := sl_at (by omega)
  have ea : bo_a u s m = xg_irA u (256 * s + m) := sl_at (by omega)
  have eb : bo_b u s m = xg_irB u (256 * s + m) := sl_at (by omega)
  rw [f2, i2, ← eo, ← eb]
  obtain ⟨q1, q2, q3, q4, q5⟩ := hS.2.2.1 m (by omega)
  refine ⟨i1, br_c (fun e3 => ⟨i1, xw_isK hF hS q2 (br_c (fun _ => h264) (fun hkb => ?_))⟩) (fun _ => h264)⟩
  obtain ⟨ky, hky, eky⟩ := vp_in_of hy (by omega)
  obtain ⟨kb, hkb2, ekb⟩ := vp_in_of q2 (by omega)
  obtain ⟨j1, j2⟩ := bb_ix hs (k := ky) (by omega)
  obtain ⟨l1, l2⟩ := bb_ix hs (k := kb) (by omega)
  have evy : bo_kv u s ky = xg_kVal u (256 * s + ky) := sl_at (by omega)
  have evb : bo_kv u s kb = xg_kVal u (256 * s + kb) := sl_at (by omega)
  rw [eky, nI_clamp (by omega)] at hk
  rw [ekb, nI_clamp (by omega)] at hkb
  rw [f3, ekb, eky, j2, l2, ← evy, ← evb]
  refine ⟨j1, i1, l1, xw_constant hF hS (fun r u1 vc1 hP hC hr hf => ?_)⟩
  have g2 : xg_bIr u1 = nI (256 * s) := hP.2.1.2.2.1
  rw [g2, i2, hC.2.1, ← ea]
  refine ⟨i1, nm_e ?_⟩
  have hv1 : vc ≤ vc1 := hP.2.2.2.1
  refine xw_pure264 hP.2.1 hP.2.2.1 (vn_mono q1 hv1) hr h3 h15 (pu_K_tr hP (vn_mono q1 hv1) hr (vn_mono hx hv1) (vn_mono hy hv1) (fun ok hG R0 R1 hrun => ?_) K)
  obtain ⟨G1, E1⟩ := hP.2.2.2.2 ok hG
  obtain ⟨R, r1, r2, r3⟩ := E1 R0 R1 hrun
  rw [hf ok hG R0 R1 hrun, r2 _ (vn_lt q1), r2 _ (vn_lt hx), r2 _ (vn_lt hy), eop, al_3, al_3]
  have w5 := hG.1.2.2.2.2 x.toNatClampNeg m (vn_lt hx) (by omega) (by rw [em, nI_clamp (by omega)])
  have hfx := (bb_fact hG.1 r1 (m := m) (by omega)).1 w5.2.2
  rw [w5.1, e3, al_3] at hfx
  have cy := bb_const hG.1 r1 (bb_k8 hG.1 hk) hky hk
  have cb := bb_const hG.1 r1 (bb_k8 hG.1 hkb) hkb2 hkb
  rw [hfx, eky, nI_clamp (by omega), cy, ekb, nI_clamp (by omega), cb, Int32.add_assoc, Int32.add_comm (bo_kv u s kb)]
theorem xw_pure106 {post : Int32 → SX → Prop} {op x y : Int32} (hF : bb_F u s ic vc ec c pn i cc) (hS : bb_S u s ic vc ec) (hx : vp_in x vc) (hy : vp_in y vc) (h3 : 3 ≤ op) (h15 : op ≤ 15) (K : pu_K post s c pn i cc ec u ic vc op x y) : xq_pure_106 post op x y u := by
  have h143 := xw_pure143 hF hS hx hy h3 h15 K
  obtain ⟨hs, f1, f2, f3, f4, f5, f6, f7, f8, f9⟩ := id hF
  rw [xu_pure_106]
  refine br_c (fun eop => xw_isK hF hS hy (br_c (fun _ => h143) (fun hk => ?_))) (fun _ => h143)
  obtain ⟨ky, hky, eky⟩ := vp_in_of hy (by omega)
  obtain ⟨j1, j2⟩ := bb_ix hs (k := ky) (by omega)
  have evy : bo_kv u s ky = xg_kVal u (256 * s + ky) := sl_at (by omega)
  rw [eky, nI_clamp (by omega)] at hk
  rw [f3, eky, j2, ← evy]
  refine ⟨j1, xw_constant hF hS (fun r u1 vc1 hP hC hr hf => ?_)⟩
  have hv1 : vc ≤ vc1 := hP.2.2.2.1
  refine xw_pure143 hP.2.1 hP.2.2.1 (vn_mono hx hv1) hr (by decide) (by decide) (pu_K_tr hP (vn_mono hx hv1) hr (vn_mono hx hv1) (vn_mono hy hv1) (fun ok hG R0 R1 hrun => ?_) K)
  obtain ⟨G1, E1⟩ := hP.2.2.2.2 ok hG
  obtain ⟨R, r1, r2, r3⟩ := E1 R0 R1 hrun
  have cy := bb_const hG.1 r1 (bb_k8 hG.1 hk) hky hk
  rw [hf ok hG R0 R1 hrun, r2 _ (vn_lt hy), eop, al_3, al_4, eky, nI_clamp (by omega), cy, Int32.sub_eq_add_neg]
theorem al_comm {op x y : Int32} (h : op = 3 ∨ op = 5 ∨ op = 8 ∨ op = 9 ∨ op = 10 ∨ op = 15) : al_f op x y = al_f op y x := by
  rcases h with rfl | rfl | rfl | rfl | rfl | rfl
  · rw [al_3, al_3, Int32.add_comm]
  · rw [al_5, al_5, Int32.mul_comm]
  · rw [al_8, al_8, Int32.and_comm]
  · rw [al_9, al_9, Int32.or_comm]
  · rw [al_10, al_10, Int32.xor_comm]
  · rw [al_15, al_15]
    by_cases e : x = y
    · subst e; rfl
    · rw [if_neg e, if_neg (fun z => e z.symm)]
theorem xw_commutes {post : Int32 → Prop} {op : Int32} (h1 : (op = 3 ∨ op = 5 ∨ op = 8 ∨ op = 9 ∨ op = 10 ∨ op = 15) → post 1) (h0 : post 0) : wpX_commutes post u op := by
  rw [xu_commutes]
  exact br_c (fun e => h1 (Or.inl e)) (fun _ => br_c (fun e => h1 (Or.inr (Or.inl e))) (fun _ => br_c (fun e => h1 (Or.inr (Or.inr (Or.inl e)))) (fun _ => br_c (fun e => h1 (Or.inr (Or.inr (Or.inr (Or.inl e))))) (fun _ => br_c (fun e => h1 (Or.inr (Or.inr (Or.inr (Or.inr (Or.inl e)))))) (fun _ => br_c (fun e => h1 (Or.inr (Or.inr (Or.inr (Or.inr (Or.inr e)))))) (fun _ => h0))))))
theorem xw_pure74 {post : Int32 → SX → Prop} {op x y k1 k2 : Int32} (hF : bb_F u s ic vc ec c pn i cc) (hS : bb_S u s ic vc ec) (hx : vp_in x vc) (hy : vp_in y vc) (h3 : 3 ≤ op) (h15 : op ≤ 15) (K : pu_K post s c pn i cc ec u ic vc op x y) : xq_pure_74 post x y op x y k1 k2 u := by
  have h106 := xw_pure106 hF hS hx hy h3 h15 K
  rw [xu_pure_74]
  refine xw_commutes (fun hc => br_f (by decide) ?_) (br_t rfl h106)
  have h100 : xq_pure_100 post x y op u := by
    rw [xu_pure_100]
    exact xw_pure106 hF hS hy hx h3 h15 (pu_K_tr (bb_P_rf hF hS) hy hx hx hy (fun _ _ _ _ _ => al_comm hc) K)
  exact br_c (fun _ => br_c (fun _ => br_c (fun _ => h106) (fun _ => h100)) (fun _ => h106)) (fun _ => h100)
theorem xw_pure {post : Int32 → SX → Prop} {op x y : Int32} (hF : bb_F u s ic vc ec c pn i cc) (hS : bb_S u s ic vc ec) (hx : vp_in x vc) (hy : vp_in y vc) (h3 : 3 ≤ op) (h15 : op ≤ 15) (K : pu_K post s c pn i cc ec u ic vc op x y) : wpX_pure post u op x y := by
  obtain ⟨hs, f1, f2, f3, f4, f5, f6, f7, f8, f9⟩ := id hF
  rw [xu_pure]
  refine xw_isK hF hS hx (xw_isK hF hS hy (br_c (fun _ => xw_pure74 hF hS hx hy h3 h15 K) (fun hkx => br_c (fun _ => xw_pure74 hF hS hx hy h3 h15 K) (fun hky => ?_))))
  obtain ⟨a, ha, ea⟩ := vp_in_of hx (by omega)
  obtain ⟨b, hb, eb⟩ := vp_in_of hy (by omega)
  obtain ⟨j1, j2⟩ := bb_ix hs (k := a) (by omega)
  obtain ⟨l1, l2⟩ := bb_ix hs (k := b) (by omega)
  have eva : bo_kv u s a = xg_kVal u (256 * s + a) := sl_at (by omega)
  have evb : bo_kv u s b = xg_kVal u (256 * s + b) := sl_at (by omega)
  rw [ea, nI_clamp (by omega)] at hkx
  rw [eb, nI_clamp (by omega)] at hky
  rw [f3, ea, eb, j2, l2, ← eva, ← evb]
  refine ⟨j1, l1, xw_alu (xw_constant hF hS (fun r u1 vc1 hP hC hr hf => K r u1 ic vc1 hP hr (fun ok hG R0 R1 hrun => ?_)))⟩
  obtain ⟨G1, E1⟩ := hP.2.2.2.2 ok hG
  obtain ⟨R, r1, r2, r3⟩ := E1 R0 R1 hrun
  have ca := bb_const hG.1 r1 (bb_k8 hG.1 hkx) ha hkx
  have cb := bb_const hG.1 r1 (bb_k8 hG.1 hky) hb hky
  rw [hf ok hG R0 R1 hrun, r2 _ (vn_lt hx), r2 _ (vn_lt hy), ea, eb, nI_clamp (by omega), nI_clamp (by omega), ca, cb]
end
end
section
/-! what earlier guards prove -/
def im_C (g kind a b x y : Int32) : Prop := 31 < g ∧ g < 38 ∧ ∀ (cs ms : Int32) (mk : Int64) (code : Nat → Int32) (oc : Int32) (V : Nat → Int32), hd_p cs ms mk code oc g (V a.toNatClampNeg) (V b.toNatClampNeg) → hd_p cs ms mk code oc kind (V x.toNatClampNeg) (V y.toNatClampNeg)
section
variable {u : SX}
theorem im_62 {post : Int32 → Prop} {kind g sm fl a b x y : Int32} (hk1 : 31 < kind) (hk2 : kind < 38) (hsm : sm ≠ 0 → a = x ∧ b = y) (hfl : fl ≠ 0 → a = y ∧ b = x) (h0 : post 0) (h1 : im_C g kind a b x y → post 1) : xq_implied_62 post kind g sm fl u := by
  have h165 : kind = 35 → xq_implied_165 post g fl u := fun ek => by
    rw [xu_implied_165]
    refine br_c (fun eg => br_c (fun _ => h0) (fun hf => h1 ?_)) (fun _ => h0)
    obtain ⟨rfl, rfl⟩ := hfl hf
    subst ek eg
    refine ⟨by decide, by decide, fun cs ms mk code oc V h => ?_⟩
    rw [hd_34] at h
    rw [hd_35]
    exact fun z => h (Int32.le_of_lt z)
  have h119 : kind = 33 → xq_implied_119 post g sm fl u := fun ek => by
    rw [xu_implied_119]
    refine br_c (fun eg => ?_) (fun _ => h0)
    subst ek eg
    have key : (a = x ∧ b = y) ∨ (a = y ∧ b = x) → im_C 34 33 a b x y := fun hh => by
      refine ⟨by decide, by decide, fun cs ms mk code oc V h => ?_⟩
      rw [hd_34] at h
      rw [hd_33]
      intro z
      rcases hh with ⟨rfl, rfl⟩ | ⟨rfl, rfl⟩
      · exact h (by rw [z]; exact Int32.le_refl _)
      · exact h (by rw [z]; exact Int32.le_refl _)
    exact br_c (fun _ => br_c (fun _ => h0) (fun hf => h1 (key (Or.inr (hfl hf))))) (fun hs => h1 (key (Or.inl (hsm hs))))
  have h77 : xq_implied_77 post kind g sm fl u := by
    rw [xu_implied_77]
    refine br_c (fun ek => br_c (fun eg => br_c (fun _ => h0) (fun hf => h1 ?_)) (fun _ => h0)) (fun _ => br_c (fun ek => br_c (fun eg => br_c (fun _ => h119 ek) (fun hf => h1 ?_)) (fun _ => h119 ek)) (fun _ => br_c (fun ek => br_c (fun eg => ?_) (fun _ => h165 ek)) (fun _ => h0)))
    · obtain ⟨rfl, rfl⟩ := hfl hf
      subst ek eg
      refine ⟨by decide, by decide, fun cs ms mk code oc V h => ?_⟩
      rw [hd_32] at h ⊢
      exact h.symm
    · obtain ⟨rfl, rfl⟩ := hfl hf
      subst ek eg
      refine ⟨by decide, by decide, fun cs ms mk code oc V h => ?_⟩
      rw [hd_33] at h ⊢
      exact fun z => h z.symm
    · subst ek eg
      have key : (a = x ∧ b = y) ∨ (a = y ∧ b = x) → im_C 32 35 a b x y := fun hh => by
        refine ⟨by decide, by decide, fun cs ms mk code oc V h => ?_⟩
        rw [hd_32] at h
        rw [hd_35]
        rcases hh with ⟨rfl, rfl⟩ | ⟨rfl, rfl⟩
        · rw [h]; exact Int32.lt_irrefl
        · rw [h]; exact Int32.lt_irrefl
      exact br_c (fun _ => br_c (fun _ => h165 rfl) (fun hf => h1 (key (Or.inr (hfl hf))))) (fun hs => h1 (key (Or.inl (hsm hs))))
  rw [xu_implied_62]
  refine br_c (fun eg => br_c (fun _ => h77) (fun hs => h1 ?_)) (fun _ => h77)
  obtain ⟨rfl, rfl⟩ := hsm hs
  subst eg
  exact ⟨hk1, hk2, fun _ _ _ _ _ _ h => h⟩
theorem xw_implied {post : Int32 → Prop} {s ic vc ec c pn i cc m : Nat} {kind x y : Int32} (hF : bb_F u s ic vc ec c pn i cc) (hm : m < ic) (hk1 : 31 < kind) (hk2 : kind < 38) (h0 : post 0) (h1 : im_C (bo_o u s m) kind (bo_a u s m) (bo_b u s m) x y → post 1) : wpX_implied post u (nI (256 * s) + nI m) kind x y := by
  obtain ⟨hs, f1, f2, f3, f4, f5, _⟩ := id hF
  obtain ⟨i1, i2⟩ := bb_ix hs (k := m) (by omega)
  have eo : bo_o u s m = xg_irOp u (256 * s + m) := sl_at (by omega)
  have ea : bo_a u s m = xg_irA u (256 * s + m) := sl_at (by omega)
  have eb : bo_b u s m = xg_irB u (256 * s + m) := sl_at (by omega)
  have h34 : ∀ z : Int32, (z ≠ 0 → bo_a u s m = x ∧ bo_b u s m = y) → xq_implied_34 post (nI (256 * s) + nI m) kind x y (bo_o u s m) z u := fun z hz => by
    have h61 : xq_implied_61 post kind (bo_o u s m) z u := by
      rw [xu_implied_61]
      exact im_62 (a := bo_a u s m) (b := bo_b u s m) (x := x) (y := y) hk1 hk2 hz (fun q => absurd rfl q) h0 h1
    rw [xu_implied_34, i2, ← ea, ← eb]
    exact ⟨i1, br_c (fun e1 => ⟨i1, br_c (fun e2 => im_62 (a := bo_a u s m) (b := bo_b u s m) (x := x) (y := y) hk1 hk2 hz (fun _ => ⟨e1, e2⟩) h0 h1) (fun _ => h61)⟩) (fun _ => h61)⟩
  have h33 : xq_implied_33 post (nI (256 * s) + nI m) kind x y (bo_o u s m) u := by
    rw [xu_implied_33]
    exact h34 0 (fun q => absurd rfl q)
  rw [xu_implied, i2, ← ea, ← eb, ← eo]
  exact ⟨i1, nm_e ⟨i1, br_c (fun e1 => ⟨i1, br_c (fun e2 => h34 1 (fun _ => ⟨e1, e2⟩)) (fun _ => h33)⟩) (fun _ => h33)⟩⟩
end
section
variable {s ic vc ec c pn i cc : Nat} {u : SX}
/-- the guard's condition in a run -/
def gd_c (u : SX) (kind x y : Int32) (R : ir_R) : Prop := hd_p (xg_codeSize u) (xg_memSize u) (xg_recMask u) R.2.2.1 R.2.2.2.2 kind (R.1 x.toNatClampNeg) (R.1 y.toNatClampNeg)
theorem xw_known117 {post : Int32 → Prop} {kind x y : Int32} (hF : bb_F u s ic vc ec c pn i cc) (hk1 : 31 < kind) (hk2 : kind < 38) (hm : post (-1)) (h1 : (bb_G u s ic vc ec c pn i cc → ∀ R0 R : ir_R, bb_run u s ic vc R0 R → gd_c u kind x y R) → post 1) :
    ∀ (k j : Nat), j + k = ic → ∀ n : Nat, k < n → xq_known_117 post kind x y n (nI j) u := by
  obtain ⟨hs, f1, f2, f3, f4, f5, _⟩ := id hF
  intro k
  induction k with
  | zero =>
    intro j hj n hn
    obtain ⟨n, rfl⟩ : ∃ m, n = m + 1 := ⟨n - 1, by omega⟩
    have e : j = ic := by omega
    subst e
    rw [xu_known_117, f4]
    exact br_t (Int32.le_refl _) hm
  | succ k ih =>
    intro j hj n hn
    obtain ⟨n, rfl⟩ : ∃ m, n = m + 1 := ⟨n - 1, by omega⟩
    rw [xu_known_117, f4, f2]
    refine br_f (nI_ge (by omega) (by omega)) (xw_implied hF (by omega) hk1 hk2 (br_t rfl (nm_r (nI_1 j) (ih (j + 1) (by omega) n (by omega)))) (fun hc => br_f (by decide) (h1 (fun hG R0 R hr => ?_))))
    obtain ⟨c1, c2, c3⟩ := hc
    exact c3 _ _ _ _ _ R.1 ((bb_fact hG.1 hr (m := j) (by omega)).2 c1 c2 _ _)
theorem xw_knownStore {post : Int32 → Prop} {x y : Int32} (hF : bb_F u s ic vc ec c pn i cc) (hS : bb_S u s ic vc ec) (hx : vp_in x vc) (hm : post (-1)) (h0 : post 0) (h1 : (bb_G u s ic vc ec c pn i cc → ∀ R0 R : ir_R, bb_run u s ic vc R0 R → gd_c u 38 x y R) → post 1) : wpX_knownStore post u x := by
  obtain ⟨hs, f1, f2, f3, f4, f5, f6, f7, f8, f9, f10, f11, f12, f13, f14⟩ := id hF
  rw [xu_knownStore]
  refine xw_isK hF hS hx (br_c (fun _ => hm) (fun hk => ?_))
  obtain ⟨k, hk', rfl⟩ := vp_in_of hx (by omega)
  obtain ⟨i1, i2⟩ := bb_ix hs (k := k) (by omega)
  have ev : bo_kv u s k = xg_kVal u (256 * s + k) := sl_at (by omega)
  rw [nI_clamp (by omega)] at hk
  rw [f3, i2, ← ev]
  refine ⟨i1, nm_e (br_c (fun _ => h0) (fun g0 => br_c (fun g1 => xw_inMask (fun _ => br_f (by decide) hm) (fun g2 => br_t rfl (h1 (fun hG R0 R hr => ?_)))) (fun _ => h0)))⟩
  unfold gd_c
  rw [hd_38, nI_clamp (by omega), bb_const hG.1 hr (bb_k8 hG.1 hk) hk' hk]
  exact ⟨g0, Int32.not_le.mpr g1, fun z => absurd z g2⟩
theorem xw_known {post : Int32 → Prop} {kind x y : Int32} (hF : bb_F u s ic vc ec c pn i cc) (hS : bb_S u s ic vc ec) (hx : vp_in x vc) (hy : vp_in y vc) (hk1 : 31 < kind) (hk2 : kind < 40) (hm : post (-1)) (h0 : post 0) (h1 : (bb_G u s ic vc ec c pn i cc → ∀ R0 R : ir_R, bb_run u s ic vc R0 R → gd_c u kind x y R) → post 1) : wpX_known post u kind x y := by
  obtain ⟨hs, f1, f2, f3, f4, f5, f6, f7, f8, f9, f10, f11, f12, f13, f14⟩ := id hF
  rw [xu_known]
  refine br_c (fun _ => hm) (fun e9 => br_c (fun e8 => ?_) (fun e8 => ?_))
  · subst e8
    exact xw_knownStore hF hS hx hm h0 h1
  · have hk3 : kind < 38 := by
      obtain ⟨j, g1, g2, rfl⟩ := nb_lt (a := 31) (by decide) hk1
      have g3 : j < 40 := (nI_ltI (b := 40) g2 (by decide)).mp hk2
      have g4 : j ≠ 39 := fun z => e9 (by rw [z]; rfl)
      have g5 : j ≠ 38 := fun z => e8 (by rw [z]; rfl)
      exact nI_lt (b := 38) (by omega) (by decide)
    have loop : ∃ n : Nat, xq_known_117 post kind x y n 0 u := ⟨ic + 1, xw_known117 hF hk1 hk3 hm h1 ic 0 (by omega) (ic + 1) (by omega)⟩
    have h95 : xq_known_95 post kind x y u := by
      rw [xu_known_95]
      exact br_c (fun _ => br_c (fun _ => h0) (fun _ => br_c (fun _ => h0) (fun _ => loop))) (fun _ => loop)
    have h76 : xq_known_76 post kind x y u := by
      rw [xu_known_76]
      refine br_c (fun e => br_c (fun ek => h1 (fun _ R0 R _ => ?_)) (fun _ => br_c (fun ek => h1 (fun _ R0 R _ => ?_)) (fun _ => h95))) (fun _ => h95)
      · subst e ek; unfold gd_c; rw [hd_32]
      · subst e ek; unfold gd_c; rw [hd_35]; exact Int32.lt_irrefl
    refine xw_isK hF hS hx (br_c (fun _ => h76) (fun hkx => xw_isK hF hS hy (br_c (fun _ => h76) (fun hky => ?_))))
    obtain ⟨a, ha, ea⟩ := vp_in_of hx (by omega)
    obtain ⟨b, hb, eb⟩ := vp_in_of hy (by omega)
    obtain ⟨j1, j2⟩ := bb_ix hs (k := a) (by omega)
    obtain ⟨l1, l2⟩ := bb_ix hs (k := b) (by omega)
    have eva : bo_kv u s a = xg_kVal u (256 * s + a) := sl_at (by omega)
    have evb : bo_kv u s b = xg_kVal u (256 * s + b) := sl_at (by omega)
    rw [ea, nI_clamp (by omega)] at hkx
    rw [eb, nI_clamp (by omega)] at hky
    rw [f3, ea, eb, j2, l2, ← eva, ← evb]
    refine ⟨j1, l1, xw_holds ⟨c, f13, f12⟩ (fun hh => br_f (by decide) (h1 (fun hG R0 R hr => ?_))) (fun _ => br_t rfl h0)⟩
    unfold gd_c
    rw [ea, eb, nI_clamp (by omega), nI_clamp (by omega), bb_const hG.1 hr (bb_k8 hG.1 hkx) ha hkx, bb_const hG.1 hr (bb_k8 hG.1 hky) hb hky]
    exact hd_ind hk1 hk3 hh
end
end
section
/-! snapshots -/
theorem cp_ix (s e j : Nat) : nI (128 * s + e) * 8 + nI j = nI (1024 * s + (8 * e + j)) := by
  rw [show (8 : Int32) = nI 8 from rfl, pk_mul, nI_add]
  exact congrArg nI (by omega)
theorem cp_sl (s e : Nat) : nI s * 128 + nI e = nI (128 * s + e) := by
  rw [show (128 : Int32) = nI 128 from rfl, pk_mul, nI_add]
  exact congrArg nI (by omega)
section
variable {s ic vc ec c pn i cc : Nat} {u u1 : SX}
theorem xw_cap43 {post : SX → Prop} {e : Nat} (hs : s < 8) (he : e < 128)
    (K : ∀ sn' : Nat → Int32, (∀ j : Nat, j < 8 → sn' (1024 * s + (8 * e + j)) = xg_env u j) → (∀ q : Nat, (∀ j : Nat, j < 8 → q ≠ 1024 * s + (8 * e + j)) → sn' q = xg_snap u q) → post (xs_snap u sn')) :
    ∀ (k j : Nat), j + k = 8 → ∀ sn : Nat → Int32, (∀ q : Nat, q < j → sn (1024 * s + (8 * e + q)) = xg_env u q) → (∀ q : Nat, (∀ j : Nat, j < 8 → q ≠ 1024 * s + (8 * e + j)) → sn q = xg_snap u q) → ∀ u' : SX, u' = xs_snap u sn → ∀ n : Nat, k < n → xq_capture_43 post (nI (128 * s + e)) n (nI j) u' := by
  intro k
  induction k with
  | zero =>
    intro j hj sn h1 h2 u' hu n hn
    obtain ⟨n, rfl⟩ : ∃ m, n = m + 1 := ⟨n - 1, by omega⟩
    have e : j = 8 := by omega
    subst e
    rw [xu_capture_43, hu]
    exact br_t (Int32.le_refl _) (K sn h1 h2)
  | succ k ih =>
    intro j hj sn h1 h2 u' hu n hn
    obtain ⟨n, rfl⟩ : ∃ m, n = m + 1 := ⟨n - 1, by omega⟩
    have e1 : xg_snap u' = sn := by rw [hu]; rfl
    have e2 : xg_env u' = xg_env u := by rw [hu]; rfl
    have e3 : ∀ f : Nat → Int32, xs_snap u' f = xs_snap u f := fun f => by rw [hu]; rfl
    rw [xu_capture_43, cp_ix, nI_clamp (by omega), nI_clamp (by omega), e1, e2]
    refine br_f (nI_ge (b := 8) (by omega) (by decide)) ⟨vp_in_nI (by omega) (by decide), vp_in_nI (by omega) (by decide), nm_e (nm_r (nI_1 j) ?_)⟩
    refine ih (j + 1) (by omega) (upd sn (1024 * s + (8 * e + j)) (xg_env u j)) (fun q hq => ?_) (fun q hq => ?_) _ (e3 _) n (by omega)
    · by_cases e' : q = j
      · subst e'; exact pk_us
      · rw [pk_un (by omega)]; exact h1 q (by omega)
    · rw [pk_un (hq j (by omega))]; exact h2 q hq
/-- the state behind a snapshot of exit e -/
def pr_c (s e : Nat) (u u1 : SX) : Prop := bb_R s u u1 ∧ xg_irCount u1 = xg_irCount u ∧ xg_exitCount u1 = xg_exitCount u ∧ xg_valCount u1 = xg_valCount u ∧ bo_o u1 s = bo_o u s ∧ bo_a u1 s = bo_a u s ∧ bo_b u1 s = bo_b u s ∧ bo_d u1 s = bo_d u s ∧ bo_kf u1 s = bo_kf u s ∧ bo_kv u1 s = bo_kv u s ∧
  bo_xp u1 s = upd (bo_xp u s) e (xg_buildPc u) ∧ bo_xs u1 s = upd (bo_xs u s) e (xg_buildStep u) ∧ bo_xc u1 s = upd (bo_xc u s) e (xg_crossCount u) ∧ xg_env u1 = xg_env u ∧ xg_defAt u1 = xg_defAt u ∧
  (∀ j : Nat, j < 8 → bo_sn u1 s (8 * e + j) = xg_env u j) ∧ (∀ e' j : Nat, e' ≠ e → j < 8 → bo_sn u1 s (8 * e' + j) = bo_sn u s (8 * e' + j)) ∧ xg_buildOk u1 = xg_buildOk u
theorem xw_capture {post : SX → Prop} {e : Nat} (hs : s < 8) (hb : xg_buildSlot u = nI s) (he : e < 128) (K : ∀ u1 : SX, pr_c s e u u1 → post u1) : wpX_capture post u (nI e) := by
  rw [xu_capture, hb, cp_sl]
  have hv : vp_in (nI (128 * s + e)) 1024 := vp_in_nI (by omega) (by decide)
  refine nm_e ?_
  rw [nI_clamp (by omega)]
  refine ⟨hv, nm_e ⟨hv, nm_e ⟨hv, nm_e ?_⟩⟩⟩
  obtain ⟨w, hw⟩ : ∃ w, w = xs_exCross (xs_exSteps (xs_exPc u (upd (xg_exPc u) (128 * s + e) (xg_buildPc u))) (upd (xg_exSteps u) (128 * s + e) (xg_buildStep u))) (upd (xg_exCross u) (128 * s + e) (xg_crossCount u)) := ⟨_, rfl⟩
  have q1 : bb_R s u w := by rw [hw]; exact ⟨rfl, fun t ht => ⟨rfl, rfl, rfl, rfl, rfl, rfl, sl_oth he ht, sl_oth he ht, sl_oth he ht, rfl⟩, fun h => h⟩
  have q2 : xg_irCount w = xg_irCount u ∧ xg_exitCount w = xg_exitCount u ∧ xg_valCount w = xg_valCount u ∧ bo_o w s = bo_o u s ∧ bo_a w s = bo_a u s ∧ bo_b w s = bo_b u s ∧ bo_d w s = bo_d u s ∧ bo_kf w s = bo_kf u s ∧ bo_kv w s = bo_kv u s := by rw [hw]; exact ⟨rfl, rfl, rfl, rfl, rfl, rfl, rfl, rfl, rfl⟩
  have q3 : bo_xp w s = upd (bo_xp u s) e (xg_buildPc u) ∧ bo_xs w s = upd (bo_xs u s) e (xg_buildStep u) ∧ bo_xc w s = upd (bo_xc u s) e (xg_crossCount u) := by rw [hw]; exact ⟨sl_upd he, sl_upd he, sl_upd he⟩
  have q4 : xg_env w = xg_env u ∧ xg_defAt w = xg_defAt u ∧ xg_snap w = xg_snap u ∧ xg_buildOk w = xg_buildOk u := by rw [hw]; exact ⟨rfl, rfl, rfl, rfl⟩
  rw [← hw]
  refine ⟨9, xw_cap43 (u := w) hs he (fun sn h1 h2 => ?_) 8 0 (by omega) (xg_snap w) (fun q hq => by omega) (fun _ _ => rfl) w rfl 9 (by omega)⟩
  rw [q4.1] at h1
  rw [q4.2.2.1] at h2
  have q5 : bb_R s w (xs_snap w sn) := by
    refine ⟨rfl, fun t ht => ⟨rfl, rfl, rfl, rfl, rfl, rfl, rfl, rfl, rfl, ?_⟩, fun h => h⟩
    show sl_c 1024 t sn = sl_c 1024 t (xg_snap w)
    rw [q4.2.2.1]
    funext q
    unfold sl_c
    by_cases hq : q < 1024
    · rw [if_pos hq, if_pos hq]
      exact h2 _ (fun j hj => sl_ne 1024 s t q (8 * e + j) hq (by omega) ht)
    · rw [if_neg hq, if_neg hq]
  obtain ⟨r1, r2, r3, r4, r5, r6, r7, r8, r9⟩ := q2
  refine K (xs_snap w sn) ⟨bb_R_tr q1 q5, r1, r2, r3, r4, r5, r6, r7, r8, r9, q3.1, q3.2.1, q3.2.2, q4.1, q4.2.1, fun j hj => ?_, fun e' j hne hj => ?_, q4.2.2.2⟩
  · show sl_c 1024 s sn (8 * e + j) = _
    rw [sl_at (by omega)]; exact h1 j hj
  · show sl_c 1024 s sn (8 * e' + j) = sl_c 1024 s (xg_snap u) (8 * e' + j)
    unfold sl_c
    by_cases hq : 8 * e' + j < 1024
    · rw [if_pos hq, if_pos hq]
      exact h2 _ (fun j' hj' => by omega)
    · rw [if_neg hq, if_neg hq]
/-! one more guard: u1 is the state behind the snapshot, its exit count one more -/
def pr_q (s ec : Nat) (u u1 : SX) : Prop := bb_R s u u1 ∧ xg_irCount u1 = xg_irCount u ∧ xg_exitCount u1 = nI (ec + 1) ∧ xg_valCount u1 = xg_valCount u ∧ bo_o u1 s = bo_o u s ∧ bo_a u1 s = bo_a u s ∧ bo_b u1 s = bo_b u s ∧ bo_d u1 s = bo_d u s ∧ bo_kf u1 s = bo_kf u s ∧ bo_kv u1 s = bo_kv u s ∧
  bo_xp u1 s = upd (bo_xp u s) ec (xg_buildPc u) ∧ bo_xs u1 s = upd (bo_xs u s) ec (xg_buildStep u) ∧ bo_xc u1 s = upd (bo_xc u s) ec (xg_crossCount u) ∧ xg_env u1 = xg_env u ∧ xg_defAt u1 = xg_defAt u ∧
  (∀ j : Nat, j < 8 → bo_sn u1 s (8 * ec + j) = xg_env u j) ∧ (∀ e' j : Nat, e' ≠ ec → j < 8 → bo_sn u1 s (8 * e' + j) = bo_sn u s (8 * e' + j))
theorem pr_cq (h : pr_c s ec (xs_exitCount u (nI (ec + 1))) u1) : pr_q s ec u u1 := by
  obtain ⟨p1, p2, p3, p4, p5, p6, p7, p8, p9, p10, p11, p12, p13, p14, p15, p16, p17, p18⟩ := h
  have r : bb_R s u (xs_exitCount u (nI (ec + 1))) := ⟨rfl, fun _ _ => ⟨rfl, rfl, rfl, rfl, rfl, rfl, rfl, rfl, rfl, rfl⟩, fun h => h⟩
  exact ⟨bb_R_tr r p1, p2, p3, p4, p5, p6, p7, p8, p9, p10, p11, p12, p13, p14, p15, p16, p17⟩
theorem rq_F1 (hp : pr_q s ec u u1) (he : ec < 128) (hF : bb_F u s ic vc ec c pn i cc) : bb_F u1 s ic vc (ec + 1) c pn i cc :=
  bb_Fof hF hp.1.1 (hp.2.1.trans hF.2.2.2.2.1) (hp.2.2.2.1.trans hF.2.2.2.2.2.2.1) hp.2.2.1 hF.2.2.2.2.2.1 (Nat.le_refl _) hF.2.2.2.2.2.2.2.2.1 (by omega) (by omega)
theorem rq_S1 (hp : pr_q s ec u u1) (hS : bb_S u s ic vc ec) : bb_S u1 s ic vc (ec + 1) := by
  obtain ⟨p1, p2, p3, p4, p5, p6, p7, p8, p9, p10, p11, p12, p13, p14, p15, p16, p17⟩ := hp
  refine ⟨fun j hj => by rw [p14]; exact hS.1 j hj, fun v hv => by rw [p15]; exact hS.2.1 v hv, fun k hk => by rw [p5, p6, p7, p8]; exact hS.2.2.1 k hk, fun k hk => by rw [p9]; exact hS.2.2.2.1 k hk, fun e e1 e2 j hj => ?_⟩
  by_cases q : e = ec
  · subst q; rw [p16 j hj]; exact hS.1 j hj
  · rw [p17 e j q hj]; exact hS.2.2.2.2 e e1 (by omega) j hj
theorem kd_nd {kind : Int32} (hk : 31 < kind) : ¬ bg_df kind := by
  rintro (z | z | z)
  · exact absurd (Int32.lt_of_lt_of_le hk z) (by decide)
  · subst z; exact absurd hk (by decide)
  · subst z; exact absurd hk (by decide)
theorem rq_G {kind x y : Int32} (hp : pr_q s ec u u1) (hi : ic < 256) (hF : bb_F u s ic vc ec c pn i cc) (hS : bb_S u s ic vc ec) (hx : vp_in x vc) (hy : vp_in y vc) (hk : 31 < kind) (hG : bb_G u s ic vc ec c pn i cc) : bb_G (ba_1 u1 s ic kind x y (nI ec)) s (ic + 1) vc (ec + 1) c pn i cc := by
  obtain ⟨hs, f1, f2, f3, f4, f5, f6, f7, f8, f9, f10, f11, f12, f13, f14, f15, f16, f17, f18, f19⟩ := id hF
  obtain ⟨p1, p2, p3, p4, p5, p6, p7, p8, p9, p10, p11, p12, p13, p14, p15, p16, p17⟩ := hp
  have h20 : 20 < kind := Int32.lt_trans (by decide) hk
  have eo : bo_o (ba_1 u1 s ic kind x y (nI ec)) s = upd (bo_o u s) ic kind := (ba_o hi).trans (by rw [p5])
  have ea : bo_a (ba_1 u1 s ic kind x y (nI ec)) s = upd (bo_a u s) ic x := (ba_a hi).trans (by rw [p6])
  have eb : bo_b (ba_1 u1 s ic kind x y (nI ec)) s = upd (bo_b u s) ic y := (ba_b hi).trans (by rw [p7])
  have ed : bo_d (ba_1 u1 s ic kind x y (nI ec)) s = upd (bo_d u s) ic (nI ec) := (ba_d hi).trans (by rw [p8])
  obtain ⟨g1, g2, g3⟩ := hG
  refine bb_Gof (u := u) (u2 := ba_1 u1 s ic kind x y (nI ec)) (xp := bo_xp u1 s) (xs := bo_xs u1 s) (xc := bo_xc u1 s) (sn := bo_sn u1 s) p1.1 eo ea eb ed p9 p10 rfl rfl rfl rfl p14 p15 ?_ ?_ ?_
  · exact bg_We (kd_nd hk) (vn_lt hx) (vn_lt hy) (fun v hv' => by have := vn_lt (hS.2.1 v hv'); omega) g1
  · exact bg_Kg h20 g2
  · refine bg_Xg h20 f10 rfl f15 (fun e he' => ⟨?_, ?_, ?_, fun j hj => p17 e j (by omega) hj⟩) ?_ ?_ ?_ p16 g2 g3
    · rw [p11]; exact pk_un (by omega)
    · rw [p12]; exact pk_un (by omega)
    · rw [p13]; exact pk_un (by omega)
    · rw [p11, pk_us]; exact f14
    · rw [p12, pk_us]; exact f16
    · rw [p13, pk_us]; exact f18
theorem rq_run {kind x y : Int32} (hp : pr_q s ec u u1) (hi : ic < 256) (hk : 31 < kind) {R0 R : ir_R} (h : bb_run (ba_1 u1 s ic kind x y (nI ec)) s (ic + 1) vc R0 R) : bb_run u s ic vc R0 R ∧ gd_c u kind x y R := by
  obtain ⟨p1, p2, p3, p4, p5, p6, p7, p8, p9, p10, p11, p12, p13, p14, p15, p16, p17⟩ := hp
  have eo : bo_o (ba_1 u1 s ic kind x y (nI ec)) s = upd (bo_o u s) ic kind := (ba_o hi).trans (by rw [p5])
  have ea : bo_a (ba_1 u1 s ic kind x y (nI ec)) s = upd (bo_a u s) ic x := (ba_a hi).trans (by rw [p6])
  have eb : bo_b (ba_1 u1 s ic kind x y (nI ec)) s = upd (bo_b u s) ic y := (ba_b hi).trans (by rw [p7])
  have ed : bo_d (ba_1 u1 s ic kind x y (nI ec)) s = upd (bo_d u s) ic (nI ec) := (ba_d hi).trans (by rw [p8])
  have h20 : 20 < kind := Int32.lt_trans (by decide) hk
  have h2 := bb_Rof (u := u) (u2 := ba_1 u1 s ic kind x y (nI ec)) p1.1 eo ea eb ed p9 p10 h
  obtain ⟨R1, r1, r2, r3⟩ := bg_re h2
  rw [ir_f21 h20] at r3
  subst r3
  exact ⟨r1, r2 h20⟩
theorem xw_require {post : SX → Prop} {kind x y : Int32} (hF : bb_F u s ic vc ec c pn i cc) (hS : bb_S u s ic vc ec) (hx : vp_in x vc) (hy : vp_in y vc) (hk1 : 31 < kind) (hk2 : kind < 40)
    (K : ∀ (u' : SX) (ic' ec' : Nat), bb_P s c pn i cc u ic vc ec u' ic' vc ec' → xg_env u' = xg_env u → (xg_buildOk u' ≠ 0 → bb_G u s ic vc ec c pn i cc → ∀ R0 R : ir_R, bb_run u' s ic' vc R0 R → gd_c u kind x y R) → post u') : wpX_require post u kind x y := by
  obtain ⟨hs, f1, f2, f3, f4, f5, f6, f7, f8, f9, f10, f11, f12⟩ := id hF
  rw [xu_require]
  refine xw_known hF hS hx hy hk1 hk2 (br_f (by decide) (br_f (by decide) ?_)) (br_f (by decide) (br_t rfl ?_)) (fun hc => br_t rfl (K u ic ec (bb_P_rf hF hS) rfl (fun _ hG => hc hG)))
  · rw [f9]
    refine pk_lt ec 128 (fun he => nm_r (nI_1 ec) ?_) (fun _ => K _ ic ec (bb_fail hF hS) rfl (fun z => absurd rfl z))
    refine xw_capture (u := xs_exitCount u (nI (ec + 1))) hs f1 he (fun u1 hp0 => ?_)
    have hp := pr_cq hp0
    have hF1 := rq_F1 hp he hF
    have hS1 := rq_S1 hp hS
    have hen : xg_env u1 = xg_env u := hp.2.2.2.2.2.2.2.2.2.2.2.2.2.1
    refine xw_addIr hF1 (fun hi => ?_) ?_
    · refine K (ba_1 u1 s ic kind x y (nI ec)) (ic + 1) (ec + 1) ⟨bb_R_tr hp.1 (ba_R hi), ba_F hi hF1, ba_S hi hS1 hx hy (vp_in_nI (by omega) (by decide)) (fun z => absurd (Int32.lt_of_lt_of_le hk1 z) (by decide)) (Int32.le_trans (by decide) (Int32.le_of_lt hk1)), Nat.le_refl _, fun _ hG => ⟨rq_G hp hi hF hS hx hy hk1 hG, fun R0 R hr => ⟨R, (rq_run hp hi hk1 hr).1, fun _ _ => rfl, rfl, fun j hj => ?_⟩⟩⟩ hen (fun _ _ R0 R hr => (rq_run hp hi hk1 hr).2)
      show R.1 (xg_env u1 j).toNatClampNeg = _
      rw [hen]
    · have hf := bb_fail hF1 hS1
      exact K _ ic (ec + 1) ⟨bb_R_tr hp.1 hf.1, hf.2.1, hf.2.2.1, Nat.le_refl _, fun z => absurd rfl z⟩ hen (fun z => absurd rfl z)
  · exact K _ ic ec (bb_fail hF hS) rfl (fun z => absurd rfl z)
end
end
section
/-! the environment's replacements, the guard -/
section
variable {s ic vc ec c pn i cc : Nat} {u : SX}
theorem xw_rep2 {post : SX → Prop} {x y : Int32} (K : ∀ en : Nat → Int32, (∀ j : Nat, j < 8 → en j = if xg_env u j = x then y else xg_env u j) → post (xs_env u en)) :
    ∀ (k j : Nat), j + k = 8 → ∀ en : Nat → Int32, (∀ q : Nat, q < j → en q = if xg_env u q = x then y else xg_env u q) → (∀ q : Nat, j ≤ q → en q = xg_env u q) → ∀ n : Nat, k < n → xq_replaceInEnv_2 post x y n (nI j) (xs_env u en) := by
  intro k
  induction k with
  | zero =>
    intro j hj en h1 h2 n hn
    obtain ⟨n, rfl⟩ : ∃ m, n = m + 1 := ⟨n - 1, by omega⟩
    have e : j = 8 := by omega
    subst e
    rw [xu_replaceInEnv_2]
    exact br_t (Int32.le_refl _) (K en h1)
  | succ k ih =>
    intro j hj en h1 h2 n hn
    obtain ⟨n, rfl⟩ : ∃ m, n = m + 1 := ⟨n - 1, by omega⟩
    have hv : vp_in (nI j) 8 := vp_in_nI (by omega) (by decide)
    rw [xu_replaceInEnv_2, nI_clamp (by omega)]
    refine br_f (nI_ge (b := 8) (by omega) (by decide)) ⟨hv, br_c (fun z => ⟨hv, nm_e (nm_r (nI_1 j) ?_)⟩) (fun z => nm_r (nI_1 j) ?_)⟩
    · have z' : xg_env u j = x := (h2 j (Nat.le_refl _)).symm.trans z
      refine ih (j + 1) (by omega) (upd en j y) (fun q hq => ?_) (fun q hq => ?_) n (by omega)
      · by_cases e : q = j
        · subst e; rw [pk_us, if_pos z']
        · rw [pk_un e]; exact h1 q (by omega)
      · rw [pk_un (by omega)]; exact h2 q (by omega)
    · have z' : ¬ xg_env u j = x := fun q => z ((h2 j (Nat.le_refl _)).trans q)
      refine ih (j + 1) (by omega) en (fun q hq => ?_) (fun q hq => h2 q (by omega)) n (by omega)
      by_cases e : q = j
      · subst e; rw [if_neg z']; exact h2 q (Nat.le_refl _)
      · exact h1 q (by omega)
theorem xw_rep {post : SX → Prop} {x y : Int32} (K : ∀ en : Nat → Int32, (∀ j : Nat, j < 8 → en j = if xg_env u j = x then y else xg_env u j) → post (xs_env u en)) : wpX_replaceInEnv post u x y := by
  rw [xu_replaceInEnv]
  exact ⟨9, xw_rep2 K 8 0 (by omega) (xg_env u) (fun q hq => by omega) (fun _ _ => rfl) 9 (by omega)⟩
theorem bb_env {u0 : SX} {ic0 vc0 ec0 : Nat} {en : Nat → Int32} (hP : bb_P s c pn i cc u0 ic0 vc0 ec0 u ic vc ec) (hv : ∀ j : Nat, j < 8 → vp_in (en j) vc) (he : xg_buildOk u ≠ 0 → bb_G u0 s ic0 vc0 ec0 c pn i cc → ∀ R0 R : ir_R, bb_run u s ic vc R0 R → ∀ j : Nat, j < 8 → R.1 (en j).toNatClampNeg = R.1 (xg_env u j).toNatClampNeg) : bb_P s c pn i cc u0 ic0 vc0 ec0 (xs_env u en) ic vc ec := by
  obtain ⟨p1, p2, p3, p4, p5⟩ := hP
  have hR : bb_R s u (xs_env u en) := ⟨rfl, fun _ _ => ⟨rfl, rfl, rfl, rfl, rfl, rfl, rfl, rfl, rfl, rfl⟩, fun h => h⟩
  refine ⟨bb_R_tr p1 hR, p2, ⟨hv, p3.2⟩, p4, fun ok hG => ?_⟩
  obtain ⟨G1, E1⟩ := p5 ok hG
  refine ⟨⟨G1.1, bg_Ke (he ok hG) G1.2.1, G1.2.2⟩, fun R0 R' hr => ?_⟩
  obtain ⟨R, e1, e2, e3, e4⟩ := E1 R0 R' hr
  exact ⟨R, e1, e2, e3, fun j hj => (he ok hG R0 R' hr j hj).trans (e4 j hj)⟩
theorem re_val {x y : Int32} {en : Nat → Int32} (h : ∀ j : Nat, j < 8 → en j = if xg_env u j = x then y else xg_env u j) {R : ir_R} (hxy : R.1 x.toNatClampNeg = R.1 y.toNatClampNeg) {j : Nat} (hj : j < 8) : R.1 (en j).toNatClampNeg = R.1 (xg_env u j).toNatClampNeg := by
  rw [h j hj]
  by_cases e : xg_env u j = x
  · rw [if_pos e, e, hxy]
  · rw [if_neg e]
theorem re_in {x y : Int32} {en : Nat → Int32} (h : ∀ j : Nat, j < 8 → en j = if xg_env u j = x then y else xg_env u j) (hS : bb_S u s ic vc ec) (hy : vp_in y vc) {j : Nat} (hj : j < 8) : vp_in (en j) vc := by
  rw [h j hj]
  by_cases e : xg_env u j = x
  · rw [if_pos e]; exact hy
  · rw [if_neg e]; exact hS.1 j hj
theorem xw_learn {post : SX → Prop} {u0 : SX} {ic0 vc0 ec0 : Nat} {x y : Int32} (hP : bb_P s c pn i cc u0 ic0 vc0 ec0 u ic vc ec) (hx : vp_in x vc) (hy : vp_in y vc) (hxy : xg_buildOk u ≠ 0 → bb_G u0 s ic0 vc0 ec0 c pn i cc → ∀ R0 R : ir_R, bb_run u s ic vc R0 R → R.1 x.toNatClampNeg = R.1 y.toNatClampNeg)
    (K : ∀ en : Nat → Int32, bb_P s c pn i cc u0 ic0 vc0 ec0 (xs_env u en) ic vc ec → (xg_buildOk u ≠ 0 → bb_G u0 s ic0 vc0 ec0 c pn i cc → ∀ R0 R : ir_R, bb_run u s ic vc R0 R → ∀ j : Nat, j < 8 → R.1 (en j).toNatClampNeg = R.1 (xg_env u j).toNatClampNeg) → post (xs_env u en)) : wpX_learnEqual post u x y := by
  have hF := hP.2.1
  have hS := hP.2.2.1
  rw [xu_learnEqual]
  refine xw_isK hF hS hy (br_c (fun _ => xw_isK hF hS hx (br_c (fun _ => ?_) (fun _ => xw_rep (fun en he => ?_)))) (fun _ => xw_rep (fun en he => ?_)))
  · exact K (xg_env u) hP (fun _ _ _ _ _ _ _ => rfl)
  · have h2 : xg_buildOk u ≠ 0 → bb_G u0 s ic0 vc0 ec0 c pn i cc → ∀ R0 R : ir_R, bb_run u s ic vc R0 R → ∀ j : Nat, j < 8 → R.1 (en j).toNatClampNeg = R.1 (xg_env u j).toNatClampNeg := fun ok hG R0 R hr j hj => re_val he (hxy ok hG R0 R hr).symm hj
    exact K en (bb_env hP (fun j hj => re_in he hS hx hj) h2) h2
  · have h2 : xg_buildOk u ≠ 0 → bb_G u0 s ic0 vc0 ec0 c pn i cc → ∀ R0 R : ir_R, bb_run u s ic vc R0 R → ∀ j : Nat, j < 8 → R.1 (en j).toNatClampNeg = R.1 (xg_env u j).toNatClampNeg := fun ok hG R0 R hr j hj => re_val he (hxy ok hG R0 R hr) hj
    exact K en (bb_env hP (fun j hj => re_in he hS hy hj) h2) h2
theorem gd_eq {u' : SX} {kind x y : Int32} {R : ir_R} (h : xo_t u' = xo_t u) : gd_c u' kind x y R ↔ gd_c u kind x y R := by
  unfold gd_c; rw [xo_codeSize h, xo_memSize h, xo_recMask h]
theorem gd_tr {kind x y : Int32} {R R' : ir_R} (hx : vp_in x vc) (hy : vp_in y vc) (h1 : ∀ k : Nat, k < vc → R'.1 k = R.1 k) (h2 : R'.2 = R.2) : gd_c u kind x y R' ↔ gd_c u kind x y R := by
  unfold gd_c; rw [h2, h1 _ (vn_lt hx), h1 _ (vn_lt hy)]
/-- what a guard promises -/
def gu_K (post : SX → Prop) (s c pn i cc : Nat) (u : SX) (ic vc ec : Nat) (kind x y : Int32) : Prop := ∀ (u' : SX) (ic' vc' ec' : Nat), bb_P s c pn i cc u ic vc ec u' ic' vc' ec' →
  (xg_buildOk u' ≠ 0 → bb_G u s ic vc ec c pn i cc → ∀ R0 R : ir_R, bb_run u' s ic' vc' R0 R → gd_c u kind x y R ∧ ∀ j : Nat, j < 8 → R.1 (xg_env u' j).toNatClampNeg = R.1 (xg_env u j).toNatClampNeg) → post u'
theorem xw_g189 {post : SX → Prop} {kind x y tr : Int32} {u2 : SX} {ic2 vc2 ec2 : Nat} (hS : bb_S u s ic vc ec) (hP : bb_P s c pn i cc u ic vc ec u2 ic2 vc2 ec2) (hx : vp_in x vc) (hy : vp_in y vc)
    (H : xg_buildOk u2 ≠ 0 → bb_G u s ic vc ec c pn i cc → ∀ R0 R : ir_R, bb_run u2 s ic2 vc2 R0 R → (gd_c u kind x y R ∧ ∀ j : Nat, j < 8 → R.1 (xg_env u2 j).toNatClampNeg = R.1 (xg_env u j).toNatClampNeg) ∧ (¬ tr < 0 → R.1 x.toNatClampNeg = tr))
    (K : gu_K post s c pn i cc u ic vc ec kind x y) : xq_guard_189 post x tr u2 := by
  rw [xu_guard_189]
  refine br_c (fun _ => K u2 ic2 vc2 ec2 hP (fun ok hG R0 R hr => (H ok hG R0 R hr).1)) (fun ht => xw_constant hP.2.1 hP.2.2.1 (fun r u3 vc3 hP3 hC hr3 hf => xw_rep (fun en he => ?_)))
  have hv3 : vc2 ≤ vc3 := hP3.2.2.2.1
  have hv2 : vc ≤ vc2 := hP.2.2.2.1
  have key : xg_buildOk u3 ≠ 0 → bb_G u s ic vc ec c pn i cc → ∀ R0 R : ir_R, bb_run u3 s ic2 vc3 R0 R → (gd_c u kind x y R ∧ ∀ j : Nat, j < 8 → R.1 (en j).toNatClampNeg = R.1 (xg_env u j).toNatClampNeg) ∧ R.1 x.toNatClampNeg = R.1 r.toNatClampNeg := by
    intro ok hG R0 R hr
    have ok2 := hP3.1.2.2 ok
    obtain ⟨G2, _⟩ := hP.2.2.2.2 ok2 hG
    obtain ⟨_, E3⟩ := hP3.2.2.2.2 ok G2
    obtain ⟨R2, r1, r2, r3⟩ := E3 R0 R hr
    obtain ⟨⟨q1, q2⟩, q3⟩ := H ok2 hG R0 R2 r1
    have ex : R.1 x.toNatClampNeg = R.1 r.toNatClampNeg := by rw [hf ok G2 R0 R hr, r2 _ (vn_lt (vn_mono hx hv2)), q3 ht]
    refine ⟨⟨(gd_tr (vn_mono hx hv2) (vn_mono hy hv2) r2 r3.1).mpr q1, fun j hj => ?_⟩, ex⟩
    rw [re_val he ex hj, hC.2.2.2.2, r2 _ (vn_lt (hP.2.2.1.1 j hj)), q2 j hj, r2 _ (vn_lt (vn_mono (hS.1 j hj) hv2))]
  refine K (xs_env u3 en) ic2 vc3 ec2 (bb_env (bb_P_tr hP hP3) (fun j hj => re_in he hP3.2.2.1 hr3 hj) (fun ok hG R0 R hr j hj => re_val he (key ok hG R0 R hr).2 hj)) (fun ok hG R0 R hr => (key ok hG R0 R hr).1)
theorem xw_g164 {post : SX → Prop} {kind x y nk nx ny tr : Int32} (hF : bb_F u s ic vc ec c pn i cc) (hS : bb_S u s ic vc ec) (hx : vp_in x vc) (hy : vp_in y vc) (hnx : vp_in nx vc) (hny : vp_in ny vc) (hk1 : 31 < nk) (hk2 : nk < 40)
    (H : bb_G u s ic vc ec c pn i cc → ∀ R0 R : ir_R, bb_run u s ic vc R0 R → gd_c u nk nx ny R → gd_c u kind x y R ∧ (¬ tr < 0 → R.1 x.toNatClampNeg = tr))
    (K : gu_K post s c pn i cc u ic vc ec kind x y) : xq_guard_164 post x nk nx ny tr u := by
  rw [xu_guard_164]
  refine xw_require hF hS hnx hny hk1 hk2 (fun u1 ic1 ec1 hP1 hen hf => ?_)
  have key : xg_buildOk u1 ≠ 0 → bb_G u s ic vc ec c pn i cc → ∀ R0 R : ir_R, bb_run u1 s ic1 vc R0 R → (gd_c u kind x y R ∧ gd_c u nk nx ny R) ∧ (¬ tr < 0 → R.1 x.toNatClampNeg = tr) := by
    intro ok hG R0 R hr
    obtain ⟨_, E1⟩ := hP1.2.2.2.2 ok hG
    obtain ⟨R1, r1, r2, r3⟩ := E1 R0 R hr
    have g1 := hf ok hG R0 R hr
    obtain ⟨q1, q2⟩ := H hG R0 R1 r1 ((gd_tr hnx hny r2 r3.1).mp g1)
    exact ⟨⟨(gd_tr hx hy r2 r3.1).mpr q1, g1⟩, fun z => by rw [r2 _ (vn_lt hx)]; exact q2 z⟩
  refine br_c (fun e => xw_learn hP1 hnx hny (fun ok hG R0 R hr => ?_) (fun en hP2 he => ?_)) (fun _ => ?_)
  · have := (key ok hG R0 R hr).1.2
    subst e
    unfold gd_c at this
    rw [hd_32] at this
    exact this
  · refine xw_g189 hS hP2 hx hy (fun ok hG R0 R hr => ?_) K
    have k1 := key ok hG R0 R hr
    exact ⟨⟨k1.1.1, fun j hj => (he ok hG R0 R hr j hj).trans (by rw [hen])⟩, k1.2⟩
  · refine xw_g189 hS hP1 hx hy (fun ok hG R0 R hr => ?_) K
    have k1 := key ok hG R0 R hr
    exact ⟨⟨k1.1.1, fun j hj => by rw [hen]⟩, k1.2⟩
theorem xw_guard {post : SX → Prop} {kind x y : Int32} (hF : bb_F u s ic vc ec c pn i cc) (hS : bb_S u s ic vc ec) (hx : vp_in x vc) (hy : vp_in y vc) (hk1 : 31 < kind) (hk2 : kind < 40) (K : gu_K post s c pn i cc u ic vc ec kind x y) : wpX_guard post u kind x y := by
  obtain ⟨hs, f1, f2, f3, f4, f5, f6, f7, f8, f9, f10, f11, f12⟩ := id hF
  have h164 : xq_guard_164 post x kind x y (-1) u := xw_g164 hF hS hx hy hx hy hk1 hk2 (fun _ _ _ _ h => ⟨h, fun z => absurd (by decide) z⟩) K
  have h24 : (kind = 32 ∨ kind = 33) → xq_guard_24 post kind x y kind x y (-1) u := fun hkind => by
    rw [xu_guard_24]
    refine xw_isK hF hS hy (br_c (fun _ => h164) (fun hk => ?_))
    obtain ⟨ky, hky, eky⟩ := vp_in_of hy (by omega)
    obtain ⟨j1, j2⟩ := bb_ix hs (k := ky) (by omega)
    have evy : bo_kv u s ky = xg_kVal u (256 * s + ky) := sl_at (by omega)
    rw [eky, nI_clamp (by omega)] at hk
    have j1' : vp_in (nI (256 * s) + y) 2048 := by rw [eky]; exact j1
    have j2' : (nI (256 * s) + y).toNatClampNeg = 256 * s + ky := by rw [eky]; exact j2
    rw [f3, j2', ← evy]
    refine ⟨j1', br_c (fun h0 => ⟨vn_mono hx f8, br_c (fun _ => h164) (fun hd => ⟨vn_mono hx f8, ?_⟩)⟩) (fun _ => h164)⟩
    obtain ⟨m, hm, em⟩ := vp_in_of (hS.2.1 x.toNatClampNeg (vn_lt hx)) (by omega)
    have hm0 : m ≠ 0 := by
      intro z; rw [em, z] at hd; exact hd (by decide)
    obtain ⟨m, rfl⟩ : ∃ q, m = q + 1 := ⟨m - 1, by omega⟩
    have eix : nI (256 * s) + nI (m + 1) - 1 = nI (256 * s) + nI m := by rw [nI_add, nI_add, ← Nat.add_assoc, nI_pred]
    obtain ⟨i1, i2⟩ := bb_ix hs (k := m) (by omega)
    have eo : bo_o u s m = xg_irOp u (256 * s + m) := sl_at (by omega)
    have ea : bo_a u s m = xg_irA u (256 * s + m) := sl_at (by omega)
    have eb : bo_b u s m = xg_irB u (256 * s + m) := sl_at (by omega)
    rw [em, f2, eix]
    refine nm_e ?_
    rw [i2, ← eo]
    obtain ⟨q1, q2, q3, q4, q5⟩ := hS.2.2.1 m (by omega)
    -- the value tested is that of a comparison
    have vx : bb_G u s ic vc ec c pn i cc → ∀ R0 R : ir_R, bb_run u s ic vc R0 R → R.1 x.toNatClampNeg = al_f (bo_o u s m) (R.1 (bo_a u s m).toNatClampNeg) (R.1 (bo_b u s m).toNatClampNeg) ∧ R.1 y.toNatClampNeg = 0 := fun hG R0 R hr => by
      have w5 := hG.1.2.2.2.2 x.toNatClampNeg m (vn_lt hx) (by omega) (by rw [em, nI_clamp (by omega)])
      have hfx := (bb_fact hG.1 hr (m := m) (by omega)).1 w5.2.2
      rw [w5.1] at hfx
      refine ⟨hfx, ?_⟩
      rw [eky, nI_clamp (by omega), bb_const hG.1 hr (bb_k8 hG.1 hk) hky hk, h0]
    have h104 : ∀ t : Int32, ((kind = 33 ∧ t = 1) ∨ (kind = 32 ∧ t = 0)) → (bo_o u s m = 14 ∨ bo_o u s m = 15) → xq_guard_104 post x (nI (256 * s) + nI m) (bo_o u s m) t u := fun t ht hop => by
      rw [xu_guard_104, i2, ← ea, ← eb]
      refine ⟨i1, nm_e ⟨i1, nm_e (br_c (fun e14 => br_c (fun t1 => ?_) (fun t1 => ?_)) (fun e14 => br_c (fun t1 => ?_) (fun t1 => ?_)))⟩⟩
      · have hk33 : kind = 33 := by rcases ht with ht | ht; exact ht.1; rw [t1] at ht; exact absurd ht.2 (by decide)
        rw [xu_guard_144]
        refine xw_g164 hF hS hx hy q1 q2 (by decide) (by decide) (fun hG R0 R hr hg => ?_) K
        obtain ⟨v1, v2⟩ := vx hG R0 R hr
        unfold gd_c at hg ⊢
        rw [hd_34] at hg
        rw [e14, al_14, if_neg hg] at v1
        rw [hk33, hd_33, v1, v2, t1]
        exact ⟨by decide, fun _ => rfl⟩
      · have hk32 : kind = 32 ∧ t = 0 := by rcases ht with ht | ht; exact absurd ht.2 t1; exact ht
        rw [xu_guard_144]
        refine xw_g164 hF hS hx hy q1 q2 (by decide) (by decide) (fun hG R0 R hr hg => ?_) K
        obtain ⟨v1, v2⟩ := vx hG R0 R hr
        unfold gd_c at hg ⊢
        rw [hd_35] at hg
        rw [e14, al_14, if_pos (Int32.not_lt.mp hg)] at v1
        rw [hk32.1, hd_32, v1, v2, hk32.2]
        exact ⟨rfl, fun _ => rfl⟩
      · have e15 : bo_o u s m = 15 := by rcases hop with z | z; exact absurd z e14; exact z
        have hk33 : kind = 33 := by rcases ht with ht | ht; exact ht.1; rw [t1] at ht; exact absurd ht.2 (by decide)
        rw [xu_guard_162]
        refine xw_g164 hF hS hx hy q1 q2 (by decide) (by decide) (fun hG R0 R hr hg => ?_) K
        obtain ⟨v1, v2⟩ := vx hG R0 R hr
        unfold gd_c at hg ⊢
        rw [hd_32] at hg
        rw [e15, al_15, if_pos hg] at v1
        rw [hk33, hd_33, v1, v2, t1]
        exact ⟨by decide, fun _ => rfl⟩
      · have e15 : bo_o u s m = 15 := by rcases hop with z | z; exact absurd z e14; exact z
        have hk32 : kind = 32 ∧ t = 0 := by rcases ht with ht | ht; exact absurd ht.2 t1; exact ht
        rw [xu_guard_162]
        refine xw_g164 hF hS hx hy q1 q2 (by decide) (by decide) (fun hG R0 R hr hg => ?_) K
        obtain ⟨v1, v2⟩ := vx hG R0 R hr
        unfold gd_c at hg ⊢
        rw [hd_33] at hg
        rw [e15, al_15, if_neg hg] at v1
        rw [hk32.1, hd_32, v1, v2, hk32.2]
        exact ⟨rfl, fun _ => rfl⟩
    have h93 : (bo_o u s m = 14 ∨ bo_o u s m = 15) → xq_guard_93 post kind x (nI (256 * s) + nI m) (bo_o u s m) u := fun hop => by
      rw [xu_guard_93]
      exact br_c (fun e => h104 1 (Or.inl ⟨e, rfl⟩) hop) (fun e => h104 0 (Or.inr ⟨by rcases hkind with z | z; exact z; exact absurd z e, rfl⟩) hop)
    exact ⟨i1, nm_e (br_c (fun e => h93 (Or.inl e)) (fun _ => br_c (fun e => h93 (Or.inr e)) (fun _ => h164)))⟩
  rw [xu_guard]
  exact br_c (fun e => h24 (Or.inl e)) (fun _ => br_c (fun e => h24 (Or.inr e)) (fun _ => h164))
end
end
section
/-! loads, taken from earlier loads and stores -/
def ld_x : Nat → Int32
  | 0 => -1
  | k + 1 => nI k
theorem ld_m (k : Nat) : nI k + (-1) = ld_x k := by
  cases k with
  | zero => decide
  | succ k => exact pk_m1 k
theorem ld_p (k : Nat) : nI k - 1 = ld_x k := by
  cases k with
  | zero => decide
  | succ k => exact nI_pred k
section
variable {s ic vc ec c pn i cc : Nat} {u : SX}
/-- no store at or above row k may hit the address x -/
def ld_c (u : SX) (s ic k : Nat) (x : Int32) : Prop := ∀ j : Nat, k ≤ j → j < ic → bo_o u s j = 17 → bo_kf u s x.toNatClampNeg ≠ 0 ∧ bo_kf u s (bo_a u s j).toNatClampNeg ≠ 0 ∧ bo_a u s j ≠ x
theorem ld_fact {x : Int32} {j : Nat} (hF : bb_F u s ic vc ec c pn i cc) (hS : bb_S u s ic vc ec) (hG : bb_G u s ic vc ec c pn i cc) (hx : vp_in x vc) (hj : j < ic) (hc : ld_c u s ic (j + 1) x) (ea : bo_a u s j = x) {R0 R : ir_R} (hr : bb_run u s ic vc R0 R) :
    (bo_o u s j = 16 → R.1 (bo_d u s j).toNatClampNeg = ir_rd (xg_memSize u) R.2.1 (R.1 x.toNatClampNeg)) ∧
    (bo_o u s j = 17 → ¬ R.1 x.toNatClampNeg < 0 → ¬ xg_memSize u ≤ R.1 x.toNatClampNeg → R.1 (bo_b u s j).toNatClampNeg = ir_rd (xg_memSize u) R.2.1 (R.1 x.toNatClampNeg)) := by
  obtain ⟨hs, f1, f2, f3, f4, f5, f6, f7, f8, _⟩ := id hF
  have hW := hG.1
  have W1 := bg_W1 hW
  obtain ⟨Rm, g1, g2, g3⟩ := ir_back ic R (bg_W2 hW) hr.2 (j + 1) (by omega)
  obtain ⟨R1, r1, r2, r3⟩ := g1
  have hx2 : R.1 x.toNatClampNeg = R1.1 x.toNatClampNeg := by
    rw [← ea, g2 _ (fun q h1 h2 h3 => ((W1 q h2 h3).1 j (by omega)).1), r3]
    exact ir_fV (fun z => ((W1 j hj z).1 j (Nat.le_refl _)).1)
  have hb2 : R.1 (bo_b u s j).toNatClampNeg = R1.1 (bo_b u s j).toNatClampNeg := by
    rw [g2 _ (fun q h1 h2 h3 => ((W1 q h2 h3).1 j (by omega)).2), r3]
    exact ir_fV (fun z => ((W1 j hj z).1 j (Nat.le_refl _)).2)
  have hmem := g3 (R.1 x.toNatClampNeg) (fun q h1 h2 h3 => by
    obtain ⟨k1, k2, k3⟩ := hc q h1 h2 h3
    intro z
    obtain ⟨qa, _⟩ := hS.2.2.1 q h2
    rw [bb_const hW hr (bb_k8 hW k1) (vn_lt hx) k1, bb_const hW hr (bb_k8 hW k2) (vn_lt qa) k2] at z
    exact k3 (vn_inj qa hx (by omega) (hW.2.2.1 _ _ (bb_k8 hW k2) (vn_lt qa) (bb_k8 hW k1) (vn_lt hx) k2 k1 z)))
  refine ⟨fun e16 => ?_, fun e17 h0 h1 => ?_⟩
  · have hd : bg_df (bo_o u s j) := Or.inr (Or.inl e16)
    rw [hmem, g2 _ (fun q h1 h2 h3 => (W1 q h2 h3).2 j (by omega) hd), r3, e16, ir_f16]
    show upd R1.1 _ _ _ = ir_rd (xg_memSize u) R1.2.1 _
    rw [pk_us, hx2, ea]
  · rw [hmem, hb2, r3, e17, ir_f17]
    show _ = ir_rd (xg_memSize u) (ir_wr (xg_memSize u) R1.2.1 _ _) _
    rw [hx2] at h0 h1 ⊢
    rw [ea, ir_rw h0 h1]
def lo_K (post : Int32 → SX → Prop) (s c pn i cc ec : Nat) (u : SX) (ic vc : Nat) (x : Int32) : Prop := ∀ (r : Int32) (u' : SX) (ic' vc' : Nat), bb_P s c pn i cc u ic vc ec u' ic' vc' ec → vp_in r vc' → (xg_buildOk u' ≠ 0 → bb_G u s ic vc ec c pn i cc → ∀ R0 R : ir_R, bb_run u' s ic' vc' R0 R → ¬ R.1 x.toNatClampNeg < 0 → ¬ xg_memSize u ≤ R.1 x.toNatClampNeg → R.1 r.toNatClampNeg = ir_rd (xg_memSize u) R.2.1 (R.1 x.toNatClampNeg)) → post r u'
theorem xw_load121 {post : Int32 → SX → Prop} {x : Int32} (hF : bb_F u s ic vc ec c pn i cc) (hS : bb_S u s ic vc ec) (hx : vp_in x vc) (K : lo_K post s c pn i cc ec u ic vc x) : xq_loadValue_121 post x u := by
  have h8 : 8 ≤ vc := hF.2.2.2.2.2.2.2.1
  rw [xu_loadValue_121]
  refine xw_newop hF hS hx (vn_0 (by omega)) (by decide) (fun r u2 ic' vc' hR2 hF2 hS2 hv2 hr hok => ?_)
  have hd : bg_df 16 := Or.inr (Or.inl rfl)
  refine K r u2 ic' vc' ⟨hR2, hF2, hS2, hv2, fun ok hG => ?_⟩ hr (fun ok hG R0 R' hrun _ _ => ?_)
  · obtain ⟨rfl, rfl, hv, hi, rfl, u1, hp, rfl⟩ := hok ok
    have b := bn_P (op := 16) hv hi hp hd hF hS hx (vn_0 (n := vc) (by omega))
    exact ⟨b.1 hG, b.2.1⟩
  · obtain ⟨rfl, rfl, hv, hi, rfl, u1, hp, rfl⟩ := hok ok
    have b := bn_P (op := 16) hv hi hp hd hF hS hx (vn_0 (n := vc) (by omega))
    obtain ⟨R, g1, rfl⟩ := b.2.2 R0 R' hrun
    rw [nI_clamp (by omega), ir_fV (fun _ => Nat.ne_of_lt (vn_lt hx)), ir_f16]
    exact pk_us
theorem xw_load9 {post : Int32 → SX → Prop} {x : Int32} (hF : bb_F u s ic vc ec c pn i cc) (hS : bb_S u s ic vc ec) (hx : vp_in x vc) (K : lo_K post s c pn i cc ec u ic vc x) :
    ∀ (k : Nat), k ≤ ic → ∀ cl : Int32, (cl ≠ 0 → ld_c u s ic k x) → ∀ n : Nat, k < n → xq_loadValue_9 post x n cl (ld_x k) u := by
  have h121 := xw_load121 hF hS hx K
  obtain ⟨hs, f1, f2, f3, f4, f5, f6, f7, f8, _⟩ := id hF
  intro k
  induction k with
  | zero =>
    intro _ cl hcl n hn
    obtain ⟨n, rfl⟩ : ∃ m, n = m + 1 := ⟨n - 1, by omega⟩
    rw [xu_loadValue_9]
    exact br_t (by decide) h121
  | succ k ih =>
    intro hk cl hcl n hn
    obtain ⟨n, rfl⟩ : ∃ m, n = m + 1 := ⟨n - 1, by omega⟩
    obtain ⟨i1, i2⟩ := bb_ix hs (k := k) (by omega)
    have eo : bo_o u s k = xg_irOp u (256 * s + k) := sl_at (by omega)
    have ea : bo_a u s k = xg_irA u (256 * s + k) := sl_at (by omega)
    have eb : bo_b u s k = xg_irB u (256 * s + k) := sl_at (by omega)
    have ed : bo_d u s k = xg_irD u (256 * s + k) := sl_at (by omega)
    obtain ⟨q1, q2, q3, q4, q5⟩ := hS.2.2.1 k (by omega)
    rw [xu_loadValue_9]
    show ((nI k < 0 → _) ∧ (¬ nI k < 0 → _))
    refine br_f (nI_pos (by omega)) (br_c (fun _ => h121) (fun hc0 => ?_))
    have hcl' := hcl hc0
    -- the next row, whatever the new flag says
    have step : ∀ cl' : Int32, (cl' ≠ 0 → bo_o u s k = 17 → bo_kf u s x.toNatClampNeg ≠ 0 ∧ bo_kf u s (bo_a u s k).toNatClampNeg ≠ 0 ∧ bo_a u s k ≠ x) → ∀ z : Int32, z = nI k + (-1) → xq_loadValue_9 post x n cl' z u := fun cl' h => nm_r (ld_m k) (ih (by omega) cl' (fun hz j h1 h2 h3 => by
      by_cases e : j = k
      · subst e; exact h hz h3
      · exact hcl' j (by omega) h2 h3) n (by omega))
    have h56 : xq_loadValue_56 post (fun j1 j2 => xq_loadValue_9 post x n j1 j2 u) x cl (nI k) (nI (256 * s) + nI k) u := by
      rw [xu_loadValue_56, i2, ← eo, ← ea, ← eb]
      refine ⟨i1, br_c (fun e17 => ⟨i1, br_c (fun e => ⟨i1, ?_⟩) (fun e => ?_)⟩) (fun e17 => step cl (fun _ z => absurd z e17))⟩
      · exact K _ u ic vc (bb_P_rf hF hS) q2 (fun _ hG R0 R hr h0 h1 => (ld_fact hF hS hG hx (by omega) hcl' e hr).2 e17 h0 h1)
      · refine xw_isK hF hS hx (br_c (fun _ => step 0 (fun z => absurd rfl z)) (fun hk1 => ⟨i1, xw_isK hF hS q1 (br_c (fun _ => step 0 (fun z => absurd rfl z)) (fun hk2 => step 1 (fun _ _ => ⟨hk1, hk2, e⟩)))⟩))
    rw [f2]
    refine nm_e ?_
    show vp_in (nI (256 * s) + nI k) 2048 ∧ _
    rw [show ld_x (k + 1) = nI k from rfl, i2, ← eo, ← ea, ← ed]
    refine ⟨i1, br_c (fun e16 => ⟨i1, br_c (fun e => ⟨i1, ?_⟩) (fun _ => h56)⟩) (fun _ => h56)⟩
    exact K _ u ic vc (bb_P_rf hF hS) (q4 (by rw [e16]; decide)) (fun _ hG R0 R hr _ _ => (ld_fact hF hS hG hx (by omega) hcl' e hr).1 e16)
theorem xw_loadValue {post : Int32 → SX → Prop} {x : Int32} (hF : bb_F u s ic vc ec c pn i cc) (hS : bb_S u s ic vc ec) (hx : vp_in x vc) (K : lo_K post s c pn i cc ec u ic vc x) : wpX_loadValue post u x := by
  rw [xu_loadValue, hF.2.2.2.2.1, ld_p]
  exact nm_e ⟨ic + 1, xw_load9 hF hS hx K ic (Nat.le_refl _) 1 (fun _ j h1 h2 => by omega) (ic + 1) (by omega)⟩
end
end
section
/-! translating one recorded instruction -/
section
variable {s ic vc ec c pn q m i cc : Nat} {u : SX} {w : Int32}
/-- one instruction on: towards a later cell, or back (a crossing) -/
def tr_M (u : SX) (s ic vc i pn q cc : Nat) : Prop := (pn < q → bb_K u s ic vc (i + 1) (nI q) cc) ∧ (q ≤ pn → bg_K (xg_codeSize u) (xg_memSize u) (xg_recMask u) (xg_code u) (xg_recHead u) (upd (bo_tg u s) cc (nI q)) ic vc (bo_o u s) (bo_a u s) (bo_b u s) (bo_d u s) (bo_kf u s) (bo_kv u s) (xg_env u) (i + 1) (nI q) (cc + 1))
def tr_K (post : SX → Prop) (s c pn q i cc : Nat) (u : SX) (ic vc ec : Nat) : Prop := ∀ (u' : SX) (ic' vc' ec' : Nat), bb_R s u u' → bb_F u' s ic' vc' ec' c pn i cc → bb_S u' s ic' vc' ec' → (xg_buildOk u' ≠ 0 → bb_G u s ic vc ec c pn i cc → bb_W u' s ic' vc' ∧ bb_X u' s ic' vc' ec' c i cc ∧ tr_M u' s ic' vc' i pn q cc) → post u'
def tr_H (u : SX) (c pn q m : Nat) (w : Int32) : Prop := xg_codeSize u = nI c ∧ c ≤ 64 ∧ pn < c ∧ mb_p (xg_recMask u) (nI pn) ∧ xg_code u pn = w ∧ q < c ∧ mb_p (xg_recMask u) (nI q) ∧ rc_ok w pn q ∧ xg_memSize u = nI m ∧ m ≤ 64
theorem tr_Ht {u' : SX} (h : bb_R s u u') (hH : tr_H u c pn q m w) : tr_H u' c pn q m w := by
  unfold tr_H at hH ⊢
  rw [xo_codeSize h.1, xo_recMask h.1, xo_code h.1, xo_memSize h.1]; exact hH
/-- a register is written and the next cell follows -/
theorem tr_reg {post : SX → Prop} {u1 : SX} {ic1 vc1 ec1 : Nat} {r : Int32} (K : tr_K post s c pn (pn + 1) i cc u ic vc ec) (hP : bb_P s c pn i cc u ic vc ec u1 ic1 vc1 ec1) (hr : vp_in r vc1)
    (H : xg_buildOk u1 ≠ 0 → bb_G u s ic vc ec c pn i cc → bb_G u1 s ic1 vc1 ec1 c pn i cc → bg_K (xg_codeSize u1) (xg_memSize u1) (xg_recMask u1) (xg_code u1) (xg_recHead u1) (bo_tg u1 s) ic1 vc1 (bo_o u1 s) (bo_a u1 s) (bo_b u1 s) (bo_d u1 s) (bo_kf u1 s) (bo_kv u1 s) (upd (xg_env u1) (dc_a w).toNatClampNeg r) (i + 1) (nI (pn + 1)) cc) :
    vp_in (dc_a w) 8 ∧ ∀ en : Nat → Int32, en = upd (xg_env u1) (dc_a w).toNatClampNeg r → post (xs_env u1 en) := by
  refine ⟨dc_a8 w, nm_e ?_⟩
  have hR : bb_R s u1 (xs_env u1 (upd (xg_env u1) (dc_a w).toNatClampNeg r)) := ⟨rfl, fun _ _ => ⟨rfl, rfl, rfl, rfl, rfl, rfl, rfl, rfl, rfl, rfl⟩, fun h => h⟩
  refine K _ ic1 vc1 ec1 (bb_R_tr hP.1 hR) hP.2.1 ⟨fun j hj => ?_, hP.2.2.1.2⟩ (fun ok hG => ?_)
  · show vp_in (upd (xg_env u1) (dc_a w).toNatClampNeg r j) vc1
    by_cases e : j = (dc_a w).toNatClampNeg
    · rw [e, pk_us]; exact hr
    · rw [pk_un e]; exact hP.2.2.1.1 j hj
  · obtain ⟨G1, _⟩ := hP.2.2.2.2 ok hG
    exact ⟨G1.1, G1.2.2, fun _ => H ok hG G1, fun z => by omega⟩
theorem tr_ar {post : SX → Prop} {u1 : SX} {ic1 vc1 ec1 k : Nat} {r : Int32} (hH : tr_H u c pn (pn + 1) m w) (K : tr_K post s c pn (pn + 1) i cc u ic vc ec) (hP : bb_P s c pn i cc u ic vc ec u1 ic1 vc1 ec1) (hr : vp_in r vc1) (hk : dc_o w = nI k) (h1 : 1 ≤ k) (h15 : k ≤ 15)
    (H : xg_buildOk u1 ≠ 0 → bb_G u s ic vc ec c pn i cc → ∀ R0 R : ir_R, bb_run u1 s ic1 vc1 R0 R → R.1 r.toNatClampNeg = ar_f w (fun j => R.1 (xg_env u1 j).toNatClampNeg) ∧ (k = 6 ∨ k = 7 → ¬ R.1 (xg_env u1 (dc_c w).toNatClampNeg).toNatClampNeg = 0)) :
    vp_in (dc_a w) 8 ∧ ∀ en : Nat → Int32, en = upd (xg_env u1) (dc_a w).toNatClampNeg r → post (xs_env u1 en) := by
  refine tr_reg K hP hr (fun ok hG G1 => ?_)
  obtain ⟨t1, t2, t3, t4, t5, t6, t7, t8, t9, t10⟩ := tr_Ht hP.1 hH
  exact mv_ar G1.2.1 t1 t2 t3 t4 t5 t6 t7 hk h1 h15 (H ok hG)
/-- the environment's values are those of the start -/
theorem tr_ev {u1 : SX} {ic1 vc1 ec1 : Nat} (hS : bb_S u s ic vc ec) (hP : bb_P s c pn i cc u ic vc ec u1 ic1 vc1 ec1) (ok : xg_buildOk u1 ≠ 0) (hG : bb_G u s ic vc ec c pn i cc) {R0 R : ir_R} (hr : bb_run u1 s ic1 vc1 R0 R) {j : Nat} (hj : j < 8) : R.1 (xg_env u1 j).toNatClampNeg = R.1 (xg_env u j).toNatClampNeg := by
  obtain ⟨_, E⟩ := hP.2.2.2.2 ok hG
  obtain ⟨R1, r1, r2, r3, r4⟩ := E R0 R hr
  rw [r4 j hj, r2 _ (vn_lt (hS.1 j hj))]
theorem ar_1 {r : Nat → Int32} (h : dc_o w = 1) : ar_f w r = dc_i w := by unfold ar_f; rw [h, if_pos rfl]
theorem ar_2 {r : Nat → Int32} (h : dc_o w = 2) : ar_f w r = r (dc_b w).toNatClampNeg := by unfold ar_f; rw [h, if_neg (by decide), if_pos rfl]
theorem ar_13 {r : Nat → Int32} (h : dc_o w = 13) : ar_f w r = r (dc_b w).toNatClampNeg + dc_i w := by unfold ar_f; rw [h, if_neg (by decide), if_neg (by decide), if_pos rfl]
theorem ar_al {r : Nat → Int32} (h1 : ¬ dc_o w = 1) (h2 : ¬ dc_o w = 2) (h3 : ¬ dc_o w = 13) : ar_f w r = al_f (dc_o w) (r (dc_b w).toNatClampNeg) (r (dc_c w).toNatClampNeg) := by unfold ar_f; rw [if_neg h1, if_neg h2, if_neg h3]
theorem xw_ta141 {post : SX → Prop} {u1 : SX} {ic1 vc1 ec1 k : Nat} (hH : tr_H u c pn (pn + 1) m w) (K : tr_K post s c pn (pn + 1) i cc u ic vc ec) (hP : bb_P s c pn i cc u ic vc ec u1 ic1 vc1 ec1) (hk : dc_o w = nI k) (h3 : 3 ≤ k) (h15 : k ≤ 15) (h13 : ¬ dc_o w = 13)
    (hz : xg_buildOk u1 ≠ 0 → bb_G u s ic vc ec c pn i cc → ∀ R0 R : ir_R, bb_run u1 s ic1 vc1 R0 R → (k = 6 ∨ k = 7 → ¬ R.1 (xg_env u1 (dc_c w).toNatClampNeg).toNatClampNeg = 0)) : xq_translateArithmetic_141 post (dc_o w) (dc_a w) (dc_b w) (dc_c w) u1 := by
  rw [xu_translateArithmetic_141]
  have hS1 := hP.2.2.1
  have k3 : 3 ≤ dc_o w := by rw [hk]; exact nI_le (a := 3) h3 (by omega)
  have k15 : dc_o w ≤ 15 := by rw [hk]; exact nI_le (b := 15) h15 (by decide)
  have n1 : ¬ dc_o w = 1 := fun z => absurd (z ▸ k3) (by decide)
  have n2 : ¬ dc_o w = 2 := fun z => absurd (z ▸ k3) (by decide)
  refine ⟨dc_b8 w, dc_c8 w, xw_pure hP.2.1 hS1 (hS1.1 _ (vn_lt (dc_b8 w))) (hS1.1 _ (vn_lt (dc_c8 w))) k3 k15 (fun r u2 ic2 vc2 hP2 hr hf => ?_)⟩
  refine tr_ar hH K (bb_P_tr hP hP2) hr hk (by omega) h15 (fun ok hG R0 R hrun => ?_)
  have ok1 := hP2.1.2.2 ok
  obtain ⟨G1, _⟩ := hP.2.2.2.2 ok1 hG
  have hfr := hf ok G1 R0 R hrun
  rw [ar_al n1 n2 h13]
  have eb := tr_ev hS1 hP2 ok G1 hrun (vn_lt (dc_b8 w))
  have ec := tr_ev hS1 hP2 ok G1 hrun (vn_lt (dc_c8 w))
  refine ⟨by rw [hfr]; show _ = al_f (dc_o w) (R.1 (xg_env u2 _).toNatClampNeg) (R.1 (xg_env u2 _).toNatClampNeg); rw [eb, ec], fun h67 => ?_⟩
  rw [ec]
  obtain ⟨_, E2⟩ := hP2.2.2.2.2 ok G1
  obtain ⟨R1, r1, r2, r3⟩ := E2 R0 R hrun
  rw [r2 _ (vn_lt (hS1.1 _ (vn_lt (dc_c8 w))))]
  exact hz ok1 hG R0 R1 r1 h67
theorem xw_ta119 {post : SX → Prop} {k : Nat} (hF : bb_F u s ic vc ec c pn i cc) (hS : bb_S u s ic vc ec) (hH : tr_H u c pn (pn + 1) m w) (K : tr_K post s c pn (pn + 1) i cc u ic vc ec) (hk : dc_o w = nI k) (h3 : 3 ≤ k) (h15 : k ≤ 15) (h13 : ¬ dc_o w = 13) : xq_translateArithmetic_119 post (dc_o w) (dc_a w) (dc_b w) (dc_c w) u := by
  rw [xu_translateArithmetic_119]
  refine xw_constant hF hS (fun z u1 vc1 hP1 hC hz hf => ⟨dc_c8 w, ?_⟩)
  have hS1 := hP1.2.2.1
  refine xw_guard hP1.2.1 hS1 (hS1.1 _ (vn_lt (dc_c8 w))) hz (by decide) (by decide) (fun u2 ic2 vc2 ec2 hP2 hg => ?_)
  refine xw_ta141 hH K (bb_P_tr hP1 hP2) hk h3 h15 h13 (fun ok hG R0 R hrun _ => ?_)
  have ok1 := hP2.1.2.2 ok
  obtain ⟨G1, _⟩ := hP1.2.2.2.2 ok1 hG
  obtain ⟨g1, g2⟩ := hg ok G1 R0 R hrun
  unfold gd_c at g1
  rw [hd_33] at g1
  rw [g2 _ (vn_lt (dc_c8 w))]
  intro z0
  obtain ⟨_, E2⟩ := hP2.2.2.2.2 ok G1
  obtain ⟨R1, r1, r2, r3⟩ := E2 R0 R hrun
  refine g1 (z0.trans ?_)
  rw [r2 _ (vn_lt hz)]
  exact (hf ok1 hG R0 R1 r1).symm
theorem xw_tarith {post : SX → Prop} {k : Nat} (hF : bb_F u s ic vc ec c pn i cc) (hS : bb_S u s ic vc ec) (hH : tr_H u c pn q m w) (K : tr_K post s c pn q i cc u ic vc ec) (hk : dc_o w = nI k) (h1 : 1 ≤ k) (h15 : k ≤ 15) : wpX_translateArithmetic post u (dc_o w) w := by
  have eq : q = pn + 1 := hH.2.2.2.2.2.2.2.1.1 (fun z => absurd (show dc_o w ≤ 20 by rw [hk]; exact nI_le (b := 20) (by omega) (by decide)) (Int32.not_le.mpr z))
  subst eq
  rw [xu_translateArithmetic]
  have n3 : ¬ dc_o w = 1 → ¬ dc_o w = 2 → 3 ≤ k := fun a1 a2 => by
    have b1 : k ≠ 1 := fun z => a1 (by rw [hk, z]; rfl)
    have b2 : k ≠ 2 := fun z => a2 (by rw [hk, z]; rfl)
    omega
  refine nm_e (nm_e (nm_e (nm_e (br_c (fun e1 => ?_) (fun n1 => br_c (fun e2 => ?_) (fun n2 => br_c (fun e13 => ?_) (fun n13 => br_c (fun _ => ?_) (fun n6 => br_c (fun _ => ?_) (fun n7 => ?_)))))))))
  · refine xw_constant hF hS (fun r u1 vc1 hP1 hC hr hf => tr_ar hH K hP1 hr hk h1 h15 (fun ok hG R0 R hrun => ⟨?_, fun z => ?_⟩))
    · rw [ar_1 e1]; exact hf ok hG R0 R hrun
    · have : k = 1 := (nI_eq (by omega) (by decide)).mp (hk.symm.trans e1)
      omega
  · refine ⟨dc_b8 w, tr_ar hH K (bb_P_rf hF hS) (hS.1 _ (vn_lt (dc_b8 w))) hk h1 h15 (fun ok hG R0 R hrun => ⟨?_, fun z => ?_⟩)⟩
    · rw [ar_2 e2]; rfl
    · have : k = 2 := (nI_eq (by omega) (by decide)).mp (hk.symm.trans e2)
      omega
  · refine xw_constant hF hS (fun z u1 vc1 hP1 hC hz hf => ⟨dc_b8 w, ?_⟩)
    have hS1 := hP1.2.2.1
    refine xw_pure hP1.2.1 hS1 (hS1.1 _ (vn_lt (dc_b8 w))) hz (by decide) (by decide) (fun r u2 ic2 vc2 hP2 hr hf2 => ?_)
    refine tr_ar hH K (bb_P_tr hP1 hP2) hr hk h1 h15 (fun ok hG R0 R hrun => ⟨?_, fun z => ?_⟩)
    · have ok1 := hP2.1.2.2 ok
      obtain ⟨G1, _⟩ := hP1.2.2.2.2 ok1 hG
      obtain ⟨_, E2⟩ := hP2.2.2.2.2 ok G1
      obtain ⟨R1, r1, r2, r3⟩ := E2 R0 R hrun
      rw [ar_13 e13, hf2 ok G1 R0 R hrun, al_3, r2 _ (vn_lt hz), hf ok1 hG R0 R1 r1]
      show _ = R.1 (xg_env u2 _).toNatClampNeg + _
      rw [tr_ev hS1 hP2 ok G1 hrun (vn_lt (dc_b8 w))]
      rfl
    · have : k = 13 := (nI_eq (by omega) (by decide)).mp (hk.symm.trans e13)
      omega
  · exact xw_ta119 hF hS hH K hk (n3 n1 n2) h15 n13
  · exact xw_ta119 hF hS hH K hk (n3 n1 n2) h15 n13
  · refine xw_ta141 hH K (bb_P_rf hF hS) hk (n3 n1 n2) h15 n13 (fun _ _ _ _ _ h67 => ?_)
    rcases h67 with z | z
    · exact absurd (show dc_o w = 6 by rw [hk, z]; rfl) n6
    · exact absurd (show dc_o w = 7 by rw [hk, z]; rfl) n7
end
end
section
/-! translating loads, stores and outputs -/
section
variable {s ic vc ec c pn q m i cc : Nat} {u : SX} {w : Int32}
/-- an effect is added and the next cell follows -/
theorem tr_eff {post : SX → Prop} {u1 : SX} {ic1 vc1 ec1 : Nat} {op x y : Int32} (K : tr_K post s c pn (pn + 1) i cc u ic vc ec) (hP : bb_P s c pn i cc u ic vc ec u1 ic1 vc1 ec1) (hx : vp_in x vc1) (hy : vp_in y vc1) (hop : op = 17 ∨ op = 19 ∨ op = 20)
    (H : xg_buildOk u1 ≠ 0 → bb_G u s ic vc ec c pn i cc → bb_G u1 s ic1 vc1 ec1 c pn i cc → bg_K (xg_codeSize u1) (xg_memSize u1) (xg_recMask u1) (xg_code u1) (xg_recHead u1) (bo_tg u1 s) (ic1 + 1) vc1 (upd (bo_o u1 s) ic1 op) (upd (bo_a u1 s) ic1 x) (upd (bo_b u1 s) ic1 y) (upd (bo_d u1 s) ic1 0) (bo_kf u1 s) (bo_kv u1 s) (xg_env u1) (i + 1) (nI (pn + 1)) cc) :
    wpX_addIr post u1 op x y 0 := by
  have h8 : 8 ≤ vc1 := hP.2.1.2.2.2.2.2.2.2.1
  have h20 : op ≤ 20 := by rcases hop with rfl | rfl | rfl <;> decide
  have hnd : ¬ bg_df op := by
    rcases hop with rfl | rfl | rfl
    · rintro (z | z | z) <;> exact absurd z (by decide)
    · rintro (z | z | z) <;> exact absurd z (by decide)
    · rintro (z | z | z) <;> exact absurd z (by decide)
  have h3 : 3 ≤ op := by rcases hop with rfl | rfl | rfl <;> decide
  refine xw_addIr hP.2.1 (fun hi => ?_) ?_
  · refine K (ba_1 u1 s ic1 op x y 0) (ic1 + 1) vc1 ec1 (bb_R_tr hP.1 (ba_R hi)) (ba_F hi hP.2.1) (ba_S hi hP.2.2.1 hx hy (vn_0 (by omega)) (fun _ => vn_0 (by omega)) h3) (fun ok hG => ?_)
    obtain ⟨G1, _⟩ := hP.2.2.2.2 ok hG
    refine ⟨?_, ?_, fun _ => ?_, fun z => by omega⟩
    · unfold bb_W; rw [ba_o hi, ba_a hi, ba_b hi, ba_d hi]
      exact bg_We hnd (vn_lt hx) (vn_lt hy) (fun v hv' => by have := vn_lt (hP.2.2.1.2.1 v hv'); show (xg_defAt u1 v).toNatClampNeg ≤ _; omega) G1.1
    · unfold bb_X; rw [ba_o hi, ba_a hi, ba_b hi, ba_d hi]
      exact bg_Xe h20 G1.2.2
    · unfold bb_K; rw [ba_o hi, ba_a hi, ba_b hi, ba_d hi]
      exact H ok hG G1
  · have hf := bb_fail hP.2.1 hP.2.2.1
    exact K _ ic1 vc1 ec1 (bb_R_tr hP.1 hf.1) hf.2.1 hf.2.2.1 (fun z => absurd rfl z)
/-- the address, carried on -/
def tr_A (u : SX) (s ic vc ec c pn i cc : Nat) (u2 : SX) (ic2 vc2 : Nat) (w x : Int32) : Prop := xg_buildOk u2 ≠ 0 → bb_G u s ic vc ec c pn i cc → ∀ R0 R : ir_R, bb_run u2 s ic2 vc2 R0 R → R.1 x.toNatClampNeg = R.1 (xg_env u2 (dc_b w).toNatClampNeg).toNatClampNeg + dc_i w
theorem tr_A3 {u2 u3 : SX} {ic2 vc2 ec2 ic3 vc3 ec3 : Nat} {x : Int32} (hP2 : bb_P s c pn i cc u ic vc ec u2 ic2 vc2 ec2) (hx : vp_in x vc2) (hA : tr_A u s ic vc ec c pn i cc u2 ic2 vc2 w x) (hP3 : bb_P s c pn i cc u2 ic2 vc2 ec2 u3 ic3 vc3 ec3) : tr_A u s ic vc ec c pn i cc u3 ic3 vc3 w x := by
  intro ok hG R0 R hrun
  have ok2 := hP3.1.2.2 ok
  obtain ⟨G2, _⟩ := hP2.2.2.2.2 ok2 hG
  obtain ⟨_, E3⟩ := hP3.2.2.2.2 ok G2
  obtain ⟨R2, r1, r2, r3, r4⟩ := E3 R0 R hrun
  rw [r2 _ (vn_lt hx), r4 _ (vn_lt (dc_b8 w))]
  exact hA ok2 hG R0 R2 r1
theorem gd_mem {kind : Int32} {x y : Int32} {R : ir_R} (h : kind = 36) (hg : gd_c u kind x y R) : ¬ R.1 x.toNatClampNeg < 0 ∧ ¬ xg_memSize u ≤ R.1 x.toNatClampNeg := by
  subst h; unfold gd_c at hg; rw [hd_36] at hg; exact hg
theorem gd_cod {kind : Int32} {x y : Int32} {R : ir_R} (h : kind = 37) (hg : gd_c u kind x y R) : ¬ R.1 x.toNatClampNeg < 0 ∧ ¬ xg_codeSize u ≤ R.1 x.toNatClampNeg := by
  subst h; unfold gd_c at hg; rw [hd_37] at hg; exact hg
theorem gd_stc {kind : Int32} {x y : Int32} {R : ir_R} (h : kind = 38) (hg : gd_c u kind x y R) : ¬ R.1 x.toNatClampNeg < 0 ∧ ¬ xg_codeSize u ≤ R.1 x.toNatClampNeg ∧ (mb_p (xg_recMask u) (R.1 x.toNatClampNeg) → R.2.2.1 (R.1 x.toNatClampNeg).toNatClampNeg = R.1 y.toNatClampNeg) := by
  subst h; unfold gd_c at hg; rw [hd_38] at hg; exact hg
theorem xw_tacc {post : SX → Prop} {k : Nat} (hF : bb_F u s ic vc ec c pn i cc) (hS : bb_S u s ic vc ec) (hH : tr_H u c pn q m w) (K : tr_K post s c pn q i cc u ic vc ec) (hk : dc_o w = nI k) (h1 : 16 ≤ k) (h20 : k ≤ 20) : wpX_translateAccess post u (dc_o w) w := by
  have eq : q = pn + 1 := hH.2.2.2.2.2.2.2.1.1 (fun z => absurd (show dc_o w ≤ 20 by rw [hk]; exact nI_le (b := 20) (by omega) (by decide)) (Int32.not_le.mpr z))
  subst eq
  have h8 : 8 ≤ vc := hF.2.2.2.2.2.2.2.1
  rw [xu_translateAccess]
  refine nm_e (nm_e (br_c (fun e20 => ?_) (fun n20 => ?_)))
  · refine xw_guard hF hS (vn_0 (by omega)) (vn_0 (by omega)) (by decide) (by decide) (fun u1 ic1 vc1 ec1 hP1 hg => ⟨dc_a8 w, ?_⟩)
    have h81 : 8 ≤ vc1 := hP1.2.1.2.2.2.2.2.2.2.1
    refine tr_eff K hP1 (hP1.2.2.1.1 _ (vn_lt (dc_a8 w))) (vn_0 (by omega)) (Or.inr (Or.inr rfl)) (fun ok hG G1 => ?_)
    obtain ⟨t1, t2, t3, t4, t5, t6, t7, t8, t9, t10⟩ := tr_Ht hP1.1 hH
    refine mv_out G1.2.1 t1 t2 t3 t4 t5 t6 t7 e20 (fun R0 R hrun => ?_)
    have := (hg ok hG R0 R hrun).1
    unfold gd_c at this
    rw [hd_39 (by decide) (by decide) (by decide) (by decide) (by decide) (by decide) (by decide)] at this
    exact this
  · refine xw_constant hF hS (fun z u1 vc1 hP1 hC hz hf => ⟨dc_b8 w, ?_⟩)
    have hS1 := hP1.2.2.1
    refine xw_pure hP1.2.1 hS1 (hS1.1 _ (vn_lt (dc_b8 w))) hz (by decide) (by decide) (fun x u2 ic2 vc2 hP2' hx hf2 => ?_)
    have hP2 := bb_P_tr hP1 hP2'
    have hS2 := hP2.2.2.1
    have hA : tr_A u s ic vc ec c pn i cc u2 ic2 vc2 w x := by
      intro ok hG R0 R hrun
      have ok1 := hP2'.1.2.2 ok
      obtain ⟨G1, _⟩ := hP1.2.2.2.2 ok1 hG
      obtain ⟨_, E2⟩ := hP2'.2.2.2.2 ok G1
      obtain ⟨R1, r1, r2, r3⟩ := E2 R0 R hrun
      rw [hf2 ok G1 R0 R hrun, al_3, r2 _ (vn_lt hz), hf ok1 hG R0 R1 r1, tr_ev hS1 hP2' ok G1 hrun (vn_lt (dc_b8 w))]
      rfl
    refine br_c (fun e16 => ?_) (fun n16 => br_c (fun e17 => ?_) (fun n17 => br_c (fun e18 => ?_) (fun n18 => ⟨dc_a8 w, ?_⟩)))
    · refine xw_guard hP2.2.1 hS2 hx hx (by decide) (by decide) (fun u3 ic3 vc3 ec3 hP3' hg => ?_)
      have hP3 := bb_P_tr hP2 hP3'
      have hx3 := vn_mono hx hP3'.2.2.2.1
      have hA3 := tr_A3 hP2 hx hA hP3'
      refine xw_loadValue hP3.2.1 hP3.2.2.1 hx3 (fun r u4 ic4 vc4 hP4' hr hl => ?_)
      have hP4 := bb_P_tr hP3 hP4'
      have hA4 := tr_A3 hP3 hx3 hA3 hP4'
      refine tr_reg K hP4 hr (fun ok hG G4 => ?_)
      obtain ⟨t1, t2, t3, t4, t5, t6, t7, t8, t9, t10⟩ := tr_Ht hP4.1 hH
      refine mv_ld (x := x) G4.2.1 t1 t2 t3 t4 t5 t6 t7 e16 t9 t10 (fun R0 R hrun => ?_)
      have ok3 := hP4'.1.2.2 ok
      have ok2 := hP3'.1.2.2 ok3
      obtain ⟨G2, _⟩ := hP2.2.2.2.2 ok2 hG
      obtain ⟨G3, _⟩ := hP3.2.2.2.2 ok3 hG
      obtain ⟨_, E4⟩ := hP4'.2.2.2.2 ok G3
      obtain ⟨R3, r1, r2, r3, r4⟩ := E4 R0 R hrun
      obtain ⟨b1, b2⟩ := gd_mem rfl (hg ok3 G2 R0 R3 r1).1
      have em : xg_memSize u4 = xg_memSize u2 := (xo_memSize hP4'.1.1).trans (xo_memSize hP3'.1.1)
      have em3 : xg_memSize u3 = xg_memSize u2 := xo_memSize hP3'.1.1
      rw [← r2 _ (vn_lt hx3)] at b1 b2
      refine ⟨?_, hA4 ok hG R0 R hrun, b1, by rw [em]; exact b2⟩
      rw [em, ← em3]
      exact hl ok G3 R0 R hrun b1 (by rw [em3]; exact b2)
    · refine xw_guard hP2.2.1 hS2 hx hx (by decide) (by decide) (fun u3 ic3 vc3 ec3 hP3' hg => ⟨dc_a8 w, ?_⟩)
      have hP3 := bb_P_tr hP2 hP3'
      have hx3 := vn_mono hx hP3'.2.2.2.1
      have hA3 := tr_A3 hP2 hx hA hP3'
      refine tr_eff K hP3 hx3 (hP3.2.2.1.1 _ (vn_lt (dc_a8 w))) (Or.inl rfl) (fun ok hG G3 => ?_)
      obtain ⟨t1, t2, t3, t4, t5, t6, t7, t8, t9, t10⟩ := tr_Ht hP3.1 hH
      refine mv_st17 G3.2.1 t1 t2 t3 t4 t5 t6 t7 e17 t9 t10 (fun R0 R hrun => ?_)
      have ok2 := hP3'.1.2.2 ok
      obtain ⟨G2, _⟩ := hP2.2.2.2.2 ok2 hG
      obtain ⟨b1, b2⟩ := gd_mem rfl (hg ok G2 R0 R hrun).1
      exact ⟨hA3 ok hG R0 R hrun, b1, by rw [xo_memSize hP3'.1.1]; exact b2⟩
    · refine xw_guard hP2.2.1 hS2 hx hx (by decide) (by decide) (fun u3 ic3 vc3 ec3 hP3' hg => ?_)
      have hP3 := bb_P_tr hP2 hP3'
      have hx3 := vn_mono hx hP3'.2.2.2.1
      have hA3 := tr_A3 hP2 hx hA hP3'
      have h83 : 8 ≤ vc3 := hP3.2.1.2.2.2.2.2.2.2.1
      have hd : bg_df 18 := Or.inr (Or.inr rfl)
      refine xw_newop hP3.2.1 hP3.2.2.1 hx3 (vn_0 (by omega)) (by decide) (fun r u4 ic4 vc4 hR4 hF4 hS4 hv4 hr hok => ?_)
      have hP4' : bb_P s c pn i cc u3 ic3 vc3 ec3 u4 ic4 vc4 ec3 := ⟨hR4, hF4, hS4, hv4, fun ok G3 => by
        obtain ⟨rfl, rfl, hv, hi, rfl, u1', hp, rfl⟩ := hok ok
        have b := bn_P (op := 18) hv hi hp hd hP3.2.1 hP3.2.2.1 hx3 (vn_0 (n := vc3) (by omega))
        exact ⟨b.1 G3, b.2.1⟩⟩
      have hP4 := bb_P_tr hP3 hP4'
      have hA4 := tr_A3 hP3 hx3 hA3 hP4'
      refine tr_reg K hP4 hr (fun ok hG G4 => ?_)
      obtain ⟨t1, t2, t3, t4, t5, t6, t7, t8, t9, t10⟩ := tr_Ht hP4.1 hH
      refine mv_ldc (x := x) G4.2.1 t1 t2 t3 t4 t5 t6 t7 e18 (fun R0 R hrun => ?_)
      have ok3 := hP4'.1.2.2 ok
      have ok2 := hP3'.1.2.2 ok3
      obtain ⟨G2, _⟩ := hP2.2.2.2.2 ok2 hG
      obtain ⟨G3, _⟩ := hP3.2.2.2.2 ok3 hG
      obtain ⟨_, E4⟩ := hP4'.2.2.2.2 ok G3
      obtain ⟨R3', r1, r2, r3, r4⟩ := E4 R0 R hrun
      obtain ⟨b1, b2⟩ := gd_cod rfl (hg ok3 G2 R0 R3' r1).1
      have em : xg_codeSize u4 = xg_codeSize u2 := (xo_codeSize hP4'.1.1).trans (xo_codeSize hP3'.1.1)
      have em3 : xg_codeSize u3 = xg_codeSize u2 := xo_codeSize hP3'.1.1
      rw [← r2 _ (vn_lt hx3)] at b1 b2
      refine ⟨?_, hA4 ok hG R0 R hrun, b1, by rw [em]; exact b2⟩
      obtain ⟨rfl, rfl, hv, hi, rfl, u1', hp, rfl⟩ := hok ok
      have b := bn_P (op := 18) hv hi hp hd hP3.2.1 hP3.2.2.1 hx3 (vn_0 (n := vc3) (by omega))
      obtain ⟨R3, g1, rfl⟩ := b.2.2 R0 R hrun
      rw [nI_clamp (by omega), ir_fV (fun _ => Nat.ne_of_lt (vn_lt hx3)), ir_f18, em, ← em3]
      exact pk_us
    · have e19 : dc_o w = 19 := by
        have b1 : k ≠ 16 := fun z => n16 (by rw [hk, z]; rfl)
        have b2 : k ≠ 17 := fun z => n17 (by rw [hk, z]; rfl)
        have b3 : k ≠ 18 := fun z => n18 (by rw [hk, z]; rfl)
        have b4 : k ≠ 20 := fun z => n20 (by rw [hk, z]; rfl)
        have : k = 19 := by omega
        rw [hk, this]; rfl
      have hy := hS2.1 _ (vn_lt (dc_a8 w))
      refine xw_guard hP2.2.1 hS2 hx hy (by decide) (by decide) (fun u3 ic3 vc3 ec3 hP3' hg => ⟨dc_a8 w, ?_⟩)
      have hP3 := bb_P_tr hP2 hP3'
      have hx3 := vn_mono hx hP3'.2.2.2.1
      have hA3 := tr_A3 hP2 hx hA hP3'
      refine tr_eff K hP3 hx3 (hP3.2.2.1.1 _ (vn_lt (dc_a8 w))) (Or.inr (Or.inl rfl)) (fun ok hG G3 => ?_)
      obtain ⟨t1, t2, t3, t4, t5, t6, t7, t8, t9, t10⟩ := tr_Ht hP3.1 hH
      refine mv_st19 G3.2.1 t1 t2 t3 t4 t5 t6 t7 e19 (fun R0 R hrun => ?_)
      have ok2 := hP3'.1.2.2 ok
      obtain ⟨G2, _⟩ := hP2.2.2.2.2 ok2 hG
      obtain ⟨gg, ge⟩ := hg ok G2 R0 R hrun
      obtain ⟨b1, b2, b3⟩ := gd_stc rfl gg
      exact ⟨hA3 ok hG R0 R hrun, b1, by rw [xo_codeSize hP3'.1.1]; exact b2, fun z => by rw [ge _ (vn_lt (dc_a8 w))]; exact b3 (by rw [← xo_recMask hP3'.1.1]; exact z)⟩
end
end
section
/-! translating jumps -/
theorem jt_22 (x y : Int32) : jt_p 22 x y = (x = 0) := by unfold jt_p; rw [if_pos rfl]
theorem jt_23 (x y : Int32) : jt_p 23 x y = (¬ x = 0) := by unfold jt_p; rw [if_neg (by decide), if_pos rfl]
theorem jt_24 (x y : Int32) : jt_p 24 x y = (¬ y ≤ x) := by unfold jt_p; rw [if_neg (by decide), if_neg (by decide), if_pos rfl]
theorem jt_25 (x y : Int32) : jt_p 25 x y = (¬ x < y) := by unfold jt_p; rw [if_neg (by decide), if_neg (by decide), if_neg (by decide), if_pos rfl]
theorem jt_26 (x y : Int32) : jt_p 26 x y = (x = y) := by unfold jt_p; rw [if_neg (by decide), if_neg (by decide), if_neg (by decide), if_neg (by decide), if_pos rfl]
theorem jt_27 (x y : Int32) : jt_p 27 x y = (¬ x = y) := by unfold jt_p; rw [if_neg (by decide), if_neg (by decide), if_neg (by decide), if_neg (by decide), if_neg (by decide), if_pos rfl]
theorem jt_21 (x y : Int32) : jt_p 21 x y = True := by unfold jt_p; rw [if_neg (by decide), if_neg (by decide), if_neg (by decide), if_neg (by decide), if_neg (by decide), if_neg (by decide)]
theorem jt_29 (x y : Int32) : jt_p 29 x y = True := by unfold jt_p; rw [if_neg (by decide), if_neg (by decide), if_neg (by decide), if_neg (by decide), if_neg (by decide), if_neg (by decide)]
section
variable {s ic vc ec c pn q m i cc : Nat} {u : SX} {w : Int32}
/-- a jump whose way is settled in every run -/
theorem tr_jmp {post : SX → Prop} {u1 : SX} {ic1 vc1 ec1 k : Nat} (hH : tr_H u c pn q m w) (K : tr_K post s c pn q i cc u ic vc ec) (hP : bb_P s c pn i cc u ic vc ec u1 ic1 vc1 ec1) (hk : dc_o w = nI k) (h1 : 21 ≤ k) (h2 : k ≤ 29) (h28 : k ≠ 28)
    (H : xg_buildOk u1 ≠ 0 → bb_G u s ic vc ec c pn i cc → ∀ R0 R : ir_R, bb_run u1 s ic1 vc1 R0 R → (¬ jt_p (dc_o w) (R.1 (xg_env u1 (dc_a w).toNatClampNeg).toNatClampNeg) (R.1 (xg_env u1 (dc_b w).toNatClampNeg).toNatClampNeg) ∧ q = pn + 1) ∨ (jt_p (dc_o w) (R.1 (xg_env u1 (dc_a w).toNatClampNeg).toNatClampNeg) (R.1 (xg_env u1 (dc_b w).toNatClampNeg).toNatClampNeg) ∧ (if k = 29 then R.1 (xg_env u1 (dc_a w).toNatClampNeg).toNatClampNeg else dc_i w) = nI q)) : post u1 := by
  refine K u1 ic1 vc1 ec1 hP.1 hP.2.1 hP.2.2.1 (fun ok hG => ?_)
  obtain ⟨G1, _⟩ := hP.2.2.2.2 ok hG
  obtain ⟨t1, t2, t3, t4, t5, t6, t7, t8, t9, t10⟩ := tr_Ht hP.1 hH
  exact ⟨G1.1, G1.2.2, fun z => mv_jf G1.2.1 t1 t2 t3 t4 t5 t6 t7 hk h1 h2 h28 z (H ok hG), fun z => mv_jb G1.2.1 t1 t2 t3 t4 t5 t6 t7 hk h1 h2 h28 z (H ok hG)⟩
/-- what a branch's guard promises: tk = 1 the branch is taken, tk = 0 it isn't -/
def gb_K (post : SX → Prop) (s c pn i cc : Nat) (u : SX) (ic vc ec : Nat) (w tk : Int32) : Prop := ∀ (u' : SX) (ic' vc' ec' : Nat), bb_P s c pn i cc u ic vc ec u' ic' vc' ec' →
  (xg_buildOk u' ≠ 0 → bb_G u s ic vc ec c pn i cc → ∀ R0 R : ir_R, bb_run u' s ic' vc' R0 R → (tk = 0 → ¬ jt_p (dc_o w) (R.1 (xg_env u' (dc_a w).toNatClampNeg).toNatClampNeg) (R.1 (xg_env u' (dc_b w).toNatClampNeg).toNatClampNeg)) ∧ (¬ tk = 0 → jt_p (dc_o w) (R.1 (xg_env u' (dc_a w).toNatClampNeg).toNatClampNeg) (R.1 (xg_env u' (dc_b w).toNatClampNeg).toNatClampNeg))) → post u'
theorem xw_gb122 {post : SX → Prop} {u1 : SX} {ic1 vc1 ec1 : Nat} {kind y tk : Int32} (hP : bb_P s c pn i cc u ic vc ec u1 ic1 vc1 ec1) (hy : vp_in y vc1) (hk1 : 31 < kind) (hk2 : kind < 40) (K : gb_K post s c pn i cc u ic vc ec w tk)
    (Hy : xg_buildOk u1 ≠ 0 → bb_G u s ic vc ec c pn i cc → ∀ R0 R : ir_R, bb_run u1 s ic1 vc1 R0 R → ∀ (code : Nat → Int32) (oc : Int32), hd_p (xg_codeSize u1) (xg_memSize u1) (xg_recMask u1) code oc kind (R.1 (xg_env u1 (dc_a w).toNatClampNeg).toNatClampNeg) (R.1 y.toNatClampNeg) → (tk = 0 → ¬ jt_p (dc_o w) (R.1 (xg_env u1 (dc_a w).toNatClampNeg).toNatClampNeg) (R.1 (xg_env u1 (dc_b w).toNatClampNeg).toNatClampNeg)) ∧ (¬ tk = 0 → jt_p (dc_o w) (R.1 (xg_env u1 (dc_a w).toNatClampNeg).toNatClampNeg) (R.1 (xg_env u1 (dc_b w).toNatClampNeg).toNatClampNeg))) : xq_guardBranch_122 post (dc_a w) y kind u1 := by
  rw [xu_guardBranch_122]
  have hS1 := hP.2.2.1
  have ha := hS1.1 _ (vn_lt (dc_a8 w))
  refine ⟨dc_a8 w, xw_guard hP.2.1 hS1 ha hy hk1 hk2 (fun u2 ic2 vc2 ec2 hP2 hg => K u2 ic2 vc2 ec2 (bb_P_tr hP hP2) (fun ok hG R0 R hrun => ?_))⟩
  have ok1 := hP2.1.2.2 ok
  obtain ⟨G1, _⟩ := hP.2.2.2.2 ok1 hG
  obtain ⟨_, E2⟩ := hP2.2.2.2.2 ok G1
  obtain ⟨R1, r1, r2, r3, r4⟩ := E2 R0 R hrun
  obtain ⟨g1, g2⟩ := hg ok G1 R0 R hrun
  rw [r4 _ (vn_lt (dc_a8 w)), r4 _ (vn_lt (dc_b8 w))]
  have g3 := (gd_tr ha hy r2 r3).mp g1
  exact Hy ok1 hG R0 R1 r1 _ _ g3
theorem xw_gb27 {post : SX → Prop} {u1 : SX} {ic1 vc1 ec1 k : Nat} {y tk : Int32} (hP : bb_P s c pn i cc u ic vc ec u1 ic1 vc1 ec1) (hy : vp_in y vc1) (hk : dc_o w = nI k) (h1 : 22 ≤ k) (h2 : k ≤ 27) (K : gb_K post s c pn i cc u ic vc ec w tk)
    (Hy : xg_buildOk u1 ≠ 0 → bb_G u s ic vc ec c pn i cc → ∀ R0 R : ir_R, bb_run u1 s ic1 vc1 R0 R → R.1 y.toNatClampNeg = if dc_o w = 22 ∨ dc_o w = 23 then 0 else R.1 (xg_env u1 (dc_b w).toNatClampNeg).toNatClampNeg) : xq_guardBranch_27 post (dc_o w) (dc_a w) tk y u1 := by
  rw [xu_guardBranch_27]
  have n0 : ¬ (dc_o w = 22 ∨ dc_o w = 23) → ∀ z : Int32, (if dc_o w = 22 ∨ dc_o w = 23 then (0 : Int32) else z) = z := fun h z => if_neg h
  refine br_c (fun e => ?_) (fun n22 => br_c (fun e => ?_) (fun n26 => br_c (fun e => ?_) (fun n23 => br_c (fun e => ?_) (fun n27 => br_c (fun e => ?_) (fun n24 => ?_)))))
  · rw [xu_guardBranch_39]
    refine br_c (fun t => ?_) (fun t => ?_) <;> rw [xu_guardBranch_51] <;> refine xw_gb122 hP hy (by decide) (by decide) K (fun ok hG R0 R hrun code oc hh => ?_) <;> rw [Hy ok hG R0 R hrun, if_pos (Or.inl e)] at hh <;> rw [e, jt_22]
    · rw [hd_33] at hh; exact ⟨fun _ => hh, fun z => absurd t z⟩
    · rw [hd_32] at hh; exact ⟨fun z => absurd z t, fun _ => hh⟩
  · have nn : ¬ (dc_o w = 22 ∨ dc_o w = 23) := by rw [e]; decide
    rw [xu_guardBranch_39]
    refine br_c (fun t => ?_) (fun t => ?_) <;> rw [xu_guardBranch_51] <;> refine xw_gb122 hP hy (by decide) (by decide) K (fun ok hG R0 R hrun code oc hh => ?_) <;> rw [Hy ok hG R0 R hrun, n0 nn] at hh <;> rw [e, jt_26]
    · rw [hd_33] at hh; exact ⟨fun _ => hh, fun z => absurd t z⟩
    · rw [hd_32] at hh; exact ⟨fun z => absurd z t, fun _ => hh⟩
  · rw [xu_guardBranch_68]
    refine br_c (fun t => ?_) (fun t => ?_) <;> rw [xu_guardBranch_80] <;> refine xw_gb122 hP hy (by decide) (by decide) K (fun ok hG R0 R hrun code oc hh => ?_) <;> rw [Hy ok hG R0 R hrun, if_pos (Or.inr e)] at hh <;> rw [e, jt_23]
    · rw [hd_32] at hh; exact ⟨fun _ z => z hh, fun z => absurd t z⟩
    · rw [hd_33] at hh; exact ⟨fun z => absurd z t, fun _ => hh⟩
  · have nn : ¬ (dc_o w = 22 ∨ dc_o w = 23) := by rw [e]; decide
    rw [xu_guardBranch_68]
    refine br_c (fun t => ?_) (fun t => ?_) <;> rw [xu_guardBranch_80] <;> refine xw_gb122 hP hy (by decide) (by decide) K (fun ok hG R0 R hrun code oc hh => ?_) <;> rw [Hy ok hG R0 R hrun, n0 nn] at hh <;> rw [e, jt_27]
    · rw [hd_32] at hh; exact ⟨fun _ z => z hh, fun z => absurd t z⟩
    · rw [hd_33] at hh; exact ⟨fun z => absurd z t, fun _ => hh⟩
  · have nn : ¬ (dc_o w = 22 ∨ dc_o w = 23) := by rw [e]; decide
    refine br_c (fun t => ?_) (fun t => ?_) <;> rw [xu_guardBranch_103] <;> refine xw_gb122 hP hy (by decide) (by decide) K (fun ok hG R0 R hrun code oc hh => ?_) <;> rw [Hy ok hG R0 R hrun, n0 nn] at hh <;> rw [e, jt_24]
    · rw [hd_35] at hh; exact ⟨fun _ z => z (Int32.not_lt.mp hh), fun z => absurd t z⟩
    · rw [hd_34] at hh; exact ⟨fun z => absurd z t, fun _ => hh⟩
  · have e : dc_o w = 25 := by
      have b1 : k ≠ 22 := fun z => n22 (by rw [hk, z]; rfl)
      have b2 : k ≠ 26 := fun z => n26 (by rw [hk, z]; rfl)
      have b3 : k ≠ 23 := fun z => n23 (by rw [hk, z]; rfl)
      have b4 : k ≠ 27 := fun z => n27 (by rw [hk, z]; rfl)
      have b5 : k ≠ 24 := fun z => n24 (by rw [hk, z]; rfl)
      have : k = 25 := by omega
      rw [hk, this]; rfl
    have nn : ¬ (dc_o w = 22 ∨ dc_o w = 23) := by rw [e]; decide
    refine br_c (fun t => ?_) (fun t => ?_) <;> rw [xu_guardBranch_120] <;> refine xw_gb122 hP hy (by decide) (by decide) K (fun ok hG R0 R hrun code oc hh => ?_) <;> rw [Hy ok hG R0 R hrun, n0 nn] at hh <;> rw [e, jt_25]
    · rw [hd_34] at hh; exact ⟨fun _ z => z (Int32.not_le.mp hh), fun z => absurd t z⟩
    · rw [hd_35] at hh; exact ⟨fun z => absurd z t, fun _ => hh⟩
theorem xw_gb {post : SX → Prop} {k : Nat} {tk : Int32} (hF : bb_F u s ic vc ec c pn i cc) (hS : bb_S u s ic vc ec) (hk : dc_o w = nI k) (h1 : 22 ≤ k) (h2 : k ≤ 27) (K : gb_K post s c pn i cc u ic vc ec w tk) : wpX_guardBranch post u (dc_o w) (dc_a w) (dc_b w) tk := by
  rw [xu_guardBranch]
  have h20 : (dc_o w = 22 ∨ dc_o w = 23) → xq_guardBranch_20 post (dc_o w) (dc_a w) tk u := fun hz => by
    rw [xu_guardBranch_20]
    refine xw_constant hF hS (fun r u1 vc1 hP1 hC hr hf => xw_gb27 hP1 hr hk h1 h2 K (fun ok hG R0 R hrun => ?_))
    rw [if_pos hz]; exact hf ok hG R0 R hrun
  refine ⟨dc_b8 w, nm_e (br_c (fun e => h20 (Or.inl e)) (fun n22 => br_c (fun e => h20 (Or.inr e)) (fun n23 => ?_)))⟩
  refine xw_gb27 (bb_P_rf hF hS) (hS.1 _ (vn_lt (dc_b8 w))) hk h1 h2 K (fun ok hG R0 R hrun => ?_)
  rw [if_neg (by rintro (z | z); exact n22 z; exact n23 z)]
theorem xw_tjmp {post : SX → Prop} {k : Nat} (hF : bb_F u s ic vc ec c pn i cc) (hS : bb_S u s ic vc ec) (hH : tr_H u c pn q m w) (K : tr_K post s c pn q i cc u ic vc ec) (hk : dc_o w = nI k) (h1 : 21 ≤ k) (h2 : k ≤ 29) : wpX_translateJump post u (dc_o w) w (nI q) := by
  obtain ⟨t1, t2, t3, t4, t5, t6, t7, t8, t9, t10⟩ := id hH
  have hbp : xg_buildPc u = nI pn := hF.2.2.2.2.2.2.2.2.2.2.2.2.2.2.1
  rw [xu_translateJump, hbp]
  refine nm_e (nm_e (nm_e (br_c (fun e21 => ?_) (fun n21 => br_c (fun e28 => ?_) (fun n28 => br_c (fun e29 => ?_) (fun n29 => ?_))))))
  · have k21 : k = 21 := (nI_eq (by omega) (by decide)).mp (hk.symm.trans e21)
    refine tr_jmp hH K (bb_P_rf hF hS) hk h1 h2 (by omega) (fun ok hG R0 R hrun => Or.inr ⟨?_, ?_⟩)
    · rw [e21, jt_21]; trivial
    · rw [if_neg (by omega)]; exact (t8.2.1 (Or.inl e21)).symm
  · have hi : dc_i w = nI q := (t8.2.1 (Or.inr e28)).symm
    refine xw_constant hF hS (fun r u1 vc1 hP1 hC hr hf => ⟨dc_a8 w, nm_e ?_⟩)
    have hR : bb_R s u1 (xs_env u1 (upd (xg_env u1) (dc_a w).toNatClampNeg r)) := ⟨rfl, fun _ _ => ⟨rfl, rfl, rfl, rfl, rfl, rfl, rfl, rfl, rfl, rfl⟩, fun h => h⟩
    obtain ⟨q1, q2, q3, q4, q5, q6, q7, q8, q9, q10⟩ := tr_Ht hP1.1 hH
    refine K _ ic vc1 ec (bb_R_tr hP1.1 hR) hP1.2.1 ⟨fun j hj => ?_, hP1.2.2.1.2⟩ (fun ok hG => ?_)
    · show vp_in (upd (xg_env u1) (dc_a w).toNatClampNeg r j) vc1
      by_cases e : j = (dc_a w).toNatClampNeg
      · rw [e, pk_us]; exact hr
      · rw [pk_un e]; exact hP1.2.2.1.1 j hj
    · obtain ⟨G1, _⟩ := hP1.2.2.2.2 ok hG
      have hz : ∀ R0 R : ir_R, bb_run u1 s ic vc1 R0 R → R.1 r.toNatClampNeg = nI (pn + 1) := fun R0 R hrun => by rw [← nI_1]; exact hf ok hG R0 R hrun
      exact ⟨G1.1, G1.2.2, fun z => mv_alf G1.2.1 q1 q2 q3 q4 q5 q6 q7 e28 z hi hz, fun z => mv_alb G1.2.1 q1 q2 q3 q4 q5 q6 q7 e28 z hi hz⟩
  · have k29 : k = 29 := (nI_eq (by omega) (by decide)).mp (hk.symm.trans e29)
    refine xw_constant hF hS (fun r u1 vc1 hP1 hC hr hf => ⟨dc_a8 w, ?_⟩)
    have hS1 := hP1.2.2.1
    have ha := hS1.1 _ (vn_lt (dc_a8 w))
    refine xw_guard hP1.2.1 hS1 ha hr (by decide) (by decide) (fun u2 ic2 vc2 ec2 hP2 hg => ?_)
    refine tr_jmp hH K (bb_P_tr hP1 hP2) hk h1 h2 (by omega) (fun ok hG R0 R hrun => Or.inr ⟨?_, ?_⟩)
    · rw [e29, jt_29]; trivial
    · rw [if_pos k29]
      have ok1 := hP2.1.2.2 ok
      obtain ⟨G1, _⟩ := hP1.2.2.2.2 ok1 hG
      obtain ⟨_, E2⟩ := hP2.2.2.2.2 ok G1
      obtain ⟨R1, r1, r2, r3⟩ := E2 R0 R hrun
      obtain ⟨g1, g2⟩ := hg ok G1 R0 R hrun
      unfold gd_c at g1
      rw [hd_32] at g1
      rw [g2 _ (vn_lt (dc_a8 w))]
      refine Eq.trans g1 ?_
      rw [r2 _ (vn_lt hr)]
      exact hf ok1 hG R0 R1 r1
  · have hr2 : 22 ≤ k ∧ k ≤ 27 := by
      have b1 : k ≠ 21 := fun z => n21 (by rw [hk, z]; rfl)
      have b2 : k ≠ 28 := fun z => n28 (by rw [hk, z]; rfl)
      have b3 : k ≠ 29 := fun z => n29 (by rw [hk, z]; rfl)
      omega
    have hrc : nI q = dc_i w ∨ q = pn + 1 := t8.2.2 (by rw [hk]; exact nI_lt (a := 21) (by omega) (by omega)) (by rw [hk]; exact nI_lt (b := 28) (by omega) (by decide))
    refine br_c (fun ei => ?_) (fun ni => ?_)
    · have ei' : dc_i w = nI (pn + 1) := by rw [← nI_1]; exact ei
      have eq : q = pn + 1 := by
        rcases hrc with z | z
        · rw [ei'] at z; exact (nI_eq (by omega) (by omega)).mp z
        · exact z
      refine tr_jmp hH K (bb_P_rf hF hS) hk h1 h2 (by omega) (fun ok hG R0 R hrun => ?_)
      by_cases hj : jt_p (dc_o w) (R.1 (xg_env u (dc_a w).toNatClampNeg).toNatClampNeg) (R.1 (xg_env u (dc_b w).toNatClampNeg).toNatClampNeg)
      · exact Or.inr ⟨hj, by rw [if_neg (by omega), ei', eq]⟩
      · exact Or.inl ⟨hj, eq⟩
    · refine br_c (fun et => ?_) (fun nt => ?_)
      · rw [xu_translateJump_115]
        refine xw_gb hF hS hk hr2.1 hr2.2 (fun u1 ic1 vc1 ec1 hP1 hf => tr_jmp hH K hP1 hk h1 h2 (by omega) (fun ok hG R0 R hrun => Or.inr ⟨(hf ok hG R0 R hrun).2 (by decide), ?_⟩))
        rw [if_neg (by omega)]; exact et.symm
      · rw [xu_translateJump_115]
        refine xw_gb hF hS hk hr2.1 hr2.2 (fun u1 ic1 vc1 ec1 hP1 hf => tr_jmp hH K hP1 hk h1 h2 (by omega) (fun ok hG R0 R hrun => Or.inl ⟨(hf ok hG R0 R hrun).1 rfl, ?_⟩))
        rcases hrc with z | z
        · exact absurd z nt
        · exact z
end
end
section
/-! further frames -/
def xz_t (u : SX) : Int32 × Int32 × Int32 × Int32 × Int32 × Int32 × Int32 × Int32 × (Nat → Int32) × (Nat → Int32) × (Nat → Int32) × (Nat → Int32) × (Nat → Int32) × Int32 × Int32 × Int32 × Int32 × Int32 × Int32 × Int32 × Int64 × (Nat → Int32) × (Nat → Int32) × (Nat → Int32) × Int32 × Int64 × (Nat → Int32) × (Nat → Int32) × (Nat → Int32) × (Nat → Int32) × (Nat → Int64) × (Nat → Int32) × (Nat → Int32) × (Nat → Int32) × (Nat → Int32) × (Nat → Int32) × (Nat → Int32) × (Nat → Int32) × (Nat → Int32) × (Nat → Int32) × (Nat → Int32) × (Nat → Int32) × Int32 × Int32 × Int32 × Int32 × Int32 × Int32 × Int32 := (xg_codeSize u, xg_memSize u, xg_hot u, xg_pc u, xg_status u, xg_steps u, xg_cursor u, xg_outCount u, xg_code u, xg_crossings u, xg_mem u, xg_r u, xg_out u, xg_done u, xg_crossed u, xg_nextPc u, xg_crossedTo u, xg_recording u, xg_recHead u, xg_recLen u, xg_recMask u, xg_recPc u, xg_recWord u, xg_recNext u, xg_nextVictim u, xg_runMask u, xg_slotOf u, xg_trLive u, xg_trHead u, xg_trLen u, xg_trMask u, xg_trIr u, xg_trVals u, xg_trCross u, xg_val u, xg_trTargets u, xg_kFlag u, xg_kVal u, xg_exPc u, xg_exSteps u, xg_exCross u, xg_snap u, xg_buildOk u, xg_buildSlot u, xg_bIr u, xg_bVal u, xg_valCount u, xg_exitCount u, xg_crossCount u)
theorem xz_codeSize {u u' : SX} (h : xz_t u' = xz_t u) : xg_codeSize u' = xg_codeSize u := congrArg (fun t => t.1) h
theorem xz_memSize {u u' : SX} (h : xz_t u' = xz_t u) : xg_memSize u' = xg_memSize u := congrArg (fun t => t.2.1) h
theorem xz_hot {u u' : SX} (h : xz_t u' = xz_t u) : xg_hot u' = xg_hot u := congrArg (fun t => t.2.2.1) h
theorem xz_pc {u u' : SX} (h : xz_t u' = xz_t u) : xg_pc u' = xg_pc u := congrArg (fun t => t.2.2.2.1) h
theorem xz_status {u u' : SX} (h : xz_t u' = xz_t u) : xg_status u' = xg_status u := congrArg (fun t => t.2.2.2.2.1) h
theorem xz_steps {u u' : SX} (h : xz_t u' = xz_t u) : xg_steps u' = xg_steps u := congrArg (fun t => t.2.2.2.2.2.1) h
theorem xz_cursor {u u' : SX} (h : xz_t u' = xz_t u) : xg_cursor u' = xg_cursor u := congrArg (fun t => t.2.2.2.2.2.2.1) h
theorem xz_outCount {u u' : SX} (h : xz_t u' = xz_t u) : xg_outCount u' = xg_outCount u := congrArg (fun t => t.2.2.2.2.2.2.2.1) h
theorem xz_code {u u' : SX} (h : xz_t u' = xz_t u) : xg_code u' = xg_code u := congrArg (fun t => t.2.2.2.2.2.2.2.2.1) h
theorem xz_crossings {u u' : SX} (h : xz_t u' = xz_t u) : xg_crossings u' = xg_crossings u := congrArg (fun t => t.2.2.2.2.2.2.2.2.2.1) h
theorem xz_mem {u u' : SX} (h : xz_t u' = xz_t u) : xg_mem u' = xg_mem u := congrArg (fun t => t.2.2.2.2.2.2.2.2.2.2.1) h
theorem xz_r {u u' : SX} (h : xz_t u' = xz_t u) : xg_r u' = xg_r u := congrArg (fun t => t.2.2.2.2.2.2.2.2.2.2.2.1) h
theorem xz_out {u u' : SX} (h : xz_t u' = xz_t u) : xg_out u' = xg_out u := congrArg (fun t => t.2.2.2.2.2.2.2.2.2.2.2.2.1) h
theorem xz_done {u u' : SX} (h : xz_t u' = xz_t u) : xg_done u' = xg_done u := congrArg (fun t => t.2.2.2.2.2.2.2.2.2.2.2.2.2.1) h
theorem xz_crossed {u u' : SX} (h : xz_t u' = xz_t u) : xg_crossed u' = xg_crossed u := congrArg (fun t => t.2.2.2.2.2.2.2.2.2.2.2.2.2.2.1) h
theorem xz_nextPc {u u' : SX} (h : xz_t u' = xz_t u) : xg_nextPc u' = xg_nextPc u := congrArg (fun t => t.2.2.2.2.2.2.2.2.2.2.2.2.2.2.2.1) h
theorem xz_crossedTo {u u' : SX} (h : xz_t u' = xz_t u) : xg_crossedTo u' = xg_crossedTo u := congrArg (fun t => t.2.2.2.2.2.2.2.2.2.2.2.2.2.2.2.2.1) h
theorem xz_recording {u u' : SX} (h : xz_t u' = xz_t u) : xg_recording u' = xg_recording u := congrArg (fun t => t.2.2.2.2.2.2.2.2.2.2.2.2.2.2.2.2.2.1) h
theorem xz_recHead {u u' : SX} (h : xz_t u' = xz_t u) : xg_recHead u' = xg_recHead u := congrArg (fun t => t.2.2.2.2.2.2.2.2.2.2.2.2.2.2.2.2.2.2.1) h
theorem xz_recLen {u u' : SX} (h : xz_t u' = xz_t u) : xg_recLen u' = xg_recLen u := congrArg (fun t => t.2.2.2.2.2.2.2.2.2.2.2.2.2.2.2.2.2.2.2.1) h
theorem xz_recMask {u u' : SX} (h : xz_t u' = xz_t u) : xg_recMask u' = xg_recMask u := congrArg (fun t => t.2.2.2.2.2.2.2.2.2.2.2.2.2.2.2.2.2.2.2.2.1) h
theorem xz_recPc {u u' : SX} (h : xz_t u' = xz_t u) : xg_recPc u' = xg_recPc u := congrArg (fun t => t.2.2.2.2.2.2.2.2.2.2.2.2.2.2.2.2.2.2.2.2.2.1) h
theorem xz_recWord {u u' : SX} (h : xz_t u' = xz_t u) : xg_recWord u' = xg_recWord u := congrArg (fun t => t.2.2.2.2.2.2.2.2.2.2.2.2.2.2.2.2.2.2.2.2.2.2.1) h
theorem xz_recNext {u u' : SX} (h : xz_t u' = xz_t u) : xg_recNext u' = xg_recNext u := congrArg (fun t => t.2.2.2.2.2.2.2.2.2.2.2.2.2.2.2.2.2.2.2.2.2.2.2.1) h
theorem xz_nextVictim {u u' : SX} (h : xz_t u' = xz_t u) : xg_nextVictim u' = xg_nextVictim u := congrArg (fun t => t.2.2.2.2.2.2.2.2.2.2.2.2.2.2.2.2.2.2.2.2.2.2.2.2.1) h
theorem xz_runMask {u u' : SX} (h : xz_t u' = xz_t u) : xg_runMask u' = xg_runMask u := congrArg (fun t => t.2.2.2.2.2.2.2.2.2.2.2.2.2.2.2.2.2.2.2.2.2.2.2.2.2.1) h
theorem xz_slotOf {u u' : SX} (h : xz_t u' = xz_t u) : xg_slotOf u' = xg_slotOf u := congrArg (fun t => t.2.2.2.2.2.2.2.2.2.2.2.2.2.2.2.2.2.2.2.2.2.2.2.2.2.2.1) h
theorem xz_trLive {u u' : SX} (h : xz_t u' = xz_t u) : xg_trLive u' = xg_trLive u := congrArg (fun t => t.2.2.2.2.2.2.2.2.2.2.2.2.2.2.2.2.2.2.2.2.2.2.2.2.2.2.2.1) h
theorem xz_trHead {u u' : SX} (h : xz_t u' = xz_t u) : xg_trHead u' = xg_trHead u := congrArg (fun t => t.2.2.2.2.2.2.2.2.2.2.2.2.2.2.2.2.2.2.2.2.2.2.2.2.2.2.2.2.1) h
theorem xz_trLen {u u' : SX} (h : xz_t u' = xz_t u) : xg_trLen u' = xg_trLen u := congrArg (fun t => t.2.2.2.2.2.2.2.2.2.2.2.2.2.2.2.2.2.2.2.2.2.2.2.2.2.2.2.2.2.1) h
theorem xz_trMask {u u' : SX} (h : xz_t u' = xz_t u) : xg_trMask u' = xg_trMask u := congrArg (fun t => t.2.2.2.2.2.2.2.2.2.2.2.2.2.2.2.2.2.2.2.2.2.2.2.2.2.2.2.2.2.2.1) h
theorem xz_trIr {u u' : SX} (h : xz_t u' = xz_t u) : xg_trIr u' = xg_trIr u := congrArg (fun t => t.2.2.2.2.2.2.2.2.2.2.2.2.2.2.2.2.2.2.2.2.2.2.2.2.2.2.2.2.2.2.2.1) h
theorem xz_trVals {u u' : SX} (h : xz_t u' = xz_t u) : xg_trVals u' = xg_trVals u := congrArg (fun t => t.2.2.2.2.2.2.2.2.2.2.2.2.2.2.2.2.2.2.2.2.2.2.2.2.2.2.2.2.2.2.2.2.1) h
theorem xz_trCross {u u' : SX} (h : xz_t u' = xz_t u) : xg_trCross u' = xg_trCross u := congrArg (fun t => t.2.2.2.2.2.2.2.2.2.2.2.2.2.2.2.2.2.2.2.2.2.2.2.2.2.2.2.2.2.2.2.2.2.1) h
theorem xz_val {u u' : SX} (h : xz_t u' = xz_t u) : xg_val u' = xg_val u := congrArg (fun t => t.2.2.2.2.2.2.2.2.2.2.2.2.2.2.2.2.2.2.2.2.2.2.2.2.2.2.2.2.2.2.2.2.2.2.1) h
theorem xz_trTargets {u u' : SX} (h : xz_t u' = xz_t u) : xg_trTargets u' = xg_trTargets u := congrArg (fun t => t.2.2.2.2.2.2.2.2.2.2.2.2.2.2.2.2.2.2.2.2.2.2.2.2.2.2.2.2.2.2.2.2.2.2.2.1) h
theorem xz_kFlag {u u' : SX} (h : xz_t u' = xz_t u) : xg_kFlag u' = xg_kFlag u := congrArg (fun t => t.2.2.2.2.2.2.2.2.2.2.2.2.2.2.2.2.2.2.2.2.2.2.2.2.2.2.2.2.2.2.2.2.2.2.2.2.1) h
theorem xz_kVal {u u' : SX} (h : xz_t u' = xz_t u) : xg_kVal u' = xg_kVal u := congrArg (fun t => t.2.2.2.2.2.2.2.2.2.2.2.2.2.2.2.2.2.2.2.2.2.2.2.2.2.2.2.2.2.2.2.2.2.2.2.2.2.1) h
theorem xz_exPc {u u' : SX} (h : xz_t u' = xz_t u) : xg_exPc u' = xg_exPc u := congrArg (fun t => t.2.2.2.2.2.2.2.2.2.2.2.2.2.2.2.2.2.2.2.2.2.2.2.2.2.2.2.2.2.2.2.2.2.2.2.2.2.2.1) h
theorem xz_exSteps {u u' : SX} (h : xz_t u' = xz_t u) : xg_exSteps u' = xg_exSteps u := congrArg (fun t => t.2.2.2.2.2.2.2.2.2.2.2.2.2.2.2.2.2.2.2.2.2.2.2.2.2.2.2.2.2.2.2.2.2.2.2.2.2.2.2.1) h
theorem xz_exCross {u u' : SX} (h : xz_t u' = xz_t u) : xg_exCross u' = xg_exCross u := congrArg (fun t => t.2.2.2.2.2.2.2.2.2.2.2.2.2.2.2.2.2.2.2.2.2.2.2.2.2.2.2.2.2.2.2.2.2.2.2.2.2.2.2.2.1) h
theorem xz_snap {u u' : SX} (h : xz_t u' = xz_t u) : xg_snap u' = xg_snap u := congrArg (fun t => t.2.2.2.2.2.2.2.2.2.2.2.2.2.2.2.2.2.2.2.2.2.2.2.2.2.2.2.2.2.2.2.2.2.2.2.2.2.2.2.2.2.1) h
theorem xz_buildOk {u u' : SX} (h : xz_t u' = xz_t u) : xg_buildOk u' = xg_buildOk u := congrArg (fun t => t.2.2.2.2.2.2.2.2.2.2.2.2.2.2.2.2.2.2.2.2.2.2.2.2.2.2.2.2.2.2.2.2.2.2.2.2.2.2.2.2.2.2.1) h
theorem xz_buildSlot {u u' : SX} (h : xz_t u' = xz_t u) : xg_buildSlot u' = xg_buildSlot u := congrArg (fun t => t.2.2.2.2.2.2.2.2.2.2.2.2.2.2.2.2.2.2.2.2.2.2.2.2.2.2.2.2.2.2.2.2.2.2.2.2.2.2.2.2.2.2.2.1) h
theorem xz_bIr {u u' : SX} (h : xz_t u' = xz_t u) : xg_bIr u' = xg_bIr u := congrArg (fun t => t.2.2.2.2.2.2.2.2.2.2.2.2.2.2.2.2.2.2.2.2.2.2.2.2.2.2.2.2.2.2.2.2.2.2.2.2.2.2.2.2.2.2.2.2.1) h
theorem xz_bVal {u u' : SX} (h : xz_t u' = xz_t u) : xg_bVal u' = xg_bVal u := congrArg (fun t => t.2.2.2.2.2.2.2.2.2.2.2.2.2.2.2.2.2.2.2.2.2.2.2.2.2.2.2.2.2.2.2.2.2.2.2.2.2.2.2.2.2.2.2.2.2.1) h
theorem xz_valCount {u u' : SX} (h : xz_t u' = xz_t u) : xg_valCount u' = xg_valCount u := congrArg (fun t => t.2.2.2.2.2.2.2.2.2.2.2.2.2.2.2.2.2.2.2.2.2.2.2.2.2.2.2.2.2.2.2.2.2.2.2.2.2.2.2.2.2.2.2.2.2.2.1) h
theorem xz_exitCount {u u' : SX} (h : xz_t u' = xz_t u) : xg_exitCount u' = xg_exitCount u := congrArg (fun t => t.2.2.2.2.2.2.2.2.2.2.2.2.2.2.2.2.2.2.2.2.2.2.2.2.2.2.2.2.2.2.2.2.2.2.2.2.2.2.2.2.2.2.2.2.2.2.2.1) h
theorem xz_crossCount {u u' : SX} (h : xz_t u' = xz_t u) : xg_crossCount u' = xg_crossCount u := congrArg (fun t => t.2.2.2.2.2.2.2.2.2.2.2.2.2.2.2.2.2.2.2.2.2.2.2.2.2.2.2.2.2.2.2.2.2.2.2.2.2.2.2.2.2.2.2.2.2.2.2.2) h
def xp_t (u : SX) : Int32 × Int32 × Int32 × Int32 × Int32 × Int32 × Int32 × Int32 × (Nat → Int32) × (Nat → Int32) × (Nat → Int32) × (Nat → Int32) × (Nat → Int32) × Int32 × Int32 × Int32 × Int32 × Int32 × Int32 × Int32 × Int64 × (Nat → Int32) × (Nat → Int32) × (Nat → Int32) × Int32 × Int64 × (Nat → Int32) × (Nat → Int32) × (Nat → Int32) × (Nat → Int32) × (Nat → Int64) × (Nat → Int32) × (Nat → Int32) × (Nat → Int32) × (Nat → Int32) := (xg_codeSize u, xg_memSize u, xg_hot u, xg_pc u, xg_status u, xg_steps u, xg_cursor u, xg_outCount u, xg_code u, xg_crossings u, xg_mem u, xg_r u, xg_out u, xg_done u, xg_crossed u, xg_nextPc u, xg_crossedTo u, xg_recording u, xg_recHead u, xg_recLen u, xg_recMask u, xg_recPc u, xg_recWord u, xg_recNext u, xg_nextVictim u, xg_runMask u, xg_slotOf u, xg_trLive u, xg_trHead u, xg_trLen u, xg_trMask u, xg_trIr u, xg_trVals u, xg_trCross u, xg_val u)
theorem xp_codeSize {u u' : SX} (h : xp_t u' = xp_t u) : xg_codeSize u' = xg_codeSize u := congrArg (fun t => t.1) h
theorem xp_memSize {u u' : SX} (h : xp_t u' = xp_t u) : xg_memSize u' = xg_memSize u := congrArg (fun t => t.2.1) h
theorem xp_hot {u u' : SX} (h : xp_t u' = xp_t u) : xg_hot u' = xg_hot u := congrArg (fun t => t.2.2.1) h
theorem xp_pc {u u' : SX} (h : xp_t u' = xp_t u) : xg_pc u' = xg_pc u := congrArg (fun t => t.2.2.2.1) h
theorem xp_status {u u' : SX} (h : xp_t u' = xp_t u) : xg_status u' = xg_status u := congrArg (fun t => t.2.2.2.2.1) h
theorem xp_steps {u u' : SX} (h : xp_t u' = xp_t u) : xg_steps u' = xg_steps u := congrArg (fun t => t.2.2.2.2.2.1) h
theorem xp_cursor {u u' : SX} (h : xp_t u' = xp_t u) : xg_cursor u' = xg_cursor u := congrArg (fun t => t.2.2.2.2.2.2.1) h
theorem xp_outCount {u u' : SX} (h : xp_t u' = xp_t u) : xg_outCount u' = xg_outCount u := congrArg (fun t => t.2.2.2.2.2.2.2.1) h
theorem xp_code {u u' : SX} (h : xp_t u' = xp_t u) : xg_code u' = xg_code u := congrArg (fun t => t.2.2.2.2.2.2.2.2.1) h
theorem xp_crossings {u u' : SX} (h : xp_t u' = xp_t u) : xg_crossings u' = xg_crossings u := congrArg (fun t => t.2.2.2.2.2.2.2.2.2.1) h
theorem xp_mem {u u' : SX} (h : xp_t u' = xp_t u) : xg_mem u' = xg_mem u := congrArg (fun t => t.2.2.2.2.2.2.2.2.2.2.1) h
theorem xp_r {u u' : SX} (h : xp_t u' = xp_t u) : xg_r u' = xg_r u := congrArg (fun t => t.2.2.2.2.2.2.2.2.2.2.2.1) h
theorem xp_out {u u' : SX} (h : xp_t u' = xp_t u) : xg_out u' = xg_out u := congrArg (fun t => t.2.2.2.2.2.2.2.2.2.2.2.2.1) h
theorem xp_done {u u' : SX} (h : xp_t u' = xp_t u) : xg_done u' = xg_done u := congrArg (fun t => t.2.2.2.2.2.2.2.2.2.2.2.2.2.1) h
theorem xp_crossed {u u' : SX} (h : xp_t u' = xp_t u) : xg_crossed u' = xg_crossed u := congrArg (fun t => t.2.2.2.2.2.2.2.2.2.2.2.2.2.2.1) h
theorem xp_nextPc {u u' : SX} (h : xp_t u' = xp_t u) : xg_nextPc u' = xg_nextPc u := congrArg (fun t => t.2.2.2.2.2.2.2.2.2.2.2.2.2.2.2.1) h
theorem xp_crossedTo {u u' : SX} (h : xp_t u' = xp_t u) : xg_crossedTo u' = xg_crossedTo u := congrArg (fun t => t.2.2.2.2.2.2.2.2.2.2.2.2.2.2.2.2.1) h
theorem xp_recording {u u' : SX} (h : xp_t u' = xp_t u) : xg_recording u' = xg_recording u := congrArg (fun t => t.2.2.2.2.2.2.2.2.2.2.2.2.2.2.2.2.2.1) h
theorem xp_recHead {u u' : SX} (h : xp_t u' = xp_t u) : xg_recHead u' = xg_recHead u := congrArg (fun t => t.2.2.2.2.2.2.2.2.2.2.2.2.2.2.2.2.2.2.1) h
theorem xp_recLen {u u' : SX} (h : xp_t u' = xp_t u) : xg_recLen u' = xg_recLen u := congrArg (fun t => t.2.2.2.2.2.2.2.2.2.2.2.2.2.2.2.2.2.2.2.1) h
theorem xp_recMask {u u' : SX} (h : xp_t u' = xp_t u) : xg_recMask u' = xg_recMask u := congrArg (fun t => t.2.2.2.2.2.2.2.2.2.2.2.2.2.2.2.2.2.2.2.2.1) h
theorem xp_recPc {u u' : SX} (h : xp_t u' = xp_t u) : xg_recPc u' = xg_recPc u := congrArg (fun t => t.2.2.2.2.2.2.2.2.2.2.2.2.2.2.2.2.2.2.2.2.2.1) h
theorem xp_recWord {u u' : SX} (h : xp_t u' = xp_t u) : xg_recWord u' = xg_recWord u := congrArg (fun t => t.2.2.2.2.2.2.2.2.2.2.2.2.2.2.2.2.2.2.2.2.2.2.1) h
theorem xp_recNext {u u' : SX} (h : xp_t u' = xp_t u) : xg_recNext u' = xg_recNext u := congrArg (fun t => t.2.2.2.2.2.2.2.2.2.2.2.2.2.2.2.2.2.2.2.2.2.2.2.1) h
theorem xp_nextVictim {u u' : SX} (h : xp_t u' = xp_t u) : xg_nextVictim u' = xg_nextVictim u := congrArg (fun t => t.2.2.2.2.2.2.2.2.2.2.2.2.2.2.2.2.2.2.2.2.2.2.2.2.1) h
theorem xp_runMask {u u' : SX} (h : xp_t u' = xp_t u) : xg_runMask u' = xg_runMask u := congrArg (fun t => t.2.2.2.2.2.2.2.2.2.2.2.2.2.2.2.2.2.2.2.2.2.2.2.2.2.1) h
theorem xp_slotOf {u u' : SX} (h : xp_t u' = xp_t u) : xg_slotOf u' = xg_slotOf u := congrArg (fun t => t.2.2.2.2.2.2.2.2.2.2.2.2.2.2.2.2.2.2.2.2.2.2.2.2.2.2.1) h
theorem xp_trLive {u u' : SX} (h : xp_t u' = xp_t u) : xg_trLive u' = xg_trLive u := congrArg (fun t => t.2.2.2.2.2.2.2.2.2.2.2.2.2.2.2.2.2.2.2.2.2.2.2.2.2.2.2.1) h
theorem xp_trHead {u u' : SX} (h : xp_t u' = xp_t u) : xg_trHead u' = xg_trHead u := congrArg (fun t => t.2.2.2.2.2.2.2.2.2.2.2.2.2.2.2.2.2.2.2.2.2.2.2.2.2.2.2.2.1) h
theorem xp_trLen {u u' : SX} (h : xp_t u' = xp_t u) : xg_trLen u' = xg_trLen u := congrArg (fun t => t.2.2.2.2.2.2.2.2.2.2.2.2.2.2.2.2.2.2.2.2.2.2.2.2.2.2.2.2.2.1) h
theorem xp_trMask {u u' : SX} (h : xp_t u' = xp_t u) : xg_trMask u' = xg_trMask u := congrArg (fun t => t.2.2.2.2.2.2.2.2.2.2.2.2.2.2.2.2.2.2.2.2.2.2.2.2.2.2.2.2.2.2.1) h
theorem xp_trIr {u u' : SX} (h : xp_t u' = xp_t u) : xg_trIr u' = xg_trIr u := congrArg (fun t => t.2.2.2.2.2.2.2.2.2.2.2.2.2.2.2.2.2.2.2.2.2.2.2.2.2.2.2.2.2.2.2.1) h
theorem xp_trVals {u u' : SX} (h : xp_t u' = xp_t u) : xg_trVals u' = xg_trVals u := congrArg (fun t => t.2.2.2.2.2.2.2.2.2.2.2.2.2.2.2.2.2.2.2.2.2.2.2.2.2.2.2.2.2.2.2.2.1) h
theorem xp_trCross {u u' : SX} (h : xp_t u' = xp_t u) : xg_trCross u' = xg_trCross u := congrArg (fun t => t.2.2.2.2.2.2.2.2.2.2.2.2.2.2.2.2.2.2.2.2.2.2.2.2.2.2.2.2.2.2.2.2.2.1) h
theorem xp_val {u u' : SX} (h : xp_t u' = xp_t u) : xg_val u' = xg_val u := congrArg (fun t => t.2.2.2.2.2.2.2.2.2.2.2.2.2.2.2.2.2.2.2.2.2.2.2.2.2.2.2.2.2.2.2.2.2.2) h
theorem xo_xp {u u' : SX} (h : xo_t u' = xo_t u) : xp_t u' = xp_t u := congrArg (fun t => (t.1, t.2.1, t.2.2.1, t.2.2.2.1, t.2.2.2.2.1, t.2.2.2.2.2.1, t.2.2.2.2.2.2.1, t.2.2.2.2.2.2.2.1, t.2.2.2.2.2.2.2.2.1, t.2.2.2.2.2.2.2.2.2.1, t.2.2.2.2.2.2.2.2.2.2.1, t.2.2.2.2.2.2.2.2.2.2.2.1, t.2.2.2.2.2.2.2.2.2.2.2.2.1, t.2.2.2.2.2.2.2.2.2.2.2.2.2.1, t.2.2.2.2.2.2.2.2.2.2.2.2.2.2.1, t.2.2.2.2.2.2.2.2.2.2.2.2.2.2.2.1, t.2.2.2.2.2.2.2.2.2.2.2.2.2.2.2.2.1, t.2.2.2.2.2.2.2.2.2.2.2.2.2.2.2.2.2.1, t.2.2.2.2.2.2.2.2.2.2.2.2.2.2.2.2.2.2.1, t.2.2.2.2.2.2.2.2.2.2.2.2.2.2.2.2.2.2.2.1, t.2.2.2.2.2.2.2.2.2.2.2.2.2.2.2.2.2.2.2.2.1, t.2.2.2.2.2.2.2.2.2.2.2.2.2.2.2.2.2.2.2.2.2.1, t.2.2.2.2.2.2.2.2.2.2.2.2.2.2.2.2.2.2.2.2.2.2.1, t.2.2.2.2.2.2.2.2.2.2.2.2.2.2.2.2.2.2.2.2.2.2.2.1, t.2.2.2.2.2.2.2.2.2.2.2.2.2.2.2.2.2.2.2.2.2.2.2.2.1, t.2.2.2.2.2.2.2.2.2.2.2.2.2.2.2.2.2.2.2.2.2.2.2.2.2.1, t.2.2.2.2.2.2.2.2.2.2.2.2.2.2.2.2.2.2.2.2.2.2.2.2.2.2.1, t.2.2.2.2.2.2.2.2.2.2.2.2.2.2.2.2.2.2.2.2.2.2.2.2.2.2.2.1, t.2.2.2.2.2.2.2.2.2.2.2.2.2.2.2.2.2.2.2.2.2.2.2.2.2.2.2.2.1, t.2.2.2.2.2.2.2.2.2.2.2.2.2.2.2.2.2.2.2.2.2.2.2.2.2.2.2.2.2.1, t.2.2.2.2.2.2.2.2.2.2.2.2.2.2.2.2.2.2.2.2.2.2.2.2.2.2.2.2.2.2.1, t.2.2.2.2.2.2.2.2.2.2.2.2.2.2.2.2.2.2.2.2.2.2.2.2.2.2.2.2.2.2.2.1, t.2.2.2.2.2.2.2.2.2.2.2.2.2.2.2.2.2.2.2.2.2.2.2.2.2.2.2.2.2.2.2.2.1, t.2.2.2.2.2.2.2.2.2.2.2.2.2.2.2.2.2.2.2.2.2.2.2.2.2.2.2.2.2.2.2.2.2.1, t.2.2.2.2.2.2.2.2.2.2.2.2.2.2.2.2.2.2.2.2.2.2.2.2.2.2.2.2.2.2.2.2.2.2.1)) h
theorem xz_xp {u u' : SX} (h : xz_t u' = xz_t u) : xp_t u' = xp_t u := congrArg (fun t => (t.1, t.2.1, t.2.2.1, t.2.2.2.1, t.2.2.2.2.1, t.2.2.2.2.2.1, t.2.2.2.2.2.2.1, t.2.2.2.2.2.2.2.1, t.2.2.2.2.2.2.2.2.1, t.2.2.2.2.2.2.2.2.2.1, t.2.2.2.2.2.2.2.2.2.2.1, t.2.2.2.2.2.2.2.2.2.2.2.1, t.2.2.2.2.2.2.2.2.2.2.2.2.1, t.2.2.2.2.2.2.2.2.2.2.2.2.2.1, t.2.2.2.2.2.2.2.2.2.2.2.2.2.2.1, t.2.2.2.2.2.2.2.2.2.2.2.2.2.2.2.1, t.2.2.2.2.2.2.2.2.2.2.2.2.2.2.2.2.1, t.2.2.2.2.2.2.2.2.2.2.2.2.2.2.2.2.2.1, t.2.2.2.2.2.2.2.2.2.2.2.2.2.2.2.2.2.2.1, t.2.2.2.2.2.2.2.2.2.2.2.2.2.2.2.2.2.2.2.1, t.2.2.2.2.2.2.2.2.2.2.2.2.2.2.2.2.2.2.2.2.1, t.2.2.2.2.2.2.2.2.2.2.2.2.2.2.2.2.2.2.2.2.2.1, t.2.2.2.2.2.2.2.2.2.2.2.2.2.2.2.2.2.2.2.2.2.2.1, t.2.2.2.2.2.2.2.2.2.2.2.2.2.2.2.2.2.2.2.2.2.2.2.1, t.2.2.2.2.2.2.2.2.2.2.2.2.2.2.2.2.2.2.2.2.2.2.2.2.1, t.2.2.2.2.2.2.2.2.2.2.2.2.2.2.2.2.2.2.2.2.2.2.2.2.2.1, t.2.2.2.2.2.2.2.2.2.2.2.2.2.2.2.2.2.2.2.2.2.2.2.2.2.2.1, t.2.2.2.2.2.2.2.2.2.2.2.2.2.2.2.2.2.2.2.2.2.2.2.2.2.2.2.1, t.2.2.2.2.2.2.2.2.2.2.2.2.2.2.2.2.2.2.2.2.2.2.2.2.2.2.2.2.1, t.2.2.2.2.2.2.2.2.2.2.2.2.2.2.2.2.2.2.2.2.2.2.2.2.2.2.2.2.2.1, t.2.2.2.2.2.2.2.2.2.2.2.2.2.2.2.2.2.2.2.2.2.2.2.2.2.2.2.2.2.2.1, t.2.2.2.2.2.2.2.2.2.2.2.2.2.2.2.2.2.2.2.2.2.2.2.2.2.2.2.2.2.2.2.1, t.2.2.2.2.2.2.2.2.2.2.2.2.2.2.2.2.2.2.2.2.2.2.2.2.2.2.2.2.2.2.2.2.1, t.2.2.2.2.2.2.2.2.2.2.2.2.2.2.2.2.2.2.2.2.2.2.2.2.2.2.2.2.2.2.2.2.2.1, t.2.2.2.2.2.2.2.2.2.2.2.2.2.2.2.2.2.2.2.2.2.2.2.2.2.2.2.2.2.2.2.2.2.2.1)) h
end
section
/-! removing dead rows: the walk -/
def ze_q (u u' : SX) : Prop := xz_t u' = xz_t u ∧ xg_irOp u' = xg_irOp u ∧ xg_irA u' = xg_irA u ∧ xg_irB u' = xg_irB u ∧ xg_irD u' = xg_irD u ∧ xg_irCount u' = xg_irCount u
theorem ze_tr {u u1 u2 : SX} (h1 : ze_q u u1) (h2 : ze_q u1 u2) : ze_q u u2 := ⟨h2.1.trans h1.1, h2.2.1.trans h1.2.1, h2.2.2.1.trans h1.2.2.1, h2.2.2.2.1.trans h1.2.2.2.1, h2.2.2.2.2.1.trans h1.2.2.2.2.1, h2.2.2.2.2.2.trans h1.2.2.2.2.2⟩
theorem ze_rf (u : SX) : ze_q u u := ⟨rfl, rfl, rfl, rfl, rfl, rfl⟩
section
variable {s ic ec vc k0 : Nat} {u0 : SX}
/-- the last loop: the kept rows move down -/
theorem xw_ed184 {post : SX → Prop} {cs ms : Int32} {mk : Int64} {o a b d us om : Nat → Int32} (hs : s < 8) (hic : ic ≤ 256) (hb : xg_bIr u0 = nI (256 * s)) (hi0 : xg_irCount u0 = nI ic)
    (hm : ∀ j : Nat, j < ic → dz_m o a b d us om j ∧ o j ≠ 0)
    (K : ∀ (u' : SX) (k : Nat), xz_t u' = xz_t u0 → xg_irCount u' = nI k → k ≤ ic → dz_S cs ms mk o a b d us (bo_o u' s) (bo_a u' s) (bo_b u' s) (bo_d u' s) k ic → (∀ t : Nat, t ≠ s → bo_o u' t = bo_o u0 t ∧ bo_a u' t = bo_a u0 t ∧ bo_b u' t = bo_b u0 t ∧ bo_d u' t = bo_d u0 t) → post u') :
    ∀ (r i k : Nat), i + r = ic → k ≤ i → ∀ u : SX, xz_t u = xz_t u0 → xg_irCount u = nI ic → dz_S cs ms mk o a b d us (bo_o u s) (bo_a u s) (bo_b u s) (bo_d u s) k i → (∀ j : Nat, i ≤ j → j < ic → bo_o u s j = om j ∧ bo_a u s j = a j ∧ bo_b u s j = b j ∧ bo_d u s j = d j) →
      (∀ t : Nat, t ≠ s → bo_o u t = bo_o u0 t ∧ bo_a u t = bo_a u0 t ∧ bo_b u t = bo_b u0 t ∧ bo_d u t = bo_d u0 t) → ∀ n : Nat, r < n → xq_eliminateDead_184 post n (nI k) (nI i) u := by
  intro r
  induction r with
  | zero =>
    intro i k hir hki u hx hc hS hj ho n hn
    obtain ⟨n, rfl⟩ : ∃ m, n = m + 1 := ⟨n - 1, by omega⟩
    have e : i = ic := by omega
    subst e
    rw [xu_eliminateDead_184, hc]
    refine br_t (Int32.le_refl _) ?_
    exact K _ k hx rfl hki hS ho
  | succ r ih =>
    intro i k hir hki u hx hc hS hj ho n hn
    obtain ⟨n, rfl⟩ : ∃ m, n = m + 1 := ⟨n - 1, by omega⟩
    obtain ⟨i1, i2⟩ := bb_ix hs (k := i) (by omega)
    obtain ⟨k1, k2⟩ := bb_ix hs (k := k) (by omega)
    have hbu : xg_bIr u = nI (256 * s) := (xz_bIr hx).trans hb
    have eo : bo_o u s i = xg_irOp u (256 * s + i) := sl_at (by omega)
    have ea : bo_a u s i = xg_irA u (256 * s + i) := sl_at (by omega)
    have eb : bo_b u s i = xg_irB u (256 * s + i) := sl_at (by omega)
    have ed : bo_d u s i = xg_irD u (256 * s + i) := sl_at (by omega)
    obtain ⟨g1, g2, g3, g4⟩ := hj i (Nat.le_refl _) (by omega)
    rw [xu_eliminateDead_184, hc, hbu]
    refine br_f (nI_ge (by omega) (by omega)) (nm_e ?_)
    rw [i2, ← eo, ← ea, ← eb, ← ed, g1, g2, g3, g4]
    refine ⟨i1, br_c (fun h0 => nm_r (nI_1 i) ?_) (fun h0 => nm_e ?_)⟩
    · obtain ⟨hmi, hne⟩ := hm i (by omega)
      rcases hmi with ⟨_, q2, q3⟩ | ⟨q1, _⟩
      · exact ih (i + 1) k (by omega) (by omega) u hx hc (dz_rm hS q2 q3) (fun j h1 h2 => hj j (by omega) h2) ho n (by omega)
      · exact absurd (q1.symm.trans h0) hne
    · obtain ⟨hmi, hne⟩ := hm i (by omega)
      rcases hmi with ⟨q1, _⟩ | ⟨q1, q2, q3⟩
      · exact absurd q1 h0
      · rw [k2]
        refine ⟨i1, k1, nm_e ⟨i1, k1, nm_e ⟨i1, k1, nm_e ⟨i1, k1, nm_e (nm_r (nI_1 k) (nm_r (nI_1 i) ?_))⟩⟩⟩⟩
        obtain ⟨u2, hu2⟩ : ∃ u2, u2 = xs_irD (xs_irB (xs_irA (xs_irOp u (upd (xg_irOp u) (256 * s + k) (om i))) (upd (xg_irA u) (256 * s + k) (a i))) (upd (xg_irB u) (256 * s + k) (b i))) (upd (xg_irD u) (256 * s + k) (d i)) := ⟨_, rfl⟩
        have z1 : xz_t u2 = xz_t u := by rw [hu2]; rfl
        have z2 : xg_irCount u2 = xg_irCount u := by rw [hu2]; rfl
        have z3 : bo_o u2 s = upd (bo_o u s) k (om i) ∧ bo_a u2 s = upd (bo_a u s) k (a i) ∧ bo_b u2 s = upd (bo_b u s) k (b i) ∧ bo_d u2 s = upd (bo_d u s) k (d i) := by
          rw [hu2]; exact ⟨sl_upd (by omega), sl_upd (by omega), sl_upd (by omega), sl_upd (by omega)⟩
        have z4 : ∀ t : Nat, t ≠ s → bo_o u2 t = bo_o u t ∧ bo_a u2 t = bo_a u t ∧ bo_b u2 t = bo_b u t ∧ bo_d u2 t = bo_d u t := fun t ht => by
          rw [hu2]; exact ⟨sl_oth (by omega) ht, sl_oth (by omega) ht, sl_oth (by omega) ht, sl_oth (by omega) ht⟩
        rw [← hu2]
        obtain ⟨w1, w2, w3, w4⟩ := z3
        refine ih (i + 1) (k + 1) (by omega) (by omega) u2 (z1.trans hx) (z2.trans hc) ?_ (fun j h1 h2 => ?_) (fun t ht => ?_) n (by omega)
        · rw [w1, w2, w3, w4, q1]; exact dz_kp hS q2 q3
        · rw [w1, w2, w3, w4, pk_un (by omega), pk_un (by omega), pk_un (by omega), pk_un (by omega)]
          exact hj j (by omega) h2
        · obtain ⟨a1, a2, a3, a4⟩ := z4 t ht
          obtain ⟨b1, b2, b3, b4⟩ := ho t ht
          exact ⟨a1.trans b1, a2.trans b2, a3.trans b3, a4.trans b4⟩
theorem xw_ed74 {post : SX → Prop} {cs ms : Int32} {mk : Int64} {o a b d kf kv df : Nat → Int32} (hs : s < 8) (hic : ic ≤ 256) (hb : xg_bIr u0 = nI (256 * s)) (hi0 : xg_irCount u0 = nI ic)
    (hW : bg_W ic vc o a b d kf kv df) (hv : ∀ i : Nat, i < ic → vp_in (a i) 256 ∧ vp_in (b i) 256 ∧ vp_in (d i) 256) (h3 : ∀ i : Nat, i < ic → 3 ≤ o i) (P : (Nat → Int32) → Prop) (hP : ∀ (us : Nat → Int32) (v : Nat), P us → P (upd us v 1))
    (ea0 : bo_a u0 s = a) (eb0 : bo_b u0 s = b) (ed0 : bo_d u0 s = d)
    (K : ∀ (u' : SX) (k : Nat) (us : Nat → Int32), xz_t u' = xz_t u0 → xg_irCount u' = nI k → k ≤ ic → P us → dz_S cs ms mk o a b d us (bo_o u' s) (bo_a u' s) (bo_b u' s) (bo_d u' s) k ic → (∀ t : Nat, t ≠ s → bo_o u' t = bo_o u0 t ∧ bo_a u' t = bo_a u0 t ∧ bo_b u' t = bo_b u0 t ∧ bo_d u' t = bo_d u0 t) → post u') :
    ∀ (r : Nat), r ≤ ic → ∀ u : SX, xz_t u = xz_t u0 → xg_irCount u = nI ic → xg_irA u = xg_irA u0 → xg_irB u = xg_irB u0 → xg_irD u = xg_irD u0 → (∀ j : Nat, j < r → bo_o u s j = o j) → (∀ j : Nat, r ≤ j → j < ic → dz_m o a b d (xg_used u) (bo_o u s) j) → P (xg_used u) → (∀ t : Nat, t ≠ s → bo_o u t = bo_o u0 t) → ∀ n : Nat, r < n → xq_eliminateDead_74 post n (ld_x r) u := by
  have h0 : ∀ j : Nat, j < ic → o j ≠ 0 := fun j hj z => absurd (z ▸ h3 j hj) (by decide)
  intro r
  induction r with
  | zero =>
    intro hr u hx hc fa fb fd hj hmk hPu ho n hn
    obtain ⟨n, rfl⟩ : ∃ m, n = m + 1 := ⟨n - 1, by omega⟩
    rw [xu_eliminateDead_74]
    refine br_t (by decide) ⟨ic + 1, ?_⟩
    have ga : ∀ t, bo_a u t = bo_a u0 t := fun t => by unfold bo_a; rw [fa]
    have gb : ∀ t, bo_b u t = bo_b u0 t := fun t => by unfold bo_b; rw [fb]
    have gd : ∀ t, bo_d u t = bo_d u0 t := fun t => by unfold bo_d; rw [fd]
    refine xw_ed184 (u0 := u0) (o := o) (a := a) (b := b) (d := d) (us := xg_used u) (om := bo_o u s) (cs := cs) (ms := ms) (mk := mk) hs hic hb hi0 (fun j hj => ⟨hmk j (Nat.zero_le _) hj, h0 j hj⟩) (fun u' k g1 g2 g3 g4 g5 => K u' k (xg_used u) g1 g2 g3 hPu g4 g5) ic 0 0 (by omega) (Nat.le_refl _) u hx hc dz_0 (fun j _ h2 => ⟨rfl, ?_, ?_, ?_⟩) (fun t ht => ⟨ho t ht, ga t, gb t, gd t⟩) (ic + 1) (by omega)
    · rw [ga, ea0]
    · rw [gb, eb0]
    · rw [gd, ed0]
  | succ r ih =>
    intro hr u hx hc fa fb fd hj hmk hPu ho n hn
    obtain ⟨n, rfl⟩ : ∃ m, n = m + 1 := ⟨n - 1, by omega⟩
    obtain ⟨i1, i2⟩ := bb_ix hs (k := r) (by omega)
    have hbu : xg_bIr u = nI (256 * s) := (xz_bIr hx).trans hb
    have eo : o r = xg_irOp u (256 * s + r) := by rw [← hj r (by omega)]; exact sl_at (by omega)
    have ea : a r = xg_irA u (256 * s + r) := by rw [← ea0, fa]; exact sl_at (by omega)
    have eb : b r = xg_irB u (256 * s + r) := by rw [← eb0, fb]; exact sl_at (by omega)
    have ed : d r = xg_irD u (256 * s + r) := by rw [← ed0, fd]; exact sl_at (by omega)
    obtain ⟨va, vb, vd⟩ := hv r (by omega)
    -- keep row r
    have h150 : xq_eliminateDead_150 post (fun j1 w => xq_eliminateDead_74 post n j1 w) (nI r) (nI (256 * s) + nI r) u := by
      rw [xu_eliminateDead_150, i2, ← ea, ← eb]
      refine ⟨i1, va, nm_e ⟨i1, vb, nm_e (nm_r (ld_m r) ?_)⟩⟩
      obtain ⟨u2, hu2⟩ : ∃ u2, u2 = xs_used u (upd (upd (xg_used u) (a r).toNatClampNeg 1) (b r).toNatClampNeg 1) := ⟨_, rfl⟩
      have z1 : xz_t u2 = xz_t u := by rw [hu2]; rfl
      have z2 : xg_irCount u2 = xg_irCount u ∧ xg_irA u2 = xg_irA u ∧ xg_irB u2 = xg_irB u ∧ xg_irD u2 = xg_irD u := by rw [hu2]; exact ⟨rfl, rfl, rfl, rfl⟩
      have z3 : ∀ t, bo_o u2 t = bo_o u t := fun t => by rw [hu2]; rfl
      have z4 : xg_used u2 = upd (upd (xg_used u) (a r).toNatClampNeg 1) (b r).toNatClampNeg 1 := by rw [hu2]; rfl
      show xq_eliminateDead_74 post n (ld_x r) (xs_used u (upd (upd (xg_used u) (a r).toNatClampNeg 1) (b r).toNatClampNeg 1))
      rw [← hu2]
      have nz : ∀ v : Nat, xg_used u v ≠ 0 → xg_used u2 v ≠ 0 := fun v hv' => by
        rw [z4]
        by_cases e1 : v = (b r).toNatClampNeg
        · rw [e1, pk_us]; decide
        · rw [pk_un e1]
          by_cases e2 : v = (a r).toNatClampNeg
          · rw [e2, pk_us]; decide
          · rw [pk_un e2]; exact hv'
      refine ih (by omega) u2 (z1.trans hx) (z2.1.trans hc) (z2.2.1.trans fa) (z2.2.2.1.trans fb) (z2.2.2.2.trans fd) (fun j h => by rw [z3]; exact hj j (by omega)) (fun j h1 h2 => ?_) (by rw [z4]; exact hP _ _ (hP _ _ hPu)) (fun t ht => (z3 t).trans (ho t ht)) n (by omega)
      by_cases e : j = r
      · subst e
        refine Or.inr ⟨by rw [z3]; exact hj j (by omega), ?_, ?_⟩
        · rw [z4]
          by_cases e1 : (a j).toNatClampNeg = (b j).toNatClampNeg
          · rw [e1, pk_us]; decide
          · rw [pk_un e1, pk_us]; decide
        · rw [z4, pk_us]; decide
      · rcases hmk j (by omega) h2 with ⟨q1, q2, q3⟩ | ⟨q1, q2, q3⟩
        · refine Or.inl ⟨by rw [z3]; exact q1, q2, ?_⟩
          have w := (bg_W1 hW j h2 q2).1 r (by omega)
          rw [z4, pk_un (fun z => w.2 z.symm), pk_un (fun z => w.1 z.symm)]; exact q3
        · exact Or.inr ⟨by rw [z3]; exact q1, nz _ q2, nz _ q3⟩
    have h119 : ∀ z : Int32, (z ≠ 0 → bg_df (o r)) → xq_eliminateDead_119 post (fun j1 w => xq_eliminateDead_74 post n j1 w) (nI r) (nI (256 * s) + nI r) z u := fun z hz => by
      rw [xu_eliminateDead_119, i2, ← ed]
      refine br_c (fun _ => h150) (fun hz1 => ⟨i1, vd, br_c (fun hu => ⟨i1, nm_e (nm_r (ld_m r) ?_)⟩) (fun _ => h150)⟩)
      obtain ⟨u2, hu2⟩ : ∃ u2, u2 = xs_irOp u (upd (xg_irOp u) (256 * s + r) 0) := ⟨_, rfl⟩
      have z1 : xz_t u2 = xz_t u := by rw [hu2]; rfl
      have z2 : xg_irCount u2 = xg_irCount u ∧ xg_irA u2 = xg_irA u ∧ xg_irB u2 = xg_irB u ∧ xg_irD u2 = xg_irD u ∧ xg_used u2 = xg_used u := by rw [hu2]; exact ⟨rfl, rfl, rfl, rfl, rfl⟩
      have z3 : bo_o u2 s = upd (bo_o u s) r 0 := by rw [hu2]; exact sl_upd (by omega)
      have z4 : ∀ t : Nat, t ≠ s → bo_o u2 t = bo_o u t := fun t ht => by rw [hu2]; exact sl_oth (by omega) ht
      show xq_eliminateDead_74 post n (ld_x r) (xs_irOp u (upd (xg_irOp u) (256 * s + r) 0))
      rw [← hu2]
      refine ih (by omega) u2 (z1.trans hx) (z2.1.trans hc) (z2.2.1.trans fa) (z2.2.2.1.trans fb) (z2.2.2.2.1.trans fd) (fun j h => by rw [z3, pk_un (by omega)]; exact hj j (by omega)) (fun j h1 h2 => ?_) (by rw [z2.2.2.2.2]; exact hPu) (fun t ht => (z4 t ht).trans (ho t ht)) n (by omega)
      rw [z2.2.2.2.2]
      unfold dz_m
      rw [z3]
      by_cases e : j = r
      · subst e; rw [pk_us]; exact Or.inl ⟨rfl, hz hz1, hu⟩
      · rw [pk_un e]; exact hmk j (by omega) h2
    have h114 : bg_df (o r) → xq_eliminateDead_114 post (fun j1 w => xq_eliminateDead_74 post n j1 w) (nI r) (nI (256 * s) + nI r) u := fun hd => by
      rw [xu_eliminateDead_114]; exact h119 1 (fun _ => hd)
    rw [xu_eliminateDead_74]
    show ((nI r < 0 → _) ∧ (¬ nI r < 0 → _))
    rw [hbu]
    refine br_f (nI_pos (by omega)) (nm_e ?_)
    rw [show ld_x (r + 1) = nI r from rfl, i2, ← eo]
    exact ⟨i1, nm_e (br_c (fun e => h114 (Or.inl e)) (fun _ => br_c (fun e => h114 (Or.inr (Or.inl e))) (fun _ => br_c (fun e => h114 (Or.inr (Or.inr e))) (fun _ => h119 0 (fun z => absurd rfl z)))))⟩
end
end
section
/-! dead rows, the first loops -/
section
variable {s ic ec vc : Nat} {u0 : SX}
theorem xw_ed36 {post : SX → Prop} {cs ms : Int32} {mk : Int64} {kf kv df : Nat → Int32} (hs : s < 8) (hic : ic ≤ 256) (hec : ec ≤ 128) (hb : xg_bIr u0 = nI (256 * s)) (hi0 : xg_irCount u0 = nI ic) (he0 : xg_exitCount u0 = nI ec)
    (hW : bg_W ic vc (bo_o u0 s) (bo_a u0 s) (bo_b u0 s) (bo_d u0 s) kf kv df) (hv : ∀ i : Nat, i < ic → vp_in (bo_a u0 s i) 256 ∧ vp_in (bo_b u0 s i) 256 ∧ vp_in (bo_d u0 s i) 256) (h3 : ∀ i : Nat, i < ic → 3 ≤ bo_o u0 s i) (hsn : ∀ q : Nat, q < 8 * ec → vp_in (bo_sn u0 s q) 256)
    (K : ∀ (u' : SX) (k : Nat) (us : Nat → Int32), xz_t u' = xz_t u0 → xg_irCount u' = nI k → k ≤ ic → (∀ q : Nat, q < 8 * ec → us (bo_sn u0 s q).toNatClampNeg ≠ 0) → dz_S cs ms mk (bo_o u0 s) (bo_a u0 s) (bo_b u0 s) (bo_d u0 s) us (bo_o u' s) (bo_a u' s) (bo_b u' s) (bo_d u' s) k ic → (∀ t : Nat, t ≠ s → bo_o u' t = bo_o u0 t ∧ bo_a u' t = bo_a u0 t ∧ bo_b u' t = bo_b u0 t ∧ bo_d u' t = bo_d u0 t) → post u') :
    ∀ (r i : Nat), i + r = 8 * ec → ∀ u : SX, ze_q u0 u → (∀ q : Nat, q < i → xg_used u (bo_sn u0 s q).toNatClampNeg ≠ 0) → ∀ n : Nat, r < n → xq_eliminateDead_36 post (nI (1024 * s)) n (nI i) u := by
  intro r
  induction r with
  | zero =>
    intro i hir u hz hu n hn
    obtain ⟨n, rfl⟩ : ∃ m, n = m + 1 := ⟨n - 1, by omega⟩
    have e : i = 8 * ec := by omega
    subst e
    have e8 : xg_exitCount u * 8 = nI (8 * ec) := by rw [xz_exitCount hz.1, he0, show (8 : Int32) = nI 8 from rfl, pk_mul, Nat.mul_comm]
    have hc : xg_irCount u = nI ic := hz.2.2.2.2.2.trans hi0
    rw [xu_eliminateDead_36, e8, hc, ld_p]
    refine br_t (Int32.le_refl _) (nm_e ⟨ic + 1, ?_⟩)
    refine xw_ed74 (u0 := u0) (P := fun us => ∀ q : Nat, q < 8 * ec → us (bo_sn u0 s q).toNatClampNeg ≠ 0) (cs := cs) (ms := ms) (mk := mk) hs hic hb hi0 hW hv h3 (fun us v h q hq => ?_) rfl rfl rfl K ic (Nat.le_refl _) u hz.1 hc hz.2.2.1 hz.2.2.2.1 hz.2.2.2.2.1 (fun j _ => by unfold bo_o; rw [hz.2.1]) (fun j h1 h2 => by omega) hu (fun t _ => by unfold bo_o; rw [hz.2.1]) (ic + 1) (by omega)
    by_cases e : (bo_sn u0 s q).toNatClampNeg = v
    · rw [e, pk_us]; decide
    · rw [pk_un e]; exact h q hq
  | succ r ih =>
    intro i hir u hz hu n hn
    obtain ⟨n, rfl⟩ : ∃ m, n = m + 1 := ⟨n - 1, by omega⟩
    have e8 : xg_exitCount u * 8 = nI (8 * ec) := by rw [xz_exitCount hz.1, he0, show (8 : Int32) = nI 8 from rfl, pk_mul, Nat.mul_comm]
    have es : bo_sn u0 s i = xg_snap u (1024 * s + i) := by rw [xz_snap hz.1]; exact sl_at (by omega)
    rw [xu_eliminateDead_36, e8, nI_add, nI_clamp (by omega), ← es]
    refine br_f (nI_ge (by omega) (by omega)) ⟨vp_in_nI (by omega) (by decide), hsn i (by omega), nm_e (nm_r (nI_1 i) ?_)⟩
    obtain ⟨u2, hu2⟩ : ∃ u2, u2 = xs_used u (upd (xg_used u) (bo_sn u0 s i).toNatClampNeg 1) := ⟨_, rfl⟩
    have z1 : ze_q u u2 := by rw [hu2]; exact ⟨rfl, rfl, rfl, rfl, rfl, rfl⟩
    have z4 : xg_used u2 = upd (xg_used u) (bo_sn u0 s i).toNatClampNeg 1 := by rw [hu2]; rfl
    show xq_eliminateDead_36 post (nI (1024 * s)) n (nI (i + 1)) (xs_used u (upd (xg_used u) (bo_sn u0 s i).toNatClampNeg 1))
    rw [← hu2]
    refine ih (i + 1) (by omega) u2 (ze_tr hz z1) (fun q hq => ?_) n (by omega)
    rw [z4]
    by_cases e : (bo_sn u0 s q).toNatClampNeg = (bo_sn u0 s i).toNatClampNeg
    · rw [e, pk_us]; decide
    · rw [pk_un e]; exact hu q (by
        have : q ≠ i := fun z => e (by rw [z])
        omega)
theorem xw_ed2 {post : SX → Prop} (hs : s < 8) (hb : xg_buildSlot u0 = nI s) (K : ∀ u : SX, ze_q u0 u → ∃ n : Nat, xq_eliminateDead_36 post (nI (1024 * s)) n 0 u) :
    ∀ (r i : Nat), i + r = 256 → ∀ u : SX, ze_q u0 u → ∀ n : Nat, r < n → xq_eliminateDead_2 post n (nI i) u := by
  intro r
  induction r with
  | zero =>
    intro i hir u hz n hn
    obtain ⟨n, rfl⟩ : ∃ m, n = m + 1 := ⟨n - 1, by omega⟩
    have e : i = 256 := by omega
    subst e
    have e8 : xg_buildSlot u * 128 * 8 = nI (1024 * s) := by
      rw [xz_buildSlot hz.1, hb, show (8 : Int32) = nI 8 from rfl, show (128 : Int32) = nI 128 from rfl, pk_mul, pk_mul]
      exact congrArg nI (by omega)
    rw [xu_eliminateDead_2, e8]
    exact br_t (Int32.le_refl _) (nm_e (K u hz))
  | succ r ih =>
    intro i hir u hz n hn
    obtain ⟨n, rfl⟩ : ∃ m, n = m + 1 := ⟨n - 1, by omega⟩
    rw [xu_eliminateDead_2]
    refine br_f (nI_ge (b := 256) (by omega) (by decide)) ⟨vp_in_nI (by omega) (by decide), nm_e (nm_r (nI_1 i) ?_)⟩
    refine ih (i + 1) (by omega) _ (ze_tr hz ?_) n (by omega)
    exact ⟨rfl, rfl, rfl, rfl, rfl, rfl⟩
theorem xw_dead {post : SX → Prop} {cs ms : Int32} {mk : Int64} {kf kv df : Nat → Int32} (hs : s < 8) (hic : ic ≤ 256) (hec : ec ≤ 128) (hbs : xg_buildSlot u0 = nI s) (hb : xg_bIr u0 = nI (256 * s)) (hi0 : xg_irCount u0 = nI ic) (he0 : xg_exitCount u0 = nI ec)
    (hW : bg_W ic vc (bo_o u0 s) (bo_a u0 s) (bo_b u0 s) (bo_d u0 s) kf kv df) (hv : ∀ i : Nat, i < ic → vp_in (bo_a u0 s i) 256 ∧ vp_in (bo_b u0 s i) 256 ∧ vp_in (bo_d u0 s i) 256) (h3 : ∀ i : Nat, i < ic → 3 ≤ bo_o u0 s i) (hsn : ∀ q : Nat, q < 8 * ec → vp_in (bo_sn u0 s q) 256)
    (K : ∀ (u' : SX) (k : Nat) (us : Nat → Int32), xz_t u' = xz_t u0 → xg_irCount u' = nI k → k ≤ ic → (∀ q : Nat, q < 8 * ec → us (bo_sn u0 s q).toNatClampNeg ≠ 0) → dz_S cs ms mk (bo_o u0 s) (bo_a u0 s) (bo_b u0 s) (bo_d u0 s) us (bo_o u' s) (bo_a u' s) (bo_b u' s) (bo_d u' s) k ic → (∀ t : Nat, t ≠ s → bo_o u' t = bo_o u0 t ∧ bo_a u' t = bo_a u0 t ∧ bo_b u' t = bo_b u0 t ∧ bo_d u' t = bo_d u0 t) → post u') :
    wpX_eliminateDead post u0 := by
  rw [xu_eliminateDead]
  exact ⟨257, xw_ed2 hs hbs (fun u hz => ⟨8 * ec + 1, xw_ed36 hs hic hec hb hi0 he0 hW hv h3 hsn K (8 * ec) 0 (by omega) u hz (fun q hq => by omega) (8 * ec + 1) (by omega)⟩) 256 0 (by omega) u0 (ze_rf u0) 257 (by omega)⟩
end
/-! translating one row of the recording -/
def cl_F (u : SX) (s ic vc ec c i cc : Nat) : Prop := s < 8 ∧ xg_buildSlot u = nI s ∧ xg_bIr u = nI (256 * s) ∧ xg_bVal u = nI (256 * s) ∧ xg_irCount u = nI ic ∧ ic ≤ 256 ∧ xg_valCount u = nI vc ∧ 8 ≤ vc ∧ vc ≤ 256 ∧ xg_exitCount u = nI ec ∧ 1 ≤ ec ∧ ec ≤ 128 ∧ xg_codeSize u = nI c ∧ c ≤ 64 ∧ xg_crossCount u = nI cc ∧ cc ≤ i ∧ i ≤ 96
def cl_O (s : Nat) (u u' : SX) : Prop := bb_O s u u' ∧ ∀ t : Nat, t ≠ s → bo_tg u' t = bo_tg u t
theorem cl_O_tr {s : Nat} {u u1 u2 : SX} (h1 : cl_O s u u1) (h2 : cl_O s u1 u2) : cl_O s u u2 := by
  refine ⟨fun t ht => ?_, fun t ht => (h2.2 t ht).trans (h1.2 t ht)⟩
  obtain ⟨a1, a2, a3, a4, a5, a6, a7, a8, a9, a10⟩ := h1.1 t ht
  obtain ⟨b1, b2, b3, b4, b5, b6, b7, b8, b9, b10⟩ := h2.1 t ht
  exact ⟨b1.trans a1, b2.trans a2, b3.trans a3, b4.trans a4, b5.trans a5, b6.trans a6, b7.trans a7, b8.trans a8, b9.trans a9, b10.trans a10⟩
theorem cl_O_rf (s : Nat) (u : SX) : cl_O s u u := ⟨fun _ _ => ⟨rfl, rfl, rfl, rfl, rfl, rfl, rfl, rfl, rfl, rfl⟩, fun _ _ => rfl⟩
section
variable {s ic vc ec c pn q m i cc : Nat} {u : SX}
def cl_K (post : SX → Prop) (s c pn q i cc : Nat) (u : SX) (ic vc ec : Nat) : Prop := ∀ (u' : SX) (ic' vc' ec' cc' : Nat), xp_t u' = xp_t u → cl_O s u u' → cl_F u' s ic' vc' ec' c (i + 1) cc' → bb_S u' s ic' vc' ec' → (∀ j : Nat, j < cc' → vp_in (bo_tg u' s j) 64) → (xg_buildOk u' ≠ 0 → xg_buildOk u ≠ 0 ∧ (bb_G u s ic vc ec c pn i cc → bb_G u' s ic' vc' ec' c q (i + 1) cc')) → post u'
theorem xw_tr87 {post : SX → Prop} {u1 : SX} {ic1 vc1 ec1 : Nat} (hcc : cc ≤ i) (hi : i < 96) (hrp : xg_recPc u1 i = nI pn) (hrn : xg_recNext u1 i = nI q) (hq : q < c) (htg : ∀ j : Nat, j < cc → vp_in (bo_tg u1 s j) 64)
    (hx : xp_t u1 = xp_t u) (hO : cl_O s u u1) (hF : bb_F u1 s ic1 vc1 ec1 c pn i cc) (hS : bb_S u1 s ic1 vc1 ec1)
    (H : xg_buildOk u1 ≠ 0 → xg_buildOk u ≠ 0 ∧ (bb_G u s ic vc ec c pn i cc → bb_W u1 s ic1 vc1 ∧ bb_X u1 s ic1 vc1 ec1 c i cc ∧ tr_M u1 s ic1 vc1 i pn q cc)) (K : cl_K post s c pn q i cc u ic vc ec) : xq_translate_87 post (nI i) u1 := by
  obtain ⟨hs, f1, f2, f3, f4, f5, f6, f7, f8, f9, f10, f11, f12, f13, f14, f15, f16, f17, f18, f19⟩ := id hF
  have hv : vp_in (nI i) 96 := vp_in_nI hi (by decide)
  have eix : nI s * 96 + nI cc = nI (96 * s + cc) := by
    rw [show (96 : Int32) = nI 96 from rfl, pk_mul, nI_add]
    exact congrArg nI (by omega)
  rw [xu_translate_87, nI_clamp (by omega), hrp, hrn, f18, f1, eix, nI_clamp (by omega)]
  refine ⟨hv, hv, pk_lt pn q (fun hpq => ?_) (fun hpq => br_f (nI_ge (b := 96) (by omega) (by decide)) ⟨hv, vp_in_nI (by omega) (by decide), nm_e (nm_r (nI_1 cc) ?_)⟩)⟩
  · refine K u1 ic1 vc1 ec1 cc hx hO ⟨hs, f1, f2, f3, f4, f5, f6, f7, f8, f9, f10, f11, f12, f13, f18, by omega, by omega⟩ hS htg (fun ok => ⟨(H ok).1, fun hG => ?_⟩)
    obtain ⟨g1, g2, g3⟩ := (H ok).2 hG
    exact ⟨g1, g3.1 hpq, bg_Xt (fun _ _ => rfl) (by omega) (Nat.le_refl _) g2⟩
  · have et : bo_tg (xs_trTargets (xs_crossCount u1 (nI (cc + 1))) (upd (xg_trTargets u1) (96 * s + cc) (nI q))) s = upd (bo_tg u1 s) cc (nI q) := sl_upd (by omega)
    refine K _ ic1 vc1 ec1 (cc + 1) hx ⟨hO.1, fun t ht => ?_⟩ ⟨hs, f1, f2, f3, f4, f5, f6, f7, f8, f9, f10, f11, f12, f13, rfl, by omega, by omega⟩ hS (fun j hj => ?_) (fun ok => ⟨(H ok).1, fun hG => ?_⟩)
    · exact (sl_oth (by omega) ht).trans (hO.2 t ht)
    · rw [et]
      by_cases e : j = cc
      · subst e; rw [pk_us]; exact vp_in_nI (by omega) (by decide)
      · rw [pk_un e]; exact htg j (by omega)
    · obtain ⟨g1, g2, g3⟩ := (H ok).2 hG
      refine ⟨g1, ?_, ?_⟩
      · unfold bb_K; rw [et]; exact g3.2 hpq
      · unfold bb_X; rw [et]; exact bg_Xt (fun j hj => pk_un (by omega)) (by omega) (by omega) g2
theorem xw_translate {post : SX → Prop} {w : Int32} (hi : i < 96) (hrp : xg_recPc u i = nI pn) (hrw : xg_recWord u i = w) (hrn : xg_recNext u i = nI q) (hH : tr_H u c pn q m w) (htg : ∀ j : Nat, j < cc → vp_in (bo_tg u s j) 64) (hF : cl_F u s ic vc ec c i cc) (hS : bb_S u s ic vc ec) (K : cl_K post s c pn q i cc u ic vc ec) : wpX_translate post u (nI i) := by
  obtain ⟨hs, f1, f2, f3, f4, f5, f6, f7, f8, f9, f10, f11, f12, f13, f14, f15, f16⟩ := id hF
  have hv : vp_in (nI i) 96 := vp_in_nI hi (by decide)
  rw [xu_translate, nI_clamp (by omega), hrp, hrw, hrn]
  obtain ⟨u0, hu0⟩ : ∃ u0, u0 = xs_buildPc (xs_buildStep u (nI i)) (nI pn) := ⟨_, rfl⟩
  have z1 : xp_t u0 = xp_t u := by rw [hu0]; rfl
  have z2 : cl_O s u u0 := by rw [hu0]; exact ⟨fun _ _ => ⟨rfl, rfl, rfl, rfl, rfl, rfl, rfl, rfl, rfl, rfl⟩, fun _ _ => rfl⟩
  have z3 : bb_F u0 s ic vc ec c pn i cc := by
    rw [hu0]; exact ⟨hs, f1, f2, f3, f4, f5, f6, f7, f8, f9, f10, f11, f12, f13, rfl, hH.2.2.1, rfl, by omega, f14, by omega⟩
  have z4 : bb_S u0 s ic vc ec := by rw [hu0]; exact hS
  have z5 : bb_G u s ic vc ec c pn i cc → bb_G u0 s ic vc ec c pn i cc := fun hG => by rw [hu0]; exact hG
  have z6 : tr_H u0 c pn q m w := by rw [hu0]; exact hH
  have z7 : xg_buildOk u0 = xg_buildOk u := by rw [hu0]; rfl
  have z8 : bo_tg u0 s = bo_tg u s := by rw [hu0]; rfl
  have z9 : xg_trTargets u0 = xg_trTargets u := by rw [hu0]; rfl
  -- behind the translation of the instruction
  have T : tr_K (fun u1 => xq_translate_87 post (nI i) u1) s c pn q i cc u0 ic vc ec := by
    intro u1 ic1 vc1 ec1 hR hF1 hS1 hG1
    have ht1 : ∀ t, bo_tg u1 t = bo_tg u0 t := fun t => by unfold bo_tg; rw [xo_trTargets hR.1]
    refine xw_tr87 (u := u) (ic := ic) (vc := vc) (ec := ec) f15 hi ?_ ?_ hH.2.2.2.2.2.1 (fun j hj => by rw [ht1, z8]; exact htg j hj) ((xo_xp hR.1).trans z1) (cl_O_tr z2 ⟨hR.2.1, fun t _ => ht1 t⟩) hF1 hS1 (fun ok => ⟨z7 ▸ hR.2.2 ok, fun hG => hG1 ok (z5 hG)⟩) K
    · rw [xp_recPc ((xo_xp hR.1).trans z1)]; exact hrp
    · rw [xp_recNext ((xo_xp hR.1).trans z1)]; exact hrn
  have hfail : xq_translate_37 post (nI i) u0 := by
    rw [xu_translate_37]
    have hf := bb_fail z3 z4
    exact T _ ic vc ec hf.1 hf.2.1 hf.2.2.1 (fun z => absurd rfl z)
  refine ⟨hv, nm_e (nm_e ⟨hv, nm_e ?_⟩)⟩
  rw [← hu0]
  obtain ⟨k, hk32, hk⟩ := dc_o32 w
  refine br_c (fun _ => hfail) (fun n0 => br_c (fun h29 => br_c (fun h15 => br_c (fun h20 => ⟨hv, ?_⟩) (fun h20 => ?_)) (fun h15 => ?_)) (fun _ => hfail))
  · have a1 : 20 < k := by
      have : (20 : Int32) < dc_o w := h20
      rw [hk] at this; exact (nI_ltI (a := 20) (by decide) (by omega)).mp this
    have a2 : k ≤ 29 := by
      have : dc_o w ≤ (29 : Int32) := h29
      rw [hk] at this; exact (nI_leI (b := 29) (by omega) (by decide)).mp this
    exact xw_tjmp z3 z4 z6 T hk (by omega) a2
  · have a1 : 15 < k := by
      have : (15 : Int32) < dc_o w := h15
      rw [hk] at this; exact (nI_ltI (a := 15) (by decide) (by omega)).mp this
    have a2 : k ≤ 20 := by
      have : ¬ (20 : Int32) < dc_o w := h20
      rw [hk] at this; exact Nat.le_of_not_lt (fun z => this (nI_lt (a := 20) z (by omega)))
    exact xw_tacc z3 z4 z6 T hk (by omega) a2
  · have a2 : k ≤ 15 := by
      have : ¬ (15 : Int32) < dc_o w := h15
      rw [hk] at this; exact Nat.le_of_not_lt (fun z => this (nI_lt (a := 15) z (by omega)))
    have a1 : k ≠ 0 := fun z => n0 (by show dc_o w = 0; rw [hk, z]; rfl)
    exact xw_tarith z3 z4 z6 T hk (by omega) a2
end
end
section
/-! a further frame -/
def xj_t (u : SX) : Int32 × Int32 × Int32 × Int32 × Int32 × Int32 × Int32 × Int32 × (Nat → Int32) × (Nat → Int32) × (Nat → Int32) × (Nat → Int32) × (Nat → Int32) × Int32 × Int32 × Int32 × Int32 × Int32 × Int32 × Int32 × Int64 × (Nat → Int32) × (Nat → Int32) × (Nat → Int32) × Int64 × (Nat → Int32) × (Nat → Int32) × (Nat → Int64) × (Nat → Int32) × (Nat → Int32) × (Nat → Int32) × (Nat → Int32) × (Nat → Int32) × (Nat → Int32) × (Nat → Int32) × (Nat → Int32) × (Nat → Int32) × (Nat → Int32) × (Nat → Int32) × (Nat → Int32) × (Nat → Int32) × (Nat → Int32) × (Nat → Int32) := (xg_codeSize u, xg_memSize u, xg_hot u, xg_pc u, xg_status u, xg_steps u, xg_cursor u, xg_outCount u, xg_code u, xg_crossings u, xg_mem u, xg_r u, xg_out u, xg_done u, xg_crossed u, xg_nextPc u, xg_crossedTo u, xg_recording u, xg_recHead u, xg_recLen u, xg_recMask u, xg_recPc u, xg_recWord u, xg_recNext u, xg_runMask u, xg_trHead u, xg_trLen u, xg_trMask u, xg_trIr u, xg_trVals u, xg_trCross u, xg_val u, xg_trTargets u, xg_irOp u, xg_irA u, xg_irB u, xg_irD u, xg_kFlag u, xg_kVal u, xg_exPc u, xg_exSteps u, xg_exCross u, xg_snap u)
theorem xj_codeSize {u u' : SX} (h : xj_t u' = xj_t u) : xg_codeSize u' = xg_codeSize u := congrArg (fun t => t.1) h
theorem xj_memSize {u u' : SX} (h : xj_t u' = xj_t u) : xg_memSize u' = xg_memSize u := congrArg (fun t => t.2.1) h
theorem xj_hot {u u' : SX} (h : xj_t u' = xj_t u) : xg_hot u' = xg_hot u := congrArg (fun t => t.2.2.1) h
theorem xj_pc {u u' : SX} (h : xj_t u' = xj_t u) : xg_pc u' = xg_pc u := congrArg (fun t => t.2.2.2.1) h
theorem xj_status {u u' : SX} (h : xj_t u' = xj_t u) : xg_status u' = xg_status u := congrArg (fun t => t.2.2.2.2.1) h
theorem xj_steps {u u' : SX} (h : xj_t u' = xj_t u) : xg_steps u' = xg_steps u := congrArg (fun t => t.2.2.2.2.2.1) h
theorem xj_cursor {u u' : SX} (h : xj_t u' = xj_t u) : xg_cursor u' = xg_cursor u := congrArg (fun t => t.2.2.2.2.2.2.1) h
theorem xj_outCount {u u' : SX} (h : xj_t u' = xj_t u) : xg_outCount u' = xg_outCount u := congrArg (fun t => t.2.2.2.2.2.2.2.1) h
theorem xj_code {u u' : SX} (h : xj_t u' = xj_t u) : xg_code u' = xg_code u := congrArg (fun t => t.2.2.2.2.2.2.2.2.1) h
theorem xj_crossings {u u' : SX} (h : xj_t u' = xj_t u) : xg_crossings u' = xg_crossings u := congrArg (fun t => t.2.2.2.2.2.2.2.2.2.1) h
theorem xj_mem {u u' : SX} (h : xj_t u' = xj_t u) : xg_mem u' = xg_mem u := congrArg (fun t => t.2.2.2.2.2.2.2.2.2.2.1) h
theorem xj_r {u u' : SX} (h : xj_t u' = xj_t u) : xg_r u' = xg_r u := congrArg (fun t => t.2.2.2.2.2.2.2.2.2.2.2.1) h
theorem xj_out {u u' : SX} (h : xj_t u' = xj_t u) : xg_out u' = xg_out u := congrArg (fun t => t.2.2.2.2.2.2.2.2.2.2.2.2.1) h
theorem xj_done {u u' : SX} (h : xj_t u' = xj_t u) : xg_done u' = xg_done u := congrArg (fun t => t.2.2.2.2.2.2.2.2.2.2.2.2.2.1) h
theorem xj_crossed {u u' : SX} (h : xj_t u' = xj_t u) : xg_crossed u' = xg_crossed u := congrArg (fun t => t.2.2.2.2.2.2.2.2.2.2.2.2.2.2.1) h
theorem xj_nextPc {u u' : SX} (h : xj_t u' = xj_t u) : xg_nextPc u' = xg_nextPc u := congrArg (fun t => t.2.2.2.2.2.2.2.2.2.2.2.2.2.2.2.1) h
theorem xj_crossedTo {u u' : SX} (h : xj_t u' = xj_t u) : xg_crossedTo u' = xg_crossedTo u := congrArg (fun t => t.2.2.2.2.2.2.2.2.2.2.2.2.2.2.2.2.1) h
theorem xj_recording {u u' : SX} (h : xj_t u' = xj_t u) : xg_recording u' = xg_recording u := congrArg (fun t => t.2.2.2.2.2.2.2.2.2.2.2.2.2.2.2.2.2.1) h
theorem xj_recHead {u u' : SX} (h : xj_t u' = xj_t u) : xg_recHead u' = xg_recHead u := congrArg (fun t => t.2.2.2.2.2.2.2.2.2.2.2.2.2.2.2.2.2.2.1) h
theorem xj_recLen {u u' : SX} (h : xj_t u' = xj_t u) : xg_recLen u' = xg_recLen u := congrArg (fun t => t.2.2.2.2.2.2.2.2.2.2.2.2.2.2.2.2.2.2.2.1) h
theorem xj_recMask {u u' : SX} (h : xj_t u' = xj_t u) : xg_recMask u' = xg_recMask u := congrArg (fun t => t.2.2.2.2.2.2.2.2.2.2.2.2.2.2.2.2.2.2.2.2.1) h
theorem xj_recPc {u u' : SX} (h : xj_t u' = xj_t u) : xg_recPc u' = xg_recPc u := congrArg (fun t => t.2.2.2.2.2.2.2.2.2.2.2.2.2.2.2.2.2.2.2.2.2.1) h
theorem xj_recWord {u u' : SX} (h : xj_t u' = xj_t u) : xg_recWord u' = xg_recWord u := congrArg (fun t => t.2.2.2.2.2.2.2.2.2.2.2.2.2.2.2.2.2.2.2.2.2.2.1) h
theorem xj_recNext {u u' : SX} (h : xj_t u' = xj_t u) : xg_recNext u' = xg_recNext u := congrArg (fun t => t.2.2.2.2.2.2.2.2.2.2.2.2.2.2.2.2.2.2.2.2.2.2.2.1) h
theorem xj_runMask {u u' : SX} (h : xj_t u' = xj_t u) : xg_runMask u' = xg_runMask u := congrArg (fun t => t.2.2.2.2.2.2.2.2.2.2.2.2.2.2.2.2.2.2.2.2.2.2.2.2.1) h
theorem xj_trHead {u u' : SX} (h : xj_t u' = xj_t u) : xg_trHead u' = xg_trHead u := congrArg (fun t => t.2.2.2.2.2.2.2.2.2.2.2.2.2.2.2.2.2.2.2.2.2.2.2.2.2.1) h
theorem xj_trLen {u u' : SX} (h : xj_t u' = xj_t u) : xg_trLen u' = xg_trLen u := congrArg (fun t => t.2.2.2.2.2.2.2.2.2.2.2.2.2.2.2.2.2.2.2.2.2.2.2.2.2.2.1) h
theorem xj_trMask {u u' : SX} (h : xj_t u' = xj_t u) : xg_trMask u' = xg_trMask u := congrArg (fun t => t.2.2.2.2.2.2.2.2.2.2.2.2.2.2.2.2.2.2.2.2.2.2.2.2.2.2.2.1) h
theorem xj_trIr {u u' : SX} (h : xj_t u' = xj_t u) : xg_trIr u' = xg_trIr u := congrArg (fun t => t.2.2.2.2.2.2.2.2.2.2.2.2.2.2.2.2.2.2.2.2.2.2.2.2.2.2.2.2.1) h
theorem xj_trVals {u u' : SX} (h : xj_t u' = xj_t u) : xg_trVals u' = xg_trVals u := congrArg (fun t => t.2.2.2.2.2.2.2.2.2.2.2.2.2.2.2.2.2.2.2.2.2.2.2.2.2.2.2.2.2.1) h
theorem xj_trCross {u u' : SX} (h : xj_t u' = xj_t u) : xg_trCross u' = xg_trCross u := congrArg (fun t => t.2.2.2.2.2.2.2.2.2.2.2.2.2.2.2.2.2.2.2.2.2.2.2.2.2.2.2.2.2.2.1) h
theorem xj_val {u u' : SX} (h : xj_t u' = xj_t u) : xg_val u' = xg_val u := congrArg (fun t => t.2.2.2.2.2.2.2.2.2.2.2.2.2.2.2.2.2.2.2.2.2.2.2.2.2.2.2.2.2.2.2.1) h
theorem xj_trTargets {u u' : SX} (h : xj_t u' = xj_t u) : xg_trTargets u' = xg_trTargets u := congrArg (fun t => t.2.2.2.2.2.2.2.2.2.2.2.2.2.2.2.2.2.2.2.2.2.2.2.2.2.2.2.2.2.2.2.2.1) h
theorem xj_irOp {u u' : SX} (h : xj_t u' = xj_t u) : xg_irOp u' = xg_irOp u := congrArg (fun t => t.2.2.2.2.2.2.2.2.2.2.2.2.2.2.2.2.2.2.2.2.2.2.2.2.2.2.2.2.2.2.2.2.2.1) h
theorem xj_irA {u u' : SX} (h : xj_t u' = xj_t u) : xg_irA u' = xg_irA u := congrArg (fun t => t.2.2.2.2.2.2.2.2.2.2.2.2.2.2.2.2.2.2.2.2.2.2.2.2.2.2.2.2.2.2.2.2.2.2.1) h
theorem xj_irB {u u' : SX} (h : xj_t u' = xj_t u) : xg_irB u' = xg_irB u := congrArg (fun t => t.2.2.2.2.2.2.2.2.2.2.2.2.2.2.2.2.2.2.2.2.2.2.2.2.2.2.2.2.2.2.2.2.2.2.2.1) h
theorem xj_irD {u u' : SX} (h : xj_t u' = xj_t u) : xg_irD u' = xg_irD u := congrArg (fun t => t.2.2.2.2.2.2.2.2.2.2.2.2.2.2.2.2.2.2.2.2.2.2.2.2.2.2.2.2.2.2.2.2.2.2.2.2.1) h
theorem xj_kFlag {u u' : SX} (h : xj_t u' = xj_t u) : xg_kFlag u' = xg_kFlag u := congrArg (fun t => t.2.2.2.2.2.2.2.2.2.2.2.2.2.2.2.2.2.2.2.2.2.2.2.2.2.2.2.2.2.2.2.2.2.2.2.2.2.1) h
theorem xj_kVal {u u' : SX} (h : xj_t u' = xj_t u) : xg_kVal u' = xg_kVal u := congrArg (fun t => t.2.2.2.2.2.2.2.2.2.2.2.2.2.2.2.2.2.2.2.2.2.2.2.2.2.2.2.2.2.2.2.2.2.2.2.2.2.2.1) h
theorem xj_exPc {u u' : SX} (h : xj_t u' = xj_t u) : xg_exPc u' = xg_exPc u := congrArg (fun t => t.2.2.2.2.2.2.2.2.2.2.2.2.2.2.2.2.2.2.2.2.2.2.2.2.2.2.2.2.2.2.2.2.2.2.2.2.2.2.2.1) h
theorem xj_exSteps {u u' : SX} (h : xj_t u' = xj_t u) : xg_exSteps u' = xg_exSteps u := congrArg (fun t => t.2.2.2.2.2.2.2.2.2.2.2.2.2.2.2.2.2.2.2.2.2.2.2.2.2.2.2.2.2.2.2.2.2.2.2.2.2.2.2.2.1) h
theorem xj_exCross {u u' : SX} (h : xj_t u' = xj_t u) : xg_exCross u' = xg_exCross u := congrArg (fun t => t.2.2.2.2.2.2.2.2.2.2.2.2.2.2.2.2.2.2.2.2.2.2.2.2.2.2.2.2.2.2.2.2.2.2.2.2.2.2.2.2.2.1) h
theorem xj_snap {u u' : SX} (h : xj_t u' = xj_t u) : xg_snap u' = xg_snap u := congrArg (fun t => t.2.2.2.2.2.2.2.2.2.2.2.2.2.2.2.2.2.2.2.2.2.2.2.2.2.2.2.2.2.2.2.2.2.2.2.2.2.2.2.2.2.2) h
theorem xk_xj {u u' : SX} (h : xk_t u' = xk_t u) (hc : xg_code u' = xg_code u) (hr : xg_recording u' = xg_recording u) : xj_t u' = xj_t u := by unfold xj_t; rw [xk_codeSize h, xk_memSize h, xk_hot h, xk_pc h, xk_status h, xk_steps h, xk_cursor h, xk_outCount h, hc, xk_crossings h, xk_mem h, xk_r h, xk_out h, xk_done h, xk_crossed h, xk_nextPc h, xk_crossedTo h, hr, xk_recHead h, xk_recLen h, xk_recMask h, xk_recPc h, xk_recWord h, xk_recNext h, xk_runMask h, xk_trHead h, xk_trLen h, xk_trMask h, xk_trIr h, xk_trVals h, xk_trCross h, xk_val h, xk_trTargets h, xk_irOp h, xk_irA h, xk_irB h, xk_irD h, xk_kFlag h, xk_kVal h, xk_exPc h, xk_exSteps h, xk_exCross h, xk_snap h]
theorem tk_xj {u u' : SX} {s : Nat} (h : xj_t u' = xj_t u) (ht : tk_u u s) : tk_u u' s := by
  unfold tk_u at ht ⊢
  rw [xj_codeSize h, xj_memSize h, xj_code h, xj_trHead h, xj_trLen h, xj_trMask h, xj_trIr h, xj_trVals h, xj_trCross h, xj_trTargets h, xj_irOp h, xj_irA h, xj_irB h, xj_irD h, xj_kFlag h, xj_kVal h, xj_exPc h, xj_exSteps h, xj_exCross h, xj_snap h]
  exact ht
end
section
/-! a slot for the trace -/
section
variable {u : SX}
theorem pk_and7 (x : Int32) : ∃ k : Nat, k < 8 ∧ x &&& 7 = nI k := pk_andE x 3 (by decide)
def ps_K (post : Int32 → SX → Prop) (u : SX) : Prop := ∀ (s : Nat) (u' : SX), s < 8 → xj_t u' = xj_t u → xg_trLive u' s = 0 → iv_sl u' → (∃ k : Nat, k < 8 ∧ xg_nextVictim u' = nI k) → post (nI s) u'
theorem iv_sl_drop {u' : SX} {s : Nat} (hs : s < 8) (hI : iv_sl u) (hx : xj_t u' = xj_t u) (h1 : xg_trLive u' = upd (xg_trLive u) s 0) (h2 : xg_slotOf u' = upd (xg_slotOf u) (xg_trHead u s).toNatClampNeg 0) : iv_sl u' := by
  have h3 := iv_s2_drop hs (iv_sl_s2 hI)
  refine ⟨fun t ht hl => ?_, ?_⟩
  · rw [h1] at hl
    by_cases e : t = s
    · subst e; exact absurd pk_us hl
    · rw [pk_un e] at hl; exact tk_xj hx (hI.1 t ht hl)
  · rw [h1, h2, xj_trHead hx]; exact h3.2
theorem xw_pick2 {post : Int32 → SX → Prop} (hI : iv_sl u) (hn : ∃ k : Nat, k < 8 ∧ xg_nextVictim u = nI k) (K : ps_K post u) : ∀ (r i : Nat), i + r = 8 → ∀ n : Nat, r < n → xq_pickSlot_2 post n (nI i) u := by
  intro r
  induction r with
  | zero =>
    intro i hi n hnn
    obtain ⟨n, rfl⟩ : ∃ m, n = m + 1 := ⟨n - 1, by omega⟩
    have e : i = 8 := by omega
    subst e
    obtain ⟨k, hk, ek⟩ := hn
    rw [xu_pickSlot_2]
    refine br_t (Int32.le_refl _) (nm_e ?_)
    rw [ek]
    obtain ⟨v, hv⟩ : ∃ v, v = (nI k + 1) &&& 7 := ⟨_, rfl⟩
    rw [← hv]
    have hv8 : ∃ k : Nat, k < 8 ∧ v = nI k := by rw [hv]; exact pk_and7 _
    obtain ⟨u0, hu0⟩ : ∃ u0, u0 = xs_nextVictim u v := ⟨_, rfl⟩
    have z1 : xj_t u0 = xj_t u := by rw [hu0]; rfl
    have z2 : xg_trLive u0 = xg_trLive u ∧ xg_slotOf u0 = xg_slotOf u ∧ xg_nextVictim u0 = v := by rw [hu0]; exact ⟨rfl, rfl, rfl⟩
    rw [← hu0]
    have hI0 : iv_sl u0 := by
      refine ⟨fun t ht hl => tk_xj z1 (hI.1 t ht (by rw [← z2.1]; exact hl)), ?_⟩
      rw [z2.1, z2.2.1, xj_trHead z1]; exact hI.2
    refine xw_dropSlot hk (fun hl => tk_head (hI0.1 k hk hl)) (fun hl => ?_) (fun u' hl g1 g2 g3 g4 g5 => ?_)
    · exact K k u0 hk z1 hl hI0 (by rw [z2.2.2]; exact hv8)
    · have gx := xk_xj g1 g2 g3
      exact K k u' hk (gx.trans z1) (by rw [g4, pk_us]) (iv_sl_drop hk hI0 gx g4 g5) (by rw [xk_nextVictim g1, z2.2.2]; exact hv8)
  | succ r ih =>
    intro i hi n hnn
    obtain ⟨n, rfl⟩ : ∃ m, n = m + 1 := ⟨n - 1, by omega⟩
    rw [xu_pickSlot_2, nI_clamp (by omega)]
    refine br_f (nI_ge (b := 8) (by omega) (by decide)) ⟨vp_in_nI (by omega) (by decide), br_c (fun h0 => ?_) (fun _ => nm_r (nI_1 i) (ih (i + 1) (by omega) n (by omega)))⟩
    exact K i u (by omega) rfl h0 hI hn
theorem xw_pickSlot {post : Int32 → SX → Prop} (hI : iv_sl u) (hn : ∃ k : Nat, k < 8 ∧ xg_nextVictim u = nI k) (K : ps_K post u) : wpX_pickSlot post u := by
  rw [xu_pickSlot]
  exact ⟨9, xw_pick2 hI hn K 8 0 (by omega) 9 (by omega)⟩
/-! the builder's start -/
def bgn_q (s : Nat) (u u' : SX) : Prop := xp_t u' = xp_t u ∧ xg_trTargets u' = xg_trTargets u ∧ xg_irOp u' = xg_irOp u ∧ xg_irA u' = xg_irA u ∧ xg_irB u' = xg_irB u ∧ xg_irD u' = xg_irD u ∧ xg_kVal u' = xg_kVal u ∧ xg_exPc u' = xg_exPc u ∧ xg_exSteps u' = xg_exSteps u ∧ xg_exCross u' = xg_exCross u ∧ xg_snap u' = xg_snap u ∧ (∀ t : Nat, t ≠ s → bo_kf u' t = bo_kf u t) ∧
  xg_buildOk u' = xg_buildOk u ∧ xg_buildSlot u' = xg_buildSlot u ∧ xg_bIr u' = xg_bIr u ∧ xg_bVal u' = xg_bVal u ∧ xg_irCount u' = xg_irCount u ∧ xg_valCount u' = xg_valCount u ∧ xg_exitCount u' = xg_exitCount u ∧ xg_crossCount u' = xg_crossCount u
theorem bgn_tr {s : Nat} {u u1 u2 : SX} (h1 : bgn_q s u u1) (h2 : bgn_q s u1 u2) : bgn_q s u u2 := by
  obtain ⟨a1, a2, a3, a4, a5, a6, a7, a8, a9, a10, a11, a12, a13, a14, a15, a16, a17, a18, a19, a20⟩ := h1
  obtain ⟨b1, b2, b3, b4, b5, b6, b7, b8, b9, b10, b11, b12, b13, b14, b15, b16, b17, b18, b19, b20⟩ := h2
  exact ⟨b1.trans a1, b2.trans a2, b3.trans a3, b4.trans a4, b5.trans a5, b6.trans a6, b7.trans a7, b8.trans a8, b9.trans a9, b10.trans a10, b11.trans a11, fun t ht => (b12 t ht).trans (a12 t ht), b13.trans a13, b14.trans a14, b15.trans a15, b16.trans a16, b17.trans a17, b18.trans a18, b19.trans a19, b20.trans a20⟩
theorem xw_beg51 {post : SX → Prop} {s : Nat} {u0 : SX} (hs : s < 8) (hb : xg_bVal u0 = nI (256 * s))
    (K : ∀ u' : SX, bgn_q s u0 u' → (∀ j : Nat, j < 8 → xg_env u' j = nI j ∧ xg_defAt u' j = 0 ∧ bo_kf u' s j = 0) → post u') :
    ∀ (r i : Nat), i + r = 8 → ∀ u : SX, bgn_q s u0 u → (∀ j : Nat, j < i → xg_env u j = nI j ∧ xg_defAt u j = 0 ∧ bo_kf u s j = 0) → ∀ n : Nat, r < n → xq_beginBuild_51 post n (nI i) u := by
  intro r
  induction r with
  | zero =>
    intro i hi u hq hj n hn
    obtain ⟨n, rfl⟩ : ∃ m, n = m + 1 := ⟨n - 1, by omega⟩
    have e : i = 8 := by omega
    subst e
    rw [xu_beginBuild_51]
    exact br_t (Int32.le_refl _) (K u hq hj)
  | succ r ih =>
    intro i hi u hq hj n hn
    obtain ⟨n, rfl⟩ : ∃ m, n = m + 1 := ⟨n - 1, by omega⟩
    obtain ⟨i1, i2⟩ := bb_ix hs (k := i) (by omega)
    have hbu : xg_bVal u = nI (256 * s) := hq.2.2.2.2.2.2.2.2.2.2.2.2.2.2.2.1.trans hb
    rw [xu_beginBuild_51, nI_clamp (by omega), hbu, i2]
    refine br_f (nI_ge (b := 8) (by omega) (by decide)) ⟨vp_in_nI (by omega) (by decide), nm_e ⟨vp_in_nI (by omega) (by decide), nm_e ⟨i1, nm_e (nm_r (nI_1 i) ?_)⟩⟩⟩
    obtain ⟨u2, hu2⟩ : ∃ u2, u2 = xs_defAt (xs_env (xs_kFlag u (upd (xg_kFlag u) (256 * s + i) 0)) (upd (xg_env u) i (nI i))) (upd (xg_defAt u) i 0) := ⟨_, rfl⟩
    have z1 : bgn_q s u u2 := by rw [hu2]; exact ⟨rfl, rfl, rfl, rfl, rfl, rfl, rfl, rfl, rfl, rfl, rfl, fun t ht => sl_oth (by omega) ht, rfl, rfl, rfl, rfl, rfl, rfl, rfl, rfl⟩
    have z2 : xg_env u2 = upd (xg_env u) i (nI i) ∧ xg_defAt u2 = upd (xg_defAt u) i 0 := by rw [hu2]; exact ⟨rfl, rfl⟩
    have z3 : bo_kf u2 s = upd (bo_kf u s) i 0 := by rw [hu2]; exact sl_upd (by omega)
    show xq_beginBuild_51 post n (nI (i + 1)) (xs_defAt (xs_env (xs_kFlag u (upd (xg_kFlag u) (256 * s + i) 0)) (upd (xg_env u) i (nI i))) (upd (xg_defAt u) i 0))
    rw [← hu2]
    refine ih (i + 1) (by omega) u2 (bgn_tr hq z1) (fun j h => ?_) n (by omega)
    rw [z2.1, z2.2, z3]
    by_cases e : j = i
    · subst e; rw [pk_us, pk_us, pk_us]; exact ⟨rfl, rfl, rfl⟩
    · rw [pk_un e, pk_un e, pk_un e]; exact hj j (by omega)
/-- the start of a build is good -/
theorem bgn_G {s c h : Nat} (hh : xg_recHead u = nI h) (he : ∀ j : Nat, j < 8 → xg_env u j = nI j ∧ xg_defAt u j = 0 ∧ bo_kf u s j = 0) : bb_G u s 0 8 1 c h 0 0 := by
  refine ⟨⟨fun j hj => by omega, fun i hi => by omega, fun k k' h1 h2 => by omega, fun k hk => (he k hk).2.2, fun v m hv hm => by omega⟩, ?_, fun v0 R0 R m hs ha hm => by omega⟩
  intro v0 R0 R hs hr
  have e : R = R0 := hr.2
  subst e
  obtain ⟨s1, s2, s3, s4, s5, s6, s7, s8⟩ := hs
  rw [s8]
  refine ⟨⟨rfl, ?_⟩, s6, s5⟩
  have e1 : rg_f (yg_r v0) (fun j => R.1 (xg_env u j).toNatClampNeg) = yg_r v0 := by
    funext j
    unfold rg_f
    by_cases hj : j < 8
    · rw [if_pos hj]
      show R.1 (xg_env u j).toNatClampNeg = yg_r v0 j
      rw [(he j hj).1, nI_clamp (by omega)]; exact s7 j hj
    · rw [if_neg hj]
  unfold yr_st
  rw [e1, s8, ← hh, ← s3, nI_0, Int32.add_zero, ← s4]
  rfl
theorem xw_begin {post : SX → Prop} {s c : Nat} (hs : s < 8) (hc : xg_codeSize u = nI c) (h64 : c ≤ 64)
    (K : ∀ u' : SX, xp_t u' = xp_t u → cl_O s u u' → cl_F u' s 0 8 1 c 0 0 → bb_S u' s 0 8 1 → (∀ h : Nat, xg_recHead u = nI h → bb_G u' s 0 8 1 c h 0 0) → post u') : wpX_beginBuild post u (nI s) := by
  have e256 : nI s * 256 = nI (256 * s) := by
    rw [show (256 : Int32) = nI 256 from rfl, pk_mul, Nat.mul_comm]
  rw [xu_beginBuild, e256]
  refine nm_e (nm_e ?_)
  obtain ⟨u0, hu0⟩ : ∃ u0, u0 = xs_crossCount (xs_exitCount (xs_valCount (xs_irCount (xs_bVal (xs_bIr (xs_buildSlot (xs_buildOk u 1) (nI s)) (nI (256 * s))) (nI (256 * s))) 0) 8) 1) 0 := ⟨_, rfl⟩
  have z1 : xp_t u0 = xp_t u := by rw [hu0]; rfl
  have z2 : cl_O s u u0 := by rw [hu0]; exact ⟨fun _ _ => ⟨rfl, rfl, rfl, rfl, rfl, rfl, rfl, rfl, rfl, rfl⟩, fun _ _ => rfl⟩
  have z3 : xg_buildSlot u0 = nI s ∧ xg_bIr u0 = nI (256 * s) ∧ xg_bVal u0 = nI (256 * s) ∧ xg_irCount u0 = nI 0 ∧ xg_valCount u0 = nI 8 ∧ xg_exitCount u0 = nI 1 ∧ xg_crossCount u0 = nI 0 := by rw [hu0]; exact ⟨rfl, rfl, rfl, rfl, rfl, rfl, rfl⟩
  rw [← hu0]
  refine ⟨9, xw_beg51 (u0 := u0) hs z3.2.2.1 (fun u' hq hj => ?_) 8 0 (by omega) u0 ⟨rfl, rfl, rfl, rfl, rfl, rfl, rfl, rfl, rfl, rfl, rfl, fun _ _ => rfl, rfl, rfl, rfl, rfl, rfl, rfl, rfl, rfl⟩ (fun j hj => by omega) 9 (by omega)⟩
  obtain ⟨a1, a2, a3, a4, a5, a6, a7, a8, a9, a10, a11, a12, a13, a14, a15, a16, a17, a18, a19, a20⟩ := hq
  obtain ⟨y1, y2, y3, y4, y5, y6, y7⟩ := z3
  have hx : xp_t u' = xp_t u := a1.trans z1
  refine K u' hx (cl_O_tr z2 ⟨fun t ht => ⟨by unfold bo_o; rw [a3], by unfold bo_a; rw [a4], by unfold bo_b; rw [a5], by unfold bo_d; rw [a6], a12 t ht, by unfold bo_kv; rw [a7], by unfold bo_xp; rw [a8], by unfold bo_xs; rw [a9], by unfold bo_xc; rw [a10], by unfold bo_sn; rw [a11]⟩, fun t _ => by unfold bo_tg; rw [a2]⟩)
    ⟨hs, a14.trans y1, a15.trans y2, a16.trans y3, a17.trans y4, by omega, a18.trans y5, by omega, by omega, a19.trans y6, by omega, by omega, (xp_codeSize hx).trans hc, h64, a20.trans y7, by omega, by omega⟩ ⟨fun j hj' => ?_, fun v hv => ?_, fun i hi => by omega, fun k hk => Or.inl (hj k hk).2.2, fun e e1 e2 => by omega⟩ (fun h hh => bgn_G ((xp_recHead hx).trans hh) hj)
  · rw [(hj j hj').1]; exact vp_in_nI (by omega) (by decide)
  · rw [(hj v hv).2.1]; exact vn_0 (by omega)
end
end
section
/-! the compiler -/
/-- the recording, closed -/
def cp_path (u : SX) (c h n : Nat) : Prop := h < c ∧ c ≤ 64 ∧ 1 ≤ n ∧ n ≤ 96 ∧ xg_codeSize u = nI c ∧ xg_recHead u = nI h ∧ xg_recLen u = nI n ∧ mb_p (xg_recMask u) (nI h) ∧ (∃ m : Nat, m ≤ 64 ∧ xg_memSize u = nI m) ∧ xg_recPc u 0 = nI h ∧
  ∀ i : Nat, i < n → ∃ p q : Nat, xg_recPc u i = nI p ∧ p < c ∧ mb_p (xg_recMask u) (nI p) ∧ xg_recWord u i = xg_code u p ∧ xg_recNext u i = nI q ∧ q < c ∧ mb_p (xg_recMask u) (nI q) ∧ rc_ok (xg_code u p) p q ∧ (i + 1 < n → xg_recPc u (i + 1) = nI q) ∧ (i + 1 = n → q = h)
theorem cp_path_xp {u u' : SX} {c h n : Nat} (hx : xp_t u' = xp_t u) (hp : cp_path u c h n) : cp_path u' c h n := by
  unfold cp_path at hp ⊢
  rw [xp_codeSize hx, xp_recHead hx, xp_recLen hx, xp_recMask hx, xp_memSize hx, xp_recPc hx, xp_recWord hx, xp_code hx, xp_recNext hx]
  exact hp
def cp_pc (u : SX) (n h i : Nat) : Nat := if i < n then (xg_recPc u i).toNatClampNeg else h
/-- what the compiler leaves -/
def cm_K (post : SX → Prop) (u : SX) : Prop := ∀ u' : SX, xv_y u' = xv_y u → xg_done u' = xg_done u → xg_crossed u' = xg_crossed u → xg_nextPc u' = xg_nextPc u → xg_crossedTo u' = xg_crossedTo u → xg_recording u' = xg_recording u → iv_sl u' → (∃ k : Nat, k < 8 ∧ xg_nextVictim u' = nI k) → post u'
theorem xp_y {u u' : SX} (hx : xp_t u' = xp_t u) : xv_y u' = xv_y u := by
  unfold xv_y
  rw [xp_codeSize hx, xp_memSize hx, xp_hot hx, xp_pc hx, xp_status hx, xp_steps hx, xp_cursor hx, xp_outCount hx, xp_code hx, xp_crossings hx, xp_mem hx, xp_r hx, xp_out hx]
/-- a slot that the compiler didn't touch -/
theorem tk_oth {u u' : SX} {s t : Nat} (hx : xp_t u' = xp_t u) (ho : cl_O s u u') (ht : t ≠ s) (h : tk_u u t) : tk_u u' t := by
  obtain ⟨a1, a2, a3, a4, a5, a6, a7, a8, a9, a10⟩ := ho.1 t ht
  have a11 := ho.2 t ht
  unfold bo_o at a1; unfold bo_a at a2; unfold bo_b at a3; unfold bo_d at a4; unfold bo_kf at a5; unfold bo_kv at a6; unfold bo_xp at a7; unfold bo_xs at a8; unfold bo_xc at a9; unfold bo_sn at a10; unfold bo_tg at a11
  unfold tk_u at h ⊢
  rw [xp_codeSize hx, xp_memSize hx, xp_code hx, xp_trHead hx, xp_trLen hx, xp_trMask hx, xp_trIr hx, xp_trVals hx, xp_trCross hx, a1, a2, a3, a4, a5, a6, a7, a8, a9, a10, a11]
  exact h
section
variable {s c h n : Nat} {u1 : SX}
theorem iv_sl_oth {u' : SX} (hs : s < 8) (hx : xp_t u' = xp_t u1) (ho : cl_O s u1 u') (hl : xg_trLive u1 s = 0) (hI : iv_sl u1) : iv_sl u' := by
  refine ⟨fun t ht hlt => ?_, ?_⟩
  · rw [xp_trLive hx] at hlt
    exact tk_oth hx ho (fun z => hlt (by rw [z]; exact hl)) (hI.1 t ht hlt)
  · rw [xp_trLive hx, xp_slotOf hx, xp_trHead hx]; exact hI.2
theorem xw_comp44 {post : SX → Prop} {u : SX} {ic vc ec cc : Nat} (hs : s < 8) (hI : iv_sl u1) (hl : xg_trLive u1 s = 0) (hnv : ∃ k : Nat, k < 8 ∧ xg_nextVictim u1 = nI k) (hp : cp_path u1 c h n) (hx : xp_t u = xp_t u1) (ho : cl_O s u1 u)
    (hF : cl_F u s ic vc ec c n cc) (hS : bb_S u s ic vc ec) (htg : ∀ j : Nat, j < cc → vp_in (bo_tg u s j) 64) (hG : xg_buildOk u ≠ 0 → bb_G u s ic vc ec c h n cc) (K : cm_K post u1) : xq_compileTrace_44 post (nI s) u := by
  obtain ⟨hs', f1, f2, f3, f4, f5, f6, f7, f8, f9, f10, f11, f12, f13, f14, f15, f16⟩ := id hF
  obtain ⟨p1, p2, p3, p4, p5, p6, p7, p8, p9, p10, p11⟩ := id (cp_path_xp hx hp)
  have hh : vp_in (xg_recHead u) 64 := by rw [p6]; exact vp_in_nI (by omega) (by decide)
  rw [xu_compileTrace_44]
  refine br_c (fun _ => ⟨hh, hh, nm_e ?_⟩) (fun ok => ?_)
  · obtain ⟨w, hw⟩ : ∃ w, w = xs_fails u (upd (xg_fails u) (xg_recHead u).toNatClampNeg (xg_fails u (xg_recHead u).toNatClampNeg + 1)) := ⟨_, rfl⟩
    have z1 : xp_t w = xp_t u := by rw [hw]; rfl
    have z2 : cl_O s u w := by rw [hw]; exact ⟨fun _ _ => ⟨rfl, rfl, rfl, rfl, rfl, rfl, rfl, rfl, rfl, rfl⟩, fun _ _ => rfl⟩
    rw [← hw]
    have zx := z1.trans hx
    exact K w (xp_y zx) (xp_done zx) (xp_crossed zx) (xp_nextPc zx) (xp_crossedTo zx) (xp_recording zx) (iv_sl_oth hs zx (cl_O_tr ho z2) hl hI) (by rw [xp_nextVictim zx]; exact hnv)
  · obtain ⟨g1, g2, g3⟩ := hG ok
    rw [p6, p7]
    obtain ⟨u0, hu0⟩ : ∃ u0, u0 = xs_buildPc (xs_buildStep u (nI n)) (nI h) := ⟨_, rfl⟩
    have z1 : xp_t u0 = xp_t u := by rw [hu0]; rfl
    have z2 : cl_O s u u0 := by rw [hu0]; exact ⟨fun _ _ => ⟨rfl, rfl, rfl, rfl, rfl, rfl, rfl, rfl, rfl, rfl⟩, fun _ _ => rfl⟩
    have z3 : xg_buildSlot u0 = nI s ∧ xg_bIr u0 = nI (256 * s) ∧ xg_irCount u0 = nI ic ∧ xg_valCount u0 = nI vc ∧ xg_exitCount u0 = nI ec ∧ xg_crossCount u0 = nI cc := by rw [hu0]; exact ⟨f1, f2, f4, f6, f9, f14⟩
    have z4 : bb_S u0 s ic vc ec := by rw [hu0]; exact hS
    have z5 : bo_o u0 s = bo_o u s ∧ bo_a u0 s = bo_a u s ∧ bo_b u0 s = bo_b u s ∧ bo_d u0 s = bo_d u s ∧ bo_kf u0 s = bo_kf u s ∧ bo_kv u0 s = bo_kv u s ∧ bo_xp u0 s = bo_xp u s ∧ bo_xs u0 s = bo_xs u s ∧ bo_xc u0 s = bo_xc u s ∧ bo_sn u0 s = bo_sn u s ∧ bo_tg u0 s = bo_tg u s ∧ xg_env u0 = xg_env u := by rw [hu0]; exact ⟨rfl, rfl, rfl, rfl, rfl, rfl, rfl, rfl, rfl, rfl, rfl, rfl⟩
    rw [← hu0]
    refine xw_capture (e := 0) hs z3.1 (by omega) (fun w hc => ?_)
    obtain ⟨c1, c2, c3, c4, c5, c6, c7, c8, c9, c10, c11, c12, c13, c14, c15, c16, c17, c18⟩ := hc
    obtain ⟨y1, y2, y3, y4, y5, y6⟩ := z3
    obtain ⟨x1, x2, x3, x4, x5, x6, x7, x8, x9, x10, x11, x12⟩ := z5
    have hxw : xp_t w = xp_t u1 := (xo_xp c1.1).trans (z1.trans hx)
    have how : cl_O s u1 w := cl_O_tr ho (cl_O_tr z2 ⟨c1.2.1, fun t _ => by unfold bo_tg; rw [xo_trTargets c1.1]⟩)
    have etg : bo_tg w s = bo_tg u s := by
      have : bo_tg w s = bo_tg u0 s := by unfold bo_tg; rw [xo_trTargets c1.1]
      rw [this, x11]
    -- the arrays of w at slot s
    have eo : bo_o w s = bo_o u s := c5.trans x1
    have ea : bo_a w s = bo_a u s := c6.trans x2
    have eb : bo_b w s = bo_b u s := c7.trans x3
    have ed : bo_d w s = bo_d u s := c8.trans x4
    have ekf : bo_kf w s = bo_kf u s := c9.trans x5
    have ekv : bo_kv w s = bo_kv u s := c10.trans x6
    have exp : ∀ e : Nat, 1 ≤ e → bo_xp w s e = bo_xp u s e := fun e he => by rw [c11, pk_un (by omega), x7]
    have exs : ∀ e : Nat, 1 ≤ e → bo_xs w s e = bo_xs u s e := fun e he => by rw [c12, pk_un (by omega), x8]
    have exc : ∀ e : Nat, 1 ≤ e → bo_xc w s e = bo_xc u s e := fun e he => by rw [c13, pk_un (by omega), x9]
    have esn0 : ∀ j : Nat, j < 8 → bo_sn w s j = xg_env u j := fun j hj => by
      have := c16 j hj
      rw [Nat.mul_zero, Nat.zero_add] at this
      rw [this, x12]
    have esn : ∀ e j : Nat, 1 ≤ e → j < 8 → bo_sn w s (8 * e + j) = bo_sn u s (8 * e + j) := fun e j he hj => by rw [c17 e j (by omega) hj, x10]
    have hsn : ∀ q : Nat, q < 8 * ec → vp_in (bo_sn w s q) 256 := fun q hq => by
      by_cases h8 : q < 8
      · rw [esn0 q h8]; exact vn_mono (hS.1 q h8) f8
      · have e : q = 8 * (q / 8) + q % 8 := by omega
        rw [e, esn (q / 8) (q % 8) (by omega) (by omega)]
        exact vn_mono (hS.2.2.2.2 (q / 8) (by omega) (by omega) (q % 8) (by omega)) f8
    have hW : bg_W ic vc (bo_o w s) (bo_a w s) (bo_b w s) (bo_d w s) (bo_kf w s) (bo_kv w s) (xg_defAt u) := by rw [eo, ea, eb, ed, ekf, ekv]; exact g1
    refine xw_dead (vc := vc) (cs := xg_codeSize u) (ms := xg_memSize u) (mk := xg_recMask u) hs f5 f11 ((xo_buildSlot c1.1).trans y1) ((xo_bIr c1.1).trans y2) (c2.trans y3) (c3.trans y5) hW (fun i hi => ?_) (fun i hi => ?_) hsn (fun u2 k us d1 d2 d3 d4 d5 d6 => ?_)
    · rw [ea, eb, ed]
      obtain ⟨q1, q2, q3, _⟩ := hS.2.2.1 i hi
      exact ⟨vn_mono q1 f8, vn_mono q2 f8, q3⟩
    · rw [eo]; exact (hS.2.2.1 i hi).2.2.2.2
    · have hx2 : xp_t u2 = xp_t u1 := (xz_xp d1).trans hxw
      have e2kf : ∀ t, bo_kf u2 t = bo_kf w t := fun t => by unfold bo_kf; rw [xz_kFlag d1]
      have e2kv : ∀ t, bo_kv u2 t = bo_kv w t := fun t => by unfold bo_kv; rw [xz_kVal d1]
      have e2xp : ∀ t, bo_xp u2 t = bo_xp w t := fun t => by unfold bo_xp; rw [xz_exPc d1]
      have e2xs : ∀ t, bo_xs u2 t = bo_xs w t := fun t => by unfold bo_xs; rw [xz_exSteps d1]
      have e2xc : ∀ t, bo_xc u2 t = bo_xc w t := fun t => by unfold bo_xc; rw [xz_exCross d1]
      have e2sn : ∀ t, bo_sn u2 t = bo_sn w t := fun t => by unfold bo_sn; rw [xz_snap d1]
      have e2tg : ∀ t, bo_tg u2 t = bo_tg w t := fun t => by unfold bo_tg; rw [xz_trTargets d1]
      have ho2 : cl_O s u1 u2 := cl_O_tr how ⟨fun t ht => ⟨(d6 t ht).1, (d6 t ht).2.1, (d6 t ht).2.2.1, (d6 t ht).2.2.2, e2kf t, e2kv t, e2xp t, e2xs t, e2xc t, e2sn t⟩, fun t _ => e2tg t⟩
      have ecc : xg_crossCount u2 = nI cc := (xz_crossCount d1).trans ((xo_crossCount c1.1).trans y6)
      have evc : xg_valCount u2 = nI vc := (xz_valCount d1).trans (c4.trans y4)
      obtain ⟨r1, r2, r3, r4, r5, r6, r7, r8, r9, r10, r11⟩ := id (cp_path_xp hx2 hp)
      -- the finished trace
      have TK : tk_ok (xg_codeSize u2) (xg_memSize u2) (xg_code u2) (nI h) (nI n) (xg_recMask u2) (nI k) (nI vc) (nI cc) (bo_tg u2 s) (bo_o u2 s) (bo_a u2 s) (bo_b u2 s) (bo_d u2 s) (bo_kf u2 s) (bo_kv u2 s) (bo_xp u2 s) (bo_xs u2 s) (bo_xc u2 s) (bo_sn u2 s) := by
        have hx2u : xp_t u2 = xp_t u := hx2.trans hx.symm
        rw [e2kf, e2kv, e2xp, e2xs, e2xc, e2sn, e2tg, etg, ekf, ekv, xp_codeSize hx2u, xp_memSize hx2u, xp_code hx2u, xp_recMask hx2u]
        rw [eo, ea, eb, ed] at d5
        have g2' : bg_K (xg_codeSize u) (xg_memSize u) (xg_recMask u) (xg_code u) (nI h) (bo_tg u s) ic vc (bo_o u s) (bo_a u s) (bo_b u s) (bo_d u s) (bo_kf u s) (bo_kv u s) (xg_env u) n (nI h) cc := by rw [← p6]; unfold bb_K at g2; rw [← p6] at g2; exact g2
        have g3' : bg_X (xg_codeSize u) (xg_memSize u) (xg_recMask u) (xg_code u) (nI h) (bo_tg u s) c ic vc ec (bo_o u s) (bo_a u s) (bo_b u s) (bo_d u s) (bo_kf u s) (bo_kv u s) (bo_xp w s) (bo_xs w s) (bo_xc w s) (bo_sn w s) n cc := by
          rw [← p6]
          intro v0 R0 R m hst had hm hr hx0
          obtain ⟨e, k', q, b1, b2, b3, b4, b5, b6, b7, b8, b9, b10⟩ := g3 v0 R0 R m hst had hm hr hx0
          refine ⟨e, k', q, b1, b2, b3, (exs e b2).trans b4, b5, (exc e b2).trans b6, b7, b8, by rw [exp e b2]; exact b9, ?_⟩
          rw [exp e b2]
          exact sm_at_c b10 rfl (fun j hj => by rw [esn e j b2 hj])
        refine dz_tk (df := xg_defAt u) (en := xg_env u) f12 p2 rfl p1 p3 p4 p8 (by omega) f8 (by omega) f11 g1 g2' g3' d5 (fun i hi => ?_) htg esn0 (fun e j he hj => ⟨hsn _ (by omega), d4 _ (by omega)⟩) f10
        obtain ⟨q1, q2, q3, _⟩ := hS.2.2.1 i hi
        exact ⟨vn_mono q1 f8, vn_mono q2 f8, q3⟩
      have hv8 : vp_in (nI s) 8 := vp_in_nI hs (by decide)
      rw [nI_clamp (by omega)]
      have hh2 : vp_in (xg_recHead u2) 64 := by rw [r6]; exact vp_in_nI (by omega) (by decide)
      have ehc : (xg_recHead u2).toNatClampNeg = h := by rw [r6]; exact nI_clamp (by omega)
      refine ⟨hv8, nm_e ⟨hv8, nm_e ⟨hv8, nm_e ⟨hv8, nm_e ⟨hv8, nm_e ⟨hv8, nm_e ⟨hv8, nm_e ⟨hv8, nm_e ⟨hh2, nm_e ?_⟩⟩⟩⟩⟩⟩⟩⟩⟩
      rw [ehc, nI_1]
      have nv2 : ∃ k : Nat, k < 8 ∧ xg_nextVictim u2 = nI k := by rw [xp_nextVictim hx2]; exact hnv
      refine K _ (show xv_y u2 = xv_y u1 from xp_y hx2) (show xg_done u2 = xg_done u1 from xp_done hx2) (show xg_crossed u2 = xg_crossed u1 from xp_crossed hx2) (show xg_nextPc u2 = xg_nextPc u1 from xp_nextPc hx2) (show xg_crossedTo u2 = xg_crossedTo u1 from xp_crossedTo hx2) (show xg_recording u2 = xg_recording u1 from xp_recording hx2) ⟨fun t ht hlt => ?_, fun x hx64 => ?_⟩ nv2
      · by_cases e : t = s
        · subst e
          show tk_ok (xg_codeSize u2) (xg_memSize u2) (xg_code u2) (upd (xg_trHead u2) t (xg_recHead u2) t) (upd (xg_trLen u2) t (xg_recLen u2) t) (vp_updL (xg_trMask u2) t (xg_recMask u2) t) (upd (xg_trIr u2) t (xg_irCount u2) t) (upd (xg_trVals u2) t (xg_valCount u2) t) (upd (xg_trCross u2) t (xg_crossCount u2) t) (bo_tg u2 t) (bo_o u2 t) (bo_a u2 t) (bo_b u2 t) (bo_d u2 t) (bo_kf u2 t) (bo_kv u2 t) (bo_xp u2 t) (bo_xs u2 t) (bo_xc u2 t) (bo_sn u2 t)
          rw [pk_us, pk_us, pk_uLs, pk_us, pk_us, pk_us, r6, r7, d2, evc, ecc]
          exact TK
        · have hlt' : upd (xg_trLive u2) s (vp_nar .boolean 1) t ≠ 0 := hlt
          rw [pk_un e, xp_trLive hx2] at hlt'
          have tk2 := tk_oth hx2 ho2 e (hI.1 t ht hlt')
          show tk_ok (xg_codeSize u2) (xg_memSize u2) (xg_code u2) (upd (xg_trHead u2) s (xg_recHead u2) t) (upd (xg_trLen u2) s (xg_recLen u2) t) (vp_updL (xg_trMask u2) s (xg_recMask u2) t) (upd (xg_trIr u2) s (xg_irCount u2) t) (upd (xg_trVals u2) s (xg_valCount u2) t) (upd (xg_trCross u2) s (xg_crossCount u2) t) (bo_tg u2 t) (bo_o u2 t) (bo_a u2 t) (bo_b u2 t) (bo_d u2 t) (bo_kf u2 t) (bo_kv u2 t) (bo_xp u2 t) (bo_xs u2 t) (bo_xc u2 t) (bo_sn u2 t)
          rw [pk_un e, pk_un e, pk_uLn e, pk_un e, pk_un e, pk_un e]
          exact tk2
      · show upd (xg_slotOf u2) h (nI (s + 1)) x = 0 ∨ ∃ t : Nat, t < 8 ∧ upd (xg_slotOf u2) h (nI (s + 1)) x = nI (t + 1) ∧ upd (xg_trLive u2) s (vp_nar .boolean 1) t ≠ 0 ∧ upd (xg_trHead u2) s (xg_recHead u2) t = nI x
        by_cases e : x = h
        · subst e
          refine Or.inr ⟨s, hs, pk_us, ?_, ?_⟩
          · rw [pk_us]; decide
          · rw [pk_us]; exact r6
        · rw [pk_un e, xp_slotOf hx2]
          rcases hI.2 x hx64 with h0 | ⟨t, t1, t2, t3, t4⟩
          · exact Or.inl h0
          · have hts : t ≠ s := fun z => t3 (by rw [z]; exact hl)
            refine Or.inr ⟨t, t1, t2, ?_, ?_⟩
            · rw [pk_un hts, xp_trLive hx2]; exact t3
            · rw [pk_un hts, xp_trHead hx2]; exact t4
theorem xw_comp12 {post : SX → Prop} (hs : s < 8) (hI : iv_sl u1) (hl : xg_trLive u1 s = 0) (hnv : ∃ k : Nat, k < 8 ∧ xg_nextVictim u1 = nI k) (hp : cp_path u1 c h n) (K : cm_K post u1) :
    ∀ (r i : Nat), i + r = n → ∀ (u : SX) (ic vc ec cc : Nat), xp_t u = xp_t u1 → cl_O s u1 u → cl_F u s ic vc ec c i cc → bb_S u s ic vc ec → (∀ j : Nat, j < cc → vp_in (bo_tg u s j) 64) → (xg_buildOk u ≠ 0 → bb_G u s ic vc ec c (cp_pc u1 n h i) i cc) → ∀ f : Nat, r < f → xq_compileTrace_12 post (nI s) f (nI i) u := by
  intro r
  induction r with
  | zero =>
    intro i hir u ic vc ec cc hx ho hF hS htg hG f hf
    obtain ⟨f, rfl⟩ : ∃ m, f = m + 1 := ⟨f - 1, by omega⟩
    have e : i = n := by omega
    subst e
    have el : xg_recLen u = nI i := (xp_recLen hx).trans hp.2.2.2.2.2.2.1
    have ep : cp_pc u1 i h i = h := if_neg (Nat.lt_irrefl _)
    rw [ep] at hG
    rw [xu_compileTrace_12, el]
    exact br_t (Int32.le_refl _) (xw_comp44 hs hI hl hnv hp hx ho hF hS htg hG K)
  | succ r ih =>
    intro i hir u ic vc ec cc hx ho hF hS htg hG f hf
    obtain ⟨f, rfl⟩ : ∃ m, f = m + 1 := ⟨f - 1, by omega⟩
    have hpu := cp_path_xp hx hp
    obtain ⟨p1, p2, p3, p4, p5, p6, p7, p8, ⟨m, m64, em⟩, p10, p11⟩ := id hpu
    rw [xu_compileTrace_12, p7]
    refine br_f (nI_ge (by omega) (by omega)) (br_f (nI_ge (b := 96) (by omega) (by decide)) (br_c (fun h0 => ?_) (fun ok => ?_)))
    · obtain ⟨q0, q1, q2, q3, q4, q5, q6, q7, q8, q9, q10, q11, q12, q13, q14, q15, q16⟩ := id hF
      exact xw_comp44 hs hI hl hnv hp hx ho ⟨q0, q1, q2, q3, q4, q5, q6, q7, q8, q9, q10, q11, q12, q13, q14, by omega, p4⟩ hS htg (fun z => absurd h0 z) K
    · obtain ⟨pn, q, w1, w2, w3, w4, w5, w6, w7, w8, w9, w10⟩ := p11 i (by omega)
      have epc : cp_pc u1 n h i = pn := by
        unfold cp_pc
        rw [if_pos (by omega), ← xp_recPc hx, w1, nI_clamp (by omega)]
      have eq1 : cp_pc u1 n h (i + 1) = q := by
        unfold cp_pc
        by_cases e : i + 1 < n
        · rw [if_pos e, ← xp_recPc hx, w9 e, nI_clamp (by omega)]
        · rw [if_neg e]; exact (w10 (by omega)).symm
      rw [epc] at hG
      refine xw_translate (by omega) w1 w4 w5 ⟨p5, p2, w2, w3, rfl, w6, w7, w8, em, m64⟩ htg hF hS (fun u' ic' vc' ec' cc' h1 h2 h3 h4 h5 h6 => nm_r (nI_1 i) ?_)
      refine ih (i + 1) (by omega) u' ic' vc' ec' cc' (h1.trans hx) (cl_O_tr ho h2) h3 h4 h5 (fun ok' => ?_) f (by omega)
      rw [eq1]
      exact (h6 ok').2 (hG ok)
end
theorem cp_path_xj {u u' : SX} {c h n : Nat} (hx : xj_t u' = xj_t u) (hp : cp_path u c h n) : cp_path u' c h n := by
  unfold cp_path at hp ⊢
  rw [xj_codeSize hx, xj_recHead hx, xj_recLen hx, xj_recMask hx, xj_memSize hx, xj_recPc hx, xj_recWord hx, xj_code hx, xj_recNext hx]
  exact hp
theorem xj_y {u u' : SX} (hx : xj_t u' = xj_t u) : xv_y u' = xv_y u := by
  unfold xv_y
  rw [xj_codeSize hx, xj_memSize hx, xj_hot hx, xj_pc hx, xj_status hx, xj_steps hx, xj_cursor hx, xj_outCount hx, xj_code hx, xj_crossings hx, xj_mem hx, xj_r hx, xj_out hx]
theorem xw_compile {post : SX → Prop} {u : SX} {c h n : Nat} (hI : iv_sl u) (hnv : ∃ k : Nat, k < 8 ∧ xg_nextVictim u = nI k) (hp : cp_path u c h n) (K : cm_K post u) : wpX_compileTrace post u := by
  rw [xu_compileTrace]
  refine xw_pickSlot hI hnv (fun s u1 hs hx hl hI1 hnv1 => ?_)
  have hp1 := cp_path_xj hx hp
  refine xw_begin hs hp1.2.2.2.2.1 hp1.2.1 (fun u2 g1 g2 g3 g4 g5 => ?_)
  have K1 : cm_K post u1 := fun u' a1 a2 a3 a4 a5 a6 a7 a8 => K u' (a1.trans (xj_y hx)) (a2.trans (xj_done hx)) (a3.trans (xj_crossed hx)) (a4.trans (xj_nextPc hx)) (a5.trans (xj_crossedTo hx)) (a6.trans (xj_recording hx)) a7 a8
  refine ⟨n + 1, xw_comp12 hs hI1 hl hnv1 hp1 K1 n 0 (by omega) u2 0 8 1 0 g1 g2 g3 g4 (fun j hj => by omega) (fun _ => ?_) (n + 1) (by omega)⟩
  have e0 : cp_pc u1 n h 0 = h := by
    unfold cp_pc
    have : 1 ≤ n := hp1.2.2.1
    rw [if_pos (by omega), hp1.2.2.2.2.2.2.2.2.2.1, nI_clamp (by have := hp1.1; have := hp1.2.1; omega)]
  rw [e0]
  exact g5 h hp1.2.2.2.2.2.1
end
section
/-! the frame of one interpreted instruction -/
def xf_t (u : SX) : Int32 × Int32 × Int32 × Int32 × Int32 × Int32 × Int32 × Int32 × Int32 × Int32 × Int64 × (Nat → Int32) × (Nat → Int32) × (Nat → Int32) × Int32 × Int64 × (Nat → Int32) × (Nat → Int32) × (Nat → Int64) × (Nat → Int32) × (Nat → Int32) × (Nat → Int32) × (Nat → Int32) × (Nat → Int32) × (Nat → Int32) × (Nat → Int32) × (Nat → Int32) × (Nat → Int32) × (Nat → Int32) × (Nat → Int32) × (Nat → Int32) × (Nat → Int32) × (Nat → Int32) := (xg_codeSize u, xg_memSize u, xg_hot u, xg_pc u, xg_status u, xg_steps u, xg_cursor u, xg_done u, xg_recHead u, xg_recLen u, xg_recMask u, xg_recPc u, xg_recWord u, xg_recNext u, xg_nextVictim u, xg_runMask u, xg_trHead u, xg_trLen u, xg_trMask u, xg_trIr u, xg_trVals u, xg_trCross u, xg_trTargets u, xg_irOp u, xg_irA u, xg_irB u, xg_irD u, xg_kFlag u, xg_kVal u, xg_exPc u, xg_exSteps u, xg_exCross u, xg_snap u)
theorem xf_codeSize {u u' : SX} (h : xf_t u' = xf_t u) : xg_codeSize u' = xg_codeSize u := congrArg (fun t => t.1) h
theorem xf_memSize {u u' : SX} (h : xf_t u' = xf_t u) : xg_memSize u' = xg_memSize u := congrArg (fun t => t.2.1) h
theorem xf_hot {u u' : SX} (h : xf_t u' = xf_t u) : xg_hot u' = xg_hot u := congrArg (fun t => t.2.2.1) h
theorem xf_pc {u u' : SX} (h : xf_t u' = xf_t u) : xg_pc u' = xg_pc u := congrArg (fun t => t.2.2.2.1) h
theorem xf_status {u u' : SX} (h : xf_t u' = xf_t u) : xg_status u' = xg_status u := congrArg (fun t => t.2.2.2.2.1) h
theorem xf_steps {u u' : SX} (h : xf_t u' = xf_t u) : xg_steps u' = xg_steps u := congrArg (fun t => t.2.2.2.2.2.1) h
theorem xf_cursor {u u' : SX} (h : xf_t u' = xf_t u) : xg_cursor u' = xg_cursor u := congrArg (fun t => t.2.2.2.2.2.2.1) h
theorem xf_done {u u' : SX} (h : xf_t u' = xf_t u) : xg_done u' = xg_done u := congrArg (fun t => t.2.2.2.2.2.2.2.1) h
theorem xf_recHead {u u' : SX} (h : xf_t u' = xf_t u) : xg_recHead u' = xg_recHead u := congrArg (fun t => t.2.2.2.2.2.2.2.2.1) h
theorem xf_recLen {u u' : SX} (h : xf_t u' = xf_t u) : xg_recLen u' = xg_recLen u := congrArg (fun t => t.2.2.2.2.2.2.2.2.2.1) h
theorem xf_recMask {u u' : SX} (h : xf_t u' = xf_t u) : xg_recMask u' = xg_recMask u := congrArg (fun t => t.2.2.2.2.2.2.2.2.2.2.1) h
theorem xf_recPc {u u' : SX} (h : xf_t u' = xf_t u) : xg_recPc u' = xg_recPc u := congrArg (fun t => t.2.2.2.2.2.2.2.2.2.2.2.1) h
theorem xf_recWord {u u' : SX} (h : xf_t u' = xf_t u) : xg_recWord u' = xg_recWord u := congrArg (fun t => t.2.2.2.2.2.2.2.2.2.2.2.2.1) h
theorem xf_recNext {u u' : SX} (h : xf_t u' = xf_t u) : xg_recNext u' = xg_recNext u := congrArg (fun t => t.2.2.2.2.2.2.2.2.2.2.2.2.2.1) h
theorem xf_nextVictim {u u' : SX} (h : xf_t u' = xf_t u) : xg_nextVictim u' = xg_nextVictim u := congrArg (fun t => t.2.2.2.2.2.2.2.2.2.2.2.2.2.2.1) h
theorem xf_runMask {u u' : SX} (h : xf_t u' = xf_t u) : xg_runMask u' = xg_runMask u := congrArg (fun t => t.2.2.2.2.2.2.2.2.2.2.2.2.2.2.2.1) h
theorem xf_trHead {u u' : SX} (h : xf_t u' = xf_t u) : xg_trHead u' = xg_trHead u := congrArg (fun t => t.2.2.2.2.2.2.2.2.2.2.2.2.2.2.2.2.1) h
theorem xf_trLen {u u' : SX} (h : xf_t u' = xf_t u) : xg_trLen u' = xg_trLen u := congrArg (fun t => t.2.2.2.2.2.2.2.2.2.2.2.2.2.2.2.2.2.1) h
theorem xf_trMask {u u' : SX} (h : xf_t u' = xf_t u) : xg_trMask u' = xg_trMask u := congrArg (fun t => t.2.2.2.2.2.2.2.2.2.2.2.2.2.2.2.2.2.2.1) h
theorem xf_trIr {u u' : SX} (h : xf_t u' = xf_t u) : xg_trIr u' = xg_trIr u := congrArg (fun t => t.2.2.2.2.2.2.2.2.2.2.2.2.2.2.2.2.2.2.2.1) h
theorem xf_trVals {u u' : SX} (h : xf_t u' = xf_t u) : xg_trVals u' = xg_trVals u := congrArg (fun t => t.2.2.2.2.2.2.2.2.2.2.2.2.2.2.2.2.2.2.2.2.1) h
theorem xf_trCross {u u' : SX} (h : xf_t u' = xf_t u) : xg_trCross u' = xg_trCross u := congrArg (fun t => t.2.2.2.2.2.2.2.2.2.2.2.2.2.2.2.2.2.2.2.2.2.1) h
theorem xf_trTargets {u u' : SX} (h : xf_t u' = xf_t u) : xg_trTargets u' = xg_trTargets u := congrArg (fun t => t.2.2.2.2.2.2.2.2.2.2.2.2.2.2.2.2.2.2.2.2.2.2.1) h
theorem xf_irOp {u u' : SX} (h : xf_t u' = xf_t u) : xg_irOp u' = xg_irOp u := congrArg (fun t => t.2.2.2.2.2.2.2.2.2.2.2.2.2.2.2.2.2.2.2.2.2.2.2.1) h
theorem xf_irA {u u' : SX} (h : xf_t u' = xf_t u) : xg_irA u' = xg_irA u := congrArg (fun t => t.2.2.2.2.2.2.2.2.2.2.2.2.2.2.2.2.2.2.2.2.2.2.2.2.1) h
theorem xf_irB {u u' : SX} (h : xf_t u' = xf_t u) : xg_irB u' = xg_irB u := congrArg (fun t => t.2.2.2.2.2.2.2.2.2.2.2.2.2.2.2.2.2.2.2.2.2.2.2.2.2.1) h
theorem xf_irD {u u' : SX} (h : xf_t u' = xf_t u) : xg_irD u' = xg_irD u := congrArg (fun t => t.2.2.2.2.2.2.2.2.2.2.2.2.2.2.2.2.2.2.2.2.2.2.2.2.2.2.1) h
theorem xf_kFlag {u u' : SX} (h : xf_t u' = xf_t u) : xg_kFlag u' = xg_kFlag u := congrArg (fun t => t.2.2.2.2.2.2.2.2.2.2.2.2.2.2.2.2.2.2.2.2.2.2.2.2.2.2.2.1) h
theorem xf_kVal {u u' : SX} (h : xf_t u' = xf_t u) : xg_kVal u' = xg_kVal u := congrArg (fun t => t.2.2.2.2.2.2.2.2.2.2.2.2.2.2.2.2.2.2.2.2.2.2.2.2.2.2.2.2.1) h
theorem xf_exPc {u u' : SX} (h : xf_t u' = xf_t u) : xg_exPc u' = xg_exPc u := congrArg (fun t => t.2.2.2.2.2.2.2.2.2.2.2.2.2.2.2.2.2.2.2.2.2.2.2.2.2.2.2.2.2.1) h
theorem xf_exSteps {u u' : SX} (h : xf_t u' = xf_t u) : xg_exSteps u' = xg_exSteps u := congrArg (fun t => t.2.2.2.2.2.2.2.2.2.2.2.2.2.2.2.2.2.2.2.2.2.2.2.2.2.2.2.2.2.2.1) h
theorem xf_exCross {u u' : SX} (h : xf_t u' = xf_t u) : xg_exCross u' = xg_exCross u := congrArg (fun t => t.2.2.2.2.2.2.2.2.2.2.2.2.2.2.2.2.2.2.2.2.2.2.2.2.2.2.2.2.2.2.2.1) h
theorem xf_snap {u u' : SX} (h : xf_t u' = xf_t u) : xg_snap u' = xg_snap u := congrArg (fun t => t.2.2.2.2.2.2.2.2.2.2.2.2.2.2.2.2.2.2.2.2.2.2.2.2.2.2.2.2.2.2.2.2) h
theorem xk_xf {u u' : SX} (h : xk_t u' = xk_t u) : xf_t u' = xf_t u := by unfold xf_t; rw [xk_codeSize h, xk_memSize h, xk_hot h, xk_pc h, xk_status h, xk_steps h, xk_cursor h, xk_done h, xk_recHead h, xk_recLen h, xk_recMask h, xk_recPc h, xk_recWord h, xk_recNext h, xk_nextVictim h, xk_runMask h, xk_trHead h, xk_trLen h, xk_trMask h, xk_trIr h, xk_trVals h, xk_trCross h, xk_trTargets h, xk_irOp h, xk_irA h, xk_irB h, xk_irD h, xk_kFlag h, xk_kVal h, xk_exPc h, xk_exSteps h, xk_exCross h, xk_snap h]
theorem tk_xf {u u' : SX} {s : Nat} (h : xf_t u' = xf_t u) (hc : xg_code u' = xg_code u) (ht : tk_u u s) : tk_u u' s := by
  unfold tk_u at ht ⊢
  rw [xf_codeSize h, xf_memSize h, hc, xf_trHead h, xf_trLen h, xf_trMask h, xf_trIr h, xf_trVals h, xf_trCross h, xf_trTargets h, xf_irOp h, xf_irA h, xf_irB h, xf_irD h, xf_kFlag h, xf_kVal h, xf_exPc h, xf_exSteps h, xf_exCross h, xf_snap h]
  exact ht
theorem iv_sl_xf {u u' : SX} (h : xf_t u' = xf_t u) (hc : xg_code u' = xg_code u) (hl : xg_trLive u' = xg_trLive u) (hs : xg_slotOf u' = xg_slotOf u) (hI : iv_sl u) : iv_sl u' := by
  refine ⟨fun s hs8 hlv => tk_xf h hc (hI.1 s hs8 (by rw [← hl]; exact hlv)), ?_⟩
  rw [hl, hs, xf_trHead h]; exact hI.2
end
section
/-! one instruction, interpreted, beside the reference's step -/
/-- what the interpreter's instruction leaves: done, or halted or failed -/
def pf_R (post : Int32 → SX → Prop) (u : SX) (p c : Nat) (w : Int32) : Prop := ∀ (u' : SX) (q : Nat) (k : Int32), xf_t u' = xf_t u → iv_sl u' → (xg_recording u' ≠ 0 → xg_recording u' = xg_recording u ∧ sm_ag (xg_recMask u) (xg_code u) (xg_code u')) → (xg_recording u = 0 → xg_recording u' = 0) → xg_nextPc u' = nI q → q ≤ c → rc_ok w p q →
  yo_S (xv_y u) k (ys_steps (ys_pc (xv_y u') (nI q)) (xg_steps u + 1)) → ((k = 1 ∧ xg_crossedTo u' = xg_crossedTo u ∧ xg_crossed u' = xg_crossed u) ∨ (k = 2 ∧ q < c ∧ xg_crossedTo u' = nI q ∧ xg_crossed u' = xg_crossed u + 1)) → sm_oc (xg_outCount u') → post 0 u'
def pf_F (post : Int32 → SX → Prop) (u : SX) : Prop := ∀ (res : Int32) (u' : SX), ¬ res = 0 → xf_t u' = xf_t u → xg_code u' = xg_code u → xg_trLive u' = xg_trLive u → xg_slotOf u' = xg_slotOf u → xg_recording u' = xg_recording u → xv_y u' = xv_y u → xg_crossed u' = xg_crossed u → ((res = 1 ∧ yo_S (xv_y u) 1 (ys_steps (ys_status (xv_y u) 1) (xg_steps u + 1))) ∨ (¬ res = 1 ∧ yo_S (xv_y u) 0 (ys_status (xv_y u) res))) → post res u'
/-- the state with the next cell noted -/
def pf_q (u u0 : SX) (p : Nat) : Prop := xf_t u0 = xf_t u ∧ xg_code u0 = xg_code u ∧ xg_trLive u0 = xg_trLive u ∧ xg_slotOf u0 = xg_slotOf u ∧ xg_recording u0 = xg_recording u ∧ xv_y u0 = xv_y u ∧ xg_crossed u0 = xg_crossed u ∧ xg_crossedTo u0 = xg_crossedTo u ∧ xg_nextPc u0 = nI (p + 1)
section
variable {u u0 : SX} {p c : Nat} {w : Int32}
theorem pf_fail {post : Int32 → SX → Prop} {res : Int32} (hq : pf_q u u0 p) (K : pf_F post u) (h0 : ¬ res = 0) (h1 : ¬ res = 1) (hS : yo_S (xv_y u) 0 (ys_status (xv_y u) res)) : post res u0 := by
  obtain ⟨q1, q2, q3, q4, q5, q6, q7, q8, q9⟩ := hq
  exact K res u0 h0 q1 q2 q3 q4 q5 q6 q7 (Or.inr ⟨h1, hS⟩)
theorem rc_seq (h : ¬ 20 < dc_o w) : rc_ok w p (p + 1) := by
  refine ⟨fun _ => rfl, fun z => ?_, fun z => ?_⟩
  · rcases z with z | z
    · exact absurd (by rw [z]; decide) h
    · exact absurd (by rw [z]; decide) h
  · exact absurd (Int32.lt_trans (by decide) z) h
/-- a plain instruction: the new state differs in registers, memory or output alone -/
theorem pf_plain {post : Int32 → SX → Prop} {u1 : SX} {v : SY} (hI : iv_sl u) (hq : pf_q u u0 p) (K : pf_R post u p c w) (hpc : p < c) (hw : ¬ 20 < dc_o w) (f1 : xf_t u1 = xf_t u0) (f2 : xg_code u1 = xg_code u0) (f3 : xg_trLive u1 = xg_trLive u0) (f4 : xg_slotOf u1 = xg_slotOf u0) (f5 : xg_recording u1 = xg_recording u0) (f6 : xg_crossed u1 = xg_crossed u0) (f7 : xg_crossedTo u1 = xg_crossedTo u0) (f8 : xg_nextPc u1 = xg_nextPc u0)
    (hoc : sm_oc (xg_outCount u1)) (hS : yo_S (xv_y u) 1 v) (hv : v = ys_steps (ys_pc (xv_y u1) (nI (p + 1))) (xg_steps u + 1)) : post 0 u1 := by
  obtain ⟨q1, q2, q3, q4, q5, q6, q7, q8, q9⟩ := hq
  subst hv
  exact K u1 (p + 1) 1 (f1.trans q1) (iv_sl_xf (f1.trans q1) (f2.trans q2) (f3.trans q3) (f4.trans q4) hI) (fun _ => ⟨f5.trans q5, by rw [f2, q2]; exact sm_ag_rf⟩) (fun z => (f5.trans q5).trans z) (f8.trans q9) (by omega) (rc_seq hw) hS (Or.inl ⟨rfl, f7.trans q8, f6.trans q7⟩) hoc
theorem yp_put_e (v : SY) (a x : Int32) : yp_put v a x = ys_steps (ys_pc (ys_r v (upd (yg_r v) a.toNatClampNeg x)) (yg_pc v + 1)) (yg_steps v + 1) := rfl
theorem yp_next_e (v : SY) : yp_next v = ys_steps (ys_pc v (yg_pc v + 1)) (yg_steps v + 1) := rfl
theorem xw_ar58 {post : Int32 → SX → Prop} {k : Nat} (hI : iv_sl u) (hq : pf_q u u0 p) (K : pf_R post u p c w) (hpc : p < c) (hoc : sm_oc (xg_outCount u)) (hp : xg_pc u = nI p) (hP : yo_P (xv_y u) p w) (hk : dc_o w = nI k) (h1 : 1 ≤ k) (h15 : k ≤ 15) (hz : k = 6 ∨ k = 7 → ¬ xg_r u (dc_c w).toNatClampNeg = 0) :
    xq_doArithmetic_58 post (dc_o w) (dc_a w) (dc_i w) (xg_r u (dc_b w).toNatClampNeg) (xg_r u (dc_c w).toNatClampNeg) u0 := by
  have er : xg_r u0 = xg_r u := congrArg yg_r hq.2.2.2.2.2.1
  have eo : xg_outCount u0 = xg_outCount u := congrArg yg_outCount hq.2.2.2.2.2.1
  have hS := yo_ar hP hk h1 h15 hz
  have n20 : ¬ 20 < dc_o w := Int32.not_lt.mpr (by rw [hk]; exact nI_le (b := 20) (by omega) (by decide))
  have fin : ∀ x : Int32, x = ar_f w (xg_r u) → post 0 (xs_r u0 (upd (xg_r u0) (dc_a w).toNatClampNeg x)) := fun x hx => by
    obtain ⟨u1, hu1⟩ : ∃ u1, u1 = xs_r u0 (upd (xg_r u0) (dc_a w).toNatClampNeg x) := ⟨_, rfl⟩
    have z1 : xf_t u1 = xf_t u0 := by rw [hu1]; rfl
    have z2 : xg_code u1 = xg_code u0 ∧ xg_trLive u1 = xg_trLive u0 ∧ xg_slotOf u1 = xg_slotOf u0 ∧ xg_recording u1 = xg_recording u0 ∧ xg_crossed u1 = xg_crossed u0 ∧ xg_crossedTo u1 = xg_crossedTo u0 ∧ xg_nextPc u1 = xg_nextPc u0 ∧ xg_outCount u1 = xg_outCount u0 := by rw [hu1]; exact ⟨rfl, rfl, rfl, rfl, rfl, rfl, rfl, rfl⟩
    have z3 : xv_y u1 = ys_r (xv_y u0) (upd (xg_r u0) (dc_a w).toNatClampNeg x) := by rw [hu1]; rfl
    rw [← hu1]
    obtain ⟨a1, a2, a3, a4, a5, a6, a7, a8⟩ := z2
    refine pf_plain hI hq K hpc n20 z1 a1 a2 a3 a4 a5 a6 a7 (by rw [a8, eo]; exact hoc) hS ?_
    rw [z3, hq.2.2.2.2.2.1, er, yp_put_e, hx, show yg_pc (xv_y u) = nI p from hp, nI_1]
    rfl
  rw [xu_doArithmetic_58]
  refine br_c (fun e => ⟨dc_a8 w, nm_e (fin _ (ar_1 e).symm)⟩) (fun n1 => br_c (fun e => ⟨dc_a8 w, nm_e (fin _ (ar_2 e).symm)⟩) (fun n2 => br_c (fun e => ⟨dc_a8 w, nm_e (fin _ (ar_13 e).symm)⟩) (fun n13 => xw_alu ⟨dc_a8 w, nm_e (fin _ (ar_al n1 n2 n13).symm)⟩)))
theorem xw_doAr {post : Int32 → SX → Prop} {k : Nat} (hI : iv_sl u) (hq : pf_q u u0 p) (K : pf_R post u p c w) (KF : pf_F post u) (hpc : p < c) (hoc : sm_oc (xg_outCount u)) (hp : xg_pc u = nI p) (hP : yo_P (xv_y u) p w) (hk : dc_o w = nI k) (h1 : 1 ≤ k) (h15 : k ≤ 15) : wpX_doArithmetic post u0 (dc_o w) w := by
  have er : xg_r u0 = xg_r u := congrArg yg_r hq.2.2.2.2.2.1
  rw [xu_doArithmetic, er]
  refine nm_e (nm_e ⟨dc_b8 w, nm_e ⟨dc_c8 w, nm_e ?_⟩⟩)
  have h51 : (dc_o w = 6 ∨ dc_o w = 7) → xq_doArithmetic_51 post (dc_o w) (dc_a w) (dc_i w) (xg_r u (dc_b w).toNatClampNeg) (xg_r u (dc_c w).toNatClampNeg) u0 := fun h67 => by
    rw [xu_doArithmetic_51]
    refine br_c (fun hz => ?_) (fun hz => xw_ar58 hI hq K hpc hoc hp hP hk h1 h15 (fun _ => hz))
    refine pf_fail hq KF (by decide) (by decide) ?_
    rcases h67 with e | e
    · exact yo_6z hP e hz
    · exact yo_7z hP e hz
  refine br_c (fun e => h51 (Or.inl e)) (fun n6 => br_c (fun e => h51 (Or.inr e)) (fun n7 => xw_ar58 hI hq K hpc hoc hp hP hk h1 h15 (fun z => ?_)))
  rcases z with z | z
  · exact absurd (show dc_o w = 6 by rw [hk, z]; rfl) n6
  · exact absurd (show dc_o w = 7 by rw [hk, z]; rfl) n7
end
end
section
/-! accesses and jumps, interpreted -/
theorem xk_y {u u' : SX} (h : xk_t u' = xk_t u) : xv_y u' = ys_code (xv_y u) (xg_code u') := by
  unfold xv_y
  rw [xk_codeSize h, xk_memSize h, xk_hot h, xk_pc h, xk_status h, xk_steps h, xk_cursor h, xk_outCount h, xk_crossings h, xk_mem h, xk_r h, xk_out h]
  rfl
theorem yp_n_mem (v : SY) (f : Nat → Int32) : yp_next (ys_mem v f) = ys_steps (ys_pc (ys_mem v f) (yg_pc v + 1)) (yg_steps v + 1) := rfl
theorem yp_n_code (v : SY) (f : Nat → Int32) : yp_next (ys_code v f) = ys_steps (ys_pc (ys_code v f) (yg_pc v + 1)) (yg_steps v + 1) := rfl
theorem yp_n_out (v : SY) (f : Nat → Int32) (x : Int32) : yp_next (ys_out (ys_outCount v x) f) = ys_steps (ys_pc (ys_out (ys_outCount v x) f) (yg_pc v + 1)) (yg_steps v + 1) := rfl
section
variable {u u0 : SX} {p c : Nat} {w : Int32}
theorem pf_r (hq : pf_q u u0 p) : xg_r u0 = xg_r u ∧ xg_mem u0 = xg_mem u ∧ xg_out u0 = xg_out u ∧ xg_outCount u0 = xg_outCount u ∧ xg_codeSize u0 = xg_codeSize u ∧ xg_memSize u0 = xg_memSize u ∧ xg_crossings u0 = xg_crossings u ∧ xg_pc u0 = xg_pc u :=
  ⟨congrArg yg_r hq.2.2.2.2.2.1, congrArg yg_mem hq.2.2.2.2.2.1, congrArg yg_out hq.2.2.2.2.2.1, congrArg yg_outCount hq.2.2.2.2.2.1, congrArg yg_codeSize hq.2.2.2.2.2.1, congrArg yg_memSize hq.2.2.2.2.2.1, congrArg yg_crossings hq.2.2.2.2.2.1, congrArg yg_pc hq.2.2.2.2.2.1⟩
theorem xw_doAcc {post : Int32 → SX → Prop} {k m : Nat} (hI : iv_sl u) (hrh : xg_recording u ≠ 0 → vp_in (xg_recHead u) 64) (hq : pf_q u u0 p) (K : pf_R post u p c w) (KF : pf_F post u) (hc : xg_codeSize u = nI c) (h64 : c ≤ 64) (hm : xg_memSize u = nI m) (hm64 : m ≤ 64) (hpc : p < c) (hoc : sm_oc (xg_outCount u)) (hp : xg_pc u = nI p) (hP : yo_P (xv_y u) p w) (hk : dc_o w = nI k) (h16 : 16 ≤ k) (h20 : k ≤ 20) : wpX_doAccess post u0 (dc_o w) w := by
  obtain ⟨er, em, eout, eoc, ecs, ems, ecr, epc⟩ := pf_r hq
  have n20 : ¬ 20 < dc_o w := Int32.not_lt.mpr (by rw [hk]; exact nI_le (b := 20) (by omega) (by decide))
  have epv : yg_pc (xv_y u) = nI p := hp
  have ey := hq.2.2.2.2.2.1
  rw [xu_doAccess, er, eoc]
  refine nm_e (br_c (fun e20 => ?_) (fun ne20 => ⟨dc_b8 w, nm_e ?_⟩))
  · refine br_c (fun hlt => ?_) (fun hlt => pf_fail hq KF (by decide) (by decide) (yo_20f hP e20 hlt))
    obtain ⟨o, ho64, eo⟩ := id hoc
    have holt : o < 64 := by rw [eo] at hlt; exact (nI_ltI (b := 64) (by omega) (by decide)).mp hlt
    have hv : vp_in (xg_outCount u) 64 := by rw [eo]; exact vp_in_nI holt (by decide)
    refine ⟨dc_a8 w, hv, nm_e (nm_e ?_)⟩
    obtain ⟨u1, hu1⟩ : ∃ u1, u1 = xs_out (xs_outCount u0 (xg_outCount u + 1)) (upd (xg_out u0) (xg_outCount u).toNatClampNeg (xg_r u (dc_a w).toNatClampNeg)) := ⟨_, rfl⟩
    have z1 : xf_t u1 = xf_t u0 := by rw [hu1]; rfl
    have z2 : xg_code u1 = xg_code u0 ∧ xg_trLive u1 = xg_trLive u0 ∧ xg_slotOf u1 = xg_slotOf u0 ∧ xg_recording u1 = xg_recording u0 ∧ xg_crossed u1 = xg_crossed u0 ∧ xg_crossedTo u1 = xg_crossedTo u0 ∧ xg_nextPc u1 = xg_nextPc u0 ∧ xg_outCount u1 = xg_outCount u + 1 := by rw [hu1]; exact ⟨rfl, rfl, rfl, rfl, rfl, rfl, rfl, rfl⟩
    have z3 : xv_y u1 = ys_out (ys_outCount (xv_y u0) (xg_outCount u + 1)) (upd (xg_out u0) (xg_outCount u).toNatClampNeg (xg_r u (dc_a w).toNatClampNeg)) := by rw [hu1]; rfl
    show post 0 (xs_out (xs_outCount u0 (xg_outCount u + 1)) (upd (xg_out u0) (xg_outCount u).toNatClampNeg (xg_r u (dc_a w).toNatClampNeg)))
    rw [← hu1]
    obtain ⟨a1, a2, a3, a4, a5, a6, a7, a8⟩ := z2
    refine pf_plain hI hq K hpc n20 z1 a1 a2 a3 a4 a5 a6 a7 ⟨o + 1, by omega, by rw [a8, eo, nI_1]⟩ (yo_20 hP e20 hlt hv) ?_
    rw [z3, ey, eout, yp_n_out, epv, nI_1]
    rfl
  · have hreg : ∀ x : Int32, yo_S (xv_y u) 1 (yp_put (xv_y u) (dc_a w) x) → post 0 (xs_r u0 (upd (xg_r u) (dc_a w).toNatClampNeg x)) := fun x hS => by
      obtain ⟨u1, hu1⟩ : ∃ u1, u1 = xs_r u0 (upd (xg_r u) (dc_a w).toNatClampNeg x) := ⟨_, rfl⟩
      have z1 : xf_t u1 = xf_t u0 := by rw [hu1]; rfl
      have z2 : xg_code u1 = xg_code u0 ∧ xg_trLive u1 = xg_trLive u0 ∧ xg_slotOf u1 = xg_slotOf u0 ∧ xg_recording u1 = xg_recording u0 ∧ xg_crossed u1 = xg_crossed u0 ∧ xg_crossedTo u1 = xg_crossedTo u0 ∧ xg_nextPc u1 = xg_nextPc u0 ∧ xg_outCount u1 = xg_outCount u0 := by rw [hu1]; exact ⟨rfl, rfl, rfl, rfl, rfl, rfl, rfl, rfl⟩
      have z3 : xv_y u1 = ys_r (xv_y u0) (upd (xg_r u) (dc_a w).toNatClampNeg x) := by rw [hu1]; rfl
      rw [← hu1]
      obtain ⟨a1, a2, a3, a4, a5, a6, a7, a8⟩ := z2
      refine pf_plain hI hq K hpc n20 z1 a1 a2 a3 a4 a5 a6 a7 (by rw [a8, eoc]; exact hoc) hS ?_
      rw [z3, ey, yp_put_e, epv, nI_1]
      rfl
    have h83 : (dc_o w = 16 ∨ dc_o w = 17) → xq_doAccess_83 post (dc_o w) (dc_a w) (xg_r u (dc_b w).toNatClampNeg + dc_i w) u0 := fun h67 => by
      rw [xu_doAccess_83, er, em, ems]
      refine br_c (fun h0 => pf_fail hq KF (by decide) (by decide) ?_) (fun h0 => br_c (fun h1 => ?_) (fun h1 => pf_fail hq KF (by decide) (by decide) ?_))
      · rcases h67 with e | e
        · exact yo_16f0 hP e h0
        · exact yo_17f0 hP e h0
      · have hv : vp_in (xg_r u (dc_b w).toNatClampNeg + dc_i w) 64 := by
          rw [hm] at h1
          obtain ⟨j, hj, ej⟩ := vn_rng (by omega) h0 h1
          rw [ej]; exact vp_in_nI (by omega) (by decide)
        refine br_c (fun e16 => ⟨hv, dc_a8 w, nm_e (hreg _ (yo_16 hP e16 h0 h1 hv))⟩) (fun n16 => ⟨dc_a8 w, hv, nm_e ?_⟩)
        have e17 : dc_o w = 17 := by rcases h67 with e | e; exact absurd e n16; exact e
        obtain ⟨u1, hu1⟩ : ∃ u1, u1 = xs_mem u0 (upd (xg_mem u) (xg_r u (dc_b w).toNatClampNeg + dc_i w).toNatClampNeg (xg_r u (dc_a w).toNatClampNeg)) := ⟨_, rfl⟩
        have z1 : xf_t u1 = xf_t u0 := by rw [hu1]; rfl
        have z2 : xg_code u1 = xg_code u0 ∧ xg_trLive u1 = xg_trLive u0 ∧ xg_slotOf u1 = xg_slotOf u0 ∧ xg_recording u1 = xg_recording u0 ∧ xg_crossed u1 = xg_crossed u0 ∧ xg_crossedTo u1 = xg_crossedTo u0 ∧ xg_nextPc u1 = xg_nextPc u0 ∧ xg_outCount u1 = xg_outCount u0 := by rw [hu1]; exact ⟨rfl, rfl, rfl, rfl, rfl, rfl, rfl, rfl⟩
        have z3 : xv_y u1 = ys_mem (xv_y u0) (upd (xg_mem u) (xg_r u (dc_b w).toNatClampNeg + dc_i w).toNatClampNeg (xg_r u (dc_a w).toNatClampNeg)) := by rw [hu1]; rfl
        rw [← hu1]
        obtain ⟨a1, a2, a3, a4, a5, a6, a7, a8⟩ := z2
        refine pf_plain hI hq K hpc n20 z1 a1 a2 a3 a4 a5 a6 a7 (by rw [a8, eoc]; exact hoc) (yo_17 hP e17 h0 h1 hv) ?_
        rw [z3, ey, yp_n_mem, epv, nI_1]
        rfl
      · rcases h67 with e | e
        · exact yo_16f1 hP e h0 h1
        · exact yo_17f1 hP e h0 h1
    refine br_c (fun e => h83 (Or.inl e)) (fun n16 => br_c (fun e => h83 (Or.inr e)) (fun n17 => ?_))
    have h89 : dc_o w = 18 ∨ dc_o w = 19 := by
      have b1 : k ≠ 16 := fun z => n16 (by show dc_o w = 16; rw [hk, z]; rfl)
      have b2 : k ≠ 17 := fun z => n17 (by show dc_o w = 17; rw [hk, z]; rfl)
      have b4 : k ≠ 20 := fun z => ne20 (by show dc_o w = 20; rw [hk, z]; rfl)
      have : k = 18 ∨ k = 19 := by omega
      rcases this with z | z
      · exact Or.inl (by rw [hk, z]; rfl)
      · exact Or.inr (by rw [hk, z]; rfl)
    rw [ecs, hq.2.1]
    refine br_c (fun h0 => pf_fail hq KF (by decide) (by decide) ?_) (fun h0 => br_c (fun h1 => ?_) (fun h1 => pf_fail hq KF (by decide) (by decide) ?_))
    · rcases h89 with e | e
      · exact yo_18f0 hP e h0
      · exact yo_19f0 hP e h0
    · obtain ⟨j, hj, ej⟩ := vn_rng (c := c) (by omega) h0 (by rw [← hc]; exact h1)
      have ej' : xg_r u (dc_b w).toNatClampNeg + dc_i w = nI j := ej
      have hv : vp_in (xg_r u (dc_b w).toNatClampNeg + dc_i w) 64 := by rw [ej']; exact vp_in_nI (by omega) (by decide)
      refine br_c (fun e18 => ⟨hv, dc_a8 w, nm_e (hreg _ (yo_18 hP e18 h0 h1 hv))⟩) (fun n18 => ⟨dc_a8 w, ?_⟩)
      have e19 : dc_o w = 19 := by rcases h89 with e | e; exact absurd e n18; exact e
      have hS := yo_19 hP e19 h0 h1 hv
      have hI0 : iv_sl u0 := iv_sl_xf hq.1 hq.2.1 hq.2.2.1 hq.2.2.2.1 hI
      show wpX_storeCode (fun u17 => post 0 u17) u0 (xg_r u (dc_b w).toNatClampNeg + dc_i w) (xg_r u (dc_a w).toNatClampNeg)
      have hS' : yo_S (xv_y u) 1 (yp_next (ys_code (xv_y u) (upd (xg_code u) (xg_r u (dc_b w).toNatClampNeg + dc_i w).toNatClampNeg (xg_r u (dc_a w).toNatClampNeg)))) := hS
      rw [ej', nI_clamp (by omega)] at hS'
      rw [ej']
      refine xw_storeCode (ecs.trans hc) h64 hj hI0 (fun z => by rw [xf_recHead hq.1]; exact hrh (by rw [← hq.2.2.2.2.1]; exact z)) (fun u1 g1 g2 g3 g4 g5 g6 => ?_)
      have gx := xk_xf g1
      refine K u1 (p + 1) 1 (gx.trans hq.1) g3 (fun z => ?_) (fun z => g6 (hq.2.2.2.2.1.trans z)) ((xk_nextPc g1).trans hq.2.2.2.2.2.2.2.2) (by omega) (rc_seq n20) ?_ (Or.inl ⟨rfl, (xk_crossedTo g1).trans hq.2.2.2.2.2.2.2.1, (xk_crossed g1).trans hq.2.2.2.2.2.2.1⟩) (by rw [xk_outCount g1, eoc]; exact hoc)
      · obtain ⟨b1, b2⟩ := g5 z
        refine ⟨b1.trans hq.2.2.2.2.1, fun p' hp' hmb => ?_⟩
        rw [g2, hq.2.1]
        rw [xf_recMask hq.1, hq.2.1] at b2
        by_cases e : p' = j
        · subst e
          rw [pk_us]
          rcases b2 with b2 | b2
          · exact absurd hmb b2
          · exact b2.symm
        · exact pk_un e
      · rw [xk_y g1, g2, ey, hq.2.1]
        rw [yp_n_code, epv, nI_1] at hS'
        exact hS'
    · rcases h89 with e | e
      · exact yo_18f1 hP e h0 h1
      · exact yo_19f1 hP e h0 h1
end
end
section
/-! jumps, interpreted; the instruction as a whole -/
theorem yp_go_r (v : SY) (f : Nat → Int32) (t : Int32) : yp_go (ys_r v f) t = ys_steps (ys_pc (ys_r v f) t) (yg_steps v + 1) := rfl
theorem yp_go_e (v : SY) (t : Int32) : yp_go v t = ys_steps (ys_pc v t) (yg_steps v + 1) := rfl
theorem yp_cr_e (v : SY) (t : Int32) : yp_cross v t = ys_steps (ys_pc (ys_crossings v (upd (yg_crossings v) t.toNatClampNeg (yg_crossings v t.toNatClampNeg + 1))) t) (yg_steps v + 1) := rfl
theorem ys_r_pc (v : SY) (f : Nat → Int32) : yg_pc (ys_r v f) = yg_pc v ∧ yg_codeSize (ys_r v f) = yg_codeSize v ∧ yg_steps (ys_r v f) = yg_steps v ∧ yg_crossings (ys_r v f) = yg_crossings v := ⟨rfl, rfl, rfl, rfl⟩
theorem xw_isTaken {post : Int32 → Prop} {u : SX} {o x y : Int32} (h1 : jt_p o x y → post 1) (h0 : ¬ jt_p o x y → post 0) : wpX_isTaken post u o x y := by
  rw [xu_isTaken]
  by_cases e2 : o = 22
  · subst e2; rw [jt_22] at h1 h0; exact br_f (by decide) (br_f (by decide) (br_t rfl (br_c h1 h0)))
  by_cases e3 : o = 23
  · subst e3; rw [jt_23] at h1 h0; exact br_f (by decide) (br_f (by decide) (br_f e2 (br_t rfl (br_c (fun z => h0 (fun q => q z)) h1))))
  by_cases e4 : o = 24
  · subst e4; rw [jt_24] at h1 h0; exact br_f (by decide) (br_f (by decide) (br_f e2 (br_f e3 (br_t rfl (br_c (fun z => h0 (fun q => q z)) h1)))))
  by_cases e5 : o = 25
  · subst e5; rw [jt_25] at h1 h0; exact br_f (by decide) (br_f (by decide) (br_f e2 (br_f e3 (br_f e4 (br_t rfl (br_c (fun z => h0 (fun q => q z)) h1))))))
  by_cases e6 : o = 26
  · subst e6; rw [jt_26] at h1 h0; exact br_f (by decide) (br_f (by decide) (br_f e2 (br_f e3 (br_f e4 (br_f e5 (br_t rfl (br_c h1 h0)))))))
  by_cases e7 : o = 27
  · subst e7; rw [jt_27] at h1 h0; exact br_f (by decide) (br_f (by decide) (br_f e2 (br_f e3 (br_f e4 (br_f e5 (br_f e6 (br_t rfl (br_c (fun z => h0 (fun q => q z)) h1))))))))
  have hp : post 1 := h1 (by unfold jt_p; rw [if_neg e2, if_neg e3, if_neg e4, if_neg e5, if_neg e6, if_neg e7]; trivial)
  exact br_c (fun _ => hp) (fun _ => br_c (fun _ => hp) (fun _ => br_f e2 (br_f e3 (br_f e4 (br_f e5 (br_f e6 (br_f e7 trivial)))))))
section
variable {u u0 : SX} {p c : Nat} {w : Int32}
/-- a taken jump's end: r' are the registers behind it -/
theorem xw_dj99 {post : Int32 → SX → Prop} {u1 : SX} {q : Nat} (hI : iv_sl u) (hq : pf_q u u0 p) (K : pf_R post u p c w) (h64 : c ≤ 64) (hqc : q < c) (hpc : p < c) (hoc : sm_oc (xg_outCount u)) (hrc : rc_ok w p q)
    (f1 : xf_t u1 = xf_t u0) (f2 : xg_code u1 = xg_code u0) (f3 : xg_trLive u1 = xg_trLive u0) (f4 : xg_slotOf u1 = xg_slotOf u0) (f5 : xg_recording u1 = xg_recording u0) (f6 : xg_crossed u1 = xg_crossed u0) (f7 : xg_crossedTo u1 = xg_crossedTo u0) (f8 : xg_outCount u1 = xg_outCount u0)
    (hg : p < q → yo_S (xv_y u) 1 (yp_go (xv_y u1) (nI q))) (hb : q ≤ p → yo_S (xv_y u) 2 (yp_cross (xv_y u1) (nI q))) : xq_doJump_99 post (nI p) (nI q) u1 := by
  obtain ⟨q1, q2, q3, q4, q5, q6, q7, q8, q9⟩ := id hq
  have est : xg_steps u1 = xg_steps u := xf_steps (f1.trans q1)
  have eoc : xg_outCount u1 = xg_outCount u := f8.trans (congrArg yg_outCount q6)
  have hv : vp_in (nI q) 64 := vp_in_nI (by omega) (by decide)
  rw [xu_doJump_99]
  refine pk_lt p q (fun hpq => ?_) (fun hpq => ⟨hv, hv, nm_e (nm_e ?_)⟩)
  · obtain ⟨u2, hu2⟩ : ∃ u2, u2 = xs_nextPc u1 (nI q) := ⟨_, rfl⟩
    have z1 : xf_t u2 = xf_t u1 := by rw [hu2]; rfl
    have z2 : xg_code u2 = xg_code u1 ∧ xg_trLive u2 = xg_trLive u1 ∧ xg_slotOf u2 = xg_slotOf u1 ∧ xg_recording u2 = xg_recording u1 ∧ xg_crossed u2 = xg_crossed u1 ∧ xg_crossedTo u2 = xg_crossedTo u1 ∧ xg_nextPc u2 = nI q ∧ xg_outCount u2 = xg_outCount u1 := by rw [hu2]; exact ⟨rfl, rfl, rfl, rfl, rfl, rfl, rfl, rfl⟩
    have z3 : xv_y u2 = xv_y u1 := by rw [hu2]; rfl
    rw [← hu2]
    obtain ⟨a1, a2, a3, a4, a5, a6, a7, a8⟩ := z2
    have hS := hg hpq
    rw [yp_go_e, show yg_steps (xv_y u1) = xg_steps u1 from rfl, est, ← z3] at hS
    exact K u2 q 1 (z1.trans (f1.trans q1)) (iv_sl_xf (z1.trans (f1.trans q1)) (a1.trans (f2.trans q2)) (a2.trans (f3.trans q3)) (a3.trans (f4.trans q4)) hI) (fun _ => ⟨a4.trans (f5.trans q5), by rw [a1, f2, q2]; exact sm_ag_rf⟩) (fun z => (a4.trans (f5.trans q5)).trans z) a7 (by omega) hrc hS (Or.inl ⟨rfl, a6.trans (f7.trans q8), a5.trans (f6.trans q7)⟩) (by rw [a8, eoc]; exact hoc)
  · obtain ⟨u2, hu2⟩ : ∃ u2, u2 = xs_crossings (xs_crossedTo (xs_nextPc (xs_crossed u1 (xg_crossed u1 + 1)) (nI q)) (nI q)) (upd (xg_crossings u1) (nI q).toNatClampNeg (xg_crossings u1 (nI q).toNatClampNeg + 1)) := ⟨_, rfl⟩
    have z1 : xf_t u2 = xf_t u1 := by rw [hu2]; rfl
    have z2 : xg_code u2 = xg_code u1 ∧ xg_trLive u2 = xg_trLive u1 ∧ xg_slotOf u2 = xg_slotOf u1 ∧ xg_recording u2 = xg_recording u1 ∧ xg_crossed u2 = xg_crossed u1 + 1 ∧ xg_crossedTo u2 = nI q ∧ xg_nextPc u2 = nI q ∧ xg_outCount u2 = xg_outCount u1 := by rw [hu2]; exact ⟨rfl, rfl, rfl, rfl, rfl, rfl, rfl, rfl⟩
    have z3 : xv_y u2 = ys_crossings (xv_y u1) (upd (xg_crossings u1) (nI q).toNatClampNeg (xg_crossings u1 (nI q).toNatClampNeg + 1)) := by rw [hu2]; rfl
    rw [← hu2]
    obtain ⟨a1, a2, a3, a4, a5, a6, a7, a8⟩ := z2
    have hS := hb hpq
    rw [yp_cr_e, show yg_steps (xv_y u1) = xg_steps u1 from rfl, est, show yg_crossings (xv_y u1) = xg_crossings u1 from rfl, ← z3] at hS
    exact K u2 q 2 (z1.trans (f1.trans q1)) (iv_sl_xf (z1.trans (f1.trans q1)) (a1.trans (f2.trans q2)) (a2.trans (f3.trans q3)) (a3.trans (f4.trans q4)) hI) (fun _ => ⟨a4.trans (f5.trans q5), by rw [a1, f2, q2]; exact sm_ag_rf⟩) (fun z => (a4.trans (f5.trans q5)).trans z) a7 (by omega) hrc hS (Or.inr ⟨rfl, hqc, a6, by rw [a5, f6, q7]⟩) (by rw [a8, eoc]; exact hoc)
end
end
section
/-! jumps, interpreted: the whole; the instruction -/
theorem jt_28 (x y : Int32) : jt_p 28 x y = True := by unfold jt_p; rw [if_neg (by decide), if_neg (by decide), if_neg (by decide), if_neg (by decide), if_neg (by decide), if_neg (by decide)]
section
variable {u u0 : SX} {p c : Nat} {w : Int32}
theorem rc_jmp {k q : Nat} (hk : dc_o w = nI k) (h21 : 21 ≤ k) (h : k ≠ 29 → nI q = dc_i w) (h29 : k ≤ 29) : rc_ok w p q := by
  refine ⟨fun z => absurd (show 20 < dc_o w by rw [hk]; exact nI_lt (a := 20) (by omega) (by omega)) z, fun z => h ?_, fun z1 z2 => Or.inl (h ?_)⟩
  · rintro rfl
    rcases z with z | z <;> rw [hk] at z <;> exact absurd z (by decide)
  · rintro rfl
    rw [hk] at z2; exact absurd z2 (by decide)
theorem xw_dj66 {post : Int32 → SX → Prop} {k : Nat} {t : Int32} (hI : iv_sl u) (hq : pf_q u u0 p) (K : pf_R post u p c w) (KF : pf_F post u) (hc : xg_codeSize u = nI c) (h64 : c ≤ 64) (hpc : p < c) (hoc : sm_oc (xg_outCount u)) (hp : xg_pc u = nI p) (hP : yo_P (xv_y u) p w) (hk : dc_o w = nI k) (h21 : 21 ≤ k) (h29 : k ≤ 29)
    (ht : t = if k = 29 then xg_r u (dc_a w).toNatClampNeg else dc_i w) (hj : jt_p (dc_o w) (xg_r u (dc_a w).toNatClampNeg) (xg_r u (dc_b w).toNatClampNeg)) : xq_doJump_66 post (dc_o w) (nI p) (dc_a w) t u0 := by
  obtain ⟨er, em, eout, eoc, ecs, ems, ecr, epc⟩ := pf_r hq
  have ey := hq.2.2.2.2.2.1
  have ecv : yg_codeSize (xv_y u) = nI c := hc
  have epv : yg_pc (xv_y u) = nI p := hp
  have hbad : (t < 0 ∨ ¬ t < xg_codeSize u) → post 7 u0 := fun hb => by
    refine pf_fail hq KF (by decide) (by decide) ?_
    by_cases e28 : k = 28
    · have hi : t = dc_i w := by rw [ht, if_neg (by omega)]
      exact yo_28f hP (by rw [hk, e28]; rfl) (by rw [← hi]; exact hb)
    · exact yo_jmp hP hk h21 h29 e28 ht (Or.inr (Or.inl ⟨hj, hb, rfl, rfl⟩))
  rw [xu_doJump_66, ecs]
  refine br_c (fun h0 => hbad (Or.inl h0)) (fun h0 => br_c (fun h1 => ?_) (fun h1 => hbad (Or.inr h1)))
  obtain ⟨q, hqc, eq⟩ := vn_rng (c := c) (by omega) h0 (by rw [← hc]; exact h1)
  have hlt : nI q < yg_codeSize (xv_y u) := by rw [ecv]; exact nI_lt hqc (by omega)
  have hpos : ¬ nI q < 0 := nI_pos (by omega)
  rw [eq]
  refine br_c (fun e28 => ⟨dc_a8 w, nm_e ?_⟩) (fun n28 => ?_)
  · have k28 : k = 28 := (nI_eq (by omega) (by decide)).mp (hk.symm.trans e28)
    have hi : dc_i w = nI q := by rw [← eq, ht, if_neg (by omega)]
    obtain ⟨u1, hu1⟩ : ∃ u1, u1 = xs_r u0 (upd (xg_r u0) (dc_a w).toNatClampNeg (nI p + 1)) := ⟨_, rfl⟩
    have z1 : xf_t u1 = xf_t u0 := by rw [hu1]; rfl
    have z2 : xg_code u1 = xg_code u0 ∧ xg_trLive u1 = xg_trLive u0 ∧ xg_slotOf u1 = xg_slotOf u0 ∧ xg_recording u1 = xg_recording u0 ∧ xg_crossed u1 = xg_crossed u0 ∧ xg_crossedTo u1 = xg_crossedTo u0 ∧ xg_outCount u1 = xg_outCount u0 := by rw [hu1]; exact ⟨rfl, rfl, rfl, rfl, rfl, rfl, rfl⟩
    have z3 : xv_y u1 = ys_r (xv_y u0) (upd (xg_r u0) (dc_a w).toNatClampNeg (nI p + 1)) := by rw [hu1]; rfl
    rw [ey, er] at z3
    rw [← hu1]
    obtain ⟨a1, a2, a3, a4, a5, a6, a7⟩ := z2
    have key : ∀ (kd : Int32) (v : SY), yo_j (xv_y u1) True (nI q) kd v → yo_S (xv_y u) kd v := fun kd v hjj => by
      refine yo_28 hP e28 (by rw [hi]; exact hpos) (by rw [hi]; exact hlt) ?_
      rw [hi, epv]
      rw [z3] at hjj
      exact hjj
    have ecs1 : nI q < yg_codeSize (xv_y u1) := by rw [z3, (ys_r_pc _ _).2.1]; exact hlt
    have epc1 : yg_pc (xv_y u1) = nI p := by rw [z3, (ys_r_pc _ _).1]; exact epv
    refine xw_dj99 hI hq K h64 hqc hpc hoc (rc_jmp hk h21 (fun _ => hi.symm) h29) z1 a1 a2 a3 a4 a5 a6 a7 (fun hpq => key _ _ (Or.inr (Or.inr (Or.inl ⟨trivial, hpos, ecs1, by rw [epc1]; exact nI_lt hpq (by omega), rfl, rfl⟩)))) (fun hpq => key _ _ (Or.inr (Or.inr (Or.inr ⟨trivial, hpos, ecs1, by rw [epc1]; exact nI_nlt hpq (by omega), rfl, rfl⟩))))
  · have k28 : k ≠ 28 := fun z => n28 (by rw [hk, z]; rfl)
    have hi : k ≠ 29 → nI q = dc_i w := fun z => by rw [← eq, ht, if_neg z]
    refine xw_dj99 hI hq K h64 hqc hpc hoc (rc_jmp hk h21 hi h29) rfl rfl rfl rfl rfl rfl rfl rfl (fun hpq => ?_) (fun hpq => ?_)
    · rw [ey]
      exact yo_jmp hP hk h21 h29 k28 (eq.symm.trans ht) (Or.inr (Or.inr (Or.inl ⟨hj, hpos, hlt, by rw [epv]; exact nI_lt hpq (by omega), rfl, rfl⟩)))
    · rw [ey]
      exact yo_jmp hP hk h21 h29 k28 (eq.symm.trans ht) (Or.inr (Or.inr (Or.inr ⟨hj, hpos, hlt, by rw [epv]; exact nI_nlt hpq (by omega), rfl, rfl⟩)))
theorem xw_doJump {post : Int32 → SX → Prop} {k : Nat} (hI : iv_sl u) (hq : pf_q u u0 p) (K : pf_R post u p c w) (KF : pf_F post u) (hc : xg_codeSize u = nI c) (h64 : c ≤ 64) (hpc : p < c) (hoc : sm_oc (xg_outCount u)) (hp : xg_pc u = nI p) (hP : yo_P (xv_y u) p w) (hk : dc_o w = nI k) (h21 : 21 ≤ k) (h29 : k ≤ 29) : wpX_doJump post u0 (dc_o w) w (nI p) := by
  obtain ⟨er, em, eout, eoc, ecs, ems, ecr, epc⟩ := pf_r hq
  obtain ⟨q1, q2, q3, q4, q5, q6, q7, q8, q9⟩ := id hq
  rw [xu_doJump, er]
  refine nm_e (nm_e ⟨dc_a8 w, dc_b8 w, xw_isTaken (fun hj => br_f (by decide) (nm_e ?_)) (fun hj => br_t rfl ?_)⟩)
  · refine br_c (fun e29 => ⟨dc_a8 w, nm_e ?_⟩) (fun n29 => ?_)
    · have k29 : k = 29 := (nI_eq (by omega) (by decide)).mp (hk.symm.trans e29)
      exact xw_dj66 hI hq K KF hc h64 hpc hoc hp hP hk h21 h29 (by rw [if_pos k29]; rfl) hj
    · have k29 : k ≠ 29 := fun z => n29 (by rw [hk, z]; rfl)
      exact xw_dj66 hI hq K KF hc h64 hpc hoc hp hP hk h21 h29 (by rw [if_neg k29]; rfl) hj
  · have hj' : ¬ jt_p (dc_o w) (xg_r u (dc_a w).toNatClampNeg) (xg_r u (dc_b w).toNatClampNeg) := hj
    have hr : 22 ≤ k ∧ k ≤ 27 := by
      have b1 : k ≠ 21 := fun z => hj' (by rw [show dc_o w = 21 by rw [hk, z]; rfl, jt_21]; trivial)
      have b2 : k ≠ 28 := fun z => hj' (by rw [show dc_o w = 28 by rw [hk, z]; rfl, jt_28]; trivial)
      have b3 : k ≠ 29 := fun z => hj' (by rw [show dc_o w = 29 by rw [hk, z]; rfl, jt_29]; trivial)
      omega
    have hS : yo_S (xv_y u) 1 (yp_next (xv_y u)) := yo_jmp hP hk h21 h29 (by omega) rfl (Or.inl ⟨hj', rfl, rfl⟩)
    rw [yp_next_e, show yg_pc (xv_y u) = nI p from hp, nI_1, ← q6] at hS
    refine K u0 (p + 1) 1 q1 (iv_sl_xf q1 q2 q3 q4 hI) (fun _ => ⟨q5, by rw [q2]; exact sm_ag_rf⟩) (fun z => q5.trans z) q9 (by omega) ⟨fun z => absurd (show 20 < dc_o w by rw [hk]; exact nI_lt (a := 20) (by omega) (by omega)) z, fun z => ?_, fun _ _ => Or.inr rfl⟩ ?_ (Or.inl ⟨rfl, q8, q7⟩) (by rw [eoc]; exact hoc)
    · rcases z with z | z
      · have := (nI_eq (b := 21) (by omega) (by decide)).mp (hk.symm.trans z); omega
      · have := (nI_eq (b := 28) (by omega) (by decide)).mp (hk.symm.trans z); omega
    · have e : yg_steps (xv_y u0) = xg_steps u := by rw [q6]; rfl
      rw [e, q6] at hS
      rw [q6]
      exact hS
theorem xw_perform {post : Int32 → SX → Prop} {m : Nat} (hI : iv_sl u) (hrh : xg_recording u ≠ 0 → vp_in (xg_recHead u) 64) (K : pf_R post u p c w) (KF : pf_F post u) (hc : xg_codeSize u = nI c) (h64 : c ≤ 64) (hm : xg_memSize u = nI m) (hm64 : m ≤ 64) (hpc : p < c) (hoc : sm_oc (xg_outCount u)) (hp : xg_pc u = nI p) (hw : xg_code u p = w) : wpX_perform post u (nI p) w := by
  have hP : yo_P (xv_y u) p w := ⟨hp, ⟨c, hc, hpc, h64⟩, hw⟩
  rw [xu_perform]
  refine nm_e (nm_r (nI_1 p) ?_)
  obtain ⟨u0, hu0⟩ : ∃ u0, u0 = xs_nextPc u (nI (p + 1)) := ⟨_, rfl⟩
  have hq : pf_q u u0 p := by rw [hu0]; exact ⟨rfl, rfl, rfl, rfl, rfl, rfl, rfl, rfl, rfl⟩
  rw [← hu0]
  obtain ⟨k, hk32, hk⟩ := dc_o32 w
  obtain ⟨q1, q2, q3, q4, q5, q6, q7, q8, q9⟩ := id hq
  show (((dc_o w) = 0 → (post 1 u0)) ∧ (¬ (dc_o w) = 0 → (((15 < dc_o w → (((20 < dc_o w → (((29 < dc_o w → (post 2 u0)) ∧ (¬ 29 < dc_o w → (wpX_doJump (fun r_7 u18 => (post r_7 u18)) u0 (dc_o w) w (nI p)))))) ∧ (¬ 20 < dc_o w → (wpX_doAccess (fun r_85 u19 => (post r_85 u19)) u0 (dc_o w) w))))) ∧ (¬ 15 < dc_o w → (wpX_doArithmetic (fun r_163 u20 => (post r_163 u20)) u0 (dc_o w) w))))))
  refine br_c (fun e0 => KF 1 u0 (by decide) q1 q2 q3 q4 q5 q6 q7 (Or.inl ⟨rfl, yo_0 hP e0⟩)) (fun n0 => br_c (fun h15 => br_c (fun h20 => br_c (fun h29 => ?_) (fun h29 => ?_)) (fun h20 => ?_)) (fun h15 => ?_))
  · rw [hk] at h29
    exact pf_fail hq KF (by decide) (by decide) (yo_bad hP hk ((nI_ltI (a := 29) (by decide) (by omega)).mp h29) hk32)
  · rw [hk] at h20 h29
    have a1 : 20 < k := (nI_ltI (a := 20) (by decide) (by omega)).mp h20
    have a2 : k ≤ 29 := Nat.le_of_not_lt (fun z => h29 (nI_lt (a := 29) z (by omega)))
    exact xw_doJump hI hq K KF hc h64 hpc hoc hp hP hk (by omega) a2
  · rw [hk] at h15 h20
    have a1 : 15 < k := (nI_ltI (a := 15) (by decide) (by omega)).mp h15
    have a2 : k ≤ 20 := Nat.le_of_not_lt (fun z => h20 (nI_lt (a := 20) z (by omega)))
    exact xw_doAcc hI hrh hq K KF hc h64 hm hm64 hpc hoc hp hP hk (by omega) a2
  · rw [hk] at h15
    have a2 : k ≤ 15 := Nat.le_of_not_lt (fun z => h15 (nI_lt (a := 15) z (by omega)))
    have a1 : k ≠ 0 := fun z => n0 (by rw [hk, z]; rfl)
    exact xw_doAr hI hq K KF hpc hoc hp hP hk (by omega) a2
end
end
section
/-! the recorder and the step -/
def rc_mid (u : SX) (p : Nat) : Prop := xg_recording u = 0 ∨ ∃ cs h n : Nat, xg_codeSize u = nI cs ∧ cs ≤ 64 ∧ xg_recHead u = nI h ∧ xg_recLen u = nI n ∧ n < 96 ∧ iv_path cs (xg_code u) (xg_recMask u) h n (xg_recPc u) (xg_recWord u) (xg_recNext u) (nI p) ∧ p < cs ∧ xg_recPc u n = nI p ∧ xg_recWord u n = xg_code u p ∧ mb_p (xg_recMask u) (nI p)
theorem iv_rec_h {u : SX} (h : iv_rec u) : xg_recording u ≠ 0 → vp_in (xg_recHead u) 64 := fun hr => by
  rcases h with h | ⟨cs, h, n, h1, h2, h3, h4, h5, h6⟩
  · exact absurd h hr
  · rw [h3]; have := h6.1; exact vp_in_nI (by omega) (by decide)
/-- a tuple of what the recorder leaves alone -/
def nt_q (u u' : SX) : Prop := xv_y u' = xv_y u ∧ xg_done u' = xg_done u ∧ xg_crossed u' = xg_crossed u ∧ xg_crossedTo u' = xg_crossedTo u ∧ xg_nextVictim u' = xg_nextVictim u
section
variable {u : SX} {p c : Nat}
theorem xw_noteBefore {post : SX → Prop} {w : Int32} (hI : iv_sl u) (hR : iv_rec u) (hr : xg_recording u ≠ 0) (hc : xg_codeSize u = nI c) (h64 : c ≤ 64) (hpc : p < c) (hp : xg_pc u = nI p) (hw : xg_code u p = w)
    (K : ∀ u' : SX, nt_q u u' → iv_sl u' → rc_mid u' p → xg_recording u' = xg_recording u → post u') : wpX_noteBefore post u (nI p) w := by
  rcases hR with hR | ⟨cs, h, n, h1, h2, h3, h4, h5, h6, h7, h8, h9⟩
  · exact absurd hR hr
  have ecs : cs = c := (nI_eq (by omega) (by omega)).mp (h1.symm.trans hc)
  subst ecs
  have hv : vp_in (nI n) 96 := vp_in_nI h5 (by decide)
  rw [xu_noteBefore, h4, nI_clamp (by omega)]
  refine br_f (nI_ge (b := 96) h5 (by decide)) ⟨hv, nm_e ⟨hv, nm_e (nm_e ?_)⟩⟩
  obtain ⟨u', hu⟩ : ∃ u', u' = xs_recWord (xs_recPc (xs_recMask u (xg_recMask u ||| ((1 : Int64) <<< ((nI p).toInt64 &&& 63)))) (upd (xg_recPc u) n (nI p))) (upd (xg_recWord u) n w) := ⟨_, rfl⟩
  have z1 : nt_q u u' := by rw [hu]; exact ⟨rfl, rfl, rfl, rfl, rfl⟩
  have z2 : iv_sl u' := by rw [hu]; exact hI
  have z3 : xg_recMask u' = xg_recMask u ||| ((1 : Int64) <<< ((nI p).toInt64 &&& 63)) ∧ xg_recPc u' = upd (xg_recPc u) n (nI p) ∧ xg_recWord u' = upd (xg_recWord u) n w ∧ xg_recNext u' = xg_recNext u ∧ xg_recHead u' = xg_recHead u ∧ xg_recLen u' = xg_recLen u ∧ xg_recording u' = xg_recording u ∧ xg_code u' = xg_code u ∧ xg_codeSize u' = xg_codeSize u := by rw [hu]; exact ⟨rfl, rfl, rfl, rfl, rfl, rfl, rfl, rfl, rfl⟩
  rw [← hu]
  obtain ⟨a1, a2, a3, a4, a5, a6, a7, a8, a9⟩ := z3
  refine K u' z1 z2 (Or.inr ⟨cs, h, n, a9.trans h1, h2, a5.trans h3, a6.trans h4, h5, ?_, hpc, by rw [a2, pk_us], by rw [a3, pk_us, a8, hw], by rw [a1]; exact mb_or (by omega) (by omega) (Or.inr rfl)⟩) a7
  rw [a1, a2, a3, a4, a8]
  refine ⟨h6, fun hn => by rw [← hp]; exact h7 hn, fun hn => by rw [pk_un (by omega)]; exact h8 hn, fun i hi => ?_⟩
  obtain ⟨p', q, b1, b2, b3, b4, b5, b6, b7, b8, b9⟩ := h9 i hi
  refine ⟨p', q, by rw [pk_un (by omega)]; exact b1, b2, mb_or (by omega) (by omega) (Or.inl b3), by rw [pk_un (by omega)]; exact b4, b5, b6, b7, fun hn => by rw [pk_un (by omega)]; exact b8 hn, fun hn => by rw [← hp]; exact b9 hn⟩
theorem xw_warmUp {post : SX → Prop} {q : Nat} (hI : iv_sl u) (hR : iv_rec u) (hc : xg_codeSize u = nI c) (h64 : c ≤ 64) (hqc : q < c) (hp : xg_pc u = nI q)
    (K : ∀ u' : SX, nt_q u u' → iv_sl u' → iv_rec u' → post u') : wpX_warmUp post u (nI q) := by
  have hv : vp_in (nI q) 64 := vp_in_nI (by omega) (by decide)
  have K0 : post u := K u ⟨rfl, rfl, rfl, rfl, rfl⟩ hI hR
  rw [xu_warmUp]
  refine br_c (fun hr => ⟨hv, br_c (fun _ => ⟨hv, br_c (fun _ => ⟨hv, hv, nm_e ⟨hv, br_c (fun _ => ?_) (fun _ => ⟨hv, nm_e ?_⟩)⟩⟩) (fun _ => K0)⟩) (fun _ => K0)⟩) (fun _ => K0)
  · exact K _ ⟨rfl, rfl, rfl, rfl, rfl⟩ hI (Or.inl hr)
  · refine K _ ⟨rfl, rfl, rfl, rfl, rfl⟩ hI (Or.inr ⟨c, q, 0, hc, h64, rfl, rfl, by omega, hqc, fun _ => hp, fun z => by omega, fun i hi => by omega⟩)
theorem xw_noteAfter {post : SX → Prop} {q w : Nat} (hI : iv_sl u) (hnv : ∃ k : Nat, k < 8 ∧ xg_nextVictim u = nI k) (hm : ∃ m : Nat, m ≤ 64 ∧ xg_memSize u = nI m) (hR : rc_mid u p) (hr : xg_recording u ≠ 0) (hc : xg_codeSize u = nI c) (h64 : c ≤ 64) (hqc : q ≤ c) (hp : xg_pc u = nI q) (hrc : rc_ok (xg_code u p) p q)
    (K : ∀ u' : SX, xv_y u' = xv_y u → xg_done u' = xg_done u → xg_crossed u' = xg_crossed u → xg_crossedTo u' = xg_crossedTo u → (∃ k : Nat, k < 8 ∧ xg_nextVictim u' = nI k) → iv_sl u' → iv_rec u' → post u') : wpX_noteAfter post u := by
  rcases hR with hR | ⟨cs, h, n, h1, h2, h3, h4, h5, ⟨h6, h7, h8, h9⟩, hpc, h10, h11, h12⟩
  · exact absurd hR hr
  have ecs : cs = c := (nI_eq (by omega) (by omega)).mp (h1.symm.trans hc)
  subst ecs
  have hv : vp_in (nI n) 96 := vp_in_nI h5 (by decide)
  rw [xu_noteAfter, h4, nI_clamp (by omega)]
  refine br_f (nI_ge (b := 96) h5 (by decide)) ⟨hv, nm_e (nm_r (nI_1 n) ?_)⟩
  obtain ⟨u3, hu⟩ : ∃ u3, u3 = xs_recNext (xs_recLen u (nI (n + 1))) (upd (xg_recNext u) n (xg_pc u)) := ⟨_, rfl⟩
  have z1 : nt_q u u3 := by rw [hu]; exact ⟨rfl, rfl, rfl, rfl, rfl⟩
  have z2 : iv_sl u3 := by rw [hu]; exact hI
  have z3 : xg_recNext u3 = upd (xg_recNext u) n (xg_pc u) ∧ xg_recLen u3 = nI (n + 1) ∧ xg_recPc u3 = xg_recPc u ∧ xg_recWord u3 = xg_recWord u ∧ xg_recHead u3 = xg_recHead u ∧ xg_recMask u3 = xg_recMask u ∧ xg_recording u3 = xg_recording u ∧ xg_code u3 = xg_code u ∧ xg_codeSize u3 = xg_codeSize u ∧ xg_pc u3 = xg_pc u ∧ xg_memSize u3 = xg_memSize u := by rw [hu]; exact ⟨rfl, rfl, rfl, rfl, rfl, rfl, rfl, rfl, rfl, rfl, rfl⟩
  rw [← hu]
  obtain ⟨a1, a2, a3, a4, a5, a6, a7, a8, a9, a10, a11⟩ := z3
  obtain ⟨y1, y2, y3, y4, y5⟩ := z1
  -- the path, one longer
  have P : iv_path cs (xg_code u) (xg_recMask u) h (n + 1) (xg_recPc u) (xg_recWord u) (upd (xg_recNext u) n (xg_pc u)) (xg_pc u) := by
    refine ⟨h6, fun z => by omega, fun _ => ?_, fun i hi => ?_⟩
    · by_cases e : n = 0
      · rw [e] at h10; rw [h10]; exact h7 e
      · exact h8 (by omega)
    · by_cases e : i = n
      · subst e
        exact ⟨p, q, h10, hpc, h12, h11, by rw [pk_us]; exact hp, hqc, hrc, fun z => by omega, fun _ => hp⟩
      · obtain ⟨p', q', b1, b2, b3, b4, b5, b6, b7, b8, b9⟩ := h9 i (by omega)
        refine ⟨p', q', b1, b2, b3, b4, by rw [pk_un e]; exact b5, b6, b7, fun z => ?_, fun z => by omega⟩
        by_cases e2 : i + 1 = n
        · rw [e2, h10]; exact b9 e2
        · exact b8 (by omega)
  rw [xu_noteAfter_32]
  refine br_c (fun e => ?_) (fun e => br_c (fun hlt => ?_) (fun hlt => ?_))
  · obtain ⟨u4, hu4⟩ : ∃ u4, u4 = xs_recording u3 0 := ⟨_, rfl⟩
    have w1 : nt_q u3 u4 := by rw [hu4]; exact ⟨rfl, rfl, rfl, rfl, rfl⟩
    have w2 : iv_sl u4 := by rw [hu4]; exact z2
    have w3 : xg_recNext u4 = xg_recNext u3 ∧ xg_recLen u4 = xg_recLen u3 ∧ xg_recPc u4 = xg_recPc u3 ∧ xg_recWord u4 = xg_recWord u3 ∧ xg_recHead u4 = xg_recHead u3 ∧ xg_recMask u4 = xg_recMask u3 ∧ xg_recording u4 = 0 ∧ xg_code u4 = xg_code u3 ∧ xg_codeSize u4 = xg_codeSize u3 ∧ xg_memSize u4 = xg_memSize u3 := by rw [hu4]; exact ⟨rfl, rfl, rfl, rfl, rfl, rfl, rfl, rfl, rfl, rfl⟩
    rw [← hu4]
    obtain ⟨c1, c2, c3, c4, c5, c6, c7, c8, c9, c10⟩ := w3
    obtain ⟨x1, x2, x3, x4, x5⟩ := w1
    obtain ⟨P1, P2, P3, P4⟩ := P
    have hqh : q = h := by
      rw [a10, a5, hp, h3] at e
      exact (nI_eq (by omega) (by omega)).mp e
    have hmh : mb_p (xg_recMask u) (nI h) := by
      obtain ⟨p', q', b1, b2, b3, _⟩ := P4 0 (by omega)
      rw [P3 (by omega)] at b1
      rw [b1]; exact b3
    have hpath : cp_path u4 cs h (n + 1) := by
      refine ⟨h6, h2, by omega, by omega, by rw [c9, a9]; exact h1, by rw [c5, a5]; exact h3, by rw [c2, a2], by rw [c6, a6]; exact hmh, by rw [c10, a11]; exact hm, by rw [c3, a3]; exact P3 (by omega), fun i hi => ?_⟩
      rw [c3, a3, c4, a4, c8, a8, c1, a1, c6, a6]
      obtain ⟨p', q', b1, b2, b3, b4, b5, b6, b7, b8, b9⟩ := P4 i hi
      by_cases e2 : i + 1 = n + 1
      · have e3 : q' = h := by
          have := b9 e2
          rw [hp] at this
          have := (nI_eq (by omega) (by omega)).mp this
          omega
        exact ⟨p', q', b1, b2, b3, b4, b5, by omega, by rw [e3]; exact hmh, b7, fun z => by omega, fun _ => e3⟩
      · obtain ⟨p2, q2, d1, d2, d3, _⟩ := P4 (i + 1) (by omega)
        have e3 : nI q' = nI p2 := (b8 (by omega)).symm.trans d1
        have e4 : q' = p2 := (nI_eq (by omega) (by omega)).mp e3
        exact ⟨p', q', b1, b2, b3, b4, b5, by omega, by rw [e3]; exact d3, b7, b8, fun z => by omega⟩
    refine xw_compile w2 (by rw [x5, y5]; exact hnv) hpath (fun u' g1 g2 g3 g4 g5 g6 g7 g8 => K u' (g1.trans (x1.trans y1)) (g2.trans (x2.trans y2)) (g3.trans (x3.trans y3)) (g5.trans (x4.trans y4)) g8 g7 (Or.inl (g6.trans c7)))
  · refine K u3 y1 y2 y3 y4 (by rw [y5]; exact hnv) z2 (Or.inr ⟨cs, h, n + 1, a9.trans h1, h2, a5.trans h3, a2, ?_, by rw [a8, a6, a3, a4, a1, a10]; exact P⟩)
    rw [a2] at hlt
    exact (nI_ltI (b := 96) (by omega) (by decide)).mp hlt
  · refine xw_abort (fun _ => by rw [a5, h3]; exact vp_in_nI (by omega) (by decide)) (fun z => absurd (a7.symm.trans z) hr) (fun u' _ g1 g2 g3 g4 g5 => ?_)
    refine K u' ?_ ((xk_done g1).trans y2) ((xk_crossed g1).trans y3) ((xk_crossedTo g1).trans y4) (by rw [xk_nextVictim g1, y5]; exact hnv) ?_ (Or.inl g3)
    · rw [xk_y g1, g2, ← y1]; rfl
    · exact iv_sl_xf (xk_xf g1) g2 g4 g5 z2
end
end
section
/-! the interpreter's step -/
def st_K (post : Int32 → SX → Prop) (u : SX) : Prop := ∀ (r : Int32) (u' : SX), iv_x u' → xg_done u' = xg_done u → (∃ k : Int32, yo_S (xv_y u) k (xv_y u') ∧ ((r = 0 ∧ k = 0 ∧ ¬ xg_status u' = 0) ∨ (r = 1 ∧ k = 1 ∧ xg_crossed u' = xg_crossed u) ∨ (r = 1 ∧ k = 2 ∧ xg_crossed u' = xg_crossed u + 1))) → post r u'
theorem iv_path_ag {cs h n : Nat} {code code' : Nat → Int32} {mk : Int64} {rp rd rn : Nat → Int32} {pc : Int32} (h64 : cs ≤ 64) (hag : sm_ag mk code code') (hp : iv_path cs code mk h n rp rd rn pc) : iv_path cs code' mk h n rp rd rn pc := by
  obtain ⟨h1, h2, h3, h4⟩ := hp
  refine ⟨h1, h2, h3, fun i hi => ?_⟩
  obtain ⟨p, q, b1, b2, b3, b4, b5, b6, b7, b8⟩ := h4 i hi
  have e : code' p = code p := hag p (by omega) b3
  exact ⟨p, q, b1, b2, b3, by rw [e]; exact b4, b5, b6, by rw [e]; exact b7, b8⟩
section
variable {u : SX} {p c : Nat} {w : Int32}
/-- behind the instruction and the recorder: a crossing warms its target -/
theorem xw_step100 {post : Int32 → SX → Prop} {u2 : SX} {q : Nat} {k : Int32} (K : st_K post u) (hV : iv_v (xv_y u2)) (hI : iv_sl u2) (hR : iv_rec u2) (hnv : ∃ k : Nat, k < 8 ∧ xg_nextVictim u2 = nI k) (hd : xg_done u2 = xg_done u) (hc : xg_codeSize u2 = nI c) (h64 : c ≤ 64) (hp : xg_pc u2 = nI q)
    (hS : yo_S (xv_y u) k (xv_y u2)) (hk : (k = 1 ∧ xg_crossedTo u2 = -1 ∧ xg_crossed u2 = xg_crossed u) ∨ (k = 2 ∧ q < c ∧ xg_crossedTo u2 = nI q ∧ xg_crossed u2 = xg_crossed u + 1)) : xq_step_100 post u2 := by
  rw [xu_step_100]
  rcases hk with ⟨k1, k2, k3⟩ | ⟨k1, k2, k3, k4⟩
  · rw [k2]
    exact br_t (by decide) (K 1 u2 ⟨hV, hR, hI, hnv⟩ hd ⟨k, hS, Or.inr (Or.inl ⟨rfl, k1, k3⟩)⟩)
  · rw [k3]
    refine br_f (nI_pos (by omega)) (xw_warmUp hI hR hc h64 k2 hp (fun u' g1 g2 g3 => ?_))
    obtain ⟨y1, y2, y3, y4, y5⟩ := g1
    exact K 1 u' ⟨by rw [y1]; exact hV, g3, g2, by rw [y5]; exact hnv⟩ (y2.trans hd) ⟨k, by rw [y1]; exact hS, Or.inr (Or.inr ⟨rfl, k1, by rw [y3]; exact k4⟩)⟩
theorem xw_step55 {post : Int32 → SX → Prop} {u1 : SX} (K : st_K post u) (hV : iv_v (xv_y u)) (hq : nt_q u u1) (hI : iv_sl u1) (hR : rc_mid u1 p) (hnv : ∃ k : Nat, k < 8 ∧ xg_nextVictim u = nI k) (hc : xg_codeSize u = nI c) (h64 : c ≤ 64) (hpc : p < c) (hp : xg_pc u = nI p) (hw : xg_code u p = w) : xq_step_55 post (nI p) w u1 := by
  obtain ⟨y1, y2, y3, y4, y5⟩ := id hq
  obtain ⟨v1, ⟨m, v2, v3, v4⟩, ⟨o, v5, v6⟩, v7, v8⟩ := id hV
  rw [xu_step_55]
  obtain ⟨u0, hu0⟩ : ∃ u0, u0 = xs_crossedTo u1 (-1) := ⟨_, rfl⟩
  have z1 : xv_y u0 = xv_y u1 := by rw [hu0]; rfl
  have z2 : iv_sl u0 := by rw [hu0]; exact hI
  have z3 : rc_mid u0 p := by rw [hu0]; exact hR
  have z4 : xg_crossedTo u0 = -1 ∧ xg_crossed u0 = xg_crossed u1 ∧ xg_done u0 = xg_done u1 ∧ xg_nextVictim u0 = xg_nextVictim u1 := by rw [hu0]; exact ⟨rfl, rfl, rfl, rfl⟩
  rw [← hu0]
  have ey : xv_y u0 = xv_y u := z1.trans y1
  have ecs : xg_codeSize u0 = nI c := (congrArg yg_codeSize ey).trans hc
  have ems : xg_memSize u0 = nI m := (congrArg yg_memSize ey).trans v4
  have eoc : sm_oc (xg_outCount u0) := ⟨o, v5, (congrArg yg_outCount ey).trans v6⟩
  have ep : xg_pc u0 = nI p := (congrArg yg_pc ey).trans hp
  have ew : xg_code u0 p = w := (congrFun (congrArg yg_code ey) p).trans hw
  have est : xg_steps u0 = xg_steps u := congrArg yg_steps ey
  have hnv0 : ∃ k : Nat, k < 8 ∧ xg_nextVictim u0 = nI k := by rw [z4.2.2.2, y5]; exact hnv
  have hrh : xg_recording u0 ≠ 0 → vp_in (xg_recHead u0) 64 := fun hr => by
    rcases z3 with z | ⟨cs, h, n, h1, h2, h3, h4, h5, h6, _⟩
    · exact absurd z hr
    · rw [h3]; have := h6.1; exact vp_in_nI (by omega) (by decide)
  refine xw_perform z2 hrh ?_ ?_ ecs h64 ems v3 hpc eoc ep ew
  · intro u' q k g1 g2 g3 g4 g5 g6 g7 g8 g9 g10
    refine br_t rfl (nm_e ?_)
    obtain ⟨u2, hu2⟩ : ∃ u2, u2 = xs_steps (xs_pc u' (xg_nextPc u')) (xg_steps u' + 1) := ⟨_, rfl⟩
    have s1 : xg_steps u' = xg_steps u0 := xf_steps g1
    have w1 : xv_y u2 = ys_steps (ys_pc (xv_y u') (xg_nextPc u')) (xg_steps u' + 1) := by rw [hu2]; rfl
    have w2 : iv_sl u2 := by rw [hu2]; exact g2
    have w3 : xg_codeSize u2 = xg_codeSize u' ∧ xg_memSize u2 = xg_memSize u' ∧ xg_cursor u2 = xg_cursor u' ∧ xg_outCount u2 = xg_outCount u' ∧ xg_pc u2 = xg_nextPc u' ∧ xg_code u2 = xg_code u' ∧ xg_done u2 = xg_done u' ∧ xg_crossed u2 = xg_crossed u' ∧ xg_crossedTo u2 = xg_crossedTo u' ∧ xg_nextVictim u2 = xg_nextVictim u' ∧ xg_recording u2 = xg_recording u' := by rw [hu2]; exact ⟨rfl, rfl, rfl, rfl, rfl, rfl, rfl, rfl, rfl, rfl, rfl⟩
    have w4 : xg_recHead u2 = xg_recHead u' ∧ xg_recLen u2 = xg_recLen u' ∧ xg_recMask u2 = xg_recMask u' ∧ xg_recPc u2 = xg_recPc u' ∧ xg_recWord u2 = xg_recWord u' ∧ xg_recNext u2 = xg_recNext u' := by rw [hu2]; exact ⟨rfl, rfl, rfl, rfl, rfl, rfl⟩
    rw [← hu2]
    obtain ⟨a1, a2, a3, a4, a5, a6, a7, a8, a9, a10, a11⟩ := w3
    obtain ⟨b1, b2, b3, b4, b5, b6⟩ := w4
    have hS : yo_S (xv_y u) k (xv_y u2) := by rw [w1, g5, s1, ← ey]; exact g8
    have hV2 : iv_v (xv_y u2) := by
      refine ⟨?_, ⟨m, v2, v3, ?_⟩, ?_, ?_, ⟨q, by omega, ?_⟩⟩
      · obtain ⟨c', e1, e2, e3⟩ := v1
        exact ⟨c', e1, e2, (a1.trans ((xf_codeSize g1).trans (congrArg yg_codeSize ey))).trans e3⟩
      · exact a2.trans ((xf_memSize g1).trans ems)
      · obtain ⟨o', e1, e2⟩ := g10
        exact ⟨o', e1, a4.trans e2⟩
      · obtain ⟨k', e1, e2⟩ := v7
        exact ⟨k', e1, (a3.trans ((xf_cursor g1).trans (congrArg yg_cursor ey))).trans e2⟩
      · exact a5.trans g5
    have hd2 : xg_done u2 = xg_done u := a7.trans ((xf_done g1).trans (z4.2.2.1.trans y2))
    have hnv2 : ∃ k : Nat, k < 8 ∧ xg_nextVictim u2 = nI k := by rw [a10, xf_nextVictim g1]; exact hnv0
    have hc2 : xg_codeSize u2 = nI c := a1.trans ((xf_codeSize g1).trans ecs)
    have hp2 : xg_pc u2 = nI q := a5.trans g5
    have hk2 : (k = 1 ∧ xg_crossedTo u2 = -1 ∧ xg_crossed u2 = xg_crossed u) ∨ (k = 2 ∧ q < c ∧ xg_crossedTo u2 = nI q ∧ xg_crossed u2 = xg_crossed u + 1) := by
      rcases g9 with ⟨e1, e2, e3⟩ | ⟨e1, e2, e3, e4⟩
      · exact Or.inl ⟨e1, a9.trans (e2.trans z4.1), a8.trans (e3.trans (z4.2.1.trans y3))⟩
      · exact Or.inr ⟨e1, e2, a9.trans e3, by rw [a8, e4, z4.2.1, y3]⟩
    refine br_c (fun hr => xw_step100 K hV2 w2 (Or.inl (a11.trans hr)) hnv2 hd2 hc2 h64 hp2 hS hk2) (fun hr => ?_)
    obtain ⟨r1, r2⟩ := g3 hr
    have hmid : rc_mid u2 p := by
      rcases z3 with z | ⟨cs, h, n, h1, h2, h3, h4, h5, h6, h7, h8, h9, h10⟩
      · exact absurd (r1.trans z) hr
      · have ecc : cs = c := (nI_eq (by omega) (by omega)).mp (h1.symm.trans ecs)
        subst ecc
        refine Or.inr ⟨cs, h, n, hc2, h2, ?_, ?_, h5, ?_, h7, ?_, ?_, ?_⟩
        · rw [b1, xf_recHead g1]; exact h3
        · rw [b2, xf_recLen g1]; exact h4
        · rw [a6, b3, b4, b5, b6, xf_recMask g1, xf_recPc g1, xf_recWord g1, xf_recNext g1]
          exact iv_path_ag h2 r2 h6
        · rw [b4, xf_recPc g1]; exact h8
        · rw [b5, xf_recWord g1, a6, r2 p (by omega) h10]; exact h9
        · rw [b3, xf_recMask g1]; exact h10
    have hcp : xg_code u2 p = w := by
      rcases z3 with z | ⟨cs, h, n, h1, h2, h3, h4, h5, h6, h7, h8, h9, h10⟩
      · exact absurd (r1.trans z) hr
      · rw [a6, r2 p (by omega) h10]; exact ew
    refine xw_noteAfter (p := p) (w := 0) w2 hnv2 ⟨m, v3, a2.trans ((xf_memSize g1).trans ems)⟩ hmid (by rw [a11]; exact hr) hc2 h64 g6 hp2 (by rw [hcp]; exact g7) (fun u3 e1 e2 e3 e4 e5 e6 e7 => ?_)
    have ek : (k = 1 ∧ xg_crossedTo u3 = -1 ∧ xg_crossed u3 = xg_crossed u) ∨ (k = 2 ∧ q < c ∧ xg_crossedTo u3 = nI q ∧ xg_crossed u3 = xg_crossed u + 1) := by rw [e3, e4]; exact hk2
    exact xw_step100 K (by rw [e1]; exact hV2) e6 e7 e5 (e2.trans hd2) ((congrArg yg_codeSize e1).trans hc2) h64 ((congrArg yg_pc e1).trans hp2) (by rw [e1]; exact hS) ek
  · intro res u' g1 g2 g3 g4 g5 g6 g7 g8 g9
    refine br_f g1 ?_
    obtain ⟨u2, hu2⟩ : ∃ u2, u2 = xs_status u' res := ⟨_, rfl⟩
    have w1 : xv_y u2 = ys_status (xv_y u') res := by rw [hu2]; rfl
    have w2 : xf_t u2 = xf_t (xs_status u' res) := by rw [hu2]
    have hI' : iv_sl u' := iv_sl_xf g2 g3 g4 g5 z2
    have w3 : iv_sl u2 := by rw [hu2]; exact hI'
    have w4 : xg_recHead u2 = xg_recHead u' ∧ xg_recording u2 = xg_recording u' ∧ xg_done u2 = xg_done u' ∧ xg_crossed u2 = xg_crossed u' ∧ xg_nextVictim u2 = xg_nextVictim u' ∧ xg_status u2 = res ∧ xg_steps u2 = xg_steps u' := by rw [hu2]; exact ⟨rfl, rfl, rfl, rfl, rfl, rfl, rfl⟩
    rw [← hu2]
    obtain ⟨a1, a2, a3, a4, a5, a6, a7⟩ := w4
    have fin : ∀ u3 : SX, xv_y u3 = xv_y u2 → iv_sl u3 → xg_recording u3 = 0 → xg_done u3 = xg_done u2 → xg_crossed u3 = xg_crossed u2 → xg_nextVictim u3 = xg_nextVictim u2 → ((res = 1 → ∀ f : Int32, f = xg_steps u3 + 1 → post 1 (xs_steps u3 f)) ∧ (¬ res = 1 → post 0 u3)) := fun u3 c1 c2 c3 c4 c5 c6 => by
      have hd3 : xg_done u3 = xg_done u := c4.trans (a3.trans ((xf_done g2).trans (z4.2.2.1.trans y2)))
      have hx3 : xg_crossed u3 = xg_crossed u := c5.trans (a4.trans (g8.trans (z4.2.1.trans y3)))
      have hn3 : ∃ k : Nat, k < 8 ∧ xg_nextVictim u3 = nI k := by rw [c6, a5, xf_nextVictim g2]; exact hnv0
      have ey3 : xv_y u3 = ys_status (xv_y u) res := by rw [c1, w1, g7, ey]
      have hV3 : iv_v (xv_y u3) := by rw [ey3]; exact hV
      rcases g9 with ⟨e1, e2⟩ | ⟨e1, e2⟩
      · refine br_t e1 (nm_e ?_)
        obtain ⟨u4, hu4⟩ : ∃ u4, u4 = xs_steps u3 (xg_steps u3 + 1) := ⟨_, rfl⟩
        have d1 : xv_y u4 = ys_steps (xv_y u3) (xg_steps u3 + 1) := by rw [hu4]; rfl
        have d2 : iv_sl u4 := by rw [hu4]; exact c2
        have d3 : xg_recording u4 = xg_recording u3 ∧ xg_done u4 = xg_done u3 ∧ xg_crossed u4 = xg_crossed u3 ∧ xg_nextVictim u4 = xg_nextVictim u3 := by rw [hu4]; exact ⟨rfl, rfl, rfl, rfl⟩
        rw [← hu4]
        have es3 : xg_steps u3 = xg_steps u0 := by
          have : yg_steps (xv_y u3) = yg_steps (ys_status (xv_y u) res) := congrArg yg_steps ey3
          exact this.trans est.symm
        refine K 1 u4 ⟨by rw [d1]; exact hV3, Or.inl (d3.1.trans c3), d2, by rw [d3.2.2.2]; exact hn3⟩ (d3.2.1.trans hd3) ⟨1, ?_, Or.inr (Or.inl ⟨rfl, rfl, d3.2.2.1.trans hx3⟩)⟩
        rw [d1, ey3, es3, e1, ← ey]; exact e2
      · refine br_f e1 (K 0 u3 ⟨hV3, Or.inl c3, c2, hn3⟩ hd3 ⟨0, by rw [ey3, ← ey]; exact e2, Or.inl ⟨rfl, rfl, ?_⟩⟩)
        have : xg_status u3 = res := congrArg yg_status ey3
        rw [this]; exact g1
    refine xw_abort (fun hr => ?_) (fun hr => fin u2 rfl w3 hr rfl rfl rfl) (fun u3 _ c1 c2 c3 c4 c5 => fin u3 ?_ (iv_sl_xf (xk_xf c1) c2 c4 c5 w3) c3 (xk_done c1) (xk_crossed c1) (xk_nextVictim c1))
    · rw [a1, xf_recHead g2]; exact hrh (by rw [← g6, ← a2]; exact hr)
    · rw [xk_y c1, c2]; rfl
end
end
section
/-! the step, from the invariant -/
theorem xw_step {post : Int32 → SX → Prop} {u : SX} (hX : iv_x u) (K : st_K post u) : wpX_step post u := by
  obtain ⟨hV, hR, hI, hnv⟩ := hX
  obtain ⟨⟨c, c1, c2, c3⟩, v2, v3, v4, ⟨p, p1, p2⟩⟩ := id hV
  have hc : xg_codeSize u = nI c := c3
  have hp : xg_pc u = nI p := p2
  rw [xu_step, hp, hc]
  have h18 : c ≤ p → xq_step_18 post u := fun hpc => by
    rw [xu_step_18]
    obtain ⟨u0, hu0⟩ : ∃ u0, u0 = xs_status u 8 := ⟨_, rfl⟩
    have z1 : xv_y u0 = ys_status (xv_y u) 8 := by rw [hu0]; rfl
    have z2 : iv_sl u0 := by rw [hu0]; exact hI
    have z3 : xg_recHead u0 = xg_recHead u ∧ xg_recording u0 = xg_recording u ∧ xg_done u0 = xg_done u ∧ xg_nextVictim u0 = xg_nextVictim u := by rw [hu0]; exact ⟨rfl, rfl, rfl, rfl⟩
    rw [← hu0]
    have hS : yo_S (xv_y u) 0 (ys_status (xv_y u) 8) := yb_off (Or.inr (by show ¬ xg_pc u < xg_codeSize u; rw [hp, hc]; exact nI_nlt hpc (by omega)))
    have fin : ∀ u' : SX, xv_y u' = xv_y u0 → iv_sl u' → xg_recording u' = 0 → xg_done u' = xg_done u0 → xg_nextVictim u' = xg_nextVictim u0 → post 0 u' := fun u' e1 e2 e3 e4 e5 => by
      refine K 0 u' ⟨by rw [e1, z1]; exact hV, Or.inl e3, e2, by rw [e5, z3.2.2.2]; exact hnv⟩ (e4.trans z3.2.2.1) ⟨0, by rw [e1, z1]; exact hS, Or.inl ⟨rfl, rfl, ?_⟩⟩
      have : xg_status u' = 8 := congrArg yg_status (e1.trans z1)
      rw [this]; decide
    refine xw_abort (fun hr => by rw [z3.1]; exact iv_rec_h hR (by rw [← z3.2.1]; exact hr)) (fun hr => fin u0 rfl z2 hr rfl rfl) (fun u' _ g1 g2 g3 g4 g5 => fin u' ?_ (iv_sl_xf (xk_xf g1) g2 g4 g5 z2) g3 (xk_done g1) (xk_nextVictim g1))
    rw [xk_y g1, g2]; rfl
  refine br_f (nI_pos (by omega)) (pk_lt p c (fun hpc => ⟨vp_in_nI (by omega) (by decide), nm_e ?_⟩) (fun hpc => h18 hpc))
  rw [nI_clamp (by omega)]
  refine br_c (fun hr => ?_) (fun hr => ?_)
  · exact xw_step55 K hV ⟨rfl, rfl, rfl, rfl, rfl⟩ hI (Or.inl hr) hnv hc c2 hpc hp rfl
  · exact xw_noteBefore hI hR hr hc c2 hpc hp rfl (fun u' g1 g2 g3 g4 => xw_step55 K hV g1 g2 g3 hnv hc c2 hpc hp rfl)
end
section
/-! running the trace code -/
def rn_R (u : SX) : ir_R := (xg_val u, xg_mem u, xg_code u, xg_out u, xg_outCount u)
theorem xk_xn {u u' : SX} (h : xk_t u' = xk_t u) (hr : xg_recording u' = xg_recording u) : xn_t u' = xn_t u := by
  unfold xn_t
  rw [xk_codeSize h, xk_memSize h, xk_hot h, xk_pc h, xk_status h, xk_steps h, xk_cursor h, xk_crossings h, xk_r h, xk_done h, xk_crossed h, xk_nextPc h, xk_crossedTo h, hr, xk_recHead h, xk_recLen h, xk_recMask h, xk_recPc h, xk_recWord h, xk_recNext h, xk_nextVictim h, xk_runMask h, xk_trHead h, xk_trLen h, xk_trMask h, xk_trIr h, xk_trVals h, xk_trCross h, xk_trTargets h, xk_irOp h, xk_irA h, xk_irB h, xk_irD h, xk_kFlag h, xk_kVal h, xk_exPc h, xk_exSteps h, xk_exCross h, xk_snap h]
/-- what one row of the trace code keeps -/
def rb_I (u0 u : SX) : Prop := xn_t u = xn_t u0 ∧ iv_sl u ∧ sm_oc (xg_outCount u)
theorem tk_xn {u u' : SX} {s : Nat} (h : xn_t u' = xn_t u) (hc : xg_code u' = xg_code u) (ht : tk_u u s) : tk_u u' s := by
  unfold tk_u at ht ⊢
  rw [xn_codeSize h, xn_memSize h, hc, xn_trHead h, xn_trLen h, xn_trMask h, xn_trIr h, xn_trVals h, xn_trCross h, xn_trTargets h, xn_irOp h, xn_irA h, xn_irB h, xn_irD h, xn_kFlag h, xn_kVal h, xn_exPc h, xn_exSteps h, xn_exCross h, xn_snap h]
  exact ht
theorem iv_sl_xn {u u' : SX} (h : xn_t u' = xn_t u) (hc : xg_code u' = xg_code u) (hl : xg_trLive u' = xg_trLive u) (hs : xg_slotOf u' = xg_slotOf u) (hI : iv_sl u) : iv_sl u' := by
  refine ⟨fun s hs8 hlv => tk_xn h hc (hI.1 s hs8 (by rw [← hl]; exact hlv)), ?_⟩
  rw [hl, hs, xn_trHead h]; exact hI.2
section
variable {u0 u : SX} {c m : Nat}
theorem xw_memR {post : Int32 → Prop} {x : Int32} (hm : xg_memSize u = nI m) (hm64 : m ≤ 64) (h : post (ir_rd (xg_memSize u) (xg_mem u) x)) : wpX_mem post u x := by
  rw [xu_mem]
  refine br_c (fun h0 => ?_) (fun h0 => br_c (fun h1 => ⟨?_, ?_⟩) (fun h1 => ?_))
  · rw [show ir_rd (xg_memSize u) (xg_mem u) x = 0 from if_pos (Or.inl h0)] at h; exact h
  · exact (mv_in hm hm64 h0 (Int32.not_le.mpr h1)).2
  · rw [ir_rdi h0 (Int32.not_le.mpr h1)] at h; exact h
  · rw [show ir_rd (xg_memSize u) (xg_mem u) x = 0 from if_pos (Or.inr (Int32.not_lt.mp h1))] at h; exact h
theorem xw_codeR {post : Int32 → Prop} {x : Int32} (hm : xg_codeSize u = nI m) (hm64 : m ≤ 64) (h : post (ir_rd (xg_codeSize u) (xg_code u) x)) : wpX_code post u x := by
  rw [xu_code]
  refine br_c (fun h0 => ?_) (fun h0 => br_c (fun h1 => ⟨?_, ?_⟩) (fun h1 => ?_))
  · rw [show ir_rd (xg_codeSize u) (xg_code u) x = 0 from if_pos (Or.inl h0)] at h; exact h
  · exact (mv_in hm hm64 h0 (Int32.not_le.mpr h1)).2
  · rw [ir_rdi h0 (Int32.not_le.mpr h1)] at h; exact h
  · rw [show ir_rd (xg_codeSize u) (xg_code u) x = 0 from if_pos (Or.inr (Int32.not_lt.mp h1))] at h; exact h
theorem xw_access {post : SX → Prop} {op x y d : Int32} (hI : rb_I u0 u) (hrec : xg_recording u0 = 0) (hc : xg_codeSize u0 = nI c) (h64 : c ≤ 64) (hm : xg_memSize u0 = nI m) (hm64 : m ≤ 64) (h15 : 15 < op) (h20 : ¬ 20 < op) (hd : vp_in d 256)
    (K : ∀ u' : SX, rb_I u0 u' → rn_R u' = ir_f (xg_codeSize u0) (xg_memSize u0) op x y d.toNatClampNeg (rn_R u) → post u') : wpX_access post u op x y d := by
  obtain ⟨i1, i2, i3⟩ := id hI
  have ecs := xn_codeSize i1
  have ems := xn_memSize i1
  rw [xu_access]
  refine br_c (fun e16 => ?_) (fun n16 => br_c (fun e18 => ?_) (fun n18 => br_c (fun e17 => ?_) (fun n17 => br_c (fun e19 => ?_) (fun n19 => ?_))))
  · refine xw_memR (ems.trans hm) hm64 ⟨hd, nm_e ?_⟩
    obtain ⟨u1, hu1⟩ : ∃ u1, u1 = xs_val u (upd (xg_val u) d.toNatClampNeg (ir_rd (xg_memSize u) (xg_mem u) x)) := ⟨_, rfl⟩
    have z1 : xn_t u1 = xn_t u := by rw [hu1]; rfl
    have z2 : xg_code u1 = xg_code u ∧ xg_trLive u1 = xg_trLive u ∧ xg_slotOf u1 = xg_slotOf u ∧ xg_outCount u1 = xg_outCount u := by rw [hu1]; exact ⟨rfl, rfl, rfl, rfl⟩
    have z3 : rn_R u1 = (upd (xg_val u) d.toNatClampNeg (ir_rd (xg_memSize u) (xg_mem u) x), (rn_R u).2) := by rw [hu1]; rfl
    rw [← hu1]
    refine K u1 ⟨z1.trans i1, iv_sl_xn z1 z2.1 z2.2.1 z2.2.2.1 i2, by rw [z2.2.2.2]; exact i3⟩ ?_
    rw [z3, e16, ir_f16, ems]; rfl
  · refine xw_codeR (ecs.trans hc) h64 ⟨hd, nm_e ?_⟩
    obtain ⟨u1, hu1⟩ : ∃ u1, u1 = xs_val u (upd (xg_val u) d.toNatClampNeg (ir_rd (xg_codeSize u) (xg_code u) x)) := ⟨_, rfl⟩
    have z1 : xn_t u1 = xn_t u := by rw [hu1]; rfl
    have z2 : xg_code u1 = xg_code u ∧ xg_trLive u1 = xg_trLive u ∧ xg_slotOf u1 = xg_slotOf u ∧ xg_outCount u1 = xg_outCount u := by rw [hu1]; exact ⟨rfl, rfl, rfl, rfl⟩
    have z3 : rn_R u1 = (upd (xg_val u) d.toNatClampNeg (ir_rd (xg_codeSize u) (xg_code u) x), (rn_R u).2) := by rw [hu1]; rfl
    rw [← hu1]
    refine K u1 ⟨z1.trans i1, iv_sl_xn z1 z2.1 z2.2.1 z2.2.2.1 i2, by rw [z2.2.2.2]; exact i3⟩ ?_
    rw [z3, e18, ir_f18, ecs]; rfl
  · have hno : (x < 0 ∨ xg_memSize u ≤ x) → post u := fun hb => by
      refine K u hI ?_
      rw [e17, ir_f17, ← ems]
      show rn_R u = (xg_val u, ir_wr (xg_memSize u) (xg_mem u) x y, (rn_R u).2.2)
      rw [show ir_wr (xg_memSize u) (xg_mem u) x y = xg_mem u from if_pos hb]; rfl
    refine br_c (fun h0 => hno (Or.inl h0)) (fun h0 => br_c (fun h1 => hno (Or.inr h1)) (fun h1 => ⟨(mv_in (ems.trans hm) hm64 h0 h1).2, nm_e ?_⟩))
    obtain ⟨u1, hu1⟩ : ∃ u1, u1 = xs_mem u (upd (xg_mem u) x.toNatClampNeg y) := ⟨_, rfl⟩
    have z1 : xn_t u1 = xn_t u := by rw [hu1]; rfl
    have z2 : xg_code u1 = xg_code u ∧ xg_trLive u1 = xg_trLive u ∧ xg_slotOf u1 = xg_slotOf u ∧ xg_outCount u1 = xg_outCount u := by rw [hu1]; exact ⟨rfl, rfl, rfl, rfl⟩
    have z3 : rn_R u1 = (xg_val u, upd (xg_mem u) x.toNatClampNeg y, (rn_R u).2.2) := by rw [hu1]; rfl
    rw [← hu1]
    refine K u1 ⟨z1.trans i1, iv_sl_xn z1 z2.1 z2.2.1 z2.2.2.1 i2, by rw [z2.2.2.2]; exact i3⟩ ?_
    rw [z3, e17, ir_f17, ← ems]
    show _ = (xg_val u, ir_wr (xg_memSize u) (xg_mem u) x y, (rn_R u).2.2)
    rw [ir_wri h0 h1]
  · have hno : (x < 0 ∨ xg_codeSize u ≤ x) → rn_R u = ir_f (xg_codeSize u0) (xg_memSize u0) op x y d.toNatClampNeg (rn_R u) := fun hb => by
      rw [e19, ir_f19, ← ecs]
      show rn_R u = (xg_val u, xg_mem u, ir_wr (xg_codeSize u) (xg_code u) x y, (rn_R u).2.2.2)
      rw [show ir_wr (xg_codeSize u) (xg_code u) x y = xg_code u from if_pos hb]; rfl
    by_cases hb : x < 0 ∨ xg_codeSize u ≤ x
    · rw [xu_storeCode]
      by_cases h0 : x < 0
      · exact br_t h0 (K u hI (hno hb))
      · refine br_f h0 (br_t ?_ (K u hI (hno hb)))
        rcases hb with z | z
        · exact absurd z h0
        · exact z
    · have h0 : ¬ x < 0 := fun z => hb (Or.inl z)
      have h1 : ¬ xg_codeSize u ≤ x := fun z => hb (Or.inr z)
      obtain ⟨j, hj, ej⟩ := vn_rng' (c := c) (by omega) h0 (by rw [← hc, ← ecs]; exact h1)
      have hru : xg_recording u = 0 := (xn_recording i1).trans hrec
      rw [ej]
      refine xw_storeCode (ecs.trans hc) h64 hj i2 (fun z => absurd hru z) (fun u1 g1 g2 g3 g4 g5 g6 => ?_)
      have gx := xk_xn g1 ((g6 hru).trans hru.symm)
      refine K u1 ⟨gx.trans i1, g3, by rw [xk_outCount g1]; exact i3⟩ ?_
      rw [e19, ir_f19, ← ecs]
      show (xg_val u1, xg_mem u1, xg_code u1, xg_out u1, xg_outCount u1) = (xg_val u, xg_mem u, ir_wr (xg_codeSize u) (xg_code u) x y, xg_out u, xg_outCount u)
      rw [ir_wri h0 h1, xk_val g1, xk_mem g1, g2, xk_out g1, xk_outCount g1, ej, nI_clamp (by omega)]
  · have e20 : op = 20 := by
      obtain ⟨k, k1, k2, rfl⟩ := nb_lt (a := 15) (by decide) h15
      have k3 : k ≤ 20 := Nat.le_of_not_lt (fun z => h20 (nI_lt (a := 20) z k2))
      have b1 : k ≠ 16 := fun z => n16 (by rw [z]; rfl)
      have b2 : k ≠ 17 := fun z => n17 (by rw [z]; rfl)
      have b3 : k ≠ 18 := fun z => n18 (by rw [z]; rfl)
      have b4 : k ≠ 19 := fun z => n19 (by rw [z]; rfl)
      have : k = 20 := by omega
      rw [this]; rfl
    refine br_c (fun h6 => K u hI ?_) (fun h6 => ?_)
    · have h6' : 64 ≤ (rn_R u).2.2.2.2 := h6
      rw [e20, ir_f20, if_pos h6']
    · obtain ⟨o, ho64, eo⟩ := i3
      have holt : o < 64 := by
        rw [eo] at h6; exact Nat.lt_of_not_le (fun z => h6 (nI_le (a := 64) z (by omega)))
      refine ⟨by rw [eo]; exact vp_in_nI holt (by decide), nm_e (nm_e ?_)⟩
      obtain ⟨u1, hu1⟩ : ∃ u1, u1 = xs_out (xs_outCount u (xg_outCount u + 1)) (upd (xg_out u) (xg_outCount u).toNatClampNeg x) := ⟨_, rfl⟩
      have z1 : xn_t u1 = xn_t u := by rw [hu1]; rfl
      have z2 : xg_code u1 = xg_code u ∧ xg_trLive u1 = xg_trLive u ∧ xg_slotOf u1 = xg_slotOf u ∧ xg_outCount u1 = xg_outCount u + 1 := by rw [hu1]; exact ⟨rfl, rfl, rfl, rfl⟩
      have z3 : rn_R u1 = (xg_val u, xg_mem u, xg_code u, upd (xg_out u) (xg_outCount u).toNatClampNeg x, xg_outCount u + 1) := by rw [hu1]; rfl
      rw [← hu1]
      refine K u1 ⟨z1.trans i1, iv_sl_xn z1 z2.1 z2.2.1 z2.2.2.1 i2, ⟨o + 1, by omega, by rw [z2.2.2.2, eo, nI_1]⟩⟩ ?_
      have h6' : ¬ 64 ≤ (rn_R u).2.2.2.2 := h6
      rw [z3, e20, ir_f20, if_neg h6']; rfl
end
end
section
/-! one round of a trace -/
section
variable {u0 : SX} {c m s ni : Nat} {R0 : ir_R}
/-- the run of slot s's rows, in the state u0 -/
def rg_o (u0 : SX) (s n : Nat) (R0 R : ir_R) : Prop := ir_go (xg_codeSize u0) (xg_memSize u0) (xg_runMask u0) (bo_o u0 s) (bo_a u0 s) (bo_b u0 s) (bo_d u0 s) n R0 R
def rg_k (u0 : SX) (s i : Nat) (R : ir_R) : Prop := ir_ok (xg_codeSize u0) (xg_memSize u0) (xg_runMask u0) (bo_o u0 s i) (R.1 (bo_a u0 s i).toNatClampNeg) (R.1 (bo_b u0 s i).toNatClampNeg) R
theorem xw_body16 {post : Int32 → SX → Prop} (hs : s < 8) (hni : ni ≤ 256) (hrec : xg_recording u0 = 0) (hc : xg_codeSize u0 = nI c) (h64 : c ≤ 64) (hm : xg_memSize u0 = nI m) (hm64 : m ≤ 64)
    (hd : ∀ i : Nat, i < ni → vp_in (bo_a u0 s i) 256 ∧ vp_in (bo_b u0 s i) 256 ∧ vp_in (bo_d u0 s i) 256)
    (K0 : ∀ u' : SX, rb_I u0 u' → rg_o u0 s ni R0 (rn_R u') → post 0 u') (Ke : ∀ (u' : SX) (i : Nat), rb_I u0 u' → i < ni → rg_o u0 s i R0 (rn_R u') → ¬ rg_k u0 s i (rn_R u') → post (bo_d u0 s i) u') :
    ∀ (r i : Nat), i + r = ni → ∀ u : SX, rb_I u0 u → rg_o u0 s i R0 (rn_R u) → ∀ n : Nat, r < n → xq_runBody_16 post (nI (256 * s)) (nI ni) n (nI i) u := by
  intro r
  induction r with
  | zero =>
    intro i hi u hI hg n hn
    obtain ⟨n, rfl⟩ : ∃ m, n = m + 1 := ⟨n - 1, by omega⟩
    have e : i = ni := by omega
    subst e
    rw [xu_runBody_16]
    exact br_t (Int32.le_refl _) (K0 u hI hg)
  | succ r ih =>
    intro i hi u hI hg n hn
    obtain ⟨n, rfl⟩ : ∃ m, n = m + 1 := ⟨n - 1, by omega⟩
    obtain ⟨i1, i2⟩ := bb_ix hs (k := i) (by omega)
    obtain ⟨x1, x2, x3⟩ := id hI
    have eo : bo_o u0 s i = xg_irOp u (256 * s + i) := by rw [xn_irOp x1]; exact sl_at (by omega)
    have ea : bo_a u0 s i = xg_irA u (256 * s + i) := by rw [xn_irA x1]; exact sl_at (by omega)
    have eb : bo_b u0 s i = xg_irB u (256 * s + i) := by rw [xn_irB x1]; exact sl_at (by omega)
    have ed : bo_d u0 s i = xg_irD u (256 * s + i) := by rw [xn_irD x1]; exact sl_at (by omega)
    obtain ⟨va, vb, vd⟩ := hd i (by omega)
    rw [xu_runBody_16]
    refine br_f (nI_ge (by omega) (by omega)) (br_f (nI_ge (b := 256) (by omega) (by decide)) (nm_e ?_))
    rw [i2, ← eo, ← ea, ← eb, ← ed]
    refine ⟨i1, nm_e ⟨i1, va, nm_e ⟨i1, vb, nm_e ?_⟩⟩⟩
    have next : ∀ u' : SX, rb_I u0 u' → rg_k u0 s i (rn_R u) → rn_R u' = ir_f (xg_codeSize u0) (xg_memSize u0) (bo_o u0 s i) ((rn_R u).1 (bo_a u0 s i).toNatClampNeg) ((rn_R u).1 (bo_b u0 s i).toNatClampNeg) (bo_d u0 s i).toNatClampNeg (rn_R u) → ∀ z : Int32, z = nI i + 1 → xq_runBody_16 post (nI (256 * s)) (nI ni) n z u' := fun u' h1 h2 h3 => nm_r (nI_1 i) (ih (i + 1) (by omega) u' h1 ⟨rn_R u, hg, h2, h3⟩ n (by omega))
    refine br_c (fun h15 => br_c (fun h20 => ?_) (fun h20 => ⟨i1, ?_⟩)) (fun h15 => ⟨i1, xw_alu ⟨vd, nm_e ?_⟩⟩)
    · have hk : ∀ P : Prop, (rg_k u0 s i (rn_R u) → P) → (¬ rg_k u0 s i (rn_R u) → P) → P := fun P a b => by
        by_cases h : rg_k u0 s i (rn_R u)
        · exact a h
        · exact b h
      refine xw_holds ⟨c, h64, (xn_codeSize x1).trans hc⟩ (fun hh => br_f (by decide) (next u hI (fun _ => ?_) (ir_f21 h20).symm)) (fun hh => br_t rfl ⟨i1, Ke u i hI (by omega) hg (fun z => hh ?_)⟩)
      · rw [xn_codeSize x1, xn_memSize x1, xn_runMask x1] at hh; exact hh
      · rw [xn_codeSize x1, xn_memSize x1, xn_runMask x1]; exact z h20
    · exact xw_access hI hrec hc h64 hm hm64 h15 h20 vd (fun u' h1 h2 => next u' h1 (fun z => absurd z h20) h2)
    · obtain ⟨u1, hu1⟩ : ∃ u1, u1 = xs_val u (upd (xg_val u) (bo_d u0 s i).toNatClampNeg (al_f (bo_o u0 s i) (xg_val u (bo_a u0 s i).toNatClampNeg) (xg_val u (bo_b u0 s i).toNatClampNeg))) := ⟨_, rfl⟩
      have z1 : xn_t u1 = xn_t u := by rw [hu1]; rfl
      have z2 : xg_code u1 = xg_code u ∧ xg_trLive u1 = xg_trLive u ∧ xg_slotOf u1 = xg_slotOf u ∧ xg_outCount u1 = xg_outCount u := by rw [hu1]; exact ⟨rfl, rfl, rfl, rfl⟩
      have z3 : rn_R u1 = (upd (xg_val u) (bo_d u0 s i).toNatClampNeg (al_f (bo_o u0 s i) (xg_val u (bo_a u0 s i).toNatClampNeg) (xg_val u (bo_b u0 s i).toNatClampNeg)), (rn_R u).2) := by rw [hu1]; rfl
      rw [← hu1]
      have hle : bo_o u0 s i ≤ 15 := Int32.not_lt.mp h15
      refine next u1 ⟨z1.trans x1, iv_sl_xn z1 z2.1 z2.2.1 z2.2.2.1 x2, by rw [z2.2.2.2]; exact x3⟩ (fun z => absurd (Int32.lt_trans (by decide) z) h15) ?_
      rw [z3, ir_f15 hle]; rfl
theorem xw_body {post : Int32 → SX → Prop} {u : SX} (hs : s < 8) (hni : ni ≤ 256) (hir : xg_trIr u0 s = nI ni) (hrec : xg_recording u0 = 0) (hc : xg_codeSize u0 = nI c) (h64 : c ≤ 64) (hm : xg_memSize u0 = nI m) (hm64 : m ≤ 64)
    (hd : ∀ i : Nat, i < ni → vp_in (bo_a u0 s i) 256 ∧ vp_in (bo_b u0 s i) 256 ∧ vp_in (bo_d u0 s i) 256) (hI : rb_I u0 u)
    (K0 : ∀ u' : SX, rb_I u0 u' → rg_o u0 s ni (rn_R u) (rn_R u') → post 0 u') (Ke : ∀ (u' : SX) (i : Nat), rb_I u0 u' → i < ni → rg_o u0 s i (rn_R u) (rn_R u') → ¬ rg_k u0 s i (rn_R u') → post (bo_d u0 s i) u') : wpX_runBody post u (nI s) := by
  have e256 : nI s * 256 = nI (256 * s) := by
    rw [show (256 : Int32) = nI 256 from rfl, pk_mul, Nat.mul_comm]
  rw [xu_runBody, e256, nI_clamp (by omega), xn_trIr hI.1, hir]
  exact nm_e ⟨vp_in_nI hs (by decide), nm_e ⟨ni + 1, xw_body16 hs hni hrec hc h64 hm hm64 hd K0 Ke ni 0 (by omega) u hI rfl (ni + 1) (by omega)⟩⟩
end
end
section
/-! the frame of a running trace -/
def xm_t (u : SX) : Int32 × Int32 × Int32 × Int32 × Int32 × Int32 × Int32 × (Nat → Int32) × Int32 × Int32 × Int32 × Int32 × Int32 × Int32 × Int32 × Int64 × (Nat → Int32) × (Nat → Int32) × (Nat → Int32) × Int32 × Int64 × (Nat → Int32) × (Nat → Int32) × (Nat → Int64) × (Nat → Int32) × (Nat → Int32) × (Nat → Int32) × (Nat → Int32) × (Nat → Int32) × (Nat → Int32) × (Nat → Int32) × (Nat → Int32) × (Nat → Int32) × (Nat → Int32) × (Nat → Int32) × (Nat → Int32) × (Nat → Int32) × (Nat → Int32) := (xg_codeSize u, xg_memSize u, xg_hot u, xg_pc u, xg_status u, xg_steps u, xg_cursor u, xg_crossings u, xg_done u, xg_crossed u, xg_nextPc u, xg_crossedTo u, xg_recording u, xg_recHead u, xg_recLen u, xg_recMask u, xg_recPc u, xg_recWord u, xg_recNext u, xg_nextVictim u, xg_runMask u, xg_trHead u, xg_trLen u, xg_trMask u, xg_trIr u, xg_trVals u, xg_trCross u, xg_trTargets u, xg_irOp u, xg_irA u, xg_irB u, xg_irD u, xg_kFlag u, xg_kVal u, xg_exPc u, xg_exSteps u, xg_exCross u, xg_snap u)
theorem xm_codeSize {u u' : SX} (h : xm_t u' = xm_t u) : xg_codeSize u' = xg_codeSize u := congrArg (fun t => t.1) h
theorem xm_memSize {u u' : SX} (h : xm_t u' = xm_t u) : xg_memSize u' = xg_memSize u := congrArg (fun t => t.2.1) h
theorem xm_hot {u u' : SX} (h : xm_t u' = xm_t u) : xg_hot u' = xg_hot u := congrArg (fun t => t.2.2.1) h
theorem xm_pc {u u' : SX} (h : xm_t u' = xm_t u) : xg_pc u' = xg_pc u := congrArg (fun t => t.2.2.2.1) h
theorem xm_status {u u' : SX} (h : xm_t u' = xm_t u) : xg_status u' = xg_status u := congrArg (fun t => t.2.2.2.2.1) h
theorem xm_steps {u u' : SX} (h : xm_t u' = xm_t u) : xg_steps u' = xg_steps u := congrArg (fun t => t.2.2.2.2.2.1) h
theorem xm_cursor {u u' : SX} (h : xm_t u' = xm_t u) : xg_cursor u' = xg_cursor u := congrArg (fun t => t.2.2.2.2.2.2.1) h
theorem xm_crossings {u u' : SX} (h : xm_t u' = xm_t u) : xg_crossings u' = xg_crossings u := congrArg (fun t => t.2.2.2.2.2.2.2.1) h
theorem xm_done {u u' : SX} (h : xm_t u' = xm_t u) : xg_done u' = xg_done u := congrArg (fun t => t.2.2.2.2.2.2.2.2.1) h
theorem xm_crossed {u u' : SX} (h : xm_t u' = xm_t u) : xg_crossed u' = xg_crossed u := congrArg (fun t => t.2.2.2.2.2.2.2.2.2.1) h
theorem xm_nextPc {u u' : SX} (h : xm_t u' = xm_t u) : xg_nextPc u' = xg_nextPc u := congrArg (fun t => t.2.2.2.2.2.2.2.2.2.2.1) h
theorem xm_crossedTo {u u' : SX} (h : xm_t u' = xm_t u) : xg_crossedTo u' = xg_crossedTo u := congrArg (fun t => t.2.2.2.2.2.2.2.2.2.2.2.1) h
theorem xm_recording {u u' : SX} (h : xm_t u' = xm_t u) : xg_recording u' = xg_recording u := congrArg (fun t => t.2.2.2.2.2.2.2.2.2.2.2.2.1) h
theorem xm_recHead {u u' : SX} (h : xm_t u' = xm_t u) : xg_recHead u' = xg_recHead u := congrArg (fun t => t.2.2.2.2.2.2.2.2.2.2.2.2.2.1) h
theorem xm_recLen {u u' : SX} (h : xm_t u' = xm_t u) : xg_recLen u' = xg_recLen u := congrArg (fun t => t.2.2.2.2.2.2.2.2.2.2.2.2.2.2.1) h
theorem xm_recMask {u u' : SX} (h : xm_t u' = xm_t u) : xg_recMask u' = xg_recMask u := congrArg (fun t => t.2.2.2.2.2.2.2.2.2.2.2.2.2.2.2.1) h
theorem xm_recPc {u u' : SX} (h : xm_t u' = xm_t u) : xg_recPc u' = xg_recPc u := congrArg (fun t => t.2.2.2.2.2.2.2.2.2.2.2.2.2.2.2.2.1) h
theorem xm_recWord {u u' : SX} (h : xm_t u' = xm_t u) : xg_recWord u' = xg_recWord u := congrArg (fun t => t.2.2.2.2.2.2.2.2.2.2.2.2.2.2.2.2.2.1) h
theorem xm_recNext {u u' : SX} (h : xm_t u' = xm_t u) : xg_recNext u' = xg_recNext u := congrArg (fun t => t.2.2.2.2.2.2.2.2.2.2.2.2.2.2.2.2.2.2.1) h
theorem xm_nextVictim {u u' : SX} (h : xm_t u' = xm_t u) : xg_nextVictim u' = xg_nextVictim u := congrArg (fun t => t.2.2.2.2.2.2.2.2.2.2.2.2.2.2.2.2.2.2.2.1) h
theorem xm_runMask {u u' : SX} (h : xm_t u' = xm_t u) : xg_runMask u' = xg_runMask u := congrArg (fun t => t.2.2.2.2.2.2.2.2.2.2.2.2.2.2.2.2.2.2.2.2.1) h
theorem xm_trHead {u u' : SX} (h : xm_t u' = xm_t u) : xg_trHead u' = xg_trHead u := congrArg (fun t => t.2.2.2.2.2.2.2.2.2.2.2.2.2.2.2.2.2.2.2.2.2.1) h
theorem xm_trLen {u u' : SX} (h : xm_t u' = xm_t u) : xg_trLen u' = xg_trLen u := congrArg (fun t => t.2.2.2.2.2.2.2.2.2.2.2.2.2.2.2.2.2.2.2.2.2.2.1) h
theorem xm_trMask {u u' : SX} (h : xm_t u' = xm_t u) : xg_trMask u' = xg_trMask u := congrArg (fun t => t.2.2.2.2.2.2.2.2.2.2.2.2.2.2.2.2.2.2.2.2.2.2.2.1) h
theorem xm_trIr {u u' : SX} (h : xm_t u' = xm_t u) : xg_trIr u' = xg_trIr u := congrArg (fun t => t.2.2.2.2.2.2.2.2.2.2.2.2.2.2.2.2.2.2.2.2.2.2.2.2.1) h
theorem xm_trVals {u u' : SX} (h : xm_t u' = xm_t u) : xg_trVals u' = xg_trVals u := congrArg (fun t => t.2.2.2.2.2.2.2.2.2.2.2.2.2.2.2.2.2.2.2.2.2.2.2.2.2.1) h
theorem xm_trCross {u u' : SX} (h : xm_t u' = xm_t u) : xg_trCross u' = xg_trCross u := congrArg (fun t => t.2.2.2.2.2.2.2.2.2.2.2.2.2.2.2.2.2.2.2.2.2.2.2.2.2.2.1) h
theorem xm_trTargets {u u' : SX} (h : xm_t u' = xm_t u) : xg_trTargets u' = xg_trTargets u := congrArg (fun t => t.2.2.2.2.2.2.2.2.2.2.2.2.2.2.2.2.2.2.2.2.2.2.2.2.2.2.2.1) h
theorem xm_irOp {u u' : SX} (h : xm_t u' = xm_t u) : xg_irOp u' = xg_irOp u := congrArg (fun t => t.2.2.2.2.2.2.2.2.2.2.2.2.2.2.2.2.2.2.2.2.2.2.2.2.2.2.2.2.1) h
theorem xm_irA {u u' : SX} (h : xm_t u' = xm_t u) : xg_irA u' = xg_irA u := congrArg (fun t => t.2.2.2.2.2.2.2.2.2.2.2.2.2.2.2.2.2.2.2.2.2.2.2.2.2.2.2.2.2.1) h
theorem xm_irB {u u' : SX} (h : xm_t u' = xm_t u) : xg_irB u' = xg_irB u := congrArg (fun t => t.2.2.2.2.2.2.2.2.2.2.2.2.2.2.2.2.2.2.2.2.2.2.2.2.2.2.2.2.2.2.1) h
theorem xm_irD {u u' : SX} (h : xm_t u' = xm_t u) : xg_irD u' = xg_irD u := congrArg (fun t => t.2.2.2.2.2.2.2.2.2.2.2.2.2.2.2.2.2.2.2.2.2.2.2.2.2.2.2.2.2.2.2.1) h
theorem xm_kFlag {u u' : SX} (h : xm_t u' = xm_t u) : xg_kFlag u' = xg_kFlag u := congrArg (fun t => t.2.2.2.2.2.2.2.2.2.2.2.2.2.2.2.2.2.2.2.2.2.2.2.2.2.2.2.2.2.2.2.2.1) h
theorem xm_kVal {u u' : SX} (h : xm_t u' = xm_t u) : xg_kVal u' = xg_kVal u := congrArg (fun t => t.2.2.2.2.2.2.2.2.2.2.2.2.2.2.2.2.2.2.2.2.2.2.2.2.2.2.2.2.2.2.2.2.2.1) h
theorem xm_exPc {u u' : SX} (h : xm_t u' = xm_t u) : xg_exPc u' = xg_exPc u := congrArg (fun t => t.2.2.2.2.2.2.2.2.2.2.2.2.2.2.2.2.2.2.2.2.2.2.2.2.2.2.2.2.2.2.2.2.2.2.1) h
theorem xm_exSteps {u u' : SX} (h : xm_t u' = xm_t u) : xg_exSteps u' = xg_exSteps u := congrArg (fun t => t.2.2.2.2.2.2.2.2.2.2.2.2.2.2.2.2.2.2.2.2.2.2.2.2.2.2.2.2.2.2.2.2.2.2.2.1) h
theorem xm_exCross {u u' : SX} (h : xm_t u' = xm_t u) : xg_exCross u' = xg_exCross u := congrArg (fun t => t.2.2.2.2.2.2.2.2.2.2.2.2.2.2.2.2.2.2.2.2.2.2.2.2.2.2.2.2.2.2.2.2.2.2.2.2.1) h
theorem xm_snap {u u' : SX} (h : xm_t u' = xm_t u) : xg_snap u' = xg_snap u := congrArg (fun t => t.2.2.2.2.2.2.2.2.2.2.2.2.2.2.2.2.2.2.2.2.2.2.2.2.2.2.2.2.2.2.2.2.2.2.2.2.2) h
theorem xn_xm {u u' : SX} (h : xn_t u' = xn_t u) : xm_t u' = xm_t u := by unfold xm_t; rw [xn_codeSize h, xn_memSize h, xn_hot h, xn_pc h, xn_status h, xn_steps h, xn_cursor h, xn_crossings h, xn_done h, xn_crossed h, xn_nextPc h, xn_crossedTo h, xn_recording h, xn_recHead h, xn_recLen h, xn_recMask h, xn_recPc h, xn_recWord h, xn_recNext h, xn_nextVictim h, xn_runMask h, xn_trHead h, xn_trLen h, xn_trMask h, xn_trIr h, xn_trVals h, xn_trCross h, xn_trTargets h, xn_irOp h, xn_irA h, xn_irB h, xn_irD h, xn_kFlag h, xn_kVal h, xn_exPc h, xn_exSteps h, xn_exCross h, xn_snap h]
end
section
/-! registers and values around a round -/
section
variable {u : SX} {s : Nat}
theorem xw_rest14 {post : SX → Prop} {e : Nat} (hs : s < 8) (he : e < 128) (hv : ∀ j : Nat, j < 8 → vp_in (bo_sn u s (8 * e + j)) 256)
    (K : ∀ r' : Nat → Int32, r' = rg_f (xg_r u) (fun j => xg_val u (bo_sn u s (8 * e + j)).toNatClampNeg) → post (xs_r u r')) :
    ∀ (k j : Nat), j + k = 8 → ∀ r' : Nat → Int32, (∀ q : Nat, r' q = if q < j then xg_val u (bo_sn u s (8 * e + q)).toNatClampNeg else xg_r u q) → ∀ u' : SX, u' = xs_r u r' → ∀ n : Nat, k < n → xq_restoreRegs_14 post (nI (1024 * s + 8 * e)) n (nI j) u' := by
  intro k
  induction k with
  | zero =>
    intro j hj r' hr u' hu n hn
    obtain ⟨n, rfl⟩ : ∃ m, n = m + 1 := ⟨n - 1, by omega⟩
    have e : j = 8 := by omega
    subst e
    rw [xu_restoreRegs_14, hu]
    exact br_t (Int32.le_refl _) (K r' (funext hr))
  | succ k ih =>
    intro j hj r' hr u' hu n hn
    obtain ⟨n, rfl⟩ : ∃ m, n = m + 1 := ⟨n - 1, by omega⟩
    have e1 : xg_snap u' = xg_snap u := by rw [hu]; rfl
    have e2 : xg_val u' = xg_val u := by rw [hu]; rfl
    have e3 : xg_r u' = r' := by rw [hu]; rfl
    have e4 : ∀ f : Nat → Int32, xs_r u' f = xs_r u f := fun f => by rw [hu]; rfl
    have es : bo_sn u s (8 * e + j) = xg_snap u (1024 * s + 8 * e + j) := by
      have : bo_sn u s (8 * e + j) = xg_snap u (1024 * s + (8 * e + j)) := sl_at (by omega)
      rw [this, Nat.add_assoc]
    rw [xu_restoreRegs_14, nI_add, nI_clamp (by omega), nI_clamp (by omega), e1, e2, e3, ← es]
    refine br_f (nI_ge (b := 8) (by omega) (by decide)) ⟨vp_in_nI (by omega) (by decide), hv j (by omega), vp_in_nI (by omega) (by decide), nm_e (nm_r (nI_1 j) ?_)⟩
    refine ih (j + 1) (by omega) (upd r' j (xg_val u (bo_sn u s (8 * e + j)).toNatClampNeg)) (fun q => ?_) _ (e4 _) n (by omega)
    by_cases e5 : q = j
    · subst e5; rw [pk_us, if_pos (by omega)]
    · rw [pk_un e5, hr q]
      by_cases e6 : q < j
      · rw [if_pos e6, if_pos (by omega)]
      · rw [if_neg e6, if_neg (by omega)]
theorem xw_restore {post : SX → Prop} {e : Nat} (hs : s < 8) (he : e < 128) (hv : ∀ j : Nat, j < 8 → vp_in (bo_sn u s (8 * e + j)) 256)
    (K : ∀ r' : Nat → Int32, r' = rg_f (xg_r u) (fun j => xg_val u (bo_sn u s (8 * e + j)).toNatClampNeg) → post (xs_r u r')) : wpX_restoreRegs post u (nI s) (nI e) := by
  have e1 : (nI s * 128 + nI e) * 8 = nI (1024 * s + 8 * e) := by
    rw [cp_sl, show (8 : Int32) = nI 8 from rfl, pk_mul]
    exact congrArg nI (by omega)
  rw [xu_restoreRegs, e1]
  exact nm_e ⟨9, xw_rest14 hs he hv K 8 0 (by omega) (xg_r u) (fun q => (if_neg (by omega)).symm) u rfl 9 (by omega)⟩
theorem xw_close8 {post : SX → Prop} (K : ∀ v' : Nat → Int32, v' = (fun q => if q < 8 then xg_r u q else xg_val u q) → post (xs_val u v')) :
    ∀ (k j : Nat), j + k = 8 → ∀ v' : Nat → Int32, (∀ q : Nat, v' q = if q < j then xg_r u q else xg_val u q) → ∀ u' : SX, u' = xs_val u v' → ∀ n : Nat, k < n → xq_closeRound_8 post n (nI j) u' := by
  intro k
  induction k with
  | zero =>
    intro j hj v' hr u' hu n hn
    obtain ⟨n, rfl⟩ : ∃ m, n = m + 1 := ⟨n - 1, by omega⟩
    have e : j = 8 := by omega
    subst e
    rw [xu_closeRound_8, hu]
    exact br_t (Int32.le_refl _) (K v' (funext hr))
  | succ k ih =>
    intro j hj v' hr u' hu n hn
    obtain ⟨n, rfl⟩ : ∃ m, n = m + 1 := ⟨n - 1, by omega⟩
    have e2 : xg_val u' = v' := by rw [hu]; rfl
    have e3 : xg_r u' = xg_r u := by rw [hu]; rfl
    have e4 : ∀ f : Nat → Int32, xs_val u' f = xs_val u f := fun f => by rw [hu]; rfl
    rw [xu_closeRound_8, nI_clamp (by omega), e2, e3]
    refine br_f (nI_ge (b := 8) (by omega) (by decide)) ⟨vp_in_nI (by omega) (by decide), vp_in_nI (by omega) (by decide), nm_e (nm_r (nI_1 j) ?_)⟩
    refine ih (j + 1) (by omega) (upd v' j (xg_r u j)) (fun q => ?_) _ (e4 _) n (by omega)
    by_cases e5 : q = j
    · subst e5; rw [pk_us, if_pos (by omega)]
    · rw [pk_un e5, hr q]
      by_cases e6 : q < j
      · rw [if_pos e6, if_pos (by omega)]
      · rw [if_neg e6, if_neg (by omega)]
end
end
section
/-! loading the values; closing a round -/
section
variable {u : SX} {s : Nat}
/-- closing: registers out of the end's snapshot, values out of the registers -/
theorem xw_close {post : SX → Prop} (hs : s < 8) (hv : ∀ j : Nat, j < 8 → vp_in (bo_sn u s j) 256)
    (K : ∀ u' : SX, xm_t u' = xm_t u → xg_mem u' = xg_mem u → xg_code u' = xg_code u → xg_out u' = xg_out u → xg_outCount u' = xg_outCount u → xg_trLive u' = xg_trLive u → xg_slotOf u' = xg_slotOf u → xg_r u' = rg_f (xg_r u) (fun j => xg_val u (bo_sn u s j).toNatClampNeg) → (∀ j : Nat, j < 8 → xg_val u' j = xg_r u' j) → (∀ j : Nat, 8 ≤ j → xg_val u' j = xg_val u j) → post u') : wpX_closeRound post u (nI s) := by
  rw [xu_closeRound]
  refine xw_restore (e := 0) hs (by omega) (fun j hj => by rw [Nat.mul_zero, Nat.zero_add]; exact hv j hj) (fun r' hr => ?_)
  have hr' : r' = rg_f (xg_r u) (fun j => xg_val u (bo_sn u s j).toNatClampNeg) := by
    rw [hr]; exact rg_cong (fun j _ => by rw [Nat.mul_zero, Nat.zero_add])
  obtain ⟨u1, hu1⟩ : ∃ u1, u1 = xs_r u r' := ⟨_, rfl⟩
  have z1 : xm_t u1 = xm_t u := by rw [hu1]; rfl
  have z2 : xg_mem u1 = xg_mem u ∧ xg_code u1 = xg_code u ∧ xg_out u1 = xg_out u ∧ xg_outCount u1 = xg_outCount u ∧ xg_trLive u1 = xg_trLive u ∧ xg_slotOf u1 = xg_slotOf u ∧ xg_r u1 = r' ∧ xg_val u1 = xg_val u := by rw [hu1]; exact ⟨rfl, rfl, rfl, rfl, rfl, rfl, rfl, rfl⟩
  rw [← hu1]
  obtain ⟨a1, a2, a3, a4, a5, a6, a7, a8⟩ := z2
  refine ⟨9, xw_close8 (u := u1) (fun v' hv' => ?_) 8 0 (by omega) (xg_val u1) (fun q => (if_neg (by omega)).symm) u1 rfl 9 (by omega)⟩
  obtain ⟨u2, hu2⟩ : ∃ u2, u2 = xs_val u1 v' := ⟨_, rfl⟩
  have y1 : xm_t u2 = xm_t u1 := by rw [hu2]; rfl
  have y2 : xg_mem u2 = xg_mem u1 ∧ xg_code u2 = xg_code u1 ∧ xg_out u2 = xg_out u1 ∧ xg_outCount u2 = xg_outCount u1 ∧ xg_trLive u2 = xg_trLive u1 ∧ xg_slotOf u2 = xg_slotOf u1 ∧ xg_r u2 = xg_r u1 ∧ xg_val u2 = v' := by rw [hu2]; exact ⟨rfl, rfl, rfl, rfl, rfl, rfl, rfl, rfl⟩
  rw [← hu2]
  obtain ⟨b1, b2, b3, b4, b5, b6, b7, b8⟩ := y2
  refine K u2 (y1.trans z1) (b1.trans a1) (b2.trans a2) (b3.trans a3) (b4.trans a4) (b5.trans a5) (b6.trans a6) (b7.trans (a7.trans hr')) (fun j hj => ?_) (fun j hj => ?_)
  · rw [b8, b7, hv']; exact if_pos hj
  · rw [b8, hv']; show (if j < 8 then _ else _) = _; rw [if_neg (by omega), a8]
theorem xw_lv35 {post : SX → Prop} {nv : Nat} (hs : s < 8) (hnv : nv ≤ 256) (htv : xg_trVals u s = nI nv)
    (K : ∀ v' : Nat → Int32, (∀ q : Nat, q < 8 → v' q = xg_val u q) → sm_ad nv (bo_kf u s) (bo_kv u s) v' → post (xs_val u v')) :
    ∀ (k j : Nat), 8 ≤ j → j + k = max nv 8 → ∀ v' : Nat → Int32, (∀ q : Nat, q < 8 → v' q = xg_val u q) → (∀ q : Nat, 8 ≤ q → q < j → bo_kf u s q ≠ 0 → v' q = bo_kv u s q) → ∀ u' : SX, u' = xs_val u v' → ∀ n : Nat, k < n → xq_loadValues_35 post (nI s) (nI (256 * s)) n (nI j) u' := by
  intro k
  induction k with
  | zero =>
    intro j h8 hj v' h1 h2 u' hu n hn
    obtain ⟨n, rfl⟩ : ∃ m, n = m + 1 := ⟨n - 1, by omega⟩
    have et : xg_trVals u' = xg_trVals u := by rw [hu]; rfl
    rw [xu_loadValues_35, nI_clamp (by omega), et, htv, hu]
    refine ⟨vp_in_nI hs (by decide), br_t (nI_le (by omega) (by omega)) (K v' h1 (fun q q8 qn qf => h2 q q8 (by omega) qf))⟩
  | succ k ih =>
    intro j h8 hj v' h1 h2 u' hu n hn
    obtain ⟨n, rfl⟩ : ∃ m, n = m + 1 := ⟨n - 1, by omega⟩
    have hjn : j < nv := by omega
    obtain ⟨i1, i2⟩ := bb_ix hs (k := j) (by omega)
    have et : xg_trVals u' = xg_trVals u := by rw [hu]; rfl
    have ek : xg_kFlag u' = xg_kFlag u := by rw [hu]; rfl
    have ev : xg_kVal u' = xg_kVal u := by rw [hu]; rfl
    have e2 : xg_val u' = v' := by rw [hu]; rfl
    have e4 : ∀ f : Nat → Int32, xs_val u' f = xs_val u f := fun f => by rw [hu]; rfl
    have ef : bo_kf u s j = xg_kFlag u (256 * s + j) := sl_at (by omega)
    have evv : bo_kv u s j = xg_kVal u (256 * s + j) := sl_at (by omega)
    rw [xu_loadValues_35, nI_clamp (by omega), et, htv, ek, ev, e2, i2, ← ef, ← evv, nI_clamp (by omega)]
    refine ⟨vp_in_nI hs (by decide), br_f (nI_ge hjn (by omega)) (br_f (nI_ge (b := 256) (by omega) (by decide)) ⟨i1, br_c (fun h0 => nm_r (nI_1 j) ?_) (fun h0 => ⟨i1, vp_in_nI (by omega) (by decide), nm_e (nm_r (nI_1 j) ?_)⟩)⟩)⟩
    · refine ih (j + 1) (by omega) (by omega) v' h1 (fun q q8 qj qf => ?_) u' hu n (by omega)
      by_cases e : q = j
      · subst e; exact absurd h0 qf
      · exact h2 q q8 (by omega) qf
    · refine ih (j + 1) (by omega) (by omega) (upd v' j (bo_kv u s j)) (fun q hq => by rw [pk_un (by omega)]; exact h1 q hq) (fun q q8 qj qf => ?_) _ (e4 _) n (by omega)
      by_cases e : q = j
      · subst e; exact pk_us
      · rw [pk_un e]; exact h2 q q8 (by omega) qf
theorem xw_lv8 {post : SX → Prop} {x2 : Int32} (K : ∀ v' : Nat → Int32, (∀ q : Nat, q < 8 → v' q = xg_r u q) → ∃ n : Nat, xq_loadValues_35 post (nI s) x2 n 8 (xs_val u v')) :
    ∀ (k j : Nat), j + k = 8 → ∀ v' : Nat → Int32, (∀ q : Nat, q < j → v' q = xg_r u q) → ∀ u' : SX, u' = xs_val u v' → ∀ n : Nat, k < n → xq_loadValues_8 post (nI s) x2 n (nI j) u' := by
  intro k
  induction k with
  | zero =>
    intro j hj v' hr u' hu n hn
    obtain ⟨n, rfl⟩ : ∃ m, n = m + 1 := ⟨n - 1, by omega⟩
    have e : j = 8 := by omega
    subst e
    rw [xu_loadValues_8, hu]
    exact br_t (Int32.le_refl _) (K v' hr)
  | succ k ih =>
    intro j hj v' hr u' hu n hn
    obtain ⟨n, rfl⟩ : ∃ m, n = m + 1 := ⟨n - 1, by omega⟩
    have e2 : xg_val u' = v' := by rw [hu]; rfl
    have e3 : xg_r u' = xg_r u := by rw [hu]; rfl
    have e4 : ∀ f : Nat → Int32, xs_val u' f = xs_val u f := fun f => by rw [hu]; rfl
    rw [xu_loadValues_8, nI_clamp (by omega), e2, e3]
    refine br_f (nI_ge (b := 8) (by omega) (by decide)) ⟨vp_in_nI (by omega) (by decide), vp_in_nI (by omega) (by decide), nm_e (nm_r (nI_1 j) ?_)⟩
    refine ih (j + 1) (by omega) (upd v' j (xg_r u j)) (fun q hq => ?_) _ (e4 _) n (by omega)
    by_cases e5 : q = j
    · subst e5; rw [pk_us]
    · rw [pk_un e5]; exact hr q (by omega)
theorem xw_loadVals {post : SX → Prop} {nv : Nat} (hs : s < 8) (hnv : nv ≤ 256) (htv : xg_trVals u s = nI nv)
    (K : ∀ v' : Nat → Int32, (∀ q : Nat, q < 8 → v' q = xg_r u q) → sm_ad nv (bo_kf u s) (bo_kv u s) v' → post (xs_val u v')) : wpX_loadValues post u (nI s) := by
  have e256 : nI s * 256 = nI (256 * s) := by
    rw [show (256 : Int32) = nI 256 from rfl, pk_mul, Nat.mul_comm]
  rw [xu_loadValues, e256]
  refine nm_e ⟨9, xw_lv8 (u := u) (fun v1 h1 => ?_) 8 0 (by omega) (xg_val u) (fun q hq => by omega) u rfl 9 (by omega)⟩
  obtain ⟨u1, hu1⟩ : ∃ u1, u1 = xs_val u v1 := ⟨_, rfl⟩
  have z1 : xg_trVals u1 = xg_trVals u ∧ xg_val u1 = v1 := by rw [hu1]; exact ⟨rfl, rfl⟩
  have z2 : bo_kf u1 s = bo_kf u s ∧ bo_kv u1 s = bo_kv u s := by rw [hu1]; exact ⟨rfl, rfl⟩
  have z3 : ∀ f : Nat → Int32, xs_val u1 f = xs_val u f := fun f => by rw [hu1]; rfl
  rw [← hu1]
  refine ⟨max nv 8 - 8 + 1, xw_lv35 (u := u1) hs hnv (by rw [z1.1]; exact htv) (fun v2 h2 h3 => ?_) (max nv 8 - 8) 8 (by omega) (by omega) v1 (fun q _ => by rw [z1.2]) (fun q h h' => by omega) u1 (by rw [z3]; exact hu1) _ (by omega)⟩
  rw [z3]
  rw [z2.1, z2.2] at h3
  exact K v2 (fun q hq => by rw [h2 q hq, z1.2]; exact h1 q hq) h3
end
end
section
/-! rounds of a trace, on the reference's side -/
theorem yr_add {cs : Int32} {mk : Int64} {a ca : Nat} {v v1 : SY} (h1 : yr_n cs mk a ca v v1) : ∀ (b cb : Nat) (v2 : SY), yr_n cs mk b cb v1 v2 → yr_n cs mk (a + b) (ca + cb) v v2 := by
  intro b
  induction b with
  | zero =>
    intro cb v2 h2
    obtain ⟨e1, e2⟩ := h2
    subst e1; rw [e2]; exact h1
  | succ b ih =>
    intro cb v2 h2
    obtain ⟨c1, vm, k, g1, g2, g3, g4, g5⟩ := h2
    refine ⟨ca + c1, vm, k, ih c1 vm g1, g2, g3, g4, ?_⟩
    rcases g5 with ⟨p1, p2⟩ | ⟨p1, p2⟩
    · exact Or.inl ⟨p1, by rw [p2]⟩
    · exact Or.inr ⟨p1, by rw [p2, Nat.add_assoc]⟩
/-- how often a cell is among the first n targets -/
def cn_f (tg : Nat → Int32) (x : Nat) : Nat → Int32
  | 0 => 0
  | n + 1 => cn_f tg x n + (if x = (tg n).toNatClampNeg then 1 else 0)
theorem bu_cn {f tg : Nat → Int32} {x : Nat} : ∀ n : Nat, bu_n f tg n x = f x + cn_f tg x n := by
  intro n
  induction n with
  | zero => exact (Int32.add_zero _).symm
  | succ n ih =>
    show upd (bu_n f tg n) (tg n).toNatClampNeg (bu_n f tg n (tg n).toNatClampNeg + 1) x = f x + (cn_f tg x n + (if x = (tg n).toNatClampNeg then 1 else 0))
    by_cases e : x = (tg n).toNatClampNeg
    · rw [if_pos e, ← e, pk_us, ih, Int32.add_assoc]
    · rw [if_neg e, pk_un e, ih, Int32.add_zero]
def bk_n (f tg : Nat → Int32) (nc : Nat) : Nat → (Nat → Int32)
  | 0 => f
  | m + 1 => bu_n (bk_n f tg nc m) tg nc
theorem bk_cn {f tg : Nat → Int32} {nc x : Nat} : ∀ m : Nat, bk_n f tg nc m x = f x + nI m * cn_f tg x nc := by
  intro m
  induction m with
  | zero => show f x = f x + nI 0 * cn_f tg x nc; rw [nI_0, Int32.zero_mul, Int32.add_zero]
  | succ m ih =>
    show bu_n (bk_n f tg nc m) tg nc x = _
    rw [bu_cn, ih, nI_succ, Int32.add_mul, Int32.one_mul, Int32.add_assoc]
/-- the state of the reference behind whole rounds and a part of one -/
theorem yr_st2 {v : SY} {p p' : Int32} {a b : Nat} {cr cr' rf rf' : Nat → Int32} {R R' : ir_R} : yr_st (yr_st v p a cr rf R) p' b cr' rf' R' = yr_st v p' (a + b) cr' rf' R' := by
  show (yg_codeSize v, yg_memSize v, yg_hot v, p', (0 : Int32), (yg_steps v + nI a) + nI b, yg_cursor v, R'.2.2.2.2, R'.2.2.1, cr', R'.2.1, rf', R'.2.2.2.1) = (yg_codeSize v, yg_memSize v, yg_hot v, p', (0 : Int32), yg_steps v + nI (a + b), yg_cursor v, R'.2.2.2.2, R'.2.2.1, cr', R'.2.1, rf', R'.2.2.2.1)
  rw [Int32.add_assoc, nI_add]
/-- what a round needs and gives -/
def rd_at (cs ms : Int32) (mk : Int64) (tg : Nat → Int32) (hd : Int32) (n nc : Nat) (v0 : SY) (m : Nat) (rf : Nat → Int32) (R : ir_R) : Prop :=
  yg_codeSize v0 = cs ∧ yg_memSize v0 = ms ∧ sm_ag mk (yg_code v0) R.2.2.1 ∧ sm_oc R.2.2.2.2 ∧ (∀ j : Nat, j < 8 → R.1 j = rf j) ∧
  yr_n cs mk (m * n) (m * nc) v0 (yr_st v0 hd (m * n) (bk_n (yg_crossings v0) tg nc m) rf R)
section
variable {cs ms : Int32} {mk : Int64} {tg : Nat → Int32} {hd : Int32} {n nc m : Nat} {v0 : SY} {rf : Nat → Int32} {R : ir_R}
theorem rd_sm (h : rd_at cs ms mk tg hd n nc v0 m rf R) : sm_st cs ms mk (yg_code v0) hd (yr_st v0 hd (m * n) (bk_n (yg_crossings v0) tg nc m) rf R) R :=
  ⟨h.1, h.2.1, rfl, rfl, h.2.2.2.1, h.2.2.1, h.2.2.2.2.1, rfl⟩
theorem rd_part {R' : ir_R} {k q : Nat} {p : Int32} {f : Nat → Int32} (h : rd_at cs ms mk tg hd n nc v0 m rf R) (g : sm_at cs mk tg (yr_st v0 hd (m * n) (bk_n (yg_crossings v0) tg nc m) rf R) R' k p q f) :
    yr_n cs mk (m * n + k) (m * nc + q) v0 (yr_st v0 p (m * n + k) (bu_n (bk_n (yg_crossings v0) tg nc m) tg q) (rg_f rf f) R') := by
  have g' : yr_n cs mk k q (yr_st v0 hd (m * n) (bk_n (yg_crossings v0) tg nc m) rf R) (yr_st (yr_st v0 hd (m * n) (bk_n (yg_crossings v0) tg nc m) rf R) p k (bu_n (bk_n (yg_crossings v0) tg nc m) tg q) (rg_f rf f) R') := g
  rw [yr_st2] at g'
  exact yr_add h.2.2.2.2.2 k q _ g'
theorem rd_next {R' R'' : ir_R} {f : Nat → Int32} (h : rd_at cs ms mk tg hd n nc v0 m rf R) (g : sm_at cs mk tg (yr_st v0 hd (m * n) (bk_n (yg_crossings v0) tg nc m) rf R) R' n hd nc f) (ha : sm_ag mk (yg_code v0) R'.2.2.1) (ho : sm_oc R'.2.2.2.2) (e2 : R''.2 = R'.2) (e1 : ∀ j : Nat, j < 8 → R''.1 j = rg_f rf f j) :
    rd_at cs ms mk tg hd n nc v0 (m + 1) (rg_f rf f) R'' := by
  refine ⟨h.1, h.2.1, by rw [e2]; exact ha, by rw [e2]; exact ho, e1, ?_⟩
  have g' := rd_part h g
  rw [Nat.succ_mul, Nat.succ_mul]
  have e : yr_st v0 hd (m * n + n) (bk_n (yg_crossings v0) tg nc (m + 1)) (rg_f rf f) R'' = yr_st v0 hd (m * n + n) (bu_n (bk_n (yg_crossings v0) tg nc m) tg nc) (rg_f rf f) R' := by
    unfold yr_st; rw [e2]; rfl
  rw [e]; exact g'
end
/-! the trace code keeps the constants -/
theorem ir_ad {cs ms : Int32} {mk : Int64} {o a b d kf kv : Nat → Int32} {R0 : ir_R} {nv : Nat} : ∀ (n : Nat) (R : ir_R), (∀ i : Nat, i < n → (o i ≤ 15 ∨ o i = 16 ∨ o i = 18) → 8 ≤ (d i).toNatClampNeg ∧ kf (d i).toNatClampNeg = 0) → sm_ad nv kf kv R0.1 → ir_go cs ms mk o a b d n R0 R → sm_ad nv kf kv R.1 := by
  intro n
  induction n with
  | zero => intro R _ h g; have e : R = R0 := g; rw [e]; exact h
  | succ n ih =>
    intro R hd h g
    obtain ⟨R1, g1, g2, g3⟩ := g
    have h1 := ih R1 (fun i hi => hd i (by omega)) h g1
    intro k h8 hk hf
    rw [g3, ir_fV (fun z e => hf (by rw [e]; exact (hd n (by omega) z).2))]
    exact h1 k h8 hk hf
end
section
/-! leaving a trace -/
def xl_z (u : SX) (p st : Int32) (cr rf : Nat → Int32) : SY := (xg_codeSize u, xg_memSize u, xg_hot u, p, xg_status u, st, xg_cursor u, xg_outCount u, xg_code u, cr, xg_mem u, rf, xg_out u)
theorem cp_96 (s e : Nat) : nI s * 96 + nI e = nI (96 * s + e) := by
  rw [show (96 : Int32) = nI 96 from rfl, pk_mul, nI_add, Nat.mul_comm]
section
variable {w : SX} {s m q k n nc : Nat}
theorem xw_lv196 {post : SX → Prop} (hs : s < 8) (hI : iv_sl w)
    (K : ∀ u' : SX, iv_sl u' → xg_recording u' = xg_recording w → xg_nextVictim u' = xg_nextVictim w → xg_done u' = xg_done w → xg_crossed u' = xg_crossed w → xv_y u' = xv_y w → post u') : xq_leaveTrace_196 post (nI s) (nI m) w := by
  have hv : vp_in (nI s) 8 := vp_in_nI hs (by decide)
  have key : ∀ (P : SX → Prop) (g : Nat → Int32), (∀ w1 : SX, iv_sl w1 → xg_recording w1 = xg_recording w → xg_nextVictim w1 = xg_nextVictim w → xg_done w1 = xg_done w → xg_crossed w1 = xg_crossed w → xv_y w1 = xv_y w → P w1) → P (xs_trMiss w g) := fun P g H => by
    obtain ⟨w1, hw⟩ : ∃ w1, w1 = xs_trMiss w g := ⟨_, rfl⟩
    have i1 : iv_sl w1 := by rw [hw]; exact hI
    have i2 : xg_recording w1 = xg_recording w ∧ xg_nextVictim w1 = xg_nextVictim w ∧ xg_done w1 = xg_done w ∧ xg_crossed w1 = xg_crossed w := by rw [hw]; exact ⟨rfl, rfl, rfl, rfl⟩
    have i3 : xv_y w1 = xv_y w := by rw [hw]; rfl
    rw [← hw]
    exact H w1 i1 i2.1 i2.2.1 i2.2.2.1 i2.2.2.2 i3
  rw [xu_leaveTrace_196, nI_clamp (by omega)]
  refine br_c (fun _ => ⟨hv, hv, nm_e ⟨hv, br_c (fun _ => key post _ K) (fun _ => key (fun z => wpX_dropSlot (fun u10 => post u10) z (nI s)) _ (fun w1 i1 i2 i3 i4 i5 i6 => ?_))⟩⟩) (fun _ => ⟨hv, nm_e (key post _ K)⟩)
  refine xw_dropSlot hs (fun hl => tk_head (i1.1 s hs hl)) (fun _ => K w1 i1 i2 i3 i4 i5 i6) (fun u' _ g1 g2 g3 g4 g5 => K u' (iv_sl_drop hs i1 (xk_xj g1 g2 g3) g4 g5) (g3.trans i2) ((xk_nextVictim g1).trans i3) ((xk_done g1).trans i4) ((xk_crossed g1).trans i5) ?_)
  rw [xk_y g1, g2, ← i6]; rfl
theorem xw_lv129 {post : SX → Prop} (hs : s < 8) (htc : xg_trCross w s = nI nc) (hnc : nc ≤ 96) (hq : q ≤ nc) (hv : ∀ i : Nat, i < nc → vp_in (bo_tg w s i) 64)
    (K : ∀ f : Nat → Int32, (∀ x : Nat, f x = xg_crossings w x + nI m * cn_f (bo_tg w s) x nc + cn_f (bo_tg w s) x q) → xq_leaveTrace_196 post (nI s) (nI m) (xs_crossings w f)) :
    ∀ (k j : Nat), j + k = nc → ∀ f : Nat → Int32, (∀ x : Nat, f x = xg_crossings w x + nI m * cn_f (bo_tg w s) x j + cn_f (bo_tg w s) x (min j q)) → ∀ u' : SX, u' = xs_crossings w f → ∀ n : Nat, k < n → xq_leaveTrace_129 post (nI s) (nI m) (nI q) n (nI j) u' := by
  intro k
  induction k with
  | zero =>
    intro j hj f hf u' hu n hn
    obtain ⟨n, rfl⟩ : ∃ m, n = m + 1 := ⟨n - 1, by omega⟩
    have e : j = nc := by omega
    subst e
    have et : xg_trCross u' = xg_trCross w := by rw [hu]; rfl
    rw [xu_leaveTrace_129, nI_clamp (by omega), et, htc, hu]
    rw [Nat.min_eq_right hq] at hf
    exact ⟨vp_in_nI hs (by decide), br_t (Int32.le_refl _) (K f hf)⟩
  | succ k ih =>
    intro j hj f hf u' hu n hn
    obtain ⟨n, rfl⟩ : ∃ m, n = m + 1 := ⟨n - 1, by omega⟩
    have hjn : j < nc := by omega
    have et : xg_trCross u' = xg_trCross w := by rw [hu]; rfl
    have eg : xg_trTargets u' = xg_trTargets w := by rw [hu]; rfl
    have e2 : xg_crossings u' = f := by rw [hu]; rfl
    have e4 : ∀ f : Nat → Int32, xs_crossings u' f = xs_crossings w f := fun f => by rw [hu]; rfl
    have ef : bo_tg w s j = xg_trTargets w (96 * s + j) := sl_at (by omega)
    rw [xu_leaveTrace_129, cp_96, nI_clamp (by omega), nI_clamp (n := 96 * s + j) (by omega), et, htc, eg, e2, ← ef]
    have hvj := hv j hjn
    refine ⟨vp_in_nI hs (by decide), br_f (nI_ge hjn (by omega)) (br_f (nI_ge (b := 96) (by omega) (by decide)) ⟨vp_in_nI (by omega) (by decide), nm_e ⟨hvj, hvj, nm_e ?_⟩⟩)⟩
    refine pk_le q j (fun hle => nm_r (nI_1 j) ?_) (fun hlt => ⟨hvj, hvj, nm_e (nm_r (nI_1 j) ?_)⟩)
    · refine ih (j + 1) (by omega) _ (fun x => ?_) _ (e4 _) n (by omega)
      rw [Nat.min_eq_right (by omega)]
      rw [Nat.min_eq_right hle] at hf
      show upd f _ _ x = _ + nI m * (cn_f (bo_tg w s) x j + (if x = (bo_tg w s j).toNatClampNeg then 1 else 0)) + _
      by_cases e : x = (bo_tg w s j).toNatClampNeg
      · rw [if_pos e, ← e, pk_us, hf, Int32.mul_add, Int32.mul_one]; ac_rfl
      · rw [if_neg e, pk_un e, hf, Int32.add_zero]
    · refine ih (j + 1) (by omega) _ (fun x => ?_) _ (e4 _) n (by omega)
      rw [Nat.min_eq_left (by omega)]
      rw [Nat.min_eq_left (by omega)] at hf
      show upd _ _ _ x = _ + nI m * (cn_f (bo_tg w s) x j + (if x = (bo_tg w s j).toNatClampNeg then 1 else 0)) + (cn_f (bo_tg w s) x j + (if x = (bo_tg w s j).toNatClampNeg then 1 else 0))
      by_cases e : x = (bo_tg w s j).toNatClampNeg
      · rw [if_pos e, ← e, pk_us, pk_us, hf, Int32.mul_add, Int32.mul_one]; ac_rfl
      · rw [if_neg e, pk_un e, pk_un e, hf, Int32.add_zero]
def lv_K (post : SX → Prop) (w : SX) (s m n k nc q : Nat) (p : Int32) (rf : Nat → Int32) : Prop :=
  ∀ (u' : SX) (cr : Nat → Int32), iv_sl u' → xg_recording u' = xg_recording w → xg_nextVictim u' = xg_nextVictim w → xg_done u' = xg_done w + nI (m * n + k) → xg_crossed u' = xg_crossed w + nI (m * nc + q) → xv_y u' = xl_z w p (xg_steps w + nI (m * n + k)) cr rf → (∀ x : Nat, cr x = xg_crossings w x + nI m * cn_f (bo_tg w s) x nc + cn_f (bo_tg w s) x q) → post u'
theorem xw_lv71 {post : SX → Prop} (hs : s < 8) (hI : iv_sl w) (hln : xg_trLen w s = nI n) (htc : xg_trCross w s = nI nc) (hnc : nc ≤ 96) (hq : q ≤ nc) (hv : ∀ i : Nat, i < nc → vp_in (bo_tg w s i) 64)
    (K : lv_K post w s m n k nc q (xg_pc w) (xg_r w)) : xq_leaveTrace_71 post (nI s) (nI m) (nI k) (nI q) w := by
  have hv8 : vp_in (nI s) 8 := vp_in_nI hs (by decide)
  rw [xu_leaveTrace_71, nI_clamp (by omega), hln, htc, pk_mul, nI_add, pk_mul, nI_add]
  refine ⟨hv8, nm_e (nm_e (nm_e ⟨hv8, nm_e ?_⟩))⟩
  obtain ⟨w1, hw⟩ : ∃ w1, w1 = xs_crossed (xs_done (xs_steps w (xg_steps w + nI (m * n + k))) (xg_done w + nI (m * n + k))) (xg_crossed w + nI (m * nc + q)) := ⟨_, rfl⟩
  have i1 : iv_sl w1 := by rw [hw]; exact hI
  have i2 : xg_recording w1 = xg_recording w ∧ xg_nextVictim w1 = xg_nextVictim w ∧ xg_done w1 = xg_done w + nI (m * n + k) ∧ xg_crossed w1 = xg_crossed w + nI (m * nc + q) ∧ xg_crossings w1 = xg_crossings w ∧ xg_trCross w1 = xg_trCross w := by rw [hw]; exact ⟨rfl, rfl, rfl, rfl, rfl, rfl⟩
  have i3 : bo_tg w1 s = bo_tg w s := by rw [hw]; rfl
  have i4 : ∀ f : Nat → Int32, xv_y (xs_crossings w1 f) = xl_z w (xg_pc w) (xg_steps w + nI (m * n + k)) f (xg_r w) := fun f => by rw [hw]; rfl
  rw [← hw]
  obtain ⟨a1, a2, a3, a4, a5, a6⟩ := i2
  refine ⟨nc + 1, xw_lv129 (w := w1) (q := q) hs (by rw [a6]; exact htc) hnc hq (by rw [i3]; exact hv) (fun f hf => ?_) nc 0 (by omega) (xg_crossings w1) (fun x => ?_) w1 ?_ (nc + 1) (by omega)⟩
  · rw [i3, a5] at hf
    obtain ⟨u1, hu⟩ : ∃ u1, u1 = xs_crossings w1 f := ⟨_, rfl⟩
    have j1 : iv_sl u1 := by rw [hu]; exact i1
    have j2 : xg_recording u1 = xg_recording w1 ∧ xg_nextVictim u1 = xg_nextVictim w1 ∧ xg_done u1 = xg_done w1 ∧ xg_crossed u1 = xg_crossed w1 := by rw [hu]; exact ⟨rfl, rfl, rfl, rfl⟩
    have j3 : xv_y u1 = xl_z w (xg_pc w) (xg_steps w + nI (m * n + k)) f (xg_r w) := by rw [hu]; exact i4 f
    rw [← hu]
    obtain ⟨b1, b2, b3, b4⟩ := j2
    exact xw_lv196 hs j1 (fun u' g1 g2 g3 g4 g5 g6 => K u' f g1 (g2.trans (b1.trans a1)) (g3.trans (b2.trans a2)) (g4.trans (b3.trans a3)) (g5.trans (b4.trans a4)) (g6.trans j3) hf)
  · rw [Nat.zero_min]
    show _ = _ + nI m * 0 + 0
    rw [Int32.mul_zero, Int32.add_zero, Int32.add_zero]
  · rw [hw]; rfl
/-- no exit: whole rounds -/
theorem xw_leave0 {post : SX → Prop} (hs : s < 8) (hI : iv_sl w) (hln : xg_trLen w s = nI n) (htc : xg_trCross w s = nI nc) (hnc : nc ≤ 96) (hv : ∀ i : Nat, i < nc → vp_in (bo_tg w s i) 64)
    (K : lv_K post w s m n 0 nc 0 (xg_trHead w s) (xg_r w)) : wpX_leaveTrace post w (nI s) 0 (nI m) := by
  have hv8 : vp_in (nI s) 8 := vp_in_nI hs (by decide)
  rw [xu_leaveTrace, nI_clamp (by omega)]
  refine ⟨hv8, nm_e (br_t (Int32.le_refl _) ?_)⟩
  obtain ⟨w1, hw⟩ : ∃ w1, w1 = xs_pc w (xg_trHead w s) := ⟨_, rfl⟩
  have i1 : iv_sl w1 := by rw [hw]; exact hI
  have i2 : xg_recording w1 = xg_recording w ∧ xg_nextVictim w1 = xg_nextVictim w ∧ xg_done w1 = xg_done w ∧ xg_crossed w1 = xg_crossed w ∧ xg_crossings w1 = xg_crossings w ∧ xg_trCross w1 = xg_trCross w ∧ xg_trLen w1 = xg_trLen w ∧ xg_steps w1 = xg_steps w := by rw [hw]; exact ⟨rfl, rfl, rfl, rfl, rfl, rfl, rfl, rfl⟩
  have i3 : bo_tg w1 s = bo_tg w s := by rw [hw]; rfl
  have i4 : ∀ (st : Int32) (f : Nat → Int32), xl_z w1 (xg_pc w1) st f (xg_r w1) = xl_z w (xg_trHead w s) st f (xg_r w) := fun st f => by rw [hw]; rfl
  rw [← hw]
  obtain ⟨a1, a2, a3, a4, a5, a6, a7, a8⟩ := i2
  refine xw_lv71 (k := 0) (q := 0) hs i1 (by rw [a7]; exact hln) (by rw [a6]; exact htc) hnc (Nat.zero_le _) (by rw [i3]; exact hv) (fun u' cr g1 g2 g3 g4 g5 g6 g7 => K u' cr g1 (g2.trans a1) (g3.trans a2) (by rw [g4, a3]) (by rw [g5, a4]) (by rw [g6, i4, a8]) (fun x => by rw [g7 x, a5, i3]))
/-- a side exit -/
theorem xw_leaveE {post : SX → Prop} {e : Nat} (hs : s < 8) (hI : iv_sl w) (hln : xg_trLen w s = nI n) (htc : xg_trCross w s = nI nc) (hnc : nc ≤ 96) (hq : q ≤ nc) (hv : ∀ i : Nat, i < nc → vp_in (bo_tg w s i) 64)
    (he1 : 1 ≤ e) (he : e < 128) (hsn : ∀ j : Nat, j < 8 → vp_in (bo_sn w s (8 * e + j)) 256) (hxs : bo_xs w s e = nI k) (hxc : bo_xc w s e = nI q)
    (K : lv_K post w s m n k nc q (bo_xp w s e) (rg_f (xg_r w) (fun j => xg_val w (bo_sn w s (8 * e + j)).toNatClampNeg))) : wpX_leaveTrace post w (nI s) (nI e) (nI m) := by
  have hv8 : vp_in (nI s) 8 := vp_in_nI hs (by decide)
  rw [xu_leaveTrace, nI_clamp (by omega)]
  refine ⟨hv8, nm_e (br_f (nI_nle (by omega) (by omega)) (br_f (nI_ge (b := 128) he (by decide)) (nm_e ?_)))⟩
  obtain ⟨w1, hw⟩ : ∃ w1, w1 = xs_pc w (xg_trHead w s) := ⟨_, rfl⟩
  have i1 : iv_sl w1 := by rw [hw]; exact hI
  have i2 : xg_val w1 = xg_val w ∧ xg_r w1 = xg_r w ∧ xg_exPc w1 = xg_exPc w ∧ xg_exSteps w1 = xg_exSteps w ∧ xg_exCross w1 = xg_exCross w ∧ xg_trCross w1 = xg_trCross w ∧ xg_trLen w1 = xg_trLen w := by rw [hw]; exact ⟨rfl, rfl, rfl, rfl, rfl, rfl, rfl⟩
  have i3 : bo_sn w1 s = bo_sn w s := by rw [hw]; rfl
  rw [← hw]
  obtain ⟨a1, a2, a3, a4, a5, a6, a7⟩ := i2
  have ev : vp_in (nI (128 * s + e)) 1024 := vp_in_nI (by omega) (by decide)
  refine xw_restore (u := w1) hs he (by rw [i3]; exact hsn) (fun r' hr => ?_)
  rw [i3, a1, a2] at hr
  rw [cp_sl, nI_clamp (by omega)]
  obtain ⟨w2, hw2⟩ : ∃ w2, w2 = xs_r w1 r' := ⟨_, rfl⟩
  have k1 : iv_sl w2 := by rw [hw2]; exact i1
  have k2 : xg_exPc w2 = xg_exPc w1 ∧ xg_exSteps w2 = xg_exSteps w1 ∧ xg_exCross w2 = xg_exCross w1 := by rw [hw2]; exact ⟨rfl, rfl, rfl⟩
  rw [← hw2]
  obtain ⟨b1, b2, b3⟩ := k2
  have exp : xg_exPc w2 (128 * s + e) = bo_xp w s e := by rw [b1, a3]; exact (sl_at he).symm
  have exs : xg_exSteps w2 (128 * s + e) = nI k := by rw [b2, a4, ← hxs]; exact (sl_at he).symm
  have exc : xg_exCross w2 (128 * s + e) = nI q := by rw [b3, a5, ← hxc]; exact (sl_at he).symm
  rw [exp, exs, exc]
  refine ⟨ev, nm_e ⟨ev, nm_e ⟨ev, nm_e ?_⟩⟩⟩
  obtain ⟨w3, hw3⟩ : ∃ w3, w3 = xs_pc w2 (bo_xp w s e) := ⟨_, rfl⟩
  have l1 : iv_sl w3 := by rw [hw3]; exact k1
  have l2 : xg_recording w3 = xg_recording w ∧ xg_nextVictim w3 = xg_nextVictim w ∧ xg_done w3 = xg_done w ∧ xg_crossed w3 = xg_crossed w ∧ xg_crossings w3 = xg_crossings w ∧ xg_trCross w3 = xg_trCross w ∧ xg_trLen w3 = xg_trLen w ∧ xg_steps w3 = xg_steps w := by rw [hw3, hw2, hw]; exact ⟨rfl, rfl, rfl, rfl, rfl, rfl, rfl, rfl⟩
  have l3 : bo_tg w3 s = bo_tg w s := by rw [hw3, hw2, hw]; rfl
  have l4 : ∀ (st : Int32) (f : Nat → Int32), xl_z w3 (xg_pc w3) st f (xg_r w3) = xl_z w (bo_xp w s e) st f r' := fun st f => by rw [hw3, hw2, hw]; rfl
  rw [← hw3]
  obtain ⟨c1, c2, c3, c4, c5, c6, c7, c8⟩ := l2
  refine xw_lv71 hs l1 (by rw [c7]; exact hln) (by rw [c6]; exact htc) hnc hq (by rw [l3]; exact hv) (fun u' cr g1 g2 g3 g4 g5 g6 g7 => K u' cr g1 (g2.trans c1) (g3.trans c2) (by rw [g4, c3]) (by rw [g5, c4]) (by rw [g6, l4, c8, hr]) (fun x => by rw [g7 x, c5, l3]))
end
end
section
/-! running a trace -/
theorem tk_xm {u u' : SX} {s : Nat} (h : xm_t u' = xm_t u) (hc : xg_code u' = xg_code u) (ht : tk_u u s) : tk_u u' s := by
  unfold tk_u at ht ⊢
  rw [xm_codeSize h, xm_memSize h, hc, xm_trHead h, xm_trLen h, xm_trMask h, xm_trIr h, xm_trVals h, xm_trCross h, xm_trTargets h, xm_irOp h, xm_irA h, xm_irB h, xm_irD h, xm_kFlag h, xm_kVal h, xm_exPc h, xm_exSteps h, xm_exCross h, xm_snap h]
  exact ht
theorem iv_sl_xm {u u' : SX} (h : xm_t u' = xm_t u) (hc : xg_code u' = xg_code u) (hl : xg_trLive u' = xg_trLive u) (hs : xg_slotOf u' = xg_slotOf u) (hI : iv_sl u) : iv_sl u' := by
  refine ⟨fun s hs8 hlv => tk_xm h hc (hI.1 s hs8 (by rw [← hl]; exact hlv)), ?_⟩
  rw [hl, hs, xm_trHead h]; exact hI.2
theorem rg_o_xm {u ub : SX} {s i : Nat} {R0 R : ir_R} (h : xm_t u = xm_t ub) (g : rg_o u s i R0 R) : rg_o ub s i R0 R := by
  unfold rg_o bo_o bo_a bo_b bo_d at g ⊢
  rw [xm_codeSize h, xm_memSize h, xm_runMask h, xm_irOp h, xm_irA h, xm_irB h, xm_irD h] at g
  exact g
theorem rg_k_xm {u ub : SX} {s i : Nat} {R : ir_R} (h : xm_t u = xm_t ub) (g : rg_k ub s i R) : rg_k u s i R := by
  unfold rg_k bo_o bo_a bo_b at g ⊢
  rw [xm_codeSize h, xm_memSize h, xm_runMask h, xm_irOp h, xm_irA h, xm_irB h]
  exact g
/-- the trace of slot s, as its run uses it -/
def rt_B (ub : SX) (s c mm h n ni nv nc : Nat) : Prop :=
  s < 8 ∧ xg_codeSize ub = nI c ∧ c ≤ 64 ∧ xg_memSize ub = nI mm ∧ mm ≤ 64 ∧ xg_recording ub = 0 ∧ xg_status ub = 0 ∧ xg_trHead ub s = nI h ∧ h < c ∧ xg_trLen ub s = nI n ∧ xg_trIr ub s = nI ni ∧ ni ≤ 256 ∧ xg_trCross ub s = nI nc ∧ nc ≤ 96 ∧
  (∀ i : Nat, i < ni → vp_in (bo_a ub s i) 256 ∧ vp_in (bo_b ub s i) 256 ∧ vp_in (bo_d ub s i) 256 ∧ ((bo_o ub s i ≤ 15 ∨ bo_o ub s i = 16 ∨ bo_o ub s i = 18) → 8 ≤ (bo_d ub s i).toNatClampNeg ∧ bo_kf ub s (bo_d ub s i).toNatClampNeg = 0)) ∧
  (∀ i : Nat, i < nc → vp_in (bo_tg ub s i) 64) ∧ (∀ j : Nat, j < 8 → vp_in (bo_sn ub s j) 256) ∧
  (∀ (v0 : SY) (R0 R : ir_R), sm_st (xg_codeSize ub) (xg_memSize ub) (xg_runMask ub) (xg_code ub) (xg_trHead ub s) v0 R0 → sm_ad nv (bo_kf ub s) (bo_kv ub s) R0.1 → rg_o ub s ni R0 R → sm_at (xg_codeSize ub) (xg_runMask ub) (bo_tg ub s) v0 R n (xg_trHead ub s) nc (fun j => R.1 (bo_sn ub s j).toNatClampNeg) ∧ sm_ag (xg_runMask ub) (xg_code ub) R.2.2.1 ∧ sm_oc R.2.2.2.2) ∧
  (∀ (v0 : SY) (R0 R : ir_R) (m : Nat), sm_st (xg_codeSize ub) (xg_memSize ub) (xg_runMask ub) (xg_code ub) (xg_trHead ub s) v0 R0 → sm_ad nv (bo_kf ub s) (bo_kv ub s) R0.1 → m < ni → rg_o ub s m R0 R → ¬ rg_k ub s m R →
    ∃ e k q : Nat, bo_d ub s m = nI e ∧ 1 ≤ e ∧ e < 128 ∧ bo_xs ub s e = nI k ∧ k ≤ n ∧ bo_xc ub s e = nI q ∧ q ≤ nc ∧ (∀ j : Nat, j < 8 → vp_in (bo_sn ub s (8 * e + j)) 256) ∧ sm_oc R.2.2.2.2 ∧
      (∃ p : Nat, p < c ∧ bo_xp ub s e = nI p) ∧ sm_at (xg_codeSize ub) (xg_runMask ub) (bo_tg ub s) v0 R k (bo_xp ub s e) q (fun j => R.1 (bo_sn ub s (8 * e + j)).toNatClampNeg))
def rt_I (ub : SX) (s n nc nv m : Nat) (u : SX) : Prop :=
  xm_t u = xm_t ub ∧ iv_sl u ∧ sm_ad nv (bo_kf ub s) (bo_kv ub s) (xg_val u) ∧ rd_at (xg_codeSize ub) (xg_memSize ub) (xg_runMask ub) (bo_tg ub s) (xg_trHead ub s) n nc (xv_y ub) m (xg_r u) (rn_R u)
/-- what the run of a trace gives -/
def rt_K (post : SX → Prop) (ub : SX) (rs n nc : Nat) : Prop :=
  ∀ (u' : SX) (N C : Nat), iv_sl u' → xg_recording u' = 0 → xg_nextVictim u' = xg_nextVictim ub → iv_v (xv_y u') → xg_status u' = 0 → xg_done u' = xg_done ub + nI N → xg_crossed u' = xg_crossed ub + nI C → N ≤ rs * n → C ≤ rs * nc → yr_n (xg_codeSize ub) (xg_runMask ub) N C (xv_y ub) (xv_y u') → post u'
section
variable {ub : SX} {s c mm h n ni nv nc rs : Nat}
theorem rt_fin {post : SX → Prop} {u : SX} {m k q : Nat} {p : Int32} {rf : Nat → Int32} (K : rt_K post ub rs n nc) (hV : iv_v (xv_y ub)) (hx : xm_t u = xm_t ub) (hrec : xg_recording ub = 0) (hst : xg_status ub = 0) (hoc : sm_oc (xg_outCount u)) (hp : ∃ j : Nat, j ≤ 64 ∧ p = nI j) (hN : m * n + k ≤ rs * n) (hC : m * nc + q ≤ rs * nc)
    (hy : yr_n (xg_codeSize ub) (xg_runMask ub) (m * n + k) (m * nc + q) (xv_y ub) (yr_st (xv_y ub) p (m * n + k) (bu_n (bk_n (yg_crossings (xv_y ub)) (bo_tg ub s) nc m) (bo_tg ub s) q) rf (rn_R u))) :
    lv_K post u s m n k nc q p rf := by
  intro u' cr g1 g2 g3 g4 g5 g6 g7
  have et : bo_tg u s = bo_tg ub s := congrArg (sl_c 96 s) (xm_trTargets hx)
  have ecr : cr = bu_n (bk_n (yg_crossings (xv_y ub)) (bo_tg ub s) nc m) (bo_tg ub s) q := by
    funext x
    rw [g7 x, et, bu_cn, bk_cn, xm_crossings hx]; rfl
  have ey : xv_y u' = yr_st (xv_y ub) p (m * n + k) (bu_n (bk_n (yg_crossings (xv_y ub)) (bo_tg ub s) nc m) (bo_tg ub s) q) rf (rn_R u) := by
    rw [g6, ← ecr]
    unfold xl_z
    rw [xm_codeSize hx, xm_memSize hx, xm_hot hx, xm_status hx, xm_steps hx, xm_cursor hx, hst]
    rfl
  obtain ⟨v1, v2, v3, v4, v5⟩ := hV
  refine K u' _ _ g1 (g2.trans ((xm_recording hx).trans hrec)) (g3.trans (xm_nextVictim hx)) ?_ (congrArg yg_status ey) (by rw [g4, xm_done hx]) (by rw [g5, xm_crossed hx]) hN hC (by rw [ey]; exact hy)
  rw [ey]
  exact ⟨v1, v2, hoc, v4, hp⟩
theorem xw_rt60 {post : SX → Prop} {u : SX} {m : Nat} (B : rt_B ub s c mm h n ni nv nc) (K : rt_K post ub rs n nc) (hV : iv_v (xv_y ub)) (hm : m ≤ rs) (hI : rt_I ub s n nc nv m u) : xq_runTrace_60 post (nI s) (nI m) 0 u := by
  obtain ⟨b1, b2, b3, b4, b5, b6, b7, b8, b9, b10, b11, b12, b13, b14, b15, b16, b17, b18, b19⟩ := B
  obtain ⟨x1, x2, x3, x4⟩ := hI
  have et : bo_tg u s = bo_tg ub s := congrArg (sl_c 96 s) (xm_trTargets x1)
  rw [xu_runTrace_60]
  refine xw_leave0 (n := n) (nc := nc) b1 x2 (by rw [xm_trLen x1]; exact b10) (by rw [xm_trCross x1]; exact b13) b14 (by rw [et]; exact b16) ?_
  rw [xm_trHead x1]
  refine rt_fin K hV x1 b6 b7 x4.2.2.2.1 ⟨h, by omega, b8⟩ ?_ ?_ x4.2.2.2.2.2
  · rw [Nat.add_zero]; exact Nat.mul_le_mul_right n hm
  · rw [Nat.add_zero]; exact Nat.mul_le_mul_right nc hm
theorem xw_rt60E {post : SX → Prop} {u u' : SX} {m i : Nat} (B : rt_B ub s c mm h n ni nv nc) (K : rt_K post ub rs n nc) (hV : iv_v (xv_y ub)) (hm : m < rs) (hI : rt_I ub s n nc nv m u) (hb : rb_I u u') (hi : i < ni) (hg : rg_o u s i (rn_R u) (rn_R u')) (hk : ¬ rg_k u s i (rn_R u')) : ∃ e : Nat, bo_d u s i = nI e ∧ 1 ≤ e ∧ e < 128 ∧ xq_runTrace_60 post (nI s) (nI m) (nI e) u' := by
  obtain ⟨b1, b2, b3, b4, b5, b6, b7, b8, b9, b10, b11, b12, b13, b14, b15, b16, b17, b18, b19⟩ := B
  obtain ⟨x1, x2, x3, x4⟩ := hI
  obtain ⟨e, k, q, e1, e2, e3, e4, e5, e6, e7, e8, e9, ⟨p, e10, e11⟩, e12⟩ := b19 _ (rn_R u) (rn_R u') i (rd_sm x4) x3 hi (rg_o_xm x1 hg) (fun z => hk (rg_k_xm x1 z))
  have x1' : xm_t u' = xm_t ub := (xn_xm hb.1).trans x1
  have er : xg_r u' = xg_r u := xn_r hb.1
  have et : bo_tg u' s = bo_tg ub s := congrArg (sl_c 96 s) (xm_trTargets x1')
  have es : bo_sn u' s = bo_sn ub s := congrArg (sl_c 1024 s) (xm_snap x1')
  have exs : bo_xs u' s = bo_xs ub s := congrArg (sl_c 128 s) (xm_exSteps x1')
  have exc : bo_xc u' s = bo_xc ub s := congrArg (sl_c 128 s) (xm_exCross x1')
  have exp : bo_xp u' s = bo_xp ub s := congrArg (sl_c 128 s) (xm_exPc x1')
  have ed : bo_d u s = bo_d ub s := congrArg (sl_c 256 s) (xm_irD x1)
  refine ⟨e, by rw [ed]; exact e1, e2, e3, ?_⟩
  rw [xu_runTrace_60]
  refine xw_leaveE (n := n) (nc := nc) (q := q) (k := k) b1 hb.2.1 (by rw [xm_trLen x1']; exact b10) (by rw [xm_trCross x1']; exact b13) b14 e7 (by rw [et]; exact b16) e2 e3 (by rw [es]; exact e8) (by rw [exs]; exact e4) (by rw [exc]; exact e6) ?_
  rw [exp, es, er]
  have h1 : m * n + k ≤ rs * n := by
    have : (m + 1) * n ≤ rs * n := Nat.mul_le_mul_right n hm
    rw [Nat.succ_mul] at this; omega
  have h2 : m * nc + q ≤ rs * nc := by
    have : (m + 1) * nc ≤ rs * nc := Nat.mul_le_mul_right nc hm
    rw [Nat.succ_mul] at this; omega
  exact rt_fin K hV x1' b6 b7 e9 ⟨p, by omega, e11⟩ h1 h2 (rd_part x4 e12)
theorem rt_close {u u' u2 : SX} {m : Nat} (B : rt_B ub s c mm h n ni nv nc) (hI : rt_I ub s n nc nv m u) (hb : rb_I u u') (hg : rg_o u s ni (rn_R u) (rn_R u'))
    (z1 : xm_t u2 = xm_t u') (z2 : xg_mem u2 = xg_mem u') (z3 : xg_code u2 = xg_code u') (z4 : xg_out u2 = xg_out u') (z5 : xg_outCount u2 = xg_outCount u') (z6 : xg_trLive u2 = xg_trLive u') (z7 : xg_slotOf u2 = xg_slotOf u') (z8 : xg_r u2 = rg_f (xg_r u') (fun j => xg_val u' (bo_sn u' s j).toNatClampNeg)) (z9 : ∀ j : Nat, j < 8 → xg_val u2 j = xg_r u2 j) (z10 : ∀ j : Nat, 8 ≤ j → xg_val u2 j = xg_val u' j) : rt_I ub s n nc nv (m + 1) u2 := by
  obtain ⟨b1, b2, b3, b4, b5, b6, b7, b8, b9, b10, b11, b12, b13, b14, b15, b16, b17, b18, b19⟩ := B
  obtain ⟨x1, x2, x3, x4⟩ := hI
  have x1' : xm_t u' = xm_t ub := (xn_xm hb.1).trans x1
  have er : xg_r u' = xg_r u := xn_r hb.1
  have es : bo_sn u' s = bo_sn ub s := congrArg (sl_c 1024 s) (xm_snap x1')
  have hg' := rg_o_xm x1 hg
  obtain ⟨o1, o2, o3⟩ := b18 _ (rn_R u) (rn_R u') (rd_sm x4) x3 hg'
  have had : sm_ad nv (bo_kf ub s) (bo_kv ub s) (rn_R u').1 := ir_ad ni (rn_R u') (fun i hi => (b15 i hi).2.2.2) x3 hg'
  rw [es, er] at z8
  refine ⟨z1.trans x1', iv_sl_xm z1 z3 z6 z7 hb.2.1, fun k h8 hk hf => by rw [z10 k h8]; exact had k h8 hk hf, ?_⟩
  have e2 : (rn_R u2).2 = (rn_R u').2 := by unfold rn_R; rw [z2, z3, z4, z5]
  rw [z8]
  refine rd_next x4 o1 o2 o3 e2 (fun j hj => ?_)
  show xg_val u2 j = _
  rw [z9 j hj, z8]
theorem xw_rt23 {post : SX → Prop} (B : rt_B ub s c mm h n ni nv nc) (K : rt_K post ub rs n nc) (hV : iv_v (xv_y ub)) (hrs : rs < 2 ^ 31) :
    ∀ (k m : Nat), m + k = rs → ∀ u : SX, rt_I ub s n nc nv m u → ∀ f : Nat, k + 1 < f → xq_runTrace_23 post (nI s) (nI rs) f (nI m) 0 (nI m) u := by
  intro k
  induction k with
  | zero =>
    intro m hm u hI f hf
    obtain ⟨f, rfl⟩ : ∃ g, f = g + 1 := ⟨f - 1, by omega⟩
    rw [xu_runTrace_23]
    exact br_t (nI_le (by omega) (by omega)) (xw_rt60 B K hV (by omega) hI)
  | succ k ih =>
    intro m hm u hI f hf
    obtain ⟨f, rfl⟩ : ∃ g, f = g + 1 := ⟨f - 1, by omega⟩
    obtain ⟨b1, b2, b3, b4, b5, b6, b7, b8, b9, b10, b11, b12, b13, b14, b15, b16, b17, b18, b19⟩ := id B
    obtain ⟨x1, x2, x3, x4⟩ := id hI
    have ea : bo_a u s = bo_a ub s := congrArg (sl_c 256 s) (xm_irA x1)
    have eb : bo_b u s = bo_b ub s := congrArg (sl_c 256 s) (xm_irB x1)
    have ed : bo_d u s = bo_d ub s := congrArg (sl_c 256 s) (xm_irD x1)
    rw [xu_runTrace_23]
    refine br_f (nI_ge (by omega) hrs) (br_t rfl (xw_body (u0 := u) (c := c) (m := mm) b1 b12 (by rw [xm_trIr x1]; exact b11) ((xm_recording x1).trans b6) ((xm_codeSize x1).trans b2) b3 ((xm_memSize x1).trans b4) b5 (fun i hi => by rw [ea, eb, ed]; exact ⟨(b15 i hi).1, (b15 i hi).2.1, (b15 i hi).2.2.1⟩) ⟨rfl, x2, x4.2.2.2.1⟩ (fun u' hb hg => ?_) (fun u' i hb hi hg hk => ?_)))
    · have x1' : xm_t u' = xm_t ub := (xn_xm hb.1).trans x1
      have es : bo_sn u' s = bo_sn ub s := congrArg (sl_c 1024 s) (xm_snap x1')
      refine br_t rfl (xw_close b1 (by rw [es]; exact b17) (fun u2 z1 z2 z3 z4 z5 z6 z7 z8 z9 z10 => nm_r (nI_1 m) (nm_r (nI_1 m) (ih (m + 1) (by omega) u2 (rt_close B hI hb hg z1 z2 z3 z4 z5 z6 z7 z8 z9 z10) f (by omega)))))
    · obtain ⟨e, d1, d2, d3, d4⟩ := xw_rt60E B K hV (by omega) hI hb hi hg hk
      rw [d1]
      obtain ⟨f, rfl⟩ : ∃ g, f = g + 1 := ⟨f - 1, by omega⟩
      refine br_f (nI_ne0 (by omega) (by omega)) (nm_r (nI_1 m) ?_)
      rw [xu_runTrace_23]
      exact br_c (fun _ => d4) (fun _ => br_f (nI_ne0 (by omega) (by omega)) d4)
/-- the trace of a live slot, entered at its head -/
theorem xw_runTrace {post : SX → Prop} {u : SX} (hs : s < 8) (hX : iv_x u) (hrec : xg_recording u = 0) (hst : xg_status u = 0) (hpc : xg_pc u = xg_trHead u s) (hl : xg_trLive u s ≠ 0) (hln : xg_trLen u s = nI n) (htc : xg_trCross u s = nI nc) (hn : n < 2 ^ 31) (hnc : nc < 2 ^ 31) (hrs : rs < 2 ^ 31)
    (K : ∀ (u' : SX) (N C : Nat), iv_x u' → xg_status u' = 0 → xg_done u' = xg_done u + nI N → xg_crossed u' = xg_crossed u + nI C → N ≤ rs * n → C ≤ rs * nc → yr_n (xg_codeSize u) (xg_trMask u s) N C (xv_y u) (xv_y u') → post u') : wpX_runTrace post u (nI s) (nI rs) := by
  obtain ⟨hV, hR, hI, hnv⟩ := hX
  obtain ⟨_, ⟨mm, m1, m2, m3⟩, ⟨o, o1, o2⟩, _, _⟩ := id hV
  obtain ⟨c, h, n', ni, nv, nc', a1, a2, a3, a4, a5, a6, a7, a8, a9, c1, c2, c3, c4, c5, c6, c7, c8, c9, c10⟩ := hI.1 s hs hl
  have en : n' = n := (nI_eq (by omega) hn).mp (a5.symm.trans hln)
  have enc : nc' = nc := (nI_eq (by omega) hnc).mp (c4.symm.trans htc)
  subst en enc
  rw [xu_runTrace, nI_clamp (by omega)]
  refine xw_loadVals hs c3 c2 (fun v' h1 h2 => ⟨vp_in_nI hs (by decide), ?_⟩)
  obtain ⟨u1, hu1⟩ : ∃ u1, u1 = xs_val u v' := ⟨_, rfl⟩
  have q1 : xg_trMask u1 = xg_trMask u := by rw [hu1]; rfl
  rw [← hu1, q1]
  refine nm_e ?_
  obtain ⟨ub, hub⟩ : ∃ ub, ub = xs_runMask u1 (xg_trMask u s) := ⟨_, rfl⟩
  have q2 : xv_y ub = xv_y u := by rw [hub, hu1]; rfl
  have q3 : iv_sl u1 := by rw [hu1]; exact hI
  have q4 : iv_sl ub := by rw [hub]; exact q3
  have q5 : xg_recording ub = xg_recording u ∧ xg_nextVictim ub = xg_nextVictim u ∧ xg_done ub = xg_done u ∧ xg_crossed ub = xg_crossed u ∧ xg_runMask ub = xg_trMask u s ∧ xg_val ub = v' ∧ xg_code ub = xg_code u ∧ xg_codeSize ub = xg_codeSize u ∧ xg_memSize ub = xg_memSize u ∧ xg_status ub = xg_status u ∧ xg_pc ub = xg_pc u ∧ xg_r ub = xg_r u := by rw [hub, hu1]; exact ⟨rfl, rfl, rfl, rfl, rfl, rfl, rfl, rfl, rfl, rfl, rfl, rfl⟩
  have q6 : xg_trHead ub = xg_trHead u ∧ xg_trLen ub = xg_trLen u ∧ xg_trIr ub = xg_trIr u ∧ xg_trCross ub = xg_trCross u ∧ xg_outCount ub = xg_outCount u := by rw [hub, hu1]; exact ⟨rfl, rfl, rfl, rfl, rfl⟩
  have q7 : bo_a ub s = sl_c 256 s (xg_irA u) ∧ bo_b ub s = sl_c 256 s (xg_irB u) ∧ bo_d ub s = sl_c 256 s (xg_irD u) ∧ bo_o ub s = sl_c 256 s (xg_irOp u) ∧ bo_kf ub s = sl_c 256 s (xg_kFlag u) ∧ bo_kv ub s = sl_c 256 s (xg_kVal u) ∧ bo_tg ub s = sl_c 96 s (xg_trTargets u) ∧ bo_sn ub s = sl_c 1024 s (xg_snap u) ∧ bo_xs ub s = sl_c 128 s (xg_exSteps u) ∧ bo_xc ub s = sl_c 128 s (xg_exCross u) ∧ bo_xp ub s = sl_c 128 s (xg_exPc u) := by rw [hub, hu1]; exact ⟨rfl, rfl, rfl, rfl, rfl, rfl, rfl, rfl, rfl, rfl, rfl⟩
  rw [← hub]
  obtain ⟨d1, d2, d3, d4, d5, d6, d7, d8, d9, d10, d11, d12⟩ := q5
  obtain ⟨e1, e2, e3, e4, e5⟩ := q6
  obtain ⟨f1, f2, f3, f4, f5, f6, f7, f8, f9, f10, f11⟩ := q7
  have hVb : iv_v (xv_y ub) := by rw [q2]; exact hV
  have B : rt_B ub s c mm h n' ni nv nc' := by
    unfold rt_B rg_o rg_k
    rw [d8, d9, d5, d7, d1, d10, e1, e2, e3, e4, f1, f2, f3, f4, f5, f6, f7, f8, f9, f10, f11]
    exact ⟨hs, a1, a2, m3, m2, hrec, hst, a3, a4, a5, a9, c1, c4, c5, c6, c7, c8, c9, c10⟩
  have Kb : rt_K post ub rs n' nc' := fun u' N C g1 g2 g3 g4 g0 g5 g6 g7 g8 g9 => by
    rw [d8, d5, q2] at g9
    exact K u' N C ⟨g4, Or.inl g2, g1, by rw [g3, d2]; exact hnv⟩ g0 (by rw [g5, d3]) (by rw [g6, d4]) g7 g8 g9
  have hI0 : rt_I ub s n' nc' nv 0 ub := by
    refine ⟨rfl, q4, by rw [f5, f6, d6]; exact h2, rfl, rfl, sm_ag_rf, ⟨o, o1, e5.trans o2⟩, fun j hj => ?_, ?_⟩
    · show xg_val ub j = xg_r ub j
      rw [d6, d12]; exact h1 j hj
    · rw [Nat.zero_mul, Nat.zero_mul]
      refine ⟨rfl, ?_⟩
      show (xg_codeSize ub, xg_memSize ub, xg_hot ub, xg_trHead ub s, (0 : Int32), xg_steps ub + nI 0, xg_cursor ub, xg_outCount ub, xg_code ub, xg_crossings ub, xg_mem ub, xg_r ub, xg_out ub) = (xg_codeSize ub, xg_memSize ub, xg_hot ub, xg_pc ub, xg_status ub, xg_steps ub, xg_cursor ub, xg_outCount ub, xg_code ub, xg_crossings ub, xg_mem ub, xg_r ub, xg_out ub)
      rw [e1, ← hpc, d11, d10, hst, nI_0, Int32.add_zero]
  exact ⟨rs + 2, xw_rt23 B Kb hVb hrs rs 0 (by omega) ub hI0 (rs + 2) (by omega)⟩
end
end
section
/-! entering a trace -/
/-- the cells of the mask are not where the run is to stop -/
def en_av (cs : Int32) (mk : Int64) (st : Int32) : Prop := ∀ p : Int32, ¬ p < 0 → p < cs → mb_p mk p → p ≠ st
def en_K (post : SX → Prop) (u : SX) (b d cr K : Nat) (st : Int32) : Prop :=
  ∀ (u' : SX) (N C : Nat) (cs : Int32) (mk : Int64), iv_x u' → xg_status u' = 0 → xg_done u' = nI (d + N) → xg_crossed u' = nI (cr + C) → d + N ≤ b → cr + C < K → en_av cs mk st → yr_n cs mk N C (xv_y u) (xv_y u') → post u'
section
variable {u : SX} {b d cr K s h : Nat} {st : Int32}
theorem en_no {post : SX → Prop} (hX : iv_x u) (hst : xg_status u = 0) (hd : xg_done u = nI d) (hdb : d < b) (hc : xg_crossed u = nI cr) (hcr : cr < K) (Kp : en_K post u b d cr K st) : post u :=
  Kp u 0 0 0 0 hX hst hd hc (Nat.le_of_lt hdb) hcr (fun p h0 h1 _ => absurd h1 h0) ⟨rfl, rfl⟩
theorem xw_enter80 {post : SX → Prop} (hs : s < 8) (hX : iv_x u) (hrec : xg_recording u = 0) (hst : xg_status u = 0) (hb : b ≤ 2000) (hd : xg_done u = nI d) (hdb : d < b) (hc : xg_crossed u = nI cr) (hcr : cr < K) (hK : K < 2 ^ 31) (hpc : xg_pc u = xg_trHead u s) (hl : xg_trLive u s ≠ 0)
    (hav : en_av (xg_codeSize u) (xg_trMask u s) st) (Kp : en_K post u b d cr K st) : xq_enterIfPossible_80 post (nI b) (nI K) (nI s) u := by
  obtain ⟨c, h, n, ni, nv, nc, a1, a2, a3, a4, a5, a6, a7, a8, a9, c1, c2, c3, c4, c5, c6⟩ := hX.2.2.1.1 s hs hl
  obtain ⟨K', rfl⟩ : ∃ k, K = k + 1 := ⟨K - 1, by omega⟩
  have no := en_no hX hst hd hdb hc hcr Kp
  have hv8 : vp_in (nI s) 8 := vp_in_nI hs (by decide)
  rw [xu_enterIfPossible_80, hd, hc, nI_pred, pk_sub (Nat.le_of_lt hdb), pk_sub (by omega), xu_roundsAllowed, nI_clamp (by omega), a5, c4]
  have go : ∀ rs : Nat, rs < 2 ^ 31 → rs * n ≤ b - d → rs * nc ≤ K' - cr → ((nI rs ≤ 0 → post u) ∧ (¬ nI rs ≤ 0 → wpX_runTrace (fun u16 => post u16) u (nI s) (nI rs))) := fun rs h1 h2 h3 => by
    refine br_c (fun _ => no) (fun _ => xw_runTrace hs hX hrec hst hpc hl a5 c4 (by omega) (by omega) h1 (fun u' N C g1 g2 g3 g4 g5 g6 g7 => ?_))
    exact Kp u' N C _ _ g1 g2 (by rw [g3, hd, nI_add]) (by rw [g4, hc, nI_add]) (by omega) (by omega) hav g7
  have no0 : ((0 : Int32) ≤ 0 → post u) ∧ (¬ (0 : Int32) ≤ 0 → wpX_runTrace (fun u16 => post u16) u (nI s) 0) := br_t (Int32.le_refl _) no
  refine ⟨hv8, nm_e ⟨hv8, nm_e (br_f (nI_nle (by omega) (by omega)) ?_)⟩⟩
  by_cases h0 : nc = 0
  · subst h0; exact br_t (Int32.le_refl _) no0
  · refine br_f (nI_nle (by omega) (by omega)) ⟨nI_ne0 (by omega) (by omega), nm_r (pk_div (by omega) (by omega) (by omega)) ⟨nI_ne0 (by omega) (by omega), nm_r (pk_div (by omega) (by omega) (by omega)) ?_⟩⟩
    have q1 : (b - d) / n * n ≤ b - d := Nat.div_mul_le_self _ _
    have q2 : (K' - cr) / nc * nc ≤ K' - cr := Nat.div_mul_le_self _ _
    have r1 : (b - d) / n ≤ b - d := Nat.div_le_self _ _
    have r2 : (K' - cr) / nc ≤ K' - cr := Nat.div_le_self _ _
    refine pk_le ((b - d) / n) ((K' - cr) / nc) (fun hle => go _ (by omega) q1 ?_) (fun hlt => go _ (by omega) ?_ q2)
    · exact Nat.le_trans (Nat.mul_le_mul_right nc hle) q2
    · exact Nat.le_trans (Nat.mul_le_mul_right n (Nat.le_of_lt hlt)) q1
theorem xw_enter {post : SX → Prop} (hX : iv_x u) (hst : xg_status u = 0) (hb : b ≤ 2000) (hd : xg_done u = nI d) (hdb : d < b) (hc : xg_crossed u = nI cr) (hcr : cr < K) (hK : K < 2 ^ 31) (Kp : en_K post u b d cr K st) : wpX_enterIfPossible post u (nI b) st (nI K) := by
  have no := en_no hX hst hd hdb hc hcr Kp
  obtain ⟨⟨c, v1, v2, v3⟩, _, _, _, ⟨p, p1, p2⟩⟩ := id hX.1
  have hcs : xg_codeSize u = nI c := v3
  have hpc : xg_pc u = nI p := p2
  rw [xu_enterIfPossible, hcs, hpc]
  refine br_c (fun hrec => br_f (nI_pos (by omega)) (pk_lt p c (fun hp => ⟨vp_in_nI (by omega) (by decide), nm_e ?_⟩) (fun _ => no))) (fun _ => no)
  rw [nI_clamp (by omega)]
  rcases hX.2.2.1.2 p (by omega) with h0 | ⟨s, hs, h1, h2, h3⟩
  · rw [h0]; exact br_t (by decide) no
  · rw [h1, nI_pred, nI_clamp (by omega)]
    have hav : ∀ (z : st < 0 ∨ nI c ≤ st ∨ ¬ mb_p (xg_trMask u s) st), xq_enterIfPossible_80 post (nI b) (nI K) (nI s) u := fun z => by
      refine xw_enter80 hs hX hrec hst hb hd hdb hc hcr hK (hpc.trans h3.symm) h2 (fun q q0 q1 q2 e => ?_) Kp
      subst e
      rcases z with z | z | z
      · exact q0 z
      · rw [hcs] at q1; exact (Int32.not_lt.mpr z) q1
      · exact z q2
    refine br_f (nI_pos (by omega)) (br_t (nI_lt (b := 8) hs (by decide)) (br_c (fun z => hav (Or.inl z)) (fun _ => br_c (fun z => hav (Or.inr (Or.inl z))) (fun _ => ⟨vp_in_nI hs (by decide), xw_inMask (fun _ => br_f (by decide) no) (fun z => br_t rfl (hav (Or.inr (Or.inr z))))⟩))))
end
end
section
/-! driving: against a loop of the reference -/
def ly_k (k : Int32) (cr cr' : Nat) : Prop := (k = 1 ∧ cr' = cr) ∨ (k = 2 ∧ cr' = cr + 1)
def ly_R (LY : (Int32 → SY → Prop) → Nat → Nat → SY → Prop) (b K : Nat) (st : Int32) : Prop :=
  (∀ (P : Int32 → SY → Prop) (d cr cr' : Nat) (v v' : SY) (k : Int32), d < b → yg_status v = 0 → yo_S v k v' → ly_k k cr cr' → yg_pc v' ≠ st → cr' < K → LY P (d + 1) cr' v' → LY P d cr v) ∧
  (∀ (P : Int32 → SY → Prop) (d cr : Nat) (v : SY), d ≤ b → (d = b ∨ yg_status v ≠ 0) → P (nI d) v → LY P d cr v) ∧
  (∀ (P : Int32 → SY → Prop) (d cr : Nat) (v v' : SY), d < b → yg_status v = 0 → yo_S v 0 v' → P (nI d) v' → LY P d cr v) ∧
  (∀ (P : Int32 → SY → Prop) (d cr cr' : Nat) (v v' : SY) (k : Int32), d < b → yg_status v = 0 → yo_S v k v' → ly_k k cr cr' → (∃ p : Nat, p ≤ 64 ∧ yg_pc v' = nI p) → cr < K → cr ≤ d → (yg_pc v' = st ∨ ¬ cr' < K) → P (nI (d + 1)) v' → LY P d cr v)
theorem yr_le {cs : Int32} {mk : Int64} {v : SY} : ∀ (n c : Nat) (v' : SY), yr_n cs mk n c v v' → c ≤ n := by
  intro n
  induction n with
  | zero => intro c v' h; obtain ⟨h1, _⟩ := h; omega
  | succ n ih =>
    intro c v' h
    obtain ⟨c1, vm, k, g1, _, _, _, g5⟩ := h
    have := ih c1 vm g1
    rcases g5 with ⟨_, e⟩ | ⟨_, e⟩ <;> omega
section
variable {LY : (Int32 → SY → Prop) → Nat → Nat → SY → Prop} {b K : Nat} {st : Int32}
theorem ly_yr {cs : Int32} {mk : Int64} {v : SY} {d cr : Nat} {P : Int32 → SY → Prop} (R : ly_R LY b K st) (hav : en_av cs mk st) : ∀ (n c : Nat) (v' : SY), yr_n cs mk n c v v' → d + n ≤ b → cr + c < K → LY P (d + n) (cr + c) v' → LY P d cr v := by
  intro n
  induction n with
  | zero =>
    intro c v' h _ _ g
    obtain ⟨h1, h2⟩ := h
    subst h1; rw [h2] at g; exact g
  | succ n ih =>
    intro c v' h hb hK g
    obtain ⟨c1, vm, k, g1, g2, g3, ⟨p0, p1, p2⟩, g5⟩ := h
    have hk : ly_k k (cr + c1) (cr + c) := by
      rcases g5 with ⟨e1, e2⟩ | ⟨e1, e2⟩
      · exact Or.inl ⟨e1, by rw [e2]⟩
      · exact Or.inr ⟨e1, by rw [e2, Nat.add_assoc]⟩
    have hc1 : cr + c1 < K := by
      rcases g5 with ⟨_, e⟩ | ⟨_, e⟩ <;> omega
    exact ih c1 vm g1 (by omega) hc1 (R.1 P (d + n) (cr + c1) (cr + c) vm v' k (by omega) g2 g3 hk (hav _ p0 p1 p2) hK g)
theorem xw_dr1 {post : Int32 → SX → Prop} {u : SX} {x6 : Int32} {n : Nat} {kk bb : Int32} (hp : post (xg_done u) u) : xq_drive_27 post st kk bb (n + 1) 1 x6 u := by
  rw [xu_drive_27]
  exact br_c (fun _ => hp) (fun _ => br_f (by decide) hp)
theorem xw_drS {post : Int32 → SX → Prop} {u : SX} {x6 : Int32} {n : Nat} {kk bb : Int32} (hs : ¬ xg_status u = 0) (hp : post (xg_done u) u) : xq_drive_27 post st kk bb (n + 1) 0 x6 u := by
  rw [xu_drive_27]
  exact br_c (fun _ => hp) (fun _ => br_t rfl (br_f hs hp))
theorem xw_drive27 {post : Int32 → SX → Prop} {v0 : SY} (R : ly_R LY b K st) (hb : b ≤ 2000) (hK : K < 2 ^ 31)
    (Kp : ∀ (d : Nat) (u' : SX), iv_x u' → (∀ P : Int32 → SY → Prop, P (nI d) (xv_y u') → LY P 0 0 v0) → post (nI d) u') :
    ∀ (t turn : Nat), turn + t = 2000 → ∀ (u : SX) (d cr : Nat), iv_x u → xg_done u = nI d → xg_crossed u = nI cr → d ≤ b → cr ≤ d → cr < K → turn ≤ d → (∀ P : Int32 → SY → Prop, LY P d cr (xv_y u) → LY P 0 0 v0) → ∀ n : Nat, t + 1 < n → xq_drive_27 post st (nI K) (nI b) n 0 (nI turn) u := by
  intro t
  induction t with
  | zero =>
    intro turn ht u d cr hX hd hc hdb hcd hcK htd H n hn
    obtain ⟨n, rfl⟩ : ∃ m, n = m + 1 := ⟨n - 1, by omega⟩
    rw [xu_drive_27, hd]
    refine br_t ?_ (Kp d u hX (fun P hP => H P (R.2.1 P d cr _ hdb (Or.inl (by omega)) hP)))
    have e : turn = 2000 := by omega
    subst e; exact Int32.le_refl _
  | succ t ih =>
    intro turn ht u d cr hX hd hc hdb hcd hcK htd H n hn
    obtain ⟨n, rfl⟩ : ∃ m, n = m + 1 := ⟨n - 1, by omega⟩
    rw [xu_drive_27, hd]
    refine br_f (nI_ge (b := 2000) (by omega) (by decide)) (br_t rfl (br_c (fun hst => pk_le b d (fun hle => ?_) (fun hlt => ?_)) (fun hst => ?_)))
    · exact Kp d u hX (fun P hP => H P (R.2.1 P d cr _ hdb (Or.inl (by omega)) hP))
    · refine xw_enter hX hst hb hd hlt hc hcK hK (fun u1 N C cs mk g1 g2 g3 g4 g5 g6 g7 g8 => ?_)
      have hCN : C ≤ N := yr_le N C _ g8
      have H1 : ∀ P : Int32 → SY → Prop, LY P (d + N) (cr + C) (xv_y u1) → LY P 0 0 v0 := fun P hP => H P (ly_yr R g7 N C _ g8 g5 g6 hP)
      rw [g3]
      refine pk_le b (d + N) (fun hle => nm_r (nI_1 turn) ?_) (fun hlt1 => ?_)
      · exact ih (turn + 1) (by omega) u1 (d + N) (cr + C) g1 g3 g4 g5 (by omega) g6 (by omega) H1 n (by omega)
      · refine xw_step g1 (fun r u2 hX2 hd2 hk => ?_)
        obtain ⟨k, hS, hk⟩ := hk
        obtain ⟨n, rfl⟩ : ∃ m, n = m + 1 := ⟨n - 1, by omega⟩
        rcases hk with ⟨r0, k0, s0⟩ | hk
        · refine br_t r0 (fun x6 _ => xw_drS s0 ?_)
          rw [hd2, g3]
          rw [k0] at hS
          exact Kp (d + N) u2 hX2 (fun P hP => H1 P (R.2.2.1 P (d + N) (cr + C) _ _ hlt1 g2 hS hP))
        · have r1 : r = 1 := by rcases hk with ⟨e, _⟩ | ⟨e, _⟩ <;> exact e
          obtain ⟨cr2, hk2, hc2, hle2⟩ : ∃ cr2 : Nat, ly_k k (cr + C) cr2 ∧ xg_crossed u2 = nI cr2 ∧ cr2 ≤ cr + C + 1 := by
            rcases hk with ⟨_, e1, e2⟩ | ⟨_, e1, e2⟩
            · exact ⟨cr + C, Or.inl ⟨e1, rfl⟩, e2.trans g4, by omega⟩
            · exact ⟨cr + C + 1, Or.inr ⟨e1, rfl⟩, by rw [e2, g4, nI_1], by omega⟩
          have hr : ¬ r = 0 := by rw [r1]; decide
          refine br_f hr (nm_e ?_)
          rw [hd2, g3, nI_1 (d + N)]
          obtain ⟨w, hw⟩ : ∃ w, w = xs_done u2 (nI (d + N + 1)) := ⟨_, rfl⟩
          have w1 : iv_x w := by rw [hw]; exact hX2
          have w2 : xg_done w = nI (d + N + 1) ∧ xg_crossed w = xg_crossed u2 := by rw [hw]; exact ⟨rfl, rfl⟩
          have w3 : xv_y w = xv_y u2 := by rw [hw]; rfl
          rw [← hw]
          obtain ⟨_, _, _, _, hp2⟩ := id hX2.1
          have fin : (yg_pc (xv_y u2) = st ∨ ¬ cr2 < K) → ∀ x6 : Int32, xq_drive_27 post st (nI K) (nI b) (n + 1) 1 x6 w := fun z x6 => by
            refine xw_dr1 ?_
            rw [w2.1]
            refine Kp (d + N + 1) w w1 (fun P hP => H1 P ?_)
            rw [w3] at hP
            exact R.2.2.2 P (d + N) (cr + C) cr2 _ _ k hlt1 g2 hS hk2 hp2 g6 (by omega) z hP
          refine br_c (fun e => fun x6 _ => fin (Or.inl e) x6) (fun e => ?_)
          rw [hc2]
          refine pk_lt cr2 K (fun h1 => nm_r (nI_1 turn) ?_) (fun h1 => fun x6 _ => fin (Or.inr (by omega)) x6)
          exact ih (turn + 1) (by omega) w (d + N + 1) cr2 w1 w2.1 (w2.2.trans hc2) (by omega) (by omega) h1 (by omega) (fun P hP => H1 P (by
            rw [w3] at hP
            exact R.1 P (d + N) (cr + C) cr2 _ _ k hlt1 g2 hS hk2 e h1 hP)) (n + 1) (by omega)
    · exact Kp d u hX (fun P hP => H P (R.2.1 P d cr _ hdb (Or.inr hst) hP))
end
/-! the three loops -/
theorem ly_k0 {k : Int32} {cr cr' : Nat} (h : ly_k k cr cr') : ¬ k = 0 := by
  rcases h with ⟨e, _⟩ | ⟨e, _⟩ <;> (rw [e]; decide)
theorem pc_m1 {p : Nat} (h : p ≤ 64) : ¬ nI p = -1 := fun z => nI_pos (n := p) (by omega) (by rw [z]; decide)
theorem ly_run {b : Nat} (hb : b ≤ 2000) : ly_R (fun P d _ v => ∃ n : Nat, yq_run_12 P (nI b) n (nI d) v) b 2001 (-1) := by
  refine ⟨?_, ?_, ?_, ?_⟩
  · rintro P d cr cr' v v' k hd hs hS hk _ _ ⟨n, hn⟩
    refine ⟨n + 1, ?_⟩
    rw [yu_run_12]
    exact br_f (nI_ge hd (by omega)) (br_t hs (hS _ (br_f (ly_k0 hk) (nm_r (nI_1 d) hn))))
  · intro P d cr v hd hz hP
    refine ⟨1, ?_⟩
    rw [yu_run_12]
    refine pk_le b d (fun h => ?_) (fun h => br_f ?_ hP)
    · have e : d = b := by omega
      rw [← e]; exact hP
    · rcases hz with z | z
      · omega
      · exact z
  · intro P d cr v v' hd hs hS hP
    refine ⟨1, ?_⟩
    rw [yu_run_12]
    exact br_f (nI_ge hd (by omega)) (br_t hs (hS _ (br_t rfl hP)))
  · rintro P d cr cr' v v' k hd hs hS hk ⟨p, p1, p2⟩ hc hcd hz hP
    exfalso
    rcases hz with z | z
    · exact pc_m1 p1 (p2.symm.trans z)
    · rcases hk with ⟨_, e⟩ | ⟨_, e⟩ <;> omega
theorem ly_runTo {b : Nat} {st : Int32} (hb : b ≤ 2000) : ly_R (fun P d _ v => ∃ n : Nat, yq_runTo_13 P st (nI b) n (nI d) v) b 2001 st := by
  refine ⟨?_, ?_, ?_, ?_⟩
  · rintro P d cr cr' v v' k hd hs hS hk hp _ ⟨n, hn⟩
    refine ⟨n + 1, ?_⟩
    rw [yu_runTo_13]
    exact br_f (nI_ge hd (by omega)) (br_t hs (hS _ (br_f (ly_k0 hk) (br_f hp (nm_r (nI_1 d) hn)))))
  · intro P d cr v hd hz hP
    refine ⟨1, ?_⟩
    rw [yu_runTo_13]
    refine pk_le b d (fun h => ?_) (fun h => br_f ?_ hP)
    · have e : d = b := by omega
      rw [← e]; exact hP
    · rcases hz with z | z
      · omega
      · exact z
  · intro P d cr v v' hd hs hS hP
    refine ⟨1, ?_⟩
    rw [yu_runTo_13]
    exact br_f (nI_ge hd (by omega)) (br_t hs (hS _ (br_t rfl hP)))
  · rintro P d cr cr' v v' k hd hs hS hk ⟨p, p1, p2⟩ hc hcd hz hP
    have hz' : yg_pc v' = st := by
      rcases hz with z | z
      · exact z
      · exfalso
        rcases hk with ⟨_, e⟩ | ⟨_, e⟩ <;> omega
    refine ⟨1, ?_⟩
    rw [yu_runTo_13, nI_1]
    exact br_f (nI_ge hd (by omega)) (br_t hs (hS _ (br_f (ly_k0 hk) (br_t hz' hP))))
theorem ly_runCross {b K : Nat} (hb : b ≤ 2000) (hK : K < 2 ^ 31) : ly_R (fun P d cr v => ∃ n : Nat, yq_runCross_28 P (nI b) (nI K) n (nI cr) (nI d) v) b K (-1) := by
  refine ⟨?_, ?_, ?_, ?_⟩
  · rintro P d cr cr' v v' k hd hs hS hk hp hcK ⟨n, hn⟩
    refine ⟨n + 1, ?_⟩
    rw [yu_runCross_28]
    refine br_f (nI_ge hd (by omega)) (br_t hs (hS _ (br_f (ly_k0 hk) ?_)))
    rcases hk with ⟨e1, e2⟩ | ⟨e1, e2⟩
    · subst e2; exact br_f (by rw [e1]; decide) (nm_r (nI_1 d) hn)
    · subst e2; exact br_t e1 (nm_r (nI_1 cr) (br_f (fun z => by rw [nI_eq (by omega) hK] at z; omega) (nm_r (nI_1 d) hn)))
  · intro P d cr v hd hz hP
    refine ⟨1, ?_⟩
    rw [yu_runCross_28]
    refine pk_le b d (fun h => ?_) (fun h => br_f ?_ hP)
    · have e : d = b := by omega
      rw [← e]; exact hP
    · rcases hz with z | z
      · omega
      · exact z
  · intro P d cr v v' hd hs hS hP
    refine ⟨1, ?_⟩
    rw [yu_runCross_28]
    exact br_f (nI_ge hd (by omega)) (br_t hs (hS _ (br_t rfl hP)))
  · rintro P d cr cr' v v' k hd hs hS hk ⟨p, p1, p2⟩ hc hcd hz hP
    have hz' : ¬ cr' < K := by
      rcases hz with z | z
      · exact absurd (p2.symm.trans z) (pc_m1 p1)
      · exact z
    refine ⟨1, ?_⟩
    rw [yu_runCross_28, nI_1 d]
    refine br_f (nI_ge hd (by omega)) (br_t hs (hS _ (br_f (ly_k0 hk) ?_)))
    rcases hk with ⟨e1, e2⟩ | ⟨e1, e2⟩
    · omega
    · have e3 : cr + 1 = K := by omega
      exact br_t e1 (nm_r (nI_1 cr) (br_t (by rw [e3]) hP))
end
section
/-! the calls -/
def i_Rel (k : Nat) (u : SX) (v : SY) : Prop := v = xv_y u ∧ iv_x u
theorem i_up {k : Nat} {u : SX} {v : SY} (h : i_Rel k u v) : i_Rel (k + 5) u v := h
def cl_v (p lo hi : Int32) : Int32 := if lo ≤ p then (if p ≤ hi then p else hi) else lo
theorem xw_clamp {post : Int32 → Prop} {u : SX} {p lo hi : Int32} (h : post (cl_v p lo hi)) : wpX_clamp post u p lo hi := by
  rw [xu_clamp]
  unfold cl_v at h
  refine br_c (fun h1 => br_c (fun h2 => ?_) (fun h2 => ?_)) (fun h1 => ?_)
  · rw [if_pos h1, if_pos h2] at h; exact h
  · rw [if_pos h1, if_neg h2] at h; exact h
  · rw [if_neg h1] at h; exact h
theorem yw_clamp {post : Int32 → Prop} {u : SY} {p lo hi : Int32} (h : post (cl_v p lo hi)) : wpY_clamp post u p lo hi := by
  rw [yu_clamp]
  unfold cl_v at h
  refine br_c (fun h1 => br_c (fun h2 => ?_) (fun h2 => ?_)) (fun h1 => ?_)
  · rw [if_pos h1, if_pos h2] at h; exact h
  · rw [if_pos h1, if_neg h2] at h; exact h
  · rw [if_neg h1] at h; exact h
theorem cl_rng {p : Int32} {a b : Nat} (hab : a ≤ b) (hb : b < 2 ^ 31) : ∃ c : Nat, a ≤ c ∧ c ≤ b ∧ cl_v p (nI a) (nI b) = nI c := by
  unfold cl_v
  by_cases h1 : nI a ≤ p
  · rw [if_pos h1]
    by_cases h2 : p ≤ nI b
    · rw [if_pos h2]
      obtain ⟨j, g1, g2, g3⟩ := nb_of (by omega) h1
      refine ⟨j, g1, ?_, g3⟩
      rw [g3, nI_leI g2 hb] at h2
      exact h2
    · rw [if_neg h2]; exact ⟨b, hab, Nat.le_refl _, rfl⟩
  · rw [if_neg h1]; exact ⟨a, Nat.le_refl _, hab, rfl⟩
theorem i_vc0 (k0 : Int32) (k1 : Int32) (k2 : Int32) : wpX_init (fun u => wpY_init (fun v => i_Rel 3 u v) k0 k1 k2) k0 k1 k2 := by
  unfold wpX_init
  refine xw_clamp (xw_clamp (xw_clamp ?_))
  unfold wpY_init
  refine yw_clamp (yw_clamp (yw_clamp ?_))
  obtain ⟨c, c1, c2, c3⟩ := cl_rng (p := k0) (a := 8) (b := 64) (by decide) (by decide)
  obtain ⟨m, m1, m2, m3⟩ := cl_rng (p := k1) (a := 8) (b := 64) (by decide) (by decide)
  exact ⟨rfl, ⟨⟨c, c1, c2, c3⟩, ⟨m, m1, m2, m3⟩, ⟨0, by decide, rfl⟩, ⟨0, by decide, rfl⟩, ⟨0, by decide, rfl⟩⟩, Or.inl rfl, ⟨fun s hs hl => absurd rfl hl, fun h hh => Or.inl rfl⟩, ⟨0, by decide, rfl⟩⟩
/-! storing code -/
theorem xw_forgive {post : SX → Prop} {u : SX} (K : ∀ u' : SX, xk_t u' = xk_t u → xg_code u' = xg_code u → xg_recording u' = xg_recording u → xg_trLive u' = xg_trLive u → xg_slotOf u' = xg_slotOf u → post u') : wpX_forgive post u := by
  have loop : ∀ (k j : Nat), j + k = 64 → ∀ u1 : SX, xk_t u1 = xk_t u → xg_code u1 = xg_code u → xg_recording u1 = xg_recording u → xg_trLive u1 = xg_trLive u → xg_slotOf u1 = xg_slotOf u → ∀ n : Nat, k < n → xq_forgive_2 post n (nI j) u1 := by
    intro k
    induction k with
    | zero =>
      intro j hj u1 h1 h2 h3 h4 h5 n hn
      obtain ⟨n, rfl⟩ : ∃ m, n = m + 1 := ⟨n - 1, by omega⟩
      have e : j = 64 := by omega
      subst e
      rw [xu_forgive_2]
      exact br_t (Int32.le_refl _) (K u1 h1 h2 h3 h4 h5)
    | succ k ih =>
      intro j hj u1 h1 h2 h3 h4 h5 n hn
      obtain ⟨n, rfl⟩ : ∃ m, n = m + 1 := ⟨n - 1, by omega⟩
      rw [xu_forgive_2, nI_clamp (by omega)]
      refine br_f (nI_ge (b := 64) (by omega) (by decide)) ⟨vp_in_nI (by omega) (by decide), nm_e (nm_r (nI_1 j) ?_)⟩
      obtain ⟨w, hw⟩ : ∃ w, w = xs_fails u1 (upd (xg_fails u1) j 0) := ⟨_, rfl⟩
      have w1 : xk_t w = xk_t u1 := by rw [hw]; rfl
      have w2 : xg_code w = xg_code u1 ∧ xg_recording w = xg_recording u1 ∧ xg_trLive w = xg_trLive u1 ∧ xg_slotOf w = xg_slotOf u1 := by rw [hw]; exact ⟨rfl, rfl, rfl, rfl⟩
      rw [← hw]
      exact ih (j + 1) (by omega) w (w1.trans h1) (w2.1.trans h2) (w2.2.1.trans h3) (w2.2.2.1.trans h4) (w2.2.2.2.trans h5) n (by omega)
  rw [xu_forgive]
  exact ⟨65, loop 64 0 (by omega) u rfl rfl rfl rfl rfl 65 (by omega)⟩
theorem xw_store2 {post : SX → Prop} {u : SX} {c j : Nat} {w : Int32} (hX : iv_x u) (hc : xg_codeSize u = nI c) (h64 : c ≤ 64) (hj : j < c)
    (K : ∀ u' : SX, xk_t u' = xk_t u → xg_code u' = upd (xg_code u) j w → iv_sl u' → iv_rec u' → post u') : wpX_storeCode (fun u3 => wpX_forgive (fun u4 => post u4) u3) u (nI j) w := by
  refine xw_storeCode hc h64 hj hX.2.2.1 (iv_rec_h hX.2.1) (fun u3 g1 g2 g3 g4 g5 g6 => xw_forgive (fun u4 h1 h2 h3 h4 h5 => ?_))
  refine K u4 (h1.trans g1) (h2.trans g2) (iv_sl_xf (xk_xf h1) h2 h4 h5 g3) ?_
  by_cases hr : xg_recording u3 = 0
  · exact Or.inl (h3.trans hr)
  · obtain ⟨r1, r2⟩ := g5 hr
    rcases hX.2.1 with z | ⟨cs, hd, n, p1, p2, p3, p4, p5, p6⟩
    · exact absurd (r1.trans z) hr
    · have hk : xk_t u4 = xk_t u := h1.trans g1
      refine Or.inr ⟨cs, hd, n, ?_, p2, ?_, ?_, p5, ?_⟩
      · rw [xk_codeSize hk]; exact p1
      · rw [xk_recHead hk]; exact p3
      · rw [xk_recLen hk]; exact p4
      · rw [xk_recMask hk, xk_recPc hk, xk_recWord hk, xk_recNext hk, xk_pc hk, h2, g2]
        refine iv_path_ag p2 (fun p hp hm => ?_) p6
        by_cases e : p = j
        · subst e
          rcases r2 with r2 | r2
          · exact absurd hm r2
          · rw [pk_us, r2]
        · exact pk_un e
theorem yz_cc (v : SY) (x : Int32) (f : Nat → Int32) : ys_code (ys_cursor v x) f = ys_cursor (ys_code v f) x := rfl
theorem iv_v_cc {v : SY} {k : Nat} {f : Nat → Int32} (hk : k ≤ 64) (h : iv_v v) : iv_v (ys_cursor (ys_code v f) (nI k)) := ⟨h.1, h.2.1, h.2.2.1, ⟨k, hk, rfl⟩, h.2.2.2.2⟩
theorem iv_v_c {v : SY} {f : Nat → Int32} (h : iv_v v) : iv_v (ys_code v f) := h
theorem i_vc_emit {k : Nat} {u : SX} {v : SY} (I : i_Rel k u v) (hk : k + 5 ≤ 2563) (v1 : Int32) (v2 : Int32) (v3 : Int32) (v4 : Int32) : wpX_emit (fun r u' => wpY_emit (fun r' v' => r' = r ∧ i_Rel (k + 5) u' v') v v1 v2 v3 v4) u v1 v2 v3 v4 := by
  obtain ⟨ev, hX⟩ := I
  obtain ⟨⟨c, c1, c2, c3⟩, _, _, ⟨j, j1, j2⟩, _⟩ := id hX.1
  have hcs : xg_codeSize u = nI c := c3
  have hcu : xg_cursor u = nI j := j2
  rw [xu_emit, hcs, hcu]
  have hno : c ≤ j → wpY_emit (fun r' v' => r' = -1 ∧ i_Rel (k + 5) u v') v v1 v2 v3 v4 := fun h => by
    rw [yu_emit, ev, j2, c3]
    exact br_f (nI_nlt h (by omega)) ⟨rfl, rfl, hX⟩
  refine br_f (nI_pos (by omega)) (pk_lt j c (fun hlt => nm_e (xw_store2 hX hcs c2 hlt (fun u4 g1 g2 g3 g4 => nm_r (nI_1 j) ?_))) hno)
  obtain ⟨w, hw⟩ : ∃ w, w = xs_cursor u4 (nI (j + 1)) := ⟨_, rfl⟩
  have w1 : xv_y w = ys_cursor (xv_y u4) (nI (j + 1)) := by rw [hw]; rfl
  have w2 : iv_sl w := by rw [hw]; exact g3
  have w3 : iv_rec w := by rw [hw]; exact g4
  have w4 : xg_nextVictim w = xg_nextVictim u4 := by rw [hw]; rfl
  rw [← hw, yu_emit, ev, j2, c3]
  refine br_t (nI_lt hlt (by omega)) ⟨vp_in_nI (by omega) (by decide), nm_e (nm_r (nI_1 j) ⟨rfl, ?_, ?_, w3, w2, by rw [w4, xk_nextVictim g1]; exact hX.2.2.2⟩)⟩
  · rw [w1, xk_y g1, g2, nI_clamp (by omega)]
    exact yz_cc _ _ _
  · rw [w1, xk_y g1]; exact iv_v_cc (by omega) hX.1
theorem i_vc_putWord {k : Nat} {u : SX} {v : SY} (I : i_Rel k u v) (hk : k + 5 ≤ 2563) (v1 : Int32) (v2 : Int32) : wpX_putWord (fun r u' => wpY_putWord (fun r' v' => r' = r ∧ i_Rel (k + 5) u' v') v v1 v2) u v1 v2 := by
  obtain ⟨ev, hX⟩ := I
  obtain ⟨⟨c, c1, c2, c3⟩, _, _, _, _⟩ := id hX.1
  have hcs : xg_codeSize u = nI c := c3
  rw [xu_putWord, hcs]
  refine br_c (fun h0 => ?_) (fun h0 => br_c (fun h1 => ?_) (fun h1 => ?_))
  · rw [yu_putWord]; exact br_t h0 ⟨rfl, ev, hX⟩
  · obtain ⟨j, hj, rfl⟩ := vn_rng (by omega) h0 h1
    refine xw_store2 hX hcs c2 hj (fun u4 g1 g2 g3 g4 => ?_)
    rw [yu_putWord, ev, c3]
    refine br_f h0 (br_t h1 ⟨vp_in_nI (by omega) (by decide), nm_e ⟨rfl, ?_, ?_, g4, g3, by rw [xk_nextVictim g1]; exact hX.2.2.2⟩⟩)
    · rw [xk_y g1, g2, nI_clamp (by omega)]; rfl
    · rw [xk_y g1]; exact iv_v_c hX.1
  · rw [yu_putWord, ev, c3]; exact br_f h0 (br_f h1 ⟨rfl, rfl, hX⟩)
/-! setting -/
theorem iv_v_r {v : SY} {f : Nat → Int32} (h : iv_v v) : iv_v (ys_r v f) := h
theorem iv_v_mem {v : SY} {f : Nat → Int32} (h : iv_v v) : iv_v (ys_mem v f) := h
theorem iv_v_hot {v : SY} {x : Int32} (h : iv_v v) : iv_v (ys_hot v x) := h
theorem iv_v_jmp {v : SY} {j : Nat} (hj : j ≤ 64) (h : iv_v v) : iv_v (ys_status (ys_pc v (nI j)) 0) := ⟨h.1, h.2.1, h.2.2.1, h.2.2.2.1, ⟨j, hj, rfl⟩⟩
theorem iv_v_oc {v : SY} (h : iv_v v) : iv_v (ys_outCount v 0) := ⟨h.1, h.2.1, ⟨0, by decide, rfl⟩, h.2.2.2⟩
theorem i_vc_setReg {k : Nat} {u : SX} {v : SY} (I : i_Rel k u v) (hk : k + 5 ≤ 2563) (v1 : Int32) (v2 : Int32) : wpX_setReg (fun r u' => wpY_setReg (fun r' v' => r' = r ∧ i_Rel (k + 5) u' v') v v1 v2) u v1 v2 := by
  obtain ⟨ev, hX⟩ := I
  rw [xu_setReg]
  refine br_c (fun h0 => ?_) (fun h0 => br_c (fun h1 => ?_) (fun h1 => ?_))
  · rw [yu_setReg]; exact br_t h0 ⟨rfl, ev, hX⟩
  · have hv : vp_in v1 8 := by
      obtain ⟨j, hj, rfl⟩ := vn_rng (c := 8) (by decide) h0 h1
      exact vp_in_nI hj (by decide)
    refine ⟨hv, nm_e ?_⟩
    obtain ⟨w, hw⟩ : ∃ w, w = xs_r (xs_recording u 0) (upd (xg_r u) v1.toNatClampNeg v2) := ⟨_, rfl⟩
    have w1 : xv_y w = ys_r (xv_y u) (upd (xg_r u) v1.toNatClampNeg v2) := by rw [hw]; rfl
    have w2 : iv_sl w := by rw [hw]; exact hX.2.2.1
    have w3 : xg_recording w = 0 ∧ xg_nextVictim w = xg_nextVictim u := by rw [hw]; exact ⟨rfl, rfl⟩
    rw [← hw, yu_setReg, ev]
    exact br_f h0 (br_t h1 ⟨hv, nm_e ⟨rfl, w1.symm, by rw [w1]; exact iv_v_r hX.1, Or.inl w3.1, w2, by rw [w3.2]; exact hX.2.2.2⟩⟩)
  · rw [yu_setReg]; exact br_f h0 (br_f h1 ⟨rfl, ev, hX⟩)
theorem i_vc_setMem {k : Nat} {u : SX} {v : SY} (I : i_Rel k u v) (hk : k + 5 ≤ 2563) (v1 : Int32) (v2 : Int32) : wpX_setMem (fun r u' => wpY_setMem (fun r' v' => r' = r ∧ i_Rel (k + 5) u' v') v v1 v2) u v1 v2 := by
  obtain ⟨ev, hX⟩ := I
  obtain ⟨_, ⟨m, m1, m2, m3⟩, _⟩ := id hX.1
  have hms : xg_memSize u = nI m := m3
  rw [xu_setMem, hms]
  refine br_c (fun h0 => ?_) (fun h0 => br_c (fun h1 => ?_) (fun h1 => ?_))
  · rw [yu_setMem]; exact br_t h0 ⟨rfl, ev, hX⟩
  · have hv : vp_in v1 64 := by
      obtain ⟨j, hj, rfl⟩ := vn_rng (by omega) h0 h1
      exact vp_in_nI (by omega) (by decide)
    refine ⟨hv, nm_e ?_⟩
    obtain ⟨w, hw⟩ : ∃ w, w = xs_mem (xs_recording u 0) (upd (xg_mem u) v1.toNatClampNeg v2) := ⟨_, rfl⟩
    have w1 : xv_y w = ys_mem (xv_y u) (upd (xg_mem u) v1.toNatClampNeg v2) := by rw [hw]; rfl
    have w2 : iv_sl w := by rw [hw]; exact hX.2.2.1
    have w3 : xg_recording w = 0 ∧ xg_nextVictim w = xg_nextVictim u := by rw [hw]; exact ⟨rfl, rfl⟩
    rw [← hw, yu_setMem, ev, m3]
    exact br_f h0 (br_t h1 ⟨hv, nm_e ⟨rfl, w1.symm, by rw [w1]; exact iv_v_mem hX.1, Or.inl w3.1, w2, by rw [w3.2]; exact hX.2.2.2⟩⟩)
  · rw [yu_setMem, ev, m3]; exact br_f h0 (br_f h1 ⟨rfl, rfl, hX⟩)
theorem i_vc_jumpTo {k : Nat} {u : SX} {v : SY} (I : i_Rel k u v) (hk : k + 5 ≤ 2563) (v1 : Int32) : wpX_jumpTo (fun r u' => wpY_jumpTo (fun r' v' => r' = r ∧ i_Rel (k + 5) u' v') v v1) u v1 := by
  obtain ⟨ev, hX⟩ := I
  obtain ⟨⟨c, c1, c2, c3⟩, _⟩ := id hX.1
  have hcs : xg_codeSize u = nI c := c3
  rw [xu_jumpTo, hcs]
  refine br_c (fun h0 => ?_) (fun h0 => br_c (fun h1 => ?_) (fun h1 => ?_))
  · rw [yu_jumpTo]; exact br_t h0 ⟨rfl, ev, hX⟩
  · obtain ⟨j, hj, rfl⟩ := vn_rng (by omega) h0 h1
    obtain ⟨w, hw⟩ : ∃ w, w = xs_recording (xs_status (xs_pc u (nI j)) 0) 0 := ⟨_, rfl⟩
    have w1 : xv_y w = ys_status (ys_pc (xv_y u) (nI j)) 0 := by rw [hw]; rfl
    have w2 : iv_sl w := by rw [hw]; exact hX.2.2.1
    have w3 : xg_recording w = 0 ∧ xg_nextVictim w = xg_nextVictim u := by rw [hw]; exact ⟨rfl, rfl⟩
    rw [← hw, yu_jumpTo, ev, c3]
    exact br_f h0 (br_t h1 ⟨rfl, w1.symm, by rw [w1]; exact iv_v_jmp (by omega) hX.1, Or.inl w3.1, w2, by rw [w3.2]; exact hX.2.2.2⟩)
  · rw [yu_jumpTo, ev, c3]; exact br_f h0 (br_f h1 ⟨rfl, rfl, hX⟩)
theorem i_vc_setHot {k : Nat} {u : SX} {v : SY} (I : i_Rel k u v) (hk : k + 5 ≤ 2563) (v1 : Int32) : wpX_setHot (fun u' => wpY_setHot (fun v' => i_Rel (k + 5) u' v') v v1) u v1 := by
  obtain ⟨ev, hX⟩ := I
  rw [xu_setHot]
  refine xw_clamp ?_
  obtain ⟨w, hw⟩ : ∃ w, w = xs_hot u (cl_v v1 1 32) := ⟨_, rfl⟩
  have w1 : xv_y w = ys_hot (xv_y u) (cl_v v1 1 32) := by rw [hw]; rfl
  have w2 : iv_sl w := by rw [hw]; exact hX.2.2.1
  have w3 : iv_rec w := by rw [hw]; exact hX.2.1
  have w4 : xg_nextVictim w = xg_nextVictim u := by rw [hw]; rfl
  rw [← hw, yu_setHot, ev]
  exact yw_clamp ⟨w1.symm, by rw [w1]; exact iv_v_hot hX.1, w3, w2, by rw [w4]; exact hX.2.2.2⟩
theorem i_vc_clearOut {k : Nat} {u : SX} {v : SY} (I : i_Rel k u v) (hk : k + 5 ≤ 2563) : wpX_clearOut (fun r u' => wpY_clearOut (fun r' v' => r' = r ∧ i_Rel (k + 5) u' v') v) u := by
  obtain ⟨ev, hX⟩ := I
  rw [xu_clearOut]
  obtain ⟨w, hw⟩ : ∃ w, w = xs_outCount u 0 := ⟨_, rfl⟩
  have w1 : xv_y w = ys_outCount (xv_y u) 0 := by rw [hw]; rfl
  have w2 : iv_sl w := by rw [hw]; exact hX.2.2.1
  have w3 : iv_rec w := by rw [hw]; exact hX.2.1
  have w4 : xg_nextVictim w = xg_nextVictim u := by rw [hw]; rfl
  rw [← hw, yu_clearOut, ev]
  exact ⟨rfl, w1.symm, by rw [w1]; exact iv_v_oc hX.1, w3, w2, by rw [w4]; exact hX.2.2.2⟩
end
section
/-! restart -/
def zz_f (n : Nat) (f : Nat → Int32) : Nat → Int32 := fun q => if q < n then 0 else f q
theorem zz_0 (f : Nat → Int32) : zz_f 0 f = f := funext (fun q => if_neg (by omega))
theorem zz_1 (n : Nat) (f : Nat → Int32) : upd (zz_f n f) n 0 = zz_f (n + 1) f := by
  funext q
  show upd (zz_f n f) n 0 q = if q < n + 1 then 0 else f q
  by_cases e : q = n
  · subst e; rw [pk_us, if_pos (by omega)]
  · rw [pk_un e]
    show (if q < n then 0 else f q) = _
    by_cases h : q < n
    · rw [if_pos h, if_pos (by omega)]
    · rw [if_neg h, if_neg (by omega)]
theorem yz_r1 (v : SY) (f : Nat → Int32) : yg_r (ys_r v f) = f := rfl
theorem yz_r2 (v : SY) (f g : Nat → Int32) : ys_r (ys_r v f) g = ys_r v g := rfl
theorem yz_r3 (v : SY) : ys_r v (yg_r v) = v := rfl
theorem yz_m1 (v : SY) (f : Nat → Int32) : yg_mem (ys_mem v f) = f := rfl
theorem yz_m2 (v : SY) (f g : Nat → Int32) : ys_mem (ys_mem v f) g = ys_mem v g := rfl
theorem yz_m3 (v : SY) : ys_mem v (yg_mem v) = v := rfl
theorem yz_c1 (v : SY) (f : Nat → Int32) : yg_crossings (ys_crossings v f) = f := rfl
theorem yz_c2 (v : SY) (f g : Nat → Int32) : ys_crossings (ys_crossings v f) g = ys_crossings v g := rfl
theorem yz_c3 (v : SY) : ys_crossings v (yg_crossings v) = v := rfl
theorem yw_rs64 {post : SY → Prop} {v : SY} (K : post (ys_crossings v (zz_f 64 (yg_crossings v)))) : ∀ (k j : Nat), j + k = 64 → ∀ n : Nat, k < n → yq_restart_64 post n (nI j) (ys_crossings v (zz_f j (yg_crossings v))) := by
  intro k
  induction k with
  | zero =>
    intro j hj n hn
    obtain ⟨n, rfl⟩ : ∃ m, n = m + 1 := ⟨n - 1, by omega⟩
    have e : j = 64 := by omega
    subst e
    rw [yu_restart_64]
    exact br_t (Int32.le_refl _) K
  | succ k ih =>
    intro j hj n hn
    obtain ⟨n, rfl⟩ : ∃ m, n = m + 1 := ⟨n - 1, by omega⟩
    rw [yu_restart_64, nI_clamp (by omega), yz_c1, zz_1]
    refine br_f (nI_ge (b := 64) (by omega) (by decide)) ⟨vp_in_nI (by omega) (by decide), nm_e (nm_r (nI_1 j) ?_)⟩
    rw [yz_c2]
    exact ih (j + 1) (by omega) n (by omega)
theorem yw_rs43 {post : SY → Prop} {v : SY} (K : ∃ n : Nat, yq_restart_64 post n 0 (ys_mem v (zz_f 64 (yg_mem v)))) : ∀ (k j : Nat), j + k = 64 → ∀ n : Nat, k < n → yq_restart_43 post n (nI j) (ys_mem v (zz_f j (yg_mem v))) := by
  intro k
  induction k with
  | zero =>
    intro j hj n hn
    obtain ⟨n, rfl⟩ : ∃ m, n = m + 1 := ⟨n - 1, by omega⟩
    have e : j = 64 := by omega
    subst e
    rw [yu_restart_43]
    exact br_t (Int32.le_refl _) K
  | succ k ih =>
    intro j hj n hn
    obtain ⟨n, rfl⟩ : ∃ m, n = m + 1 := ⟨n - 1, by omega⟩
    rw [yu_restart_43, nI_clamp (by omega), yz_m1, zz_1]
    refine br_f (nI_ge (b := 64) (by omega) (by decide)) ⟨vp_in_nI (by omega) (by decide), nm_e (nm_r (nI_1 j) ?_)⟩
    rw [yz_m2]
    exact ih (j + 1) (by omega) n (by omega)
theorem yw_rs22 {post : SY → Prop} {v : SY} (K : ∃ n : Nat, yq_restart_43 post n 0 (ys_r v (zz_f 8 (yg_r v)))) : ∀ (k j : Nat), j + k = 8 → ∀ n : Nat, k < n → yq_restart_22 post n (nI j) (ys_r v (zz_f j (yg_r v))) := by
  intro k
  induction k with
  | zero =>
    intro j hj n hn
    obtain ⟨n, rfl⟩ : ∃ m, n = m + 1 := ⟨n - 1, by omega⟩
    have e : j = 8 := by omega
    subst e
    rw [yu_restart_22]
    exact br_t (Int32.le_refl _) K
  | succ k ih =>
    intro j hj n hn
    obtain ⟨n, rfl⟩ : ∃ m, n = m + 1 := ⟨n - 1, by omega⟩
    rw [yu_restart_22, nI_clamp (by omega), yz_r1, zz_1]
    refine br_f (nI_ge (b := 8) (by omega) (by decide)) ⟨vp_in_nI (by omega) (by decide), nm_e (nm_r (nI_1 j) ?_)⟩
    rw [yz_r2]
    exact ih (j + 1) (by omega) n (by omega)
/-- the restarted state, of the state v1 with its numbers cleared -/
def rs_1 (v : SY) : SY := ys_r v (zz_f 8 (yg_r v))
def rs_2 (v : SY) : SY := ys_mem v (zz_f 64 (yg_mem v))
def rs_3 (v : SY) : SY := ys_crossings v (zz_f 64 (yg_crossings v))
theorem yw_restart {post : SY → Prop} {v : SY} (K : post (rs_3 (rs_2 (rs_1 (ys_outCount (ys_steps (ys_status (ys_pc v 0) 0) 0) 0))))) : wpY_restart post v := by
  rw [yu_restart]
  obtain ⟨v1, h1⟩ : ∃ v1, v1 = ys_outCount (ys_steps (ys_status (ys_pc v 0) 0) 0) 0 := ⟨_, rfl⟩
  rw [← h1] at K ⊢
  obtain ⟨v2, h2⟩ : ∃ v2, v2 = rs_1 v1 := ⟨_, rfl⟩
  rw [← h2] at K
  obtain ⟨v3, h3⟩ : ∃ v3, v3 = rs_2 v2 := ⟨_, rfl⟩
  rw [← h3] at K
  have L3 : yq_restart_64 post 65 (nI 0) (ys_crossings v3 (zz_f 0 (yg_crossings v3))) := yw_rs64 K 64 0 (by omega) 65 (by omega)
  rw [zz_0, yz_c3, h3] at L3
  have L2 : yq_restart_43 post 65 (nI 0) (ys_mem v2 (zz_f 0 (yg_mem v2))) := yw_rs43 ⟨65, L3⟩ 64 0 (by omega) 65 (by omega)
  rw [zz_0, yz_m3, h2] at L2
  have L1 : yq_restart_22 post 9 (nI 0) (ys_r v1 (zz_f 0 (yg_r v1))) := yw_rs22 ⟨65, L2⟩ 8 0 (by omega) 9 (by omega)
  rw [zz_0, yz_r3] at L1
  exact ⟨9, L1⟩
/-- what restart's loops keep of the component -/
def rs_I (u0 u : SX) (y : SY) : Prop := xv_y u = y ∧ iv_sl u ∧ xg_recording u = xg_recording u0 ∧ xg_nextVictim u = xg_nextVictim u0
theorem xw_rs69 {post : SX → Prop} {u0 : SX} {v : SY} (K : ∀ u' : SX, rs_I u0 u' (rs_3 v) → post u') : ∀ (k j : Nat), j + k = 64 → ∀ u : SX, rs_I u0 u (ys_crossings v (zz_f j (yg_crossings v))) → ∀ n : Nat, k < n → xq_restart_69 post n (nI j) u := by
  intro k
  induction k with
  | zero =>
    intro j hj u hI n hn
    obtain ⟨n, rfl⟩ : ∃ m, n = m + 1 := ⟨n - 1, by omega⟩
    have e : j = 64 := by omega
    subst e
    rw [xu_restart_69]
    exact br_t (Int32.le_refl _) (K u hI)
  | succ k ih =>
    intro j hj u hI n hn
    obtain ⟨n, rfl⟩ : ∃ m, n = m + 1 := ⟨n - 1, by omega⟩
    obtain ⟨i1, i2, i3, i4⟩ := hI
    rw [xu_restart_69, nI_clamp (by omega)]
    have hv : vp_in (nI j) 64 := vp_in_nI (by omega) (by decide)
    refine br_f (nI_ge (b := 64) (by omega) (by decide)) ⟨hv, nm_e ⟨hv, nm_e ⟨hv, nm_e (nm_r (nI_1 j) ?_)⟩⟩⟩
    obtain ⟨w, hw⟩ : ∃ w, w = xs_fails (xs_heat (xs_crossings u (upd (xg_crossings u) j 0)) (upd (xg_heat u) j 0)) (upd (xg_fails u) j 0) := ⟨_, rfl⟩
    have w1 : xv_y w = ys_crossings (xv_y u) (upd (yg_crossings (xv_y u)) j 0) := by rw [hw]; rfl
    have w2 : iv_sl w := by rw [hw]; exact i2
    have w3 : xg_recording w = xg_recording u ∧ xg_nextVictim w = xg_nextVictim u := by rw [hw]; exact ⟨rfl, rfl⟩
    rw [← hw]
    refine ih (j + 1) (by omega) w ⟨?_, w2, w3.1.trans i3, w3.2.trans i4⟩ n (by omega)
    rw [w1, i1, yz_c1, yz_c2, zz_1]
theorem xw_rs48 {post : SX → Prop} {u0 : SX} {v : SY} (K : ∀ u' : SX, rs_I u0 u' (rs_2 v) → ∃ n : Nat, xq_restart_69 post n 0 u') : ∀ (k j : Nat), j + k = 64 → ∀ u : SX, rs_I u0 u (ys_mem v (zz_f j (yg_mem v))) → ∀ n : Nat, k < n → xq_restart_48 post n (nI j) u := by
  intro k
  induction k with
  | zero =>
    intro j hj u hI n hn
    obtain ⟨n, rfl⟩ : ∃ m, n = m + 1 := ⟨n - 1, by omega⟩
    have e : j = 64 := by omega
    subst e
    rw [xu_restart_48]
    exact br_t (Int32.le_refl _) (K u hI)
  | succ k ih =>
    intro j hj u hI n hn
    obtain ⟨n, rfl⟩ : ∃ m, n = m + 1 := ⟨n - 1, by omega⟩
    obtain ⟨i1, i2, i3, i4⟩ := hI
    rw [xu_restart_48, nI_clamp (by omega)]
    have hv : vp_in (nI j) 64 := vp_in_nI (by omega) (by decide)
    refine br_f (nI_ge (b := 64) (by omega) (by decide)) ⟨hv, nm_e (nm_r (nI_1 j) ?_)⟩
    obtain ⟨w, hw⟩ : ∃ w, w = xs_mem u (upd (xg_mem u) j 0) := ⟨_, rfl⟩
    have w1 : xv_y w = ys_mem (xv_y u) (upd (yg_mem (xv_y u)) j 0) := by rw [hw]; rfl
    have w2 : iv_sl w := by rw [hw]; exact i2
    have w3 : xg_recording w = xg_recording u ∧ xg_nextVictim w = xg_nextVictim u := by rw [hw]; exact ⟨rfl, rfl⟩
    rw [← hw]
    refine ih (j + 1) (by omega) w ⟨?_, w2, w3.1.trans i3, w3.2.trans i4⟩ n (by omega)
    rw [w1, i1, yz_m1, yz_m2, zz_1]
theorem xw_rs27 {post : SX → Prop} {u0 : SX} {v : SY} (K : ∀ u' : SX, rs_I u0 u' (rs_1 v) → ∃ n : Nat, xq_restart_48 post n 0 u') : ∀ (k j : Nat), j + k = 8 → ∀ u : SX, rs_I u0 u (ys_r v (zz_f j (yg_r v))) → ∀ n : Nat, k < n → xq_restart_27 post n (nI j) u := by
  intro k
  induction k with
  | zero =>
    intro j hj u hI n hn
    obtain ⟨n, rfl⟩ : ∃ m, n = m + 1 := ⟨n - 1, by omega⟩
    have e : j = 8 := by omega
    subst e
    rw [xu_restart_27]
    exact br_t (Int32.le_refl _) (K u hI)
  | succ k ih =>
    intro j hj u hI n hn
    obtain ⟨n, rfl⟩ : ∃ m, n = m + 1 := ⟨n - 1, by omega⟩
    obtain ⟨i1, i2, i3, i4⟩ := hI
    rw [xu_restart_27, nI_clamp (by omega)]
    have hv : vp_in (nI j) 8 := vp_in_nI (by omega) (by decide)
    refine br_f (nI_ge (b := 8) (by omega) (by decide)) ⟨hv, nm_e (nm_r (nI_1 j) ?_)⟩
    obtain ⟨w, hw⟩ : ∃ w, w = xs_r u (upd (xg_r u) j 0) := ⟨_, rfl⟩
    have w1 : xv_y w = ys_r (xv_y u) (upd (yg_r (xv_y u)) j 0) := by rw [hw]; rfl
    have w2 : iv_sl w := by rw [hw]; exact i2
    have w3 : xg_recording w = xg_recording u ∧ xg_nextVictim w = xg_nextVictim u := by rw [hw]; exact ⟨rfl, rfl⟩
    rw [← hw]
    refine ih (j + 1) (by omega) w ⟨?_, w2, w3.1.trans i3, w3.2.trans i4⟩ n (by omega)
    rw [w1, i1, yz_r1, yz_r2, zz_1]
theorem iv_v_rs {v : SY} (h : iv_v v) : iv_v (ys_outCount (ys_steps (ys_status (ys_pc v 0) 0) 0) 0) := ⟨h.1, h.2.1, ⟨0, by decide, rfl⟩, h.2.2.2.1, ⟨0, by decide, rfl⟩⟩
theorem iv_v_cr {v : SY} {f : Nat → Int32} (h : iv_v v) : iv_v (ys_crossings v f) := h
theorem i_vc_restart {k : Nat} {u : SX} {v : SY} (I : i_Rel k u v) (hk : k + 5 ≤ 2563) : wpX_restart (fun u' => wpY_restart (fun v' => i_Rel (k + 5) u' v') v) u := by
  obtain ⟨ev, hX⟩ := I
  rw [xu_restart]
  obtain ⟨u0, hu⟩ : ∃ u0, u0 = xs_recording (xs_steps (xs_status (xs_pc (xs_outCount u 0) 0) 0) 0) 0 := ⟨_, rfl⟩
  have z1 : xv_y u0 = ys_outCount (ys_steps (ys_status (ys_pc (xv_y u) 0) 0) 0) 0 := by rw [hu]; rfl
  have z2 : iv_sl u0 := by rw [hu]; exact hX.2.2.1
  have z3 : xg_recording u0 = 0 ∧ xg_nextVictim u0 = xg_nextVictim u := by rw [hu]; exact ⟨rfl, rfl⟩
  rw [← hu]
  obtain ⟨v1, h1⟩ : ∃ v1, v1 = ys_outCount (ys_steps (ys_status (ys_pc (xv_y u) 0) 0) 0) 0 := ⟨_, rfl⟩
  have hV1 : iv_v v1 := by rw [h1]; exact iv_v_rs hX.1
  rw [← h1] at z1
  refine ⟨9, xw_rs27 (u0 := u0) (v := v1) (fun u1 i1 => ⟨65, xw_rs48 (u0 := u0) (v := rs_1 v1) (fun u2 i2 => ⟨65, xw_rs69 (u0 := u0) (v := rs_2 (rs_1 v1)) (fun u3 i3 => ?_) 64 0 (by omega) u2 ?_ 65 (by omega)⟩) 64 0 (by omega) u1 ?_ 65 (by omega)⟩) 8 0 (by omega) u0 ?_ 9 (by omega)⟩
  · obtain ⟨a1, a2, a3, a4⟩ := i3
    have hV3 : iv_v (rs_3 (rs_2 (rs_1 v1))) := iv_v_cr (iv_v_mem (iv_v_r hV1))
    refine yw_restart ⟨?_, by rw [a1]; exact hV3, Or.inl (a3.trans z3.1), a2, by rw [a4, z3.2]; exact hX.2.2.2⟩
    rw [a1, ev, ← h1]
  · rw [zz_0, yz_c3]; exact i2
  · rw [zz_0, yz_m3]; exact i1
  · rw [zz_0, yz_r3]; exact ⟨z1, z2, rfl, rfl⟩
/-! running -/
theorem xw_driveR {LY : (Int32 → SY → Prop) → Nat → Nat → SY → Prop} {b K : Nat} {st : Int32} {post : Int32 → SX → Prop} {u : SX} {p : Int32} (hX : iv_x u) (hK1 : 0 < K) (hK : K < 2 ^ 31) (hb : b ≤ 2000) (hc : cl_v p 0 2000 = nI b) (R : ly_R LY b K st)
    (Kp : ∀ (d : Nat) (u' : SX), iv_x u' → (∀ P : Int32 → SY → Prop, P (nI d) (xv_y u') → LY P 0 0 (xv_y u)) → post (nI d) u') : wpX_drive post u p st (nI K) := by
  rw [xu_drive]
  refine xw_clamp ?_
  rw [hc]
  obtain ⟨w, hw⟩ : ∃ w, w = xs_crossed (xs_done u 0) 0 := ⟨_, rfl⟩
  have w1 : iv_x w := by rw [hw]; exact hX
  have w2 : xg_done w = 0 ∧ xg_crossed w = 0 := by rw [hw]; exact ⟨rfl, rfl⟩
  have w3 : xv_y w = xv_y u := by rw [hw]; rfl
  rw [← hw]
  exact ⟨2002, xw_drive27 R hb hK Kp 2000 0 (by omega) w 0 0 w1 w2.1 w2.2 (by omega) (by omega) hK1 (by omega) (fun P hP => by rw [w3] at hP; exact hP) 2002 (by omega)⟩
theorem i_vc_run {k : Nat} {u : SX} {v : SY} (I : i_Rel k u v) (hk : k + 5 ≤ 2563) (v1 : Int32) : wpX_run (fun r u' => wpY_run (fun r' v' => r' = r ∧ i_Rel (k + 5) u' v') v v1) u v1 := by
  obtain ⟨ev, hX⟩ := I
  obtain ⟨b, _, b2, b3⟩ := cl_rng (p := v1) (a := 0) (b := 2000) (by decide) (by decide)
  rw [xu_run]
  refine xw_driveR (K := 2001) hX (by decide) (by decide) b2 b3 (ly_run b2) (fun d u' hX' H => ?_)
  rw [yu_run, ev]
  refine yw_clamp ?_
  rw [show cl_v v1 0 2000 = nI b from b3]
  exact H _ ⟨rfl, rfl, hX'⟩
theorem i_vc_runTo {k : Nat} {u : SX} {v : SY} (I : i_Rel k u v) (hk : k + 5 ≤ 2563) (v1 : Int32) (v2 : Int32) : wpX_runTo (fun r u' => wpY_runTo (fun r' v' => r' = r ∧ i_Rel (k + 5) u' v') v v1 v2) u v1 v2 := by
  obtain ⟨ev, hX⟩ := I
  obtain ⟨b, _, b2, b3⟩ := cl_rng (p := v2) (a := 0) (b := 2000) (by decide) (by decide)
  rw [xu_runTo]
  refine xw_driveR (K := 2001) hX (by decide) (by decide) b2 b3 (ly_runTo b2) (fun d u' hX' H => ?_)
  rw [yu_runTo, ev]
  refine yw_clamp ?_
  rw [show cl_v v2 0 2000 = nI b from b3]
  exact H _ ⟨rfl, rfl, hX'⟩
theorem i_vc_runCross {k : Nat} {u : SX} {v : SY} (I : i_Rel k u v) (hk : k + 5 ≤ 2563) (v1 : Int32) (v2 : Int32) : wpX_runCross (fun r u' => wpY_runCross (fun r' v' => r' = r ∧ i_Rel (k + 5) u' v') v v1 v2) u v1 v2 := by
  obtain ⟨ev, hX⟩ := I
  obtain ⟨b, _, b2, b3⟩ := cl_rng (p := v2) (a := 0) (b := 2000) (by decide) (by decide)
  rw [xu_runCross]
  refine br_c (fun h1 => ?_) (fun h1 => ?_)
  · obtain ⟨K, k1, k2, rfl⟩ := nb_of (a := 1) (by decide) h1
    rw [xu_runCross_9]
    refine xw_driveR (K := K) hX k1 k2 b2 b3 (ly_runCross b2 k2) (fun d u' hX' H => ?_)
    rw [yu_runCross, ev]
    refine yw_clamp ?_
    rw [show cl_v v2 0 2000 = nI b from b3]
    exact br_t h1 (H _ ⟨rfl, rfl, hX'⟩)
  · rw [xu_runCross_9]
    refine xw_driveR (K := 1) hX (by decide) (by decide) b2 b3 (ly_runCross b2 (by decide)) (fun d u' hX' H => ?_)
    rw [yu_runCross, ev]
    refine yw_clamp ?_
    rw [show cl_v v2 0 2000 = nI b from b3]
    exact br_f h1 (H _ ⟨rfl, rfl, hX'⟩)
/-! looking -/
theorem i_vc_pc {k : Nat} {u : SX} {v : SY} (I : i_Rel k u v) (hk : k + 5 ≤ 2563) : wpX_pc (fun r => wpY_pc (fun r' => r' = r ∧ i_Rel (k + 5) u v) v) u := by
  rw [xu_pc, yu_pc]; exact ⟨congrArg yg_pc I.1, I⟩
theorem i_vc_status {k : Nat} {u : SX} {v : SY} (I : i_Rel k u v) (hk : k + 5 ≤ 2563) : wpX_status (fun r => wpY_status (fun r' => r' = r ∧ i_Rel (k + 5) u v) v) u := by
  rw [xu_status, yu_status]; exact ⟨congrArg yg_status I.1, I⟩
theorem i_vc_steps {k : Nat} {u : SX} {v : SY} (I : i_Rel k u v) (hk : k + 5 ≤ 2563) : wpX_steps (fun r => wpY_steps (fun r' => r' = r ∧ i_Rel (k + 5) u v) v) u := by
  rw [xu_steps, yu_steps]; exact ⟨congrArg yg_steps I.1, I⟩
theorem i_vc_reg {k : Nat} {u : SX} {v : SY} (I : i_Rel k u v) (hk : k + 5 ≤ 2563) (v1 : Int32) : wpX_reg (fun r => wpY_reg (fun r' => r' = r ∧ i_Rel (k + 5) u v) v v1) u v1 := by
  rw [xu_reg]
  refine br_c (fun h0 => ?_) (fun h0 => br_c (fun h1 => ?_) (fun h1 => ?_))
  · rw [yu_reg]; exact br_t h0 ⟨rfl, I⟩
  · have hv : vp_in v1 8 := by
      obtain ⟨j, hj, rfl⟩ := vn_rng (c := 8) (by decide) h0 h1
      exact vp_in_nI hj (by decide)
    rw [yu_reg]
    exact ⟨hv, br_f h0 (br_t h1 ⟨hv, congrFun (congrArg yg_r I.1) _, I⟩)⟩
  · rw [yu_reg]; exact br_f h0 (br_f h1 ⟨rfl, I⟩)
theorem i_vc_mem {k : Nat} {u : SX} {v : SY} (I : i_Rel k u v) (hk : k + 5 ≤ 2563) (v1 : Int32) : wpX_mem (fun r => wpY_mem (fun r' => r' = r ∧ i_Rel (k + 5) u v) v v1) u v1 := by
  obtain ⟨_, ⟨m, m1, m2, m3⟩, _⟩ := id I.2.1
  have hms : xg_memSize u = nI m := m3
  have ey : yg_memSize v = nI m := (congrArg yg_memSize I.1).trans m3
  rw [xu_mem, hms]
  refine br_c (fun h0 => ?_) (fun h0 => br_c (fun h1 => ?_) (fun h1 => ?_))
  · rw [yu_mem]; exact br_t h0 ⟨rfl, I⟩
  · have hv : vp_in v1 64 := by
      obtain ⟨j, hj, rfl⟩ := vn_rng (by omega) h0 h1
      exact vp_in_nI (by omega) (by decide)
    rw [yu_mem, ey]
    exact ⟨hv, br_f h0 (br_t h1 ⟨hv, congrFun (congrArg yg_mem I.1) _, I⟩)⟩
  · rw [yu_mem, ey]; exact br_f h0 (br_f h1 ⟨rfl, I⟩)
theorem i_vc_code {k : Nat} {u : SX} {v : SY} (I : i_Rel k u v) (hk : k + 5 ≤ 2563) (v1 : Int32) : wpX_code (fun r => wpY_code (fun r' => r' = r ∧ i_Rel (k + 5) u v) v v1) u v1 := by
  obtain ⟨⟨c, c1, c2, c3⟩, _⟩ := id I.2.1
  have hcs : xg_codeSize u = nI c := c3
  have ey : yg_codeSize v = nI c := (congrArg yg_codeSize I.1).trans c3
  rw [xu_code, hcs]
  refine br_c (fun h0 => ?_) (fun h0 => br_c (fun h1 => ?_) (fun h1 => ?_))
  · rw [yu_code]; exact br_t h0 ⟨rfl, I⟩
  · have hv : vp_in v1 64 := by
      obtain ⟨j, hj, rfl⟩ := vn_rng (by omega) h0 h1
      exact vp_in_nI (by omega) (by decide)
    rw [yu_code, ey]
    exact ⟨hv, br_f h0 (br_t h1 ⟨hv, congrFun (congrArg yg_code I.1) _, I⟩)⟩
  · rw [yu_code, ey]; exact br_f h0 (br_f h1 ⟨rfl, I⟩)
theorem i_vc_crossings {k : Nat} {u : SX} {v : SY} (I : i_Rel k u v) (hk : k + 5 ≤ 2563) (v1 : Int32) : wpX_crossings (fun r => wpY_crossings (fun r' => r' = r ∧ i_Rel (k + 5) u v) v v1) u v1 := by
  obtain ⟨⟨c, c1, c2, c3⟩, _⟩ := id I.2.1
  have hcs : xg_codeSize u = nI c := c3
  have ey : yg_codeSize v = nI c := (congrArg yg_codeSize I.1).trans c3
  rw [xu_crossings, hcs]
  refine br_c (fun h0 => ?_) (fun h0 => br_c (fun h1 => ?_) (fun h1 => ?_))
  · rw [yu_crossings]; exact br_t h0 ⟨rfl, I⟩
  · have hv : vp_in v1 64 := by
      obtain ⟨j, hj, rfl⟩ := vn_rng (by omega) h0 h1
      exact vp_in_nI (by omega) (by decide)
    rw [yu_crossings, ey]
    exact ⟨hv, br_f h0 (br_t h1 ⟨hv, congrFun (congrArg yg_crossings I.1) _, I⟩)⟩
  · rw [yu_crossings, ey]; exact br_f h0 (br_f h1 ⟨rfl, I⟩)
theorem i_vc_outCount {k : Nat} {u : SX} {v : SY} (I : i_Rel k u v) (hk : k + 5 ≤ 2563) : wpX_outCount (fun r => wpY_outCount (fun r' => r' = r ∧ i_Rel (k + 5) u v) v) u := by
  rw [xu_outCount, yu_outCount]; exact ⟨congrArg yg_outCount I.1, I⟩
theorem i_vc_out {k : Nat} {u : SX} {v : SY} (I : i_Rel k u v) (hk : k + 5 ≤ 2563) (v1 : Int32) : wpX_out (fun r => wpY_out (fun r' => r' = r ∧ i_Rel (k + 5) u v) v v1) u v1 := by
  obtain ⟨_, _, ⟨o, o1, o2⟩, _⟩ := id I.2.1
  have hoc : xg_outCount u = nI o := o2
  have ey : yg_outCount v = nI o := (congrArg yg_outCount I.1).trans o2
  rw [xu_out, hoc]
  refine br_c (fun h0 => ?_) (fun h0 => br_c (fun h1 => ?_) (fun h1 => ?_))
  · rw [yu_out]; exact br_t h0 ⟨rfl, I⟩
  · rw [yu_out, ey]; exact br_f h0 (br_f (Int32.not_lt.mpr h1) ⟨rfl, I⟩)
  · obtain ⟨j, hj, rfl⟩ := vn_rng' (by omega) h0 h1
    have hv : vp_in (nI j) 64 := vp_in_nI (by omega) (by decide)
    rw [yu_out, ey]
    exact br_t (nI_lt (b := 64) (by omega) (by decide)) ⟨hv, br_f h0 (br_t (nI_lt hj (by omega)) ⟨hv, congrFun (congrArg yg_out I.1) _, I⟩)⟩
theorem i_vc_cursor {k : Nat} {u : SX} {v : SY} (I : i_Rel k u v) (hk : k + 5 ≤ 2563) : wpX_cursor (fun r => wpY_cursor (fun r' => r' = r ∧ i_Rel (k + 5) u v) v) u := by
  rw [xu_cursor, yu_cursor]; exact ⟨congrArg yg_cursor I.1, I⟩
theorem i_vc_hot {k : Nat} {u : SX} {v : SY} (I : i_Rel k u v) (hk : k + 5 ≤ 2563) : wpX_hot (fun r => wpY_hot (fun r' => r' = r ∧ i_Rel (k + 5) u v) v) u := by
  rw [xu_hot, yu_hot]; exact ⟨congrArg yg_hot I.1, I⟩
end
