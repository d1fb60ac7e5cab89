/-! the small functions that class and reference share -/
abbrev ltD (x y : UInt64) : Prop := Op.cmpValue (FP.dcmp x y) .l < 0
abbrev gtD (x y : UInt64) : Prop := 0 < Op.cmpValue (FP.dcmp x y) .g
abbrev btw (v lo hi : UInt64) : Prop := ¬ ltD v lo ∧ ¬ gtD v hi
def lateV (d o : UInt64) : UInt64 := FP.dsub (FP.dmul d c05) o
def strongV (g l : UInt64) : UInt64 := FP.dsub g l
abbrev fineV (d l o g : UInt64) : Prop := btw (lateV d o) cm05 c05 ∧ btw (strongV g l) cm05 c05
def drawC (c : Int32) : Int32 := c * 1103515245 + 12345
def drawR (c n : Int32) : Int32 := ((drawC c).toUInt32 >>> ((16 : Int32).toUInt32 &&& Int32.toUInt32 31)).toInt32 - ((drawC c).toUInt32 >>> ((16 : Int32).toUInt32 &&& Int32.toUInt32 31)).toInt32 / n * n
def offN (d o : UInt64) : UInt64 := FP.dadd o (FP.dmul (lateV d o) c075)
def gainN (l g : UInt64) : UInt64 := FP.dsub g (FP.dmul (strongV g l) c075)
/-- no NaN on the way -/
def okLate (d o : UInt64) : Prop := vf_n64 (FP.dmul d c05) ∧ vf_n64 (lateV d o)
def okStrong (l g : UInt64) : Prop := vf_n64 (strongV g l)
def okAdj (d l o g : UInt64) : Prop := vf_n64 (FP.dmul (lateV d o) c075) ∧ vf_n64 (offN d o) ∧ vf_n64 (FP.dmul (strongV g l) c075) ∧ vf_n64 (gainN l g)
def earnV (c r : UInt64) : UInt64 := if 0 < Op.cmpValue (FP.dcmp (FP.dadd c r) c8) .l then c8 else FP.dadd c r
