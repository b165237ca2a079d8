/-! the cells of a TrapdoorVotesModel, made at d: itself, st, now, isKept, draft, tape, downs, downBy, lanes, sizes, cells, before; nh, nm: hands, ministers; y: its other ints by their fields' numbers; z: its longs -/
def mdo (d nh nm : Nat) (y : Nat → Int32) (z : Nat → Int64) : va_W :=
  [(d, .inr (4, [.ref (d + 1), .ref (d + 2), .ref (d + 3), .int (nI nh), .int (nI nm), .ref (d + 4), .int (y 6), .int (y 7), .int (y 8), .int (y 9), .ref (d + 5), .int (y 11), .int (y 12), .int (y 13), .int (y 14), .int (y 15), .int (y 16), .int (y 17), .int (y 18), .int (y 19), .int (y 20), .int (y 21), .long (z 22), .long (z 23), .long (z 24), .ref (d + 6), .ref (d + 7), .ref (d + 8), .ref (d + 9), .ref (d + 10), .int (y 30), .ref (d + 11)]))]
def mda (K : ClassId) (a n : Nat) (f : Nat → Int32) : va_W := [(a, .inl (K, n, .inl f))]
def mds (G : tG) (d nh nm : Nat) (y : Nat → Int32) (z : Nat → Int64) (st nw ik dr tq dn db la si ce be : Nat → Int32) : List va_W :=
  [mdo d nh nm y z, mda (G.2.1 0) (d + 1) 174 st, mda (G.2.1 0) (d + 2) 58 nw, mda (G.2.1 2) (d + 3) 2 ik, mda (G.2.1 0) (d + 4) 58 dr, mda (G.2.1 0) (d + 5) 160 tq, mda (G.2.1 0) (d + 6) 84 dn, mda (G.2.1 0) (d + 7) 84 db, mda (G.2.1 0) (d + 8) 4 la, mda (G.2.1 0) (d + 9) 4 si, mda (G.2.1 0) (d + 10) 160 ce, mda (G.2.1 0) (d + 11) 58 be]
theorem fn_nI {f : Nat → Int32} {i : Nat} (h : i < 2 ^ 31) : f (nI i).toNatClampNeg = f i := by rw [nI_clamp h]
theorem up_nI {f : Nat → Int32} {i : Nat} {x : Int32} (h : i < 2 ^ 31) : upd f (nI i).toNatClampNeg x = upd f i x := by rw [nI_clamp h]
