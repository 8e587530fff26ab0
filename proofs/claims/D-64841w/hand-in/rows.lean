section
/-! the class's methods without a loop, as plain functions of its cells (printed by a program) -/
abbrev fq_A4 : Type := (Nat → Int32) × (Nat → Int32) × (Nat → Int32) × (Nat → Int32)
abbrev fq_A7 : Type := fq_A4 × Int32 × Int32 × Int32
def fq_lowest (p1 : Int32) : Int32 :=
  if (p1 &&& (3 : Int32)) = 0 then
    if (p1 &&& (4 : Int32)) = 0 then
      (3 : Int32)
    else
      (2 : Int32)
  else
    if (p1 &&& (1 : Int32)) = 0 then
      (1 : Int32)
    else
      (0 : Int32)
def fq_highest (p1 : Int32) : Int32 :=
  if (p1 &&& (12 : Int32)) = 0 then
    if (p1 &&& (2 : Int32)) = 0 then
      (0 : Int32)
    else
      (1 : Int32)
  else
    if (p1 &&& (8 : Int32)) = 0 then
      (2 : Int32)
    else
      (3 : Int32)
def fq_putBit (A0 : fq_A4) (p1 p2 : Int32) : fq_A4 :=
  (A0.1, A0.2.1, (upd A0.2.2.1 p1.toNatClampNeg (vp_nar .byte (((A0.2.2.1 p1.toNatClampNeg) ||| ((1 : Int32) <<< ((p2 >>> ((2 : Int32) &&& (31 : Int32))) &&& (31 : Int32)))).toInt8.toInt32))), (upd A0.2.2.2 ((p1 * (4 : Int32)) + (p2 >>> ((2 : Int32) &&& (31 : Int32)))).toNatClampNeg (vp_nar .byte (((A0.2.2.2 ((p1 * (4 : Int32)) + (p2 >>> ((2 : Int32) &&& (31 : Int32)))).toNatClampNeg) ||| ((1 : Int32) <<< ((p2 &&& (3 : Int32)) &&& (31 : Int32)))).toInt8.toInt32))))
def fq_takeBit (A0 : fq_A4) (p1 p2 : Int32) : fq_A4 :=
  if ((upd A0.2.2.2 ((p1 * (4 : Int32)) + (p2 >>> ((2 : Int32) &&& (31 : Int32)))).toNatClampNeg (vp_nar .byte (((A0.2.2.2 ((p1 * (4 : Int32)) + (p2 >>> ((2 : Int32) &&& (31 : Int32)))).toNatClampNeg) &&& (((1 : Int32) <<< ((p2 &&& (3 : Int32)) &&& (31 : Int32))) ^^^ (-1 : Int32))).toInt8.toInt32))) ((p1 * (4 : Int32)) + (p2 >>> ((2 : Int32) &&& (31 : Int32)))).toNatClampNeg) = 0 then
    (A0.1, A0.2.1, (upd A0.2.2.1 p1.toNatClampNeg (vp_nar .byte (((A0.2.2.1 p1.toNatClampNeg) &&& (((1 : Int32) <<< ((p2 >>> ((2 : Int32) &&& (31 : Int32))) &&& (31 : Int32))) ^^^ (-1 : Int32))).toInt8.toInt32))), (upd A0.2.2.2 ((p1 * (4 : Int32)) + (p2 >>> ((2 : Int32) &&& (31 : Int32)))).toNatClampNeg (vp_nar .byte (((A0.2.2.2 ((p1 * (4 : Int32)) + (p2 >>> ((2 : Int32) &&& (31 : Int32)))).toNatClampNeg) &&& (((1 : Int32) <<< ((p2 &&& (3 : Int32)) &&& (31 : Int32))) ^^^ (-1 : Int32))).toInt8.toInt32))))
  else
    (A0.1, A0.2.1, A0.2.2.1, (upd A0.2.2.2 ((p1 * (4 : Int32)) + (p2 >>> ((2 : Int32) &&& (31 : Int32)))).toNatClampNeg (vp_nar .byte (((A0.2.2.2 ((p1 * (4 : Int32)) + (p2 >>> ((2 : Int32) &&& (31 : Int32)))).toNatClampNeg) &&& (((1 : Int32) <<< ((p2 &&& (3 : Int32)) &&& (31 : Int32))) ^^^ (-1 : Int32))).toInt8.toInt32))))
def fq_inCluster (A0 : fq_A4) (p1 p2 : Int32) : Int32 :=
  if (A0.1 p1.toNatClampNeg) = p2 then
    (1 : Int32)
  else
    if (((A0.2.2.2 ((p1 * (4 : Int32)) + (p2 >>> ((2 : Int32) &&& (31 : Int32)))).toNatClampNeg) >>> ((p2 &&& (3 : Int32)) &&& (31 : Int32))) &&& (1 : Int32)) = 0 then
      (0 : Int32)
    else
      (1 : Int32)
def fq_insertInto (A0 : fq_A4) (p1 p2 : Int32) : fq_A4 :=
  if 0 ≤ (A0.1 p1.toNatClampNeg) then
    if (A0.1 p1.toNatClampNeg) ≤ p2 then
      if p2 ≤ (((fq_putBit A0 p1 p2).2.1) p1.toNatClampNeg) then
        (fq_putBit A0 p1 p2)
      else
        ((fq_putBit A0 p1 p2).1, (upd ((fq_putBit A0 p1 p2).2.1) p1.toNatClampNeg (vp_nar .byte p2.toInt8.toInt32)), (fq_putBit A0 p1 p2).2.2.1, (fq_putBit A0 p1 p2).2.2.2)
    else
      if (A0.1 p1.toNatClampNeg) ≤ (((fq_putBit ((upd A0.1 p1.toNatClampNeg (vp_nar .byte p2.toInt8.toInt32)), A0.2.1, A0.2.2.1, A0.2.2.2) p1 (A0.1 p1.toNatClampNeg)).2.1) p1.toNatClampNeg) then
        (fq_putBit ((upd A0.1 p1.toNatClampNeg (vp_nar .byte p2.toInt8.toInt32)), A0.2.1, A0.2.2.1, A0.2.2.2) p1 (A0.1 p1.toNatClampNeg))
      else
        ((fq_putBit ((upd A0.1 p1.toNatClampNeg (vp_nar .byte p2.toInt8.toInt32)), A0.2.1, A0.2.2.1, A0.2.2.2) p1 (A0.1 p1.toNatClampNeg)).1, (upd ((fq_putBit ((upd A0.1 p1.toNatClampNeg (vp_nar .byte p2.toInt8.toInt32)), A0.2.1, A0.2.2.1, A0.2.2.2) p1 (A0.1 p1.toNatClampNeg)).2.1) p1.toNatClampNeg (vp_nar .byte ((A0.1 p1.toNatClampNeg).toInt8.toInt32))), (fq_putBit ((upd A0.1 p1.toNatClampNeg (vp_nar .byte p2.toInt8.toInt32)), A0.2.1, A0.2.2.1, A0.2.2.2) p1 (A0.1 p1.toNatClampNeg)).2.2.1, (fq_putBit ((upd A0.1 p1.toNatClampNeg (vp_nar .byte p2.toInt8.toInt32)), A0.2.1, A0.2.2.1, A0.2.2.2) p1 (A0.1 p1.toNatClampNeg)).2.2.2)
  else
    ((upd A0.1 p1.toNatClampNeg (vp_nar .byte p2.toInt8.toInt32)), (upd A0.2.1 p1.toNatClampNeg (vp_nar .byte p2.toInt8.toInt32)), A0.2.2.1, A0.2.2.2)
def fq_leastInParts (A0 : fq_A4) (p1 : Int32) : Int32 :=
  if (A0.2.2.1 p1.toNatClampNeg) = 0 then
    (-1 : Int32)
  else
    (((4 : Int32) * (fq_lowest (A0.2.2.1 p1.toNatClampNeg))) + (fq_lowest (A0.2.2.2 ((p1 * (4 : Int32)) + (fq_lowest (A0.2.2.1 p1.toNatClampNeg))).toNatClampNeg)))
def fq_greatestInParts (A0 : fq_A4) (p1 : Int32) : Int32 :=
  if (A0.2.2.1 p1.toNatClampNeg) = 0 then
    (-1 : Int32)
  else
    (((4 : Int32) * (fq_highest (A0.2.2.1 p1.toNatClampNeg))) + (fq_highest (A0.2.2.2 ((p1 * (4 : Int32)) + (fq_highest (A0.2.2.1 p1.toNatClampNeg))).toNatClampNeg)))
def fq_deleteFrom (A0 : fq_A4) (p1 p2 : Int32) : fq_A4 :=
  if p2 = (A0.1 p1.toNatClampNeg) then
    if (fq_leastInParts A0 p1) < 0 then
      if (fq_greatestInParts ((upd A0.1 p1.toNatClampNeg (vp_nar .byte ((fq_leastInParts A0 p1).toInt8.toInt32))), A0.2.1, A0.2.2.1, A0.2.2.2) p1) < 0 then
        ((upd A0.1 p1.toNatClampNeg (vp_nar .byte ((fq_leastInParts A0 p1).toInt8.toInt32))), (upd A0.2.1 p1.toNatClampNeg (vp_nar .byte (((upd A0.1 p1.toNatClampNeg (vp_nar .byte ((fq_leastInParts A0 p1).toInt8.toInt32))) p1.toNatClampNeg).toInt8.toInt32))), A0.2.2.1, A0.2.2.2)
      else
        ((upd A0.1 p1.toNatClampNeg (vp_nar .byte ((fq_leastInParts A0 p1).toInt8.toInt32))), (upd A0.2.1 p1.toNatClampNeg (vp_nar .byte ((fq_greatestInParts ((upd A0.1 p1.toNatClampNeg (vp_nar .byte ((fq_leastInParts A0 p1).toInt8.toInt32))), A0.2.1, A0.2.2.1, A0.2.2.2) p1).toInt8.toInt32))), A0.2.2.1, A0.2.2.2)
    else
      if (fq_greatestInParts (fq_takeBit ((upd A0.1 p1.toNatClampNeg (vp_nar .byte ((fq_leastInParts A0 p1).toInt8.toInt32))), A0.2.1, A0.2.2.1, A0.2.2.2) p1 (fq_leastInParts A0 p1)) p1) < 0 then
        ((fq_takeBit ((upd A0.1 p1.toNatClampNeg (vp_nar .byte ((fq_leastInParts A0 p1).toInt8.toInt32))), A0.2.1, A0.2.2.1, A0.2.2.2) p1 (fq_leastInParts A0 p1)).1, (upd ((fq_takeBit ((upd A0.1 p1.toNatClampNeg (vp_nar .byte ((fq_leastInParts A0 p1).toInt8.toInt32))), A0.2.1, A0.2.2.1, A0.2.2.2) p1 (fq_leastInParts A0 p1)).2.1) p1.toNatClampNeg (vp_nar .byte ((((fq_takeBit ((upd A0.1 p1.toNatClampNeg (vp_nar .byte ((fq_leastInParts A0 p1).toInt8.toInt32))), A0.2.1, A0.2.2.1, A0.2.2.2) p1 (fq_leastInParts A0 p1)).1) p1.toNatClampNeg).toInt8.toInt32))), (fq_takeBit ((upd A0.1 p1.toNatClampNeg (vp_nar .byte ((fq_leastInParts A0 p1).toInt8.toInt32))), A0.2.1, A0.2.2.1, A0.2.2.2) p1 (fq_leastInParts A0 p1)).2.2.1, (fq_takeBit ((upd A0.1 p1.toNatClampNeg (vp_nar .byte ((fq_leastInParts A0 p1).toInt8.toInt32))), A0.2.1, A0.2.2.1, A0.2.2.2) p1 (fq_leastInParts A0 p1)).2.2.2)
      else
        ((fq_takeBit ((upd A0.1 p1.toNatClampNeg (vp_nar .byte ((fq_leastInParts A0 p1).toInt8.toInt32))), A0.2.1, A0.2.2.1, A0.2.2.2) p1 (fq_leastInParts A0 p1)).1, (upd ((fq_takeBit ((upd A0.1 p1.toNatClampNeg (vp_nar .byte ((fq_leastInParts A0 p1).toInt8.toInt32))), A0.2.1, A0.2.2.1, A0.2.2.2) p1 (fq_leastInParts A0 p1)).2.1) p1.toNatClampNeg (vp_nar .byte ((fq_greatestInParts (fq_takeBit ((upd A0.1 p1.toNatClampNeg (vp_nar .byte ((fq_leastInParts A0 p1).toInt8.toInt32))), A0.2.1, A0.2.2.1, A0.2.2.2) p1 (fq_leastInParts A0 p1)) p1).toInt8.toInt32))), (fq_takeBit ((upd A0.1 p1.toNatClampNeg (vp_nar .byte ((fq_leastInParts A0 p1).toInt8.toInt32))), A0.2.1, A0.2.2.1, A0.2.2.2) p1 (fq_leastInParts A0 p1)).2.2.1, (fq_takeBit ((upd A0.1 p1.toNatClampNeg (vp_nar .byte ((fq_leastInParts A0 p1).toInt8.toInt32))), A0.2.1, A0.2.2.1, A0.2.2.2) p1 (fq_leastInParts A0 p1)).2.2.2)
  else
    if p2 < 0 then
      if (fq_greatestInParts A0 p1) < 0 then
        (A0.1, (upd A0.2.1 p1.toNatClampNeg (vp_nar .byte ((A0.1 p1.toNatClampNeg).toInt8.toInt32))), A0.2.2.1, A0.2.2.2)
      else
        (A0.1, (upd A0.2.1 p1.toNatClampNeg (vp_nar .byte ((fq_greatestInParts A0 p1).toInt8.toInt32))), A0.2.2.1, A0.2.2.2)
    else
      if (fq_greatestInParts (fq_takeBit A0 p1 p2) p1) < 0 then
        ((fq_takeBit A0 p1 p2).1, (upd ((fq_takeBit A0 p1 p2).2.1) p1.toNatClampNeg (vp_nar .byte ((((fq_takeBit A0 p1 p2).1) p1.toNatClampNeg).toInt8.toInt32))), (fq_takeBit A0 p1 p2).2.2.1, (fq_takeBit A0 p1 p2).2.2.2)
      else
        ((fq_takeBit A0 p1 p2).1, (upd ((fq_takeBit A0 p1 p2).2.1) p1.toNatClampNeg (vp_nar .byte ((fq_greatestInParts (fq_takeBit A0 p1 p2) p1).toInt8.toInt32))), (fq_takeBit A0 p1 p2).2.2.1, (fq_takeBit A0 p1 p2).2.2.2)
def fq_afterIn (A0 : fq_A4) (p1 p2 : Int32) : Int32 :=
  if (A0.1 p1.toNatClampNeg) ≤ p2 then
    if p2 < (A0.2.1 p1.toNatClampNeg) then
      if (((A0.2.2.2 ((p1 * (4 : Int32)) + (p2 >>> ((2 : Int32) &&& (31 : Int32)))).toNatClampNeg) &&& ((14 : Int32) <<< ((p2 &&& (3 : Int32)) &&& (31 : Int32)))) &&& (15 : Int32)) = 0 then
        (((4 : Int32) * (fq_lowest (((A0.2.2.1 p1.toNatClampNeg) &&& ((14 : Int32) <<< ((p2 >>> ((2 : Int32) &&& (31 : Int32))) &&& (31 : Int32)))) &&& (15 : Int32)))) + (fq_lowest (A0.2.2.2 ((p1 * (4 : Int32)) + (fq_lowest (((A0.2.2.1 p1.toNatClampNeg) &&& ((14 : Int32) <<< ((p2 >>> ((2 : Int32) &&& (31 : Int32))) &&& (31 : Int32)))) &&& (15 : Int32)))).toNatClampNeg)))
      else
        (((4 : Int32) * (p2 >>> ((2 : Int32) &&& (31 : Int32)))) + (fq_lowest (((A0.2.2.2 ((p1 * (4 : Int32)) + (p2 >>> ((2 : Int32) &&& (31 : Int32)))).toNatClampNeg) &&& ((14 : Int32) <<< ((p2 &&& (3 : Int32)) &&& (31 : Int32)))) &&& (15 : Int32))))
    else
      (-1 : Int32)
  else
    (A0.1 p1.toNatClampNeg)
def fq_beforeIn (A0 : fq_A4) (p1 p2 : Int32) : Int32 :=
  if (A0.1 p1.toNatClampNeg) < 0 then
    (-1 : Int32)
  else
    if (A0.1 p1.toNatClampNeg) < p2 then
      if p2 ≤ (A0.2.1 p1.toNatClampNeg) then
        if ((A0.2.2.2 ((p1 * (4 : Int32)) + (p2 >>> ((2 : Int32) &&& (31 : Int32)))).toNatClampNeg) &&& (((1 : Int32) <<< ((p2 &&& (3 : Int32)) &&& (31 : Int32))) - (1 : Int32))) = 0 then
          if ((A0.2.2.1 p1.toNatClampNeg) &&& (((1 : Int32) <<< ((p2 >>> ((2 : Int32) &&& (31 : Int32))) &&& (31 : Int32))) - (1 : Int32))) = 0 then
            (A0.1 p1.toNatClampNeg)
          else
            (((4 : Int32) * (fq_highest ((A0.2.2.1 p1.toNatClampNeg) &&& (((1 : Int32) <<< ((p2 >>> ((2 : Int32) &&& (31 : Int32))) &&& (31 : Int32))) - (1 : Int32))))) + (fq_highest (A0.2.2.2 ((p1 * (4 : Int32)) + (fq_highest ((A0.2.2.1 p1.toNatClampNeg) &&& (((1 : Int32) <<< ((p2 >>> ((2 : Int32) &&& (31 : Int32))) &&& (31 : Int32))) - (1 : Int32))))).toNatClampNeg)))
        else
          (((4 : Int32) * (p2 >>> ((2 : Int32) &&& (31 : Int32)))) + (fq_highest ((A0.2.2.2 ((p1 * (4 : Int32)) + (p2 >>> ((2 : Int32) &&& (31 : Int32)))).toNatClampNeg) &&& (((1 : Int32) <<< ((p2 &&& (3 : Int32)) &&& (31 : Int32))) - (1 : Int32)))))
      else
        (A0.2.1 p1.toNatClampNeg)
    else
      (-1 : Int32)
def fq_member (A0 : fq_A4) (mi mx ct : Int32) (p1 : Int32) : Int32 :=
  if p1 < 0 then
    (0 : Int32)
  else
    if (256 : Int32) ≤ p1 then
      (0 : Int32)
    else
      if p1 = mi then
        (1 : Int32)
      else
        if (fq_inCluster A0 (p1 >>> ((4 : Int32) &&& (31 : Int32))) (p1 &&& (15 : Int32))) = 0 then
          (0 : Int32)
        else
          (1 : Int32)
def fq_size (A0 : fq_A4) (mi mx ct : Int32) : Int32 :=
  ct
def fq_least (A0 : fq_A4) (mi mx ct : Int32) : Int32 :=
  mi
def fq_greatest (A0 : fq_A4) (mi mx ct : Int32) : Int32 :=
  mx
def fq_insertR (A0 : fq_A4) (mi mx ct : Int32) (p1 : Int32) : Int32 :=
  if p1 < 0 then
    (0 : Int32)
  else
    if (256 : Int32) ≤ p1 then
      (0 : Int32)
    else
      if (fq_member A0 mi mx ct p1) = 0 then
        if 0 ≤ mi then
          if mi ≤ p1 then
            if 0 ≤ (A0.1 (p1 >>> ((4 : Int32) &&& (31 : Int32))).toNatClampNeg) then
              if p1 ≤ mx then
                (1 : Int32)
              else
                (1 : Int32)
            else
              if p1 ≤ mx then
                (1 : Int32)
              else
                (1 : Int32)
          else
            if 0 ≤ (A0.1 (mi >>> ((4 : Int32) &&& (31 : Int32))).toNatClampNeg) then
              if mi ≤ mx then
                (1 : Int32)
              else
                (1 : Int32)
            else
              if mi ≤ mx then
                (1 : Int32)
              else
                (1 : Int32)
        else
          (1 : Int32)
      else
        (0 : Int32)
def fq_insertU (A0 : fq_A4) (mi mx ct : Int32) (p1 : Int32) : fq_A7 :=
  if p1 < 0 then
    (A0, mi, mx, ct)
  else
    if (256 : Int32) ≤ p1 then
      (A0, mi, mx, ct)
    else
      if (fq_member A0 mi mx ct p1) = 0 then
        if 0 ≤ mi then
          if mi ≤ p1 then
            if 0 ≤ (A0.1 (p1 >>> ((4 : Int32) &&& (31 : Int32))).toNatClampNeg) then
              if p1 ≤ mx then
                ((fq_insertInto A0 (p1 >>> ((4 : Int32) &&& (31 : Int32))) (p1 &&& (15 : Int32))), mi, mx, (ct + (1 : Int32)))
              else
                ((fq_insertInto A0 (p1 >>> ((4 : Int32) &&& (31 : Int32))) (p1 &&& (15 : Int32))), mi, p1, (ct + (1 : Int32)))
            else
              if p1 ≤ mx then
                ((fq_insertInto (fq_insertInto A0 (16 : Int32) (p1 >>> ((4 : Int32) &&& (31 : Int32)))) (p1 >>> ((4 : Int32) &&& (31 : Int32))) (p1 &&& (15 : Int32))), mi, mx, (ct + (1 : Int32)))
              else
                ((fq_insertInto (fq_insertInto A0 (16 : Int32) (p1 >>> ((4 : Int32) &&& (31 : Int32)))) (p1 >>> ((4 : Int32) &&& (31 : Int32))) (p1 &&& (15 : Int32))), mi, p1, (ct + (1 : Int32)))
          else
            if 0 ≤ (A0.1 (mi >>> ((4 : Int32) &&& (31 : Int32))).toNatClampNeg) then
              if mi ≤ mx then
                ((fq_insertInto A0 (mi >>> ((4 : Int32) &&& (31 : Int32))) (mi &&& (15 : Int32))), p1, mx, (ct + (1 : Int32)))
              else
                ((fq_insertInto A0 (mi >>> ((4 : Int32) &&& (31 : Int32))) (mi &&& (15 : Int32))), p1, mi, (ct + (1 : Int32)))
            else
              if mi ≤ mx then
                ((fq_insertInto (fq_insertInto A0 (16 : Int32) (mi >>> ((4 : Int32) &&& (31 : Int32)))) (mi >>> ((4 : Int32) &&& (31 : Int32))) (mi &&& (15 : Int32))), p1, mx, (ct + (1 : Int32)))
              else
                ((fq_insertInto (fq_insertInto A0 (16 : Int32) (mi >>> ((4 : Int32) &&& (31 : Int32)))) (mi >>> ((4 : Int32) &&& (31 : Int32))) (mi &&& (15 : Int32))), p1, mi, (ct + (1 : Int32)))
        else
          (A0, p1, p1, (ct + (1 : Int32)))
      else
        (A0, mi, mx, ct)
def fq_deleteR (A0 : fq_A4) (mi mx ct : Int32) (p1 : Int32) : Int32 :=
  if (fq_member A0 mi mx ct p1) = 0 then
    (0 : Int32)
  else
    if p1 = mi then
      if 0 ≤ (A0.1 (16 : Int32).toNatClampNeg) then
        if (((16 : Int32) * (A0.1 (16 : Int32).toNatClampNeg)) + (A0.1 (A0.1 (16 : Int32).toNatClampNeg).toNatClampNeg)) < 0 then
          if 0 ≤ (A0.2.1 (16 : Int32).toNatClampNeg) then
            (1 : Int32)
          else
            (1 : Int32)
        else
          if 0 ≤ (((fq_deleteFrom A0 ((((16 : Int32) * (A0.1 (16 : Int32).toNatClampNeg)) + (A0.1 (A0.1 (16 : Int32).toNatClampNeg).toNatClampNeg)) >>> ((4 : Int32) &&& (31 : Int32))) ((((16 : Int32) * (A0.1 (16 : Int32).toNatClampNeg)) + (A0.1 (A0.1 (16 : Int32).toNatClampNeg).toNatClampNeg)) &&& (15 : Int32))).1) ((((16 : Int32) * (A0.1 (16 : Int32).toNatClampNeg)) + (A0.1 (A0.1 (16 : Int32).toNatClampNeg).toNatClampNeg)) >>> ((4 : Int32) &&& (31 : Int32))).toNatClampNeg) then
            if 0 ≤ (((fq_deleteFrom A0 ((((16 : Int32) * (A0.1 (16 : Int32).toNatClampNeg)) + (A0.1 (A0.1 (16 : Int32).toNatClampNeg).toNatClampNeg)) >>> ((4 : Int32) &&& (31 : Int32))) ((((16 : Int32) * (A0.1 (16 : Int32).toNatClampNeg)) + (A0.1 (A0.1 (16 : Int32).toNatClampNeg).toNatClampNeg)) &&& (15 : Int32))).2.1) (16 : Int32).toNatClampNeg) then
              (1 : Int32)
            else
              (1 : Int32)
          else
            if 0 ≤ (((fq_deleteFrom (fq_deleteFrom A0 ((((16 : Int32) * (A0.1 (16 : Int32).toNatClampNeg)) + (A0.1 (A0.1 (16 : Int32).toNatClampNeg).toNatClampNeg)) >>> ((4 : Int32) &&& (31 : Int32))) ((((16 : Int32) * (A0.1 (16 : Int32).toNatClampNeg)) + (A0.1 (A0.1 (16 : Int32).toNatClampNeg).toNatClampNeg)) &&& (15 : Int32))) (16 : Int32) ((((16 : Int32) * (A0.1 (16 : Int32).toNatClampNeg)) + (A0.1 (A0.1 (16 : Int32).toNatClampNeg).toNatClampNeg)) >>> ((4 : Int32) &&& (31 : Int32)))).2.1) (16 : Int32).toNatClampNeg) then
              (1 : Int32)
            else
              (1 : Int32)
      else
        if 0 ≤ (A0.2.1 (16 : Int32).toNatClampNeg) then
          (1 : Int32)
        else
          (1 : Int32)
    else
      if p1 < 0 then
        if 0 ≤ (A0.2.1 (16 : Int32).toNatClampNeg) then
          (1 : Int32)
        else
          (1 : Int32)
      else
        if 0 ≤ (((fq_deleteFrom A0 (p1 >>> ((4 : Int32) &&& (31 : Int32))) (p1 &&& (15 : Int32))).1) (p1 >>> ((4 : Int32) &&& (31 : Int32))).toNatClampNeg) then
          if 0 ≤ (((fq_deleteFrom A0 (p1 >>> ((4 : Int32) &&& (31 : Int32))) (p1 &&& (15 : Int32))).2.1) (16 : Int32).toNatClampNeg) then
            (1 : Int32)
          else
            (1 : Int32)
        else
          if 0 ≤ (((fq_deleteFrom (fq_deleteFrom A0 (p1 >>> ((4 : Int32) &&& (31 : Int32))) (p1 &&& (15 : Int32))) (16 : Int32) (p1 >>> ((4 : Int32) &&& (31 : Int32)))).2.1) (16 : Int32).toNatClampNeg) then
            (1 : Int32)
          else
            (1 : Int32)
def fq_deleteU (A0 : fq_A4) (mi mx ct : Int32) (p1 : Int32) : fq_A7 :=
  if (fq_member A0 mi mx ct p1) = 0 then
    (A0, mi, mx, ct)
  else
    if p1 = mi then
      if 0 ≤ (A0.1 (16 : Int32).toNatClampNeg) then
        if (((16 : Int32) * (A0.1 (16 : Int32).toNatClampNeg)) + (A0.1 (A0.1 (16 : Int32).toNatClampNeg).toNatClampNeg)) < 0 then
          if 0 ≤ (A0.2.1 (16 : Int32).toNatClampNeg) then
            (A0, (((16 : Int32) * (A0.1 (16 : Int32).toNatClampNeg)) + (A0.1 (A0.1 (16 : Int32).toNatClampNeg).toNatClampNeg)), (((16 : Int32) * (A0.2.1 (16 : Int32).toNatClampNeg)) + (A0.2.1 (A0.2.1 (16 : Int32).toNatClampNeg).toNatClampNeg)), (ct - (1 : Int32)))
          else
            (A0, (((16 : Int32) * (A0.1 (16 : Int32).toNatClampNeg)) + (A0.1 (A0.1 (16 : Int32).toNatClampNeg).toNatClampNeg)), (((16 : Int32) * (A0.1 (16 : Int32).toNatClampNeg)) + (A0.1 (A0.1 (16 : Int32).toNatClampNeg).toNatClampNeg)), (ct - (1 : Int32)))
        else
          if 0 ≤ (((fq_deleteFrom A0 ((((16 : Int32) * (A0.1 (16 : Int32).toNatClampNeg)) + (A0.1 (A0.1 (16 : Int32).toNatClampNeg).toNatClampNeg)) >>> ((4 : Int32) &&& (31 : Int32))) ((((16 : Int32) * (A0.1 (16 : Int32).toNatClampNeg)) + (A0.1 (A0.1 (16 : Int32).toNatClampNeg).toNatClampNeg)) &&& (15 : Int32))).1) ((((16 : Int32) * (A0.1 (16 : Int32).toNatClampNeg)) + (A0.1 (A0.1 (16 : Int32).toNatClampNeg).toNatClampNeg)) >>> ((4 : Int32) &&& (31 : Int32))).toNatClampNeg) then
            if 0 ≤ (((fq_deleteFrom A0 ((((16 : Int32) * (A0.1 (16 : Int32).toNatClampNeg)) + (A0.1 (A0.1 (16 : Int32).toNatClampNeg).toNatClampNeg)) >>> ((4 : Int32) &&& (31 : Int32))) ((((16 : Int32) * (A0.1 (16 : Int32).toNatClampNeg)) + (A0.1 (A0.1 (16 : Int32).toNatClampNeg).toNatClampNeg)) &&& (15 : Int32))).2.1) (16 : Int32).toNatClampNeg) then
              ((fq_deleteFrom A0 ((((16 : Int32) * (A0.1 (16 : Int32).toNatClampNeg)) + (A0.1 (A0.1 (16 : Int32).toNatClampNeg).toNatClampNeg)) >>> ((4 : Int32) &&& (31 : Int32))) ((((16 : Int32) * (A0.1 (16 : Int32).toNatClampNeg)) + (A0.1 (A0.1 (16 : Int32).toNatClampNeg).toNatClampNeg)) &&& (15 : Int32))), (((16 : Int32) * (A0.1 (16 : Int32).toNatClampNeg)) + (A0.1 (A0.1 (16 : Int32).toNatClampNeg).toNatClampNeg)), (((16 : Int32) * (((fq_deleteFrom A0 ((((16 : Int32) * (A0.1 (16 : Int32).toNatClampNeg)) + (A0.1 (A0.1 (16 : Int32).toNatClampNeg).toNatClampNeg)) >>> ((4 : Int32) &&& (31 : Int32))) ((((16 : Int32) * (A0.1 (16 : Int32).toNatClampNeg)) + (A0.1 (A0.1 (16 : Int32).toNatClampNeg).toNatClampNeg)) &&& (15 : Int32))).2.1) (16 : Int32).toNatClampNeg)) + (((fq_deleteFrom A0 ((((16 : Int32) * (A0.1 (16 : Int32).toNatClampNeg)) + (A0.1 (A0.1 (16 : Int32).toNatClampNeg).toNatClampNeg)) >>> ((4 : Int32) &&& (31 : Int32))) ((((16 : Int32) * (A0.1 (16 : Int32).toNatClampNeg)) + (A0.1 (A0.1 (16 : Int32).toNatClampNeg).toNatClampNeg)) &&& (15 : Int32))).2.1) (((fq_deleteFrom A0 ((((16 : Int32) * (A0.1 (16 : Int32).toNatClampNeg)) + (A0.1 (A0.1 (16 : Int32).toNatClampNeg).toNatClampNeg)) >>> ((4 : Int32) &&& (31 : Int32))) ((((16 : Int32) * (A0.1 (16 : Int32).toNatClampNeg)) + (A0.1 (A0.1 (16 : Int32).toNatClampNeg).toNatClampNeg)) &&& (15 : Int32))).2.1) (16 : Int32).toNatClampNeg).toNatClampNeg)), (ct - (1 : Int32)))
            else
              ((fq_deleteFrom A0 ((((16 : Int32) * (A0.1 (16 : Int32).toNatClampNeg)) + (A0.1 (A0.1 (16 : Int32).toNatClampNeg).toNatClampNeg)) >>> ((4 : Int32) &&& (31 : Int32))) ((((16 : Int32) * (A0.1 (16 : Int32).toNatClampNeg)) + (A0.1 (A0.1 (16 : Int32).toNatClampNeg).toNatClampNeg)) &&& (15 : Int32))), (((16 : Int32) * (A0.1 (16 : Int32).toNatClampNeg)) + (A0.1 (A0.1 (16 : Int32).toNatClampNeg).toNatClampNeg)), (((16 : Int32) * (A0.1 (16 : Int32).toNatClampNeg)) + (A0.1 (A0.1 (16 : Int32).toNatClampNeg).toNatClampNeg)), (ct - (1 : Int32)))
          else
            if 0 ≤ (((fq_deleteFrom (fq_deleteFrom A0 ((((16 : Int32) * (A0.1 (16 : Int32).toNatClampNeg)) + (A0.1 (A0.1 (16 : Int32).toNatClampNeg).toNatClampNeg)) >>> ((4 : Int32) &&& (31 : Int32))) ((((16 : Int32) * (A0.1 (16 : Int32).toNatClampNeg)) + (A0.1 (A0.1 (16 : Int32).toNatClampNeg).toNatClampNeg)) &&& (15 : Int32))) (16 : Int32) ((((16 : Int32) * (A0.1 (16 : Int32).toNatClampNeg)) + (A0.1 (A0.1 (16 : Int32).toNatClampNeg).toNatClampNeg)) >>> ((4 : Int32) &&& (31 : Int32)))).2.1) (16 : Int32).toNatClampNeg) then
              ((fq_deleteFrom (fq_deleteFrom A0 ((((16 : Int32) * (A0.1 (16 : Int32).toNatClampNeg)) + (A0.1 (A0.1 (16 : Int32).toNatClampNeg).toNatClampNeg)) >>> ((4 : Int32) &&& (31 : Int32))) ((((16 : Int32) * (A0.1 (16 : Int32).toNatClampNeg)) + (A0.1 (A0.1 (16 : Int32).toNatClampNeg).toNatClampNeg)) &&& (15 : Int32))) (16 : Int32) ((((16 : Int32) * (A0.1 (16 : Int32).toNatClampNeg)) + (A0.1 (A0.1 (16 : Int32).toNatClampNeg).toNatClampNeg)) >>> ((4 : Int32) &&& (31 : Int32)))), (((16 : Int32) * (A0.1 (16 : Int32).toNatClampNeg)) + (A0.1 (A0.1 (16 : Int32).toNatClampNeg).toNatClampNeg)), (((16 : Int32) * (((fq_deleteFrom (fq_deleteFrom A0 ((((16 : Int32) * (A0.1 (16 : Int32).toNatClampNeg)) + (A0.1 (A0.1 (16 : Int32).toNatClampNeg).toNatClampNeg)) >>> ((4 : Int32) &&& (31 : Int32))) ((((16 : Int32) * (A0.1 (16 : Int32).toNatClampNeg)) + (A0.1 (A0.1 (16 : Int32).toNatClampNeg).toNatClampNeg)) &&& (15 : Int32))) (16 : Int32) ((((16 : Int32) * (A0.1 (16 : Int32).toNatClampNeg)) + (A0.1 (A0.1 (16 : Int32).toNatClampNeg).toNatClampNeg)) >>> ((4 : Int32) &&& (31 : Int32)))).2.1) (16 : Int32).toNatClampNeg)) + (((fq_deleteFrom (fq_deleteFrom A0 ((((16 : Int32) * (A0.1 (16 : Int32).toNatClampNeg)) + (A0.1 (A0.1 (16 : Int32).toNatClampNeg).toNatClampNeg)) >>> ((4 : Int32) &&& (31 : Int32))) ((((16 : Int32) * (A0.1 (16 : Int32).toNatClampNeg)) + (A0.1 (A0.1 (16 : Int32).toNatClampNeg).toNatClampNeg)) &&& (15 : Int32))) (16 : Int32) ((((16 : Int32) * (A0.1 (16 : Int32).toNatClampNeg)) + (A0.1 (A0.1 (16 : Int32).toNatClampNeg).toNatClampNeg)) >>> ((4 : Int32) &&& (31 : Int32)))).2.1) (((fq_deleteFrom (fq_deleteFrom A0 ((((16 : Int32) * (A0.1 (16 : Int32).toNatClampNeg)) + (A0.1 (A0.1 (16 : Int32).toNatClampNeg).toNatClampNeg)) >>> ((4 : Int32) &&& (31 : Int32))) ((((16 : Int32) * (A0.1 (16 : Int32).toNatClampNeg)) + (A0.1 (A0.1 (16 : Int32).toNatClampNeg).toNatClampNeg)) &&& (15 : Int32))) (16 : Int32) ((((16 : Int32) * (A0.1 (16 : Int32).toNatClampNeg)) + (A0.1 (A0.1 (16 : Int32).toNatClampNeg).toNatClampNeg)) >>> ((4 : Int32) &&& (31 : Int32)))).2.1) (16 : Int32).toNatClampNeg).toNatClampNeg)), (ct - (1 : Int32)))
            else
              ((fq_deleteFrom (fq_deleteFrom A0 ((((16 : Int32) * (A0.1 (16 : Int32).toNatClampNeg)) + (A0.1 (A0.1 (16 : Int32).toNatClampNeg).toNatClampNeg)) >>> ((4 : Int32) &&& (31 : Int32))) ((((16 : Int32) * (A0.1 (16 : Int32).toNatClampNeg)) + (A0.1 (A0.1 (16 : Int32).toNatClampNeg).toNatClampNeg)) &&& (15 : Int32))) (16 : Int32) ((((16 : Int32) * (A0.1 (16 : Int32).toNatClampNeg)) + (A0.1 (A0.1 (16 : Int32).toNatClampNeg).toNatClampNeg)) >>> ((4 : Int32) &&& (31 : Int32)))), (((16 : Int32) * (A0.1 (16 : Int32).toNatClampNeg)) + (A0.1 (A0.1 (16 : Int32).toNatClampNeg).toNatClampNeg)), (((16 : Int32) * (A0.1 (16 : Int32).toNatClampNeg)) + (A0.1 (A0.1 (16 : Int32).toNatClampNeg).toNatClampNeg)), (ct - (1 : Int32)))
      else
        if 0 ≤ (A0.2.1 (16 : Int32).toNatClampNeg) then
          (A0, (-1 : Int32), (((16 : Int32) * (A0.2.1 (16 : Int32).toNatClampNeg)) + (A0.2.1 (A0.2.1 (16 : Int32).toNatClampNeg).toNatClampNeg)), (ct - (1 : Int32)))
        else
          (A0, (-1 : Int32), (-1 : Int32), (ct - (1 : Int32)))
    else
      if p1 < 0 then
        if 0 ≤ (A0.2.1 (16 : Int32).toNatClampNeg) then
          (A0, mi, (((16 : Int32) * (A0.2.1 (16 : Int32).toNatClampNeg)) + (A0.2.1 (A0.2.1 (16 : Int32).toNatClampNeg).toNatClampNeg)), (ct - (1 : Int32)))
        else
          (A0, mi, mi, (ct - (1 : Int32)))
      else
        if 0 ≤ (((fq_deleteFrom A0 (p1 >>> ((4 : Int32) &&& (31 : Int32))) (p1 &&& (15 : Int32))).1) (p1 >>> ((4 : Int32) &&& (31 : Int32))).toNatClampNeg) then
          if 0 ≤ (((fq_deleteFrom A0 (p1 >>> ((4 : Int32) &&& (31 : Int32))) (p1 &&& (15 : Int32))).2.1) (16 : Int32).toNatClampNeg) then
            ((fq_deleteFrom A0 (p1 >>> ((4 : Int32) &&& (31 : Int32))) (p1 &&& (15 : Int32))), mi, (((16 : Int32) * (((fq_deleteFrom A0 (p1 >>> ((4 : Int32) &&& (31 : Int32))) (p1 &&& (15 : Int32))).2.1) (16 : Int32).toNatClampNeg)) + (((fq_deleteFrom A0 (p1 >>> ((4 : Int32) &&& (31 : Int32))) (p1 &&& (15 : Int32))).2.1) (((fq_deleteFrom A0 (p1 >>> ((4 : Int32) &&& (31 : Int32))) (p1 &&& (15 : Int32))).2.1) (16 : Int32).toNatClampNeg).toNatClampNeg)), (ct - (1 : Int32)))
          else
            ((fq_deleteFrom A0 (p1 >>> ((4 : Int32) &&& (31 : Int32))) (p1 &&& (15 : Int32))), mi, mi, (ct - (1 : Int32)))
        else
          if 0 ≤ (((fq_deleteFrom (fq_deleteFrom A0 (p1 >>> ((4 : Int32) &&& (31 : Int32))) (p1 &&& (15 : Int32))) (16 : Int32) (p1 >>> ((4 : Int32) &&& (31 : Int32)))).2.1) (16 : Int32).toNatClampNeg) then
            ((fq_deleteFrom (fq_deleteFrom A0 (p1 >>> ((4 : Int32) &&& (31 : Int32))) (p1 &&& (15 : Int32))) (16 : Int32) (p1 >>> ((4 : Int32) &&& (31 : Int32)))), mi, (((16 : Int32) * (((fq_deleteFrom (fq_deleteFrom A0 (p1 >>> ((4 : Int32) &&& (31 : Int32))) (p1 &&& (15 : Int32))) (16 : Int32) (p1 >>> ((4 : Int32) &&& (31 : Int32)))).2.1) (16 : Int32).toNatClampNeg)) + (((fq_deleteFrom (fq_deleteFrom A0 (p1 >>> ((4 : Int32) &&& (31 : Int32))) (p1 &&& (15 : Int32))) (16 : Int32) (p1 >>> ((4 : Int32) &&& (31 : Int32)))).2.1) (((fq_deleteFrom (fq_deleteFrom A0 (p1 >>> ((4 : Int32) &&& (31 : Int32))) (p1 &&& (15 : Int32))) (16 : Int32) (p1 >>> ((4 : Int32) &&& (31 : Int32)))).2.1) (16 : Int32).toNatClampNeg).toNatClampNeg)), (ct - (1 : Int32)))
          else
            ((fq_deleteFrom (fq_deleteFrom A0 (p1 >>> ((4 : Int32) &&& (31 : Int32))) (p1 &&& (15 : Int32))) (16 : Int32) (p1 >>> ((4 : Int32) &&& (31 : Int32)))), mi, mi, (ct - (1 : Int32)))
def fq_after (A0 : fq_A4) (mi mx ct : Int32) (p1 : Int32) : Int32 :=
  if mi < 0 then
    (-1 : Int32)
  else
    if p1 < mx then
      if mi ≤ p1 then
        if (fq_afterIn A0 (p1 >>> ((4 : Int32) &&& (31 : Int32))) (p1 &&& (15 : Int32))) < 0 then
          (((16 : Int32) * (fq_afterIn A0 (16 : Int32) (p1 >>> ((4 : Int32) &&& (31 : Int32))))) + (A0.1 (fq_afterIn A0 (16 : Int32) (p1 >>> ((4 : Int32) &&& (31 : Int32)))).toNatClampNeg))
        else
          (((16 : Int32) * (p1 >>> ((4 : Int32) &&& (31 : Int32)))) + (fq_afterIn A0 (p1 >>> ((4 : Int32) &&& (31 : Int32))) (p1 &&& (15 : Int32))))
      else
        mi
    else
      (-1 : Int32)
def fq_before (A0 : fq_A4) (mi mx ct : Int32) (p1 : Int32) : Int32 :=
  if mi < 0 then
    (-1 : Int32)
  else
    if mi < p1 then
      if p1 ≤ mx then
        if (fq_beforeIn A0 (p1 >>> ((4 : Int32) &&& (31 : Int32))) (p1 &&& (15 : Int32))) < 0 then
          if 0 ≤ (fq_beforeIn A0 (16 : Int32) (p1 >>> ((4 : Int32) &&& (31 : Int32)))) then
            (((16 : Int32) * (fq_beforeIn A0 (16 : Int32) (p1 >>> ((4 : Int32) &&& (31 : Int32))))) + (A0.2.1 (fq_beforeIn A0 (16 : Int32) (p1 >>> ((4 : Int32) &&& (31 : Int32)))).toNatClampNeg))
          else
            mi
        else
          (((16 : Int32) * (p1 >>> ((4 : Int32) &&& (31 : Int32)))) + (fq_beforeIn A0 (p1 >>> ((4 : Int32) &&& (31 : Int32))) (p1 &&& (15 : Int32))))
      else
        mx
    else
      (-1 : Int32)
def fq_takeLeastR (A0 : fq_A4) (mi mx ct : Int32) : Int32 :=
  if (fq_deleteR A0 mi mx ct mi) = 0 then
    (-1 : Int32)
  else
    mi
def fq_takeLeastU (A0 : fq_A4) (mi mx ct : Int32) : fq_A7 :=
  if (fq_deleteR A0 mi mx ct mi) = 0 then
    ((fq_deleteU A0 mi mx ct mi).1, (fq_deleteU A0 mi mx ct mi).2.1, (fq_deleteU A0 mi mx ct mi).2.2.1, (fq_deleteU A0 mi mx ct mi).2.2.2)
  else
    ((fq_deleteU A0 mi mx ct mi).1, (fq_deleteU A0 mi mx ct mi).2.1, (fq_deleteU A0 mi mx ct mi).2.2.1, (fq_deleteU A0 mi mx ct mi).2.2.2)
def fq_takeGreatestR (A0 : fq_A4) (mi mx ct : Int32) : Int32 :=
  if (fq_deleteR A0 mi mx ct mx) = 0 then
    (-1 : Int32)
  else
    mx
def fq_takeGreatestU (A0 : fq_A4) (mi mx ct : Int32) : fq_A7 :=
  if (fq_deleteR A0 mi mx ct mx) = 0 then
    ((fq_deleteU A0 mi mx ct mx).1, (fq_deleteU A0 mi mx ct mx).2.1, (fq_deleteU A0 mi mx ct mx).2.2.1, (fq_deleteU A0 mi mx ct mx).2.2.2)
  else
    ((fq_deleteU A0 mi mx ct mx).1, (fq_deleteU A0 mi mx ct mx).2.1, (fq_deleteU A0 mi mx ct mx).2.2.1, (fq_deleteU A0 mi mx ct mx).2.2.2)
def fq_from (A0 : fq_A4) (mi mx ct : Int32) (p1 : Int32) : Int32 :=
  if 0 < p1 then
    (fq_after A0 mi mx ct (p1 - (1 : Int32)))
  else
    mi
def fq_nearest (A0 : fq_A4) (mi mx ct : Int32) (p1 : Int32) : Int32 :=
  if (fq_member A0 mi mx ct p1) = 0 then
    if (fq_after A0 mi mx ct p1) < 0 then
      if 0 ≤ (fq_after A0 mi mx ct p1) then
        (fq_after A0 mi mx ct p1)
      else
        (fq_before A0 mi mx ct p1)
    else
      if 0 ≤ (fq_before A0 mi mx ct p1) then
        if ((fq_after A0 mi mx ct p1) - p1) < (p1 - (fq_before A0 mi mx ct p1)) then
          (fq_after A0 mi mx ct p1)
        else
          (fq_before A0 mi mx ct p1)
      else
        if 0 ≤ (fq_after A0 mi mx ct p1) then
          (fq_after A0 mi mx ct p1)
        else
          (fq_before A0 mi mx ct p1)
  else
    if (fq_after A0 mi mx ct p1) < 0 then
      if 0 ≤ (fq_after A0 mi mx ct p1) then
        (fq_after A0 mi mx ct p1)
      else
        p1
    else
      if 0 ≤ p1 then
        if ((fq_after A0 mi mx ct p1) - p1) < (p1 - p1) then
          (fq_after A0 mi mx ct p1)
        else
          p1
      else
        if 0 ≤ (fq_after A0 mi mx ct p1) then
          (fq_after A0 mi mx ct p1)
        else
          p1
end
section
/-! plain words: the least and the greatest member below N as the code answers it (-1 for none), words of four bits -/
def fq_Mn (P : Nat → Bool) (N : Nat) (r : Int32) : Prop := (∃ k, k < N ∧ P k = true ∧ r = nI k ∧ ∀ j, j < k → P j = false) ∨ (r = -1 ∧ ∀ k, k < N → P k = false)
def fq_Mx (P : Nat → Bool) (N : Nat) (r : Int32) : Prop := (∃ k, k < N ∧ P k = true ∧ r = nI k ∧ ∀ j, k < j → j < N → P j = false) ∨ (r = -1 ∧ ∀ k, k < N → P k = false)
theorem fq_tf {b : Bool} (h : b = true) (h' : b = false) : False := by rw [h] at h'; cases h'
theorem fq_Mn_u {P : Nat → Bool} {N : Nat} {r r' : Int32} (h : fq_Mn P N r) (h' : fq_Mn P N r') : r = r' := by
  rcases h with ⟨k, hk, hp, hr, hl⟩ | ⟨hr, hl⟩ <;> rcases h' with ⟨k', hk', hp', hr', hl'⟩ | ⟨hr', hl'⟩
  · have : k = k' := by
      rcases Nat.lt_trichotomy k k' with q | q | q
      · exact absurd (hl' k q) (fun e => fq_tf hp e)
      · exact q
      · exact absurd (hl k' q) (fun e => fq_tf hp' e)
    rw [hr, hr', this]
  · exact absurd (hl' k hk) (fun e => fq_tf hp e)
  · exact absurd (hl k' hk') (fun e => fq_tf hp' e)
  · rw [hr, hr']
theorem fq_Mx_u {P : Nat → Bool} {N : Nat} {r r' : Int32} (h : fq_Mx P N r) (h' : fq_Mx P N r') : r = r' := by
  rcases h with ⟨k, hk, hp, hr, hl⟩ | ⟨hr, hl⟩ <;> rcases h' with ⟨k', hk', hp', hr', hl'⟩ | ⟨hr', hl'⟩
  · have : k = k' := by
      rcases Nat.lt_trichotomy k k' with q | q | q
      · exact absurd (hl k' q hk') (fun e => fq_tf hp' e)
      · exact q
      · exact absurd (hl' k q hk) (fun e => fq_tf hp e)
    rw [hr, hr', this]
  · exact absurd (hl' k hk) (fun e => fq_tf hp e)
  · exact absurd (hl k' hk') (fun e => fq_tf hp' e)
  · rw [hr, hr']
theorem fq_Mn_cg {P Q : Nat → Bool} {N : Nat} {r : Int32} (h : fq_Mn P N r) (e : ∀ k, k < N → P k = Q k) : fq_Mn Q N r := by
  rcases h with ⟨k, hk, hp, hr, hl⟩ | ⟨hr, hl⟩
  · exact Or.inl ⟨k, hk, by rw [← e k hk]; exact hp, hr, fun j hj => by rw [← e j (by omega)]; exact hl j hj⟩
  · exact Or.inr ⟨hr, fun k hk => by rw [← e k hk]; exact hl k hk⟩
theorem fq_Mx_cg {P Q : Nat → Bool} {N : Nat} {r : Int32} (h : fq_Mx P N r) (e : ∀ k, k < N → P k = Q k) : fq_Mx Q N r := by
  rcases h with ⟨k, hk, hp, hr, hl⟩ | ⟨hr, hl⟩
  · exact Or.inl ⟨k, hk, by rw [← e k hk]; exact hp, hr, fun j hj h2 => by rw [← e j h2]; exact hl j hj h2⟩
  · exact Or.inr ⟨hr, fun k hk => by rw [← e k hk]; exact hl k hk⟩
theorem fq_nm1 : (-1 : Int32) < 0 := by decide
theorem fq_n0m1 : ¬ (0 : Int32) ≤ -1 := by decide
theorem fq_nI_ne {k : Nat} (h : k < 2 ^ 31) : nI k ≠ -1 := by
  intro e
  have := nI_pos h
  rw [e] at this
  exact this fq_nm1
/-- a member's answer isn't negative; no member: the answer is negative -/
theorem fq_Mn_ge {P : Nat → Bool} {N : Nat} {r : Int32} (hN : N ≤ 2 ^ 31) (h : fq_Mn P N r) (h0 : ¬ r < 0) : ∃ k, k < N ∧ P k = true ∧ r = nI k ∧ ∀ j, j < k → P j = false := by
  rcases h with h | ⟨hr, -⟩
  · exact h
  · rw [hr] at h0; exact absurd fq_nm1 h0
theorem fq_Mx_ge {P : Nat → Bool} {N : Nat} {r : Int32} (hN : N ≤ 2 ^ 31) (h : fq_Mx P N r) (h0 : ¬ r < 0) : ∃ k, k < N ∧ P k = true ∧ r = nI k ∧ ∀ j, k < j → j < N → P j = false := by
  rcases h with h | ⟨hr, -⟩
  · exact h
  · rw [hr] at h0; exact absurd fq_nm1 h0
theorem fq_Mn_lt {P : Nat → Bool} {N : Nat} {r : Int32} (hN : N ≤ 2 ^ 31) (h : fq_Mn P N r) (h0 : r < 0) : r = -1 ∧ ∀ k, k < N → P k = false := by
  rcases h with ⟨k, hk, -, hr, -⟩ | h
  · rw [hr] at h0; exact absurd h0 (nI_pos (by omega))
  · exact h
theorem fq_Mx_lt {P : Nat → Bool} {N : Nat} {r : Int32} (hN : N ≤ 2 ^ 31) (h : fq_Mx P N r) (h0 : r < 0) : r = -1 ∧ ∀ k, k < N → P k = false := by
  rcases h with ⟨k, hk, -, hr, -⟩ | h
  · rw [hr] at h0; exact absurd h0 (nI_pos (by omega))
  · exact h
theorem fq_0le {r : Int32} : 0 ≤ r ↔ ¬ r < 0 := by
  rw [Int32.le_iff_toInt_le, Int32.lt_iff_toInt_lt, Int32.toInt_zero]; omega
theorem fq_le_nlt {x y : Int32} : x ≤ y ↔ ¬ y < x := by
  rw [Int32.le_iff_toInt_le, Int32.lt_iff_toInt_lt]; omega
/-- words of four bits -/
def fq_N4 (a b c d : Bool) : Int32 := nI ((cond a 1 0) + (cond b 2 0) + (cond c 4 0) + (cond d 8 0))
def fq_W4 (p : Nat → Bool) : Int32 := fq_N4 (p 0) (p 1) (p 2) (p 3)
def fq_pk (a b c d : Bool) (j : Nat) : Bool := match j with
  | 0 => a
  | 1 => b
  | 2 => c
  | _ => d
theorem fq_lt4 {j : Nat} (h : j < 4) : j = 0 ∨ j = 1 ∨ j = 2 ∨ j = 3 := by omega
theorem fq_pk_W (p : Nat → Bool) {j : Nat} (h : j < 4) : fq_pk (p 0) (p 1) (p 2) (p 3) j = p j := by
  rcases fq_lt4 h with rfl | rfl | rfl | rfl <;> rfl
theorem fq_W4_cg {p q : Nat → Bool} (h : ∀ j, j < 4 → p j = q j) : fq_W4 p = fq_W4 q := by
  unfold fq_W4
  rw [h 0 (by omega), h 1 (by omega), h 2 (by omega), h 3 (by omega)]
theorem fq_N_or : ∀ a b c d : Bool, ∀ j, j < 4 → vp_nar .byte ((fq_N4 a b c d ||| ((1 : Int32) <<< (nI j &&& (31 : Int32)))).toInt8.toInt32) = fq_N4 (a || decide (0 = j)) (b || decide (1 = j)) (c || decide (2 = j)) (d || decide (3 = j)) := by decide +kernel
theorem fq_N_and : ∀ a b c d : Bool, ∀ j, j < 4 → vp_nar .byte ((fq_N4 a b c d &&& (((1 : Int32) <<< (nI j &&& (31 : Int32))) ^^^ (-1 : Int32))).toInt8.toInt32) = fq_N4 (a && !decide (0 = j)) (b && !decide (1 = j)) (c && !decide (2 = j)) (d && !decide (3 = j)) := by decide +kernel
theorem fq_N_bit : ∀ a b c d : Bool, ∀ j, j < 4 → (((fq_N4 a b c d) >>> (nI j &&& (31 : Int32))) &&& (1 : Int32)) = cond (fq_pk a b c d j) 1 0 := by decide +kernel
theorem fq_N_zero : ∀ a b c d : Bool, fq_N4 a b c d = 0 ↔ (a = false ∧ b = false ∧ c = false ∧ d = false) := by decide +kernel
theorem fq_N_low : ∀ a b c d : Bool, fq_lowest (fq_N4 a b c d) = cond a (nI 0) (cond b (nI 1) (cond c (nI 2) (nI 3))) := by decide +kernel
theorem fq_N_high : ∀ a b c d : Bool, fq_highest (fq_N4 a b c d) = cond d (nI 3) (cond c (nI 2) (cond b (nI 1) (nI 0))) := by decide +kernel
theorem fq_N_gt : ∀ a b c d : Bool, ∀ j, j < 4 → ((fq_N4 a b c d &&& ((14 : Int32) <<< (nI j &&& (31 : Int32)))) &&& (15 : Int32)) = fq_N4 (a && decide (j < 0)) (b && decide (j < 1)) (c && decide (j < 2)) (d && decide (j < 3)) := by decide +kernel
theorem fq_N_lt : ∀ a b c d : Bool, ∀ j, j < 4 → (fq_N4 a b c d &&& (((1 : Int32) <<< (nI j &&& (31 : Int32))) - (1 : Int32))) = fq_N4 (a && decide (0 < j)) (b && decide (1 < j)) (c && decide (2 < j)) (d && decide (3 < j)) := by decide +kernel
theorem fq_W_or (p : Nat → Bool) {j : Nat} (h : j < 4) : vp_nar .byte ((fq_W4 p ||| ((1 : Int32) <<< (nI j &&& (31 : Int32)))).toInt8.toInt32) = fq_W4 (fun k => p k || decide (k = j)) := fq_N_or _ _ _ _ j h
theorem fq_W_and (p : Nat → Bool) {j : Nat} (h : j < 4) : vp_nar .byte ((fq_W4 p &&& (((1 : Int32) <<< (nI j &&& (31 : Int32))) ^^^ (-1 : Int32))).toInt8.toInt32) = fq_W4 (fun k => p k && !decide (k = j)) := fq_N_and _ _ _ _ j h
theorem fq_W_bit (p : Nat → Bool) {j : Nat} (h : j < 4) : (((fq_W4 p) >>> (nI j &&& (31 : Int32))) &&& (1 : Int32)) = cond (p j) 1 0 := by
  rw [← fq_pk_W p h]
  exact fq_N_bit _ _ _ _ j h
theorem fq_W_gt (p : Nat → Bool) {j : Nat} (h : j < 4) : ((fq_W4 p &&& ((14 : Int32) <<< (nI j &&& (31 : Int32)))) &&& (15 : Int32)) = fq_W4 (fun k => p k && decide (j < k)) := fq_N_gt _ _ _ _ j h
theorem fq_W_lt (p : Nat → Bool) {j : Nat} (h : j < 4) : (fq_W4 p &&& (((1 : Int32) <<< (nI j &&& (31 : Int32))) - (1 : Int32))) = fq_W4 (fun k => p k && decide (k < j)) := fq_N_lt _ _ _ _ j h
theorem fq_W_z {p : Nat → Bool} (h : fq_W4 p = 0) {j : Nat} (hj : j < 4) : p j = false := by
  have h := (fq_N_zero _ _ _ _).mp h
  rcases fq_lt4 hj with rfl | rfl | rfl | rfl
  · exact h.1
  · exact h.2.1
  · exact h.2.2.1
  · exact h.2.2.2
theorem fq_W_nz {p : Nat → Bool} {j : Nat} (hj : j < 4) (h : p j = true) : ¬ fq_W4 p = 0 := fun e => fq_tf h (fq_W_z e hj)
theorem fq_W_0 {p : Nat → Bool} (h : ∀ j, j < 4 → p j = false) : fq_W4 p = 0 := (fq_N_zero _ _ _ _).mpr ⟨h 0 (by omega), h 1 (by omega), h 2 (by omega), h 3 (by omega)⟩
theorem fq_low_spec {p : Nat → Bool} (h : ¬ fq_W4 p = 0) : ∃ k, k < 4 ∧ p k = true ∧ fq_lowest (fq_W4 p) = nI k ∧ ∀ j, j < k → p j = false := by
  have e : fq_lowest (fq_W4 p) = cond (p 0) (nI 0) (cond (p 1) (nI 1) (cond (p 2) (nI 2) (nI 3))) := fq_N_low _ _ _ _
  rw [e]
  cases h0 : p 0
  · cases h1 : p 1
    · cases h2 : p 2
      · cases h3 : p 3
        · exact absurd ((fq_N_zero _ _ _ _).mpr ⟨h0, h1, h2, h3⟩) h
        · exact ⟨3, by omega, h3, rfl, fun j hj => by rcases (show j = 0 ∨ j = 1 ∨ j = 2 by omega) with rfl | rfl | rfl <;> assumption⟩
      · exact ⟨2, by omega, h2, rfl, fun j hj => by rcases (show j = 0 ∨ j = 1 by omega) with rfl | rfl <;> assumption⟩
    · exact ⟨1, by omega, h1, rfl, fun j hj => by rcases (show j = 0 by omega) with rfl <;> assumption⟩
  · exact ⟨0, by omega, h0, rfl, fun j hj => absurd hj (by omega)⟩
theorem fq_high_spec {p : Nat → Bool} (h : ¬ fq_W4 p = 0) : ∃ k, k < 4 ∧ p k = true ∧ fq_highest (fq_W4 p) = nI k ∧ ∀ j, k < j → j < 4 → p j = false := by
  have e : fq_highest (fq_W4 p) = cond (p 3) (nI 3) (cond (p 2) (nI 2) (cond (p 1) (nI 1) (nI 0))) := fq_N_high _ _ _ _
  rw [e]
  cases h3 : p 3
  · cases h2 : p 2
    · cases h1 : p 1
      · cases h0 : p 0
        · exact absurd ((fq_N_zero _ _ _ _).mpr ⟨h0, h1, h2, h3⟩) h
        · exact ⟨0, by omega, h0, rfl, fun j hj h4 => by rcases (show j = 1 ∨ j = 2 ∨ j = 3 by omega) with rfl | rfl | rfl <;> assumption⟩
      · exact ⟨1, by omega, h1, rfl, fun j hj h4 => by rcases (show j = 2 ∨ j = 3 by omega) with rfl | rfl <;> assumption⟩
    · exact ⟨2, by omega, h2, rfl, fun j hj h4 => by rcases (show j = 3 by omega) with rfl <;> assumption⟩
  · exact ⟨3, by omega, h3, rfl, fun j hj h4 => absurd hj (by omega)⟩
theorem fq_low_in (z : Int32) : ∃ k, k < 4 ∧ fq_lowest z = nI k := by
  unfold fq_lowest
  split
  · split
    · exact ⟨3, by omega, rfl⟩
    · exact ⟨2, by omega, rfl⟩
  · split
    · exact ⟨1, by omega, rfl⟩
    · exact ⟨0, by omega, rfl⟩
theorem fq_high_in (z : Int32) : ∃ k, k < 4 ∧ fq_highest z = nI k := by
  unfold fq_highest
  split
  · split
    · exact ⟨0, by omega, rfl⟩
    · exact ⟨1, by omega, rfl⟩
  · split
    · exact ⟨2, by omega, rfl⟩
    · exact ⟨3, by omega, rfl⟩
/-! indices -/
theorem fq_4ij (i j : Nat) : (4 : Int32) * nI i + nI j = nI (4 * i + j) := by
  rw [show (4 : Int32) = nI 4 from rfl, pk_mul, nI_add]
theorem fq_16ij (i j : Nat) : (16 : Int32) * nI i + nI j = nI (16 * i + j) := by
  rw [show (16 : Int32) = nI 16 from rfl, pk_mul, nI_add]
theorem fq_c4 (c i : Nat) : nI c * (4 : Int32) + nI i = nI (c * 4 + i) := by
  rw [show (4 : Int32) = nI 4 from rfl, pk_mul, nI_add]
theorem fq_ixc {c i : Nat} (hc : c < 17) (hi : i < 4) : (nI c * (4 : Int32) + nI i).toNatClampNeg = c * 4 + i := by
  rw [fq_c4, nI_clamp (by omega)]
theorem fq_sh2 {x : Nat} (h : x < 16) : nI x >>> ((2 : Int32) &&& (31 : Int32)) = nI (x / 4) := pk_shrN (by omega) _ 2 (by decide)
theorem fq_sh4 {x : Nat} (h : x < 256) : nI x >>> ((4 : Int32) &&& (31 : Int32)) = nI (x / 16) := pk_shrN (by omega) _ 4 (by decide)
theorem fq_an3 {x : Nat} (h : x < 16) : nI x &&& (3 : Int32) = nI (x % 4) := pk_andN (by omega) 2 (by decide)
theorem fq_an15 {x : Nat} (h : x < 256) : nI x &&& (15 : Int32) = nI (x % 16) := pk_andN (by omega) 4 (by decide)
theorem fq_cl {c : Nat} (h : c < 256) : (nI c).toNatClampNeg = c := nI_clamp (by omega)
theorem fq_ix1 {c x : Int32} (hc : vp_in c 17) (hx : vp_in x 16) : vp_in (c * (4 : Int32) + (x >>> ((2 : Int32) &&& (31 : Int32)))) 68 := by
  obtain ⟨i, hi, rfl⟩ := vp_in_of hc (by decide)
  obtain ⟨j, hj, rfl⟩ := vp_in_of hx (by decide)
  rw [fq_sh2 hj, fq_c4]
  exact vp_in_nI (by omega) (by decide)
theorem fq_ix2 {c z : Int32} (hc : vp_in c 17) : vp_in (c * (4 : Int32) + fq_lowest z) 68 := by
  obtain ⟨i, hi, rfl⟩ := vp_in_of hc (by decide)
  obtain ⟨j, hj, e⟩ := fq_low_in z
  rw [e, fq_c4]
  exact vp_in_nI (by omega) (by decide)
theorem fq_ix3 {c z : Int32} (hc : vp_in c 17) : vp_in (c * (4 : Int32) + fq_highest z) 68 := by
  obtain ⟨i, hi, rfl⟩ := vp_in_of hc (by decide)
  obtain ⟨j, hj, e⟩ := fq_high_in z
  rw [e, fq_c4]
  exact vp_in_nI (by omega) (by decide)
theorem fq_ix5 (x : Int32) : vp_in (x &&& (15 : Int32)) 16 := pk_andIn x 4 (by decide) (by decide)
theorem fq_ix6 {x : Int32} (h : vp_in x 256) : vp_in (x >>> ((4 : Int32) &&& (31 : Int32))) 17 := by
  obtain ⟨i, hi, rfl⟩ := vp_in_of h (by decide)
  rw [fq_sh4 hi]
  exact vp_in_nI (by omega) (by decide)
theorem fq_ix7 {x : Int32} (h : vp_in x 256) : vp_in (x >>> ((4 : Int32) &&& (31 : Int32))) 16 := by
  obtain ⟨i, hi, rfl⟩ := vp_in_of h (by decide)
  rw [fq_sh4 hi]
  exact vp_in_nI (by omega) (by decide)
theorem fq_in256 {x : Int32} (h0 : ¬ x < 0) (h1 : ¬ (256 : Int32) ≤ x) : vp_in x 256 := by
  rw [vp_in_iff]
  rw [Int32.lt_iff_toInt_lt, Int32.toInt_zero] at h0
  rw [Int32.le_iff_toInt_le, show (256 : Int32).toInt = 256 by decide] at h1
  omega
theorem fq_16 : vp_in (16 : Int32) 17 := by rw [vp_in_iff]; decide
theorem fq_17 {x : Int32} (h : vp_in x 16) : vp_in x 17 := by
  rw [vp_in_iff] at *; omega
/-- all places hold -1 or a number below 16 -/
def fq_RI (f : Nat → Int32) : Prop := ∀ c, c < 17 → f c = -1 ∨ ∃ k, k < 16 ∧ f c = nI k
theorem fq_RI_in {f : Nat → Int32} {c : Int32} (h : fq_RI f) (hc : vp_in c 17) (h0 : 0 ≤ f c.toNatClampNeg) : vp_in (f c.toNatClampNeg) 16 := by
  obtain ⟨i, hi, rfl⟩ := vp_in_of hc (by decide)
  rw [fq_cl (by omega)] at *
  rcases h i hi with e | ⟨k, hk, e⟩
  · rw [e] at h0; exact absurd h0 fq_n0m1
  · rw [e]; exact vp_in_nI hk (by decide)
theorem fq_nb : ∀ k, k < 16 → vp_nar .byte (nI k).toInt8.toInt32 = nI k := by decide +kernel
theorem fq_nbm : vp_nar .byte (-1 : Int32).toInt8.toInt32 = -1 := by decide +kernel
theorem fq_nbm' : vp_nar .byte (-1 : Int32) = -1 := by decide +kernel
/-- an answer that is -1 or below 16 -/
def fq_r16 (x : Int32) : Prop := x = -1 ∨ ∃ k, k < 16 ∧ x = nI k
theorem fq_r16_n {x : Int32} (h : fq_r16 x) : vp_nar .byte x.toInt8.toInt32 = x := by
  rcases h with rfl | ⟨k, hk, rfl⟩
  · exact fq_nbm
  · exact fq_nb k hk
theorem fq_r16_in {x : Int32} (h : fq_r16 x) (h0 : ¬ x < 0) : vp_in x 16 := by
  rcases h with rfl | ⟨k, hk, rfl⟩
  · exact absurd fq_nm1 h0
  · exact vp_in_nI hk (by decide)
theorem fq_in_r16 {x : Int32} (h : vp_in x 16) : fq_r16 x := by
  obtain ⟨i, hi, rfl⟩ := vp_in_of h (by decide)
  exact Or.inr ⟨i, hi, rfl⟩
theorem fq_RI_upd {f : Nat → Int32} {c : Nat} {x : Int32} (h : fq_RI f) (hx : fq_r16 x) : fq_RI (upd f c (vp_nar .byte x.toInt8.toInt32)) := by
  intro j hj
  rw [fq_r16_n hx]
  by_cases e : j = c
  · subst e; rw [pk_us]; exact hx
  · rw [pk_un e]; exact h j hj
theorem fq_lip_r {A : fq_A4} {c : Int32} : fq_r16 (fq_leastInParts A c) := by
  unfold fq_leastInParts
  split
  · exact Or.inl rfl
  · obtain ⟨i, hi, e⟩ := fq_low_in (A.2.2.1 c.toNatClampNeg)
    rw [e]
    obtain ⟨j, hj, e2⟩ := fq_low_in (A.2.2.2 (c * 4 + nI i).toNatClampNeg)
    rw [e2, fq_4ij]
    exact Or.inr ⟨4 * i + j, by omega, rfl⟩
theorem fq_gip_r {A : fq_A4} {c : Int32} : fq_r16 (fq_greatestInParts A c) := by
  unfold fq_greatestInParts
  split
  · exact Or.inl rfl
  · obtain ⟨i, hi, e⟩ := fq_high_in (A.2.2.1 c.toNatClampNeg)
    rw [e]
    obtain ⟨j, hj, e2⟩ := fq_high_in (A.2.2.2 (c * 4 + nI i).toNatClampNeg)
    rw [e2, fq_4ij]
    exact Or.inr ⟨4 * i + j, by omega, rfl⟩
theorem fq_lip_in {A : fq_A4} {c : Int32} (h : ¬ fq_leastInParts A c < 0) : vp_in (fq_leastInParts A c) 16 := fq_r16_in fq_lip_r h
theorem fq_RI_r {f : Nat → Int32} {c : Int32} (h : fq_RI f) (hc : vp_in c 17) : fq_r16 (f c.toNatClampNeg) := by
  obtain ⟨i, hi, rfl⟩ := vp_in_of hc (by decide)
  rw [fq_cl (by omega)]
  exact h i hi
theorem fq_put1 (A : fq_A4) (c x : Int32) : (fq_putBit A c x).1 = A.1 ∧ (fq_putBit A c x).2.1 = A.2.1 := ⟨rfl, rfl⟩
theorem fq_take1 (A : fq_A4) (c x : Int32) : (fq_takeBit A c x).1 = A.1 ∧ (fq_takeBit A c x).2.1 = A.2.1 := by
  unfold fq_takeBit
  split <;> exact ⟨rfl, rfl⟩
theorem fq_RI_ins {A : fq_A4} {c x : Int32} (h : fq_RI A.1) (hx : vp_in x 16) : fq_RI (fq_insertInto A c x).1 := by
  unfold fq_insertInto
  split
  · split
    · split
      · exact h
      · exact h
    · split
      · exact fq_RI_upd h (fq_in_r16 hx)
      · exact fq_RI_upd h (fq_in_r16 hx)
  · exact fq_RI_upd h (fq_in_r16 hx)
theorem fq_RI_del {A : fq_A4} {c x : Int32} (h : fq_RI A.1 ∧ fq_RI A.2.1) (hc : vp_in c 17) (hx : vp_in x 16) : fq_RI (fq_deleteFrom A c x).1 ∧ fq_RI (fq_deleteFrom A c x).2.1 := by
  unfold fq_deleteFrom
  split
  · have hl : fq_RI (upd A.1 c.toNatClampNeg (vp_nar .byte (fq_leastInParts A c).toInt8.toInt32)) := fq_RI_upd h.1 fq_lip_r
    split
    · split
      · exact ⟨hl, fq_RI_upd h.2 (fq_RI_r hl hc)⟩
      · exact ⟨hl, fq_RI_upd h.2 fq_gip_r⟩
    · split
      · refine ⟨?_, ?_⟩
        · show fq_RI (fq_takeBit _ _ _).1
          rw [(fq_take1 _ _ _).1]; exact hl
        · show fq_RI (upd (fq_takeBit _ _ _).2.1 _ (vp_nar .byte ((fq_takeBit _ _ _).1 _).toInt8.toInt32))
          rw [(fq_take1 _ _ _).1, (fq_take1 _ _ _).2]; exact fq_RI_upd h.2 (fq_RI_r hl hc)
      · refine ⟨?_, ?_⟩
        · show fq_RI (fq_takeBit _ _ _).1
          rw [(fq_take1 _ _ _).1]; exact hl
        · show fq_RI (upd (fq_takeBit _ _ _).2.1 _ _)
          rw [(fq_take1 _ _ _).2]; exact fq_RI_upd h.2 fq_gip_r
  · split
    · split
      · exact ⟨h.1, fq_RI_upd h.2 (fq_RI_r h.1 hc)⟩
      · exact ⟨h.1, fq_RI_upd h.2 fq_gip_r⟩
    · split
      · refine ⟨?_, ?_⟩
        · show fq_RI (fq_takeBit _ _ _).1
          rw [(fq_take1 _ _ _).1]; exact h.1
        · show fq_RI (upd (fq_takeBit _ _ _).2.1 _ (vp_nar .byte ((fq_takeBit _ _ _).1 _).toInt8.toInt32))
          rw [(fq_take1 _ _ _).1, (fq_take1 _ _ _).2]; exact fq_RI_upd h.2 (fq_RI_r h.1 hc)
      · refine ⟨?_, ?_⟩
        · show fq_RI (fq_takeBit _ _ _).1
          rw [(fq_take1 _ _ _).1]; exact h.1
        · show fq_RI (upd (fq_takeBit _ _ _).2.1 _ _)
          rw [(fq_take1 _ _ _).2]; exact fq_RI_upd h.2 fq_gip_r
theorem fq_bfi_r {A : fq_A4} {c x : Int32} (h : fq_RI A.1 ∧ fq_RI A.2.1) (hc : vp_in c 17) (hx : vp_in x 16) : fq_r16 (fq_beforeIn A c x) := by
  unfold fq_beforeIn
  split
  · exact Or.inl rfl
  · split
    · split
      · split
        · split
          · exact fq_RI_r h.1 hc
          · obtain ⟨i, hi, e⟩ := fq_high_in (A.2.2.1 c.toNatClampNeg &&& (((1 : Int32) <<< ((x >>> ((2 : Int32) &&& (31 : Int32))) &&& (31 : Int32))) - (1 : Int32)))
            rw [e]
            obtain ⟨j, hj, e2⟩ := fq_high_in (A.2.2.2 (c * 4 + nI i).toNatClampNeg)
            rw [e2, fq_4ij]
            exact Or.inr ⟨4 * i + j, by omega, rfl⟩
        · obtain ⟨j, hj, e2⟩ := fq_high_in (A.2.2.2 (c * (4 : Int32) + (x >>> ((2 : Int32) &&& (31 : Int32)))).toNatClampNeg &&& (((1 : Int32) <<< ((x &&& (3 : Int32)) &&& (31 : Int32))) - (1 : Int32)))
          rw [e2]
          obtain ⟨i, hi, rfl⟩ := vp_in_of hx (by decide)
          rw [fq_sh2 hi, fq_4ij]
          exact Or.inr ⟨4 * (i / 4) + j, by omega, rfl⟩
      · exact fq_RI_r h.2 hc
    · exact Or.inl rfl
theorem fq_bfi_in {A : fq_A4} {c x : Int32} (h : fq_RI A.1 ∧ fq_RI A.2.1) (hc : vp_in c 17) (hx : vp_in x 16) (h0 : 0 ≤ fq_beforeIn A c x) : vp_in (fq_beforeIn A c x) 16 := fq_r16_in (fq_bfi_r h hc hx) (fq_0le.mp h0)
theorem fq_mem_in {A : fq_A4} {mi mx ct x : Int32} (h : ¬ fq_member A mi mx ct x = 0) : vp_in x 256 := by
  unfold fq_member at h
  split at h
  · exact absurd rfl h
  · split at h
    · exact absurd rfl h
    · exact fq_in256 (by assumption) (by assumption)
theorem fq_g_in {f : Nat → Int32} (h : fq_RI f) (h0 : 0 ≤ f (16 : Int32).toNatClampNeg) (h1 : ¬ ((16 : Int32) * f (16 : Int32).toNatClampNeg + f (f (16 : Int32).toNatClampNeg).toNatClampNeg) < 0) : vp_in ((16 : Int32) * f (16 : Int32).toNatClampNeg + f (f (16 : Int32).toNatClampNeg).toNatClampNeg) 256 := by
  have e0 : (16 : Int32).toNatClampNeg = 16 := rfl
  rw [e0] at h0 h1
  rw [e0]
  rcases h 16 (by omega) with e | ⟨k, hk, e⟩
  · rw [e] at h0; exact absurd h0 fq_n0m1
  · have e1 : f (f 16).toNatClampNeg = f k := by rw [e, fq_cl (by omega)]
    rw [e1, e] at h1
    rw [e1, e]
    rcases h k (by omega) with e2 | ⟨j, hj, e2⟩
    · rw [e2] at h1
      rw [e2]
      rw [vp_in_iff]
      rw [show (16 : Int32) = nI 16 from rfl, pk_mul] at h1
      rw [show (16 : Int32) = nI 16 from rfl, pk_mul]
      rw [Int32.lt_iff_toInt_lt, Int32.toInt_zero] at h1
      have e3 : (nI (16 * k) + (-1)).toInt = (16 * k : Nat) - 1 := by
        cases k with
        | zero => decide
        | succ n =>
          rw [show 16 * (n + 1) = (16 * n + 15) + 1 by omega, pk_m1, nI_toInt (by omega)]
          omega
      rw [e3] at h1
      rw [e3]
      omega
    · rw [e2, fq_16ij]
      exact vp_in_nI (by omega) (by decide)
end
section
-- ===== PART A: goes FIRST, ahead of the names: the tables' words, and 'selects' of the private methods out of them =====
/-- a private method of a class that the tables say can be made, by its rows of tables_1 -/
def lw_okq (q : MethodName × Nat) : Prop := (q.1.cls ≠ "java/lang/invoke/MethodHandle" ∧ q.1.cls ≠ "java/lang/invoke/VarHandle") ∧ Cond.instantiable q.1.cls q.2 ∈ tables_1 ∧ Cond.privateMethod q.1 ∈ tables_1 ∧ Cond.instanceMethod q.1 ∈ tables_1
set_option maxRecDepth 100000
theorem lw_p0 : lw_okq (⟨"FlatQueue", "inCluster", "(II)Z"⟩, 7) := ⟨⟨by decide +kernel, by decide +kernel⟩, List.mem_of_getElem? (i := 4) rfl, List.mem_of_getElem? (i := 43) rfl, List.mem_of_getElem? (i := 44) rfl⟩
theorem lw_p1 : lw_okq (⟨"FlatQueue", "insertInto", "(II)V"⟩, 7) := ⟨⟨by decide +kernel, by decide +kernel⟩, List.mem_of_getElem? (i := 4) rfl, List.mem_of_getElem? (i := 47) rfl, List.mem_of_getElem? (i := 48) rfl⟩
theorem lw_p2 : lw_okq (⟨"FlatQueue", "putBit", "(II)V"⟩, 7) := ⟨⟨by decide +kernel, by decide +kernel⟩, List.mem_of_getElem? (i := 4) rfl, List.mem_of_getElem? (i := 51) rfl, List.mem_of_getElem? (i := 52) rfl⟩
theorem lw_p3 : lw_okq (⟨"FlatQueue", "deleteFrom", "(II)V"⟩, 7) := ⟨⟨by decide +kernel, by decide +kernel⟩, List.mem_of_getElem? (i := 4) rfl, List.mem_of_getElem? (i := 59) rfl, List.mem_of_getElem? (i := 60) rfl⟩
theorem lw_p4 : lw_okq (⟨"FlatQueue", "leastInParts", "(I)I"⟩, 7) := ⟨⟨by decide +kernel, by decide +kernel⟩, List.mem_of_getElem? (i := 4) rfl, List.mem_of_getElem? (i := 63) rfl, List.mem_of_getElem? (i := 64) rfl⟩
theorem lw_p5 : lw_okq (⟨"FlatQueue", "takeBit", "(II)V"⟩, 7) := ⟨⟨by decide +kernel, by decide +kernel⟩, List.mem_of_getElem? (i := 4) rfl, List.mem_of_getElem? (i := 70) rfl, List.mem_of_getElem? (i := 71) rfl⟩
theorem lw_p6 : lw_okq (⟨"FlatQueue", "greatestInParts", "(I)I"⟩, 7) := ⟨⟨by decide +kernel, by decide +kernel⟩, List.mem_of_getElem? (i := 4) rfl, List.mem_of_getElem? (i := 74) rfl, List.mem_of_getElem? (i := 75) rfl⟩
theorem lw_p7 : lw_okq (⟨"FlatQueue", "afterIn", "(II)I"⟩, 7) := ⟨⟨by decide +kernel, by decide +kernel⟩, List.mem_of_getElem? (i := 4) rfl, List.mem_of_getElem? (i := 98) rfl, List.mem_of_getElem? (i := 99) rfl⟩
theorem lw_p8 : lw_okq (⟨"FlatQueue", "beforeIn", "(II)I"⟩, 7) := ⟨⟨by decide +kernel, by decide +kernel⟩, List.mem_of_getElem? (i := 4) rfl, List.mem_of_getElem? (i := 106) rfl, List.mem_of_getElem? (i := 107) rfl⟩
theorem lw_p9 : lw_okq (⟨"FlatQueue", "from", "(I)I"⟩, 7) := ⟨⟨by decide +kernel, by decide +kernel⟩, List.mem_of_getElem? (i := 4) rfl, List.mem_of_getElem? (i := 123) rfl, List.mem_of_getElem? (i := 124) rfl⟩
theorem lw_p10 : lw_okq (⟨"FlatQueueModel", "number", "(I)Z"⟩, 1) := ⟨⟨by decide +kernel, by decide +kernel⟩, List.mem_of_getElem? (i := 145) rfl, List.mem_of_getElem? (i := 160) rfl, List.mem_of_getElem? (i := 161) rfl⟩
def lw_privs_1 : List (MethodName × Nat) := [(⟨"FlatQueue", "inCluster", "(II)Z"⟩, 7), (⟨"FlatQueue", "insertInto", "(II)V"⟩, 7), (⟨"FlatQueue", "putBit", "(II)V"⟩, 7), (⟨"FlatQueue", "deleteFrom", "(II)V"⟩, 7), (⟨"FlatQueue", "leastInParts", "(I)I"⟩, 7), (⟨"FlatQueue", "takeBit", "(II)V"⟩, 7), (⟨"FlatQueue", "greatestInParts", "(I)I"⟩, 7), (⟨"FlatQueue", "afterIn", "(II)I"⟩, 7), (⟨"FlatQueue", "beforeIn", "(II)I"⟩, 7), (⟨"FlatQueue", "from", "(I)I"⟩, 7), (⟨"FlatQueueModel", "number", "(I)Z"⟩, 1)]
theorem lw_r1 : ∀ q ∈ lw_privs_1, lw_okq q := List.forall_mem_cons.mpr ⟨lw_p0, List.forall_mem_cons.mpr ⟨lw_p1, List.forall_mem_cons.mpr ⟨lw_p2, List.forall_mem_cons.mpr ⟨lw_p3, List.forall_mem_cons.mpr ⟨lw_p4, List.forall_mem_cons.mpr ⟨lw_p5, List.forall_mem_cons.mpr ⟨lw_p6, List.forall_mem_cons.mpr ⟨lw_p7, List.forall_mem_cons.mpr ⟨lw_p8, List.forall_mem_cons.mpr ⟨lw_p9, List.forall_mem_cons.mpr ⟨lw_p10, fun _ h => absurd h List.not_mem_nil⟩⟩⟩⟩⟩⟩⟩⟩⟩⟩⟩
def lw_privs : List (MethodName × Nat) := lw_privs_1
def lw_tbl : List Cond := k2_sels lw_privs ++ tables_1
theorem lw_privs_ok : ∀ q ∈ lw_privs, lw_okq q := lw_r1
-- ===== ONE list of words for every method: the tables' words that hold all through a run =====
def lw_all : List Cond := lw_tbl.filter goodWord
/-- a word of the tables by its place: claim/WORDS.tsv -/
theorem lw_w {w : Cond} (i : Nat) (h : lw_tbl[i]? = some w) (g : goodWord w = true) : w ∈ lw_all := List.mem_filter.mpr ⟨List.mem_of_getElem? h, g⟩
theorem lw_all_tbl {w : Cond} (h : w ∈ lw_all) : w ∈ lw_tbl := (List.mem_filter.mp h).1
theorem lw_self : GoodIn lw_all lw_all := fun w h => ⟨h, good_of_word (List.mem_filter.mp h).2⟩
/-- a class's field words, by their places -/
theorem lw_in (ws : List Cond) (ps : List Nat) (hp : ws = ps.filterMap (fun i => lw_tbl[i]?)) (hg : ws.all goodWord = true) : ∀ w ∈ ws, w ∈ lw_all := by
  intro w h
  have h1 := List.all_eq_true.mp hg w h
  rw [hp] at h
  obtain ⟨i, -, hi⟩ := List.mem_filterMap.mp h
  exact lw_w i hi h1
/-- the words of a contract for the method y with code b, L locals, answer r -/
abbrev ws_ (y : MethodName) (b : ByteArray) (L : Nat) (r : Option FieldType) : List Cond := Cond.code y b L r :: lw_all
theorem lw_meth {y : MethodName} {b : ByteArray} {L : Nat} {r : Option FieldType} (h : Cond.code y b L r ∈ lw_all) : GoodIn lw_all (ws_ y b L r) := by
  intro w hw
  rcases List.mem_cons.mp hw with e | e
  · rw [e]
    exact lw_self _ h
  · exact lw_self _ e
theorem lw_app {a c : List Cond} (ha : ∀ w ∈ a, w ∈ lw_all) (hc : GoodIn lw_all c) : GoodIn lw_all (a ++ c) := by
  intro w hw
  rcases List.mem_append.mp hw with e | e
  · exact lw_self w (ha w e)
  · exact hc w e
/-- what a call through an object asks: cwV n hts (lw_V ..) -/
theorem lw_V {own : String} {idx : Nat} {C : String} {y : MethodName} {b : ByteArray} {L : Nat} {r : Option FieldType} (h1 : Cond.methodLink own idx y ∈ lw_all) (h2 : Cond.instanceMethod y ∈ lw_all) (h3 : Cond.selects C y y ∈ lw_all) (h4 : Cond.initialized C ∈ lw_all) (h5 : Cond.code y b L r ∈ lw_all) : GoodIn lw_all (wsV own idx C y (ws_ y b L r)) := by
  refine lw_app ?_ (lw_meth h5)
  intro w hw
  simp only [List.mem_cons, List.not_mem_nil, or_false] at hw
  rcases hw with e | e | e | e
  · rw [e]; exact h1
  · rw [e]; exact h2
  · rw [e]; exact h3
  · rw [e]; exact h4
/-- what a static call asks: va_cwS n hts (lw_S ..) -/
theorem lw_S {own : String} {idx : Nat} {y : MethodName} {b : ByteArray} {L : Nat} {r : Option FieldType} (h1 : Cond.methodLink own idx y ∈ lw_all) (h2 : Cond.static y ∈ lw_all) (h3 : Cond.initialized y.cls ∈ lw_all) (h4 : Cond.code y b L r ∈ lw_all) : GoodIn lw_all (va_wsS own idx y (ws_ y b L r)) := by
  refine lw_app ?_ (lw_meth h4)
  intro w hw
  simp only [List.mem_cons, List.not_mem_nil, or_false] at hw
  rcases hw with e | e | e
  · rw [e]; exact h1
  · rw [e]; exact h2
  · rw [e]; exact h3
/-- the words of a contract for a method WITH HANDLERS (hh: its table) -/
abbrev wsW_ (y : MethodName) (b : ByteArray) (L : Nat) (r : Option FieldType) (hh : List (Nat × Nat × Nat × Nat)) : List Cond := Cond.codeWith y b L r hh :: lw_all
theorem lw_methW {y : MethodName} {b : ByteArray} {L : Nat} {r : Option FieldType} {hh : List (Nat × Nat × Nat × Nat)} (h : Cond.codeWith y b L r hh ∈ lw_all) : GoodIn lw_all (wsW_ y b L r hh) := by
  intro w hw
  rcases List.mem_cons.mp hw with e | e
  · rw [e]
    exact lw_self _ h
  · exact lw_self _ e
/-- any list of words by their places (lw_in), good -/
theorem lw_good {ws : List Cond} (h : ∀ w ∈ ws, w ∈ lw_all) : GoodIn lw_all ws := fun w hw => lw_self w (h w hw)
/-- what a call of a method with handlers asks: vx_cwVW n hts (lw_VW ..), vx_cwSW n hts (lw_SW ..) -/
theorem lw_VW {own : String} {idx : Nat} {C : String} {y : MethodName} {b : ByteArray} {L : Nat} {r : Option FieldType} {hh : List (Nat × Nat × Nat × Nat)} (h1 : Cond.methodLink own idx y ∈ lw_all) (h2 : Cond.instanceMethod y ∈ lw_all) (h3 : Cond.selects C y y ∈ lw_all) (h4 : Cond.initialized C ∈ lw_all) (h5 : Cond.codeWith y b L r hh ∈ lw_all) : GoodIn lw_all (wsV own idx C y (wsW_ y b L r hh)) := by
  refine lw_app ?_ (lw_methW h5)
  intro w hw
  simp only [List.mem_cons, List.not_mem_nil, or_false] at hw
  rcases hw with e | e | e | e
  · rw [e]; exact h1
  · rw [e]; exact h2
  · rw [e]; exact h3
  · rw [e]; exact h4
theorem lw_SW {own : String} {idx : Nat} {y : MethodName} {b : ByteArray} {L : Nat} {r : Option FieldType} {hh : List (Nat × Nat × Nat × Nat)} (h1 : Cond.methodLink own idx y ∈ lw_all) (h2 : Cond.static y ∈ lw_all) (h3 : Cond.initialized y.cls ∈ lw_all) (h4 : Cond.codeWith y b L r hh ∈ lw_all) : GoodIn lw_all (va_wsS own idx y (wsW_ y b L r hh)) := by
  refine lw_app ?_ (lw_methW h4)
  intro w hw
  simp only [List.mem_cons, List.not_mem_nil, or_false] at hw
  rcases hw with e | e | e
  · rw [e]; exact h1
  · rw [e]; exact h2
  · rw [e]; exact h3
/-- a word by its place in its run of the tables -/
theorem lw_at {r : List Cond} (hr : ∀ w ∈ r, w ∈ lw_tbl) {w : Cond} (i : Nat) (h : r[i]? = some w) : w ∈ lw_tbl := hr w (List.mem_of_getElem? h)
theorem lw_g {w : Cond} (h : w ∈ lw_tbl) (g : goodWord w = true) : w ∈ lw_all := List.mem_filter.mpr ⟨h, g⟩
theorem lw_ms : ∀ w ∈ k2_sels lw_privs, w ∈ lw_tbl := fun w h => show w ∈ k2_sels lw_privs ++ tables_1 from List.mem_append_left _ h
theorem lw_m0 : ∀ w ∈ tables_1, w ∈ lw_tbl := fun w h => show w ∈ k2_sels lw_privs ++ tables_1 from List.mem_append_right (k2_sels lw_privs) h
theorem qs0 : (Cond.selects "FlatQueue" ⟨"FlatQueue", "inCluster", "(II)Z"⟩ ⟨"FlatQueue", "inCluster", "(II)Z"⟩) ∈ lw_all := lw_g (lw_at lw_ms 0 rfl) rfl
theorem qs1 : (Cond.selects "FlatQueue" ⟨"FlatQueue", "insertInto", "(II)V"⟩ ⟨"FlatQueue", "insertInto", "(II)V"⟩) ∈ lw_all := lw_g (lw_at lw_ms 1 rfl) rfl
theorem qs2 : (Cond.selects "FlatQueue" ⟨"FlatQueue", "putBit", "(II)V"⟩ ⟨"FlatQueue", "putBit", "(II)V"⟩) ∈ lw_all := lw_g (lw_at lw_ms 2 rfl) rfl
theorem qs3 : (Cond.selects "FlatQueue" ⟨"FlatQueue", "deleteFrom", "(II)V"⟩ ⟨"FlatQueue", "deleteFrom", "(II)V"⟩) ∈ lw_all := lw_g (lw_at lw_ms 3 rfl) rfl
theorem qs4 : (Cond.selects "FlatQueue" ⟨"FlatQueue", "leastInParts", "(I)I"⟩ ⟨"FlatQueue", "leastInParts", "(I)I"⟩) ∈ lw_all := lw_g (lw_at lw_ms 4 rfl) rfl
theorem qs5 : (Cond.selects "FlatQueue" ⟨"FlatQueue", "takeBit", "(II)V"⟩ ⟨"FlatQueue", "takeBit", "(II)V"⟩) ∈ lw_all := lw_g (lw_at lw_ms 5 rfl) rfl
theorem qs6 : (Cond.selects "FlatQueue" ⟨"FlatQueue", "greatestInParts", "(I)I"⟩ ⟨"FlatQueue", "greatestInParts", "(I)I"⟩) ∈ lw_all := lw_g (lw_at lw_ms 6 rfl) rfl
theorem qs7 : (Cond.selects "FlatQueue" ⟨"FlatQueue", "afterIn", "(II)I"⟩ ⟨"FlatQueue", "afterIn", "(II)I"⟩) ∈ lw_all := lw_g (lw_at lw_ms 7 rfl) rfl
theorem qs8 : (Cond.selects "FlatQueue" ⟨"FlatQueue", "beforeIn", "(II)I"⟩ ⟨"FlatQueue", "beforeIn", "(II)I"⟩) ∈ lw_all := lw_g (lw_at lw_ms 8 rfl) rfl
theorem qs9 : (Cond.selects "FlatQueue" ⟨"FlatQueue", "from", "(I)I"⟩ ⟨"FlatQueue", "from", "(I)I"⟩) ∈ lw_all := lw_g (lw_at lw_ms 9 rfl) rfl
theorem qs10 : (Cond.selects "FlatQueueModel" ⟨"FlatQueueModel", "number", "(I)Z"⟩ ⟨"FlatQueueModel", "number", "(I)Z"⟩) ∈ lw_all := lw_g (lw_at lw_ms 10 rfl) rfl
end
section
/-! FlatQueue -/
set_option maxRecDepth 100000
def RX0 : String := "FlatQueue"
def TX0 : u_T := fun k => match k with
  | 0 => ("FlatQueue", "low", "[B", true)
  | 1 => ("FlatQueue", "high", "[B", true)
  | 2 => ("FlatQueue", "parts", "[B", true)
  | 3 => ("FlatQueue", "bits", "[B", true)
  | 4 => ("FlatQueue", "least", "I", false)
  | 5 => ("FlatQueue", "greatest", "I", false)
  | _ => ("FlatQueue", "count", "I", false)
def tyX0 : Nat → FieldType := fun k => match k with
  | 0 => .array .byte
  | 1 => .array .byte
  | 2 => .array .byte
  | 3 => .array .byte
  | 4 => .int
  | 5 => .int
  | _ => .int
abbrev wsX00 : List Cond := u_ws RX0 TX0 7
theorem nmX0 : ∀ a, a < 7 → ∀ b, b < 7 → a ≠ b → (TX0 a).2.1 ≠ (TX0 b).2.1 := by decide +kernel
theorem tyX0_ok : ∀ k, k < 7 → parseFieldDescriptor (TX0 k).2.2.1 = some (tyX0 k) := by decide +kernel
abbrev cX0_init : ByteArray := prog_1_method_1_code
def yX0_init : MethodName := ⟨RX0, "<init>", "()V"⟩
abbrev cX0_insert : ByteArray := prog_1_method_13_code
def yX0_insert : MethodName := ⟨RX0, "insert", "(I)Z"⟩
abbrev cX0_member : ByteArray := prog_1_method_15_code
def yX0_member : MethodName := ⟨RX0, "member", "(I)Z"⟩
abbrev cX0_inCluster : ByteArray := prog_1_method_6_code
def yX0_inCluster : MethodName := ⟨RX0, "inCluster", "(II)Z"⟩
abbrev cX0_insertInto : ByteArray := prog_1_method_7_code
def yX0_insertInto : MethodName := ⟨RX0, "insertInto", "(II)V"⟩
abbrev cX0_putBit : ByteArray := prog_1_method_4_code
def yX0_putBit : MethodName := ⟨RX0, "putBit", "(II)V"⟩
abbrev cX0_delete : ByteArray := prog_1_method_14_code
def yX0_delete : MethodName := ⟨RX0, "delete", "(I)Z"⟩
abbrev cX0_deleteFrom : ByteArray := prog_1_method_10_code
def yX0_deleteFrom : MethodName := ⟨RX0, "deleteFrom", "(II)V"⟩
abbrev cX0_leastInParts : ByteArray := prog_1_method_8_code
def yX0_leastInParts : MethodName := ⟨RX0, "leastInParts", "(I)I"⟩
abbrev cX0_lowest : ByteArray := prog_1_method_2_code
def yX0_lowest : MethodName := ⟨RX0, "lowest", "(I)I"⟩
abbrev cX0_takeBit : ByteArray := prog_1_method_5_code
def yX0_takeBit : MethodName := ⟨RX0, "takeBit", "(II)V"⟩
abbrev cX0_greatestInParts : ByteArray := prog_1_method_9_code
def yX0_greatestInParts : MethodName := ⟨RX0, "greatestInParts", "(I)I"⟩
abbrev cX0_highest : ByteArray := prog_1_method_3_code
def yX0_highest : MethodName := ⟨RX0, "highest", "(I)I"⟩
abbrev cX0_size : ByteArray := prog_1_method_16_code
def yX0_size : MethodName := ⟨RX0, "size", "()I"⟩
abbrev cX0_least : ByteArray := prog_1_method_17_code
def yX0_least : MethodName := ⟨RX0, "least", "()I"⟩
abbrev cX0_greatest : ByteArray := prog_1_method_18_code
def yX0_greatest : MethodName := ⟨RX0, "greatest", "()I"⟩
abbrev cX0_after : ByteArray := prog_1_method_19_code
def yX0_after : MethodName := ⟨RX0, "after", "(I)I"⟩
abbrev cX0_afterIn : ByteArray := prog_1_method_11_code
def yX0_afterIn : MethodName := ⟨RX0, "afterIn", "(II)I"⟩
abbrev cX0_before : ByteArray := prog_1_method_20_code
def yX0_before : MethodName := ⟨RX0, "before", "(I)I"⟩
abbrev cX0_beforeIn : ByteArray := prog_1_method_12_code
def yX0_beforeIn : MethodName := ⟨RX0, "beforeIn", "(II)I"⟩
abbrev cX0_takeLeast : ByteArray := prog_1_method_21_code
def yX0_takeLeast : MethodName := ⟨RX0, "takeLeast", "()I"⟩
abbrev cX0_takeGreatest : ByteArray := prog_1_method_22_code
def yX0_takeGreatest : MethodName := ⟨RX0, "takeGreatest", "()I"⟩
abbrev cX0_countBetween : ByteArray := prog_1_method_24_code
def yX0_countBetween : MethodName := ⟨RX0, "countBetween", "(II)I"⟩
abbrev cX0_from : ByteArray := prog_1_method_23_code
def yX0_from : MethodName := ⟨RX0, "from", "(I)I"⟩
abbrev cX0_select : ByteArray := prog_1_method_25_code
def yX0_select : MethodName := ⟨RX0, "select", "(I)I"⟩
abbrev cX0_gapFrom : ByteArray := prog_1_method_26_code
def yX0_gapFrom : MethodName := ⟨RX0, "gapFrom", "(I)I"⟩
abbrev cX0_deleteBetween : ByteArray := prog_1_method_27_code
def yX0_deleteBetween : MethodName := ⟨RX0, "deleteBetween", "(II)I"⟩
abbrev cX0_nearest : ByteArray := prog_1_method_28_code
def yX0_nearest : MethodName := ⟨RX0, "nearest", "(I)I"⟩
theorem q12 : (Jvm.Cond.initialized "FlatQueue") ∈ lw_all := lw_g (lw_at lw_m0 1 rfl) rfl
theorem q15 : (Jvm.Cond.instantiable "FlatQueue" (7 : Nat)) ∈ lw_all := lw_g (lw_at lw_m0 4 rfl) rfl
theorem q17 : (Jvm.Cond.instanceMethod ({ cls := "FlatQueue", name := "<init>", desc := "()V" } : Jvm.MethodName)) ∈ lw_all := lw_g (lw_at lw_m0 6 rfl) rfl
theorem q18 : (Jvm.Cond.code ({ cls := "FlatQueue", name := "<init>", desc := "()V" } : Jvm.MethodName) prog_1_method_1_code (2 : Nat) (Option.none : Option Jvm.ClassFile.FieldType)) ∈ lw_all := lw_g (lw_at lw_m0 7 rfl) rfl
theorem q19 : (Jvm.Cond.methodLink "FlatQueue" (1 : Nat) ({ cls := "java/lang/Object", name := "<init>", desc := "()V" } : Jvm.MethodName)) ∈ lw_all := lw_g (lw_at lw_m0 8 rfl) rfl
theorem q22 : (Jvm.Cond.fieldLink "FlatQueue" (7 : Nat) "FlatQueue" "low" "[B") ∈ lw_all := lw_g (lw_at lw_m0 11 rfl) rfl
theorem q23 : (Jvm.Cond.fieldLink "FlatQueue" (13 : Nat) "FlatQueue" "high" "[B") ∈ lw_all := lw_g (lw_at lw_m0 12 rfl) rfl
theorem q24 : (Jvm.Cond.fieldLink "FlatQueue" (16 : Nat) "FlatQueue" "parts" "[B") ∈ lw_all := lw_g (lw_at lw_m0 13 rfl) rfl
theorem q25 : (Jvm.Cond.fieldLink "FlatQueue" (19 : Nat) "FlatQueue" "bits" "[B") ∈ lw_all := lw_g (lw_at lw_m0 14 rfl) rfl
theorem q26 : (Jvm.Cond.fieldLink "FlatQueue" (22 : Nat) "FlatQueue" "least" "I") ∈ lw_all := lw_g (lw_at lw_m0 15 rfl) rfl
theorem q27 : (Jvm.Cond.fieldLink "FlatQueue" (26 : Nat) "FlatQueue" "greatest" "I") ∈ lw_all := lw_g (lw_at lw_m0 16 rfl) rfl
theorem q28 : (Jvm.Cond.fieldLink "FlatQueue" (53 : Nat) "FlatQueue" "count" "I") ∈ lw_all := lw_g (lw_at lw_m0 17 rfl) rfl
theorem q29 : (Jvm.Cond.laysFinal "FlatQueue" "FlatQueue" "low" "[B") ∈ lw_all := lw_g (lw_at lw_m0 18 rfl) rfl
theorem q30 : (Jvm.Cond.soleField "FlatQueue" "low") ∈ lw_all := lw_g (lw_at lw_m0 19 rfl) rfl
theorem q31 : (Jvm.Cond.laysFinal "FlatQueue" "FlatQueue" "high" "[B") ∈ lw_all := lw_g (lw_at lw_m0 20 rfl) rfl
theorem q32 : (Jvm.Cond.soleField "FlatQueue" "high") ∈ lw_all := lw_g (lw_at lw_m0 21 rfl) rfl
theorem q33 : (Jvm.Cond.laysFinal "FlatQueue" "FlatQueue" "parts" "[B") ∈ lw_all := lw_g (lw_at lw_m0 22 rfl) rfl
theorem q34 : (Jvm.Cond.soleField "FlatQueue" "parts") ∈ lw_all := lw_g (lw_at lw_m0 23 rfl) rfl
theorem q35 : (Jvm.Cond.laysFinal "FlatQueue" "FlatQueue" "bits" "[B") ∈ lw_all := lw_g (lw_at lw_m0 24 rfl) rfl
theorem q36 : (Jvm.Cond.soleField "FlatQueue" "bits") ∈ lw_all := lw_g (lw_at lw_m0 25 rfl) rfl
theorem q37 : (Jvm.Cond.lays "FlatQueue" "FlatQueue" "least" "I") ∈ lw_all := lw_g (lw_at lw_m0 26 rfl) rfl
theorem q38 : (Jvm.Cond.soleField "FlatQueue" "least") ∈ lw_all := lw_g (lw_at lw_m0 27 rfl) rfl
theorem q39 : (Jvm.Cond.lays "FlatQueue" "FlatQueue" "greatest" "I") ∈ lw_all := lw_g (lw_at lw_m0 28 rfl) rfl
theorem q40 : (Jvm.Cond.soleField "FlatQueue" "greatest") ∈ lw_all := lw_g (lw_at lw_m0 29 rfl) rfl
theorem q41 : (Jvm.Cond.lays "FlatQueue" "FlatQueue" "count" "I") ∈ lw_all := lw_g (lw_at lw_m0 30 rfl) rfl
theorem q42 : (Jvm.Cond.soleField "FlatQueue" "count") ∈ lw_all := lw_g (lw_at lw_m0 31 rfl) rfl
theorem q43 : (Jvm.Cond.superclass "FlatQueue" "java/lang/Object") ∈ lw_all := lw_g (lw_at lw_m0 32 rfl) rfl
theorem q46 : (Jvm.Cond.instanceMethod ({ cls := "FlatQueue", name := "insert", desc := "(I)Z" } : Jvm.MethodName)) ∈ lw_all := lw_g (lw_at lw_m0 35 rfl) rfl
theorem q47 : (Jvm.Cond.selects "FlatQueue" ({ cls := "FlatQueue", name := "insert", desc := "(I)Z" } : Jvm.MethodName) ({ cls := "FlatQueue", name := "insert", desc := "(I)Z" } : Jvm.MethodName)) ∈ lw_all := lw_g (lw_at lw_m0 36 rfl) rfl
theorem q48 : (Jvm.Cond.code ({ cls := "FlatQueue", name := "insert", desc := "(I)Z" } : Jvm.MethodName) prog_1_method_13_code (4 : Nat) (Option.some Jvm.ClassFile.FieldType.boolean)) ∈ lw_all := lw_g (lw_at lw_m0 37 rfl) rfl
theorem q49 : (Jvm.Cond.methodLink "FlatQueue" (49 : Nat) ({ cls := "FlatQueue", name := "member", desc := "(I)Z" } : Jvm.MethodName)) ∈ lw_all := lw_g (lw_at lw_m0 38 rfl) rfl
theorem q50 : (Jvm.Cond.instanceMethod ({ cls := "FlatQueue", name := "member", desc := "(I)Z" } : Jvm.MethodName)) ∈ lw_all := lw_g (lw_at lw_m0 39 rfl) rfl
theorem q51 : (Jvm.Cond.selects "FlatQueue" ({ cls := "FlatQueue", name := "member", desc := "(I)Z" } : Jvm.MethodName) ({ cls := "FlatQueue", name := "member", desc := "(I)Z" } : Jvm.MethodName)) ∈ lw_all := lw_g (lw_at lw_m0 40 rfl) rfl
theorem q52 : (Jvm.Cond.code ({ cls := "FlatQueue", name := "member", desc := "(I)Z" } : Jvm.MethodName) prog_1_method_15_code (2 : Nat) (Option.some Jvm.ClassFile.FieldType.boolean)) ∈ lw_all := lw_g (lw_at lw_m0 41 rfl) rfl
theorem q53 : (Jvm.Cond.methodLink "FlatQueue" (62 : Nat) ({ cls := "FlatQueue", name := "inCluster", desc := "(II)Z" } : Jvm.MethodName)) ∈ lw_all := lw_g (lw_at lw_m0 42 rfl) rfl
theorem q54 : (Jvm.Cond.privateMethod ({ cls := "FlatQueue", name := "inCluster", desc := "(II)Z" } : Jvm.MethodName)) ∈ lw_tbl := lw_at lw_m0 43 rfl
theorem q55 : (Jvm.Cond.instanceMethod ({ cls := "FlatQueue", name := "inCluster", desc := "(II)Z" } : Jvm.MethodName)) ∈ lw_all := lw_g (lw_at lw_m0 44 rfl) rfl
theorem q56 : (Jvm.Cond.code ({ cls := "FlatQueue", name := "inCluster", desc := "(II)Z" } : Jvm.MethodName) prog_1_method_6_code (3 : Nat) (Option.some Jvm.ClassFile.FieldType.boolean)) ∈ lw_all := lw_g (lw_at lw_m0 45 rfl) rfl
theorem q57 : (Jvm.Cond.methodLink "FlatQueue" (56 : Nat) ({ cls := "FlatQueue", name := "insertInto", desc := "(II)V" } : Jvm.MethodName)) ∈ lw_all := lw_g (lw_at lw_m0 46 rfl) rfl
theorem q58 : (Jvm.Cond.privateMethod ({ cls := "FlatQueue", name := "insertInto", desc := "(II)V" } : Jvm.MethodName)) ∈ lw_tbl := lw_at lw_m0 47 rfl
theorem q59 : (Jvm.Cond.instanceMethod ({ cls := "FlatQueue", name := "insertInto", desc := "(II)V" } : Jvm.MethodName)) ∈ lw_all := lw_g (lw_at lw_m0 48 rfl) rfl
theorem q60 : (Jvm.Cond.code ({ cls := "FlatQueue", name := "insertInto", desc := "(II)V" } : Jvm.MethodName) prog_1_method_7_code (4 : Nat) (Option.none : Option Jvm.ClassFile.FieldType)) ∈ lw_all := lw_g (lw_at lw_m0 49 rfl) rfl
theorem q61 : (Jvm.Cond.methodLink "FlatQueue" (29 : Nat) ({ cls := "FlatQueue", name := "putBit", desc := "(II)V" } : Jvm.MethodName)) ∈ lw_all := lw_g (lw_at lw_m0 50 rfl) rfl
theorem q62 : (Jvm.Cond.privateMethod ({ cls := "FlatQueue", name := "putBit", desc := "(II)V" } : Jvm.MethodName)) ∈ lw_tbl := lw_at lw_m0 51 rfl
theorem q63 : (Jvm.Cond.instanceMethod ({ cls := "FlatQueue", name := "putBit", desc := "(II)V" } : Jvm.MethodName)) ∈ lw_all := lw_g (lw_at lw_m0 52 rfl) rfl
theorem q64 : (Jvm.Cond.code ({ cls := "FlatQueue", name := "putBit", desc := "(II)V" } : Jvm.MethodName) prog_1_method_4_code (4 : Nat) (Option.none : Option Jvm.ClassFile.FieldType)) ∈ lw_all := lw_g (lw_at lw_m0 53 rfl) rfl
theorem q66 : (Jvm.Cond.instanceMethod ({ cls := "FlatQueue", name := "delete", desc := "(I)Z" } : Jvm.MethodName)) ∈ lw_all := lw_g (lw_at lw_m0 55 rfl) rfl
theorem q67 : (Jvm.Cond.selects "FlatQueue" ({ cls := "FlatQueue", name := "delete", desc := "(I)Z" } : Jvm.MethodName) ({ cls := "FlatQueue", name := "delete", desc := "(I)Z" } : Jvm.MethodName)) ∈ lw_all := lw_g (lw_at lw_m0 56 rfl) rfl
theorem q68 : (Jvm.Cond.code ({ cls := "FlatQueue", name := "delete", desc := "(I)Z" } : Jvm.MethodName) prog_1_method_14_code (4 : Nat) (Option.some Jvm.ClassFile.FieldType.boolean)) ∈ lw_all := lw_g (lw_at lw_m0 57 rfl) rfl
theorem q69 : (Jvm.Cond.methodLink "FlatQueue" (59 : Nat) ({ cls := "FlatQueue", name := "deleteFrom", desc := "(II)V" } : Jvm.MethodName)) ∈ lw_all := lw_g (lw_at lw_m0 58 rfl) rfl
theorem q70 : (Jvm.Cond.privateMethod ({ cls := "FlatQueue", name := "deleteFrom", desc := "(II)V" } : Jvm.MethodName)) ∈ lw_tbl := lw_at lw_m0 59 rfl
theorem q71 : (Jvm.Cond.instanceMethod ({ cls := "FlatQueue", name := "deleteFrom", desc := "(II)V" } : Jvm.MethodName)) ∈ lw_all := lw_g (lw_at lw_m0 60 rfl) rfl
theorem q72 : (Jvm.Cond.code ({ cls := "FlatQueue", name := "deleteFrom", desc := "(II)V" } : Jvm.MethodName) prog_1_method_10_code (5 : Nat) (Option.none : Option Jvm.ClassFile.FieldType)) ∈ lw_all := lw_g (lw_at lw_m0 61 rfl) rfl
theorem q73 : (Jvm.Cond.methodLink "FlatQueue" (40 : Nat) ({ cls := "FlatQueue", name := "leastInParts", desc := "(I)I" } : Jvm.MethodName)) ∈ lw_all := lw_g (lw_at lw_m0 62 rfl) rfl
theorem q74 : (Jvm.Cond.privateMethod ({ cls := "FlatQueue", name := "leastInParts", desc := "(I)I" } : Jvm.MethodName)) ∈ lw_tbl := lw_at lw_m0 63 rfl
theorem q75 : (Jvm.Cond.instanceMethod ({ cls := "FlatQueue", name := "leastInParts", desc := "(I)I" } : Jvm.MethodName)) ∈ lw_all := lw_g (lw_at lw_m0 64 rfl) rfl
theorem q76 : (Jvm.Cond.code ({ cls := "FlatQueue", name := "leastInParts", desc := "(I)I" } : Jvm.MethodName) prog_1_method_8_code (4 : Nat) (Option.some Jvm.ClassFile.FieldType.int)) ∈ lw_all := lw_g (lw_at lw_m0 65 rfl) rfl
theorem q77 : (Jvm.Cond.methodLink "FlatQueue" (33 : Nat) ({ cls := "FlatQueue", name := "lowest", desc := "(I)I" } : Jvm.MethodName)) ∈ lw_all := lw_g (lw_at lw_m0 66 rfl) rfl
theorem q78 : (Jvm.Cond.static ({ cls := "FlatQueue", name := "lowest", desc := "(I)I" } : Jvm.MethodName)) ∈ lw_all := lw_g (lw_at lw_m0 67 rfl) rfl
theorem q79 : (Jvm.Cond.code ({ cls := "FlatQueue", name := "lowest", desc := "(I)I" } : Jvm.MethodName) prog_1_method_2_code (1 : Nat) (Option.some Jvm.ClassFile.FieldType.int)) ∈ lw_all := lw_g (lw_at lw_m0 68 rfl) rfl
theorem q80 : (Jvm.Cond.methodLink "FlatQueue" (43 : Nat) ({ cls := "FlatQueue", name := "takeBit", desc := "(II)V" } : Jvm.MethodName)) ∈ lw_all := lw_g (lw_at lw_m0 69 rfl) rfl
theorem q81 : (Jvm.Cond.privateMethod ({ cls := "FlatQueue", name := "takeBit", desc := "(II)V" } : Jvm.MethodName)) ∈ lw_tbl := lw_at lw_m0 70 rfl
theorem q82 : (Jvm.Cond.instanceMethod ({ cls := "FlatQueue", name := "takeBit", desc := "(II)V" } : Jvm.MethodName)) ∈ lw_all := lw_g (lw_at lw_m0 71 rfl) rfl
theorem q83 : (Jvm.Cond.code ({ cls := "FlatQueue", name := "takeBit", desc := "(II)V" } : Jvm.MethodName) prog_1_method_5_code (4 : Nat) (Option.none : Option Jvm.ClassFile.FieldType)) ∈ lw_all := lw_g (lw_at lw_m0 72 rfl) rfl
theorem q84 : (Jvm.Cond.methodLink "FlatQueue" (46 : Nat) ({ cls := "FlatQueue", name := "greatestInParts", desc := "(I)I" } : Jvm.MethodName)) ∈ lw_all := lw_g (lw_at lw_m0 73 rfl) rfl
theorem q85 : (Jvm.Cond.privateMethod ({ cls := "FlatQueue", name := "greatestInParts", desc := "(I)I" } : Jvm.MethodName)) ∈ lw_tbl := lw_at lw_m0 74 rfl
theorem q86 : (Jvm.Cond.instanceMethod ({ cls := "FlatQueue", name := "greatestInParts", desc := "(I)I" } : Jvm.MethodName)) ∈ lw_all := lw_g (lw_at lw_m0 75 rfl) rfl
theorem q87 : (Jvm.Cond.code ({ cls := "FlatQueue", name := "greatestInParts", desc := "(I)I" } : Jvm.MethodName) prog_1_method_9_code (4 : Nat) (Option.some Jvm.ClassFile.FieldType.int)) ∈ lw_all := lw_g (lw_at lw_m0 76 rfl) rfl
theorem q88 : (Jvm.Cond.methodLink "FlatQueue" (37 : Nat) ({ cls := "FlatQueue", name := "highest", desc := "(I)I" } : Jvm.MethodName)) ∈ lw_all := lw_g (lw_at lw_m0 77 rfl) rfl
theorem q89 : (Jvm.Cond.static ({ cls := "FlatQueue", name := "highest", desc := "(I)I" } : Jvm.MethodName)) ∈ lw_all := lw_g (lw_at lw_m0 78 rfl) rfl
theorem q90 : (Jvm.Cond.code ({ cls := "FlatQueue", name := "highest", desc := "(I)I" } : Jvm.MethodName) prog_1_method_3_code (1 : Nat) (Option.some Jvm.ClassFile.FieldType.int)) ∈ lw_all := lw_g (lw_at lw_m0 79 rfl) rfl
theorem q93 : (Jvm.Cond.instanceMethod ({ cls := "FlatQueue", name := "size", desc := "()I" } : Jvm.MethodName)) ∈ lw_all := lw_g (lw_at lw_m0 82 rfl) rfl
theorem q94 : (Jvm.Cond.selects "FlatQueue" ({ cls := "FlatQueue", name := "size", desc := "()I" } : Jvm.MethodName) ({ cls := "FlatQueue", name := "size", desc := "()I" } : Jvm.MethodName)) ∈ lw_all := lw_g (lw_at lw_m0 83 rfl) rfl
theorem q95 : (Jvm.Cond.code ({ cls := "FlatQueue", name := "size", desc := "()I" } : Jvm.MethodName) prog_1_method_16_code (1 : Nat) (Option.some Jvm.ClassFile.FieldType.int)) ∈ lw_all := lw_g (lw_at lw_m0 84 rfl) rfl
theorem q97 : (Jvm.Cond.instanceMethod ({ cls := "FlatQueue", name := "least", desc := "()I" } : Jvm.MethodName)) ∈ lw_all := lw_g (lw_at lw_m0 86 rfl) rfl
theorem q98 : (Jvm.Cond.selects "FlatQueue" ({ cls := "FlatQueue", name := "least", desc := "()I" } : Jvm.MethodName) ({ cls := "FlatQueue", name := "least", desc := "()I" } : Jvm.MethodName)) ∈ lw_all := lw_g (lw_at lw_m0 87 rfl) rfl
theorem q99 : (Jvm.Cond.code ({ cls := "FlatQueue", name := "least", desc := "()I" } : Jvm.MethodName) prog_1_method_17_code (1 : Nat) (Option.some Jvm.ClassFile.FieldType.int)) ∈ lw_all := lw_g (lw_at lw_m0 88 rfl) rfl
theorem q101 : (Jvm.Cond.instanceMethod ({ cls := "FlatQueue", name := "greatest", desc := "()I" } : Jvm.MethodName)) ∈ lw_all := lw_g (lw_at lw_m0 90 rfl) rfl
theorem q102 : (Jvm.Cond.selects "FlatQueue" ({ cls := "FlatQueue", name := "greatest", desc := "()I" } : Jvm.MethodName) ({ cls := "FlatQueue", name := "greatest", desc := "()I" } : Jvm.MethodName)) ∈ lw_all := lw_g (lw_at lw_m0 91 rfl) rfl
theorem q103 : (Jvm.Cond.code ({ cls := "FlatQueue", name := "greatest", desc := "()I" } : Jvm.MethodName) prog_1_method_18_code (1 : Nat) (Option.some Jvm.ClassFile.FieldType.int)) ∈ lw_all := lw_g (lw_at lw_m0 92 rfl) rfl
theorem q105 : (Jvm.Cond.instanceMethod ({ cls := "FlatQueue", name := "after", desc := "(I)I" } : Jvm.MethodName)) ∈ lw_all := lw_g (lw_at lw_m0 94 rfl) rfl
theorem q106 : (Jvm.Cond.selects "FlatQueue" ({ cls := "FlatQueue", name := "after", desc := "(I)I" } : Jvm.MethodName) ({ cls := "FlatQueue", name := "after", desc := "(I)I" } : Jvm.MethodName)) ∈ lw_all := lw_g (lw_at lw_m0 95 rfl) rfl
theorem q107 : (Jvm.Cond.code ({ cls := "FlatQueue", name := "after", desc := "(I)I" } : Jvm.MethodName) prog_1_method_19_code (5 : Nat) (Option.some Jvm.ClassFile.FieldType.int)) ∈ lw_all := lw_g (lw_at lw_m0 96 rfl) rfl
theorem q108 : (Jvm.Cond.methodLink "FlatQueue" (66 : Nat) ({ cls := "FlatQueue", name := "afterIn", desc := "(II)I" } : Jvm.MethodName)) ∈ lw_all := lw_g (lw_at lw_m0 97 rfl) rfl
theorem q109 : (Jvm.Cond.privateMethod ({ cls := "FlatQueue", name := "afterIn", desc := "(II)I" } : Jvm.MethodName)) ∈ lw_tbl := lw_at lw_m0 98 rfl
theorem q110 : (Jvm.Cond.instanceMethod ({ cls := "FlatQueue", name := "afterIn", desc := "(II)I" } : Jvm.MethodName)) ∈ lw_all := lw_g (lw_at lw_m0 99 rfl) rfl
theorem q111 : (Jvm.Cond.code ({ cls := "FlatQueue", name := "afterIn", desc := "(II)I" } : Jvm.MethodName) prog_1_method_11_code (7 : Nat) (Option.some Jvm.ClassFile.FieldType.int)) ∈ lw_all := lw_g (lw_at lw_m0 100 rfl) rfl
theorem q113 : (Jvm.Cond.instanceMethod ({ cls := "FlatQueue", name := "before", desc := "(I)I" } : Jvm.MethodName)) ∈ lw_all := lw_g (lw_at lw_m0 102 rfl) rfl
theorem q114 : (Jvm.Cond.selects "FlatQueue" ({ cls := "FlatQueue", name := "before", desc := "(I)I" } : Jvm.MethodName) ({ cls := "FlatQueue", name := "before", desc := "(I)I" } : Jvm.MethodName)) ∈ lw_all := lw_g (lw_at lw_m0 103 rfl) rfl
theorem q115 : (Jvm.Cond.code ({ cls := "FlatQueue", name := "before", desc := "(I)I" } : Jvm.MethodName) prog_1_method_20_code (5 : Nat) (Option.some Jvm.ClassFile.FieldType.int)) ∈ lw_all := lw_g (lw_at lw_m0 104 rfl) rfl
theorem q116 : (Jvm.Cond.methodLink "FlatQueue" (70 : Nat) ({ cls := "FlatQueue", name := "beforeIn", desc := "(II)I" } : Jvm.MethodName)) ∈ lw_all := lw_g (lw_at lw_m0 105 rfl) rfl
theorem q117 : (Jvm.Cond.privateMethod ({ cls := "FlatQueue", name := "beforeIn", desc := "(II)I" } : Jvm.MethodName)) ∈ lw_tbl := lw_at lw_m0 106 rfl
theorem q118 : (Jvm.Cond.instanceMethod ({ cls := "FlatQueue", name := "beforeIn", desc := "(II)I" } : Jvm.MethodName)) ∈ lw_all := lw_g (lw_at lw_m0 107 rfl) rfl
theorem q119 : (Jvm.Cond.code ({ cls := "FlatQueue", name := "beforeIn", desc := "(II)I" } : Jvm.MethodName) prog_1_method_12_code (7 : Nat) (Option.some Jvm.ClassFile.FieldType.int)) ∈ lw_all := lw_g (lw_at lw_m0 108 rfl) rfl
theorem q121 : (Jvm.Cond.instanceMethod ({ cls := "FlatQueue", name := "takeLeast", desc := "()I" } : Jvm.MethodName)) ∈ lw_all := lw_g (lw_at lw_m0 110 rfl) rfl
theorem q122 : (Jvm.Cond.selects "FlatQueue" ({ cls := "FlatQueue", name := "takeLeast", desc := "()I" } : Jvm.MethodName) ({ cls := "FlatQueue", name := "takeLeast", desc := "()I" } : Jvm.MethodName)) ∈ lw_all := lw_g (lw_at lw_m0 111 rfl) rfl
theorem q123 : (Jvm.Cond.code ({ cls := "FlatQueue", name := "takeLeast", desc := "()I" } : Jvm.MethodName) prog_1_method_21_code (2 : Nat) (Option.some Jvm.ClassFile.FieldType.int)) ∈ lw_all := lw_g (lw_at lw_m0 112 rfl) rfl
theorem q124 : (Jvm.Cond.methodLink "FlatQueue" (73 : Nat) ({ cls := "FlatQueue", name := "delete", desc := "(I)Z" } : Jvm.MethodName)) ∈ lw_all := lw_g (lw_at lw_m0 113 rfl) rfl
theorem q126 : (Jvm.Cond.instanceMethod ({ cls := "FlatQueue", name := "takeGreatest", desc := "()I" } : Jvm.MethodName)) ∈ lw_all := lw_g (lw_at lw_m0 115 rfl) rfl
theorem q127 : (Jvm.Cond.selects "FlatQueue" ({ cls := "FlatQueue", name := "takeGreatest", desc := "()I" } : Jvm.MethodName) ({ cls := "FlatQueue", name := "takeGreatest", desc := "()I" } : Jvm.MethodName)) ∈ lw_all := lw_g (lw_at lw_m0 116 rfl) rfl
theorem q128 : (Jvm.Cond.code ({ cls := "FlatQueue", name := "takeGreatest", desc := "()I" } : Jvm.MethodName) prog_1_method_22_code (2 : Nat) (Option.some Jvm.ClassFile.FieldType.int)) ∈ lw_all := lw_g (lw_at lw_m0 117 rfl) rfl
theorem q130 : (Jvm.Cond.instanceMethod ({ cls := "FlatQueue", name := "countBetween", desc := "(II)I" } : Jvm.MethodName)) ∈ lw_all := lw_g (lw_at lw_m0 119 rfl) rfl
theorem q131 : (Jvm.Cond.selects "FlatQueue" ({ cls := "FlatQueue", name := "countBetween", desc := "(II)I" } : Jvm.MethodName) ({ cls := "FlatQueue", name := "countBetween", desc := "(II)I" } : Jvm.MethodName)) ∈ lw_all := lw_g (lw_at lw_m0 120 rfl) rfl
theorem q132 : (Jvm.Cond.code ({ cls := "FlatQueue", name := "countBetween", desc := "(II)I" } : Jvm.MethodName) prog_1_method_24_code (6 : Nat) (Option.some Jvm.ClassFile.FieldType.int)) ∈ lw_all := lw_g (lw_at lw_m0 121 rfl) rfl
theorem q133 : (Jvm.Cond.methodLink "FlatQueue" (79 : Nat) ({ cls := "FlatQueue", name := "from", desc := "(I)I" } : Jvm.MethodName)) ∈ lw_all := lw_g (lw_at lw_m0 122 rfl) rfl
theorem q134 : (Jvm.Cond.privateMethod ({ cls := "FlatQueue", name := "from", desc := "(I)I" } : Jvm.MethodName)) ∈ lw_tbl := lw_at lw_m0 123 rfl
theorem q135 : (Jvm.Cond.instanceMethod ({ cls := "FlatQueue", name := "from", desc := "(I)I" } : Jvm.MethodName)) ∈ lw_all := lw_g (lw_at lw_m0 124 rfl) rfl
theorem q136 : (Jvm.Cond.code ({ cls := "FlatQueue", name := "from", desc := "(I)I" } : Jvm.MethodName) prog_1_method_23_code (2 : Nat) (Option.some Jvm.ClassFile.FieldType.int)) ∈ lw_all := lw_g (lw_at lw_m0 125 rfl) rfl
theorem q137 : (Jvm.Cond.methodLink "FlatQueue" (76 : Nat) ({ cls := "FlatQueue", name := "after", desc := "(I)I" } : Jvm.MethodName)) ∈ lw_all := lw_g (lw_at lw_m0 126 rfl) rfl
theorem q139 : (Jvm.Cond.instanceMethod ({ cls := "FlatQueue", name := "select", desc := "(I)I" } : Jvm.MethodName)) ∈ lw_all := lw_g (lw_at lw_m0 128 rfl) rfl
theorem q140 : (Jvm.Cond.selects "FlatQueue" ({ cls := "FlatQueue", name := "select", desc := "(I)I" } : Jvm.MethodName) ({ cls := "FlatQueue", name := "select", desc := "(I)I" } : Jvm.MethodName)) ∈ lw_all := lw_g (lw_at lw_m0 129 rfl) rfl
theorem q141 : (Jvm.Cond.code ({ cls := "FlatQueue", name := "select", desc := "(I)I" } : Jvm.MethodName) prog_1_method_25_code (4 : Nat) (Option.some Jvm.ClassFile.FieldType.int)) ∈ lw_all := lw_g (lw_at lw_m0 130 rfl) rfl
theorem q143 : (Jvm.Cond.instanceMethod ({ cls := "FlatQueue", name := "gapFrom", desc := "(I)I" } : Jvm.MethodName)) ∈ lw_all := lw_g (lw_at lw_m0 132 rfl) rfl
theorem q144 : (Jvm.Cond.selects "FlatQueue" ({ cls := "FlatQueue", name := "gapFrom", desc := "(I)I" } : Jvm.MethodName) ({ cls := "FlatQueue", name := "gapFrom", desc := "(I)I" } : Jvm.MethodName)) ∈ lw_all := lw_g (lw_at lw_m0 133 rfl) rfl
theorem q145 : (Jvm.Cond.code ({ cls := "FlatQueue", name := "gapFrom", desc := "(I)I" } : Jvm.MethodName) prog_1_method_26_code (3 : Nat) (Option.some Jvm.ClassFile.FieldType.int)) ∈ lw_all := lw_g (lw_at lw_m0 134 rfl) rfl
theorem q147 : (Jvm.Cond.instanceMethod ({ cls := "FlatQueue", name := "deleteBetween", desc := "(II)I" } : Jvm.MethodName)) ∈ lw_all := lw_g (lw_at lw_m0 136 rfl) rfl
theorem q148 : (Jvm.Cond.selects "FlatQueue" ({ cls := "FlatQueue", name := "deleteBetween", desc := "(II)I" } : Jvm.MethodName) ({ cls := "FlatQueue", name := "deleteBetween", desc := "(II)I" } : Jvm.MethodName)) ∈ lw_all := lw_g (lw_at lw_m0 137 rfl) rfl
theorem q149 : (Jvm.Cond.code ({ cls := "FlatQueue", name := "deleteBetween", desc := "(II)I" } : Jvm.MethodName) prog_1_method_27_code (6 : Nat) (Option.some Jvm.ClassFile.FieldType.int)) ∈ lw_all := lw_g (lw_at lw_m0 138 rfl) rfl
theorem q151 : (Jvm.Cond.instanceMethod ({ cls := "FlatQueue", name := "nearest", desc := "(I)I" } : Jvm.MethodName)) ∈ lw_all := lw_g (lw_at lw_m0 140 rfl) rfl
theorem q152 : (Jvm.Cond.selects "FlatQueue" ({ cls := "FlatQueue", name := "nearest", desc := "(I)I" } : Jvm.MethodName) ({ cls := "FlatQueue", name := "nearest", desc := "(I)I" } : Jvm.MethodName)) ∈ lw_all := lw_g (lw_at lw_m0 141 rfl) rfl
theorem q153 : (Jvm.Cond.code ({ cls := "FlatQueue", name := "nearest", desc := "(I)I" } : Jvm.MethodName) prog_1_method_28_code (4 : Nat) (Option.some Jvm.ClassFile.FieldType.int)) ∈ lw_all := lw_g (lw_at lw_m0 142 rfl) rfl
theorem q154 : (Jvm.Cond.methodLink "FlatQueue" (82 : Nat) ({ cls := "FlatQueue", name := "before", desc := "(I)I" } : Jvm.MethodName)) ∈ lw_all := lw_g (lw_at lw_m0 143 rfl) rfl
theorem in_X0 : ∀ w ∈ wsX00, w ∈ lw_all := lw_in wsX00 [29, 31, 33, 35, 37, 39, 41] (by decide +kernel) (by decide +kernel)
end
section
set_option maxRecDepth 100000
theorem dX0_init_0 : decode cX0_init 0 = .ok (.aload_n 0, 1) := by decide +kernel
theorem dX0_init_1 : decode cX0_init 1 = .ok (.invokespecial 1, 3) := by decide +kernel
theorem dX0_init_4 : decode cX0_init 4 = .ok (.aload_n 0, 1) := by decide +kernel
theorem dX0_init_5 : decode cX0_init 5 = .ok (.bipush 17, 2) := by decide +kernel
theorem dX0_init_7 : decode cX0_init 7 = .ok (.newarray .byte, 2) := by decide +kernel
theorem dX0_init_9 : decode cX0_init 9 = .ok (.putfield 7, 3) := by decide +kernel
theorem dX0_init_12 : decode cX0_init 12 = .ok (.aload_n 0, 1) := by decide +kernel
theorem dX0_init_13 : decode cX0_init 13 = .ok (.bipush 17, 2) := by decide +kernel
theorem dX0_init_15 : decode cX0_init 15 = .ok (.newarray .byte, 2) := by decide +kernel
theorem dX0_init_17 : decode cX0_init 17 = .ok (.putfield 13, 3) := by decide +kernel
theorem dX0_init_20 : decode cX0_init 20 = .ok (.aload_n 0, 1) := by decide +kernel
theorem dX0_init_21 : decode cX0_init 21 = .ok (.bipush 17, 2) := by decide +kernel
theorem dX0_init_23 : decode cX0_init 23 = .ok (.newarray .byte, 2) := by decide +kernel
theorem dX0_init_25 : decode cX0_init 25 = .ok (.putfield 16, 3) := by decide +kernel
theorem dX0_init_28 : decode cX0_init 28 = .ok (.aload_n 0, 1) := by decide +kernel
theorem dX0_init_29 : decode cX0_init 29 = .ok (.bipush 68, 2) := by decide +kernel
theorem dX0_init_31 : decode cX0_init 31 = .ok (.newarray .byte, 2) := by decide +kernel
theorem dX0_init_33 : decode cX0_init 33 = .ok (.putfield 19, 3) := by decide +kernel
theorem dX0_init_36 : decode cX0_init 36 = .ok (.aload_n 0, 1) := by decide +kernel
theorem dX0_init_37 : decode cX0_init 37 = .ok (.iconst (-1), 1) := by decide +kernel
theorem dX0_init_38 : decode cX0_init 38 = .ok (.putfield 22, 3) := by decide +kernel
theorem dX0_init_41 : decode cX0_init 41 = .ok (.aload_n 0, 1) := by decide +kernel
theorem dX0_init_42 : decode cX0_init 42 = .ok (.iconst (-1), 1) := by decide +kernel
theorem dX0_init_43 : decode cX0_init 43 = .ok (.putfield 26, 3) := by decide +kernel
theorem dX0_init_46 : decode cX0_init 46 = .ok (.iconst 0, 1) := by decide +kernel
theorem dX0_init_47 : decode cX0_init 47 = .ok (.istore_n 1, 1) := by decide +kernel
theorem dX0_init_48 : decode cX0_init 48 = .ok (.iload_n 1, 1) := by decide +kernel
theorem dX0_init_49 : decode cX0_init 49 = .ok (.bipush 16, 2) := by decide +kernel
theorem dX0_init_51 : decode cX0_init 51 = .ok (.if_icmp .gt 23, 3) := by decide +kernel
theorem dX0_init_54 : decode cX0_init 54 = .ok (.aload_n 0, 1) := by decide +kernel
theorem dX0_init_55 : decode cX0_init 55 = .ok (.getfield 7, 3) := by decide +kernel
theorem dX0_init_58 : decode cX0_init 58 = .ok (.iload_n 1, 1) := by decide +kernel
theorem dX0_init_59 : decode cX0_init 59 = .ok (.iconst (-1), 1) := by decide +kernel
theorem dX0_init_60 : decode cX0_init 60 = .ok (.bastore, 1) := by decide +kernel
theorem dX0_init_61 : decode cX0_init 61 = .ok (.aload_n 0, 1) := by decide +kernel
theorem dX0_init_62 : decode cX0_init 62 = .ok (.getfield 13, 3) := by decide +kernel
theorem dX0_init_65 : decode cX0_init 65 = .ok (.iload_n 1, 1) := by decide +kernel
theorem dX0_init_66 : decode cX0_init 66 = .ok (.iconst (-1), 1) := by decide +kernel
theorem dX0_init_67 : decode cX0_init 67 = .ok (.bastore, 1) := by decide +kernel
theorem dX0_init_68 : decode cX0_init 68 = .ok (.iinc 1 1, 3) := by decide +kernel
theorem dX0_init_71 : decode cX0_init 71 = .ok (.goto (-23), 3) := by decide +kernel
theorem dX0_init_74 : decode cX0_init 74 = .ok (.return_, 1) := by decide +kernel
theorem dX0_insert_0 : decode cX0_insert 0 = .ok (.iload_n 1, 1) := by decide +kernel
theorem dX0_insert_1 : decode cX0_insert 1 = .ok (.ifCond .lt 18, 3) := by decide +kernel
theorem dX0_insert_4 : decode cX0_insert 4 = .ok (.iload_n 1, 1) := by decide +kernel
theorem dX0_insert_5 : decode cX0_insert 5 = .ok (.sipush 256, 3) := by decide +kernel
theorem dX0_insert_8 : decode cX0_insert 8 = .ok (.if_icmp .ge 11, 3) := by decide +kernel
theorem dX0_insert_11 : decode cX0_insert 11 = .ok (.aload_n 0, 1) := by decide +kernel
theorem dX0_insert_12 : decode cX0_insert 12 = .ok (.iload_n 1, 1) := by decide +kernel
theorem dX0_insert_13 : decode cX0_insert 13 = .ok (.invokevirtual 49, 3) := by decide +kernel
theorem dX0_insert_16 : decode cX0_insert 16 = .ok (.ifCond .eq 5, 3) := by decide +kernel
theorem dX0_insert_19 : decode cX0_insert 19 = .ok (.iconst 0, 1) := by decide +kernel
theorem dX0_insert_20 : decode cX0_insert 20 = .ok (.ireturn, 1) := by decide +kernel
theorem dX0_insert_21 : decode cX0_insert 21 = .ok (.aload_n 0, 1) := by decide +kernel
theorem dX0_insert_22 : decode cX0_insert 22 = .ok (.dup, 1) := by decide +kernel
theorem dX0_insert_23 : decode cX0_insert 23 = .ok (.getfield 53, 3) := by decide +kernel
theorem dX0_insert_26 : decode cX0_insert 26 = .ok (.iconst 1, 1) := by decide +kernel
theorem dX0_insert_27 : decode cX0_insert 27 = .ok (.iadd, 1) := by decide +kernel
theorem dX0_insert_28 : decode cX0_insert 28 = .ok (.putfield 53, 3) := by decide +kernel
theorem dX0_insert_31 : decode cX0_insert 31 = .ok (.aload_n 0, 1) := by decide +kernel
theorem dX0_insert_32 : decode cX0_insert 32 = .ok (.getfield 22, 3) := by decide +kernel
theorem dX0_insert_35 : decode cX0_insert 35 = .ok (.ifCond .ge 15, 3) := by decide +kernel
theorem dX0_insert_38 : decode cX0_insert 38 = .ok (.aload_n 0, 1) := by decide +kernel
theorem dX0_insert_39 : decode cX0_insert 39 = .ok (.iload_n 1, 1) := by decide +kernel
theorem dX0_insert_40 : decode cX0_insert 40 = .ok (.putfield 22, 3) := by decide +kernel
theorem dX0_insert_43 : decode cX0_insert 43 = .ok (.aload_n 0, 1) := by decide +kernel
theorem dX0_insert_44 : decode cX0_insert 44 = .ok (.iload_n 1, 1) := by decide +kernel
theorem dX0_insert_45 : decode cX0_insert 45 = .ok (.putfield 26, 3) := by decide +kernel
theorem dX0_insert_48 : decode cX0_insert 48 = .ok (.iconst 1, 1) := by decide +kernel
theorem dX0_insert_49 : decode cX0_insert 49 = .ok (.ireturn, 1) := by decide +kernel
theorem dX0_insert_50 : decode cX0_insert 50 = .ok (.iload_n 1, 1) := by decide +kernel
theorem dX0_insert_51 : decode cX0_insert 51 = .ok (.istore_n 2, 1) := by decide +kernel
theorem dX0_insert_52 : decode cX0_insert 52 = .ok (.iload_n 1, 1) := by decide +kernel
theorem dX0_insert_53 : decode cX0_insert 53 = .ok (.aload_n 0, 1) := by decide +kernel
theorem dX0_insert_54 : decode cX0_insert 54 = .ok (.getfield 22, 3) := by decide +kernel
theorem dX0_insert_57 : decode cX0_insert 57 = .ok (.if_icmp .ge 13, 3) := by decide +kernel
theorem dX0_insert_60 : decode cX0_insert 60 = .ok (.aload_n 0, 1) := by decide +kernel
theorem dX0_insert_61 : decode cX0_insert 61 = .ok (.getfield 22, 3) := by decide +kernel
theorem dX0_insert_64 : decode cX0_insert 64 = .ok (.istore_n 2, 1) := by decide +kernel
theorem dX0_insert_65 : decode cX0_insert 65 = .ok (.aload_n 0, 1) := by decide +kernel
theorem dX0_insert_66 : decode cX0_insert 66 = .ok (.iload_n 1, 1) := by decide +kernel
theorem dX0_insert_67 : decode cX0_insert 67 = .ok (.putfield 22, 3) := by decide +kernel
theorem dX0_insert_70 : decode cX0_insert 70 = .ok (.iload_n 2, 1) := by decide +kernel
theorem dX0_insert_71 : decode cX0_insert 71 = .ok (.iconst 4, 1) := by decide +kernel
theorem dX0_insert_72 : decode cX0_insert 72 = .ok (.ishr, 1) := by decide +kernel
theorem dX0_insert_73 : decode cX0_insert 73 = .ok (.istore_n 3, 1) := by decide +kernel
theorem dX0_insert_74 : decode cX0_insert 74 = .ok (.aload_n 0, 1) := by decide +kernel
theorem dX0_insert_75 : decode cX0_insert 75 = .ok (.getfield 7, 3) := by decide +kernel
theorem dX0_insert_78 : decode cX0_insert 78 = .ok (.iload_n 3, 1) := by decide +kernel
theorem dX0_insert_79 : decode cX0_insert 79 = .ok (.baload, 1) := by decide +kernel
theorem dX0_insert_80 : decode cX0_insert 80 = .ok (.ifCond .ge 10, 3) := by decide +kernel
theorem dX0_insert_83 : decode cX0_insert 83 = .ok (.aload_n 0, 1) := by decide +kernel
theorem dX0_insert_84 : decode cX0_insert 84 = .ok (.bipush 16, 2) := by decide +kernel
theorem dX0_insert_86 : decode cX0_insert 86 = .ok (.iload_n 3, 1) := by decide +kernel
theorem dX0_insert_87 : decode cX0_insert 87 = .ok (.invokevirtual 56, 3) := by decide +kernel
theorem dX0_insert_90 : decode cX0_insert 90 = .ok (.aload_n 0, 1) := by decide +kernel
theorem dX0_insert_91 : decode cX0_insert 91 = .ok (.iload_n 3, 1) := by decide +kernel
theorem dX0_insert_92 : decode cX0_insert 92 = .ok (.iload_n 2, 1) := by decide +kernel
theorem dX0_insert_93 : decode cX0_insert 93 = .ok (.bipush 15, 2) := by decide +kernel
theorem dX0_insert_95 : decode cX0_insert 95 = .ok (.iand, 1) := by decide +kernel
theorem dX0_insert_96 : decode cX0_insert 96 = .ok (.invokevirtual 56, 3) := by decide +kernel
theorem dX0_insert_99 : decode cX0_insert 99 = .ok (.aload_n 0, 1) := by decide +kernel
theorem dX0_insert_100 : decode cX0_insert 100 = .ok (.iload_n 2, 1) := by decide +kernel
theorem dX0_insert_101 : decode cX0_insert 101 = .ok (.aload_n 0, 1) := by decide +kernel
theorem dX0_insert_102 : decode cX0_insert 102 = .ok (.getfield 26, 3) := by decide +kernel
theorem dX0_insert_105 : decode cX0_insert 105 = .ok (.if_icmp .le 7, 3) := by decide +kernel
theorem dX0_insert_108 : decode cX0_insert 108 = .ok (.iload_n 2, 1) := by decide +kernel
theorem dX0_insert_109 : decode cX0_insert 109 = .ok (.goto 7, 3) := by decide +kernel
theorem dX0_insert_112 : decode cX0_insert 112 = .ok (.aload_n 0, 1) := by decide +kernel
theorem dX0_insert_113 : decode cX0_insert 113 = .ok (.getfield 26, 3) := by decide +kernel
theorem dX0_insert_116 : decode cX0_insert 116 = .ok (.putfield 26, 3) := by decide +kernel
theorem dX0_insert_119 : decode cX0_insert 119 = .ok (.iconst 1, 1) := by decide +kernel
theorem dX0_insert_120 : decode cX0_insert 120 = .ok (.ireturn, 1) := by decide +kernel
theorem dX0_member_0 : decode cX0_member 0 = .ok (.iload_n 1, 1) := by decide +kernel
theorem dX0_member_1 : decode cX0_member 1 = .ok (.ifCond .lt 36, 3) := by decide +kernel
theorem dX0_member_4 : decode cX0_member 4 = .ok (.iload_n 1, 1) := by decide +kernel
theorem dX0_member_5 : decode cX0_member 5 = .ok (.sipush 256, 3) := by decide +kernel
theorem dX0_member_8 : decode cX0_member 8 = .ok (.if_icmp .ge 29, 3) := by decide +kernel
theorem dX0_member_11 : decode cX0_member 11 = .ok (.iload_n 1, 1) := by decide +kernel
theorem dX0_member_12 : decode cX0_member 12 = .ok (.aload_n 0, 1) := by decide +kernel
theorem dX0_member_13 : decode cX0_member 13 = .ok (.getfield 22, 3) := by decide +kernel
theorem dX0_member_16 : decode cX0_member 16 = .ok (.if_icmp .eq 17, 3) := by decide +kernel
theorem dX0_member_19 : decode cX0_member 19 = .ok (.aload_n 0, 1) := by decide +kernel
theorem dX0_member_20 : decode cX0_member 20 = .ok (.iload_n 1, 1) := by decide +kernel
theorem dX0_member_21 : decode cX0_member 21 = .ok (.iconst 4, 1) := by decide +kernel
theorem dX0_member_22 : decode cX0_member 22 = .ok (.ishr, 1) := by decide +kernel
theorem dX0_member_23 : decode cX0_member 23 = .ok (.iload_n 1, 1) := by decide +kernel
theorem dX0_member_24 : decode cX0_member 24 = .ok (.bipush 15, 2) := by decide +kernel
theorem dX0_member_26 : decode cX0_member 26 = .ok (.iand, 1) := by decide +kernel
theorem dX0_member_27 : decode cX0_member 27 = .ok (.invokevirtual 62, 3) := by decide +kernel
theorem dX0_member_30 : decode cX0_member 30 = .ok (.ifCond .eq 7, 3) := by decide +kernel
theorem dX0_member_33 : decode cX0_member 33 = .ok (.iconst 1, 1) := by decide +kernel
theorem dX0_member_34 : decode cX0_member 34 = .ok (.goto 4, 3) := by decide +kernel
theorem dX0_member_37 : decode cX0_member 37 = .ok (.iconst 0, 1) := by decide +kernel
theorem dX0_member_38 : decode cX0_member 38 = .ok (.ireturn, 1) := by decide +kernel
theorem dX0_inCluster_0 : decode cX0_inCluster 0 = .ok (.aload_n 0, 1) := by decide +kernel
theorem dX0_inCluster_1 : decode cX0_inCluster 1 = .ok (.getfield 7, 3) := by decide +kernel
theorem dX0_inCluster_4 : decode cX0_inCluster 4 = .ok (.iload_n 1, 1) := by decide +kernel
theorem dX0_inCluster_5 : decode cX0_inCluster 5 = .ok (.baload, 1) := by decide +kernel
theorem dX0_inCluster_6 : decode cX0_inCluster 6 = .ok (.iload_n 2, 1) := by decide +kernel
theorem dX0_inCluster_7 : decode cX0_inCluster 7 = .ok (.if_icmp .eq 24, 3) := by decide +kernel
theorem dX0_inCluster_10 : decode cX0_inCluster 10 = .ok (.aload_n 0, 1) := by decide +kernel
theorem dX0_inCluster_11 : decode cX0_inCluster 11 = .ok (.getfield 19, 3) := by decide +kernel
theorem dX0_inCluster_14 : decode cX0_inCluster 14 = .ok (.iload_n 1, 1) := by decide +kernel
theorem dX0_inCluster_15 : decode cX0_inCluster 15 = .ok (.iconst 4, 1) := by decide +kernel
theorem dX0_inCluster_16 : decode cX0_inCluster 16 = .ok (.imul, 1) := by decide +kernel
theorem dX0_inCluster_17 : decode cX0_inCluster 17 = .ok (.iload_n 2, 1) := by decide +kernel
theorem dX0_inCluster_18 : decode cX0_inCluster 18 = .ok (.iconst 2, 1) := by decide +kernel
theorem dX0_inCluster_19 : decode cX0_inCluster 19 = .ok (.ishr, 1) := by decide +kernel
theorem dX0_inCluster_20 : decode cX0_inCluster 20 = .ok (.iadd, 1) := by decide +kernel
theorem dX0_inCluster_21 : decode cX0_inCluster 21 = .ok (.baload, 1) := by decide +kernel
theorem dX0_inCluster_22 : decode cX0_inCluster 22 = .ok (.iload_n 2, 1) := by decide +kernel
theorem dX0_inCluster_23 : decode cX0_inCluster 23 = .ok (.iconst 3, 1) := by decide +kernel
theorem dX0_inCluster_24 : decode cX0_inCluster 24 = .ok (.iand, 1) := by decide +kernel
theorem dX0_inCluster_25 : decode cX0_inCluster 25 = .ok (.ishr, 1) := by decide +kernel
theorem dX0_inCluster_26 : decode cX0_inCluster 26 = .ok (.iconst 1, 1) := by decide +kernel
theorem dX0_inCluster_27 : decode cX0_inCluster 27 = .ok (.iand, 1) := by decide +kernel
theorem dX0_inCluster_28 : decode cX0_inCluster 28 = .ok (.ifCond .eq 7, 3) := by decide +kernel
theorem dX0_inCluster_31 : decode cX0_inCluster 31 = .ok (.iconst 1, 1) := by decide +kernel
theorem dX0_inCluster_32 : decode cX0_inCluster 32 = .ok (.goto 4, 3) := by decide +kernel
theorem dX0_inCluster_35 : decode cX0_inCluster 35 = .ok (.iconst 0, 1) := by decide +kernel
theorem dX0_inCluster_36 : decode cX0_inCluster 36 = .ok (.ireturn, 1) := by decide +kernel
theorem dX0_insertInto_0 : decode cX0_insertInto 0 = .ok (.aload_n 0, 1) := by decide +kernel
theorem dX0_insertInto_1 : decode cX0_insertInto 1 = .ok (.getfield 7, 3) := by decide +kernel
theorem dX0_insertInto_4 : decode cX0_insertInto 4 = .ok (.iload_n 1, 1) := by decide +kernel
theorem dX0_insertInto_5 : decode cX0_insertInto 5 = .ok (.baload, 1) := by decide +kernel
theorem dX0_insertInto_6 : decode cX0_insertInto 6 = .ok (.ifCond .ge 20, 3) := by decide +kernel
theorem dX0_insertInto_9 : decode cX0_insertInto 9 = .ok (.aload_n 0, 1) := by decide +kernel
theorem dX0_insertInto_10 : decode cX0_insertInto 10 = .ok (.getfield 7, 3) := by decide +kernel
theorem dX0_insertInto_13 : decode cX0_insertInto 13 = .ok (.iload_n 1, 1) := by decide +kernel
theorem dX0_insertInto_14 : decode cX0_insertInto 14 = .ok (.iload_n 2, 1) := by decide +kernel
theorem dX0_insertInto_15 : decode cX0_insertInto 15 = .ok (.i2b, 1) := by decide +kernel
theorem dX0_insertInto_16 : decode cX0_insertInto 16 = .ok (.bastore, 1) := by decide +kernel
theorem dX0_insertInto_17 : decode cX0_insertInto 17 = .ok (.aload_n 0, 1) := by decide +kernel
theorem dX0_insertInto_18 : decode cX0_insertInto 18 = .ok (.getfield 13, 3) := by decide +kernel
theorem dX0_insertInto_21 : decode cX0_insertInto 21 = .ok (.iload_n 1, 1) := by decide +kernel
theorem dX0_insertInto_22 : decode cX0_insertInto 22 = .ok (.iload_n 2, 1) := by decide +kernel
theorem dX0_insertInto_23 : decode cX0_insertInto 23 = .ok (.i2b, 1) := by decide +kernel
theorem dX0_insertInto_24 : decode cX0_insertInto 24 = .ok (.bastore, 1) := by decide +kernel
theorem dX0_insertInto_25 : decode cX0_insertInto 25 = .ok (.return_, 1) := by decide +kernel
theorem dX0_insertInto_26 : decode cX0_insertInto 26 = .ok (.iload_n 2, 1) := by decide +kernel
theorem dX0_insertInto_27 : decode cX0_insertInto 27 = .ok (.istore_n 3, 1) := by decide +kernel
theorem dX0_insertInto_28 : decode cX0_insertInto 28 = .ok (.iload_n 2, 1) := by decide +kernel
theorem dX0_insertInto_29 : decode cX0_insertInto 29 = .ok (.aload_n 0, 1) := by decide +kernel
theorem dX0_insertInto_30 : decode cX0_insertInto 30 = .ok (.getfield 7, 3) := by decide +kernel
theorem dX0_insertInto_33 : decode cX0_insertInto 33 = .ok (.iload_n 1, 1) := by decide +kernel
theorem dX0_insertInto_34 : decode cX0_insertInto 34 = .ok (.baload, 1) := by decide +kernel
theorem dX0_insertInto_35 : decode cX0_insertInto 35 = .ok (.if_icmp .ge 18, 3) := by decide +kernel
theorem dX0_insertInto_38 : decode cX0_insertInto 38 = .ok (.aload_n 0, 1) := by decide +kernel
theorem dX0_insertInto_39 : decode cX0_insertInto 39 = .ok (.getfield 7, 3) := by decide +kernel
theorem dX0_insertInto_42 : decode cX0_insertInto 42 = .ok (.iload_n 1, 1) := by decide +kernel
theorem dX0_insertInto_43 : decode cX0_insertInto 43 = .ok (.baload, 1) := by decide +kernel
theorem dX0_insertInto_44 : decode cX0_insertInto 44 = .ok (.istore_n 3, 1) := by decide +kernel
theorem dX0_insertInto_45 : decode cX0_insertInto 45 = .ok (.aload_n 0, 1) := by decide +kernel
theorem dX0_insertInto_46 : decode cX0_insertInto 46 = .ok (.getfield 7, 3) := by decide +kernel
theorem dX0_insertInto_49 : decode cX0_insertInto 49 = .ok (.iload_n 1, 1) := by decide +kernel
theorem dX0_insertInto_50 : decode cX0_insertInto 50 = .ok (.iload_n 2, 1) := by decide +kernel
theorem dX0_insertInto_51 : decode cX0_insertInto 51 = .ok (.i2b, 1) := by decide +kernel
theorem dX0_insertInto_52 : decode cX0_insertInto 52 = .ok (.bastore, 1) := by decide +kernel
theorem dX0_insertInto_53 : decode cX0_insertInto 53 = .ok (.aload_n 0, 1) := by decide +kernel
theorem dX0_insertInto_54 : decode cX0_insertInto 54 = .ok (.iload_n 1, 1) := by decide +kernel
theorem dX0_insertInto_55 : decode cX0_insertInto 55 = .ok (.iload_n 3, 1) := by decide +kernel
theorem dX0_insertInto_56 : decode cX0_insertInto 56 = .ok (.invokevirtual 29, 3) := by decide +kernel
theorem dX0_insertInto_59 : decode cX0_insertInto 59 = .ok (.iload_n 3, 1) := by decide +kernel
theorem dX0_insertInto_60 : decode cX0_insertInto 60 = .ok (.aload_n 0, 1) := by decide +kernel
theorem dX0_insertInto_61 : decode cX0_insertInto 61 = .ok (.getfield 13, 3) := by decide +kernel
theorem dX0_insertInto_64 : decode cX0_insertInto 64 = .ok (.iload_n 1, 1) := by decide +kernel
theorem dX0_insertInto_65 : decode cX0_insertInto 65 = .ok (.baload, 1) := by decide +kernel
theorem dX0_insertInto_66 : decode cX0_insertInto 66 = .ok (.if_icmp .le 11, 3) := by decide +kernel
theorem dX0_insertInto_69 : decode cX0_insertInto 69 = .ok (.aload_n 0, 1) := by decide +kernel
theorem dX0_insertInto_70 : decode cX0_insertInto 70 = .ok (.getfield 13, 3) := by decide +kernel
theorem dX0_insertInto_73 : decode cX0_insertInto 73 = .ok (.iload_n 1, 1) := by decide +kernel
theorem dX0_insertInto_74 : decode cX0_insertInto 74 = .ok (.iload_n 3, 1) := by decide +kernel
theorem dX0_insertInto_75 : decode cX0_insertInto 75 = .ok (.i2b, 1) := by decide +kernel
theorem dX0_insertInto_76 : decode cX0_insertInto 76 = .ok (.bastore, 1) := by decide +kernel
theorem dX0_insertInto_77 : decode cX0_insertInto 77 = .ok (.return_, 1) := by decide +kernel
theorem dX0_putBit_0 : decode cX0_putBit 0 = .ok (.iload_n 1, 1) := by decide +kernel
theorem dX0_putBit_1 : decode cX0_putBit 1 = .ok (.iconst 4, 1) := by decide +kernel
theorem dX0_putBit_2 : decode cX0_putBit 2 = .ok (.imul, 1) := by decide +kernel
theorem dX0_putBit_3 : decode cX0_putBit 3 = .ok (.iload_n 2, 1) := by decide +kernel
theorem dX0_putBit_4 : decode cX0_putBit 4 = .ok (.iconst 2, 1) := by decide +kernel
theorem dX0_putBit_5 : decode cX0_putBit 5 = .ok (.ishr, 1) := by decide +kernel
theorem dX0_putBit_6 : decode cX0_putBit 6 = .ok (.iadd, 1) := by decide +kernel
theorem dX0_putBit_7 : decode cX0_putBit 7 = .ok (.istore_n 3, 1) := by decide +kernel
theorem dX0_putBit_8 : decode cX0_putBit 8 = .ok (.aload_n 0, 1) := by decide +kernel
theorem dX0_putBit_9 : decode cX0_putBit 9 = .ok (.getfield 19, 3) := by decide +kernel
theorem dX0_putBit_12 : decode cX0_putBit 12 = .ok (.iload_n 3, 1) := by decide +kernel
theorem dX0_putBit_13 : decode cX0_putBit 13 = .ok (.aload_n 0, 1) := by decide +kernel
theorem dX0_putBit_14 : decode cX0_putBit 14 = .ok (.getfield 19, 3) := by decide +kernel
theorem dX0_putBit_17 : decode cX0_putBit 17 = .ok (.iload_n 3, 1) := by decide +kernel
theorem dX0_putBit_18 : decode cX0_putBit 18 = .ok (.baload, 1) := by decide +kernel
theorem dX0_putBit_19 : decode cX0_putBit 19 = .ok (.iconst 1, 1) := by decide +kernel
theorem dX0_putBit_20 : decode cX0_putBit 20 = .ok (.iload_n 2, 1) := by decide +kernel
theorem dX0_putBit_21 : decode cX0_putBit 21 = .ok (.iconst 3, 1) := by decide +kernel
theorem dX0_putBit_22 : decode cX0_putBit 22 = .ok (.iand, 1) := by decide +kernel
theorem dX0_putBit_23 : decode cX0_putBit 23 = .ok (.ishl, 1) := by decide +kernel
theorem dX0_putBit_24 : decode cX0_putBit 24 = .ok (.ior, 1) := by decide +kernel
theorem dX0_putBit_25 : decode cX0_putBit 25 = .ok (.i2b, 1) := by decide +kernel
theorem dX0_putBit_26 : decode cX0_putBit 26 = .ok (.bastore, 1) := by decide +kernel
theorem dX0_putBit_27 : decode cX0_putBit 27 = .ok (.aload_n 0, 1) := by decide +kernel
theorem dX0_putBit_28 : decode cX0_putBit 28 = .ok (.getfield 16, 3) := by decide +kernel
theorem dX0_putBit_31 : decode cX0_putBit 31 = .ok (.iload_n 1, 1) := by decide +kernel
theorem dX0_putBit_32 : decode cX0_putBit 32 = .ok (.aload_n 0, 1) := by decide +kernel
theorem dX0_putBit_33 : decode cX0_putBit 33 = .ok (.getfield 16, 3) := by decide +kernel
theorem dX0_putBit_36 : decode cX0_putBit 36 = .ok (.iload_n 1, 1) := by decide +kernel
theorem dX0_putBit_37 : decode cX0_putBit 37 = .ok (.baload, 1) := by decide +kernel
theorem dX0_putBit_38 : decode cX0_putBit 38 = .ok (.iconst 1, 1) := by decide +kernel
theorem dX0_putBit_39 : decode cX0_putBit 39 = .ok (.iload_n 2, 1) := by decide +kernel
theorem dX0_putBit_40 : decode cX0_putBit 40 = .ok (.iconst 2, 1) := by decide +kernel
theorem dX0_putBit_41 : decode cX0_putBit 41 = .ok (.ishr, 1) := by decide +kernel
theorem dX0_putBit_42 : decode cX0_putBit 42 = .ok (.ishl, 1) := by decide +kernel
theorem dX0_putBit_43 : decode cX0_putBit 43 = .ok (.ior, 1) := by decide +kernel
theorem dX0_putBit_44 : decode cX0_putBit 44 = .ok (.i2b, 1) := by decide +kernel
theorem dX0_putBit_45 : decode cX0_putBit 45 = .ok (.bastore, 1) := by decide +kernel
theorem dX0_putBit_46 : decode cX0_putBit 46 = .ok (.return_, 1) := by decide +kernel
theorem dX0_delete_0 : decode cX0_delete 0 = .ok (.aload_n 0, 1) := by decide +kernel
theorem dX0_delete_1 : decode cX0_delete 1 = .ok (.iload_n 1, 1) := by decide +kernel
theorem dX0_delete_2 : decode cX0_delete 2 = .ok (.invokevirtual 49, 3) := by decide +kernel
theorem dX0_delete_5 : decode cX0_delete 5 = .ok (.ifCond .ne 5, 3) := by decide +kernel
theorem dX0_delete_8 : decode cX0_delete 8 = .ok (.iconst 0, 1) := by decide +kernel
theorem dX0_delete_9 : decode cX0_delete 9 = .ok (.ireturn, 1) := by decide +kernel
theorem dX0_delete_10 : decode cX0_delete 10 = .ok (.aload_n 0, 1) := by decide +kernel
theorem dX0_delete_11 : decode cX0_delete 11 = .ok (.dup, 1) := by decide +kernel
theorem dX0_delete_12 : decode cX0_delete 12 = .ok (.getfield 53, 3) := by decide +kernel
theorem dX0_delete_15 : decode cX0_delete 15 = .ok (.iconst 1, 1) := by decide +kernel
theorem dX0_delete_16 : decode cX0_delete 16 = .ok (.isub, 1) := by decide +kernel
theorem dX0_delete_17 : decode cX0_delete 17 = .ok (.putfield 53, 3) := by decide +kernel
theorem dX0_delete_20 : decode cX0_delete 20 = .ok (.iload_n 1, 1) := by decide +kernel
theorem dX0_delete_21 : decode cX0_delete 21 = .ok (.istore_n 2, 1) := by decide +kernel
theorem dX0_delete_22 : decode cX0_delete 22 = .ok (.iload_n 1, 1) := by decide +kernel
theorem dX0_delete_23 : decode cX0_delete 23 = .ok (.aload_n 0, 1) := by decide +kernel
theorem dX0_delete_24 : decode cX0_delete 24 = .ok (.getfield 22, 3) := by decide +kernel
theorem dX0_delete_27 : decode cX0_delete 27 = .ok (.if_icmp .ne 36, 3) := by decide +kernel
theorem dX0_delete_30 : decode cX0_delete 30 = .ok (.aload_n 0, 1) := by decide +kernel
theorem dX0_delete_31 : decode cX0_delete 31 = .ok (.getfield 7, 3) := by decide +kernel
theorem dX0_delete_34 : decode cX0_delete 34 = .ok (.bipush 16, 2) := by decide +kernel
theorem dX0_delete_36 : decode cX0_delete 36 = .ok (.baload, 1) := by decide +kernel
theorem dX0_delete_37 : decode cX0_delete 37 = .ok (.istore_n 3, 1) := by decide +kernel
theorem dX0_delete_38 : decode cX0_delete 38 = .ok (.iload_n 3, 1) := by decide +kernel
theorem dX0_delete_39 : decode cX0_delete 39 = .ok (.ifCond .ge 7, 3) := by decide +kernel
theorem dX0_delete_42 : decode cX0_delete 42 = .ok (.iconst (-1), 1) := by decide +kernel
theorem dX0_delete_43 : decode cX0_delete 43 = .ok (.goto 14, 3) := by decide +kernel
theorem dX0_delete_46 : decode cX0_delete 46 = .ok (.bipush 16, 2) := by decide +kernel
theorem dX0_delete_48 : decode cX0_delete 48 = .ok (.iload_n 3, 1) := by decide +kernel
theorem dX0_delete_49 : decode cX0_delete 49 = .ok (.imul, 1) := by decide +kernel
theorem dX0_delete_50 : decode cX0_delete 50 = .ok (.aload_n 0, 1) := by decide +kernel
theorem dX0_delete_51 : decode cX0_delete 51 = .ok (.getfield 7, 3) := by decide +kernel
theorem dX0_delete_54 : decode cX0_delete 54 = .ok (.iload_n 3, 1) := by decide +kernel
theorem dX0_delete_55 : decode cX0_delete 55 = .ok (.baload, 1) := by decide +kernel
theorem dX0_delete_56 : decode cX0_delete 56 = .ok (.iadd, 1) := by decide +kernel
theorem dX0_delete_57 : decode cX0_delete 57 = .ok (.istore_n 2, 1) := by decide +kernel
theorem dX0_delete_58 : decode cX0_delete 58 = .ok (.aload_n 0, 1) := by decide +kernel
theorem dX0_delete_59 : decode cX0_delete 59 = .ok (.iload_n 2, 1) := by decide +kernel
theorem dX0_delete_60 : decode cX0_delete 60 = .ok (.putfield 22, 3) := by decide +kernel
theorem dX0_delete_63 : decode cX0_delete 63 = .ok (.iload_n 2, 1) := by decide +kernel
theorem dX0_delete_64 : decode cX0_delete 64 = .ok (.ifCond .lt 32, 3) := by decide +kernel
theorem dX0_delete_67 : decode cX0_delete 67 = .ok (.iload_n 2, 1) := by decide +kernel
theorem dX0_delete_68 : decode cX0_delete 68 = .ok (.iconst 4, 1) := by decide +kernel
theorem dX0_delete_69 : decode cX0_delete 69 = .ok (.ishr, 1) := by decide +kernel
theorem dX0_delete_70 : decode cX0_delete 70 = .ok (.istore_n 3, 1) := by decide +kernel
theorem dX0_delete_71 : decode cX0_delete 71 = .ok (.aload_n 0, 1) := by decide +kernel
theorem dX0_delete_72 : decode cX0_delete 72 = .ok (.iload_n 3, 1) := by decide +kernel
theorem dX0_delete_73 : decode cX0_delete 73 = .ok (.iload_n 2, 1) := by decide +kernel
theorem dX0_delete_74 : decode cX0_delete 74 = .ok (.bipush 15, 2) := by decide +kernel
theorem dX0_delete_76 : decode cX0_delete 76 = .ok (.iand, 1) := by decide +kernel
theorem dX0_delete_77 : decode cX0_delete 77 = .ok (.invokevirtual 59, 3) := by decide +kernel
theorem dX0_delete_80 : decode cX0_delete 80 = .ok (.aload_n 0, 1) := by decide +kernel
theorem dX0_delete_81 : decode cX0_delete 81 = .ok (.getfield 7, 3) := by decide +kernel
theorem dX0_delete_84 : decode cX0_delete 84 = .ok (.iload_n 3, 1) := by decide +kernel
theorem dX0_delete_85 : decode cX0_delete 85 = .ok (.baload, 1) := by decide +kernel
theorem dX0_delete_86 : decode cX0_delete 86 = .ok (.ifCond .ge 10, 3) := by decide +kernel
theorem dX0_delete_89 : decode cX0_delete 89 = .ok (.aload_n 0, 1) := by decide +kernel
theorem dX0_delete_90 : decode cX0_delete 90 = .ok (.bipush 16, 2) := by decide +kernel
theorem dX0_delete_92 : decode cX0_delete 92 = .ok (.iload_n 3, 1) := by decide +kernel
theorem dX0_delete_93 : decode cX0_delete 93 = .ok (.invokevirtual 59, 3) := by decide +kernel
theorem dX0_delete_96 : decode cX0_delete 96 = .ok (.aload_n 0, 1) := by decide +kernel
theorem dX0_delete_97 : decode cX0_delete 97 = .ok (.getfield 13, 3) := by decide +kernel
theorem dX0_delete_100 : decode cX0_delete 100 = .ok (.bipush 16, 2) := by decide +kernel
theorem dX0_delete_102 : decode cX0_delete 102 = .ok (.baload, 1) := by decide +kernel
theorem dX0_delete_103 : decode cX0_delete 103 = .ok (.istore_n 3, 1) := by decide +kernel
theorem dX0_delete_104 : decode cX0_delete 104 = .ok (.aload_n 0, 1) := by decide +kernel
theorem dX0_delete_105 : decode cX0_delete 105 = .ok (.iload_n 3, 1) := by decide +kernel
theorem dX0_delete_106 : decode cX0_delete 106 = .ok (.ifCond .ge 10, 3) := by decide +kernel
theorem dX0_delete_109 : decode cX0_delete 109 = .ok (.aload_n 0, 1) := by decide +kernel
theorem dX0_delete_110 : decode cX0_delete 110 = .ok (.getfield 22, 3) := by decide +kernel
theorem dX0_delete_113 : decode cX0_delete 113 = .ok (.goto 14, 3) := by decide +kernel
theorem dX0_delete_116 : decode cX0_delete 116 = .ok (.bipush 16, 2) := by decide +kernel
theorem dX0_delete_118 : decode cX0_delete 118 = .ok (.iload_n 3, 1) := by decide +kernel
theorem dX0_delete_119 : decode cX0_delete 119 = .ok (.imul, 1) := by decide +kernel
theorem dX0_delete_120 : decode cX0_delete 120 = .ok (.aload_n 0, 1) := by decide +kernel
theorem dX0_delete_121 : decode cX0_delete 121 = .ok (.getfield 13, 3) := by decide +kernel
theorem dX0_delete_124 : decode cX0_delete 124 = .ok (.iload_n 3, 1) := by decide +kernel
theorem dX0_delete_125 : decode cX0_delete 125 = .ok (.baload, 1) := by decide +kernel
theorem dX0_delete_126 : decode cX0_delete 126 = .ok (.iadd, 1) := by decide +kernel
theorem dX0_delete_127 : decode cX0_delete 127 = .ok (.putfield 26, 3) := by decide +kernel
theorem dX0_delete_130 : decode cX0_delete 130 = .ok (.iconst 1, 1) := by decide +kernel
theorem dX0_delete_131 : decode cX0_delete 131 = .ok (.ireturn, 1) := by decide +kernel
theorem dX0_deleteFrom_0 : decode cX0_deleteFrom 0 = .ok (.iload_n 2, 1) := by decide +kernel
theorem dX0_deleteFrom_1 : decode cX0_deleteFrom 1 = .ok (.istore_n 3, 1) := by decide +kernel
theorem dX0_deleteFrom_2 : decode cX0_deleteFrom 2 = .ok (.iload_n 2, 1) := by decide +kernel
theorem dX0_deleteFrom_3 : decode cX0_deleteFrom 3 = .ok (.aload_n 0, 1) := by decide +kernel
theorem dX0_deleteFrom_4 : decode cX0_deleteFrom 4 = .ok (.getfield 7, 3) := by decide +kernel
theorem dX0_deleteFrom_7 : decode cX0_deleteFrom 7 = .ok (.iload_n 1, 1) := by decide +kernel
theorem dX0_deleteFrom_8 : decode cX0_deleteFrom 8 = .ok (.baload, 1) := by decide +kernel
theorem dX0_deleteFrom_9 : decode cX0_deleteFrom 9 = .ok (.if_icmp .ne 17, 3) := by decide +kernel
theorem dX0_deleteFrom_12 : decode cX0_deleteFrom 12 = .ok (.aload_n 0, 1) := by decide +kernel
theorem dX0_deleteFrom_13 : decode cX0_deleteFrom 13 = .ok (.iload_n 1, 1) := by decide +kernel
theorem dX0_deleteFrom_14 : decode cX0_deleteFrom 14 = .ok (.invokevirtual 40, 3) := by decide +kernel
theorem dX0_deleteFrom_17 : decode cX0_deleteFrom 17 = .ok (.istore_n 3, 1) := by decide +kernel
theorem dX0_deleteFrom_18 : decode cX0_deleteFrom 18 = .ok (.aload_n 0, 1) := by decide +kernel
end
section
set_option maxRecDepth 100000
theorem dX0_deleteFrom_19 : decode cX0_deleteFrom 19 = .ok (.getfield 7, 3) := by decide +kernel
theorem dX0_deleteFrom_22 : decode cX0_deleteFrom 22 = .ok (.iload_n 1, 1) := by decide +kernel
theorem dX0_deleteFrom_23 : decode cX0_deleteFrom 23 = .ok (.iload_n 3, 1) := by decide +kernel
theorem dX0_deleteFrom_24 : decode cX0_deleteFrom 24 = .ok (.i2b, 1) := by decide +kernel
theorem dX0_deleteFrom_25 : decode cX0_deleteFrom 25 = .ok (.bastore, 1) := by decide +kernel
theorem dX0_deleteFrom_26 : decode cX0_deleteFrom 26 = .ok (.iload_n 3, 1) := by decide +kernel
theorem dX0_deleteFrom_27 : decode cX0_deleteFrom 27 = .ok (.ifCond .lt 9, 3) := by decide +kernel
theorem dX0_deleteFrom_30 : decode cX0_deleteFrom 30 = .ok (.aload_n 0, 1) := by decide +kernel
theorem dX0_deleteFrom_31 : decode cX0_deleteFrom 31 = .ok (.iload_n 1, 1) := by decide +kernel
theorem dX0_deleteFrom_32 : decode cX0_deleteFrom 32 = .ok (.iload_n 3, 1) := by decide +kernel
theorem dX0_deleteFrom_33 : decode cX0_deleteFrom 33 = .ok (.invokevirtual 43, 3) := by decide +kernel
theorem dX0_deleteFrom_36 : decode cX0_deleteFrom 36 = .ok (.aload_n 0, 1) := by decide +kernel
theorem dX0_deleteFrom_37 : decode cX0_deleteFrom 37 = .ok (.iload_n 1, 1) := by decide +kernel
theorem dX0_deleteFrom_38 : decode cX0_deleteFrom 38 = .ok (.invokevirtual 46, 3) := by decide +kernel
theorem dX0_deleteFrom_41 : decode cX0_deleteFrom 41 = .ok (.istore 4, 2) := by decide +kernel
theorem dX0_deleteFrom_43 : decode cX0_deleteFrom 43 = .ok (.aload_n 0, 1) := by decide +kernel
theorem dX0_deleteFrom_44 : decode cX0_deleteFrom 44 = .ok (.getfield 13, 3) := by decide +kernel
theorem dX0_deleteFrom_47 : decode cX0_deleteFrom 47 = .ok (.iload_n 1, 1) := by decide +kernel
theorem dX0_deleteFrom_48 : decode cX0_deleteFrom 48 = .ok (.iload 4, 2) := by decide +kernel
theorem dX0_deleteFrom_50 : decode cX0_deleteFrom 50 = .ok (.ifCond .lt 8, 3) := by decide +kernel
theorem dX0_deleteFrom_53 : decode cX0_deleteFrom 53 = .ok (.iload 4, 2) := by decide +kernel
theorem dX0_deleteFrom_55 : decode cX0_deleteFrom 55 = .ok (.goto 9, 3) := by decide +kernel
theorem dX0_deleteFrom_58 : decode cX0_deleteFrom 58 = .ok (.aload_n 0, 1) := by decide +kernel
theorem dX0_deleteFrom_59 : decode cX0_deleteFrom 59 = .ok (.getfield 7, 3) := by decide +kernel
theorem dX0_deleteFrom_62 : decode cX0_deleteFrom 62 = .ok (.iload_n 1, 1) := by decide +kernel
theorem dX0_deleteFrom_63 : decode cX0_deleteFrom 63 = .ok (.baload, 1) := by decide +kernel
theorem dX0_deleteFrom_64 : decode cX0_deleteFrom 64 = .ok (.i2b, 1) := by decide +kernel
theorem dX0_deleteFrom_65 : decode cX0_deleteFrom 65 = .ok (.bastore, 1) := by decide +kernel
theorem dX0_deleteFrom_66 : decode cX0_deleteFrom 66 = .ok (.return_, 1) := by decide +kernel
theorem dX0_leastInParts_0 : decode cX0_leastInParts 0 = .ok (.aload_n 0, 1) := by decide +kernel
theorem dX0_leastInParts_1 : decode cX0_leastInParts 1 = .ok (.getfield 16, 3) := by decide +kernel
theorem dX0_leastInParts_4 : decode cX0_leastInParts 4 = .ok (.iload_n 1, 1) := by decide +kernel
theorem dX0_leastInParts_5 : decode cX0_leastInParts 5 = .ok (.baload, 1) := by decide +kernel
theorem dX0_leastInParts_6 : decode cX0_leastInParts 6 = .ok (.ifCond .ne 5, 3) := by decide +kernel
theorem dX0_leastInParts_9 : decode cX0_leastInParts 9 = .ok (.iconst (-1), 1) := by decide +kernel
theorem dX0_leastInParts_10 : decode cX0_leastInParts 10 = .ok (.ireturn, 1) := by decide +kernel
theorem dX0_leastInParts_11 : decode cX0_leastInParts 11 = .ok (.aload_n 0, 1) := by decide +kernel
theorem dX0_leastInParts_12 : decode cX0_leastInParts 12 = .ok (.getfield 16, 3) := by decide +kernel
theorem dX0_leastInParts_15 : decode cX0_leastInParts 15 = .ok (.iload_n 1, 1) := by decide +kernel
theorem dX0_leastInParts_16 : decode cX0_leastInParts 16 = .ok (.baload, 1) := by decide +kernel
theorem dX0_leastInParts_17 : decode cX0_leastInParts 17 = .ok (.invokestatic 33, 3) := by decide +kernel
theorem dX0_leastInParts_20 : decode cX0_leastInParts 20 = .ok (.istore_n 2, 1) := by decide +kernel
theorem dX0_leastInParts_21 : decode cX0_leastInParts 21 = .ok (.aload_n 0, 1) := by decide +kernel
theorem dX0_leastInParts_22 : decode cX0_leastInParts 22 = .ok (.getfield 19, 3) := by decide +kernel
theorem dX0_leastInParts_25 : decode cX0_leastInParts 25 = .ok (.iload_n 1, 1) := by decide +kernel
theorem dX0_leastInParts_26 : decode cX0_leastInParts 26 = .ok (.iconst 4, 1) := by decide +kernel
theorem dX0_leastInParts_27 : decode cX0_leastInParts 27 = .ok (.imul, 1) := by decide +kernel
theorem dX0_leastInParts_28 : decode cX0_leastInParts 28 = .ok (.iload_n 2, 1) := by decide +kernel
theorem dX0_leastInParts_29 : decode cX0_leastInParts 29 = .ok (.iadd, 1) := by decide +kernel
theorem dX0_leastInParts_30 : decode cX0_leastInParts 30 = .ok (.baload, 1) := by decide +kernel
theorem dX0_leastInParts_31 : decode cX0_leastInParts 31 = .ok (.istore_n 3, 1) := by decide +kernel
theorem dX0_leastInParts_32 : decode cX0_leastInParts 32 = .ok (.iconst 4, 1) := by decide +kernel
theorem dX0_leastInParts_33 : decode cX0_leastInParts 33 = .ok (.iload_n 2, 1) := by decide +kernel
theorem dX0_leastInParts_34 : decode cX0_leastInParts 34 = .ok (.imul, 1) := by decide +kernel
theorem dX0_leastInParts_35 : decode cX0_leastInParts 35 = .ok (.iload_n 3, 1) := by decide +kernel
theorem dX0_leastInParts_36 : decode cX0_leastInParts 36 = .ok (.invokestatic 33, 3) := by decide +kernel
theorem dX0_leastInParts_39 : decode cX0_leastInParts 39 = .ok (.iadd, 1) := by decide +kernel
theorem dX0_leastInParts_40 : decode cX0_leastInParts 40 = .ok (.ireturn, 1) := by decide +kernel
theorem dX0_lowest_0 : decode cX0_lowest 0 = .ok (.iload_n 0, 1) := by decide +kernel
theorem dX0_lowest_1 : decode cX0_lowest 1 = .ok (.iconst 3, 1) := by decide +kernel
theorem dX0_lowest_2 : decode cX0_lowest 2 = .ok (.iand, 1) := by decide +kernel
theorem dX0_lowest_3 : decode cX0_lowest 3 = .ok (.ifCond .eq 15, 3) := by decide +kernel
theorem dX0_lowest_6 : decode cX0_lowest 6 = .ok (.iload_n 0, 1) := by decide +kernel
theorem dX0_lowest_7 : decode cX0_lowest 7 = .ok (.iconst 1, 1) := by decide +kernel
theorem dX0_lowest_8 : decode cX0_lowest 8 = .ok (.iand, 1) := by decide +kernel
theorem dX0_lowest_9 : decode cX0_lowest 9 = .ok (.ifCond .eq 7, 3) := by decide +kernel
theorem dX0_lowest_12 : decode cX0_lowest 12 = .ok (.iconst 0, 1) := by decide +kernel
theorem dX0_lowest_13 : decode cX0_lowest 13 = .ok (.goto 4, 3) := by decide +kernel
theorem dX0_lowest_16 : decode cX0_lowest 16 = .ok (.iconst 1, 1) := by decide +kernel
theorem dX0_lowest_17 : decode cX0_lowest 17 = .ok (.ireturn, 1) := by decide +kernel
theorem dX0_lowest_18 : decode cX0_lowest 18 = .ok (.iload_n 0, 1) := by decide +kernel
theorem dX0_lowest_19 : decode cX0_lowest 19 = .ok (.iconst 4, 1) := by decide +kernel
theorem dX0_lowest_20 : decode cX0_lowest 20 = .ok (.iand, 1) := by decide +kernel
theorem dX0_lowest_21 : decode cX0_lowest 21 = .ok (.ifCond .eq 7, 3) := by decide +kernel
theorem dX0_lowest_24 : decode cX0_lowest 24 = .ok (.iconst 2, 1) := by decide +kernel
theorem dX0_lowest_25 : decode cX0_lowest 25 = .ok (.goto 4, 3) := by decide +kernel
theorem dX0_lowest_28 : decode cX0_lowest 28 = .ok (.iconst 3, 1) := by decide +kernel
theorem dX0_lowest_29 : decode cX0_lowest 29 = .ok (.ireturn, 1) := by decide +kernel
theorem dX0_takeBit_0 : decode cX0_takeBit 0 = .ok (.iload_n 1, 1) := by decide +kernel
theorem dX0_takeBit_1 : decode cX0_takeBit 1 = .ok (.iconst 4, 1) := by decide +kernel
theorem dX0_takeBit_2 : decode cX0_takeBit 2 = .ok (.imul, 1) := by decide +kernel
theorem dX0_takeBit_3 : decode cX0_takeBit 3 = .ok (.iload_n 2, 1) := by decide +kernel
theorem dX0_takeBit_4 : decode cX0_takeBit 4 = .ok (.iconst 2, 1) := by decide +kernel
theorem dX0_takeBit_5 : decode cX0_takeBit 5 = .ok (.ishr, 1) := by decide +kernel
theorem dX0_takeBit_6 : decode cX0_takeBit 6 = .ok (.iadd, 1) := by decide +kernel
theorem dX0_takeBit_7 : decode cX0_takeBit 7 = .ok (.istore_n 3, 1) := by decide +kernel
theorem dX0_takeBit_8 : decode cX0_takeBit 8 = .ok (.aload_n 0, 1) := by decide +kernel
theorem dX0_takeBit_9 : decode cX0_takeBit 9 = .ok (.getfield 19, 3) := by decide +kernel
theorem dX0_takeBit_12 : decode cX0_takeBit 12 = .ok (.iload_n 3, 1) := by decide +kernel
theorem dX0_takeBit_13 : decode cX0_takeBit 13 = .ok (.aload_n 0, 1) := by decide +kernel
theorem dX0_takeBit_14 : decode cX0_takeBit 14 = .ok (.getfield 19, 3) := by decide +kernel
theorem dX0_takeBit_17 : decode cX0_takeBit 17 = .ok (.iload_n 3, 1) := by decide +kernel
theorem dX0_takeBit_18 : decode cX0_takeBit 18 = .ok (.baload, 1) := by decide +kernel
theorem dX0_takeBit_19 : decode cX0_takeBit 19 = .ok (.iconst 1, 1) := by decide +kernel
theorem dX0_takeBit_20 : decode cX0_takeBit 20 = .ok (.iload_n 2, 1) := by decide +kernel
theorem dX0_takeBit_21 : decode cX0_takeBit 21 = .ok (.iconst 3, 1) := by decide +kernel
theorem dX0_takeBit_22 : decode cX0_takeBit 22 = .ok (.iand, 1) := by decide +kernel
theorem dX0_takeBit_23 : decode cX0_takeBit 23 = .ok (.ishl, 1) := by decide +kernel
theorem dX0_takeBit_24 : decode cX0_takeBit 24 = .ok (.iconst (-1), 1) := by decide +kernel
theorem dX0_takeBit_25 : decode cX0_takeBit 25 = .ok (.ixor, 1) := by decide +kernel
theorem dX0_takeBit_26 : decode cX0_takeBit 26 = .ok (.iand, 1) := by decide +kernel
theorem dX0_takeBit_27 : decode cX0_takeBit 27 = .ok (.i2b, 1) := by decide +kernel
theorem dX0_takeBit_28 : decode cX0_takeBit 28 = .ok (.bastore, 1) := by decide +kernel
theorem dX0_takeBit_29 : decode cX0_takeBit 29 = .ok (.aload_n 0, 1) := by decide +kernel
theorem dX0_takeBit_30 : decode cX0_takeBit 30 = .ok (.getfield 19, 3) := by decide +kernel
theorem dX0_takeBit_33 : decode cX0_takeBit 33 = .ok (.iload_n 3, 1) := by decide +kernel
theorem dX0_takeBit_34 : decode cX0_takeBit 34 = .ok (.baload, 1) := by decide +kernel
theorem dX0_takeBit_35 : decode cX0_takeBit 35 = .ok (.ifCond .ne 24, 3) := by decide +kernel
theorem dX0_takeBit_38 : decode cX0_takeBit 38 = .ok (.aload_n 0, 1) := by decide +kernel
theorem dX0_takeBit_39 : decode cX0_takeBit 39 = .ok (.getfield 16, 3) := by decide +kernel
theorem dX0_takeBit_42 : decode cX0_takeBit 42 = .ok (.iload_n 1, 1) := by decide +kernel
theorem dX0_takeBit_43 : decode cX0_takeBit 43 = .ok (.aload_n 0, 1) := by decide +kernel
theorem dX0_takeBit_44 : decode cX0_takeBit 44 = .ok (.getfield 16, 3) := by decide +kernel
theorem dX0_takeBit_47 : decode cX0_takeBit 47 = .ok (.iload_n 1, 1) := by decide +kernel
theorem dX0_takeBit_48 : decode cX0_takeBit 48 = .ok (.baload, 1) := by decide +kernel
theorem dX0_takeBit_49 : decode cX0_takeBit 49 = .ok (.iconst 1, 1) := by decide +kernel
theorem dX0_takeBit_50 : decode cX0_takeBit 50 = .ok (.iload_n 2, 1) := by decide +kernel
theorem dX0_takeBit_51 : decode cX0_takeBit 51 = .ok (.iconst 2, 1) := by decide +kernel
theorem dX0_takeBit_52 : decode cX0_takeBit 52 = .ok (.ishr, 1) := by decide +kernel
theorem dX0_takeBit_53 : decode cX0_takeBit 53 = .ok (.ishl, 1) := by decide +kernel
theorem dX0_takeBit_54 : decode cX0_takeBit 54 = .ok (.iconst (-1), 1) := by decide +kernel
theorem dX0_takeBit_55 : decode cX0_takeBit 55 = .ok (.ixor, 1) := by decide +kernel
theorem dX0_takeBit_56 : decode cX0_takeBit 56 = .ok (.iand, 1) := by decide +kernel
theorem dX0_takeBit_57 : decode cX0_takeBit 57 = .ok (.i2b, 1) := by decide +kernel
theorem dX0_takeBit_58 : decode cX0_takeBit 58 = .ok (.bastore, 1) := by decide +kernel
theorem dX0_takeBit_59 : decode cX0_takeBit 59 = .ok (.return_, 1) := by decide +kernel
theorem dX0_greatestInParts_0 : decode cX0_greatestInParts 0 = .ok (.aload_n 0, 1) := by decide +kernel
theorem dX0_greatestInParts_1 : decode cX0_greatestInParts 1 = .ok (.getfield 16, 3) := by decide +kernel
theorem dX0_greatestInParts_4 : decode cX0_greatestInParts 4 = .ok (.iload_n 1, 1) := by decide +kernel
theorem dX0_greatestInParts_5 : decode cX0_greatestInParts 5 = .ok (.baload, 1) := by decide +kernel
theorem dX0_greatestInParts_6 : decode cX0_greatestInParts 6 = .ok (.ifCond .ne 5, 3) := by decide +kernel
theorem dX0_greatestInParts_9 : decode cX0_greatestInParts 9 = .ok (.iconst (-1), 1) := by decide +kernel
theorem dX0_greatestInParts_10 : decode cX0_greatestInParts 10 = .ok (.ireturn, 1) := by decide +kernel
theorem dX0_greatestInParts_11 : decode cX0_greatestInParts 11 = .ok (.aload_n 0, 1) := by decide +kernel
theorem dX0_greatestInParts_12 : decode cX0_greatestInParts 12 = .ok (.getfield 16, 3) := by decide +kernel
theorem dX0_greatestInParts_15 : decode cX0_greatestInParts 15 = .ok (.iload_n 1, 1) := by decide +kernel
theorem dX0_greatestInParts_16 : decode cX0_greatestInParts 16 = .ok (.baload, 1) := by decide +kernel
theorem dX0_greatestInParts_17 : decode cX0_greatestInParts 17 = .ok (.invokestatic 37, 3) := by decide +kernel
theorem dX0_greatestInParts_20 : decode cX0_greatestInParts 20 = .ok (.istore_n 2, 1) := by decide +kernel
theorem dX0_greatestInParts_21 : decode cX0_greatestInParts 21 = .ok (.aload_n 0, 1) := by decide +kernel
theorem dX0_greatestInParts_22 : decode cX0_greatestInParts 22 = .ok (.getfield 19, 3) := by decide +kernel
theorem dX0_greatestInParts_25 : decode cX0_greatestInParts 25 = .ok (.iload_n 1, 1) := by decide +kernel
theorem dX0_greatestInParts_26 : decode cX0_greatestInParts 26 = .ok (.iconst 4, 1) := by decide +kernel
theorem dX0_greatestInParts_27 : decode cX0_greatestInParts 27 = .ok (.imul, 1) := by decide +kernel
theorem dX0_greatestInParts_28 : decode cX0_greatestInParts 28 = .ok (.iload_n 2, 1) := by decide +kernel
theorem dX0_greatestInParts_29 : decode cX0_greatestInParts 29 = .ok (.iadd, 1) := by decide +kernel
theorem dX0_greatestInParts_30 : decode cX0_greatestInParts 30 = .ok (.baload, 1) := by decide +kernel
theorem dX0_greatestInParts_31 : decode cX0_greatestInParts 31 = .ok (.istore_n 3, 1) := by decide +kernel
theorem dX0_greatestInParts_32 : decode cX0_greatestInParts 32 = .ok (.iconst 4, 1) := by decide +kernel
theorem dX0_greatestInParts_33 : decode cX0_greatestInParts 33 = .ok (.iload_n 2, 1) := by decide +kernel
theorem dX0_greatestInParts_34 : decode cX0_greatestInParts 34 = .ok (.imul, 1) := by decide +kernel
theorem dX0_greatestInParts_35 : decode cX0_greatestInParts 35 = .ok (.iload_n 3, 1) := by decide +kernel
theorem dX0_greatestInParts_36 : decode cX0_greatestInParts 36 = .ok (.invokestatic 37, 3) := by decide +kernel
theorem dX0_greatestInParts_39 : decode cX0_greatestInParts 39 = .ok (.iadd, 1) := by decide +kernel
theorem dX0_greatestInParts_40 : decode cX0_greatestInParts 40 = .ok (.ireturn, 1) := by decide +kernel
theorem dX0_highest_0 : decode cX0_highest 0 = .ok (.iload_n 0, 1) := by decide +kernel
theorem dX0_highest_1 : decode cX0_highest 1 = .ok (.bipush 12, 2) := by decide +kernel
theorem dX0_highest_3 : decode cX0_highest 3 = .ok (.iand, 1) := by decide +kernel
theorem dX0_highest_4 : decode cX0_highest 4 = .ok (.ifCond .eq 16, 3) := by decide +kernel
theorem dX0_highest_7 : decode cX0_highest 7 = .ok (.iload_n 0, 1) := by decide +kernel
theorem dX0_highest_8 : decode cX0_highest 8 = .ok (.bipush 8, 2) := by decide +kernel
theorem dX0_highest_10 : decode cX0_highest 10 = .ok (.iand, 1) := by decide +kernel
theorem dX0_highest_11 : decode cX0_highest 11 = .ok (.ifCond .eq 7, 3) := by decide +kernel
theorem dX0_highest_14 : decode cX0_highest 14 = .ok (.iconst 3, 1) := by decide +kernel
theorem dX0_highest_15 : decode cX0_highest 15 = .ok (.goto 4, 3) := by decide +kernel
theorem dX0_highest_18 : decode cX0_highest 18 = .ok (.iconst 2, 1) := by decide +kernel
theorem dX0_highest_19 : decode cX0_highest 19 = .ok (.ireturn, 1) := by decide +kernel
theorem dX0_highest_20 : decode cX0_highest 20 = .ok (.iload_n 0, 1) := by decide +kernel
theorem dX0_highest_21 : decode cX0_highest 21 = .ok (.iconst 2, 1) := by decide +kernel
theorem dX0_highest_22 : decode cX0_highest 22 = .ok (.iand, 1) := by decide +kernel
theorem dX0_highest_23 : decode cX0_highest 23 = .ok (.ifCond .eq 7, 3) := by decide +kernel
theorem dX0_highest_26 : decode cX0_highest 26 = .ok (.iconst 1, 1) := by decide +kernel
theorem dX0_highest_27 : decode cX0_highest 27 = .ok (.goto 4, 3) := by decide +kernel
theorem dX0_highest_30 : decode cX0_highest 30 = .ok (.iconst 0, 1) := by decide +kernel
theorem dX0_highest_31 : decode cX0_highest 31 = .ok (.ireturn, 1) := by decide +kernel
theorem dX0_size_0 : decode cX0_size 0 = .ok (.aload_n 0, 1) := by decide +kernel
theorem dX0_size_1 : decode cX0_size 1 = .ok (.getfield 53, 3) := by decide +kernel
theorem dX0_size_4 : decode cX0_size 4 = .ok (.ireturn, 1) := by decide +kernel
theorem dX0_least_0 : decode cX0_least 0 = .ok (.aload_n 0, 1) := by decide +kernel
theorem dX0_least_1 : decode cX0_least 1 = .ok (.getfield 22, 3) := by decide +kernel
theorem dX0_least_4 : decode cX0_least 4 = .ok (.ireturn, 1) := by decide +kernel
theorem dX0_greatest_0 : decode cX0_greatest 0 = .ok (.aload_n 0, 1) := by decide +kernel
theorem dX0_greatest_1 : decode cX0_greatest 1 = .ok (.getfield 26, 3) := by decide +kernel
theorem dX0_greatest_4 : decode cX0_greatest 4 = .ok (.ireturn, 1) := by decide +kernel
theorem dX0_after_0 : decode cX0_after 0 = .ok (.aload_n 0, 1) := by decide +kernel
theorem dX0_after_1 : decode cX0_after 1 = .ok (.getfield 22, 3) := by decide +kernel
theorem dX0_after_4 : decode cX0_after 4 = .ok (.ifCond .lt 11, 3) := by decide +kernel
theorem dX0_after_7 : decode cX0_after 7 = .ok (.iload_n 1, 1) := by decide +kernel
theorem dX0_after_8 : decode cX0_after 8 = .ok (.aload_n 0, 1) := by decide +kernel
theorem dX0_after_9 : decode cX0_after 9 = .ok (.getfield 26, 3) := by decide +kernel
theorem dX0_after_12 : decode cX0_after 12 = .ok (.if_icmp .lt 5, 3) := by decide +kernel
theorem dX0_after_15 : decode cX0_after 15 = .ok (.iconst (-1), 1) := by decide +kernel
theorem dX0_after_16 : decode cX0_after 16 = .ok (.ireturn, 1) := by decide +kernel
theorem dX0_after_17 : decode cX0_after 17 = .ok (.iload_n 1, 1) := by decide +kernel
theorem dX0_after_18 : decode cX0_after 18 = .ok (.aload_n 0, 1) := by decide +kernel
theorem dX0_after_19 : decode cX0_after 19 = .ok (.getfield 22, 3) := by decide +kernel
theorem dX0_after_22 : decode cX0_after 22 = .ok (.if_icmp .ge 8, 3) := by decide +kernel
theorem dX0_after_25 : decode cX0_after 25 = .ok (.aload_n 0, 1) := by decide +kernel
theorem dX0_after_26 : decode cX0_after 26 = .ok (.getfield 22, 3) := by decide +kernel
theorem dX0_after_29 : decode cX0_after 29 = .ok (.ireturn, 1) := by decide +kernel
theorem dX0_after_30 : decode cX0_after 30 = .ok (.iload_n 1, 1) := by decide +kernel
theorem dX0_after_31 : decode cX0_after 31 = .ok (.iconst 4, 1) := by decide +kernel
theorem dX0_after_32 : decode cX0_after 32 = .ok (.ishr, 1) := by decide +kernel
theorem dX0_after_33 : decode cX0_after 33 = .ok (.istore_n 2, 1) := by decide +kernel
theorem dX0_after_34 : decode cX0_after 34 = .ok (.aload_n 0, 1) := by decide +kernel
theorem dX0_after_35 : decode cX0_after 35 = .ok (.iload_n 2, 1) := by decide +kernel
theorem dX0_after_36 : decode cX0_after 36 = .ok (.iload_n 1, 1) := by decide +kernel
theorem dX0_after_37 : decode cX0_after 37 = .ok (.bipush 15, 2) := by decide +kernel
theorem dX0_after_39 : decode cX0_after 39 = .ok (.iand, 1) := by decide +kernel
theorem dX0_after_40 : decode cX0_after 40 = .ok (.invokevirtual 66, 3) := by decide +kernel
theorem dX0_after_43 : decode cX0_after 43 = .ok (.istore_n 3, 1) := by decide +kernel
theorem dX0_after_44 : decode cX0_after 44 = .ok (.iload_n 3, 1) := by decide +kernel
theorem dX0_after_45 : decode cX0_after 45 = .ok (.ifCond .lt 10, 3) := by decide +kernel
theorem dX0_after_48 : decode cX0_after 48 = .ok (.bipush 16, 2) := by decide +kernel
theorem dX0_after_50 : decode cX0_after 50 = .ok (.iload_n 2, 1) := by decide +kernel
theorem dX0_after_51 : decode cX0_after 51 = .ok (.imul, 1) := by decide +kernel
theorem dX0_after_52 : decode cX0_after 52 = .ok (.iload_n 3, 1) := by decide +kernel
theorem dX0_after_53 : decode cX0_after 53 = .ok (.iadd, 1) := by decide +kernel
theorem dX0_after_54 : decode cX0_after 54 = .ok (.ireturn, 1) := by decide +kernel
theorem dX0_after_55 : decode cX0_after 55 = .ok (.aload_n 0, 1) := by decide +kernel
theorem dX0_after_56 : decode cX0_after 56 = .ok (.bipush 16, 2) := by decide +kernel
theorem dX0_after_58 : decode cX0_after 58 = .ok (.iload_n 2, 1) := by decide +kernel
theorem dX0_after_59 : decode cX0_after 59 = .ok (.invokevirtual 66, 3) := by decide +kernel
theorem dX0_after_62 : decode cX0_after 62 = .ok (.istore 4, 2) := by decide +kernel
theorem dX0_after_64 : decode cX0_after 64 = .ok (.bipush 16, 2) := by decide +kernel
theorem dX0_after_66 : decode cX0_after 66 = .ok (.iload 4, 2) := by decide +kernel
theorem dX0_after_68 : decode cX0_after 68 = .ok (.imul, 1) := by decide +kernel
theorem dX0_after_69 : decode cX0_after 69 = .ok (.aload_n 0, 1) := by decide +kernel
theorem dX0_after_70 : decode cX0_after 70 = .ok (.getfield 7, 3) := by decide +kernel
theorem dX0_after_73 : decode cX0_after 73 = .ok (.iload 4, 2) := by decide +kernel
theorem dX0_after_75 : decode cX0_after 75 = .ok (.baload, 1) := by decide +kernel
theorem dX0_after_76 : decode cX0_after 76 = .ok (.iadd, 1) := by decide +kernel
theorem dX0_after_77 : decode cX0_after 77 = .ok (.ireturn, 1) := by decide +kernel
theorem dX0_afterIn_0 : decode cX0_afterIn 0 = .ok (.aload_n 0, 1) := by decide +kernel
theorem dX0_afterIn_1 : decode cX0_afterIn 1 = .ok (.getfield 7, 3) := by decide +kernel
theorem dX0_afterIn_4 : decode cX0_afterIn 4 = .ok (.iload_n 1, 1) := by decide +kernel
theorem dX0_afterIn_5 : decode cX0_afterIn 5 = .ok (.baload, 1) := by decide +kernel
theorem dX0_afterIn_6 : decode cX0_afterIn 6 = .ok (.iload_n 2, 1) := by decide +kernel
theorem dX0_afterIn_7 : decode cX0_afterIn 7 = .ok (.if_icmp .le 10, 3) := by decide +kernel
theorem dX0_afterIn_10 : decode cX0_afterIn 10 = .ok (.aload_n 0, 1) := by decide +kernel
theorem dX0_afterIn_11 : decode cX0_afterIn 11 = .ok (.getfield 7, 3) := by decide +kernel
theorem dX0_afterIn_14 : decode cX0_afterIn 14 = .ok (.iload_n 1, 1) := by decide +kernel
theorem dX0_afterIn_15 : decode cX0_afterIn 15 = .ok (.baload, 1) := by decide +kernel
theorem dX0_afterIn_16 : decode cX0_afterIn 16 = .ok (.ireturn, 1) := by decide +kernel
theorem dX0_afterIn_17 : decode cX0_afterIn 17 = .ok (.aload_n 0, 1) := by decide +kernel
theorem dX0_afterIn_18 : decode cX0_afterIn 18 = .ok (.getfield 13, 3) := by decide +kernel
theorem dX0_afterIn_21 : decode cX0_afterIn 21 = .ok (.iload_n 1, 1) := by decide +kernel
theorem dX0_afterIn_22 : decode cX0_afterIn 22 = .ok (.baload, 1) := by decide +kernel
theorem dX0_afterIn_23 : decode cX0_afterIn 23 = .ok (.iload_n 2, 1) := by decide +kernel
theorem dX0_afterIn_24 : decode cX0_afterIn 24 = .ok (.if_icmp .gt 5, 3) := by decide +kernel
theorem dX0_afterIn_27 : decode cX0_afterIn 27 = .ok (.iconst (-1), 1) := by decide +kernel
theorem dX0_afterIn_28 : decode cX0_afterIn 28 = .ok (.ireturn, 1) := by decide +kernel
theorem dX0_afterIn_29 : decode cX0_afterIn 29 = .ok (.iload_n 2, 1) := by decide +kernel
theorem dX0_afterIn_30 : decode cX0_afterIn 30 = .ok (.iconst 2, 1) := by decide +kernel
theorem dX0_afterIn_31 : decode cX0_afterIn 31 = .ok (.ishr, 1) := by decide +kernel
theorem dX0_afterIn_32 : decode cX0_afterIn 32 = .ok (.istore_n 3, 1) := by decide +kernel
theorem dX0_afterIn_33 : decode cX0_afterIn 33 = .ok (.aload_n 0, 1) := by decide +kernel
theorem dX0_afterIn_34 : decode cX0_afterIn 34 = .ok (.getfield 19, 3) := by decide +kernel
theorem dX0_afterIn_37 : decode cX0_afterIn 37 = .ok (.iload_n 1, 1) := by decide +kernel
theorem dX0_afterIn_38 : decode cX0_afterIn 38 = .ok (.iconst 4, 1) := by decide +kernel
theorem dX0_afterIn_39 : decode cX0_afterIn 39 = .ok (.imul, 1) := by decide +kernel
theorem dX0_afterIn_40 : decode cX0_afterIn 40 = .ok (.iload_n 3, 1) := by decide +kernel
theorem dX0_afterIn_41 : decode cX0_afterIn 41 = .ok (.iadd, 1) := by decide +kernel
theorem dX0_afterIn_42 : decode cX0_afterIn 42 = .ok (.baload, 1) := by decide +kernel
theorem dX0_afterIn_43 : decode cX0_afterIn 43 = .ok (.bipush 14, 2) := by decide +kernel
theorem dX0_afterIn_45 : decode cX0_afterIn 45 = .ok (.iload_n 2, 1) := by decide +kernel
theorem dX0_afterIn_46 : decode cX0_afterIn 46 = .ok (.iconst 3, 1) := by decide +kernel
theorem dX0_afterIn_47 : decode cX0_afterIn 47 = .ok (.iand, 1) := by decide +kernel
theorem dX0_afterIn_48 : decode cX0_afterIn 48 = .ok (.ishl, 1) := by decide +kernel
theorem dX0_afterIn_49 : decode cX0_afterIn 49 = .ok (.iand, 1) := by decide +kernel
theorem dX0_afterIn_50 : decode cX0_afterIn 50 = .ok (.bipush 15, 2) := by decide +kernel
theorem dX0_afterIn_52 : decode cX0_afterIn 52 = .ok (.iand, 1) := by decide +kernel
theorem dX0_afterIn_53 : decode cX0_afterIn 53 = .ok (.istore 4, 2) := by decide +kernel
theorem dX0_afterIn_55 : decode cX0_afterIn 55 = .ok (.iload 4, 2) := by decide +kernel
theorem dX0_afterIn_57 : decode cX0_afterIn 57 = .ok (.ifCond .eq 13, 3) := by decide +kernel
theorem dX0_afterIn_60 : decode cX0_afterIn 60 = .ok (.iconst 4, 1) := by decide +kernel
theorem dX0_afterIn_61 : decode cX0_afterIn 61 = .ok (.iload_n 3, 1) := by decide +kernel
theorem dX0_afterIn_62 : decode cX0_afterIn 62 = .ok (.imul, 1) := by decide +kernel
theorem dX0_afterIn_63 : decode cX0_afterIn 63 = .ok (.iload 4, 2) := by decide +kernel
theorem dX0_afterIn_65 : decode cX0_afterIn 65 = .ok (.invokestatic 33, 3) := by decide +kernel
theorem dX0_afterIn_68 : decode cX0_afterIn 68 = .ok (.iadd, 1) := by decide +kernel
theorem dX0_afterIn_69 : decode cX0_afterIn 69 = .ok (.ireturn, 1) := by decide +kernel
theorem dX0_afterIn_70 : decode cX0_afterIn 70 = .ok (.aload_n 0, 1) := by decide +kernel
theorem dX0_afterIn_71 : decode cX0_afterIn 71 = .ok (.getfield 16, 3) := by decide +kernel
theorem dX0_afterIn_74 : decode cX0_afterIn 74 = .ok (.iload_n 1, 1) := by decide +kernel
theorem dX0_afterIn_75 : decode cX0_afterIn 75 = .ok (.baload, 1) := by decide +kernel
theorem dX0_afterIn_76 : decode cX0_afterIn 76 = .ok (.bipush 14, 2) := by decide +kernel
theorem dX0_afterIn_78 : decode cX0_afterIn 78 = .ok (.iload_n 3, 1) := by decide +kernel
theorem dX0_afterIn_79 : decode cX0_afterIn 79 = .ok (.ishl, 1) := by decide +kernel
theorem dX0_afterIn_80 : decode cX0_afterIn 80 = .ok (.iand, 1) := by decide +kernel
theorem dX0_afterIn_81 : decode cX0_afterIn 81 = .ok (.bipush 15, 2) := by decide +kernel
theorem dX0_afterIn_83 : decode cX0_afterIn 83 = .ok (.iand, 1) := by decide +kernel
theorem dX0_afterIn_84 : decode cX0_afterIn 84 = .ok (.istore 5, 2) := by decide +kernel
theorem dX0_afterIn_86 : decode cX0_afterIn 86 = .ok (.iload 5, 2) := by decide +kernel
theorem dX0_afterIn_88 : decode cX0_afterIn 88 = .ok (.invokestatic 33, 3) := by decide +kernel
theorem dX0_afterIn_91 : decode cX0_afterIn 91 = .ok (.istore_n 3, 1) := by decide +kernel
theorem dX0_afterIn_92 : decode cX0_afterIn 92 = .ok (.aload_n 0, 1) := by decide +kernel
theorem dX0_afterIn_93 : decode cX0_afterIn 93 = .ok (.getfield 19, 3) := by decide +kernel
theorem dX0_afterIn_96 : decode cX0_afterIn 96 = .ok (.iload_n 1, 1) := by decide +kernel
theorem dX0_afterIn_97 : decode cX0_afterIn 97 = .ok (.iconst 4, 1) := by decide +kernel
theorem dX0_afterIn_98 : decode cX0_afterIn 98 = .ok (.imul, 1) := by decide +kernel
theorem dX0_afterIn_99 : decode cX0_afterIn 99 = .ok (.iload_n 3, 1) := by decide +kernel
theorem dX0_afterIn_100 : decode cX0_afterIn 100 = .ok (.iadd, 1) := by decide +kernel
theorem dX0_afterIn_101 : decode cX0_afterIn 101 = .ok (.baload, 1) := by decide +kernel
theorem dX0_afterIn_102 : decode cX0_afterIn 102 = .ok (.istore 6, 2) := by decide +kernel
theorem dX0_afterIn_104 : decode cX0_afterIn 104 = .ok (.iconst 4, 1) := by decide +kernel
theorem dX0_afterIn_105 : decode cX0_afterIn 105 = .ok (.iload_n 3, 1) := by decide +kernel
theorem dX0_afterIn_106 : decode cX0_afterIn 106 = .ok (.imul, 1) := by decide +kernel
theorem dX0_afterIn_107 : decode cX0_afterIn 107 = .ok (.iload 6, 2) := by decide +kernel
theorem dX0_afterIn_109 : decode cX0_afterIn 109 = .ok (.invokestatic 33, 3) := by decide +kernel
theorem dX0_afterIn_112 : decode cX0_afterIn 112 = .ok (.iadd, 1) := by decide +kernel
theorem dX0_afterIn_113 : decode cX0_afterIn 113 = .ok (.ireturn, 1) := by decide +kernel
theorem dX0_before_0 : decode cX0_before 0 = .ok (.aload_n 0, 1) := by decide +kernel
theorem dX0_before_1 : decode cX0_before 1 = .ok (.getfield 22, 3) := by decide +kernel
theorem dX0_before_4 : decode cX0_before 4 = .ok (.ifCond .lt 11, 3) := by decide +kernel
theorem dX0_before_7 : decode cX0_before 7 = .ok (.iload_n 1, 1) := by decide +kernel
theorem dX0_before_8 : decode cX0_before 8 = .ok (.aload_n 0, 1) := by decide +kernel
theorem dX0_before_9 : decode cX0_before 9 = .ok (.getfield 22, 3) := by decide +kernel
theorem dX0_before_12 : decode cX0_before 12 = .ok (.if_icmp .gt 5, 3) := by decide +kernel
theorem dX0_before_15 : decode cX0_before 15 = .ok (.iconst (-1), 1) := by decide +kernel
theorem dX0_before_16 : decode cX0_before 16 = .ok (.ireturn, 1) := by decide +kernel
theorem dX0_before_17 : decode cX0_before 17 = .ok (.iload_n 1, 1) := by decide +kernel
theorem dX0_before_18 : decode cX0_before 18 = .ok (.aload_n 0, 1) := by decide +kernel
theorem dX0_before_19 : decode cX0_before 19 = .ok (.getfield 26, 3) := by decide +kernel
theorem dX0_before_22 : decode cX0_before 22 = .ok (.if_icmp .le 8, 3) := by decide +kernel
theorem dX0_before_25 : decode cX0_before 25 = .ok (.aload_n 0, 1) := by decide +kernel
theorem dX0_before_26 : decode cX0_before 26 = .ok (.getfield 26, 3) := by decide +kernel
theorem dX0_before_29 : decode cX0_before 29 = .ok (.ireturn, 1) := by decide +kernel
theorem dX0_before_30 : decode cX0_before 30 = .ok (.iload_n 1, 1) := by decide +kernel
theorem dX0_before_31 : decode cX0_before 31 = .ok (.iconst 4, 1) := by decide +kernel
theorem dX0_before_32 : decode cX0_before 32 = .ok (.ishr, 1) := by decide +kernel
theorem dX0_before_33 : decode cX0_before 33 = .ok (.istore_n 2, 1) := by decide +kernel
theorem dX0_before_34 : decode cX0_before 34 = .ok (.aload_n 0, 1) := by decide +kernel
theorem dX0_before_35 : decode cX0_before 35 = .ok (.iload_n 2, 1) := by decide +kernel
theorem dX0_before_36 : decode cX0_before 36 = .ok (.iload_n 1, 1) := by decide +kernel
theorem dX0_before_37 : decode cX0_before 37 = .ok (.bipush 15, 2) := by decide +kernel
theorem dX0_before_39 : decode cX0_before 39 = .ok (.iand, 1) := by decide +kernel
theorem dX0_before_40 : decode cX0_before 40 = .ok (.invokevirtual 70, 3) := by decide +kernel
theorem dX0_before_43 : decode cX0_before 43 = .ok (.istore_n 3, 1) := by decide +kernel
theorem dX0_before_44 : decode cX0_before 44 = .ok (.iload_n 3, 1) := by decide +kernel
theorem dX0_before_45 : decode cX0_before 45 = .ok (.ifCond .lt 10, 3) := by decide +kernel
theorem dX0_before_48 : decode cX0_before 48 = .ok (.bipush 16, 2) := by decide +kernel
theorem dX0_before_50 : decode cX0_before 50 = .ok (.iload_n 2, 1) := by decide +kernel
theorem dX0_before_51 : decode cX0_before 51 = .ok (.imul, 1) := by decide +kernel
theorem dX0_before_52 : decode cX0_before 52 = .ok (.iload_n 3, 1) := by decide +kernel
theorem dX0_before_53 : decode cX0_before 53 = .ok (.iadd, 1) := by decide +kernel
theorem dX0_before_54 : decode cX0_before 54 = .ok (.ireturn, 1) := by decide +kernel
theorem dX0_before_55 : decode cX0_before 55 = .ok (.aload_n 0, 1) := by decide +kernel
theorem dX0_before_56 : decode cX0_before 56 = .ok (.bipush 16, 2) := by decide +kernel
theorem dX0_before_58 : decode cX0_before 58 = .ok (.iload_n 2, 1) := by decide +kernel
end
section
set_option maxRecDepth 100000
theorem dX0_before_59 : decode cX0_before 59 = .ok (.invokevirtual 70, 3) := by decide +kernel
theorem dX0_before_62 : decode cX0_before 62 = .ok (.istore 4, 2) := by decide +kernel
theorem dX0_before_64 : decode cX0_before 64 = .ok (.iload 4, 2) := by decide +kernel
theorem dX0_before_66 : decode cX0_before 66 = .ok (.ifCond .ge 10, 3) := by decide +kernel
theorem dX0_before_69 : decode cX0_before 69 = .ok (.aload_n 0, 1) := by decide +kernel
theorem dX0_before_70 : decode cX0_before 70 = .ok (.getfield 22, 3) := by decide +kernel
theorem dX0_before_73 : decode cX0_before 73 = .ok (.goto 16, 3) := by decide +kernel
theorem dX0_before_76 : decode cX0_before 76 = .ok (.bipush 16, 2) := by decide +kernel
theorem dX0_before_78 : decode cX0_before 78 = .ok (.iload 4, 2) := by decide +kernel
theorem dX0_before_80 : decode cX0_before 80 = .ok (.imul, 1) := by decide +kernel
theorem dX0_before_81 : decode cX0_before 81 = .ok (.aload_n 0, 1) := by decide +kernel
theorem dX0_before_82 : decode cX0_before 82 = .ok (.getfield 13, 3) := by decide +kernel
theorem dX0_before_85 : decode cX0_before 85 = .ok (.iload 4, 2) := by decide +kernel
theorem dX0_before_87 : decode cX0_before 87 = .ok (.baload, 1) := by decide +kernel
theorem dX0_before_88 : decode cX0_before 88 = .ok (.iadd, 1) := by decide +kernel
theorem dX0_before_89 : decode cX0_before 89 = .ok (.ireturn, 1) := by decide +kernel
theorem dX0_beforeIn_0 : decode cX0_beforeIn 0 = .ok (.aload_n 0, 1) := by decide +kernel
theorem dX0_beforeIn_1 : decode cX0_beforeIn 1 = .ok (.getfield 7, 3) := by decide +kernel
theorem dX0_beforeIn_4 : decode cX0_beforeIn 4 = .ok (.iload_n 1, 1) := by decide +kernel
theorem dX0_beforeIn_5 : decode cX0_beforeIn 5 = .ok (.baload, 1) := by decide +kernel
theorem dX0_beforeIn_6 : decode cX0_beforeIn 6 = .ok (.ifCond .lt 13, 3) := by decide +kernel
theorem dX0_beforeIn_9 : decode cX0_beforeIn 9 = .ok (.aload_n 0, 1) := by decide +kernel
theorem dX0_beforeIn_10 : decode cX0_beforeIn 10 = .ok (.getfield 7, 3) := by decide +kernel
theorem dX0_beforeIn_13 : decode cX0_beforeIn 13 = .ok (.iload_n 1, 1) := by decide +kernel
theorem dX0_beforeIn_14 : decode cX0_beforeIn 14 = .ok (.baload, 1) := by decide +kernel
theorem dX0_beforeIn_15 : decode cX0_beforeIn 15 = .ok (.iload_n 2, 1) := by decide +kernel
theorem dX0_beforeIn_16 : decode cX0_beforeIn 16 = .ok (.if_icmp .lt 5, 3) := by decide +kernel
theorem dX0_beforeIn_19 : decode cX0_beforeIn 19 = .ok (.iconst (-1), 1) := by decide +kernel
theorem dX0_beforeIn_20 : decode cX0_beforeIn 20 = .ok (.ireturn, 1) := by decide +kernel
theorem dX0_beforeIn_21 : decode cX0_beforeIn 21 = .ok (.aload_n 0, 1) := by decide +kernel
theorem dX0_beforeIn_22 : decode cX0_beforeIn 22 = .ok (.getfield 13, 3) := by decide +kernel
theorem dX0_beforeIn_25 : decode cX0_beforeIn 25 = .ok (.iload_n 1, 1) := by decide +kernel
theorem dX0_beforeIn_26 : decode cX0_beforeIn 26 = .ok (.baload, 1) := by decide +kernel
theorem dX0_beforeIn_27 : decode cX0_beforeIn 27 = .ok (.iload_n 2, 1) := by decide +kernel
theorem dX0_beforeIn_28 : decode cX0_beforeIn 28 = .ok (.if_icmp .ge 10, 3) := by decide +kernel
theorem dX0_beforeIn_31 : decode cX0_beforeIn 31 = .ok (.aload_n 0, 1) := by decide +kernel
theorem dX0_beforeIn_32 : decode cX0_beforeIn 32 = .ok (.getfield 13, 3) := by decide +kernel
theorem dX0_beforeIn_35 : decode cX0_beforeIn 35 = .ok (.iload_n 1, 1) := by decide +kernel
theorem dX0_beforeIn_36 : decode cX0_beforeIn 36 = .ok (.baload, 1) := by decide +kernel
theorem dX0_beforeIn_37 : decode cX0_beforeIn 37 = .ok (.ireturn, 1) := by decide +kernel
theorem dX0_beforeIn_38 : decode cX0_beforeIn 38 = .ok (.iload_n 2, 1) := by decide +kernel
theorem dX0_beforeIn_39 : decode cX0_beforeIn 39 = .ok (.iconst 2, 1) := by decide +kernel
theorem dX0_beforeIn_40 : decode cX0_beforeIn 40 = .ok (.ishr, 1) := by decide +kernel
theorem dX0_beforeIn_41 : decode cX0_beforeIn 41 = .ok (.istore_n 3, 1) := by decide +kernel
theorem dX0_beforeIn_42 : decode cX0_beforeIn 42 = .ok (.aload_n 0, 1) := by decide +kernel
theorem dX0_beforeIn_43 : decode cX0_beforeIn 43 = .ok (.getfield 19, 3) := by decide +kernel
theorem dX0_beforeIn_46 : decode cX0_beforeIn 46 = .ok (.iload_n 1, 1) := by decide +kernel
theorem dX0_beforeIn_47 : decode cX0_beforeIn 47 = .ok (.iconst 4, 1) := by decide +kernel
theorem dX0_beforeIn_48 : decode cX0_beforeIn 48 = .ok (.imul, 1) := by decide +kernel
theorem dX0_beforeIn_49 : decode cX0_beforeIn 49 = .ok (.iload_n 3, 1) := by decide +kernel
theorem dX0_beforeIn_50 : decode cX0_beforeIn 50 = .ok (.iadd, 1) := by decide +kernel
theorem dX0_beforeIn_51 : decode cX0_beforeIn 51 = .ok (.baload, 1) := by decide +kernel
theorem dX0_beforeIn_52 : decode cX0_beforeIn 52 = .ok (.iconst 1, 1) := by decide +kernel
theorem dX0_beforeIn_53 : decode cX0_beforeIn 53 = .ok (.iload_n 2, 1) := by decide +kernel
theorem dX0_beforeIn_54 : decode cX0_beforeIn 54 = .ok (.iconst 3, 1) := by decide +kernel
theorem dX0_beforeIn_55 : decode cX0_beforeIn 55 = .ok (.iand, 1) := by decide +kernel
theorem dX0_beforeIn_56 : decode cX0_beforeIn 56 = .ok (.ishl, 1) := by decide +kernel
theorem dX0_beforeIn_57 : decode cX0_beforeIn 57 = .ok (.iconst 1, 1) := by decide +kernel
theorem dX0_beforeIn_58 : decode cX0_beforeIn 58 = .ok (.isub, 1) := by decide +kernel
theorem dX0_beforeIn_59 : decode cX0_beforeIn 59 = .ok (.iand, 1) := by decide +kernel
theorem dX0_beforeIn_60 : decode cX0_beforeIn 60 = .ok (.istore 4, 2) := by decide +kernel
theorem dX0_beforeIn_62 : decode cX0_beforeIn 62 = .ok (.iload 4, 2) := by decide +kernel
theorem dX0_beforeIn_64 : decode cX0_beforeIn 64 = .ok (.ifCond .eq 13, 3) := by decide +kernel
theorem dX0_beforeIn_67 : decode cX0_beforeIn 67 = .ok (.iconst 4, 1) := by decide +kernel
theorem dX0_beforeIn_68 : decode cX0_beforeIn 68 = .ok (.iload_n 3, 1) := by decide +kernel
theorem dX0_beforeIn_69 : decode cX0_beforeIn 69 = .ok (.imul, 1) := by decide +kernel
theorem dX0_beforeIn_70 : decode cX0_beforeIn 70 = .ok (.iload 4, 2) := by decide +kernel
theorem dX0_beforeIn_72 : decode cX0_beforeIn 72 = .ok (.invokestatic 37, 3) := by decide +kernel
theorem dX0_beforeIn_75 : decode cX0_beforeIn 75 = .ok (.iadd, 1) := by decide +kernel
theorem dX0_beforeIn_76 : decode cX0_beforeIn 76 = .ok (.ireturn, 1) := by decide +kernel
theorem dX0_beforeIn_77 : decode cX0_beforeIn 77 = .ok (.aload_n 0, 1) := by decide +kernel
theorem dX0_beforeIn_78 : decode cX0_beforeIn 78 = .ok (.getfield 16, 3) := by decide +kernel
theorem dX0_beforeIn_81 : decode cX0_beforeIn 81 = .ok (.iload_n 1, 1) := by decide +kernel
theorem dX0_beforeIn_82 : decode cX0_beforeIn 82 = .ok (.baload, 1) := by decide +kernel
theorem dX0_beforeIn_83 : decode cX0_beforeIn 83 = .ok (.iconst 1, 1) := by decide +kernel
theorem dX0_beforeIn_84 : decode cX0_beforeIn 84 = .ok (.iload_n 3, 1) := by decide +kernel
theorem dX0_beforeIn_85 : decode cX0_beforeIn 85 = .ok (.ishl, 1) := by decide +kernel
theorem dX0_beforeIn_86 : decode cX0_beforeIn 86 = .ok (.iconst 1, 1) := by decide +kernel
theorem dX0_beforeIn_87 : decode cX0_beforeIn 87 = .ok (.isub, 1) := by decide +kernel
theorem dX0_beforeIn_88 : decode cX0_beforeIn 88 = .ok (.iand, 1) := by decide +kernel
theorem dX0_beforeIn_89 : decode cX0_beforeIn 89 = .ok (.istore 5, 2) := by decide +kernel
theorem dX0_beforeIn_91 : decode cX0_beforeIn 91 = .ok (.iload 5, 2) := by decide +kernel
theorem dX0_beforeIn_93 : decode cX0_beforeIn 93 = .ok (.ifCond .ne 10, 3) := by decide +kernel
theorem dX0_beforeIn_96 : decode cX0_beforeIn 96 = .ok (.aload_n 0, 1) := by decide +kernel
theorem dX0_beforeIn_97 : decode cX0_beforeIn 97 = .ok (.getfield 7, 3) := by decide +kernel
theorem dX0_beforeIn_100 : decode cX0_beforeIn 100 = .ok (.iload_n 1, 1) := by decide +kernel
theorem dX0_beforeIn_101 : decode cX0_beforeIn 101 = .ok (.baload, 1) := by decide +kernel
theorem dX0_beforeIn_102 : decode cX0_beforeIn 102 = .ok (.ireturn, 1) := by decide +kernel
theorem dX0_beforeIn_103 : decode cX0_beforeIn 103 = .ok (.iload 5, 2) := by decide +kernel
theorem dX0_beforeIn_105 : decode cX0_beforeIn 105 = .ok (.invokestatic 37, 3) := by decide +kernel
theorem dX0_beforeIn_108 : decode cX0_beforeIn 108 = .ok (.istore_n 3, 1) := by decide +kernel
theorem dX0_beforeIn_109 : decode cX0_beforeIn 109 = .ok (.aload_n 0, 1) := by decide +kernel
theorem dX0_beforeIn_110 : decode cX0_beforeIn 110 = .ok (.getfield 19, 3) := by decide +kernel
theorem dX0_beforeIn_113 : decode cX0_beforeIn 113 = .ok (.iload_n 1, 1) := by decide +kernel
theorem dX0_beforeIn_114 : decode cX0_beforeIn 114 = .ok (.iconst 4, 1) := by decide +kernel
theorem dX0_beforeIn_115 : decode cX0_beforeIn 115 = .ok (.imul, 1) := by decide +kernel
theorem dX0_beforeIn_116 : decode cX0_beforeIn 116 = .ok (.iload_n 3, 1) := by decide +kernel
theorem dX0_beforeIn_117 : decode cX0_beforeIn 117 = .ok (.iadd, 1) := by decide +kernel
theorem dX0_beforeIn_118 : decode cX0_beforeIn 118 = .ok (.baload, 1) := by decide +kernel
theorem dX0_beforeIn_119 : decode cX0_beforeIn 119 = .ok (.istore 6, 2) := by decide +kernel
theorem dX0_beforeIn_121 : decode cX0_beforeIn 121 = .ok (.iconst 4, 1) := by decide +kernel
theorem dX0_beforeIn_122 : decode cX0_beforeIn 122 = .ok (.iload_n 3, 1) := by decide +kernel
theorem dX0_beforeIn_123 : decode cX0_beforeIn 123 = .ok (.imul, 1) := by decide +kernel
theorem dX0_beforeIn_124 : decode cX0_beforeIn 124 = .ok (.iload 6, 2) := by decide +kernel
theorem dX0_beforeIn_126 : decode cX0_beforeIn 126 = .ok (.invokestatic 37, 3) := by decide +kernel
theorem dX0_beforeIn_129 : decode cX0_beforeIn 129 = .ok (.iadd, 1) := by decide +kernel
theorem dX0_beforeIn_130 : decode cX0_beforeIn 130 = .ok (.ireturn, 1) := by decide +kernel
theorem dX0_takeLeast_0 : decode cX0_takeLeast 0 = .ok (.aload_n 0, 1) := by decide +kernel
theorem dX0_takeLeast_1 : decode cX0_takeLeast 1 = .ok (.getfield 22, 3) := by decide +kernel
theorem dX0_takeLeast_4 : decode cX0_takeLeast 4 = .ok (.istore_n 1, 1) := by decide +kernel
theorem dX0_takeLeast_5 : decode cX0_takeLeast 5 = .ok (.aload_n 0, 1) := by decide +kernel
theorem dX0_takeLeast_6 : decode cX0_takeLeast 6 = .ok (.iload_n 1, 1) := by decide +kernel
theorem dX0_takeLeast_7 : decode cX0_takeLeast 7 = .ok (.invokevirtual 73, 3) := by decide +kernel
theorem dX0_takeLeast_10 : decode cX0_takeLeast 10 = .ok (.ifCond .eq 7, 3) := by decide +kernel
theorem dX0_takeLeast_13 : decode cX0_takeLeast 13 = .ok (.iload_n 1, 1) := by decide +kernel
theorem dX0_takeLeast_14 : decode cX0_takeLeast 14 = .ok (.goto 4, 3) := by decide +kernel
theorem dX0_takeLeast_17 : decode cX0_takeLeast 17 = .ok (.iconst (-1), 1) := by decide +kernel
theorem dX0_takeLeast_18 : decode cX0_takeLeast 18 = .ok (.ireturn, 1) := by decide +kernel
theorem dX0_takeGreatest_0 : decode cX0_takeGreatest 0 = .ok (.aload_n 0, 1) := by decide +kernel
theorem dX0_takeGreatest_1 : decode cX0_takeGreatest 1 = .ok (.getfield 26, 3) := by decide +kernel
theorem dX0_takeGreatest_4 : decode cX0_takeGreatest 4 = .ok (.istore_n 1, 1) := by decide +kernel
theorem dX0_takeGreatest_5 : decode cX0_takeGreatest 5 = .ok (.aload_n 0, 1) := by decide +kernel
theorem dX0_takeGreatest_6 : decode cX0_takeGreatest 6 = .ok (.iload_n 1, 1) := by decide +kernel
theorem dX0_takeGreatest_7 : decode cX0_takeGreatest 7 = .ok (.invokevirtual 73, 3) := by decide +kernel
theorem dX0_takeGreatest_10 : decode cX0_takeGreatest 10 = .ok (.ifCond .eq 7, 3) := by decide +kernel
theorem dX0_takeGreatest_13 : decode cX0_takeGreatest 13 = .ok (.iload_n 1, 1) := by decide +kernel
theorem dX0_takeGreatest_14 : decode cX0_takeGreatest 14 = .ok (.goto 4, 3) := by decide +kernel
theorem dX0_takeGreatest_17 : decode cX0_takeGreatest 17 = .ok (.iconst (-1), 1) := by decide +kernel
theorem dX0_takeGreatest_18 : decode cX0_takeGreatest 18 = .ok (.ireturn, 1) := by decide +kernel
theorem dX0_countBetween_0 : decode cX0_countBetween 0 = .ok (.iconst 0, 1) := by decide +kernel
theorem dX0_countBetween_1 : decode cX0_countBetween 1 = .ok (.istore_n 3, 1) := by decide +kernel
theorem dX0_countBetween_2 : decode cX0_countBetween 2 = .ok (.aload_n 0, 1) := by decide +kernel
theorem dX0_countBetween_3 : decode cX0_countBetween 3 = .ok (.iload_n 1, 1) := by decide +kernel
theorem dX0_countBetween_4 : decode cX0_countBetween 4 = .ok (.invokevirtual 79, 3) := by decide +kernel
theorem dX0_countBetween_7 : decode cX0_countBetween 7 = .ok (.istore 4, 2) := by decide +kernel
theorem dX0_countBetween_9 : decode cX0_countBetween 9 = .ok (.iconst 0, 1) := by decide +kernel
theorem dX0_countBetween_10 : decode cX0_countBetween 10 = .ok (.istore 5, 2) := by decide +kernel
theorem dX0_countBetween_12 : decode cX0_countBetween 12 = .ok (.iload 5, 2) := by decide +kernel
theorem dX0_countBetween_14 : decode cX0_countBetween 14 = .ok (.sipush 256, 3) := by decide +kernel
theorem dX0_countBetween_17 : decode cX0_countBetween 17 = .ok (.if_icmp .ge 31, 3) := by decide +kernel
theorem dX0_countBetween_20 : decode cX0_countBetween 20 = .ok (.iload 4, 2) := by decide +kernel
theorem dX0_countBetween_22 : decode cX0_countBetween 22 = .ok (.ifCond .lt 26, 3) := by decide +kernel
theorem dX0_countBetween_25 : decode cX0_countBetween 25 = .ok (.iload 4, 2) := by decide +kernel
theorem dX0_countBetween_27 : decode cX0_countBetween 27 = .ok (.iload_n 2, 1) := by decide +kernel
theorem dX0_countBetween_28 : decode cX0_countBetween 28 = .ok (.if_icmp .gt 20, 3) := by decide +kernel
theorem dX0_countBetween_31 : decode cX0_countBetween 31 = .ok (.iinc 3 1, 3) := by decide +kernel
theorem dX0_countBetween_34 : decode cX0_countBetween 34 = .ok (.aload_n 0, 1) := by decide +kernel
theorem dX0_countBetween_35 : decode cX0_countBetween 35 = .ok (.iload 4, 2) := by decide +kernel
theorem dX0_countBetween_37 : decode cX0_countBetween 37 = .ok (.invokevirtual 76, 3) := by decide +kernel
theorem dX0_countBetween_40 : decode cX0_countBetween 40 = .ok (.istore 4, 2) := by decide +kernel
theorem dX0_countBetween_42 : decode cX0_countBetween 42 = .ok (.iinc 5 1, 3) := by decide +kernel
theorem dX0_countBetween_45 : decode cX0_countBetween 45 = .ok (.goto (-33), 3) := by decide +kernel
theorem dX0_countBetween_48 : decode cX0_countBetween 48 = .ok (.iload_n 3, 1) := by decide +kernel
theorem dX0_countBetween_49 : decode cX0_countBetween 49 = .ok (.ireturn, 1) := by decide +kernel
theorem dX0_from_0 : decode cX0_from 0 = .ok (.iload_n 1, 1) := by decide +kernel
theorem dX0_from_1 : decode cX0_from 1 = .ok (.ifCond .gt 10, 3) := by decide +kernel
theorem dX0_from_4 : decode cX0_from 4 = .ok (.aload_n 0, 1) := by decide +kernel
theorem dX0_from_5 : decode cX0_from 5 = .ok (.getfield 22, 3) := by decide +kernel
theorem dX0_from_8 : decode cX0_from 8 = .ok (.goto 10, 3) := by decide +kernel
theorem dX0_from_11 : decode cX0_from 11 = .ok (.aload_n 0, 1) := by decide +kernel
theorem dX0_from_12 : decode cX0_from 12 = .ok (.iload_n 1, 1) := by decide +kernel
theorem dX0_from_13 : decode cX0_from 13 = .ok (.iconst 1, 1) := by decide +kernel
theorem dX0_from_14 : decode cX0_from 14 = .ok (.isub, 1) := by decide +kernel
theorem dX0_from_15 : decode cX0_from 15 = .ok (.invokevirtual 76, 3) := by decide +kernel
theorem dX0_from_18 : decode cX0_from 18 = .ok (.ireturn, 1) := by decide +kernel
theorem dX0_select_0 : decode cX0_select 0 = .ok (.iload_n 1, 1) := by decide +kernel
theorem dX0_select_1 : decode cX0_select 1 = .ok (.ifCond .ge 7, 3) := by decide +kernel
theorem dX0_select_4 : decode cX0_select 4 = .ok (.iconst (-1), 1) := by decide +kernel
theorem dX0_select_5 : decode cX0_select 5 = .ok (.goto 7, 3) := by decide +kernel
theorem dX0_select_8 : decode cX0_select 8 = .ok (.aload_n 0, 1) := by decide +kernel
theorem dX0_select_9 : decode cX0_select 9 = .ok (.getfield 22, 3) := by decide +kernel
theorem dX0_select_12 : decode cX0_select 12 = .ok (.istore_n 2, 1) := by decide +kernel
theorem dX0_select_13 : decode cX0_select 13 = .ok (.iconst 0, 1) := by decide +kernel
theorem dX0_select_14 : decode cX0_select 14 = .ok (.istore_n 3, 1) := by decide +kernel
theorem dX0_select_15 : decode cX0_select 15 = .ok (.iload_n 3, 1) := by decide +kernel
theorem dX0_select_16 : decode cX0_select 16 = .ok (.iload_n 1, 1) := by decide +kernel
theorem dX0_select_17 : decode cX0_select 17 = .ok (.if_icmp .ge 19, 3) := by decide +kernel
theorem dX0_select_20 : decode cX0_select 20 = .ok (.iload_n 2, 1) := by decide +kernel
theorem dX0_select_21 : decode cX0_select 21 = .ok (.ifCond .lt 15, 3) := by decide +kernel
theorem dX0_select_24 : decode cX0_select 24 = .ok (.aload_n 0, 1) := by decide +kernel
theorem dX0_select_25 : decode cX0_select 25 = .ok (.iload_n 2, 1) := by decide +kernel
theorem dX0_select_26 : decode cX0_select 26 = .ok (.invokevirtual 76, 3) := by decide +kernel
theorem dX0_select_29 : decode cX0_select 29 = .ok (.istore_n 2, 1) := by decide +kernel
theorem dX0_select_30 : decode cX0_select 30 = .ok (.iinc 3 1, 3) := by decide +kernel
theorem dX0_select_33 : decode cX0_select 33 = .ok (.goto (-18), 3) := by decide +kernel
theorem dX0_select_36 : decode cX0_select 36 = .ok (.iload_n 2, 1) := by decide +kernel
theorem dX0_select_37 : decode cX0_select 37 = .ok (.ireturn, 1) := by decide +kernel
theorem dX0_gapFrom_0 : decode cX0_gapFrom 0 = .ok (.iload_n 1, 1) := by decide +kernel
theorem dX0_gapFrom_1 : decode cX0_gapFrom 1 = .ok (.ifCond .ge 9, 3) := by decide +kernel
theorem dX0_gapFrom_4 : decode cX0_gapFrom 4 = .ok (.sipush 256, 3) := by decide +kernel
theorem dX0_gapFrom_7 : decode cX0_gapFrom 7 = .ok (.goto 4, 3) := by decide +kernel
theorem dX0_gapFrom_10 : decode cX0_gapFrom 10 = .ok (.iload_n 1, 1) := by decide +kernel
theorem dX0_gapFrom_11 : decode cX0_gapFrom 11 = .ok (.istore_n 2, 1) := by decide +kernel
theorem dX0_gapFrom_12 : decode cX0_gapFrom 12 = .ok (.iload_n 2, 1) := by decide +kernel
theorem dX0_gapFrom_13 : decode cX0_gapFrom 13 = .ok (.sipush 256, 3) := by decide +kernel
theorem dX0_gapFrom_16 : decode cX0_gapFrom 16 = .ok (.if_icmp .ge 17, 3) := by decide +kernel
theorem dX0_gapFrom_19 : decode cX0_gapFrom 19 = .ok (.aload_n 0, 1) := by decide +kernel
theorem dX0_gapFrom_20 : decode cX0_gapFrom 20 = .ok (.iload_n 2, 1) := by decide +kernel
theorem dX0_gapFrom_21 : decode cX0_gapFrom 21 = .ok (.invokevirtual 49, 3) := by decide +kernel
theorem dX0_gapFrom_24 : decode cX0_gapFrom 24 = .ok (.ifCond .eq 9, 3) := by decide +kernel
theorem dX0_gapFrom_27 : decode cX0_gapFrom 27 = .ok (.iinc 2 1, 3) := by decide +kernel
theorem dX0_gapFrom_30 : decode cX0_gapFrom 30 = .ok (.goto (-18), 3) := by decide +kernel
theorem dX0_gapFrom_33 : decode cX0_gapFrom 33 = .ok (.iload_n 2, 1) := by decide +kernel
theorem dX0_gapFrom_34 : decode cX0_gapFrom 34 = .ok (.sipush 256, 3) := by decide +kernel
theorem dX0_gapFrom_37 : decode cX0_gapFrom 37 = .ok (.if_icmp .ge 7, 3) := by decide +kernel
theorem dX0_gapFrom_40 : decode cX0_gapFrom 40 = .ok (.iload_n 2, 1) := by decide +kernel
theorem dX0_gapFrom_41 : decode cX0_gapFrom 41 = .ok (.goto 4, 3) := by decide +kernel
theorem dX0_gapFrom_44 : decode cX0_gapFrom 44 = .ok (.iconst (-1), 1) := by decide +kernel
theorem dX0_gapFrom_45 : decode cX0_gapFrom 45 = .ok (.ireturn, 1) := by decide +kernel
theorem dX0_deleteBetween_0 : decode cX0_deleteBetween 0 = .ok (.iconst 0, 1) := by decide +kernel
theorem dX0_deleteBetween_1 : decode cX0_deleteBetween 1 = .ok (.istore_n 3, 1) := by decide +kernel
theorem dX0_deleteBetween_2 : decode cX0_deleteBetween 2 = .ok (.aload_n 0, 1) := by decide +kernel
theorem dX0_deleteBetween_3 : decode cX0_deleteBetween 3 = .ok (.iload_n 1, 1) := by decide +kernel
theorem dX0_deleteBetween_4 : decode cX0_deleteBetween 4 = .ok (.invokevirtual 79, 3) := by decide +kernel
theorem dX0_deleteBetween_7 : decode cX0_deleteBetween 7 = .ok (.istore 4, 2) := by decide +kernel
theorem dX0_deleteBetween_9 : decode cX0_deleteBetween 9 = .ok (.iconst 0, 1) := by decide +kernel
theorem dX0_deleteBetween_10 : decode cX0_deleteBetween 10 = .ok (.istore 5, 2) := by decide +kernel
theorem dX0_deleteBetween_12 : decode cX0_deleteBetween 12 = .ok (.iload 5, 2) := by decide +kernel
theorem dX0_deleteBetween_14 : decode cX0_deleteBetween 14 = .ok (.sipush 256, 3) := by decide +kernel
theorem dX0_deleteBetween_17 : decode cX0_deleteBetween 17 = .ok (.if_icmp .ge 38, 3) := by decide +kernel
theorem dX0_deleteBetween_20 : decode cX0_deleteBetween 20 = .ok (.iload 4, 2) := by decide +kernel
theorem dX0_deleteBetween_22 : decode cX0_deleteBetween 22 = .ok (.ifCond .lt 33, 3) := by decide +kernel
theorem dX0_deleteBetween_25 : decode cX0_deleteBetween 25 = .ok (.iload 4, 2) := by decide +kernel
theorem dX0_deleteBetween_27 : decode cX0_deleteBetween 27 = .ok (.iload_n 2, 1) := by decide +kernel
theorem dX0_deleteBetween_28 : decode cX0_deleteBetween 28 = .ok (.if_icmp .gt 27, 3) := by decide +kernel
theorem dX0_deleteBetween_31 : decode cX0_deleteBetween 31 = .ok (.aload_n 0, 1) := by decide +kernel
theorem dX0_deleteBetween_32 : decode cX0_deleteBetween 32 = .ok (.iload 4, 2) := by decide +kernel
theorem dX0_deleteBetween_34 : decode cX0_deleteBetween 34 = .ok (.invokevirtual 73, 3) := by decide +kernel
theorem dX0_deleteBetween_37 : decode cX0_deleteBetween 37 = .ok (.pop, 1) := by decide +kernel
theorem dX0_deleteBetween_38 : decode cX0_deleteBetween 38 = .ok (.iinc 3 1, 3) := by decide +kernel
theorem dX0_deleteBetween_41 : decode cX0_deleteBetween 41 = .ok (.aload_n 0, 1) := by decide +kernel
theorem dX0_deleteBetween_42 : decode cX0_deleteBetween 42 = .ok (.iload 4, 2) := by decide +kernel
theorem dX0_deleteBetween_44 : decode cX0_deleteBetween 44 = .ok (.invokevirtual 76, 3) := by decide +kernel
theorem dX0_deleteBetween_47 : decode cX0_deleteBetween 47 = .ok (.istore 4, 2) := by decide +kernel
theorem dX0_deleteBetween_49 : decode cX0_deleteBetween 49 = .ok (.iinc 5 1, 3) := by decide +kernel
theorem dX0_deleteBetween_52 : decode cX0_deleteBetween 52 = .ok (.goto (-40), 3) := by decide +kernel
theorem dX0_deleteBetween_55 : decode cX0_deleteBetween 55 = .ok (.iload_n 3, 1) := by decide +kernel
theorem dX0_deleteBetween_56 : decode cX0_deleteBetween 56 = .ok (.ireturn, 1) := by decide +kernel
theorem dX0_nearest_0 : decode cX0_nearest 0 = .ok (.aload_n 0, 1) := by decide +kernel
theorem dX0_nearest_1 : decode cX0_nearest 1 = .ok (.iload_n 1, 1) := by decide +kernel
theorem dX0_nearest_2 : decode cX0_nearest 2 = .ok (.invokevirtual 76, 3) := by decide +kernel
theorem dX0_nearest_5 : decode cX0_nearest 5 = .ok (.istore_n 2, 1) := by decide +kernel
theorem dX0_nearest_6 : decode cX0_nearest 6 = .ok (.aload_n 0, 1) := by decide +kernel
theorem dX0_nearest_7 : decode cX0_nearest 7 = .ok (.iload_n 1, 1) := by decide +kernel
theorem dX0_nearest_8 : decode cX0_nearest 8 = .ok (.invokevirtual 49, 3) := by decide +kernel
theorem dX0_nearest_11 : decode cX0_nearest 11 = .ok (.ifCond .eq 7, 3) := by decide +kernel
theorem dX0_nearest_14 : decode cX0_nearest 14 = .ok (.iload_n 1, 1) := by decide +kernel
theorem dX0_nearest_15 : decode cX0_nearest 15 = .ok (.goto 8, 3) := by decide +kernel
theorem dX0_nearest_18 : decode cX0_nearest 18 = .ok (.aload_n 0, 1) := by decide +kernel
theorem dX0_nearest_19 : decode cX0_nearest 19 = .ok (.iload_n 1, 1) := by decide +kernel
theorem dX0_nearest_20 : decode cX0_nearest 20 = .ok (.invokevirtual 82, 3) := by decide +kernel
theorem dX0_nearest_23 : decode cX0_nearest 23 = .ok (.istore_n 3, 1) := by decide +kernel
theorem dX0_nearest_24 : decode cX0_nearest 24 = .ok (.iload_n 2, 1) := by decide +kernel
theorem dX0_nearest_25 : decode cX0_nearest 25 = .ok (.ifCond .lt 7, 3) := by decide +kernel
theorem dX0_nearest_28 : decode cX0_nearest 28 = .ok (.iload_n 3, 1) := by decide +kernel
theorem dX0_nearest_29 : decode cX0_nearest 29 = .ok (.ifCond .ge 13, 3) := by decide +kernel
theorem dX0_nearest_32 : decode cX0_nearest 32 = .ok (.iload_n 2, 1) := by decide +kernel
theorem dX0_nearest_33 : decode cX0_nearest 33 = .ok (.ifCond .ge 7, 3) := by decide +kernel
theorem dX0_nearest_36 : decode cX0_nearest 36 = .ok (.iload_n 3, 1) := by decide +kernel
theorem dX0_nearest_37 : decode cX0_nearest 37 = .ok (.goto 4, 3) := by decide +kernel
theorem dX0_nearest_40 : decode cX0_nearest 40 = .ok (.iload_n 2, 1) := by decide +kernel
theorem dX0_nearest_41 : decode cX0_nearest 41 = .ok (.ireturn, 1) := by decide +kernel
theorem dX0_nearest_42 : decode cX0_nearest 42 = .ok (.iload_n 1, 1) := by decide +kernel
theorem dX0_nearest_43 : decode cX0_nearest 43 = .ok (.iload_n 3, 1) := by decide +kernel
theorem dX0_nearest_44 : decode cX0_nearest 44 = .ok (.isub, 1) := by decide +kernel
theorem dX0_nearest_45 : decode cX0_nearest 45 = .ok (.iload_n 2, 1) := by decide +kernel
theorem dX0_nearest_46 : decode cX0_nearest 46 = .ok (.iload_n 1, 1) := by decide +kernel
theorem dX0_nearest_47 : decode cX0_nearest 47 = .ok (.isub, 1) := by decide +kernel
theorem dX0_nearest_48 : decode cX0_nearest 48 = .ok (.if_icmp .gt 7, 3) := by decide +kernel
theorem dX0_nearest_51 : decode cX0_nearest 51 = .ok (.iload_n 3, 1) := by decide +kernel
theorem dX0_nearest_52 : decode cX0_nearest 52 = .ok (.goto 4, 3) := by decide +kernel
theorem dX0_nearest_55 : decode cX0_nearest 55 = .ok (.iload_n 2, 1) := by decide +kernel
theorem dX0_nearest_56 : decode cX0_nearest 56 = .ok (.ireturn, 1) := by decide +kernel
end
section
/-! FlatQueueModel -/
set_option maxRecDepth 100000
def RX1 : String := "FlatQueueModel"
def TX1 : u_T := fun k => match k with
  | _ => ("FlatQueueModel", "in", "[Z", false)
def tyX1 : Nat → FieldType := fun k => match k with
  | _ => .array .boolean
abbrev wsX10 : List Cond := u_ws RX1 TX1 1
theorem nmX1 : ∀ a, a < 1 → ∀ b, b < 1 → a ≠ b → (TX1 a).2.1 ≠ (TX1 b).2.1 := by decide +kernel
theorem tyX1_ok : ∀ k, k < 1 → parseFieldDescriptor (TX1 k).2.2.1 = some (tyX1 k) := by decide +kernel
abbrev cX1_init : ByteArray := prog_3_method_1_code
def yX1_init : MethodName := ⟨RX1, "<init>", "()V"⟩
theorem dX1_init_0 : decode cX1_init 0 = .ok (.aload_n 0, 1) := by decide +kernel
theorem dX1_init_1 : decode cX1_init 1 = .ok (.invokespecial 1, 3) := by decide +kernel
theorem dX1_init_4 : decode cX1_init 4 = .ok (.aload_n 0, 1) := by decide +kernel
theorem dX1_init_5 : decode cX1_init 5 = .ok (.sipush 256, 3) := by decide +kernel
theorem dX1_init_8 : decode cX1_init 8 = .ok (.newarray .boolean, 2) := by decide +kernel
theorem dX1_init_10 : decode cX1_init 10 = .ok (.putfield 7, 3) := by decide +kernel
theorem dX1_init_13 : decode cX1_init 13 = .ok (.return_, 1) := by decide +kernel
abbrev cX1_insert : ByteArray := prog_3_method_3_code
def yX1_insert : MethodName := ⟨RX1, "insert", "(I)Z"⟩
theorem dX1_insert_0 : decode cX1_insert 0 = .ok (.aload_n 0, 1) := by decide +kernel
theorem dX1_insert_1 : decode cX1_insert 1 = .ok (.iload_n 1, 1) := by decide +kernel
theorem dX1_insert_2 : decode cX1_insert 2 = .ok (.invokevirtual 13, 3) := by decide +kernel
theorem dX1_insert_5 : decode cX1_insert 5 = .ok (.ifCond .eq 12, 3) := by decide +kernel
theorem dX1_insert_8 : decode cX1_insert 8 = .ok (.aload_n 0, 1) := by decide +kernel
theorem dX1_insert_9 : decode cX1_insert 9 = .ok (.getfield 7, 3) := by decide +kernel
theorem dX1_insert_12 : decode cX1_insert 12 = .ok (.iload_n 1, 1) := by decide +kernel
theorem dX1_insert_13 : decode cX1_insert 13 = .ok (.baload, 1) := by decide +kernel
theorem dX1_insert_14 : decode cX1_insert 14 = .ok (.ifCond .eq 5, 3) := by decide +kernel
theorem dX1_insert_17 : decode cX1_insert 17 = .ok (.iconst 0, 1) := by decide +kernel
theorem dX1_insert_18 : decode cX1_insert 18 = .ok (.ireturn, 1) := by decide +kernel
theorem dX1_insert_19 : decode cX1_insert 19 = .ok (.aload_n 0, 1) := by decide +kernel
theorem dX1_insert_20 : decode cX1_insert 20 = .ok (.getfield 7, 3) := by decide +kernel
theorem dX1_insert_23 : decode cX1_insert 23 = .ok (.iload_n 1, 1) := by decide +kernel
theorem dX1_insert_24 : decode cX1_insert 24 = .ok (.iconst 1, 1) := by decide +kernel
theorem dX1_insert_25 : decode cX1_insert 25 = .ok (.bastore, 1) := by decide +kernel
theorem dX1_insert_26 : decode cX1_insert 26 = .ok (.iconst 1, 1) := by decide +kernel
theorem dX1_insert_27 : decode cX1_insert 27 = .ok (.ireturn, 1) := by decide +kernel
abbrev cX1_number : ByteArray := prog_3_method_2_code
def yX1_number : MethodName := ⟨RX1, "number", "(I)Z"⟩
theorem dX1_number_0 : decode cX1_number 0 = .ok (.iload_n 1, 1) := by decide +kernel
theorem dX1_number_1 : decode cX1_number 1 = .ok (.ifCond .lt 14, 3) := by decide +kernel
theorem dX1_number_4 : decode cX1_number 4 = .ok (.iload_n 1, 1) := by decide +kernel
theorem dX1_number_5 : decode cX1_number 5 = .ok (.sipush 255, 3) := by decide +kernel
theorem dX1_number_8 : decode cX1_number 8 = .ok (.if_icmp .gt 7, 3) := by decide +kernel
theorem dX1_number_11 : decode cX1_number 11 = .ok (.iconst 1, 1) := by decide +kernel
theorem dX1_number_12 : decode cX1_number 12 = .ok (.goto 4, 3) := by decide +kernel
theorem dX1_number_15 : decode cX1_number 15 = .ok (.iconst 0, 1) := by decide +kernel
theorem dX1_number_16 : decode cX1_number 16 = .ok (.ireturn, 1) := by decide +kernel
abbrev cX1_delete : ByteArray := prog_3_method_4_code
def yX1_delete : MethodName := ⟨RX1, "delete", "(I)Z"⟩
theorem dX1_delete_0 : decode cX1_delete 0 = .ok (.aload_n 0, 1) := by decide +kernel
theorem dX1_delete_1 : decode cX1_delete 1 = .ok (.iload_n 1, 1) := by decide +kernel
theorem dX1_delete_2 : decode cX1_delete 2 = .ok (.invokevirtual 13, 3) := by decide +kernel
theorem dX1_delete_5 : decode cX1_delete 5 = .ok (.ifCond .eq 12, 3) := by decide +kernel
theorem dX1_delete_8 : decode cX1_delete 8 = .ok (.aload_n 0, 1) := by decide +kernel
theorem dX1_delete_9 : decode cX1_delete 9 = .ok (.getfield 7, 3) := by decide +kernel
theorem dX1_delete_12 : decode cX1_delete 12 = .ok (.iload_n 1, 1) := by decide +kernel
theorem dX1_delete_13 : decode cX1_delete 13 = .ok (.baload, 1) := by decide +kernel
theorem dX1_delete_14 : decode cX1_delete 14 = .ok (.ifCond .ne 5, 3) := by decide +kernel
theorem dX1_delete_17 : decode cX1_delete 17 = .ok (.iconst 0, 1) := by decide +kernel
theorem dX1_delete_18 : decode cX1_delete 18 = .ok (.ireturn, 1) := by decide +kernel
theorem dX1_delete_19 : decode cX1_delete 19 = .ok (.aload_n 0, 1) := by decide +kernel
theorem dX1_delete_20 : decode cX1_delete 20 = .ok (.getfield 7, 3) := by decide +kernel
theorem dX1_delete_23 : decode cX1_delete 23 = .ok (.iload_n 1, 1) := by decide +kernel
theorem dX1_delete_24 : decode cX1_delete 24 = .ok (.iconst 0, 1) := by decide +kernel
theorem dX1_delete_25 : decode cX1_delete 25 = .ok (.bastore, 1) := by decide +kernel
theorem dX1_delete_26 : decode cX1_delete 26 = .ok (.iconst 1, 1) := by decide +kernel
theorem dX1_delete_27 : decode cX1_delete 27 = .ok (.ireturn, 1) := by decide +kernel
abbrev cX1_member : ByteArray := prog_3_method_5_code
def yX1_member : MethodName := ⟨RX1, "member", "(I)Z"⟩
theorem dX1_member_0 : decode cX1_member 0 = .ok (.aload_n 0, 1) := by decide +kernel
theorem dX1_member_1 : decode cX1_member 1 = .ok (.iload_n 1, 1) := by decide +kernel
theorem dX1_member_2 : decode cX1_member 2 = .ok (.invokevirtual 13, 3) := by decide +kernel
theorem dX1_member_5 : decode cX1_member 5 = .ok (.ifCond .eq 16, 3) := by decide +kernel
theorem dX1_member_8 : decode cX1_member 8 = .ok (.aload_n 0, 1) := by decide +kernel
theorem dX1_member_9 : decode cX1_member 9 = .ok (.getfield 7, 3) := by decide +kernel
theorem dX1_member_12 : decode cX1_member 12 = .ok (.iload_n 1, 1) := by decide +kernel
theorem dX1_member_13 : decode cX1_member 13 = .ok (.baload, 1) := by decide +kernel
theorem dX1_member_14 : decode cX1_member 14 = .ok (.ifCond .eq 7, 3) := by decide +kernel
theorem dX1_member_17 : decode cX1_member 17 = .ok (.iconst 1, 1) := by decide +kernel
theorem dX1_member_18 : decode cX1_member 18 = .ok (.goto 4, 3) := by decide +kernel
theorem dX1_member_21 : decode cX1_member 21 = .ok (.iconst 0, 1) := by decide +kernel
theorem dX1_member_22 : decode cX1_member 22 = .ok (.ireturn, 1) := by decide +kernel
abbrev cX1_size : ByteArray := prog_3_method_6_code
def yX1_size : MethodName := ⟨RX1, "size", "()I"⟩
theorem dX1_size_0 : decode cX1_size 0 = .ok (.aload_n 0, 1) := by decide +kernel
theorem dX1_size_1 : decode cX1_size 1 = .ok (.iconst 0, 1) := by decide +kernel
theorem dX1_size_2 : decode cX1_size 2 = .ok (.sipush 255, 3) := by decide +kernel
theorem dX1_size_5 : decode cX1_size 5 = .ok (.invokevirtual 17, 3) := by decide +kernel
theorem dX1_size_8 : decode cX1_size 8 = .ok (.ireturn, 1) := by decide +kernel
abbrev cX1_countBetween : ByteArray := prog_3_method_13_code
def yX1_countBetween : MethodName := ⟨RX1, "countBetween", "(II)I"⟩
theorem dX1_countBetween_0 : decode cX1_countBetween 0 = .ok (.iconst 0, 1) := by decide +kernel
theorem dX1_countBetween_1 : decode cX1_countBetween 1 = .ok (.istore_n 3, 1) := by decide +kernel
theorem dX1_countBetween_2 : decode cX1_countBetween 2 = .ok (.iconst 0, 1) := by decide +kernel
theorem dX1_countBetween_3 : decode cX1_countBetween 3 = .ok (.istore 4, 2) := by decide +kernel
theorem dX1_countBetween_5 : decode cX1_countBetween 5 = .ok (.iload 4, 2) := by decide +kernel
theorem dX1_countBetween_7 : decode cX1_countBetween 7 = .ok (.sipush 256, 3) := by decide +kernel
theorem dX1_countBetween_10 : decode cX1_countBetween 10 = .ok (.if_icmp .ge 39, 3) := by decide +kernel
theorem dX1_countBetween_13 : decode cX1_countBetween 13 = .ok (.aload_n 0, 1) := by decide +kernel
theorem dX1_countBetween_14 : decode cX1_countBetween 14 = .ok (.getfield 7, 3) := by decide +kernel
theorem dX1_countBetween_17 : decode cX1_countBetween 17 = .ok (.iload 4, 2) := by decide +kernel
theorem dX1_countBetween_19 : decode cX1_countBetween 19 = .ok (.baload, 1) := by decide +kernel
theorem dX1_countBetween_20 : decode cX1_countBetween 20 = .ok (.ifCond .eq 21, 3) := by decide +kernel
theorem dX1_countBetween_23 : decode cX1_countBetween 23 = .ok (.iload 4, 2) := by decide +kernel
theorem dX1_countBetween_25 : decode cX1_countBetween 25 = .ok (.iload_n 1, 1) := by decide +kernel
theorem dX1_countBetween_26 : decode cX1_countBetween 26 = .ok (.if_icmp .lt 15, 3) := by decide +kernel
theorem dX1_countBetween_29 : decode cX1_countBetween 29 = .ok (.iload 4, 2) := by decide +kernel
theorem dX1_countBetween_31 : decode cX1_countBetween 31 = .ok (.iload_n 2, 1) := by decide +kernel
theorem dX1_countBetween_32 : decode cX1_countBetween 32 = .ok (.if_icmp .gt 9, 3) := by decide +kernel
theorem dX1_countBetween_35 : decode cX1_countBetween 35 = .ok (.iload_n 3, 1) := by decide +kernel
theorem dX1_countBetween_36 : decode cX1_countBetween 36 = .ok (.iconst 1, 1) := by decide +kernel
theorem dX1_countBetween_37 : decode cX1_countBetween 37 = .ok (.iadd, 1) := by decide +kernel
theorem dX1_countBetween_38 : decode cX1_countBetween 38 = .ok (.goto 4, 3) := by decide +kernel
theorem dX1_countBetween_41 : decode cX1_countBetween 41 = .ok (.iload_n 3, 1) := by decide +kernel
theorem dX1_countBetween_42 : decode cX1_countBetween 42 = .ok (.istore_n 3, 1) := by decide +kernel
theorem dX1_countBetween_43 : decode cX1_countBetween 43 = .ok (.iinc 4 1, 3) := by decide +kernel
theorem dX1_countBetween_46 : decode cX1_countBetween 46 = .ok (.goto (-41), 3) := by decide +kernel
theorem dX1_countBetween_49 : decode cX1_countBetween 49 = .ok (.iload_n 3, 1) := by decide +kernel
theorem dX1_countBetween_50 : decode cX1_countBetween 50 = .ok (.ireturn, 1) := by decide +kernel
abbrev cX1_least : ByteArray := prog_3_method_7_code
def yX1_least : MethodName := ⟨RX1, "least", "()I"⟩
theorem dX1_least_0 : decode cX1_least 0 = .ok (.aload_n 0, 1) := by decide +kernel
theorem dX1_least_1 : decode cX1_least 1 = .ok (.iconst (-1), 1) := by decide +kernel
theorem dX1_least_2 : decode cX1_least 2 = .ok (.invokevirtual 21, 3) := by decide +kernel
theorem dX1_least_5 : decode cX1_least 5 = .ok (.ireturn, 1) := by decide +kernel
abbrev cX1_after : ByteArray := prog_3_method_9_code
def yX1_after : MethodName := ⟨RX1, "after", "(I)I"⟩
theorem dX1_after_0 : decode cX1_after 0 = .ok (.iconst 0, 1) := by decide +kernel
theorem dX1_after_1 : decode cX1_after 1 = .ok (.istore_n 2, 1) := by decide +kernel
theorem dX1_after_2 : decode cX1_after 2 = .ok (.iload_n 2, 1) := by decide +kernel
theorem dX1_after_3 : decode cX1_after 3 = .ok (.sipush 256, 3) := by decide +kernel
theorem dX1_after_6 : decode cX1_after 6 = .ok (.if_icmp .ge 25, 3) := by decide +kernel
theorem dX1_after_9 : decode cX1_after 9 = .ok (.iload_n 2, 1) := by decide +kernel
theorem dX1_after_10 : decode cX1_after 10 = .ok (.iload_n 1, 1) := by decide +kernel
theorem dX1_after_11 : decode cX1_after 11 = .ok (.if_icmp .le 14, 3) := by decide +kernel
theorem dX1_after_14 : decode cX1_after 14 = .ok (.aload_n 0, 1) := by decide +kernel
theorem dX1_after_15 : decode cX1_after 15 = .ok (.getfield 7, 3) := by decide +kernel
theorem dX1_after_18 : decode cX1_after 18 = .ok (.iload_n 2, 1) := by decide +kernel
theorem dX1_after_19 : decode cX1_after 19 = .ok (.baload, 1) := by decide +kernel
theorem dX1_after_20 : decode cX1_after 20 = .ok (.ifCond .eq 5, 3) := by decide +kernel
theorem dX1_after_23 : decode cX1_after 23 = .ok (.iload_n 2, 1) := by decide +kernel
theorem dX1_after_24 : decode cX1_after 24 = .ok (.ireturn, 1) := by decide +kernel
theorem dX1_after_25 : decode cX1_after 25 = .ok (.iinc 2 1, 3) := by decide +kernel
theorem dX1_after_28 : decode cX1_after 28 = .ok (.goto (-26), 3) := by decide +kernel
theorem dX1_after_31 : decode cX1_after 31 = .ok (.iconst (-1), 1) := by decide +kernel
theorem dX1_after_32 : decode cX1_after 32 = .ok (.ireturn, 1) := by decide +kernel
abbrev cX1_greatest : ByteArray := prog_3_method_8_code
def yX1_greatest : MethodName := ⟨RX1, "greatest", "()I"⟩
theorem dX1_greatest_0 : decode cX1_greatest 0 = .ok (.aload_n 0, 1) := by decide +kernel
theorem dX1_greatest_1 : decode cX1_greatest 1 = .ok (.sipush 256, 3) := by decide +kernel
theorem dX1_greatest_4 : decode cX1_greatest 4 = .ok (.invokevirtual 25, 3) := by decide +kernel
theorem dX1_greatest_7 : decode cX1_greatest 7 = .ok (.ireturn, 1) := by decide +kernel
abbrev cX1_before : ByteArray := prog_3_method_10_code
def yX1_before : MethodName := ⟨RX1, "before", "(I)I"⟩
theorem dX1_before_0 : decode cX1_before 0 = .ok (.sipush 255, 3) := by decide +kernel
theorem dX1_before_3 : decode cX1_before 3 = .ok (.istore_n 2, 1) := by decide +kernel
theorem dX1_before_4 : decode cX1_before 4 = .ok (.iload_n 2, 1) := by decide +kernel
theorem dX1_before_5 : decode cX1_before 5 = .ok (.ifCond .lt 25, 3) := by decide +kernel
theorem dX1_before_8 : decode cX1_before 8 = .ok (.iload_n 2, 1) := by decide +kernel
theorem dX1_before_9 : decode cX1_before 9 = .ok (.iload_n 1, 1) := by decide +kernel
theorem dX1_before_10 : decode cX1_before 10 = .ok (.if_icmp .ge 14, 3) := by decide +kernel
theorem dX1_before_13 : decode cX1_before 13 = .ok (.aload_n 0, 1) := by decide +kernel
theorem dX1_before_14 : decode cX1_before 14 = .ok (.getfield 7, 3) := by decide +kernel
theorem dX1_before_17 : decode cX1_before 17 = .ok (.iload_n 2, 1) := by decide +kernel
theorem dX1_before_18 : decode cX1_before 18 = .ok (.baload, 1) := by decide +kernel
theorem dX1_before_19 : decode cX1_before 19 = .ok (.ifCond .eq 5, 3) := by decide +kernel
theorem dX1_before_22 : decode cX1_before 22 = .ok (.iload_n 2, 1) := by decide +kernel
theorem dX1_before_23 : decode cX1_before 23 = .ok (.ireturn, 1) := by decide +kernel
theorem dX1_before_24 : decode cX1_before 24 = .ok (.iinc 2 (-1), 3) := by decide +kernel
theorem dX1_before_27 : decode cX1_before 27 = .ok (.goto (-23), 3) := by decide +kernel
theorem dX1_before_30 : decode cX1_before 30 = .ok (.iconst (-1), 1) := by decide +kernel
theorem dX1_before_31 : decode cX1_before 31 = .ok (.ireturn, 1) := by decide +kernel
abbrev cX1_takeLeast : ByteArray := prog_3_method_11_code
def yX1_takeLeast : MethodName := ⟨RX1, "takeLeast", "()I"⟩
theorem dX1_takeLeast_0 : decode cX1_takeLeast 0 = .ok (.aload_n 0, 1) := by decide +kernel
theorem dX1_takeLeast_1 : decode cX1_takeLeast 1 = .ok (.invokevirtual 28, 3) := by decide +kernel
theorem dX1_takeLeast_4 : decode cX1_takeLeast 4 = .ok (.istore_n 1, 1) := by decide +kernel
theorem dX1_takeLeast_5 : decode cX1_takeLeast 5 = .ok (.aload_n 0, 1) := by decide +kernel
theorem dX1_takeLeast_6 : decode cX1_takeLeast 6 = .ok (.iload_n 1, 1) := by decide +kernel
theorem dX1_takeLeast_7 : decode cX1_takeLeast 7 = .ok (.invokevirtual 32, 3) := by decide +kernel
theorem dX1_takeLeast_10 : decode cX1_takeLeast 10 = .ok (.pop, 1) := by decide +kernel
theorem dX1_takeLeast_11 : decode cX1_takeLeast 11 = .ok (.iload_n 1, 1) := by decide +kernel
theorem dX1_takeLeast_12 : decode cX1_takeLeast 12 = .ok (.ireturn, 1) := by decide +kernel
abbrev cX1_takeGreatest : ByteArray := prog_3_method_12_code
def yX1_takeGreatest : MethodName := ⟨RX1, "takeGreatest", "()I"⟩
theorem dX1_takeGreatest_0 : decode cX1_takeGreatest 0 = .ok (.aload_n 0, 1) := by decide +kernel
theorem dX1_takeGreatest_1 : decode cX1_takeGreatest 1 = .ok (.invokevirtual 35, 3) := by decide +kernel
theorem dX1_takeGreatest_4 : decode cX1_takeGreatest 4 = .ok (.istore_n 1, 1) := by decide +kernel
theorem dX1_takeGreatest_5 : decode cX1_takeGreatest 5 = .ok (.aload_n 0, 1) := by decide +kernel
theorem dX1_takeGreatest_6 : decode cX1_takeGreatest 6 = .ok (.iload_n 1, 1) := by decide +kernel
theorem dX1_takeGreatest_7 : decode cX1_takeGreatest 7 = .ok (.invokevirtual 32, 3) := by decide +kernel
theorem dX1_takeGreatest_10 : decode cX1_takeGreatest 10 = .ok (.pop, 1) := by decide +kernel
theorem dX1_takeGreatest_11 : decode cX1_takeGreatest 11 = .ok (.iload_n 1, 1) := by decide +kernel
theorem dX1_takeGreatest_12 : decode cX1_takeGreatest 12 = .ok (.ireturn, 1) := by decide +kernel
abbrev cX1_select : ByteArray := prog_3_method_14_code
def yX1_select : MethodName := ⟨RX1, "select", "(I)I"⟩
theorem dX1_select_0 : decode cX1_select 0 = .ok (.iconst 0, 1) := by decide +kernel
theorem dX1_select_1 : decode cX1_select 1 = .ok (.istore_n 2, 1) := by decide +kernel
theorem dX1_select_2 : decode cX1_select 2 = .ok (.iconst 0, 1) := by decide +kernel
theorem dX1_select_3 : decode cX1_select 3 = .ok (.istore_n 3, 1) := by decide +kernel
theorem dX1_select_4 : decode cX1_select 4 = .ok (.iload_n 3, 1) := by decide +kernel
theorem dX1_select_5 : decode cX1_select 5 = .ok (.sipush 256, 3) := by decide +kernel
theorem dX1_select_8 : decode cX1_select 8 = .ok (.if_icmp .ge 28, 3) := by decide +kernel
theorem dX1_select_11 : decode cX1_select 11 = .ok (.aload_n 0, 1) := by decide +kernel
theorem dX1_select_12 : decode cX1_select 12 = .ok (.getfield 7, 3) := by decide +kernel
theorem dX1_select_15 : decode cX1_select 15 = .ok (.iload_n 3, 1) := by decide +kernel
theorem dX1_select_16 : decode cX1_select 16 = .ok (.baload, 1) := by decide +kernel
theorem dX1_select_17 : decode cX1_select 17 = .ok (.ifCond .eq 13, 3) := by decide +kernel
theorem dX1_select_20 : decode cX1_select 20 = .ok (.iload_n 2, 1) := by decide +kernel
theorem dX1_select_21 : decode cX1_select 21 = .ok (.iload_n 1, 1) := by decide +kernel
theorem dX1_select_22 : decode cX1_select 22 = .ok (.if_icmp .ne 5, 3) := by decide +kernel
theorem dX1_select_25 : decode cX1_select 25 = .ok (.iload_n 3, 1) := by decide +kernel
theorem dX1_select_26 : decode cX1_select 26 = .ok (.ireturn, 1) := by decide +kernel
theorem dX1_select_27 : decode cX1_select 27 = .ok (.iinc 2 1, 3) := by decide +kernel
theorem dX1_select_30 : decode cX1_select 30 = .ok (.iinc 3 1, 3) := by decide +kernel
theorem dX1_select_33 : decode cX1_select 33 = .ok (.goto (-29), 3) := by decide +kernel
theorem dX1_select_36 : decode cX1_select 36 = .ok (.iconst (-1), 1) := by decide +kernel
theorem dX1_select_37 : decode cX1_select 37 = .ok (.ireturn, 1) := by decide +kernel
abbrev cX1_gapFrom : ByteArray := prog_3_method_15_code
def yX1_gapFrom : MethodName := ⟨RX1, "gapFrom", "(I)I"⟩
theorem dX1_gapFrom_0 : decode cX1_gapFrom 0 = .ok (.iload_n 1, 1) := by decide +kernel
theorem dX1_gapFrom_1 : decode cX1_gapFrom 1 = .ok (.istore_n 2, 1) := by decide +kernel
theorem dX1_gapFrom_2 : decode cX1_gapFrom 2 = .ok (.aload_n 0, 1) := by decide +kernel
theorem dX1_gapFrom_3 : decode cX1_gapFrom 3 = .ok (.iload_n 2, 1) := by decide +kernel
theorem dX1_gapFrom_4 : decode cX1_gapFrom 4 = .ok (.invokevirtual 13, 3) := by decide +kernel
theorem dX1_gapFrom_7 : decode cX1_gapFrom 7 = .ok (.ifCond .eq 20, 3) := by decide +kernel
theorem dX1_gapFrom_10 : decode cX1_gapFrom 10 = .ok (.aload_n 0, 1) := by decide +kernel
theorem dX1_gapFrom_11 : decode cX1_gapFrom 11 = .ok (.getfield 7, 3) := by decide +kernel
theorem dX1_gapFrom_14 : decode cX1_gapFrom 14 = .ok (.iload_n 2, 1) := by decide +kernel
theorem dX1_gapFrom_15 : decode cX1_gapFrom 15 = .ok (.baload, 1) := by decide +kernel
theorem dX1_gapFrom_16 : decode cX1_gapFrom 16 = .ok (.ifCond .ne 5, 3) := by decide +kernel
theorem dX1_gapFrom_19 : decode cX1_gapFrom 19 = .ok (.iload_n 2, 1) := by decide +kernel
theorem dX1_gapFrom_20 : decode cX1_gapFrom 20 = .ok (.ireturn, 1) := by decide +kernel
theorem dX1_gapFrom_21 : decode cX1_gapFrom 21 = .ok (.iinc 2 1, 3) := by decide +kernel
theorem dX1_gapFrom_24 : decode cX1_gapFrom 24 = .ok (.goto (-22), 3) := by decide +kernel
theorem dX1_gapFrom_27 : decode cX1_gapFrom 27 = .ok (.iconst (-1), 1) := by decide +kernel
theorem dX1_gapFrom_28 : decode cX1_gapFrom 28 = .ok (.ireturn, 1) := by decide +kernel
abbrev cX1_deleteBetween : ByteArray := prog_3_method_16_code
def yX1_deleteBetween : MethodName := ⟨RX1, "deleteBetween", "(II)I"⟩
theorem dX1_deleteBetween_0 : decode cX1_deleteBetween 0 = .ok (.aload_n 0, 1) := by decide +kernel
theorem dX1_deleteBetween_1 : decode cX1_deleteBetween 1 = .ok (.iload_n 1, 1) := by decide +kernel
theorem dX1_deleteBetween_2 : decode cX1_deleteBetween 2 = .ok (.iload_n 2, 1) := by decide +kernel
theorem dX1_deleteBetween_3 : decode cX1_deleteBetween 3 = .ok (.invokevirtual 17, 3) := by decide +kernel
theorem dX1_deleteBetween_6 : decode cX1_deleteBetween 6 = .ok (.istore_n 3, 1) := by decide +kernel
theorem dX1_deleteBetween_7 : decode cX1_deleteBetween 7 = .ok (.iconst 0, 1) := by decide +kernel
theorem dX1_deleteBetween_8 : decode cX1_deleteBetween 8 = .ok (.istore 4, 2) := by decide +kernel
theorem dX1_deleteBetween_10 : decode cX1_deleteBetween 10 = .ok (.iload 4, 2) := by decide +kernel
theorem dX1_deleteBetween_12 : decode cX1_deleteBetween 12 = .ok (.sipush 256, 3) := by decide +kernel
theorem dX1_deleteBetween_15 : decode cX1_deleteBetween 15 = .ok (.if_icmp .ge 43, 3) := by decide +kernel
theorem dX1_deleteBetween_18 : decode cX1_deleteBetween 18 = .ok (.aload_n 0, 1) := by decide +kernel
theorem dX1_deleteBetween_19 : decode cX1_deleteBetween 19 = .ok (.getfield 7, 3) := by decide +kernel
theorem dX1_deleteBetween_22 : decode cX1_deleteBetween 22 = .ok (.iload 4, 2) := by decide +kernel
theorem dX1_deleteBetween_24 : decode cX1_deleteBetween 24 = .ok (.aload_n 0, 1) := by decide +kernel
theorem dX1_deleteBetween_25 : decode cX1_deleteBetween 25 = .ok (.getfield 7, 3) := by decide +kernel
theorem dX1_deleteBetween_28 : decode cX1_deleteBetween 28 = .ok (.iload 4, 2) := by decide +kernel
theorem dX1_deleteBetween_30 : decode cX1_deleteBetween 30 = .ok (.baload, 1) := by decide +kernel
theorem dX1_deleteBetween_31 : decode cX1_deleteBetween 31 = .ok (.ifCond .eq 19, 3) := by decide +kernel
theorem dX1_deleteBetween_34 : decode cX1_deleteBetween 34 = .ok (.iload 4, 2) := by decide +kernel
theorem dX1_deleteBetween_36 : decode cX1_deleteBetween 36 = .ok (.iload_n 1, 1) := by decide +kernel
theorem dX1_deleteBetween_37 : decode cX1_deleteBetween 37 = .ok (.if_icmp .lt 9, 3) := by decide +kernel
theorem dX1_deleteBetween_40 : decode cX1_deleteBetween 40 = .ok (.iload 4, 2) := by decide +kernel
theorem dX1_deleteBetween_42 : decode cX1_deleteBetween 42 = .ok (.iload_n 2, 1) := by decide +kernel
theorem dX1_deleteBetween_43 : decode cX1_deleteBetween 43 = .ok (.if_icmp .le 7, 3) := by decide +kernel
theorem dX1_deleteBetween_46 : decode cX1_deleteBetween 46 = .ok (.iconst 1, 1) := by decide +kernel
theorem dX1_deleteBetween_47 : decode cX1_deleteBetween 47 = .ok (.goto 4, 3) := by decide +kernel
theorem dX1_deleteBetween_50 : decode cX1_deleteBetween 50 = .ok (.iconst 0, 1) := by decide +kernel
theorem dX1_deleteBetween_51 : decode cX1_deleteBetween 51 = .ok (.bastore, 1) := by decide +kernel
theorem dX1_deleteBetween_52 : decode cX1_deleteBetween 52 = .ok (.iinc 4 1, 3) := by decide +kernel
theorem dX1_deleteBetween_55 : decode cX1_deleteBetween 55 = .ok (.goto (-45), 3) := by decide +kernel
theorem dX1_deleteBetween_58 : decode cX1_deleteBetween 58 = .ok (.iload_n 3, 1) := by decide +kernel
theorem dX1_deleteBetween_59 : decode cX1_deleteBetween 59 = .ok (.ireturn, 1) := by decide +kernel
abbrev cX1_nearest : ByteArray := prog_3_method_17_code
def yX1_nearest : MethodName := ⟨RX1, "nearest", "(I)I"⟩
theorem dX1_nearest_0 : decode cX1_nearest 0 = .ok (.iconst (-1), 1) := by decide +kernel
theorem dX1_nearest_1 : decode cX1_nearest 1 = .ok (.istore_n 2, 1) := by decide +kernel
theorem dX1_nearest_2 : decode cX1_nearest 2 = .ok (.lconst 0, 1) := by decide +kernel
theorem dX1_nearest_3 : decode cX1_nearest 3 = .ok (.lstore_n 3, 1) := by decide +kernel
theorem dX1_nearest_4 : decode cX1_nearest 4 = .ok (.iconst 0, 1) := by decide +kernel
theorem dX1_nearest_5 : decode cX1_nearest 5 = .ok (.istore 5, 2) := by decide +kernel
theorem dX1_nearest_7 : decode cX1_nearest 7 = .ok (.iload 5, 2) := by decide +kernel
theorem dX1_nearest_9 : decode cX1_nearest 9 = .ok (.sipush 256, 3) := by decide +kernel
theorem dX1_nearest_12 : decode cX1_nearest 12 = .ok (.if_icmp .ge 61, 3) := by decide +kernel
theorem dX1_nearest_15 : decode cX1_nearest 15 = .ok (.iload 5, 2) := by decide +kernel
theorem dX1_nearest_17 : decode cX1_nearest 17 = .ok (.i2l, 1) := by decide +kernel
theorem dX1_nearest_18 : decode cX1_nearest 18 = .ok (.iload_n 1, 1) := by decide +kernel
theorem dX1_nearest_19 : decode cX1_nearest 19 = .ok (.i2l, 1) := by decide +kernel
theorem dX1_nearest_20 : decode cX1_nearest 20 = .ok (.lsub, 1) := by decide +kernel
theorem dX1_nearest_21 : decode cX1_nearest 21 = .ok (.lstore 6, 2) := by decide +kernel
theorem dX1_nearest_23 : decode cX1_nearest 23 = .ok (.lload 6, 2) := by decide +kernel
theorem dX1_nearest_25 : decode cX1_nearest 25 = .ok (.lconst 0, 1) := by decide +kernel
theorem dX1_nearest_26 : decode cX1_nearest 26 = .ok (.lcmp, 1) := by decide +kernel
theorem dX1_nearest_27 : decode cX1_nearest 27 = .ok (.ifCond .ge 9, 3) := by decide +kernel
theorem dX1_nearest_30 : decode cX1_nearest 30 = .ok (.lload 6, 2) := by decide +kernel
theorem dX1_nearest_32 : decode cX1_nearest 32 = .ok (.lneg, 1) := by decide +kernel
theorem dX1_nearest_33 : decode cX1_nearest 33 = .ok (.goto 5, 3) := by decide +kernel
theorem dX1_nearest_36 : decode cX1_nearest 36 = .ok (.lload 6, 2) := by decide +kernel
theorem dX1_nearest_38 : decode cX1_nearest 38 = .ok (.lstore 6, 2) := by decide +kernel
theorem dX1_nearest_40 : decode cX1_nearest 40 = .ok (.aload_n 0, 1) := by decide +kernel
theorem dX1_nearest_41 : decode cX1_nearest 41 = .ok (.getfield 7, 3) := by decide +kernel
theorem dX1_nearest_44 : decode cX1_nearest 44 = .ok (.iload 5, 2) := by decide +kernel
theorem dX1_nearest_46 : decode cX1_nearest 46 = .ok (.baload, 1) := by decide +kernel
theorem dX1_nearest_47 : decode cX1_nearest 47 = .ok (.ifCond .eq 20, 3) := by decide +kernel
theorem dX1_nearest_50 : decode cX1_nearest 50 = .ok (.iload_n 2, 1) := by decide +kernel
theorem dX1_nearest_51 : decode cX1_nearest 51 = .ok (.ifCond .lt 10, 3) := by decide +kernel
theorem dX1_nearest_54 : decode cX1_nearest 54 = .ok (.lload 6, 2) := by decide +kernel
theorem dX1_nearest_56 : decode cX1_nearest 56 = .ok (.lload_n 3, 1) := by decide +kernel
theorem dX1_nearest_57 : decode cX1_nearest 57 = .ok (.lcmp, 1) := by decide +kernel
theorem dX1_nearest_58 : decode cX1_nearest 58 = .ok (.ifCond .ge 9, 3) := by decide +kernel
theorem dX1_nearest_61 : decode cX1_nearest 61 = .ok (.iload 5, 2) := by decide +kernel
theorem dX1_nearest_63 : decode cX1_nearest 63 = .ok (.istore_n 2, 1) := by decide +kernel
theorem dX1_nearest_64 : decode cX1_nearest 64 = .ok (.lload 6, 2) := by decide +kernel
theorem dX1_nearest_66 : decode cX1_nearest 66 = .ok (.lstore_n 3, 1) := by decide +kernel
theorem dX1_nearest_67 : decode cX1_nearest 67 = .ok (.iinc 5 1, 3) := by decide +kernel
theorem dX1_nearest_70 : decode cX1_nearest 70 = .ok (.goto (-63), 3) := by decide +kernel
theorem dX1_nearest_73 : decode cX1_nearest 73 = .ok (.iload_n 2, 1) := by decide +kernel
theorem dX1_nearest_74 : decode cX1_nearest 74 = .ok (.ireturn, 1) := by decide +kernel
theorem q13 : (Jvm.Cond.initialized "FlatQueueModel") ∈ lw_all := lw_g (lw_at lw_m0 2 rfl) rfl
theorem q156 : (Jvm.Cond.instantiable "FlatQueueModel" (1 : Nat)) ∈ lw_all := lw_g (lw_at lw_m0 145 rfl) rfl
theorem q158 : (Jvm.Cond.instanceMethod ({ cls := "FlatQueueModel", name := "<init>", desc := "()V" } : Jvm.MethodName)) ∈ lw_all := lw_g (lw_at lw_m0 147 rfl) rfl
theorem q159 : (Jvm.Cond.code ({ cls := "FlatQueueModel", name := "<init>", desc := "()V" } : Jvm.MethodName) prog_3_method_1_code (1 : Nat) (Option.none : Option Jvm.ClassFile.FieldType)) ∈ lw_all := lw_g (lw_at lw_m0 148 rfl) rfl
theorem q160 : (Jvm.Cond.methodLink "FlatQueueModel" (1 : Nat) ({ cls := "java/lang/Object", name := "<init>", desc := "()V" } : Jvm.MethodName)) ∈ lw_all := lw_g (lw_at lw_m0 149 rfl) rfl
theorem q161 : (Jvm.Cond.fieldLink "FlatQueueModel" (7 : Nat) "FlatQueueModel" "in" "[Z") ∈ lw_all := lw_g (lw_at lw_m0 150 rfl) rfl
theorem q162 : (Jvm.Cond.lays "FlatQueueModel" "FlatQueueModel" "in" "[Z") ∈ lw_all := lw_g (lw_at lw_m0 151 rfl) rfl
theorem q163 : (Jvm.Cond.soleField "FlatQueueModel" "in") ∈ lw_all := lw_g (lw_at lw_m0 152 rfl) rfl
theorem q164 : (Jvm.Cond.superclass "FlatQueueModel" "java/lang/Object") ∈ lw_all := lw_g (lw_at lw_m0 153 rfl) rfl
theorem q167 : (Jvm.Cond.instanceMethod ({ cls := "FlatQueueModel", name := "insert", desc := "(I)Z" } : Jvm.MethodName)) ∈ lw_all := lw_g (lw_at lw_m0 156 rfl) rfl
theorem q168 : (Jvm.Cond.selects "FlatQueueModel" ({ cls := "FlatQueueModel", name := "insert", desc := "(I)Z" } : Jvm.MethodName) ({ cls := "FlatQueueModel", name := "insert", desc := "(I)Z" } : Jvm.MethodName)) ∈ lw_all := lw_g (lw_at lw_m0 157 rfl) rfl
theorem q169 : (Jvm.Cond.code ({ cls := "FlatQueueModel", name := "insert", desc := "(I)Z" } : Jvm.MethodName) prog_3_method_3_code (2 : Nat) (Option.some Jvm.ClassFile.FieldType.boolean)) ∈ lw_all := lw_g (lw_at lw_m0 158 rfl) rfl
theorem q170 : (Jvm.Cond.methodLink "FlatQueueModel" (13 : Nat) ({ cls := "FlatQueueModel", name := "number", desc := "(I)Z" } : Jvm.MethodName)) ∈ lw_all := lw_g (lw_at lw_m0 159 rfl) rfl
theorem q171 : (Jvm.Cond.privateMethod ({ cls := "FlatQueueModel", name := "number", desc := "(I)Z" } : Jvm.MethodName)) ∈ lw_tbl := lw_at lw_m0 160 rfl
theorem q172 : (Jvm.Cond.instanceMethod ({ cls := "FlatQueueModel", name := "number", desc := "(I)Z" } : Jvm.MethodName)) ∈ lw_all := lw_g (lw_at lw_m0 161 rfl) rfl
theorem q173 : (Jvm.Cond.code ({ cls := "FlatQueueModel", name := "number", desc := "(I)Z" } : Jvm.MethodName) prog_3_method_2_code (2 : Nat) (Option.some Jvm.ClassFile.FieldType.boolean)) ∈ lw_all := lw_g (lw_at lw_m0 162 rfl) rfl
theorem q175 : (Jvm.Cond.instanceMethod ({ cls := "FlatQueueModel", name := "delete", desc := "(I)Z" } : Jvm.MethodName)) ∈ lw_all := lw_g (lw_at lw_m0 164 rfl) rfl
theorem q176 : (Jvm.Cond.selects "FlatQueueModel" ({ cls := "FlatQueueModel", name := "delete", desc := "(I)Z" } : Jvm.MethodName) ({ cls := "FlatQueueModel", name := "delete", desc := "(I)Z" } : Jvm.MethodName)) ∈ lw_all := lw_g (lw_at lw_m0 165 rfl) rfl
theorem q177 : (Jvm.Cond.code ({ cls := "FlatQueueModel", name := "delete", desc := "(I)Z" } : Jvm.MethodName) prog_3_method_4_code (2 : Nat) (Option.some Jvm.ClassFile.FieldType.boolean)) ∈ lw_all := lw_g (lw_at lw_m0 166 rfl) rfl
theorem q179 : (Jvm.Cond.instanceMethod ({ cls := "FlatQueueModel", name := "member", desc := "(I)Z" } : Jvm.MethodName)) ∈ lw_all := lw_g (lw_at lw_m0 168 rfl) rfl
theorem q180 : (Jvm.Cond.selects "FlatQueueModel" ({ cls := "FlatQueueModel", name := "member", desc := "(I)Z" } : Jvm.MethodName) ({ cls := "FlatQueueModel", name := "member", desc := "(I)Z" } : Jvm.MethodName)) ∈ lw_all := lw_g (lw_at lw_m0 169 rfl) rfl
theorem q181 : (Jvm.Cond.code ({ cls := "FlatQueueModel", name := "member", desc := "(I)Z" } : Jvm.MethodName) prog_3_method_5_code (2 : Nat) (Option.some Jvm.ClassFile.FieldType.boolean)) ∈ lw_all := lw_g (lw_at lw_m0 170 rfl) rfl
theorem q183 : (Jvm.Cond.instanceMethod ({ cls := "FlatQueueModel", name := "size", desc := "()I" } : Jvm.MethodName)) ∈ lw_all := lw_g (lw_at lw_m0 172 rfl) rfl
theorem q184 : (Jvm.Cond.selects "FlatQueueModel" ({ cls := "FlatQueueModel", name := "size", desc := "()I" } : Jvm.MethodName) ({ cls := "FlatQueueModel", name := "size", desc := "()I" } : Jvm.MethodName)) ∈ lw_all := lw_g (lw_at lw_m0 173 rfl) rfl
theorem q185 : (Jvm.Cond.code ({ cls := "FlatQueueModel", name := "size", desc := "()I" } : Jvm.MethodName) prog_3_method_6_code (1 : Nat) (Option.some Jvm.ClassFile.FieldType.int)) ∈ lw_all := lw_g (lw_at lw_m0 174 rfl) rfl
theorem q186 : (Jvm.Cond.methodLink "FlatQueueModel" (17 : Nat) ({ cls := "FlatQueueModel", name := "countBetween", desc := "(II)I" } : Jvm.MethodName)) ∈ lw_all := lw_g (lw_at lw_m0 175 rfl) rfl
theorem q187 : (Jvm.Cond.instanceMethod ({ cls := "FlatQueueModel", name := "countBetween", desc := "(II)I" } : Jvm.MethodName)) ∈ lw_all := lw_g (lw_at lw_m0 176 rfl) rfl
theorem q188 : (Jvm.Cond.selects "FlatQueueModel" ({ cls := "FlatQueueModel", name := "countBetween", desc := "(II)I" } : Jvm.MethodName) ({ cls := "FlatQueueModel", name := "countBetween", desc := "(II)I" } : Jvm.MethodName)) ∈ lw_all := lw_g (lw_at lw_m0 177 rfl) rfl
theorem q189 : (Jvm.Cond.code ({ cls := "FlatQueueModel", name := "countBetween", desc := "(II)I" } : Jvm.MethodName) prog_3_method_13_code (5 : Nat) (Option.some Jvm.ClassFile.FieldType.int)) ∈ lw_all := lw_g (lw_at lw_m0 178 rfl) rfl
theorem q191 : (Jvm.Cond.instanceMethod ({ cls := "FlatQueueModel", name := "least", desc := "()I" } : Jvm.MethodName)) ∈ lw_all := lw_g (lw_at lw_m0 180 rfl) rfl
theorem q192 : (Jvm.Cond.selects "FlatQueueModel" ({ cls := "FlatQueueModel", name := "least", desc := "()I" } : Jvm.MethodName) ({ cls := "FlatQueueModel", name := "least", desc := "()I" } : Jvm.MethodName)) ∈ lw_all := lw_g (lw_at lw_m0 181 rfl) rfl
theorem q193 : (Jvm.Cond.code ({ cls := "FlatQueueModel", name := "least", desc := "()I" } : Jvm.MethodName) prog_3_method_7_code (1 : Nat) (Option.some Jvm.ClassFile.FieldType.int)) ∈ lw_all := lw_g (lw_at lw_m0 182 rfl) rfl
theorem q194 : (Jvm.Cond.methodLink "FlatQueueModel" (21 : Nat) ({ cls := "FlatQueueModel", name := "after", desc := "(I)I" } : Jvm.MethodName)) ∈ lw_all := lw_g (lw_at lw_m0 183 rfl) rfl
theorem q195 : (Jvm.Cond.instanceMethod ({ cls := "FlatQueueModel", name := "after", desc := "(I)I" } : Jvm.MethodName)) ∈ lw_all := lw_g (lw_at lw_m0 184 rfl) rfl
theorem q196 : (Jvm.Cond.selects "FlatQueueModel" ({ cls := "FlatQueueModel", name := "after", desc := "(I)I" } : Jvm.MethodName) ({ cls := "FlatQueueModel", name := "after", desc := "(I)I" } : Jvm.MethodName)) ∈ lw_all := lw_g (lw_at lw_m0 185 rfl) rfl
theorem q197 : (Jvm.Cond.code ({ cls := "FlatQueueModel", name := "after", desc := "(I)I" } : Jvm.MethodName) prog_3_method_9_code (3 : Nat) (Option.some Jvm.ClassFile.FieldType.int)) ∈ lw_all := lw_g (lw_at lw_m0 186 rfl) rfl
theorem q199 : (Jvm.Cond.instanceMethod ({ cls := "FlatQueueModel", name := "greatest", desc := "()I" } : Jvm.MethodName)) ∈ lw_all := lw_g (lw_at lw_m0 188 rfl) rfl
theorem q200 : (Jvm.Cond.selects "FlatQueueModel" ({ cls := "FlatQueueModel", name := "greatest", desc := "()I" } : Jvm.MethodName) ({ cls := "FlatQueueModel", name := "greatest", desc := "()I" } : Jvm.MethodName)) ∈ lw_all := lw_g (lw_at lw_m0 189 rfl) rfl
theorem q201 : (Jvm.Cond.code ({ cls := "FlatQueueModel", name := "greatest", desc := "()I" } : Jvm.MethodName) prog_3_method_8_code (1 : Nat) (Option.some Jvm.ClassFile.FieldType.int)) ∈ lw_all := lw_g (lw_at lw_m0 190 rfl) rfl
theorem q202 : (Jvm.Cond.methodLink "FlatQueueModel" (25 : Nat) ({ cls := "FlatQueueModel", name := "before", desc := "(I)I" } : Jvm.MethodName)) ∈ lw_all := lw_g (lw_at lw_m0 191 rfl) rfl
theorem q203 : (Jvm.Cond.instanceMethod ({ cls := "FlatQueueModel", name := "before", desc := "(I)I" } : Jvm.MethodName)) ∈ lw_all := lw_g (lw_at lw_m0 192 rfl) rfl
theorem q204 : (Jvm.Cond.selects "FlatQueueModel" ({ cls := "FlatQueueModel", name := "before", desc := "(I)I" } : Jvm.MethodName) ({ cls := "FlatQueueModel", name := "before", desc := "(I)I" } : Jvm.MethodName)) ∈ lw_all := lw_g (lw_at lw_m0 193 rfl) rfl
theorem q205 : (Jvm.Cond.code ({ cls := "FlatQueueModel", name := "before", desc := "(I)I" } : Jvm.MethodName) prog_3_method_10_code (3 : Nat) (Option.some Jvm.ClassFile.FieldType.int)) ∈ lw_all := lw_g (lw_at lw_m0 194 rfl) rfl
theorem q209 : (Jvm.Cond.instanceMethod ({ cls := "FlatQueueModel", name := "takeLeast", desc := "()I" } : Jvm.MethodName)) ∈ lw_all := lw_g (lw_at lw_m0 198 rfl) rfl
theorem q210 : (Jvm.Cond.selects "FlatQueueModel" ({ cls := "FlatQueueModel", name := "takeLeast", desc := "()I" } : Jvm.MethodName) ({ cls := "FlatQueueModel", name := "takeLeast", desc := "()I" } : Jvm.MethodName)) ∈ lw_all := lw_g (lw_at lw_m0 199 rfl) rfl
theorem q211 : (Jvm.Cond.code ({ cls := "FlatQueueModel", name := "takeLeast", desc := "()I" } : Jvm.MethodName) prog_3_method_11_code (2 : Nat) (Option.some Jvm.ClassFile.FieldType.int)) ∈ lw_all := lw_g (lw_at lw_m0 200 rfl) rfl
theorem q212 : (Jvm.Cond.methodLink "FlatQueueModel" (28 : Nat) ({ cls := "FlatQueueModel", name := "least", desc := "()I" } : Jvm.MethodName)) ∈ lw_all := lw_g (lw_at lw_m0 201 rfl) rfl
theorem q213 : (Jvm.Cond.methodLink "FlatQueueModel" (32 : Nat) ({ cls := "FlatQueueModel", name := "delete", desc := "(I)Z" } : Jvm.MethodName)) ∈ lw_all := lw_g (lw_at lw_m0 202 rfl) rfl
theorem q215 : (Jvm.Cond.instanceMethod ({ cls := "FlatQueueModel", name := "takeGreatest", desc := "()I" } : Jvm.MethodName)) ∈ lw_all := lw_g (lw_at lw_m0 204 rfl) rfl
theorem q216 : (Jvm.Cond.selects "FlatQueueModel" ({ cls := "FlatQueueModel", name := "takeGreatest", desc := "()I" } : Jvm.MethodName) ({ cls := "FlatQueueModel", name := "takeGreatest", desc := "()I" } : Jvm.MethodName)) ∈ lw_all := lw_g (lw_at lw_m0 205 rfl) rfl
theorem q217 : (Jvm.Cond.code ({ cls := "FlatQueueModel", name := "takeGreatest", desc := "()I" } : Jvm.MethodName) prog_3_method_12_code (2 : Nat) (Option.some Jvm.ClassFile.FieldType.int)) ∈ lw_all := lw_g (lw_at lw_m0 206 rfl) rfl
theorem q218 : (Jvm.Cond.methodLink "FlatQueueModel" (35 : Nat) ({ cls := "FlatQueueModel", name := "greatest", desc := "()I" } : Jvm.MethodName)) ∈ lw_all := lw_g (lw_at lw_m0 207 rfl) rfl
theorem q221 : (Jvm.Cond.instanceMethod ({ cls := "FlatQueueModel", name := "select", desc := "(I)I" } : Jvm.MethodName)) ∈ lw_all := lw_g (lw_at lw_m0 210 rfl) rfl
theorem q222 : (Jvm.Cond.selects "FlatQueueModel" ({ cls := "FlatQueueModel", name := "select", desc := "(I)I" } : Jvm.MethodName) ({ cls := "FlatQueueModel", name := "select", desc := "(I)I" } : Jvm.MethodName)) ∈ lw_all := lw_g (lw_at lw_m0 211 rfl) rfl
theorem q223 : (Jvm.Cond.code ({ cls := "FlatQueueModel", name := "select", desc := "(I)I" } : Jvm.MethodName) prog_3_method_14_code (4 : Nat) (Option.some Jvm.ClassFile.FieldType.int)) ∈ lw_all := lw_g (lw_at lw_m0 212 rfl) rfl
theorem q225 : (Jvm.Cond.instanceMethod ({ cls := "FlatQueueModel", name := "gapFrom", desc := "(I)I" } : Jvm.MethodName)) ∈ lw_all := lw_g (lw_at lw_m0 214 rfl) rfl
theorem q226 : (Jvm.Cond.selects "FlatQueueModel" ({ cls := "FlatQueueModel", name := "gapFrom", desc := "(I)I" } : Jvm.MethodName) ({ cls := "FlatQueueModel", name := "gapFrom", desc := "(I)I" } : Jvm.MethodName)) ∈ lw_all := lw_g (lw_at lw_m0 215 rfl) rfl
theorem q227 : (Jvm.Cond.code ({ cls := "FlatQueueModel", name := "gapFrom", desc := "(I)I" } : Jvm.MethodName) prog_3_method_15_code (3 : Nat) (Option.some Jvm.ClassFile.FieldType.int)) ∈ lw_all := lw_g (lw_at lw_m0 216 rfl) rfl
theorem q229 : (Jvm.Cond.instanceMethod ({ cls := "FlatQueueModel", name := "deleteBetween", desc := "(II)I" } : Jvm.MethodName)) ∈ lw_all := lw_g (lw_at lw_m0 218 rfl) rfl
theorem q230 : (Jvm.Cond.selects "FlatQueueModel" ({ cls := "FlatQueueModel", name := "deleteBetween", desc := "(II)I" } : Jvm.MethodName) ({ cls := "FlatQueueModel", name := "deleteBetween", desc := "(II)I" } : Jvm.MethodName)) ∈ lw_all := lw_g (lw_at lw_m0 219 rfl) rfl
theorem q231 : (Jvm.Cond.code ({ cls := "FlatQueueModel", name := "deleteBetween", desc := "(II)I" } : Jvm.MethodName) prog_3_method_16_code (5 : Nat) (Option.some Jvm.ClassFile.FieldType.int)) ∈ lw_all := lw_g (lw_at lw_m0 220 rfl) rfl
theorem q233 : (Jvm.Cond.instanceMethod ({ cls := "FlatQueueModel", name := "nearest", desc := "(I)I" } : Jvm.MethodName)) ∈ lw_all := lw_g (lw_at lw_m0 222 rfl) rfl
theorem q234 : (Jvm.Cond.selects "FlatQueueModel" ({ cls := "FlatQueueModel", name := "nearest", desc := "(I)I" } : Jvm.MethodName) ({ cls := "FlatQueueModel", name := "nearest", desc := "(I)I" } : Jvm.MethodName)) ∈ lw_all := lw_g (lw_at lw_m0 223 rfl) rfl
theorem q235 : (Jvm.Cond.code ({ cls := "FlatQueueModel", name := "nearest", desc := "(I)I" } : Jvm.MethodName) prog_3_method_17_code (8 : Nat) (Option.some Jvm.ClassFile.FieldType.int)) ∈ lw_all := lw_g (lw_at lw_m0 224 rfl) rfl
theorem in_X1 : ∀ w ∈ wsX10, w ∈ lw_all := lw_in wsX10 [162] (by decide +kernel) (by decide +kernel)
end
section
/-! java/lang/Object -/
set_option maxRecDepth 100000
def RJ0 : String := "java/lang/Object"
abbrev cJ0_init : ByteArray := object_method_1_code
def yJ0_init : MethodName := ⟨RJ0, "<init>", "()V"⟩
theorem dJ0_init_0 : decode cJ0_init 0 = .ok (.return_, 1) := by decide +kernel
theorem q20 : (Jvm.Cond.instanceMethod ({ cls := "java/lang/Object", name := "<init>", desc := "()V" } : Jvm.MethodName)) ∈ lw_all := lw_g (lw_at lw_m0 9 rfl) rfl
theorem q21 : (Jvm.Cond.code ({ cls := "java/lang/Object", name := "<init>", desc := "()V" } : Jvm.MethodName) object_method_1_code (1 : Nat) (Option.none : Option Jvm.ClassFile.FieldType)) ∈ lw_all := lw_g (lw_at lw_m0 10 rfl) rfl

theorem q11 : (Jvm.Cond.initialized "FlatQueueLaw") ∈ lw_all := lw_g (lw_at lw_m0 0 rfl) rfl
set_option maxRecDepth 100000
theorem q14 : (Jvm.Cond.classLink "FlatQueueLaw" (7 : Nat) "FlatQueue") ∈ lw_all := lw_g (lw_at lw_m0 3 rfl) rfl
theorem q16 : (Jvm.Cond.methodLink "FlatQueueLaw" (9 : Nat) ({ cls := "FlatQueue", name := "<init>", desc := "()V" } : Jvm.MethodName)) ∈ lw_all := lw_g (lw_at lw_m0 5 rfl) rfl
theorem q45 : (Jvm.Cond.methodLink "FlatQueueLaw" (13 : Nat) ({ cls := "FlatQueue", name := "insert", desc := "(I)Z" } : Jvm.MethodName)) ∈ lw_all := lw_g (lw_at lw_m0 34 rfl) rfl
theorem q65 : (Jvm.Cond.methodLink "FlatQueueLaw" (18 : Nat) ({ cls := "FlatQueue", name := "delete", desc := "(I)Z" } : Jvm.MethodName)) ∈ lw_all := lw_g (lw_at lw_m0 54 rfl) rfl
theorem q91 : (Jvm.Cond.methodLink "FlatQueueLaw" (22 : Nat) ({ cls := "FlatQueue", name := "member", desc := "(I)Z" } : Jvm.MethodName)) ∈ lw_all := lw_g (lw_at lw_m0 80 rfl) rfl
theorem q92 : (Jvm.Cond.methodLink "FlatQueueLaw" (26 : Nat) ({ cls := "FlatQueue", name := "size", desc := "()I" } : Jvm.MethodName)) ∈ lw_all := lw_g (lw_at lw_m0 81 rfl) rfl
theorem q96 : (Jvm.Cond.methodLink "FlatQueueLaw" (31 : Nat) ({ cls := "FlatQueue", name := "least", desc := "()I" } : Jvm.MethodName)) ∈ lw_all := lw_g (lw_at lw_m0 85 rfl) rfl
theorem q100 : (Jvm.Cond.methodLink "FlatQueueLaw" (35 : Nat) ({ cls := "FlatQueue", name := "greatest", desc := "()I" } : Jvm.MethodName)) ∈ lw_all := lw_g (lw_at lw_m0 89 rfl) rfl
theorem q104 : (Jvm.Cond.methodLink "FlatQueueLaw" (39 : Nat) ({ cls := "FlatQueue", name := "after", desc := "(I)I" } : Jvm.MethodName)) ∈ lw_all := lw_g (lw_at lw_m0 93 rfl) rfl
theorem q112 : (Jvm.Cond.methodLink "FlatQueueLaw" (44 : Nat) ({ cls := "FlatQueue", name := "before", desc := "(I)I" } : Jvm.MethodName)) ∈ lw_all := lw_g (lw_at lw_m0 101 rfl) rfl
theorem q120 : (Jvm.Cond.methodLink "FlatQueueLaw" (48 : Nat) ({ cls := "FlatQueue", name := "takeLeast", desc := "()I" } : Jvm.MethodName)) ∈ lw_all := lw_g (lw_at lw_m0 109 rfl) rfl
theorem q125 : (Jvm.Cond.methodLink "FlatQueueLaw" (52 : Nat) ({ cls := "FlatQueue", name := "takeGreatest", desc := "()I" } : Jvm.MethodName)) ∈ lw_all := lw_g (lw_at lw_m0 114 rfl) rfl
theorem q129 : (Jvm.Cond.methodLink "FlatQueueLaw" (56 : Nat) ({ cls := "FlatQueue", name := "countBetween", desc := "(II)I" } : Jvm.MethodName)) ∈ lw_all := lw_g (lw_at lw_m0 118 rfl) rfl
theorem q138 : (Jvm.Cond.methodLink "FlatQueueLaw" (61 : Nat) ({ cls := "FlatQueue", name := "select", desc := "(I)I" } : Jvm.MethodName)) ∈ lw_all := lw_g (lw_at lw_m0 127 rfl) rfl
theorem q142 : (Jvm.Cond.methodLink "FlatQueueLaw" (65 : Nat) ({ cls := "FlatQueue", name := "gapFrom", desc := "(I)I" } : Jvm.MethodName)) ∈ lw_all := lw_g (lw_at lw_m0 131 rfl) rfl
theorem q146 : (Jvm.Cond.methodLink "FlatQueueLaw" (69 : Nat) ({ cls := "FlatQueue", name := "deleteBetween", desc := "(II)I" } : Jvm.MethodName)) ∈ lw_all := lw_g (lw_at lw_m0 135 rfl) rfl
theorem q150 : (Jvm.Cond.methodLink "FlatQueueLaw" (73 : Nat) ({ cls := "FlatQueue", name := "nearest", desc := "(I)I" } : Jvm.MethodName)) ∈ lw_all := lw_g (lw_at lw_m0 139 rfl) rfl
theorem q155 : (Jvm.Cond.classLink "FlatQueueLaw" (10 : Nat) "FlatQueueModel") ∈ lw_all := lw_g (lw_at lw_m0 144 rfl) rfl
theorem q157 : (Jvm.Cond.methodLink "FlatQueueLaw" (12 : Nat) ({ cls := "FlatQueueModel", name := "<init>", desc := "()V" } : Jvm.MethodName)) ∈ lw_all := lw_g (lw_at lw_m0 146 rfl) rfl
theorem q166 : (Jvm.Cond.methodLink "FlatQueueLaw" (17 : Nat) ({ cls := "FlatQueueModel", name := "insert", desc := "(I)Z" } : Jvm.MethodName)) ∈ lw_all := lw_g (lw_at lw_m0 155 rfl) rfl
theorem q174 : (Jvm.Cond.methodLink "FlatQueueLaw" (21 : Nat) ({ cls := "FlatQueueModel", name := "delete", desc := "(I)Z" } : Jvm.MethodName)) ∈ lw_all := lw_g (lw_at lw_m0 163 rfl) rfl
theorem q178 : (Jvm.Cond.methodLink "FlatQueueLaw" (25 : Nat) ({ cls := "FlatQueueModel", name := "member", desc := "(I)Z" } : Jvm.MethodName)) ∈ lw_all := lw_g (lw_at lw_m0 167 rfl) rfl
theorem q182 : (Jvm.Cond.methodLink "FlatQueueLaw" (30 : Nat) ({ cls := "FlatQueueModel", name := "size", desc := "()I" } : Jvm.MethodName)) ∈ lw_all := lw_g (lw_at lw_m0 171 rfl) rfl
theorem q190 : (Jvm.Cond.methodLink "FlatQueueLaw" (34 : Nat) ({ cls := "FlatQueueModel", name := "least", desc := "()I" } : Jvm.MethodName)) ∈ lw_all := lw_g (lw_at lw_m0 179 rfl) rfl
theorem q198 : (Jvm.Cond.methodLink "FlatQueueLaw" (38 : Nat) ({ cls := "FlatQueueModel", name := "greatest", desc := "()I" } : Jvm.MethodName)) ∈ lw_all := lw_g (lw_at lw_m0 187 rfl) rfl
theorem q206 : (Jvm.Cond.methodLink "FlatQueueLaw" (43 : Nat) ({ cls := "FlatQueueModel", name := "after", desc := "(I)I" } : Jvm.MethodName)) ∈ lw_all := lw_g (lw_at lw_m0 195 rfl) rfl
theorem q207 : (Jvm.Cond.methodLink "FlatQueueLaw" (47 : Nat) ({ cls := "FlatQueueModel", name := "before", desc := "(I)I" } : Jvm.MethodName)) ∈ lw_all := lw_g (lw_at lw_m0 196 rfl) rfl
theorem q208 : (Jvm.Cond.methodLink "FlatQueueLaw" (51 : Nat) ({ cls := "FlatQueueModel", name := "takeLeast", desc := "()I" } : Jvm.MethodName)) ∈ lw_all := lw_g (lw_at lw_m0 197 rfl) rfl
theorem q214 : (Jvm.Cond.methodLink "FlatQueueLaw" (55 : Nat) ({ cls := "FlatQueueModel", name := "takeGreatest", desc := "()I" } : Jvm.MethodName)) ∈ lw_all := lw_g (lw_at lw_m0 203 rfl) rfl
theorem q219 : (Jvm.Cond.methodLink "FlatQueueLaw" (60 : Nat) ({ cls := "FlatQueueModel", name := "countBetween", desc := "(II)I" } : Jvm.MethodName)) ∈ lw_all := lw_g (lw_at lw_m0 208 rfl) rfl
theorem q220 : (Jvm.Cond.methodLink "FlatQueueLaw" (64 : Nat) ({ cls := "FlatQueueModel", name := "select", desc := "(I)I" } : Jvm.MethodName)) ∈ lw_all := lw_g (lw_at lw_m0 209 rfl) rfl
theorem q224 : (Jvm.Cond.methodLink "FlatQueueLaw" (68 : Nat) ({ cls := "FlatQueueModel", name := "gapFrom", desc := "(I)I" } : Jvm.MethodName)) ∈ lw_all := lw_g (lw_at lw_m0 213 rfl) rfl
theorem q228 : (Jvm.Cond.methodLink "FlatQueueLaw" (72 : Nat) ({ cls := "FlatQueueModel", name := "deleteBetween", desc := "(II)I" } : Jvm.MethodName)) ∈ lw_all := lw_g (lw_at lw_m0 217 rfl) rfl
theorem q232 : (Jvm.Cond.methodLink "FlatQueueLaw" (76 : Nat) ({ cls := "FlatQueueModel", name := "nearest", desc := "(I)I" } : Jvm.MethodName)) ∈ lw_all := lw_g (lw_at lw_m0 221 rfl) rfl

theorem q44 : (Jvm.Cond.arrayClass Jvm.ClassFile.FieldType.byte) ∈ lw_all := lw_g (lw_at lw_m0 33 rfl) rfl
set_option maxRecDepth 100000
theorem q165 : (Jvm.Cond.arrayClass Jvm.ClassFile.FieldType.boolean) ∈ lw_all := lw_g (lw_at lw_m0 154 rfl) rfl

/-! the law's own entry -/
set_option maxRecDepth 100000
abbrev cL_law : ByteArray := code
theorem dL_law_0 : decode cL_law 0 = .ok (.new 7, 3) := by decide +kernel
theorem dL_law_3 : decode cL_law 3 = .ok (.dup, 1) := by decide +kernel
theorem dL_law_4 : decode cL_law 4 = .ok (.invokespecial 9, 3) := by decide +kernel
theorem dL_law_7 : decode cL_law 7 = .ok (.astore_n 1, 1) := by decide +kernel
theorem dL_law_8 : decode cL_law 8 = .ok (.new 10, 3) := by decide +kernel
theorem dL_law_11 : decode cL_law 11 = .ok (.dup, 1) := by decide +kernel
theorem dL_law_12 : decode cL_law 12 = .ok (.invokespecial 12, 3) := by decide +kernel
theorem dL_law_15 : decode cL_law 15 = .ok (.astore_n 2, 1) := by decide +kernel
theorem dL_law_16 : decode cL_law 16 = .ok (.iconst 0, 1) := by decide +kernel
theorem dL_law_17 : decode cL_law 17 = .ok (.istore_n 3, 1) := by decide +kernel
theorem dL_law_18 : decode cL_law 18 = .ok (.iload_n 3, 1) := by decide +kernel
theorem dL_law_19 : decode cL_law 19 = .ok (.aload_n 0, 1) := by decide +kernel
theorem dL_law_20 : decode cL_law 20 = .ok (.arraylength, 1) := by decide +kernel
theorem dL_law_21 : decode cL_law 21 = .ok (.iconst 3, 1) := by decide +kernel
theorem dL_law_22 : decode cL_law 22 = .ok (.isub, 1) := by decide +kernel
theorem dL_law_23 : decode cL_law 23 = .ok (.if_icmp .gt 406, 3) := by decide +kernel
theorem dL_law_26 : decode cL_law 26 = .ok (.aload_n 0, 1) := by decide +kernel
theorem dL_law_27 : decode cL_law 27 = .ok (.iload_n 3, 1) := by decide +kernel
theorem dL_law_28 : decode cL_law 28 = .ok (.iaload, 1) := by decide +kernel
theorem dL_law_29 : decode cL_law 29 = .ok (.bipush 15, 2) := by decide +kernel
theorem dL_law_31 : decode cL_law 31 = .ok (.iand, 1) := by decide +kernel
theorem dL_law_32 : decode cL_law 32 = .ok (.tableswitch 391 0 14 #[76, 99, 122, 145, 158, 171, 184, 207, 230, 243, 256, 289, 312, 335, 368], 76) := by decide +kernel
theorem dL_law_108 : decode cL_law 108 = .ok (.aload_n 1, 1) := by decide +kernel
theorem dL_law_109 : decode cL_law 109 = .ok (.aload_n 0, 1) := by decide +kernel
theorem dL_law_110 : decode cL_law 110 = .ok (.iload_n 3, 1) := by decide +kernel
theorem dL_law_111 : decode cL_law 111 = .ok (.iconst 1, 1) := by decide +kernel
theorem dL_law_112 : decode cL_law 112 = .ok (.iadd, 1) := by decide +kernel
theorem dL_law_113 : decode cL_law 113 = .ok (.iaload, 1) := by decide +kernel
theorem dL_law_114 : decode cL_law 114 = .ok (.invokevirtual 13, 3) := by decide +kernel
theorem dL_law_117 : decode cL_law 117 = .ok (.aload_n 2, 1) := by decide +kernel
theorem dL_law_118 : decode cL_law 118 = .ok (.aload_n 0, 1) := by decide +kernel
theorem dL_law_119 : decode cL_law 119 = .ok (.iload_n 3, 1) := by decide +kernel
theorem dL_law_120 : decode cL_law 120 = .ok (.iconst 1, 1) := by decide +kernel
theorem dL_law_121 : decode cL_law 121 = .ok (.iadd, 1) := by decide +kernel
theorem dL_law_122 : decode cL_law 122 = .ok (.iaload, 1) := by decide +kernel
theorem dL_law_123 : decode cL_law 123 = .ok (.invokevirtual 17, 3) := by decide +kernel
theorem dL_law_126 : decode cL_law 126 = .ok (.if_icmp .eq 297, 3) := by decide +kernel
theorem dL_law_129 : decode cL_law 129 = .ok (.iconst 0, 1) := by decide +kernel
theorem dL_law_130 : decode cL_law 130 = .ok (.ireturn, 1) := by decide +kernel
theorem dL_law_131 : decode cL_law 131 = .ok (.aload_n 1, 1) := by decide +kernel
theorem dL_law_132 : decode cL_law 132 = .ok (.aload_n 0, 1) := by decide +kernel
theorem dL_law_133 : decode cL_law 133 = .ok (.iload_n 3, 1) := by decide +kernel
theorem dL_law_134 : decode cL_law 134 = .ok (.iconst 1, 1) := by decide +kernel
theorem dL_law_135 : decode cL_law 135 = .ok (.iadd, 1) := by decide +kernel
theorem dL_law_136 : decode cL_law 136 = .ok (.iaload, 1) := by decide +kernel
theorem dL_law_137 : decode cL_law 137 = .ok (.invokevirtual 18, 3) := by decide +kernel
theorem dL_law_140 : decode cL_law 140 = .ok (.aload_n 2, 1) := by decide +kernel
theorem dL_law_141 : decode cL_law 141 = .ok (.aload_n 0, 1) := by decide +kernel
theorem dL_law_142 : decode cL_law 142 = .ok (.iload_n 3, 1) := by decide +kernel
theorem dL_law_143 : decode cL_law 143 = .ok (.iconst 1, 1) := by decide +kernel
theorem dL_law_144 : decode cL_law 144 = .ok (.iadd, 1) := by decide +kernel
theorem dL_law_145 : decode cL_law 145 = .ok (.iaload, 1) := by decide +kernel
theorem dL_law_146 : decode cL_law 146 = .ok (.invokevirtual 21, 3) := by decide +kernel
theorem dL_law_149 : decode cL_law 149 = .ok (.if_icmp .eq 274, 3) := by decide +kernel
theorem dL_law_152 : decode cL_law 152 = .ok (.iconst 0, 1) := by decide +kernel
theorem dL_law_153 : decode cL_law 153 = .ok (.ireturn, 1) := by decide +kernel
theorem dL_law_154 : decode cL_law 154 = .ok (.aload_n 1, 1) := by decide +kernel
theorem dL_law_155 : decode cL_law 155 = .ok (.aload_n 0, 1) := by decide +kernel
theorem dL_law_156 : decode cL_law 156 = .ok (.iload_n 3, 1) := by decide +kernel
theorem dL_law_157 : decode cL_law 157 = .ok (.iconst 1, 1) := by decide +kernel
theorem dL_law_158 : decode cL_law 158 = .ok (.iadd, 1) := by decide +kernel
theorem dL_law_159 : decode cL_law 159 = .ok (.iaload, 1) := by decide +kernel
theorem dL_law_160 : decode cL_law 160 = .ok (.invokevirtual 22, 3) := by decide +kernel
theorem dL_law_163 : decode cL_law 163 = .ok (.aload_n 2, 1) := by decide +kernel
theorem dL_law_164 : decode cL_law 164 = .ok (.aload_n 0, 1) := by decide +kernel
theorem dL_law_165 : decode cL_law 165 = .ok (.iload_n 3, 1) := by decide +kernel
theorem dL_law_166 : decode cL_law 166 = .ok (.iconst 1, 1) := by decide +kernel
theorem dL_law_167 : decode cL_law 167 = .ok (.iadd, 1) := by decide +kernel
theorem dL_law_168 : decode cL_law 168 = .ok (.iaload, 1) := by decide +kernel
theorem dL_law_169 : decode cL_law 169 = .ok (.invokevirtual 25, 3) := by decide +kernel
theorem dL_law_172 : decode cL_law 172 = .ok (.if_icmp .eq 251, 3) := by decide +kernel
theorem dL_law_175 : decode cL_law 175 = .ok (.iconst 0, 1) := by decide +kernel
theorem dL_law_176 : decode cL_law 176 = .ok (.ireturn, 1) := by decide +kernel
theorem dL_law_177 : decode cL_law 177 = .ok (.aload_n 1, 1) := by decide +kernel
theorem dL_law_178 : decode cL_law 178 = .ok (.invokevirtual 26, 3) := by decide +kernel
theorem dL_law_181 : decode cL_law 181 = .ok (.aload_n 2, 1) := by decide +kernel
theorem dL_law_182 : decode cL_law 182 = .ok (.invokevirtual 30, 3) := by decide +kernel
theorem dL_law_185 : decode cL_law 185 = .ok (.if_icmp .eq 238, 3) := by decide +kernel
theorem dL_law_188 : decode cL_law 188 = .ok (.iconst 0, 1) := by decide +kernel
theorem dL_law_189 : decode cL_law 189 = .ok (.ireturn, 1) := by decide +kernel
theorem dL_law_190 : decode cL_law 190 = .ok (.aload_n 1, 1) := by decide +kernel
theorem dL_law_191 : decode cL_law 191 = .ok (.invokevirtual 31, 3) := by decide +kernel
theorem dL_law_194 : decode cL_law 194 = .ok (.aload_n 2, 1) := by decide +kernel
theorem dL_law_195 : decode cL_law 195 = .ok (.invokevirtual 34, 3) := by decide +kernel
theorem dL_law_198 : decode cL_law 198 = .ok (.if_icmp .eq 225, 3) := by decide +kernel
theorem dL_law_201 : decode cL_law 201 = .ok (.iconst 0, 1) := by decide +kernel
theorem dL_law_202 : decode cL_law 202 = .ok (.ireturn, 1) := by decide +kernel
theorem dL_law_203 : decode cL_law 203 = .ok (.aload_n 1, 1) := by decide +kernel
theorem dL_law_204 : decode cL_law 204 = .ok (.invokevirtual 35, 3) := by decide +kernel
theorem dL_law_207 : decode cL_law 207 = .ok (.aload_n 2, 1) := by decide +kernel
theorem dL_law_208 : decode cL_law 208 = .ok (.invokevirtual 38, 3) := by decide +kernel
theorem dL_law_211 : decode cL_law 211 = .ok (.if_icmp .eq 212, 3) := by decide +kernel
theorem dL_law_214 : decode cL_law 214 = .ok (.iconst 0, 1) := by decide +kernel
theorem dL_law_215 : decode cL_law 215 = .ok (.ireturn, 1) := by decide +kernel
theorem dL_law_216 : decode cL_law 216 = .ok (.aload_n 1, 1) := by decide +kernel
theorem dL_law_217 : decode cL_law 217 = .ok (.aload_n 0, 1) := by decide +kernel
theorem dL_law_218 : decode cL_law 218 = .ok (.iload_n 3, 1) := by decide +kernel
theorem dL_law_219 : decode cL_law 219 = .ok (.iconst 1, 1) := by decide +kernel
theorem dL_law_220 : decode cL_law 220 = .ok (.iadd, 1) := by decide +kernel
theorem dL_law_221 : decode cL_law 221 = .ok (.iaload, 1) := by decide +kernel
theorem dL_law_222 : decode cL_law 222 = .ok (.invokevirtual 39, 3) := by decide +kernel
theorem dL_law_225 : decode cL_law 225 = .ok (.aload_n 2, 1) := by decide +kernel
theorem dL_law_226 : decode cL_law 226 = .ok (.aload_n 0, 1) := by decide +kernel
theorem dL_law_227 : decode cL_law 227 = .ok (.iload_n 3, 1) := by decide +kernel
theorem dL_law_228 : decode cL_law 228 = .ok (.iconst 1, 1) := by decide +kernel
theorem dL_law_229 : decode cL_law 229 = .ok (.iadd, 1) := by decide +kernel
theorem dL_law_230 : decode cL_law 230 = .ok (.iaload, 1) := by decide +kernel
theorem dL_law_231 : decode cL_law 231 = .ok (.invokevirtual 43, 3) := by decide +kernel
theorem dL_law_234 : decode cL_law 234 = .ok (.if_icmp .eq 189, 3) := by decide +kernel
theorem dL_law_237 : decode cL_law 237 = .ok (.iconst 0, 1) := by decide +kernel
theorem dL_law_238 : decode cL_law 238 = .ok (.ireturn, 1) := by decide +kernel
theorem dL_law_239 : decode cL_law 239 = .ok (.aload_n 1, 1) := by decide +kernel
theorem dL_law_240 : decode cL_law 240 = .ok (.aload_n 0, 1) := by decide +kernel
theorem dL_law_241 : decode cL_law 241 = .ok (.iload_n 3, 1) := by decide +kernel
theorem dL_law_242 : decode cL_law 242 = .ok (.iconst 1, 1) := by decide +kernel
theorem dL_law_243 : decode cL_law 243 = .ok (.iadd, 1) := by decide +kernel
theorem dL_law_244 : decode cL_law 244 = .ok (.iaload, 1) := by decide +kernel
theorem dL_law_245 : decode cL_law 245 = .ok (.invokevirtual 44, 3) := by decide +kernel
theorem dL_law_248 : decode cL_law 248 = .ok (.aload_n 2, 1) := by decide +kernel
theorem dL_law_249 : decode cL_law 249 = .ok (.aload_n 0, 1) := by decide +kernel
theorem dL_law_250 : decode cL_law 250 = .ok (.iload_n 3, 1) := by decide +kernel
theorem dL_law_251 : decode cL_law 251 = .ok (.iconst 1, 1) := by decide +kernel
theorem dL_law_252 : decode cL_law 252 = .ok (.iadd, 1) := by decide +kernel
theorem dL_law_253 : decode cL_law 253 = .ok (.iaload, 1) := by decide +kernel
theorem dL_law_254 : decode cL_law 254 = .ok (.invokevirtual 47, 3) := by decide +kernel
theorem dL_law_257 : decode cL_law 257 = .ok (.if_icmp .eq 166, 3) := by decide +kernel
theorem dL_law_260 : decode cL_law 260 = .ok (.iconst 0, 1) := by decide +kernel
theorem dL_law_261 : decode cL_law 261 = .ok (.ireturn, 1) := by decide +kernel
theorem dL_law_262 : decode cL_law 262 = .ok (.aload_n 1, 1) := by decide +kernel
theorem dL_law_263 : decode cL_law 263 = .ok (.invokevirtual 48, 3) := by decide +kernel
theorem dL_law_266 : decode cL_law 266 = .ok (.aload_n 2, 1) := by decide +kernel
theorem dL_law_267 : decode cL_law 267 = .ok (.invokevirtual 51, 3) := by decide +kernel
theorem dL_law_270 : decode cL_law 270 = .ok (.if_icmp .eq 153, 3) := by decide +kernel
theorem dL_law_273 : decode cL_law 273 = .ok (.iconst 0, 1) := by decide +kernel
theorem dL_law_274 : decode cL_law 274 = .ok (.ireturn, 1) := by decide +kernel
theorem dL_law_275 : decode cL_law 275 = .ok (.aload_n 1, 1) := by decide +kernel
theorem dL_law_276 : decode cL_law 276 = .ok (.invokevirtual 52, 3) := by decide +kernel
theorem dL_law_279 : decode cL_law 279 = .ok (.aload_n 2, 1) := by decide +kernel
theorem dL_law_280 : decode cL_law 280 = .ok (.invokevirtual 55, 3) := by decide +kernel
theorem dL_law_283 : decode cL_law 283 = .ok (.if_icmp .eq 140, 3) := by decide +kernel
theorem dL_law_286 : decode cL_law 286 = .ok (.iconst 0, 1) := by decide +kernel
theorem dL_law_287 : decode cL_law 287 = .ok (.ireturn, 1) := by decide +kernel
theorem dL_law_288 : decode cL_law 288 = .ok (.aload_n 1, 1) := by decide +kernel
theorem dL_law_289 : decode cL_law 289 = .ok (.aload_n 0, 1) := by decide +kernel
theorem dL_law_290 : decode cL_law 290 = .ok (.iload_n 3, 1) := by decide +kernel
theorem dL_law_291 : decode cL_law 291 = .ok (.iconst 1, 1) := by decide +kernel
theorem dL_law_292 : decode cL_law 292 = .ok (.iadd, 1) := by decide +kernel
theorem dL_law_293 : decode cL_law 293 = .ok (.iaload, 1) := by decide +kernel
theorem dL_law_294 : decode cL_law 294 = .ok (.aload_n 0, 1) := by decide +kernel
theorem dL_law_295 : decode cL_law 295 = .ok (.iload_n 3, 1) := by decide +kernel
theorem dL_law_296 : decode cL_law 296 = .ok (.iconst 2, 1) := by decide +kernel
theorem dL_law_297 : decode cL_law 297 = .ok (.iadd, 1) := by decide +kernel
theorem dL_law_298 : decode cL_law 298 = .ok (.iaload, 1) := by decide +kernel
theorem dL_law_299 : decode cL_law 299 = .ok (.invokevirtual 56, 3) := by decide +kernel
theorem dL_law_302 : decode cL_law 302 = .ok (.aload_n 2, 1) := by decide +kernel
theorem dL_law_303 : decode cL_law 303 = .ok (.aload_n 0, 1) := by decide +kernel
theorem dL_law_304 : decode cL_law 304 = .ok (.iload_n 3, 1) := by decide +kernel
theorem dL_law_305 : decode cL_law 305 = .ok (.iconst 1, 1) := by decide +kernel
theorem dL_law_306 : decode cL_law 306 = .ok (.iadd, 1) := by decide +kernel
theorem dL_law_307 : decode cL_law 307 = .ok (.iaload, 1) := by decide +kernel
theorem dL_law_308 : decode cL_law 308 = .ok (.aload_n 0, 1) := by decide +kernel
theorem dL_law_309 : decode cL_law 309 = .ok (.iload_n 3, 1) := by decide +kernel
theorem dL_law_310 : decode cL_law 310 = .ok (.iconst 2, 1) := by decide +kernel
theorem dL_law_311 : decode cL_law 311 = .ok (.iadd, 1) := by decide +kernel
theorem dL_law_312 : decode cL_law 312 = .ok (.iaload, 1) := by decide +kernel
theorem dL_law_313 : decode cL_law 313 = .ok (.invokevirtual 60, 3) := by decide +kernel
theorem dL_law_316 : decode cL_law 316 = .ok (.if_icmp .eq 107, 3) := by decide +kernel
theorem dL_law_319 : decode cL_law 319 = .ok (.iconst 0, 1) := by decide +kernel
theorem dL_law_320 : decode cL_law 320 = .ok (.ireturn, 1) := by decide +kernel
theorem dL_law_321 : decode cL_law 321 = .ok (.aload_n 1, 1) := by decide +kernel
theorem dL_law_322 : decode cL_law 322 = .ok (.aload_n 0, 1) := by decide +kernel
theorem dL_law_323 : decode cL_law 323 = .ok (.iload_n 3, 1) := by decide +kernel
theorem dL_law_324 : decode cL_law 324 = .ok (.iconst 1, 1) := by decide +kernel
theorem dL_law_325 : decode cL_law 325 = .ok (.iadd, 1) := by decide +kernel
theorem dL_law_326 : decode cL_law 326 = .ok (.iaload, 1) := by decide +kernel
theorem dL_law_327 : decode cL_law 327 = .ok (.invokevirtual 61, 3) := by decide +kernel
theorem dL_law_330 : decode cL_law 330 = .ok (.aload_n 2, 1) := by decide +kernel
theorem dL_law_331 : decode cL_law 331 = .ok (.aload_n 0, 1) := by decide +kernel
theorem dL_law_332 : decode cL_law 332 = .ok (.iload_n 3, 1) := by decide +kernel
theorem dL_law_333 : decode cL_law 333 = .ok (.iconst 1, 1) := by decide +kernel
theorem dL_law_334 : decode cL_law 334 = .ok (.iadd, 1) := by decide +kernel
theorem dL_law_335 : decode cL_law 335 = .ok (.iaload, 1) := by decide +kernel
theorem dL_law_336 : decode cL_law 336 = .ok (.invokevirtual 64, 3) := by decide +kernel
theorem dL_law_339 : decode cL_law 339 = .ok (.if_icmp .eq 84, 3) := by decide +kernel
theorem dL_law_342 : decode cL_law 342 = .ok (.iconst 0, 1) := by decide +kernel
theorem dL_law_343 : decode cL_law 343 = .ok (.ireturn, 1) := by decide +kernel
theorem dL_law_344 : decode cL_law 344 = .ok (.aload_n 1, 1) := by decide +kernel
theorem dL_law_345 : decode cL_law 345 = .ok (.aload_n 0, 1) := by decide +kernel
theorem dL_law_346 : decode cL_law 346 = .ok (.iload_n 3, 1) := by decide +kernel
theorem dL_law_347 : decode cL_law 347 = .ok (.iconst 1, 1) := by decide +kernel
theorem dL_law_348 : decode cL_law 348 = .ok (.iadd, 1) := by decide +kernel
theorem dL_law_349 : decode cL_law 349 = .ok (.iaload, 1) := by decide +kernel
theorem dL_law_350 : decode cL_law 350 = .ok (.invokevirtual 65, 3) := by decide +kernel
theorem dL_law_353 : decode cL_law 353 = .ok (.aload_n 2, 1) := by decide +kernel
theorem dL_law_354 : decode cL_law 354 = .ok (.aload_n 0, 1) := by decide +kernel
theorem dL_law_355 : decode cL_law 355 = .ok (.iload_n 3, 1) := by decide +kernel
theorem dL_law_356 : decode cL_law 356 = .ok (.iconst 1, 1) := by decide +kernel
theorem dL_law_357 : decode cL_law 357 = .ok (.iadd, 1) := by decide +kernel
theorem dL_law_358 : decode cL_law 358 = .ok (.iaload, 1) := by decide +kernel
theorem dL_law_359 : decode cL_law 359 = .ok (.invokevirtual 68, 3) := by decide +kernel
theorem dL_law_362 : decode cL_law 362 = .ok (.if_icmp .eq 61, 3) := by decide +kernel
theorem dL_law_365 : decode cL_law 365 = .ok (.iconst 0, 1) := by decide +kernel
theorem dL_law_366 : decode cL_law 366 = .ok (.ireturn, 1) := by decide +kernel
theorem dL_law_367 : decode cL_law 367 = .ok (.aload_n 1, 1) := by decide +kernel
theorem dL_law_368 : decode cL_law 368 = .ok (.aload_n 0, 1) := by decide +kernel
theorem dL_law_369 : decode cL_law 369 = .ok (.iload_n 3, 1) := by decide +kernel
theorem dL_law_370 : decode cL_law 370 = .ok (.iconst 1, 1) := by decide +kernel
theorem dL_law_371 : decode cL_law 371 = .ok (.iadd, 1) := by decide +kernel
theorem dL_law_372 : decode cL_law 372 = .ok (.iaload, 1) := by decide +kernel
theorem dL_law_373 : decode cL_law 373 = .ok (.aload_n 0, 1) := by decide +kernel
theorem dL_law_374 : decode cL_law 374 = .ok (.iload_n 3, 1) := by decide +kernel
theorem dL_law_375 : decode cL_law 375 = .ok (.iconst 2, 1) := by decide +kernel
theorem dL_law_376 : decode cL_law 376 = .ok (.iadd, 1) := by decide +kernel
theorem dL_law_377 : decode cL_law 377 = .ok (.iaload, 1) := by decide +kernel
theorem dL_law_378 : decode cL_law 378 = .ok (.invokevirtual 69, 3) := by decide +kernel
theorem dL_law_381 : decode cL_law 381 = .ok (.aload_n 2, 1) := by decide +kernel
theorem dL_law_382 : decode cL_law 382 = .ok (.aload_n 0, 1) := by decide +kernel
theorem dL_law_383 : decode cL_law 383 = .ok (.iload_n 3, 1) := by decide +kernel
theorem dL_law_384 : decode cL_law 384 = .ok (.iconst 1, 1) := by decide +kernel
theorem dL_law_385 : decode cL_law 385 = .ok (.iadd, 1) := by decide +kernel
theorem dL_law_386 : decode cL_law 386 = .ok (.iaload, 1) := by decide +kernel
theorem dL_law_387 : decode cL_law 387 = .ok (.aload_n 0, 1) := by decide +kernel
theorem dL_law_388 : decode cL_law 388 = .ok (.iload_n 3, 1) := by decide +kernel
theorem dL_law_389 : decode cL_law 389 = .ok (.iconst 2, 1) := by decide +kernel
theorem dL_law_390 : decode cL_law 390 = .ok (.iadd, 1) := by decide +kernel
theorem dL_law_391 : decode cL_law 391 = .ok (.iaload, 1) := by decide +kernel
theorem dL_law_392 : decode cL_law 392 = .ok (.invokevirtual 72, 3) := by decide +kernel
theorem dL_law_395 : decode cL_law 395 = .ok (.if_icmp .eq 28, 3) := by decide +kernel
theorem dL_law_398 : decode cL_law 398 = .ok (.iconst 0, 1) := by decide +kernel
theorem dL_law_399 : decode cL_law 399 = .ok (.ireturn, 1) := by decide +kernel
theorem dL_law_400 : decode cL_law 400 = .ok (.aload_n 1, 1) := by decide +kernel
theorem dL_law_401 : decode cL_law 401 = .ok (.aload_n 0, 1) := by decide +kernel
theorem dL_law_402 : decode cL_law 402 = .ok (.iload_n 3, 1) := by decide +kernel
theorem dL_law_403 : decode cL_law 403 = .ok (.iconst 1, 1) := by decide +kernel
theorem dL_law_404 : decode cL_law 404 = .ok (.iadd, 1) := by decide +kernel
theorem dL_law_405 : decode cL_law 405 = .ok (.iaload, 1) := by decide +kernel
theorem dL_law_406 : decode cL_law 406 = .ok (.invokevirtual 73, 3) := by decide +kernel
theorem dL_law_409 : decode cL_law 409 = .ok (.aload_n 2, 1) := by decide +kernel
theorem dL_law_410 : decode cL_law 410 = .ok (.aload_n 0, 1) := by decide +kernel
theorem dL_law_411 : decode cL_law 411 = .ok (.iload_n 3, 1) := by decide +kernel
theorem dL_law_412 : decode cL_law 412 = .ok (.iconst 1, 1) := by decide +kernel
theorem dL_law_413 : decode cL_law 413 = .ok (.iadd, 1) := by decide +kernel
theorem dL_law_414 : decode cL_law 414 = .ok (.iaload, 1) := by decide +kernel
theorem dL_law_415 : decode cL_law 415 = .ok (.invokevirtual 76, 3) := by decide +kernel
theorem dL_law_418 : decode cL_law 418 = .ok (.if_icmp .eq 5, 3) := by decide +kernel
theorem dL_law_421 : decode cL_law 421 = .ok (.iconst 0, 1) := by decide +kernel
theorem dL_law_422 : decode cL_law 422 = .ok (.ireturn, 1) := by decide +kernel
theorem dL_law_423 : decode cL_law 423 = .ok (.iinc 3 3, 3) := by decide +kernel
theorem dL_law_426 : decode cL_law 426 = .ok (.goto (-408), 3) := by decide +kernel
theorem dL_law_429 : decode cL_law 429 = .ok (.iconst 1, 1) := by decide +kernel
theorem dL_law_430 : decode cL_law 430 = .ok (.ireturn, 1) := by decide +kernel
end
section
/-! the two classes' cells -/
abbrev vwCl : List vw_C := [(RX0, TX0, 7), (RX1, TX1, 1)]
abbrev fq_wq (h0 a1 a2 a3 a4 : Nat) (d : ClassId) (A : fq_A4) (mi mx ct : Int32) : va_W := [(h0, .inr (0, [.ref a1, .ref a2, .ref a3, .ref a4, .int mi, .int mx, .int ct])), (a1, .inl (d, 17, .inl A.1)), (a2, .inl (d, 17, .inl A.2.1)), (a3, .inl (d, 17, .inl A.2.2.1)), (a4, .inl (d, 68, .inl A.2.2.2))]
def fq_bf (S : Nat → Bool) : Nat → Int32 := fun j => cond (S j) 1 0
abbrev fq_wm (h0 b1 : Nat) (z : ClassId) (f : Nat → Int32) : va_W := [(h0, .inr (1, [.ref b1])), (b1, .inl (z, 256, .inl f))]
abbrev fq_PQ (dC : Nat → ClassId) (dI : Nat → Nat → Nat) (sz : Nat) (ws : va_W) (tys : List (ClassId × FieldType)) : State → Prop := fun U => U.heap.size = sz ∧ va_P (dC, dI) vwCl ws U.heap ∧ va_K (dC, dI) vwCl tys U ∧ va_D (fun _ => True) ws
abbrev fq_BQ (dC : Nat → ClassId) (dI : Nat → Nat → Nat) (A : Nat → Prop) (ws : va_W) (tys : List (ClassId × FieldType)) : State → Prop := fun t => va_P (dC, dI) vwCl ws t.heap ∧ va_K (dC, dI) vwCl tys t ∧ va_D A ws
theorem fq_blind {av : List Value} {dC : Nat → ClassId} {dI : Nat → Nat → Nat} {sz : Nat} {ws : va_W} {tys : List (ClassId × FieldType)} : FrameBlind (va_Pc av (fq_PQ dC dI sz ws tys)) := fun a U g mk q => by
  obtain ⟨q0, q1, qP, qK, qD⟩ := q
  exact ⟨q0, q1, qP, va_K.moved (u := U) (U := U.calling g mk a) (Vm.Alike.refl U.vm) qK, qD⟩
end
section
set_option maxHeartbeats 4000000 in
set_option maxRecDepth 100000 in
theorem fq_met_lowest (l : Launch) (dC : Nat → ClassId) (dI : Nat → Nat → Nat) (sz : Nat) (p1 : Int32) : Met l yX0_lowest (ws_ yX0_lowest cX0_lowest 1 (some .int)) ({ frames := 0, cells := 0, slots := 0, locals := 0 }) (va_Pc [.int p1] (fq_PQ dC dI sz ([]) [])) (va_Qi (fun (r : Int32) (_ : Unit) => r = fq_lowest p1) (fun _ => fq_BQ dC dI (va_A ([]) sz) ([]) []) (va_A ([]) sz)) 0 0 (va_A ([]) sz) := by
  refine Met.ofW (cc := cX0_lowest) (maxL := 1) (ret := (some .int)) (by decide) rfl ?_
  intro p e s m args below meth c s₁ B hml hv
  obtain ⟨rfl, hsz, hP, hK, hD0⟩ := hv
  have hx := B.exec
  have hb := B.bytes
  have hr := B.returns
  have hts := atoms_spec (ws := ws_ yX0_lowest cX0_lowest 1 (some .int)) B.pre
  have hts : ∀ w ∈ lw_all, w.before _ s = true := fun w h => hts w (List.mem_cons_of_mem _ h)
  have hown : s.vm.findClass RX0 = some m.cls := findClass_of_methodNamed B.named
  have hlocks := B.notSynchronized
  subst hsz
  have hD := hD0.self (sz := s.heap.size)
  generalize hAe : va_A ([]) s.heap.size = A at hD ⊢
  have hA : ∀ q : Nat, s.heap.size ≤ q → A q := fun q h => by rw [← hAe]; exact Or.inr h
  have hS : va_S A s.heap s.heap [] := va_S.rf
  have hP : va_P (dC, dI) vwCl ([]) s.heap := hP
  have hl := lv_entry ([.int p1]) (n := 1) (Nat.le_of_ble_eq_true rfl)
  rw [lg_entry_eq]
  generalize (lg_sl ([.int p1]) ++ List.replicate (1 - (lg_sl ([.int p1])).length) Slot.unset).toArray = ls0 at hl ⊢
  have hl : lv_has ls0 1 [(0, .int p1)] := hl
  refine lv_iload_n hx hb dX0_lowest_0 rfl (lv_at hl 0 rfl) ?_
  refine lv_iconst (v := 3) hx hb dX0_lowest_1 (by decide) ?_
  refine lv_iand hx hb dX0_lowest_2 ?_
  refine lv_if_eq (tgt := 18) hx hb dX0_lowest_3 (by decide) (fun c_3 => ?_) (fun c_3 => ?_)
  · skip
    refine lv_iload_n hx hb dX0_lowest_18 rfl (lv_at hl 0 rfl) ?_
    refine lv_iconst (v := 4) hx hb dX0_lowest_19 (by decide) ?_
    refine lv_iand hx hb dX0_lowest_20 ?_
    refine lv_if_eq (tgt := 28) hx hb dX0_lowest_21 (by decide) (fun c_21 => ?_) (fun c_21 => ?_)
    · skip
      refine lv_iconst (v := 3) hx hb dX0_lowest_28 (by decide) ?_
      exact W.iret (v := (3 : Int32)) hx hb hr (fun t ht hW => ⟨⟨(3 : Int32), (), rfl, (by rw [fq_lowest, if_pos c_3, if_pos c_21]), (by rw [ht]; exact hP), va_K.moved hW.alike hK, hD⟩, hS.F ht⟩) hS.2.2 dX0_lowest_29
    · skip
      refine lv_iconst (v := 2) hx hb dX0_lowest_24 (by decide) ?_
      refine lv_goto (tgt := 29) hx hb dX0_lowest_25 (by decide) ?_
      exact W.iret (v := (2 : Int32)) hx hb hr (fun t ht hW => ⟨⟨(2 : Int32), (), rfl, (by rw [fq_lowest, if_pos c_3, if_neg c_21]), (by rw [ht]; exact hP), va_K.moved hW.alike hK, hD⟩, hS.F ht⟩) hS.2.2 dX0_lowest_29
  · skip
    refine lv_iload_n hx hb dX0_lowest_6 rfl (lv_at hl 0 rfl) ?_
    refine lv_iconst (v := 1) hx hb dX0_lowest_7 (by decide) ?_
    refine lv_iand hx hb dX0_lowest_8 ?_
    refine lv_if_eq (tgt := 16) hx hb dX0_lowest_9 (by decide) (fun c_9 => ?_) (fun c_9 => ?_)
    · skip
      refine lv_iconst (v := 1) hx hb dX0_lowest_16 (by decide) ?_
      exact W.iret (v := (1 : Int32)) hx hb hr (fun t ht hW => ⟨⟨(1 : Int32), (), rfl, (by rw [fq_lowest, if_neg c_3, if_pos c_9]), (by rw [ht]; exact hP), va_K.moved hW.alike hK, hD⟩, hS.F ht⟩) hS.2.2 dX0_lowest_17
    · skip
      refine lv_iconst (v := 0) hx hb dX0_lowest_12 (by decide) ?_
      refine lv_goto (tgt := 17) hx hb dX0_lowest_13 (by decide) ?_
      exact W.iret (v := (0 : Int32)) hx hb hr (fun t ht hW => ⟨⟨(0 : Int32), (), rfl, (by rw [fq_lowest, if_neg c_3, if_neg c_9]), (by rw [ht]; exact hP), va_K.moved hW.alike hK, hD⟩, hS.F ht⟩) hS.2.2 dX0_lowest_17
set_option maxHeartbeats 4000000 in
set_option maxRecDepth 100000 in
theorem fq_met_highest (l : Launch) (dC : Nat → ClassId) (dI : Nat → Nat → Nat) (sz : Nat) (p1 : Int32) : Met l yX0_highest (ws_ yX0_highest cX0_highest 1 (some .int)) ({ frames := 0, cells := 0, slots := 0, locals := 0 }) (va_Pc [.int p1] (fq_PQ dC dI sz ([]) [])) (va_Qi (fun (r : Int32) (_ : Unit) => r = fq_highest p1) (fun _ => fq_BQ dC dI (va_A ([]) sz) ([]) []) (va_A ([]) sz)) 0 0 (va_A ([]) sz) := by
  refine Met.ofW (cc := cX0_highest) (maxL := 1) (ret := (some .int)) (by decide) rfl ?_
  intro p e s m args below meth c s₁ B hml hv
  obtain ⟨rfl, hsz, hP, hK, hD0⟩ := hv
  have hx := B.exec
  have hb := B.bytes
  have hr := B.returns
  have hts := atoms_spec (ws := ws_ yX0_highest cX0_highest 1 (some .int)) B.pre
  have hts : ∀ w ∈ lw_all, w.before _ s = true := fun w h => hts w (List.mem_cons_of_mem _ h)
  have hown : s.vm.findClass RX0 = some m.cls := findClass_of_methodNamed B.named
  have hlocks := B.notSynchronized
  subst hsz
  have hD := hD0.self (sz := s.heap.size)
  generalize hAe : va_A ([]) s.heap.size = A at hD ⊢
  have hA : ∀ q : Nat, s.heap.size ≤ q → A q := fun q h => by rw [← hAe]; exact Or.inr h
  have hS : va_S A s.heap s.heap [] := va_S.rf
  have hP : va_P (dC, dI) vwCl ([]) s.heap := hP
  have hl := lv_entry ([.int p1]) (n := 1) (Nat.le_of_ble_eq_true rfl)
  rw [lg_entry_eq]
  generalize (lg_sl ([.int p1]) ++ List.replicate (1 - (lg_sl ([.int p1])).length) Slot.unset).toArray = ls0 at hl ⊢
  have hl : lv_has ls0 1 [(0, .int p1)] := hl
  refine lv_iload_n hx hb dX0_highest_0 rfl (lv_at hl 0 rfl) ?_
  refine lv_bipush (v := 12) hx hb dX0_highest_1 (by decide) ?_
  refine lv_iand hx hb dX0_highest_3 ?_
  refine lv_if_eq (tgt := 20) hx hb dX0_highest_4 (by decide) (fun c_4 => ?_) (fun c_4 => ?_)
  · skip
    refine lv_iload_n hx hb dX0_highest_20 rfl (lv_at hl 0 rfl) ?_
    refine lv_iconst (v := 2) hx hb dX0_highest_21 (by decide) ?_
    refine lv_iand hx hb dX0_highest_22 ?_
    refine lv_if_eq (tgt := 30) hx hb dX0_highest_23 (by decide) (fun c_23 => ?_) (fun c_23 => ?_)
    · skip
      refine lv_iconst (v := 0) hx hb dX0_highest_30 (by decide) ?_
      exact W.iret (v := (0 : Int32)) hx hb hr (fun t ht hW => ⟨⟨(0 : Int32), (), rfl, (by rw [fq_highest, if_pos c_4, if_pos c_23]), (by rw [ht]; exact hP), va_K.moved hW.alike hK, hD⟩, hS.F ht⟩) hS.2.2 dX0_highest_31
    · skip
      refine lv_iconst (v := 1) hx hb dX0_highest_26 (by decide) ?_
      refine lv_goto (tgt := 31) hx hb dX0_highest_27 (by decide) ?_
      exact W.iret (v := (1 : Int32)) hx hb hr (fun t ht hW => ⟨⟨(1 : Int32), (), rfl, (by rw [fq_highest, if_pos c_4, if_neg c_23]), (by rw [ht]; exact hP), va_K.moved hW.alike hK, hD⟩, hS.F ht⟩) hS.2.2 dX0_highest_31
  · skip
    refine lv_iload_n hx hb dX0_highest_7 rfl (lv_at hl 0 rfl) ?_
    refine lv_bipush (v := 8) hx hb dX0_highest_8 (by decide) ?_
    refine lv_iand hx hb dX0_highest_10 ?_
    refine lv_if_eq (tgt := 18) hx hb dX0_highest_11 (by decide) (fun c_11 => ?_) (fun c_11 => ?_)
    · skip
      refine lv_iconst (v := 2) hx hb dX0_highest_18 (by decide) ?_
      exact W.iret (v := (2 : Int32)) hx hb hr (fun t ht hW => ⟨⟨(2 : Int32), (), rfl, (by rw [fq_highest, if_neg c_4, if_pos c_11]), (by rw [ht]; exact hP), va_K.moved hW.alike hK, hD⟩, hS.F ht⟩) hS.2.2 dX0_highest_19
    · skip
      refine lv_iconst (v := 3) hx hb dX0_highest_14 (by decide) ?_
      refine lv_goto (tgt := 19) hx hb dX0_highest_15 (by decide) ?_
      exact W.iret (v := (3 : Int32)) hx hb hr (fun t ht hW => ⟨⟨(3 : Int32), (), rfl, (by rw [fq_highest, if_neg c_4, if_neg c_11]), (by rw [ht]; exact hP), va_K.moved hW.alike hK, hD⟩, hS.F ht⟩) hS.2.2 dX0_highest_19
set_option maxHeartbeats 4000000 in
set_option maxRecDepth 100000 in
theorem fq_met_putBit (l : Launch) (dC : Nat → ClassId) (dI : Nat → Nat → Nat) (h0 a1 a2 a3 a4 : Nat) (d : ClassId) (sz : Nat) (A0 : fq_A4) (mi mx ct : Int32) (p1 p2 : Int32) (hc : vp_in p1 17) (hq : vp_in p2 16) : Met l yX0_putBit (ws_ yX0_putBit cX0_putBit 4 none) ({ frames := 0, cells := 0, slots := 0, locals := 0 }) (va_Pc [.ref h0, .int p1, .int p2] (fq_PQ dC dI sz (fq_wq h0 a1 a2 a3 a4 d A0 mi mx ct) [(d, .byte)])) (va_Qv (fun u : fq_A4 => u = fq_putBit A0 p1 p2) (fun u => fq_BQ dC dI (va_A (fq_wq h0 a1 a2 a3 a4 d A0 mi mx ct) sz) (fq_wq h0 a1 a2 a3 a4 d u mi mx ct) [(d, .byte)]) (va_A (fq_wq h0 a1 a2 a3 a4 d A0 mi mx ct) sz)) 0 0 (va_A (fq_wq h0 a1 a2 a3 a4 d A0 mi mx ct) sz) := by
  refine Met.ofW (cc := cX0_putBit) (maxL := 4) (ret := none) (by decide) rfl ?_
  intro p e s m args below meth c s₁ B hml hv
  obtain ⟨rfl, hsz, hP, hK, hD0⟩ := hv
  have hx := B.exec
  have hb := B.bytes
  have hr := B.returns
  have hts := atoms_spec (ws := ws_ yX0_putBit cX0_putBit 4 none) B.pre
  have hts : ∀ w ∈ lw_all, w.before _ s = true := fun w h => hts w (List.mem_cons_of_mem _ h)
  have hown : s.vm.findClass RX0 = some m.cls := findClass_of_methodNamed B.named
  have hlocks := B.notSynchronized
  subst hsz
  have hD := hD0.self (sz := s.heap.size)
  generalize hAe : va_A (fq_wq h0 a1 a2 a3 a4 d A0 mi mx ct) s.heap.size = A at hD ⊢
  have hA : ∀ q : Nat, s.heap.size ≤ q → A q := fun q h => by rw [← hAe]; exact Or.inr h
  have hS : va_S A s.heap s.heap [] := va_S.rf
  have hP : va_P (dC, dI) vwCl (fq_wq h0 a1 a2 a3 a4 d A0 mi mx ct) s.heap := hP
  have hl := lv_entry ([.ref h0, .int p1, .int p2]) (n := 4) (Nat.le_of_ble_eq_true rfl)
  rw [lg_entry_eq]
  generalize (lg_sl ([.ref h0, .int p1, .int p2]) ++ List.replicate (4 - (lg_sl ([.ref h0, .int p1, .int p2])).length) Slot.unset).toArray = ls0 at hl ⊢
  have hl : lv_has ls0 4 [(0, .ref h0), (1, .int p1), (2, .int p2)] := hl
  refine lv_iload_n hx hb dX0_putBit_0 rfl (lv_at hl 1 rfl) ?_
  refine lv_iconst (v := 4) hx hb dX0_putBit_1 (by decide) ?_
  refine lv_imul hx hb dX0_putBit_2 ?_
  refine lv_iload_n hx hb dX0_putBit_3 rfl (lv_at hl 2 rfl) ?_
  refine lv_iconst (v := 2) hx hb dX0_putBit_4 (by decide) ?_
  refine lv_ishr hx hb dX0_putBit_5 ?_
  refine lv_iadd hx hb dX0_putBit_6 ?_
  refine lv_istore_n (lv' := [(3, .int ((p1 * (4 : Int32)) + (p2 >>> ((2 : Int32) &&& (31 : Int32))))), (0, .ref h0), (1, .int p1), (2, .int p2)]) hx hb dX0_putBit_7 rfl hl (by decide) rfl (fun ls hl => ?_)
  refine lv_aload_n hx hb dX0_putBit_8 rfl (lv_at hl 1 rfl) ?_
  refine va_get (D := (dC, dI)) (ci := 0) (v := .ref a4) (C := RX0) (T := TX0) (N := 7) hx hb hts in_X0 hown hK hP 0 rfl rfl 3 (by decide) (hts _ q25) (fun _ h9 => h9) rfl dX0_putBit_9 ?_
  refine lv_iload_n hx hb dX0_putBit_12 rfl (lv_at hl 0 rfl) ?_
  refine lv_aload_n hx hb dX0_putBit_13 rfl (lv_at hl 1 rfl) ?_
  refine va_get (D := (dC, dI)) (ci := 0) (v := .ref a4) (C := RX0) (T := TX0) (N := 7) hx hb hts in_X0 hown hK hP 0 rfl rfl 3 (by decide) (hts _ q25) (fun _ h9 => h9) rfl dX0_putBit_14 ?_
  refine lv_iload_n hx hb dX0_putBit_17 rfl (lv_at hl 0 rfl) ?_
  have h_18 : vp_in ((p1 * (4 : Int32)) + (p2 >>> ((2 : Int32) &&& (31 : Int32)))) 68 := fq_ix1 hc hq
  refine va_bald (f := A0.2.2.2) hx hb hK hP 4 0 rfl rfl h_18 dX0_putBit_18 ?_
  refine lv_iconst (v := 1) hx hb dX0_putBit_19 (by decide) ?_
  refine lv_iload_n hx hb dX0_putBit_20 rfl (lv_at hl 3 rfl) ?_
  refine lv_iconst (v := 3) hx hb dX0_putBit_21 (by decide) ?_
  refine lv_iand hx hb dX0_putBit_22 ?_
  refine lv_ishl hx hb dX0_putBit_23 ?_
  refine lv_ior hx hb dX0_putBit_24 ?_
  refine lv_i2b (v := ((A0.2.2.2 ((p1 * (4 : Int32)) + (p2 >>> ((2 : Int32) &&& (31 : Int32)))).toNatClampNeg) ||| ((1 : Int32) <<< ((p2 &&& (3 : Int32)) &&& (31 : Int32)))).toInt8.toInt32) hx hb dX0_putBit_25 rfl ?_
  have h_26 : vp_in ((p1 * (4 : Int32)) + (p2 >>> ((2 : Int32) &&& (31 : Int32)))) 68 := fq_ix1 hc hq
  refine va_bast (f := A0.2.2.2) hx hb hK hP hD hS 4 0 rfl rfl h_26 dX0_putBit_26 (fun H locs hP hD hS => ?_)
  have hP : va_P (dC, dI) vwCl (fq_wq h0 a1 a2 a3 a4 d (A0.1, A0.2.1, A0.2.2.1, (upd A0.2.2.2 ((p1 * (4 : Int32)) + (p2 >>> ((2 : Int32) &&& (31 : Int32)))).toNatClampNeg (vp_nar .byte (((A0.2.2.2 ((p1 * (4 : Int32)) + (p2 >>> ((2 : Int32) &&& (31 : Int32)))).toNatClampNeg) ||| ((1 : Int32) <<< ((p2 &&& (3 : Int32)) &&& (31 : Int32)))).toInt8.toInt32)))) mi mx ct) H := hP
  have hD : va_D A (fq_wq h0 a1 a2 a3 a4 d (A0.1, A0.2.1, A0.2.2.1, (upd A0.2.2.2 ((p1 * (4 : Int32)) + (p2 >>> ((2 : Int32) &&& (31 : Int32)))).toNatClampNeg (vp_nar .byte (((A0.2.2.2 ((p1 * (4 : Int32)) + (p2 >>> ((2 : Int32) &&& (31 : Int32)))).toNatClampNeg) ||| ((1 : Int32) <<< ((p2 &&& (3 : Int32)) &&& (31 : Int32)))).toInt8.toInt32)))) mi mx ct) := hD
  refine lv_aload_n hx hb dX0_putBit_27 rfl (lv_at hl 1 rfl) ?_
  refine va_get (D := (dC, dI)) (ci := 0) (v := .ref a3) (C := RX0) (T := TX0) (N := 7) hx hb hts in_X0 hown hK hP 0 rfl rfl 2 (by decide) (hts _ q24) (fun _ h9 => h9) rfl dX0_putBit_28 ?_
  refine lv_iload_n hx hb dX0_putBit_31 rfl (lv_at hl 2 rfl) ?_
  refine lv_aload_n hx hb dX0_putBit_32 rfl (lv_at hl 1 rfl) ?_
  refine va_get (D := (dC, dI)) (ci := 0) (v := .ref a3) (C := RX0) (T := TX0) (N := 7) hx hb hts in_X0 hown hK hP 0 rfl rfl 2 (by decide) (hts _ q24) (fun _ h9 => h9) rfl dX0_putBit_33 ?_
  refine lv_iload_n hx hb dX0_putBit_36 rfl (lv_at hl 2 rfl) ?_
  have h_37 : vp_in p1 17 := hc
  refine va_bald (f := A0.2.2.1) hx hb hK hP 3 0 rfl rfl h_37 dX0_putBit_37 ?_
  refine lv_iconst (v := 1) hx hb dX0_putBit_38 (by decide) ?_
  refine lv_iload_n hx hb dX0_putBit_39 rfl (lv_at hl 3 rfl) ?_
  refine lv_iconst (v := 2) hx hb dX0_putBit_40 (by decide) ?_
  refine lv_ishr hx hb dX0_putBit_41 ?_
  refine lv_ishl hx hb dX0_putBit_42 ?_
  refine lv_ior hx hb dX0_putBit_43 ?_
  refine lv_i2b (v := ((A0.2.2.1 p1.toNatClampNeg) ||| ((1 : Int32) <<< ((p2 >>> ((2 : Int32) &&& (31 : Int32))) &&& (31 : Int32)))).toInt8.toInt32) hx hb dX0_putBit_44 rfl ?_
  have h_45 : vp_in p1 17 := hc
  refine va_bast (f := A0.2.2.1) hx hb hK hP hD hS 3 0 rfl rfl h_45 dX0_putBit_45 (fun H locs hP hD hS => ?_)
  have hP : va_P (dC, dI) vwCl (fq_wq h0 a1 a2 a3 a4 d (A0.1, A0.2.1, (upd A0.2.2.1 p1.toNatClampNeg (vp_nar .byte (((A0.2.2.1 p1.toNatClampNeg) ||| ((1 : Int32) <<< ((p2 >>> ((2 : Int32) &&& (31 : Int32))) &&& (31 : Int32)))).toInt8.toInt32))), (upd A0.2.2.2 ((p1 * (4 : Int32)) + (p2 >>> ((2 : Int32) &&& (31 : Int32)))).toNatClampNeg (vp_nar .byte (((A0.2.2.2 ((p1 * (4 : Int32)) + (p2 >>> ((2 : Int32) &&& (31 : Int32)))).toNatClampNeg) ||| ((1 : Int32) <<< ((p2 &&& (3 : Int32)) &&& (31 : Int32)))).toInt8.toInt32)))) mi mx ct) H := hP
  have hD : va_D A (fq_wq h0 a1 a2 a3 a4 d (A0.1, A0.2.1, (upd A0.2.2.1 p1.toNatClampNeg (vp_nar .byte (((A0.2.2.1 p1.toNatClampNeg) ||| ((1 : Int32) <<< ((p2 >>> ((2 : Int32) &&& (31 : Int32))) &&& (31 : Int32)))).toInt8.toInt32))), (upd A0.2.2.2 ((p1 * (4 : Int32)) + (p2 >>> ((2 : Int32) &&& (31 : Int32)))).toNatClampNeg (vp_nar .byte (((A0.2.2.2 ((p1 * (4 : Int32)) + (p2 >>> ((2 : Int32) &&& (31 : Int32)))).toNatClampNeg) ||| ((1 : Int32) <<< ((p2 &&& (3 : Int32)) &&& (31 : Int32)))).toInt8.toInt32)))) mi mx ct) := hD
  exact W.vret hx hb hr (fun t ht hW => ⟨⟨(A0.1, A0.2.1, (upd A0.2.2.1 p1.toNatClampNeg (vp_nar .byte (((A0.2.2.1 p1.toNatClampNeg) ||| ((1 : Int32) <<< ((p2 >>> ((2 : Int32) &&& (31 : Int32))) &&& (31 : Int32)))).toInt8.toInt32))), (upd A0.2.2.2 ((p1 * (4 : Int32)) + (p2 >>> ((2 : Int32) &&& (31 : Int32)))).toNatClampNeg (vp_nar .byte (((A0.2.2.2 ((p1 * (4 : Int32)) + (p2 >>> ((2 : Int32) &&& (31 : Int32)))).toNatClampNeg) ||| ((1 : Int32) <<< ((p2 &&& (3 : Int32)) &&& (31 : Int32)))).toInt8.toInt32)))), rfl, (by rw [fq_putBit]), (by rw [ht]; exact hP), va_K.moved hW.alike hK, hD⟩, hS.F ht⟩) hS.2.2 dX0_putBit_46
set_option maxHeartbeats 4000000 in
set_option maxRecDepth 100000 in
theorem fq_met_takeBit (l : Launch) (dC : Nat → ClassId) (dI : Nat → Nat → Nat) (h0 a1 a2 a3 a4 : Nat) (d : ClassId) (sz : Nat) (A0 : fq_A4) (mi mx ct : Int32) (p1 p2 : Int32) (hc : vp_in p1 17) (hq : vp_in p2 16) : Met l yX0_takeBit (ws_ yX0_takeBit cX0_takeBit 4 none) ({ frames := 0, cells := 0, slots := 0, locals := 0 }) (va_Pc [.ref h0, .int p1, .int p2] (fq_PQ dC dI sz (fq_wq h0 a1 a2 a3 a4 d A0 mi mx ct) [(d, .byte)])) (va_Qv (fun u : fq_A4 => u = fq_takeBit A0 p1 p2) (fun u => fq_BQ dC dI (va_A (fq_wq h0 a1 a2 a3 a4 d A0 mi mx ct) sz) (fq_wq h0 a1 a2 a3 a4 d u mi mx ct) [(d, .byte)]) (va_A (fq_wq h0 a1 a2 a3 a4 d A0 mi mx ct) sz)) 0 0 (va_A (fq_wq h0 a1 a2 a3 a4 d A0 mi mx ct) sz) := by
  refine Met.ofW (cc := cX0_takeBit) (maxL := 4) (ret := none) (by decide) rfl ?_
  intro p e s m args below meth c s₁ B hml hv
  obtain ⟨rfl, hsz, hP, hK, hD0⟩ := hv
  have hx := B.exec
  have hb := B.bytes
  have hr := B.returns
  have hts := atoms_spec (ws := ws_ yX0_takeBit cX0_takeBit 4 none) B.pre
  have hts : ∀ w ∈ lw_all, w.before _ s = true := fun w h => hts w (List.mem_cons_of_mem _ h)
  have hown : s.vm.findClass RX0 = some m.cls := findClass_of_methodNamed B.named
  have hlocks := B.notSynchronized
  subst hsz
  have hD := hD0.self (sz := s.heap.size)
  generalize hAe : va_A (fq_wq h0 a1 a2 a3 a4 d A0 mi mx ct) s.heap.size = A at hD ⊢
  have hA : ∀ q : Nat, s.heap.size ≤ q → A q := fun q h => by rw [← hAe]; exact Or.inr h
  have hS : va_S A s.heap s.heap [] := va_S.rf
  have hP : va_P (dC, dI) vwCl (fq_wq h0 a1 a2 a3 a4 d A0 mi mx ct) s.heap := hP
  have hl := lv_entry ([.ref h0, .int p1, .int p2]) (n := 4) (Nat.le_of_ble_eq_true rfl)
  rw [lg_entry_eq]
  generalize (lg_sl ([.ref h0, .int p1, .int p2]) ++ List.replicate (4 - (lg_sl ([.ref h0, .int p1, .int p2])).length) Slot.unset).toArray = ls0 at hl ⊢
  have hl : lv_has ls0 4 [(0, .ref h0), (1, .int p1), (2, .int p2)] := hl
  refine lv_iload_n hx hb dX0_takeBit_0 rfl (lv_at hl 1 rfl) ?_
  refine lv_iconst (v := 4) hx hb dX0_takeBit_1 (by decide) ?_
  refine lv_imul hx hb dX0_takeBit_2 ?_
  refine lv_iload_n hx hb dX0_takeBit_3 rfl (lv_at hl 2 rfl) ?_
  refine lv_iconst (v := 2) hx hb dX0_takeBit_4 (by decide) ?_
  refine lv_ishr hx hb dX0_takeBit_5 ?_
  refine lv_iadd hx hb dX0_takeBit_6 ?_
  refine lv_istore_n (lv' := [(3, .int ((p1 * (4 : Int32)) + (p2 >>> ((2 : Int32) &&& (31 : Int32))))), (0, .ref h0), (1, .int p1), (2, .int p2)]) hx hb dX0_takeBit_7 rfl hl (by decide) rfl (fun ls hl => ?_)
  refine lv_aload_n hx hb dX0_takeBit_8 rfl (lv_at hl 1 rfl) ?_
  refine va_get (D := (dC, dI)) (ci := 0) (v := .ref a4) (C := RX0) (T := TX0) (N := 7) hx hb hts in_X0 hown hK hP 0 rfl rfl 3 (by decide) (hts _ q25) (fun _ h9 => h9) rfl dX0_takeBit_9 ?_
  refine lv_iload_n hx hb dX0_takeBit_12 rfl (lv_at hl 0 rfl) ?_
  refine lv_aload_n hx hb dX0_takeBit_13 rfl (lv_at hl 1 rfl) ?_
  refine va_get (D := (dC, dI)) (ci := 0) (v := .ref a4) (C := RX0) (T := TX0) (N := 7) hx hb hts in_X0 hown hK hP 0 rfl rfl 3 (by decide) (hts _ q25) (fun _ h9 => h9) rfl dX0_takeBit_14 ?_
  refine lv_iload_n hx hb dX0_takeBit_17 rfl (lv_at hl 0 rfl) ?_
  have h_18 : vp_in ((p1 * (4 : Int32)) + (p2 >>> ((2 : Int32) &&& (31 : Int32)))) 68 := fq_ix1 hc hq
  refine va_bald (f := A0.2.2.2) hx hb hK hP 4 0 rfl rfl h_18 dX0_takeBit_18 ?_
  refine lv_iconst (v := 1) hx hb dX0_takeBit_19 (by decide) ?_
  refine lv_iload_n hx hb dX0_takeBit_20 rfl (lv_at hl 3 rfl) ?_
  refine lv_iconst (v := 3) hx hb dX0_takeBit_21 (by decide) ?_
  refine lv_iand hx hb dX0_takeBit_22 ?_
  refine lv_ishl hx hb dX0_takeBit_23 ?_
  refine lv_iconst (v := -1) hx hb dX0_takeBit_24 (by decide) ?_
  refine lv_ixor hx hb dX0_takeBit_25 ?_
  refine lv_iand hx hb dX0_takeBit_26 ?_
  refine lv_i2b (v := ((A0.2.2.2 ((p1 * (4 : Int32)) + (p2 >>> ((2 : Int32) &&& (31 : Int32)))).toNatClampNeg) &&& (((1 : Int32) <<< ((p2 &&& (3 : Int32)) &&& (31 : Int32))) ^^^ (-1 : Int32))).toInt8.toInt32) hx hb dX0_takeBit_27 rfl ?_
  have h_28 : vp_in ((p1 * (4 : Int32)) + (p2 >>> ((2 : Int32) &&& (31 : Int32)))) 68 := fq_ix1 hc hq
  refine va_bast (f := A0.2.2.2) hx hb hK hP hD hS 4 0 rfl rfl h_28 dX0_takeBit_28 (fun H locs hP hD hS => ?_)
  have hP : va_P (dC, dI) vwCl (fq_wq h0 a1 a2 a3 a4 d (A0.1, A0.2.1, A0.2.2.1, (upd A0.2.2.2 ((p1 * (4 : Int32)) + (p2 >>> ((2 : Int32) &&& (31 : Int32)))).toNatClampNeg (vp_nar .byte (((A0.2.2.2 ((p1 * (4 : Int32)) + (p2 >>> ((2 : Int32) &&& (31 : Int32)))).toNatClampNeg) &&& (((1 : Int32) <<< ((p2 &&& (3 : Int32)) &&& (31 : Int32))) ^^^ (-1 : Int32))).toInt8.toInt32)))) mi mx ct) H := hP
  have hD : va_D A (fq_wq h0 a1 a2 a3 a4 d (A0.1, A0.2.1, A0.2.2.1, (upd A0.2.2.2 ((p1 * (4 : Int32)) + (p2 >>> ((2 : Int32) &&& (31 : Int32)))).toNatClampNeg (vp_nar .byte (((A0.2.2.2 ((p1 * (4 : Int32)) + (p2 >>> ((2 : Int32) &&& (31 : Int32)))).toNatClampNeg) &&& (((1 : Int32) <<< ((p2 &&& (3 : Int32)) &&& (31 : Int32))) ^^^ (-1 : Int32))).toInt8.toInt32)))) mi mx ct) := hD
  refine lv_aload_n hx hb dX0_takeBit_29 rfl (lv_at hl 1 rfl) ?_
  refine va_get (D := (dC, dI)) (ci := 0) (v := .ref a4) (C := RX0) (T := TX0) (N := 7) hx hb hts in_X0 hown hK hP 0 rfl rfl 3 (by decide) (hts _ q25) (fun _ h9 => h9) rfl dX0_takeBit_30 ?_
  refine lv_iload_n hx hb dX0_takeBit_33 rfl (lv_at hl 0 rfl) ?_
  have h_34 : vp_in ((p1 * (4 : Int32)) + (p2 >>> ((2 : Int32) &&& (31 : Int32)))) 68 := fq_ix1 hc hq
  refine va_bald (f := (upd A0.2.2.2 ((p1 * (4 : Int32)) + (p2 >>> ((2 : Int32) &&& (31 : Int32)))).toNatClampNeg (vp_nar .byte (((A0.2.2.2 ((p1 * (4 : Int32)) + (p2 >>> ((2 : Int32) &&& (31 : Int32)))).toNatClampNeg) &&& (((1 : Int32) <<< ((p2 &&& (3 : Int32)) &&& (31 : Int32))) ^^^ (-1 : Int32))).toInt8.toInt32)))) hx hb hK hP 4 0 rfl rfl h_34 dX0_takeBit_34 ?_
  refine lv_if_ne (tgt := 59) hx hb dX0_takeBit_35 (by decide) (fun c_35 => ?_) (fun c_35 => ?_)
  · skip
    exact W.vret hx hb hr (fun t ht hW => ⟨⟨(A0.1, A0.2.1, A0.2.2.1, (upd A0.2.2.2 ((p1 * (4 : Int32)) + (p2 >>> ((2 : Int32) &&& (31 : Int32)))).toNatClampNeg (vp_nar .byte (((A0.2.2.2 ((p1 * (4 : Int32)) + (p2 >>> ((2 : Int32) &&& (31 : Int32)))).toNatClampNeg) &&& (((1 : Int32) <<< ((p2 &&& (3 : Int32)) &&& (31 : Int32))) ^^^ (-1 : Int32))).toInt8.toInt32)))), rfl, (by rw [fq_takeBit, if_neg c_35]), (by rw [ht]; exact hP), va_K.moved hW.alike hK, hD⟩, hS.F ht⟩) hS.2.2 dX0_takeBit_59
  · skip
    refine lv_aload_n hx hb dX0_takeBit_38 rfl (lv_at hl 1 rfl) ?_
    refine va_get (D := (dC, dI)) (ci := 0) (v := .ref a3) (C := RX0) (T := TX0) (N := 7) hx hb hts in_X0 hown hK hP 0 rfl rfl 2 (by decide) (hts _ q24) (fun _ h9 => h9) rfl dX0_takeBit_39 ?_
    refine lv_iload_n hx hb dX0_takeBit_42 rfl (lv_at hl 2 rfl) ?_
    refine lv_aload_n hx hb dX0_takeBit_43 rfl (lv_at hl 1 rfl) ?_
    refine va_get (D := (dC, dI)) (ci := 0) (v := .ref a3) (C := RX0) (T := TX0) (N := 7) hx hb hts in_X0 hown hK hP 0 rfl rfl 2 (by decide) (hts _ q24) (fun _ h9 => h9) rfl dX0_takeBit_44 ?_
    refine lv_iload_n hx hb dX0_takeBit_47 rfl (lv_at hl 2 rfl) ?_
    have h_48 : vp_in p1 17 := hc
    refine va_bald (f := A0.2.2.1) hx hb hK hP 3 0 rfl rfl h_48 dX0_takeBit_48 ?_
    refine lv_iconst (v := 1) hx hb dX0_takeBit_49 (by decide) ?_
    refine lv_iload_n hx hb dX0_takeBit_50 rfl (lv_at hl 3 rfl) ?_
    refine lv_iconst (v := 2) hx hb dX0_takeBit_51 (by decide) ?_
    refine lv_ishr hx hb dX0_takeBit_52 ?_
    refine lv_ishl hx hb dX0_takeBit_53 ?_
    refine lv_iconst (v := -1) hx hb dX0_takeBit_54 (by decide) ?_
    refine lv_ixor hx hb dX0_takeBit_55 ?_
    refine lv_iand hx hb dX0_takeBit_56 ?_
    refine lv_i2b (v := ((A0.2.2.1 p1.toNatClampNeg) &&& (((1 : Int32) <<< ((p2 >>> ((2 : Int32) &&& (31 : Int32))) &&& (31 : Int32))) ^^^ (-1 : Int32))).toInt8.toInt32) hx hb dX0_takeBit_57 rfl ?_
    have h_58 : vp_in p1 17 := hc
    refine va_bast (f := A0.2.2.1) hx hb hK hP hD hS 3 0 rfl rfl h_58 dX0_takeBit_58 (fun H locs hP hD hS => ?_)
    have hP : va_P (dC, dI) vwCl (fq_wq h0 a1 a2 a3 a4 d (A0.1, A0.2.1, (upd A0.2.2.1 p1.toNatClampNeg (vp_nar .byte (((A0.2.2.1 p1.toNatClampNeg) &&& (((1 : Int32) <<< ((p2 >>> ((2 : Int32) &&& (31 : Int32))) &&& (31 : Int32))) ^^^ (-1 : Int32))).toInt8.toInt32))), (upd A0.2.2.2 ((p1 * (4 : Int32)) + (p2 >>> ((2 : Int32) &&& (31 : Int32)))).toNatClampNeg (vp_nar .byte (((A0.2.2.2 ((p1 * (4 : Int32)) + (p2 >>> ((2 : Int32) &&& (31 : Int32)))).toNatClampNeg) &&& (((1 : Int32) <<< ((p2 &&& (3 : Int32)) &&& (31 : Int32))) ^^^ (-1 : Int32))).toInt8.toInt32)))) mi mx ct) H := hP
    have hD : va_D A (fq_wq h0 a1 a2 a3 a4 d (A0.1, A0.2.1, (upd A0.2.2.1 p1.toNatClampNeg (vp_nar .byte (((A0.2.2.1 p1.toNatClampNeg) &&& (((1 : Int32) <<< ((p2 >>> ((2 : Int32) &&& (31 : Int32))) &&& (31 : Int32))) ^^^ (-1 : Int32))).toInt8.toInt32))), (upd A0.2.2.2 ((p1 * (4 : Int32)) + (p2 >>> ((2 : Int32) &&& (31 : Int32)))).toNatClampNeg (vp_nar .byte (((A0.2.2.2 ((p1 * (4 : Int32)) + (p2 >>> ((2 : Int32) &&& (31 : Int32)))).toNatClampNeg) &&& (((1 : Int32) <<< ((p2 &&& (3 : Int32)) &&& (31 : Int32))) ^^^ (-1 : Int32))).toInt8.toInt32)))) mi mx ct) := hD
    exact W.vret hx hb hr (fun t ht hW => ⟨⟨(A0.1, A0.2.1, (upd A0.2.2.1 p1.toNatClampNeg (vp_nar .byte (((A0.2.2.1 p1.toNatClampNeg) &&& (((1 : Int32) <<< ((p2 >>> ((2 : Int32) &&& (31 : Int32))) &&& (31 : Int32))) ^^^ (-1 : Int32))).toInt8.toInt32))), (upd A0.2.2.2 ((p1 * (4 : Int32)) + (p2 >>> ((2 : Int32) &&& (31 : Int32)))).toNatClampNeg (vp_nar .byte (((A0.2.2.2 ((p1 * (4 : Int32)) + (p2 >>> ((2 : Int32) &&& (31 : Int32)))).toNatClampNeg) &&& (((1 : Int32) <<< ((p2 &&& (3 : Int32)) &&& (31 : Int32))) ^^^ (-1 : Int32))).toInt8.toInt32)))), rfl, (by rw [fq_takeBit, if_pos c_35]), (by rw [ht]; exact hP), va_K.moved hW.alike hK, hD⟩, hS.F ht⟩) hS.2.2 dX0_takeBit_59
set_option maxHeartbeats 4000000 in
set_option maxRecDepth 100000 in
theorem fq_met_inCluster (l : Launch) (dC : Nat → ClassId) (dI : Nat → Nat → Nat) (h0 a1 a2 a3 a4 : Nat) (d : ClassId) (sz : Nat) (A0 : fq_A4) (mi mx ct : Int32) (p1 p2 : Int32) (hc : vp_in p1 17) (hq : vp_in p2 16) : Met l yX0_inCluster (ws_ yX0_inCluster cX0_inCluster 3 (some .boolean)) ({ frames := 0, cells := 0, slots := 0, locals := 0 }) (va_Pc [.ref h0, .int p1, .int p2] (fq_PQ dC dI sz (fq_wq h0 a1 a2 a3 a4 d A0 mi mx ct) [(d, .byte)])) (va_Qi (fun (r : Int32) (_ : Unit) => r = fq_inCluster A0 p1 p2) (fun _ => fq_BQ dC dI (va_A (fq_wq h0 a1 a2 a3 a4 d A0 mi mx ct) sz) (fq_wq h0 a1 a2 a3 a4 d A0 mi mx ct) [(d, .byte)]) (va_A (fq_wq h0 a1 a2 a3 a4 d A0 mi mx ct) sz)) 0 0 (va_A (fq_wq h0 a1 a2 a3 a4 d A0 mi mx ct) sz) := by
  refine Met.ofW (cc := cX0_inCluster) (maxL := 3) (ret := (some .boolean)) (by decide) rfl ?_
  intro p e s m args below meth c s₁ B hml hv
  obtain ⟨rfl, hsz, hP, hK, hD0⟩ := hv
  have hx := B.exec
  have hb := B.bytes
  have hr := B.returns
  have hts := atoms_spec (ws := ws_ yX0_inCluster cX0_inCluster 3 (some .boolean)) B.pre
  have hts : ∀ w ∈ lw_all, w.before _ s = true := fun w h => hts w (List.mem_cons_of_mem _ h)
  have hown : s.vm.findClass RX0 = some m.cls := findClass_of_methodNamed B.named
  have hlocks := B.notSynchronized
  subst hsz
  have hD := hD0.self (sz := s.heap.size)
  generalize hAe : va_A (fq_wq h0 a1 a2 a3 a4 d A0 mi mx ct) s.heap.size = A at hD ⊢
  have hA : ∀ q : Nat, s.heap.size ≤ q → A q := fun q h => by rw [← hAe]; exact Or.inr h
  have hS : va_S A s.heap s.heap [] := va_S.rf
  have hP : va_P (dC, dI) vwCl (fq_wq h0 a1 a2 a3 a4 d A0 mi mx ct) s.heap := hP
  have hl := lv_entry ([.ref h0, .int p1, .int p2]) (n := 3) (Nat.le_of_ble_eq_true rfl)
  rw [lg_entry_eq]
  generalize (lg_sl ([.ref h0, .int p1, .int p2]) ++ List.replicate (3 - (lg_sl ([.ref h0, .int p1, .int p2])).length) Slot.unset).toArray = ls0 at hl ⊢
  have hl : lv_has ls0 3 [(0, .ref h0), (1, .int p1), (2, .int p2)] := hl
  refine lv_aload_n hx hb dX0_inCluster_0 rfl (lv_at hl 0 rfl) ?_
  refine va_get (D := (dC, dI)) (ci := 0) (v := .ref a1) (C := RX0) (T := TX0) (N := 7) hx hb hts in_X0 hown hK hP 0 rfl rfl 0 (by decide) (hts _ q22) (fun _ h9 => h9) rfl dX0_inCluster_1 ?_
  refine lv_iload_n hx hb dX0_inCluster_4 rfl (lv_at hl 1 rfl) ?_
  have h_5 : vp_in p1 17 := hc
  refine va_bald (f := A0.1) hx hb hK hP 1 0 rfl rfl h_5 dX0_inCluster_5 ?_
  refine lv_iload_n hx hb dX0_inCluster_6 rfl (lv_at hl 2 rfl) ?_
  refine lv_icmp_eq (tgt := 31) hx hb dX0_inCluster_7 (by decide) (fun c_7 => ?_) (fun c_7 => ?_)
  · skip
    refine lv_iconst (v := 1) hx hb dX0_inCluster_31 (by decide) ?_
    refine lv_goto (tgt := 36) hx hb dX0_inCluster_32 (by decide) ?_
    exact W.zret (v := (1 : Int32)) hx hb hr rfl (fun t ht hW => ⟨⟨(1 : Int32), (), rfl, (by rw [fq_inCluster, if_pos c_7]), (by rw [ht]; exact hP), va_K.moved hW.alike hK, hD⟩, hS.F ht⟩) hS.2.2 dX0_inCluster_36
  · skip
    refine lv_aload_n hx hb dX0_inCluster_10 rfl (lv_at hl 0 rfl) ?_
    refine va_get (D := (dC, dI)) (ci := 0) (v := .ref a4) (C := RX0) (T := TX0) (N := 7) hx hb hts in_X0 hown hK hP 0 rfl rfl 3 (by decide) (hts _ q25) (fun _ h9 => h9) rfl dX0_inCluster_11 ?_
    refine lv_iload_n hx hb dX0_inCluster_14 rfl (lv_at hl 1 rfl) ?_
    refine lv_iconst (v := 4) hx hb dX0_inCluster_15 (by decide) ?_
    refine lv_imul hx hb dX0_inCluster_16 ?_
    refine lv_iload_n hx hb dX0_inCluster_17 rfl (lv_at hl 2 rfl) ?_
    refine lv_iconst (v := 2) hx hb dX0_inCluster_18 (by decide) ?_
    refine lv_ishr hx hb dX0_inCluster_19 ?_
    refine lv_iadd hx hb dX0_inCluster_20 ?_
    have h_21 : vp_in ((p1 * (4 : Int32)) + (p2 >>> ((2 : Int32) &&& (31 : Int32)))) 68 := fq_ix1 hc hq
    refine va_bald (f := A0.2.2.2) hx hb hK hP 4 0 rfl rfl h_21 dX0_inCluster_21 ?_
    refine lv_iload_n hx hb dX0_inCluster_22 rfl (lv_at hl 2 rfl) ?_
    refine lv_iconst (v := 3) hx hb dX0_inCluster_23 (by decide) ?_
    refine lv_iand hx hb dX0_inCluster_24 ?_
    refine lv_ishr hx hb dX0_inCluster_25 ?_
    refine lv_iconst (v := 1) hx hb dX0_inCluster_26 (by decide) ?_
    refine lv_iand hx hb dX0_inCluster_27 ?_
    refine lv_if_eq (tgt := 35) hx hb dX0_inCluster_28 (by decide) (fun c_28 => ?_) (fun c_28 => ?_)
    · skip
      refine lv_iconst (v := 0) hx hb dX0_inCluster_35 (by decide) ?_
      exact W.zret (v := (0 : Int32)) hx hb hr rfl (fun t ht hW => ⟨⟨(0 : Int32), (), rfl, (by rw [fq_inCluster, if_neg c_7, if_pos c_28]), (by rw [ht]; exact hP), va_K.moved hW.alike hK, hD⟩, hS.F ht⟩) hS.2.2 dX0_inCluster_36
    · skip
      refine lv_iconst (v := 1) hx hb dX0_inCluster_31 (by decide) ?_
      refine lv_goto (tgt := 36) hx hb dX0_inCluster_32 (by decide) ?_
      exact W.zret (v := (1 : Int32)) hx hb hr rfl (fun t ht hW => ⟨⟨(1 : Int32), (), rfl, (by rw [fq_inCluster, if_neg c_7, if_neg c_28]), (by rw [ht]; exact hP), va_K.moved hW.alike hK, hD⟩, hS.F ht⟩) hS.2.2 dX0_inCluster_36
set_option maxHeartbeats 4000000 in
set_option maxRecDepth 100000 in
theorem fq_met_insertInto (l : Launch) (dC : Nat → ClassId) (dI : Nat → Nat → Nat) (h0 a1 a2 a3 a4 : Nat) (d : ClassId) (sz : Nat) (A0 : fq_A4) (mi mx ct : Int32) (p1 p2 : Int32) (hc : vp_in p1 17) (hq : vp_in p2 16) (hRl : fq_RI A0.1) : Met l yX0_insertInto (ws_ yX0_insertInto cX0_insertInto 4 none) ({ frames := 1, cells := 0, slots := 0, locals := 23 }) (va_Pc [.ref h0, .int p1, .int p2] (fq_PQ dC dI sz (fq_wq h0 a1 a2 a3 a4 d A0 mi mx ct) [(d, .byte)])) (va_Qv (fun u : fq_A4 => u = fq_insertInto A0 p1 p2) (fun u => fq_BQ dC dI (va_A (fq_wq h0 a1 a2 a3 a4 d A0 mi mx ct) sz) (fq_wq h0 a1 a2 a3 a4 d u mi mx ct) [(d, .byte)]) (va_A (fq_wq h0 a1 a2 a3 a4 d A0 mi mx ct) sz)) 0 0 (va_A (fq_wq h0 a1 a2 a3 a4 d A0 mi mx ct) sz) := by
  refine Met.ofW (cc := cX0_insertInto) (maxL := 4) (ret := none) (by decide) rfl ?_
  intro p e s m args below meth c s₁ B hml hv
  obtain ⟨rfl, hsz, hP, hK, hD0⟩ := hv
  have hx := B.exec
  have hb := B.bytes
  have hr := B.returns
  have hts := atoms_spec (ws := ws_ yX0_insertInto cX0_insertInto 4 none) B.pre
  have hts : ∀ w ∈ lw_all, w.before _ s = true := fun w h => hts w (List.mem_cons_of_mem _ h)
  have hown : s.vm.findClass RX0 = some m.cls := findClass_of_methodNamed B.named
  have hlocks := B.notSynchronized
  subst hsz
  have hD := hD0.self (sz := s.heap.size)
  generalize hAe : va_A (fq_wq h0 a1 a2 a3 a4 d A0 mi mx ct) s.heap.size = A at hD ⊢
  have hA : ∀ q : Nat, s.heap.size ≤ q → A q := fun q h => by rw [← hAe]; exact Or.inr h
  have hS : va_S A s.heap s.heap [] := va_S.rf
  have hP : va_P (dC, dI) vwCl (fq_wq h0 a1 a2 a3 a4 d A0 mi mx ct) s.heap := hP
  have hl := lv_entry ([.ref h0, .int p1, .int p2]) (n := 4) (Nat.le_of_ble_eq_true rfl)
  rw [lg_entry_eq]
  generalize (lg_sl ([.ref h0, .int p1, .int p2]) ++ List.replicate (4 - (lg_sl ([.ref h0, .int p1, .int p2])).length) Slot.unset).toArray = ls0 at hl ⊢
  have hl : lv_has ls0 4 [(0, .ref h0), (1, .int p1), (2, .int p2)] := hl
  refine lv_aload_n hx hb dX0_insertInto_0 rfl (lv_at hl 0 rfl) ?_
  refine va_get (D := (dC, dI)) (ci := 0) (v := .ref a1) (C := RX0) (T := TX0) (N := 7) hx hb hts in_X0 hown hK hP 0 rfl rfl 0 (by decide) (hts _ q22) (fun _ h9 => h9) rfl dX0_insertInto_1 ?_
  refine lv_iload_n hx hb dX0_insertInto_4 rfl (lv_at hl 1 rfl) ?_
  have h_5 : vp_in p1 17 := hc
  refine va_bald (f := A0.1) hx hb hK hP 1 0 rfl rfl h_5 dX0_insertInto_5 ?_
  refine lv_if_ge (tgt := 26) hx hb dX0_insertInto_6 (by decide) (fun c_6 => ?_) (fun c_6 => ?_)
  · skip
    refine lv_iload_n hx hb dX0_insertInto_26 rfl (lv_at hl 2 rfl) ?_
    refine lv_istore_n (lv' := [(3, .int p2), (0, .ref h0), (1, .int p1), (2, .int p2)]) hx hb dX0_insertInto_27 rfl hl (by decide) rfl (fun ls hl => ?_)
    refine lv_iload_n hx hb dX0_insertInto_28 rfl (lv_at hl 3 rfl) ?_
    refine lv_aload_n hx hb dX0_insertInto_29 rfl (lv_at hl 1 rfl) ?_
    refine va_get (D := (dC, dI)) (ci := 0) (v := .ref a1) (C := RX0) (T := TX0) (N := 7) hx hb hts in_X0 hown hK hP 0 rfl rfl 0 (by decide) (hts _ q22) (fun _ h9 => h9) rfl dX0_insertInto_30 ?_
    refine lv_iload_n hx hb dX0_insertInto_33 rfl (lv_at hl 2 rfl) ?_
    have h_34 : vp_in p1 17 := hc
    refine va_bald (f := A0.1) hx hb hK hP 1 0 rfl rfl h_34 dX0_insertInto_34 ?_
    refine lv_icmp_ge (tgt := 53) hx hb dX0_insertInto_35 (by decide) (fun c_35 => ?_) (fun c_35 => ?_)
    · skip
      refine lv_aload_n hx hb dX0_insertInto_53 rfl (lv_at hl 1 rfl) ?_
      refine lv_iload_n hx hb dX0_insertInto_54 rfl (lv_at hl 2 rfl) ?_
      refine lv_iload_n hx hb dX0_insertInto_55 rfl (lv_at hl 0 rfl) ?_
      have hFc := va_free (wc := fq_wq h0 a1 a2 a3 a4 d A0 mi mx ct) hD hS hA [0, 1, 2, 3, 4] rfl
      refine va_callv (va_runV (As := [.int p1, .int p2]) (rest := []) ⟨hx, hb, hml, hown, hts⟩ (fq_met_putBit l dC dI h0 a1 a2 a3 a4 d s.heap.size A0 mi mx ct p1 p2 hc hq) (cwV 2 hts (lw_V q61 q63 qs2 q12 q64) rfl rfl rfl (by decide +kernel) ⟨Nat.le_of_ble_eq_true rfl, Nat.le_of_ble_eq_true rfl⟩) ⟨fq_blind, va_recv hK hP (ci := 0) (q0 := 0) rfl rfl, fun U hU hW => ⟨rfl, by rw [hU], by rw [hU]; exact hP, va_K.moved hW.alike hK, hD.weaken (fun _ _ _ _ => trivial)⟩⟩ rfl rfl hl.1 rfl (lv_room (Nat.le_of_ble_eq_true rfl)) dX0_insertInto_56 ⟨Nat.le_of_ble_eq_true rfl, Nat.le_of_ble_eq_true rfl⟩) hS (fun q _ h => hFc q h) hFc (fun u_56 t H1 locs ht hvm hw hB hz1 hk1 hS => ?_)
      have hw : u_56 = (fq_putBit A0 p1 p2) := hw
      subst hw
      obtain ⟨hP1, hK1, hD1⟩ := hB
      rw [ht] at hP1
      have hP : va_P (dC, dI) vwCl (fq_wq h0 a1 a2 a3 a4 d (fq_putBit A0 p1 p2) mi mx ct) H1 := hP1
      have hD : va_D A (fq_wq h0 a1 a2 a3 a4 d (fq_putBit A0 p1 p2) mi mx ct) := hD1.weaken (fun _ _ _ h => hFc _ h)
      generalize H1 = H at hP hS ⊢
      refine lv_iload_n hx hb dX0_insertInto_59 rfl (lv_at hl 0 rfl) ?_
      refine lv_aload_n hx hb dX0_insertInto_60 rfl (lv_at hl 1 rfl) ?_
      refine va_get (D := (dC, dI)) (ci := 0) (v := .ref a2) (C := RX0) (T := TX0) (N := 7) hx hb hts in_X0 hown hK hP 0 rfl rfl 1 (by decide) (hts _ q23) (fun _ h9 => h9) rfl dX0_insertInto_61 ?_
      refine lv_iload_n hx hb dX0_insertInto_64 rfl (lv_at hl 2 rfl) ?_
      have h_65 : vp_in p1 17 := hc
      refine va_bald (f := (fq_putBit A0 p1 p2).2.1) hx hb hK hP 2 0 rfl rfl h_65 dX0_insertInto_65 ?_
      refine lv_icmp_le (tgt := 77) hx hb dX0_insertInto_66 (by decide) (fun c_66 => ?_) (fun c_66 => ?_)
      · skip
        exact W.vret hx hb hr (fun t ht hW => ⟨⟨(fq_putBit A0 p1 p2), rfl, (by rw [fq_insertInto, if_pos c_6, if_pos c_35, if_pos c_66]), (by rw [ht]; exact hP), va_K.moved hW.alike hK, hD⟩, hS.F ht⟩) hS.2.2 dX0_insertInto_77
      · skip
        refine lv_aload_n hx hb dX0_insertInto_69 rfl (lv_at hl 1 rfl) ?_
        refine va_get (D := (dC, dI)) (ci := 0) (v := .ref a2) (C := RX0) (T := TX0) (N := 7) hx hb hts in_X0 hown hK hP 0 rfl rfl 1 (by decide) (hts _ q23) (fun _ h9 => h9) rfl dX0_insertInto_70 ?_
        refine lv_iload_n hx hb dX0_insertInto_73 rfl (lv_at hl 2 rfl) ?_
        refine lv_iload_n hx hb dX0_insertInto_74 rfl (lv_at hl 0 rfl) ?_
        refine lv_i2b (v := p2.toInt8.toInt32) hx hb dX0_insertInto_75 rfl ?_
        have h_76 : vp_in p1 17 := hc
        refine va_bast (f := (fq_putBit A0 p1 p2).2.1) hx hb hK hP hD hS 2 0 rfl rfl h_76 dX0_insertInto_76 (fun H locs hP hD hS => ?_)
        have hP : va_P (dC, dI) vwCl (fq_wq h0 a1 a2 a3 a4 d ((fq_putBit A0 p1 p2).1, (upd ((fq_putBit A0 p1 p2).2.1) p1.toNatClampNeg (vp_nar .byte p2.toInt8.toInt32)), (fq_putBit A0 p1 p2).2.2.1, (fq_putBit A0 p1 p2).2.2.2) mi mx ct) H := hP
        have hD : va_D A (fq_wq h0 a1 a2 a3 a4 d ((fq_putBit A0 p1 p2).1, (upd ((fq_putBit A0 p1 p2).2.1) p1.toNatClampNeg (vp_nar .byte p2.toInt8.toInt32)), (fq_putBit A0 p1 p2).2.2.1, (fq_putBit A0 p1 p2).2.2.2) mi mx ct) := hD
        exact W.vret hx hb hr (fun t ht hW => ⟨⟨((fq_putBit A0 p1 p2).1, (upd ((fq_putBit A0 p1 p2).2.1) p1.toNatClampNeg (vp_nar .byte p2.toInt8.toInt32)), (fq_putBit A0 p1 p2).2.2.1, (fq_putBit A0 p1 p2).2.2.2), rfl, (by rw [fq_insertInto, if_pos c_6, if_pos c_35, if_neg c_66]), (by rw [ht]; exact hP), va_K.moved hW.alike hK, hD⟩, hS.F ht⟩) hS.2.2 dX0_insertInto_77
    · skip
      refine lv_aload_n hx hb dX0_insertInto_38 rfl (lv_at hl 1 rfl) ?_
      refine va_get (D := (dC, dI)) (ci := 0) (v := .ref a1) (C := RX0) (T := TX0) (N := 7) hx hb hts in_X0 hown hK hP 0 rfl rfl 0 (by decide) (hts _ q22) (fun _ h9 => h9) rfl dX0_insertInto_39 ?_
      refine lv_iload_n hx hb dX0_insertInto_42 rfl (lv_at hl 2 rfl) ?_
      have h_43 : vp_in p1 17 := hc
      refine va_bald (f := A0.1) hx hb hK hP 1 0 rfl rfl h_43 dX0_insertInto_43 ?_
      refine lv_istore_n (lv' := [(3, .int (A0.1 p1.toNatClampNeg)), (0, .ref h0), (1, .int p1), (2, .int p2)]) hx hb dX0_insertInto_44 rfl hl (by decide) rfl (fun ls hl => ?_)
      refine lv_aload_n hx hb dX0_insertInto_45 rfl (lv_at hl 1 rfl) ?_
      refine va_get (D := (dC, dI)) (ci := 0) (v := .ref a1) (C := RX0) (T := TX0) (N := 7) hx hb hts in_X0 hown hK hP 0 rfl rfl 0 (by decide) (hts _ q22) (fun _ h9 => h9) rfl dX0_insertInto_46 ?_
      refine lv_iload_n hx hb dX0_insertInto_49 rfl (lv_at hl 2 rfl) ?_
      refine lv_iload_n hx hb dX0_insertInto_50 rfl (lv_at hl 3 rfl) ?_
      refine lv_i2b (v := p2.toInt8.toInt32) hx hb dX0_insertInto_51 rfl ?_
      have h_52 : vp_in p1 17 := hc
      refine va_bast (f := A0.1) hx hb hK hP hD hS 1 0 rfl rfl h_52 dX0_insertInto_52 (fun H locs hP hD hS => ?_)
      have hP : va_P (dC, dI) vwCl (fq_wq h0 a1 a2 a3 a4 d ((upd A0.1 p1.toNatClampNeg (vp_nar .byte p2.toInt8.toInt32)), A0.2.1, A0.2.2.1, A0.2.2.2) mi mx ct) H := hP
      have hD : va_D A (fq_wq h0 a1 a2 a3 a4 d ((upd A0.1 p1.toNatClampNeg (vp_nar .byte p2.toInt8.toInt32)), A0.2.1, A0.2.2.1, A0.2.2.2) mi mx ct) := hD
      refine lv_aload_n hx hb dX0_insertInto_53 rfl (lv_at hl 1 rfl) ?_
      refine lv_iload_n hx hb dX0_insertInto_54 rfl (lv_at hl 2 rfl) ?_
      refine lv_iload_n hx hb dX0_insertInto_55 rfl (lv_at hl 0 rfl) ?_
      have hFc := va_free (wc := fq_wq h0 a1 a2 a3 a4 d ((upd A0.1 p1.toNatClampNeg (vp_nar .byte p2.toInt8.toInt32)), A0.2.1, A0.2.2.1, A0.2.2.2) mi mx ct) hD hS hA [0, 1, 2, 3, 4] rfl
      refine va_callv (va_runV (As := [.int p1, .int (A0.1 p1.toNatClampNeg)]) (rest := []) ⟨hx, hb, hml, hown, hts⟩ (fq_met_putBit l dC dI h0 a1 a2 a3 a4 d H.size ((upd A0.1 p1.toNatClampNeg (vp_nar .byte p2.toInt8.toInt32)), A0.2.1, A0.2.2.1, A0.2.2.2) mi mx ct p1 (A0.1 p1.toNatClampNeg) hc (fq_RI_in hRl hc c_6)) (cwV 2 hts (lw_V q61 q63 qs2 q12 q64) rfl rfl rfl (by decide +kernel) ⟨Nat.le_of_ble_eq_true rfl, Nat.le_of_ble_eq_true rfl⟩) ⟨fq_blind, va_recv hK hP (ci := 0) (q0 := 0) rfl rfl, fun U hU hW => ⟨rfl, by rw [hU], by rw [hU]; exact hP, va_K.moved hW.alike hK, hD.weaken (fun _ _ _ _ => trivial)⟩⟩ rfl rfl hl.1 rfl (lv_room (Nat.le_of_ble_eq_true rfl)) dX0_insertInto_56 ⟨Nat.le_of_ble_eq_true rfl, Nat.le_of_ble_eq_true rfl⟩) hS (fun q _ h => hFc q h) hFc (fun u_56 t H1 locs ht hvm hw hB hz1 hk1 hS => ?_)
      have hw : u_56 = (fq_putBit ((upd A0.1 p1.toNatClampNeg (vp_nar .byte p2.toInt8.toInt32)), A0.2.1, A0.2.2.1, A0.2.2.2) p1 (A0.1 p1.toNatClampNeg)) := hw
      subst hw
      obtain ⟨hP1, hK1, hD1⟩ := hB
      rw [ht] at hP1
      have hP : va_P (dC, dI) vwCl (fq_wq h0 a1 a2 a3 a4 d (fq_putBit ((upd A0.1 p1.toNatClampNeg (vp_nar .byte p2.toInt8.toInt32)), A0.2.1, A0.2.2.1, A0.2.2.2) p1 (A0.1 p1.toNatClampNeg)) mi mx ct) H1 := hP1
      have hD : va_D A (fq_wq h0 a1 a2 a3 a4 d (fq_putBit ((upd A0.1 p1.toNatClampNeg (vp_nar .byte p2.toInt8.toInt32)), A0.2.1, A0.2.2.1, A0.2.2.2) p1 (A0.1 p1.toNatClampNeg)) mi mx ct) := hD1.weaken (fun _ _ _ h => hFc _ h)
      generalize H1 = H at hP hS ⊢
      refine lv_iload_n hx hb dX0_insertInto_59 rfl (lv_at hl 0 rfl) ?_
      refine lv_aload_n hx hb dX0_insertInto_60 rfl (lv_at hl 1 rfl) ?_
      refine va_get (D := (dC, dI)) (ci := 0) (v := .ref a2) (C := RX0) (T := TX0) (N := 7) hx hb hts in_X0 hown hK hP 0 rfl rfl 1 (by decide) (hts _ q23) (fun _ h9 => h9) rfl dX0_insertInto_61 ?_
      refine lv_iload_n hx hb dX0_insertInto_64 rfl (lv_at hl 2 rfl) ?_
      have h_65 : vp_in p1 17 := hc
      refine va_bald (f := (fq_putBit ((upd A0.1 p1.toNatClampNeg (vp_nar .byte p2.toInt8.toInt32)), A0.2.1, A0.2.2.1, A0.2.2.2) p1 (A0.1 p1.toNatClampNeg)).2.1) hx hb hK hP 2 0 rfl rfl h_65 dX0_insertInto_65 ?_
      refine lv_icmp_le (tgt := 77) hx hb dX0_insertInto_66 (by decide) (fun c_66 => ?_) (fun c_66 => ?_)
      · skip
        exact W.vret hx hb hr (fun t ht hW => ⟨⟨(fq_putBit ((upd A0.1 p1.toNatClampNeg (vp_nar .byte p2.toInt8.toInt32)), A0.2.1, A0.2.2.1, A0.2.2.2) p1 (A0.1 p1.toNatClampNeg)), rfl, (by rw [fq_insertInto, if_pos c_6, if_neg c_35, if_pos c_66]), (by rw [ht]; exact hP), va_K.moved hW.alike hK, hD⟩, hS.F ht⟩) hS.2.2 dX0_insertInto_77
      · skip
        refine lv_aload_n hx hb dX0_insertInto_69 rfl (lv_at hl 1 rfl) ?_
        refine va_get (D := (dC, dI)) (ci := 0) (v := .ref a2) (C := RX0) (T := TX0) (N := 7) hx hb hts in_X0 hown hK hP 0 rfl rfl 1 (by decide) (hts _ q23) (fun _ h9 => h9) rfl dX0_insertInto_70 ?_
        refine lv_iload_n hx hb dX0_insertInto_73 rfl (lv_at hl 2 rfl) ?_
        refine lv_iload_n hx hb dX0_insertInto_74 rfl (lv_at hl 0 rfl) ?_
        refine lv_i2b (v := (A0.1 p1.toNatClampNeg).toInt8.toInt32) hx hb dX0_insertInto_75 rfl ?_
        have h_76 : vp_in p1 17 := hc
        refine va_bast (f := (fq_putBit ((upd A0.1 p1.toNatClampNeg (vp_nar .byte p2.toInt8.toInt32)), A0.2.1, A0.2.2.1, A0.2.2.2) p1 (A0.1 p1.toNatClampNeg)).2.1) hx hb hK hP hD hS 2 0 rfl rfl h_76 dX0_insertInto_76 (fun H locs hP hD hS => ?_)
        have hP : va_P (dC, dI) vwCl (fq_wq h0 a1 a2 a3 a4 d ((fq_putBit ((upd A0.1 p1.toNatClampNeg (vp_nar .byte p2.toInt8.toInt32)), A0.2.1, A0.2.2.1, A0.2.2.2) p1 (A0.1 p1.toNatClampNeg)).1, (upd ((fq_putBit ((upd A0.1 p1.toNatClampNeg (vp_nar .byte p2.toInt8.toInt32)), A0.2.1, A0.2.2.1, A0.2.2.2) p1 (A0.1 p1.toNatClampNeg)).2.1) p1.toNatClampNeg (vp_nar .byte ((A0.1 p1.toNatClampNeg).toInt8.toInt32))), (fq_putBit ((upd A0.1 p1.toNatClampNeg (vp_nar .byte p2.toInt8.toInt32)), A0.2.1, A0.2.2.1, A0.2.2.2) p1 (A0.1 p1.toNatClampNeg)).2.2.1, (fq_putBit ((upd A0.1 p1.toNatClampNeg (vp_nar .byte p2.toInt8.toInt32)), A0.2.1, A0.2.2.1, A0.2.2.2) p1 (A0.1 p1.toNatClampNeg)).2.2.2) mi mx ct) H := hP
        have hD : va_D A (fq_wq h0 a1 a2 a3 a4 d ((fq_putBit ((upd A0.1 p1.toNatClampNeg (vp_nar .byte p2.toInt8.toInt32)), A0.2.1, A0.2.2.1, A0.2.2.2) p1 (A0.1 p1.toNatClampNeg)).1, (upd ((fq_putBit ((upd A0.1 p1.toNatClampNeg (vp_nar .byte p2.toInt8.toInt32)), A0.2.1, A0.2.2.1, A0.2.2.2) p1 (A0.1 p1.toNatClampNeg)).2.1) p1.toNatClampNeg (vp_nar .byte ((A0.1 p1.toNatClampNeg).toInt8.toInt32))), (fq_putBit ((upd A0.1 p1.toNatClampNeg (vp_nar .byte p2.toInt8.toInt32)), A0.2.1, A0.2.2.1, A0.2.2.2) p1 (A0.1 p1.toNatClampNeg)).2.2.1, (fq_putBit ((upd A0.1 p1.toNatClampNeg (vp_nar .byte p2.toInt8.toInt32)), A0.2.1, A0.2.2.1, A0.2.2.2) p1 (A0.1 p1.toNatClampNeg)).2.2.2) mi mx ct) := hD
        exact W.vret hx hb hr (fun t ht hW => ⟨⟨((fq_putBit ((upd A0.1 p1.toNatClampNeg (vp_nar .byte p2.toInt8.toInt32)), A0.2.1, A0.2.2.1, A0.2.2.2) p1 (A0.1 p1.toNatClampNeg)).1, (upd ((fq_putBit ((upd A0.1 p1.toNatClampNeg (vp_nar .byte p2.toInt8.toInt32)), A0.2.1, A0.2.2.1, A0.2.2.2) p1 (A0.1 p1.toNatClampNeg)).2.1) p1.toNatClampNeg (vp_nar .byte ((A0.1 p1.toNatClampNeg).toInt8.toInt32))), (fq_putBit ((upd A0.1 p1.toNatClampNeg (vp_nar .byte p2.toInt8.toInt32)), A0.2.1, A0.2.2.1, A0.2.2.2) p1 (A0.1 p1.toNatClampNeg)).2.2.1, (fq_putBit ((upd A0.1 p1.toNatClampNeg (vp_nar .byte p2.toInt8.toInt32)), A0.2.1, A0.2.2.1, A0.2.2.2) p1 (A0.1 p1.toNatClampNeg)).2.2.2), rfl, (by rw [fq_insertInto, if_pos c_6, if_neg c_35, if_neg c_66]), (by rw [ht]; exact hP), va_K.moved hW.alike hK, hD⟩, hS.F ht⟩) hS.2.2 dX0_insertInto_77
  · skip
    refine lv_aload_n hx hb dX0_insertInto_9 rfl (lv_at hl 0 rfl) ?_
    refine va_get (D := (dC, dI)) (ci := 0) (v := .ref a1) (C := RX0) (T := TX0) (N := 7) hx hb hts in_X0 hown hK hP 0 rfl rfl 0 (by decide) (hts _ q22) (fun _ h9 => h9) rfl dX0_insertInto_10 ?_
    refine lv_iload_n hx hb dX0_insertInto_13 rfl (lv_at hl 1 rfl) ?_
    refine lv_iload_n hx hb dX0_insertInto_14 rfl (lv_at hl 2 rfl) ?_
    refine lv_i2b (v := p2.toInt8.toInt32) hx hb dX0_insertInto_15 rfl ?_
    have h_16 : vp_in p1 17 := hc
    refine va_bast (f := A0.1) hx hb hK hP hD hS 1 0 rfl rfl h_16 dX0_insertInto_16 (fun H locs hP hD hS => ?_)
    have hP : va_P (dC, dI) vwCl (fq_wq h0 a1 a2 a3 a4 d ((upd A0.1 p1.toNatClampNeg (vp_nar .byte p2.toInt8.toInt32)), A0.2.1, A0.2.2.1, A0.2.2.2) mi mx ct) H := hP
    have hD : va_D A (fq_wq h0 a1 a2 a3 a4 d ((upd A0.1 p1.toNatClampNeg (vp_nar .byte p2.toInt8.toInt32)), A0.2.1, A0.2.2.1, A0.2.2.2) mi mx ct) := hD
    refine lv_aload_n hx hb dX0_insertInto_17 rfl (lv_at hl 0 rfl) ?_
    refine va_get (D := (dC, dI)) (ci := 0) (v := .ref a2) (C := RX0) (T := TX0) (N := 7) hx hb hts in_X0 hown hK hP 0 rfl rfl 1 (by decide) (hts _ q23) (fun _ h9 => h9) rfl dX0_insertInto_18 ?_
    refine lv_iload_n hx hb dX0_insertInto_21 rfl (lv_at hl 1 rfl) ?_
    refine lv_iload_n hx hb dX0_insertInto_22 rfl (lv_at hl 2 rfl) ?_
    refine lv_i2b (v := p2.toInt8.toInt32) hx hb dX0_insertInto_23 rfl ?_
    have h_24 : vp_in p1 17 := hc
    refine va_bast (f := A0.2.1) hx hb hK hP hD hS 2 0 rfl rfl h_24 dX0_insertInto_24 (fun H locs hP hD hS => ?_)
    have hP : va_P (dC, dI) vwCl (fq_wq h0 a1 a2 a3 a4 d ((upd A0.1 p1.toNatClampNeg (vp_nar .byte p2.toInt8.toInt32)), (upd A0.2.1 p1.toNatClampNeg (vp_nar .byte p2.toInt8.toInt32)), A0.2.2.1, A0.2.2.2) mi mx ct) H := hP
    have hD : va_D A (fq_wq h0 a1 a2 a3 a4 d ((upd A0.1 p1.toNatClampNeg (vp_nar .byte p2.toInt8.toInt32)), (upd A0.2.1 p1.toNatClampNeg (vp_nar .byte p2.toInt8.toInt32)), A0.2.2.1, A0.2.2.2) mi mx ct) := hD
    exact W.vret hx hb hr (fun t ht hW => ⟨⟨((upd A0.1 p1.toNatClampNeg (vp_nar .byte p2.toInt8.toInt32)), (upd A0.2.1 p1.toNatClampNeg (vp_nar .byte p2.toInt8.toInt32)), A0.2.2.1, A0.2.2.2), rfl, (by rw [fq_insertInto, if_neg c_6]), (by rw [ht]; exact hP), va_K.moved hW.alike hK, hD⟩, hS.F ht⟩) hS.2.2 dX0_insertInto_25
set_option maxHeartbeats 4000000 in
set_option maxRecDepth 100000 in
theorem fq_met_leastInParts (l : Launch) (dC : Nat → ClassId) (dI : Nat → Nat → Nat) (h0 a1 a2 a3 a4 : Nat) (d : ClassId) (sz : Nat) (A0 : fq_A4) (mi mx ct : Int32) (p1 : Int32) (hc : vp_in p1 17) : Met l yX0_leastInParts (ws_ yX0_leastInParts cX0_leastInParts 4 (some .int)) ({ frames := 1, cells := 0, slots := 0, locals := 20 }) (va_Pc [.ref h0, .int p1] (fq_PQ dC dI sz (fq_wq h0 a1 a2 a3 a4 d A0 mi mx ct) [(d, .byte)])) (va_Qi (fun (r : Int32) (_ : Unit) => r = fq_leastInParts A0 p1) (fun _ => fq_BQ dC dI (va_A (fq_wq h0 a1 a2 a3 a4 d A0 mi mx ct) sz) (fq_wq h0 a1 a2 a3 a4 d A0 mi mx ct) [(d, .byte)]) (va_A (fq_wq h0 a1 a2 a3 a4 d A0 mi mx ct) sz)) 0 0 (va_A (fq_wq h0 a1 a2 a3 a4 d A0 mi mx ct) sz) := by
  refine Met.ofW (cc := cX0_leastInParts) (maxL := 4) (ret := (some .int)) (by decide) rfl ?_
  intro p e s m args below meth c s₁ B hml hv
  obtain ⟨rfl, hsz, hP, hK, hD0⟩ := hv
  have hx := B.exec
  have hb := B.bytes
  have hr := B.returns
  have hts := atoms_spec (ws := ws_ yX0_leastInParts cX0_leastInParts 4 (some .int)) B.pre
  have hts : ∀ w ∈ lw_all, w.before _ s = true := fun w h => hts w (List.mem_cons_of_mem _ h)
  have hown : s.vm.findClass RX0 = some m.cls := findClass_of_methodNamed B.named
  have hlocks := B.notSynchronized
  subst hsz
  have hD := hD0.self (sz := s.heap.size)
  generalize hAe : va_A (fq_wq h0 a1 a2 a3 a4 d A0 mi mx ct) s.heap.size = A at hD ⊢
  have hA : ∀ q : Nat, s.heap.size ≤ q → A q := fun q h => by rw [← hAe]; exact Or.inr h
  have hS : va_S A s.heap s.heap [] := va_S.rf
  have hP : va_P (dC, dI) vwCl (fq_wq h0 a1 a2 a3 a4 d A0 mi mx ct) s.heap := hP
  have hl := lv_entry ([.ref h0, .int p1]) (n := 4) (Nat.le_of_ble_eq_true rfl)
  rw [lg_entry_eq]
  generalize (lg_sl ([.ref h0, .int p1]) ++ List.replicate (4 - (lg_sl ([.ref h0, .int p1])).length) Slot.unset).toArray = ls0 at hl ⊢
  have hl : lv_has ls0 4 [(0, .ref h0), (1, .int p1)] := hl
  refine lv_aload_n hx hb dX0_leastInParts_0 rfl (lv_at hl 0 rfl) ?_
  refine va_get (D := (dC, dI)) (ci := 0) (v := .ref a3) (C := RX0) (T := TX0) (N := 7) hx hb hts in_X0 hown hK hP 0 rfl rfl 2 (by decide) (hts _ q24) (fun _ h9 => h9) rfl dX0_leastInParts_1 ?_
  refine lv_iload_n hx hb dX0_leastInParts_4 rfl (lv_at hl 1 rfl) ?_
  have h_5 : vp_in p1 17 := hc
  refine va_bald (f := A0.2.2.1) hx hb hK hP 3 0 rfl rfl h_5 dX0_leastInParts_5 ?_
  refine lv_if_ne (tgt := 11) hx hb dX0_leastInParts_6 (by decide) (fun c_6 => ?_) (fun c_6 => ?_)
  · skip
    refine lv_aload_n hx hb dX0_leastInParts_11 rfl (lv_at hl 0 rfl) ?_
    refine va_get (D := (dC, dI)) (ci := 0) (v := .ref a3) (C := RX0) (T := TX0) (N := 7) hx hb hts in_X0 hown hK hP 0 rfl rfl 2 (by decide) (hts _ q24) (fun _ h9 => h9) rfl dX0_leastInParts_12 ?_
    refine lv_iload_n hx hb dX0_leastInParts_15 rfl (lv_at hl 1 rfl) ?_
    have h_16 : vp_in p1 17 := hc
    refine va_bald (f := A0.2.2.1) hx hb hK hP 3 0 rfl rfl h_16 dX0_leastInParts_16 ?_
    have hFc := va_free (wc := []) hD hS hA [] rfl
    refine va_calli (va_runS (As := [.int (A0.2.2.1 p1.toNatClampNeg)]) (rest := []) ⟨hx, hb, hml, hown, hts⟩ (fq_met_lowest l dC dI s.heap.size (A0.2.2.1 p1.toNatClampNeg)) (va_cwS 1 hts (lw_S q77 q78 q12 q79) rfl rfl rfl (by decide +kernel) ⟨Nat.le_of_ble_eq_true rfl, Nat.le_of_ble_eq_true rfl⟩) ⟨fq_blind, fun U hU hW => ⟨rfl, by rw [hU], fun k q h => by simp at h, va_K.moved hW.alike (hK.sub [] rfl), ⟨fun i j p q h => by simp at h, fun k q h => by simp at h⟩⟩⟩ rfl rfl hl.1 rfl (lv_room (Nat.le_of_ble_eq_true rfl)) dX0_leastInParts_17 ⟨Nat.le_of_ble_eq_true rfl, Nat.le_of_ble_eq_true rfl⟩) hS (fun q _ h => hFc q h) hFc (fun r u t H1 locs ht hvm hw hB hz1 hk1 hS => ?_)
    subst hw
    obtain ⟨hP1, hK1, hD1⟩ := hB
    rw [ht] at hP1
    obtain ⟨hP, hD⟩ := va_join (wr := fq_wq h0 a1 a2 a3 a4 d A0 mi mx ct) (w1 := []) hP hD [] [0, 1, 2, 3, 4] rfl rfl (by decide) (by decide) hk1 hFc hP1 hD1
    generalize H1 = H at hP hS ⊢
    have hP : va_P (dC, dI) vwCl (fq_wq h0 a1 a2 a3 a4 d A0 mi mx ct) H := hP
    have hD : va_D A (fq_wq h0 a1 a2 a3 a4 d A0 mi mx ct) := hD
    refine lv_istore_n (lv' := [(2, .int (fq_lowest (A0.2.2.1 p1.toNatClampNeg))), (0, .ref h0), (1, .int p1)]) hx hb dX0_leastInParts_20 rfl hl (by decide) rfl (fun ls hl => ?_)
    refine lv_aload_n hx hb dX0_leastInParts_21 rfl (lv_at hl 1 rfl) ?_
    refine va_get (D := (dC, dI)) (ci := 0) (v := .ref a4) (C := RX0) (T := TX0) (N := 7) hx hb hts in_X0 hown hK hP 0 rfl rfl 3 (by decide) (hts _ q25) (fun _ h9 => h9) rfl dX0_leastInParts_22 ?_
    refine lv_iload_n hx hb dX0_leastInParts_25 rfl (lv_at hl 2 rfl) ?_
    refine lv_iconst (v := 4) hx hb dX0_leastInParts_26 (by decide) ?_
    refine lv_imul hx hb dX0_leastInParts_27 ?_
    refine lv_iload_n hx hb dX0_leastInParts_28 rfl (lv_at hl 0 rfl) ?_
    refine lv_iadd hx hb dX0_leastInParts_29 ?_
    have h_30 : vp_in ((p1 * (4 : Int32)) + (fq_lowest (A0.2.2.1 p1.toNatClampNeg))) 68 := fq_ix2 hc
    refine va_bald (f := A0.2.2.2) hx hb hK hP 4 0 rfl rfl h_30 dX0_leastInParts_30 ?_
    refine lv_istore_n (lv' := [(3, .int (A0.2.2.2 ((p1 * (4 : Int32)) + (fq_lowest (A0.2.2.1 p1.toNatClampNeg))).toNatClampNeg)), (2, .int (fq_lowest (A0.2.2.1 p1.toNatClampNeg))), (0, .ref h0), (1, .int p1)]) hx hb dX0_leastInParts_31 rfl hl (by decide) rfl (fun ls hl => ?_)
    refine lv_iconst (v := 4) hx hb dX0_leastInParts_32 (by decide) ?_
    refine lv_iload_n hx hb dX0_leastInParts_33 rfl (lv_at hl 1 rfl) ?_
    refine lv_imul hx hb dX0_leastInParts_34 ?_
    refine lv_iload_n hx hb dX0_leastInParts_35 rfl (lv_at hl 0 rfl) ?_
    have hFc := va_free (wc := []) hD hS hA [] rfl
    refine va_calli (va_runS (As := [.int (A0.2.2.2 ((p1 * (4 : Int32)) + (fq_lowest (A0.2.2.1 p1.toNatClampNeg))).toNatClampNeg)]) (rest := [.int ((4 : Int32) * (fq_lowest (A0.2.2.1 p1.toNatClampNeg)))]) ⟨hx, hb, hml, hown, hts⟩ (fq_met_lowest l dC dI H.size (A0.2.2.2 ((p1 * (4 : Int32)) + (fq_lowest (A0.2.2.1 p1.toNatClampNeg))).toNatClampNeg)) (va_cwS 1 hts (lw_S q77 q78 q12 q79) rfl rfl rfl (by decide +kernel) ⟨Nat.le_of_ble_eq_true rfl, Nat.le_of_ble_eq_true rfl⟩) ⟨fq_blind, fun U hU hW => ⟨rfl, by rw [hU], fun k q h => by simp at h, va_K.moved hW.alike (hK.sub [] rfl), ⟨fun i j p q h => by simp at h, fun k q h => by simp at h⟩⟩⟩ rfl rfl hl.1 rfl (lv_room (Nat.le_of_ble_eq_true rfl)) dX0_leastInParts_36 ⟨Nat.le_of_ble_eq_true rfl, Nat.le_of_ble_eq_true rfl⟩) hS (fun q _ h => hFc q h) hFc (fun r u t H1 locs ht hvm hw hB hz1 hk1 hS => ?_)
    subst hw
    obtain ⟨hP1, hK1, hD1⟩ := hB
    rw [ht] at hP1
    obtain ⟨hP, hD⟩ := va_join (wr := fq_wq h0 a1 a2 a3 a4 d A0 mi mx ct) (w1 := []) hP hD [] [0, 1, 2, 3, 4] rfl rfl (by decide) (by decide) hk1 hFc hP1 hD1
    generalize H1 = H at hP hS ⊢
    have hP : va_P (dC, dI) vwCl (fq_wq h0 a1 a2 a3 a4 d A0 mi mx ct) H := hP
    have hD : va_D A (fq_wq h0 a1 a2 a3 a4 d A0 mi mx ct) := hD
    refine lv_iadd hx hb dX0_leastInParts_39 ?_
    exact W.iret (v := (((4 : Int32) * (fq_lowest (A0.2.2.1 p1.toNatClampNeg))) + (fq_lowest (A0.2.2.2 ((p1 * (4 : Int32)) + (fq_lowest (A0.2.2.1 p1.toNatClampNeg))).toNatClampNeg)))) hx hb hr (fun t ht hW => ⟨⟨(((4 : Int32) * (fq_lowest (A0.2.2.1 p1.toNatClampNeg))) + (fq_lowest (A0.2.2.2 ((p1 * (4 : Int32)) + (fq_lowest (A0.2.2.1 p1.toNatClampNeg))).toNatClampNeg))), (), rfl, (by rw [fq_leastInParts, if_neg c_6]), (by rw [ht]; exact hP), va_K.moved hW.alike hK, hD⟩, hS.F ht⟩) hS.2.2 dX0_leastInParts_40
  · skip
    refine lv_iconst (v := -1) hx hb dX0_leastInParts_9 (by decide) ?_
    exact W.iret (v := (-1 : Int32)) hx hb hr (fun t ht hW => ⟨⟨(-1 : Int32), (), rfl, (by rw [fq_leastInParts, if_pos c_6]), (by rw [ht]; exact hP), va_K.moved hW.alike hK, hD⟩, hS.F ht⟩) hS.2.2 dX0_leastInParts_10
set_option maxHeartbeats 4000000 in
set_option maxRecDepth 100000 in
theorem fq_met_greatestInParts (l : Launch) (dC : Nat → ClassId) (dI : Nat → Nat → Nat) (h0 a1 a2 a3 a4 : Nat) (d : ClassId) (sz : Nat) (A0 : fq_A4) (mi mx ct : Int32) (p1 : Int32) (hc : vp_in p1 17) : Met l yX0_greatestInParts (ws_ yX0_greatestInParts cX0_greatestInParts 4 (some .int)) ({ frames := 1, cells := 0, slots := 0, locals := 20 }) (va_Pc [.ref h0, .int p1] (fq_PQ dC dI sz (fq_wq h0 a1 a2 a3 a4 d A0 mi mx ct) [(d, .byte)])) (va_Qi (fun (r : Int32) (_ : Unit) => r = fq_greatestInParts A0 p1) (fun _ => fq_BQ dC dI (va_A (fq_wq h0 a1 a2 a3 a4 d A0 mi mx ct) sz) (fq_wq h0 a1 a2 a3 a4 d A0 mi mx ct) [(d, .byte)]) (va_A (fq_wq h0 a1 a2 a3 a4 d A0 mi mx ct) sz)) 0 0 (va_A (fq_wq h0 a1 a2 a3 a4 d A0 mi mx ct) sz) := by
  refine Met.ofW (cc := cX0_greatestInParts) (maxL := 4) (ret := (some .int)) (by decide) rfl ?_
  intro p e s m args below meth c s₁ B hml hv
  obtain ⟨rfl, hsz, hP, hK, hD0⟩ := hv
  have hx := B.exec
  have hb := B.bytes
  have hr := B.returns
  have hts := atoms_spec (ws := ws_ yX0_greatestInParts cX0_greatestInParts 4 (some .int)) B.pre
  have hts : ∀ w ∈ lw_all, w.before _ s = true := fun w h => hts w (List.mem_cons_of_mem _ h)
  have hown : s.vm.findClass RX0 = some m.cls := findClass_of_methodNamed B.named
  have hlocks := B.notSynchronized
  subst hsz
  have hD := hD0.self (sz := s.heap.size)
  generalize hAe : va_A (fq_wq h0 a1 a2 a3 a4 d A0 mi mx ct) s.heap.size = A at hD ⊢
  have hA : ∀ q : Nat, s.heap.size ≤ q → A q := fun q h => by rw [← hAe]; exact Or.inr h
  have hS : va_S A s.heap s.heap [] := va_S.rf
  have hP : va_P (dC, dI) vwCl (fq_wq h0 a1 a2 a3 a4 d A0 mi mx ct) s.heap := hP
  have hl := lv_entry ([.ref h0, .int p1]) (n := 4) (Nat.le_of_ble_eq_true rfl)
  rw [lg_entry_eq]
  generalize (lg_sl ([.ref h0, .int p1]) ++ List.replicate (4 - (lg_sl ([.ref h0, .int p1])).length) Slot.unset).toArray = ls0 at hl ⊢
  have hl : lv_has ls0 4 [(0, .ref h0), (1, .int p1)] := hl
  refine lv_aload_n hx hb dX0_greatestInParts_0 rfl (lv_at hl 0 rfl) ?_
  refine va_get (D := (dC, dI)) (ci := 0) (v := .ref a3) (C := RX0) (T := TX0) (N := 7) hx hb hts in_X0 hown hK hP 0 rfl rfl 2 (by decide) (hts _ q24) (fun _ h9 => h9) rfl dX0_greatestInParts_1 ?_
  refine lv_iload_n hx hb dX0_greatestInParts_4 rfl (lv_at hl 1 rfl) ?_
  have h_5 : vp_in p1 17 := hc
  refine va_bald (f := A0.2.2.1) hx hb hK hP 3 0 rfl rfl h_5 dX0_greatestInParts_5 ?_
  refine lv_if_ne (tgt := 11) hx hb dX0_greatestInParts_6 (by decide) (fun c_6 => ?_) (fun c_6 => ?_)
  · skip
    refine lv_aload_n hx hb dX0_greatestInParts_11 rfl (lv_at hl 0 rfl) ?_
    refine va_get (D := (dC, dI)) (ci := 0) (v := .ref a3) (C := RX0) (T := TX0) (N := 7) hx hb hts in_X0 hown hK hP 0 rfl rfl 2 (by decide) (hts _ q24) (fun _ h9 => h9) rfl dX0_greatestInParts_12 ?_
    refine lv_iload_n hx hb dX0_greatestInParts_15 rfl (lv_at hl 1 rfl) ?_
    have h_16 : vp_in p1 17 := hc
    refine va_bald (f := A0.2.2.1) hx hb hK hP 3 0 rfl rfl h_16 dX0_greatestInParts_16 ?_
    have hFc := va_free (wc := []) hD hS hA [] rfl
    refine va_calli (va_runS (As := [.int (A0.2.2.1 p1.toNatClampNeg)]) (rest := []) ⟨hx, hb, hml, hown, hts⟩ (fq_met_highest l dC dI s.heap.size (A0.2.2.1 p1.toNatClampNeg)) (va_cwS 1 hts (lw_S q88 q89 q12 q90) rfl rfl rfl (by decide +kernel) ⟨Nat.le_of_ble_eq_true rfl, Nat.le_of_ble_eq_true rfl⟩) ⟨fq_blind, fun U hU hW => ⟨rfl, by rw [hU], fun k q h => by simp at h, va_K.moved hW.alike (hK.sub [] rfl), ⟨fun i j p q h => by simp at h, fun k q h => by simp at h⟩⟩⟩ rfl rfl hl.1 rfl (lv_room (Nat.le_of_ble_eq_true rfl)) dX0_greatestInParts_17 ⟨Nat.le_of_ble_eq_true rfl, Nat.le_of_ble_eq_true rfl⟩) hS (fun q _ h => hFc q h) hFc (fun r u t H1 locs ht hvm hw hB hz1 hk1 hS => ?_)
    subst hw
    obtain ⟨hP1, hK1, hD1⟩ := hB
    rw [ht] at hP1
    obtain ⟨hP, hD⟩ := va_join (wr := fq_wq h0 a1 a2 a3 a4 d A0 mi mx ct) (w1 := []) hP hD [] [0, 1, 2, 3, 4] rfl rfl (by decide) (by decide) hk1 hFc hP1 hD1
    generalize H1 = H at hP hS ⊢
    have hP : va_P (dC, dI) vwCl (fq_wq h0 a1 a2 a3 a4 d A0 mi mx ct) H := hP
    have hD : va_D A (fq_wq h0 a1 a2 a3 a4 d A0 mi mx ct) := hD
    refine lv_istore_n (lv' := [(2, .int (fq_highest (A0.2.2.1 p1.toNatClampNeg))), (0, .ref h0), (1, .int p1)]) hx hb dX0_greatestInParts_20 rfl hl (by decide) rfl (fun ls hl => ?_)
    refine lv_aload_n hx hb dX0_greatestInParts_21 rfl (lv_at hl 1 rfl) ?_
    refine va_get (D := (dC, dI)) (ci := 0) (v := .ref a4) (C := RX0) (T := TX0) (N := 7) hx hb hts in_X0 hown hK hP 0 rfl rfl 3 (by decide) (hts _ q25) (fun _ h9 => h9) rfl dX0_greatestInParts_22 ?_
    refine lv_iload_n hx hb dX0_greatestInParts_25 rfl (lv_at hl 2 rfl) ?_
    refine lv_iconst (v := 4) hx hb dX0_greatestInParts_26 (by decide) ?_
    refine lv_imul hx hb dX0_greatestInParts_27 ?_
    refine lv_iload_n hx hb dX0_greatestInParts_28 rfl (lv_at hl 0 rfl) ?_
    refine lv_iadd hx hb dX0_greatestInParts_29 ?_
    have h_30 : vp_in ((p1 * (4 : Int32)) + (fq_highest (A0.2.2.1 p1.toNatClampNeg))) 68 := fq_ix3 hc
    refine va_bald (f := A0.2.2.2) hx hb hK hP 4 0 rfl rfl h_30 dX0_greatestInParts_30 ?_
    refine lv_istore_n (lv' := [(3, .int (A0.2.2.2 ((p1 * (4 : Int32)) + (fq_highest (A0.2.2.1 p1.toNatClampNeg))).toNatClampNeg)), (2, .int (fq_highest (A0.2.2.1 p1.toNatClampNeg))), (0, .ref h0), (1, .int p1)]) hx hb dX0_greatestInParts_31 rfl hl (by decide) rfl (fun ls hl => ?_)
    refine lv_iconst (v := 4) hx hb dX0_greatestInParts_32 (by decide) ?_
    refine lv_iload_n hx hb dX0_greatestInParts_33 rfl (lv_at hl 1 rfl) ?_
    refine lv_imul hx hb dX0_greatestInParts_34 ?_
    refine lv_iload_n hx hb dX0_greatestInParts_35 rfl (lv_at hl 0 rfl) ?_
    have hFc := va_free (wc := []) hD hS hA [] rfl
    refine va_calli (va_runS (As := [.int (A0.2.2.2 ((p1 * (4 : Int32)) + (fq_highest (A0.2.2.1 p1.toNatClampNeg))).toNatClampNeg)]) (rest := [.int ((4 : Int32) * (fq_highest (A0.2.2.1 p1.toNatClampNeg)))]) ⟨hx, hb, hml, hown, hts⟩ (fq_met_highest l dC dI H.size (A0.2.2.2 ((p1 * (4 : Int32)) + (fq_highest (A0.2.2.1 p1.toNatClampNeg))).toNatClampNeg)) (va_cwS 1 hts (lw_S q88 q89 q12 q90) rfl rfl rfl (by decide +kernel) ⟨Nat.le_of_ble_eq_true rfl, Nat.le_of_ble_eq_true rfl⟩) ⟨fq_blind, fun U hU hW => ⟨rfl, by rw [hU], fun k q h => by simp at h, va_K.moved hW.alike (hK.sub [] rfl), ⟨fun i j p q h => by simp at h, fun k q h => by simp at h⟩⟩⟩ rfl rfl hl.1 rfl (lv_room (Nat.le_of_ble_eq_true rfl)) dX0_greatestInParts_36 ⟨Nat.le_of_ble_eq_true rfl, Nat.le_of_ble_eq_true rfl⟩) hS (fun q _ h => hFc q h) hFc (fun r u t H1 locs ht hvm hw hB hz1 hk1 hS => ?_)
    subst hw
    obtain ⟨hP1, hK1, hD1⟩ := hB
    rw [ht] at hP1
    obtain ⟨hP, hD⟩ := va_join (wr := fq_wq h0 a1 a2 a3 a4 d A0 mi mx ct) (w1 := []) hP hD [] [0, 1, 2, 3, 4] rfl rfl (by decide) (by decide) hk1 hFc hP1 hD1
    generalize H1 = H at hP hS ⊢
    have hP : va_P (dC, dI) vwCl (fq_wq h0 a1 a2 a3 a4 d A0 mi mx ct) H := hP
    have hD : va_D A (fq_wq h0 a1 a2 a3 a4 d A0 mi mx ct) := hD
    refine lv_iadd hx hb dX0_greatestInParts_39 ?_
    exact W.iret (v := (((4 : Int32) * (fq_highest (A0.2.2.1 p1.toNatClampNeg))) + (fq_highest (A0.2.2.2 ((p1 * (4 : Int32)) + (fq_highest (A0.2.2.1 p1.toNatClampNeg))).toNatClampNeg)))) hx hb hr (fun t ht hW => ⟨⟨(((4 : Int32) * (fq_highest (A0.2.2.1 p1.toNatClampNeg))) + (fq_highest (A0.2.2.2 ((p1 * (4 : Int32)) + (fq_highest (A0.2.2.1 p1.toNatClampNeg))).toNatClampNeg))), (), rfl, (by rw [fq_greatestInParts, if_neg c_6]), (by rw [ht]; exact hP), va_K.moved hW.alike hK, hD⟩, hS.F ht⟩) hS.2.2 dX0_greatestInParts_40
  · skip
    refine lv_iconst (v := -1) hx hb dX0_greatestInParts_9 (by decide) ?_
    exact W.iret (v := (-1 : Int32)) hx hb hr (fun t ht hW => ⟨⟨(-1 : Int32), (), rfl, (by rw [fq_greatestInParts, if_pos c_6]), (by rw [ht]; exact hP), va_K.moved hW.alike hK, hD⟩, hS.F ht⟩) hS.2.2 dX0_greatestInParts_10
set_option maxHeartbeats 4000000 in
set_option maxRecDepth 100000 in
theorem fq_met_deleteFrom (l : Launch) (dC : Nat → ClassId) (dI : Nat → Nat → Nat) (h0 a1 a2 a3 a4 : Nat) (d : ClassId) (sz : Nat) (A0 : fq_A4) (mi mx ct : Int32) (p1 p2 : Int32) (hc : vp_in p1 17) (hq : vp_in p2 16) : Met l yX0_deleteFrom (ws_ yX0_deleteFrom cX0_deleteFrom 5 none) ({ frames := 2, cells := 0, slots := 0, locals := 43 }) (va_Pc [.ref h0, .int p1, .int p2] (fq_PQ dC dI sz (fq_wq h0 a1 a2 a3 a4 d A0 mi mx ct) [(d, .byte)])) (va_Qv (fun u : fq_A4 => u = fq_deleteFrom A0 p1 p2) (fun u => fq_BQ dC dI (va_A (fq_wq h0 a1 a2 a3 a4 d A0 mi mx ct) sz) (fq_wq h0 a1 a2 a3 a4 d u mi mx ct) [(d, .byte)]) (va_A (fq_wq h0 a1 a2 a3 a4 d A0 mi mx ct) sz)) 0 0 (va_A (fq_wq h0 a1 a2 a3 a4 d A0 mi mx ct) sz) := by
  refine Met.ofW (cc := cX0_deleteFrom) (maxL := 5) (ret := none) (by decide) rfl ?_
  intro p e s m args below meth c s₁ B hml hv
  obtain ⟨rfl, hsz, hP, hK, hD0⟩ := hv
  have hx := B.exec
  have hb := B.bytes
  have hr := B.returns
  have hts := atoms_spec (ws := ws_ yX0_deleteFrom cX0_deleteFrom 5 none) B.pre
  have hts : ∀ w ∈ lw_all, w.before _ s = true := fun w h => hts w (List.mem_cons_of_mem _ h)
  have hown : s.vm.findClass RX0 = some m.cls := findClass_of_methodNamed B.named
  have hlocks := B.notSynchronized
  subst hsz
  have hD := hD0.self (sz := s.heap.size)
  generalize hAe : va_A (fq_wq h0 a1 a2 a3 a4 d A0 mi mx ct) s.heap.size = A at hD ⊢
  have hA : ∀ q : Nat, s.heap.size ≤ q → A q := fun q h => by rw [← hAe]; exact Or.inr h
  have hS : va_S A s.heap s.heap [] := va_S.rf
  have hP : va_P (dC, dI) vwCl (fq_wq h0 a1 a2 a3 a4 d A0 mi mx ct) s.heap := hP
  have hl := lv_entry ([.ref h0, .int p1, .int p2]) (n := 5) (Nat.le_of_ble_eq_true rfl)
  rw [lg_entry_eq]
  generalize (lg_sl ([.ref h0, .int p1, .int p2]) ++ List.replicate (5 - (lg_sl ([.ref h0, .int p1, .int p2])).length) Slot.unset).toArray = ls0 at hl ⊢
  have hl : lv_has ls0 5 [(0, .ref h0), (1, .int p1), (2, .int p2)] := hl
  refine lv_iload_n hx hb dX0_deleteFrom_0 rfl (lv_at hl 2 rfl) ?_
  refine lv_istore_n (lv' := [(3, .int p2), (0, .ref h0), (1, .int p1), (2, .int p2)]) hx hb dX0_deleteFrom_1 rfl hl (by decide) rfl (fun ls hl => ?_)
  refine lv_iload_n hx hb dX0_deleteFrom_2 rfl (lv_at hl 3 rfl) ?_
  refine lv_aload_n hx hb dX0_deleteFrom_3 rfl (lv_at hl 1 rfl) ?_
  refine va_get (D := (dC, dI)) (ci := 0) (v := .ref a1) (C := RX0) (T := TX0) (N := 7) hx hb hts in_X0 hown hK hP 0 rfl rfl 0 (by decide) (hts _ q22) (fun _ h9 => h9) rfl dX0_deleteFrom_4 ?_
  refine lv_iload_n hx hb dX0_deleteFrom_7 rfl (lv_at hl 2 rfl) ?_
  have h_8 : vp_in p1 17 := hc
  refine va_bald (f := A0.1) hx hb hK hP 1 0 rfl rfl h_8 dX0_deleteFrom_8 ?_
  refine lv_icmp_ne (tgt := 26) hx hb dX0_deleteFrom_9 (by decide) (fun c_9 => ?_) (fun c_9 => ?_)
  · skip
    refine lv_iload_n hx hb dX0_deleteFrom_26 rfl (lv_at hl 0 rfl) ?_
    refine lv_if_lt (tgt := 36) hx hb dX0_deleteFrom_27 (by decide) (fun c_27 => ?_) (fun c_27 => ?_)
    · skip
      refine lv_aload_n hx hb dX0_deleteFrom_36 rfl (lv_at hl 1 rfl) ?_
      refine lv_iload_n hx hb dX0_deleteFrom_37 rfl (lv_at hl 2 rfl) ?_
      have hFc := va_free (wc := fq_wq h0 a1 a2 a3 a4 d A0 mi mx ct) hD hS hA [0, 1, 2, 3, 4] rfl
      refine va_calli (va_runV (As := [.int p1]) (rest := []) ⟨hx, hb, hml, hown, hts⟩ (fq_met_greatestInParts l dC dI h0 a1 a2 a3 a4 d s.heap.size A0 mi mx ct p1 hc) (cwV 1 hts (lw_V q84 q86 qs6 q12 q87) rfl rfl rfl (by decide +kernel) ⟨Nat.le_of_ble_eq_true rfl, Nat.le_of_ble_eq_true rfl⟩) ⟨fq_blind, va_recv hK hP (ci := 0) (q0 := 0) rfl rfl, fun U hU hW => ⟨rfl, by rw [hU], by rw [hU]; exact hP, va_K.moved hW.alike hK, hD.weaken (fun _ _ _ _ => trivial)⟩⟩ rfl rfl hl.1 rfl (lv_room (Nat.le_of_ble_eq_true rfl)) dX0_deleteFrom_38 ⟨Nat.le_of_ble_eq_true rfl, Nat.le_of_ble_eq_true rfl⟩) hS (fun q _ h => hFc q h) hFc (fun r_38 u_38 t H1 locs ht hvm hw hB hz1 hk1 hS => ?_)
      have hw : r_38 = (fq_greatestInParts A0 p1) := hw
      subst hw
      obtain ⟨hP1, hK1, hD1⟩ := hB
      rw [ht] at hP1
      have hP : va_P (dC, dI) vwCl (fq_wq h0 a1 a2 a3 a4 d A0 mi mx ct) H1 := hP1
      have hD : va_D A (fq_wq h0 a1 a2 a3 a4 d A0 mi mx ct) := hD1.weaken (fun _ _ _ h => hFc _ h)
      generalize H1 = H at hP hS ⊢
      refine lv_istore (lv' := [(4, .int (fq_greatestInParts A0 p1)), (3, .int p2), (0, .ref h0), (1, .int p1), (2, .int p2)]) hx hb dX0_deleteFrom_41 hl (by decide) rfl (fun ls hl => ?_)
      refine lv_aload_n hx hb dX0_deleteFrom_43 rfl (lv_at hl 2 rfl) ?_
      refine va_get (D := (dC, dI)) (ci := 0) (v := .ref a2) (C := RX0) (T := TX0) (N := 7) hx hb hts in_X0 hown hK hP 0 rfl rfl 1 (by decide) (hts _ q23) (fun _ h9 => h9) rfl dX0_deleteFrom_44 ?_
      refine lv_iload_n hx hb dX0_deleteFrom_47 rfl (lv_at hl 3 rfl) ?_
      refine lv_iload hx hb dX0_deleteFrom_48 (lv_at hl 0 rfl) ?_
      refine lv_if_lt (tgt := 58) hx hb dX0_deleteFrom_50 (by decide) (fun c_50 => ?_) (fun c_50 => ?_)
      · skip
        refine lv_aload_n hx hb dX0_deleteFrom_58 rfl (lv_at hl 2 rfl) ?_
        refine va_get (D := (dC, dI)) (ci := 0) (v := .ref a1) (C := RX0) (T := TX0) (N := 7) hx hb hts in_X0 hown hK hP 0 rfl rfl 0 (by decide) (hts _ q22) (fun _ h9 => h9) rfl dX0_deleteFrom_59 ?_
        refine lv_iload_n hx hb dX0_deleteFrom_62 rfl (lv_at hl 3 rfl) ?_
        have h_63 : vp_in p1 17 := hc
        refine va_bald (f := A0.1) hx hb hK hP 1 0 rfl rfl h_63 dX0_deleteFrom_63 ?_
        refine lv_i2b (v := (A0.1 p1.toNatClampNeg).toInt8.toInt32) hx hb dX0_deleteFrom_64 rfl ?_
        have h_65 : vp_in p1 17 := hc
        refine va_bast (f := A0.2.1) hx hb hK hP hD hS 2 0 rfl rfl h_65 dX0_deleteFrom_65 (fun H locs hP hD hS => ?_)
        have hP : va_P (dC, dI) vwCl (fq_wq h0 a1 a2 a3 a4 d (A0.1, (upd A0.2.1 p1.toNatClampNeg (vp_nar .byte ((A0.1 p1.toNatClampNeg).toInt8.toInt32))), A0.2.2.1, A0.2.2.2) mi mx ct) H := hP
        have hD : va_D A (fq_wq h0 a1 a2 a3 a4 d (A0.1, (upd A0.2.1 p1.toNatClampNeg (vp_nar .byte ((A0.1 p1.toNatClampNeg).toInt8.toInt32))), A0.2.2.1, A0.2.2.2) mi mx ct) := hD
        exact W.vret hx hb hr (fun t ht hW => ⟨⟨(A0.1, (upd A0.2.1 p1.toNatClampNeg (vp_nar .byte ((A0.1 p1.toNatClampNeg).toInt8.toInt32))), A0.2.2.1, A0.2.2.2), rfl, (by rw [fq_deleteFrom, if_neg c_9, if_pos c_27, if_pos c_50]), (by rw [ht]; exact hP), va_K.moved hW.alike hK, hD⟩, hS.F ht⟩) hS.2.2 dX0_deleteFrom_66
      · skip
        refine lv_iload hx hb dX0_deleteFrom_53 (lv_at hl 0 rfl) ?_
        refine lv_goto (tgt := 64) hx hb dX0_deleteFrom_55 (by decide) ?_
        refine lv_i2b (v := (fq_greatestInParts A0 p1).toInt8.toInt32) hx hb dX0_deleteFrom_64 rfl ?_
        have h_65 : vp_in p1 17 := hc
        refine va_bast (f := A0.2.1) hx hb hK hP hD hS 2 0 rfl rfl h_65 dX0_deleteFrom_65 (fun H locs hP hD hS => ?_)
        have hP : va_P (dC, dI) vwCl (fq_wq h0 a1 a2 a3 a4 d (A0.1, (upd A0.2.1 p1.toNatClampNeg (vp_nar .byte ((fq_greatestInParts A0 p1).toInt8.toInt32))), A0.2.2.1, A0.2.2.2) mi mx ct) H := hP
        have hD : va_D A (fq_wq h0 a1 a2 a3 a4 d (A0.1, (upd A0.2.1 p1.toNatClampNeg (vp_nar .byte ((fq_greatestInParts A0 p1).toInt8.toInt32))), A0.2.2.1, A0.2.2.2) mi mx ct) := hD
        exact W.vret hx hb hr (fun t ht hW => ⟨⟨(A0.1, (upd A0.2.1 p1.toNatClampNeg (vp_nar .byte ((fq_greatestInParts A0 p1).toInt8.toInt32))), A0.2.2.1, A0.2.2.2), rfl, (by rw [fq_deleteFrom, if_neg c_9, if_pos c_27, if_neg c_50]), (by rw [ht]; exact hP), va_K.moved hW.alike hK, hD⟩, hS.F ht⟩) hS.2.2 dX0_deleteFrom_66
    · skip
      refine lv_aload_n hx hb dX0_deleteFrom_30 rfl (lv_at hl 1 rfl) ?_
      refine lv_iload_n hx hb dX0_deleteFrom_31 rfl (lv_at hl 2 rfl) ?_
      refine lv_iload_n hx hb dX0_deleteFrom_32 rfl (lv_at hl 0 rfl) ?_
      have hFc := va_free (wc := fq_wq h0 a1 a2 a3 a4 d A0 mi mx ct) hD hS hA [0, 1, 2, 3, 4] rfl
      refine va_callv (va_runV (As := [.int p1, .int p2]) (rest := []) ⟨hx, hb, hml, hown, hts⟩ (fq_met_takeBit l dC dI h0 a1 a2 a3 a4 d s.heap.size A0 mi mx ct p1 p2 hc hq) (cwV 2 hts (lw_V q80 q82 qs5 q12 q83) rfl rfl rfl (by decide +kernel) ⟨Nat.le_of_ble_eq_true rfl, Nat.le_of_ble_eq_true rfl⟩) ⟨fq_blind, va_recv hK hP (ci := 0) (q0 := 0) rfl rfl, fun U hU hW => ⟨rfl, by rw [hU], by rw [hU]; exact hP, va_K.moved hW.alike hK, hD.weaken (fun _ _ _ _ => trivial)⟩⟩ rfl rfl hl.1 rfl (lv_room (Nat.le_of_ble_eq_true rfl)) dX0_deleteFrom_33 ⟨Nat.le_of_ble_eq_true rfl, Nat.le_of_ble_eq_true rfl⟩) hS (fun q _ h => hFc q h) hFc (fun u_33 t H1 locs ht hvm hw hB hz1 hk1 hS => ?_)
      have hw : u_33 = (fq_takeBit A0 p1 p2) := hw
      subst hw
      obtain ⟨hP1, hK1, hD1⟩ := hB
      rw [ht] at hP1
      have hP : va_P (dC, dI) vwCl (fq_wq h0 a1 a2 a3 a4 d (fq_takeBit A0 p1 p2) mi mx ct) H1 := hP1
      have hD : va_D A (fq_wq h0 a1 a2 a3 a4 d (fq_takeBit A0 p1 p2) mi mx ct) := hD1.weaken (fun _ _ _ h => hFc _ h)
      generalize H1 = H at hP hS ⊢
      refine lv_aload_n hx hb dX0_deleteFrom_36 rfl (lv_at hl 1 rfl) ?_
      refine lv_iload_n hx hb dX0_deleteFrom_37 rfl (lv_at hl 2 rfl) ?_
      have hFc := va_free (wc := fq_wq h0 a1 a2 a3 a4 d (fq_takeBit A0 p1 p2) mi mx ct) hD hS hA [0, 1, 2, 3, 4] rfl
      refine va_calli (va_runV (As := [.int p1]) (rest := []) ⟨hx, hb, hml, hown, hts⟩ (fq_met_greatestInParts l dC dI h0 a1 a2 a3 a4 d H.size (fq_takeBit A0 p1 p2) mi mx ct p1 hc) (cwV 1 hts (lw_V q84 q86 qs6 q12 q87) rfl rfl rfl (by decide +kernel) ⟨Nat.le_of_ble_eq_true rfl, Nat.le_of_ble_eq_true rfl⟩) ⟨fq_blind, va_recv hK hP (ci := 0) (q0 := 0) rfl rfl, fun U hU hW => ⟨rfl, by rw [hU], by rw [hU]; exact hP, va_K.moved hW.alike hK, hD.weaken (fun _ _ _ _ => trivial)⟩⟩ rfl rfl hl.1 rfl (lv_room (Nat.le_of_ble_eq_true rfl)) dX0_deleteFrom_38 ⟨Nat.le_of_ble_eq_true rfl, Nat.le_of_ble_eq_true rfl⟩) hS (fun q _ h => hFc q h) hFc (fun r_38 u_38 t H1 locs ht hvm hw hB hz1 hk1 hS => ?_)
      have hw : r_38 = (fq_greatestInParts (fq_takeBit A0 p1 p2) p1) := hw
      subst hw
      obtain ⟨hP1, hK1, hD1⟩ := hB
      rw [ht] at hP1
      have hP : va_P (dC, dI) vwCl (fq_wq h0 a1 a2 a3 a4 d (fq_takeBit A0 p1 p2) mi mx ct) H1 := hP1
      have hD : va_D A (fq_wq h0 a1 a2 a3 a4 d (fq_takeBit A0 p1 p2) mi mx ct) := hD1.weaken (fun _ _ _ h => hFc _ h)
      generalize H1 = H at hP hS ⊢
      refine lv_istore (lv' := [(4, .int (fq_greatestInParts (fq_takeBit A0 p1 p2) p1)), (3, .int p2), (0, .ref h0), (1, .int p1), (2, .int p2)]) hx hb dX0_deleteFrom_41 hl (by decide) rfl (fun ls hl => ?_)
      refine lv_aload_n hx hb dX0_deleteFrom_43 rfl (lv_at hl 2 rfl) ?_
      refine va_get (D := (dC, dI)) (ci := 0) (v := .ref a2) (C := RX0) (T := TX0) (N := 7) hx hb hts in_X0 hown hK hP 0 rfl rfl 1 (by decide) (hts _ q23) (fun _ h9 => h9) rfl dX0_deleteFrom_44 ?_
      refine lv_iload_n hx hb dX0_deleteFrom_47 rfl (lv_at hl 3 rfl) ?_
      refine lv_iload hx hb dX0_deleteFrom_48 (lv_at hl 0 rfl) ?_
      refine lv_if_lt (tgt := 58) hx hb dX0_deleteFrom_50 (by decide) (fun c_50 => ?_) (fun c_50 => ?_)
      · skip
        refine lv_aload_n hx hb dX0_deleteFrom_58 rfl (lv_at hl 2 rfl) ?_
        refine va_get (D := (dC, dI)) (ci := 0) (v := .ref a1) (C := RX0) (T := TX0) (N := 7) hx hb hts in_X0 hown hK hP 0 rfl rfl 0 (by decide) (hts _ q22) (fun _ h9 => h9) rfl dX0_deleteFrom_59 ?_
        refine lv_iload_n hx hb dX0_deleteFrom_62 rfl (lv_at hl 3 rfl) ?_
        have h_63 : vp_in p1 17 := hc
        refine va_bald (f := (fq_takeBit A0 p1 p2).1) hx hb hK hP 1 0 rfl rfl h_63 dX0_deleteFrom_63 ?_
        refine lv_i2b (v := (((fq_takeBit A0 p1 p2).1) p1.toNatClampNeg).toInt8.toInt32) hx hb dX0_deleteFrom_64 rfl ?_
        have h_65 : vp_in p1 17 := hc
        refine va_bast (f := (fq_takeBit A0 p1 p2).2.1) hx hb hK hP hD hS 2 0 rfl rfl h_65 dX0_deleteFrom_65 (fun H locs hP hD hS => ?_)
        have hP : va_P (dC, dI) vwCl (fq_wq h0 a1 a2 a3 a4 d ((fq_takeBit A0 p1 p2).1, (upd ((fq_takeBit A0 p1 p2).2.1) p1.toNatClampNeg (vp_nar .byte ((((fq_takeBit A0 p1 p2).1) p1.toNatClampNeg).toInt8.toInt32))), (fq_takeBit A0 p1 p2).2.2.1, (fq_takeBit A0 p1 p2).2.2.2) mi mx ct) H := hP
        have hD : va_D A (fq_wq h0 a1 a2 a3 a4 d ((fq_takeBit A0 p1 p2).1, (upd ((fq_takeBit A0 p1 p2).2.1) p1.toNatClampNeg (vp_nar .byte ((((fq_takeBit A0 p1 p2).1) p1.toNatClampNeg).toInt8.toInt32))), (fq_takeBit A0 p1 p2).2.2.1, (fq_takeBit A0 p1 p2).2.2.2) mi mx ct) := hD
        exact W.vret hx hb hr (fun t ht hW => ⟨⟨((fq_takeBit A0 p1 p2).1, (upd ((fq_takeBit A0 p1 p2).2.1) p1.toNatClampNeg (vp_nar .byte ((((fq_takeBit A0 p1 p2).1) p1.toNatClampNeg).toInt8.toInt32))), (fq_takeBit A0 p1 p2).2.2.1, (fq_takeBit A0 p1 p2).2.2.2), rfl, (by rw [fq_deleteFrom, if_neg c_9, if_neg c_27, if_pos c_50]), (by rw [ht]; exact hP), va_K.moved hW.alike hK, hD⟩, hS.F ht⟩) hS.2.2 dX0_deleteFrom_66
      · skip
        refine lv_iload hx hb dX0_deleteFrom_53 (lv_at hl 0 rfl) ?_
        refine lv_goto (tgt := 64) hx hb dX0_deleteFrom_55 (by decide) ?_
        refine lv_i2b (v := (fq_greatestInParts (fq_takeBit A0 p1 p2) p1).toInt8.toInt32) hx hb dX0_deleteFrom_64 rfl ?_
        have h_65 : vp_in p1 17 := hc
        refine va_bast (f := (fq_takeBit A0 p1 p2).2.1) hx hb hK hP hD hS 2 0 rfl rfl h_65 dX0_deleteFrom_65 (fun H locs hP hD hS => ?_)
        have hP : va_P (dC, dI) vwCl (fq_wq h0 a1 a2 a3 a4 d ((fq_takeBit A0 p1 p2).1, (upd ((fq_takeBit A0 p1 p2).2.1) p1.toNatClampNeg (vp_nar .byte ((fq_greatestInParts (fq_takeBit A0 p1 p2) p1).toInt8.toInt32))), (fq_takeBit A0 p1 p2).2.2.1, (fq_takeBit A0 p1 p2).2.2.2) mi mx ct) H := hP
        have hD : va_D A (fq_wq h0 a1 a2 a3 a4 d ((fq_takeBit A0 p1 p2).1, (upd ((fq_takeBit A0 p1 p2).2.1) p1.toNatClampNeg (vp_nar .byte ((fq_greatestInParts (fq_takeBit A0 p1 p2) p1).toInt8.toInt32))), (fq_takeBit A0 p1 p2).2.2.1, (fq_takeBit A0 p1 p2).2.2.2) mi mx ct) := hD
        exact W.vret hx hb hr (fun t ht hW => ⟨⟨((fq_takeBit A0 p1 p2).1, (upd ((fq_takeBit A0 p1 p2).2.1) p1.toNatClampNeg (vp_nar .byte ((fq_greatestInParts (fq_takeBit A0 p1 p2) p1).toInt8.toInt32))), (fq_takeBit A0 p1 p2).2.2.1, (fq_takeBit A0 p1 p2).2.2.2), rfl, (by rw [fq_deleteFrom, if_neg c_9, if_neg c_27, if_neg c_50]), (by rw [ht]; exact hP), va_K.moved hW.alike hK, hD⟩, hS.F ht⟩) hS.2.2 dX0_deleteFrom_66
  · skip
    refine lv_aload_n hx hb dX0_deleteFrom_12 rfl (lv_at hl 1 rfl) ?_
    refine lv_iload_n hx hb dX0_deleteFrom_13 rfl (lv_at hl 2 rfl) ?_
    have hFc := va_free (wc := fq_wq h0 a1 a2 a3 a4 d A0 mi mx ct) hD hS hA [0, 1, 2, 3, 4] rfl
    refine va_calli (va_runV (As := [.int p1]) (rest := []) ⟨hx, hb, hml, hown, hts⟩ (fq_met_leastInParts l dC dI h0 a1 a2 a3 a4 d s.heap.size A0 mi mx ct p1 hc) (cwV 1 hts (lw_V q73 q75 qs4 q12 q76) rfl rfl rfl (by decide +kernel) ⟨Nat.le_of_ble_eq_true rfl, Nat.le_of_ble_eq_true rfl⟩) ⟨fq_blind, va_recv hK hP (ci := 0) (q0 := 0) rfl rfl, fun U hU hW => ⟨rfl, by rw [hU], by rw [hU]; exact hP, va_K.moved hW.alike hK, hD.weaken (fun _ _ _ _ => trivial)⟩⟩ rfl rfl hl.1 rfl (lv_room (Nat.le_of_ble_eq_true rfl)) dX0_deleteFrom_14 ⟨Nat.le_of_ble_eq_true rfl, Nat.le_of_ble_eq_true rfl⟩) hS (fun q _ h => hFc q h) hFc (fun r_14 u_14 t H1 locs ht hvm hw hB hz1 hk1 hS => ?_)
    have hw : r_14 = (fq_leastInParts A0 p1) := hw
    subst hw
    obtain ⟨hP1, hK1, hD1⟩ := hB
    rw [ht] at hP1
    have hP : va_P (dC, dI) vwCl (fq_wq h0 a1 a2 a3 a4 d A0 mi mx ct) H1 := hP1
    have hD : va_D A (fq_wq h0 a1 a2 a3 a4 d A0 mi mx ct) := hD1.weaken (fun _ _ _ h => hFc _ h)
    generalize H1 = H at hP hS ⊢
    refine lv_istore_n (lv' := [(3, .int (fq_leastInParts A0 p1)), (0, .ref h0), (1, .int p1), (2, .int p2)]) hx hb dX0_deleteFrom_17 rfl hl (by decide) rfl (fun ls hl => ?_)
    refine lv_aload_n hx hb dX0_deleteFrom_18 rfl (lv_at hl 1 rfl) ?_
    refine va_get (D := (dC, dI)) (ci := 0) (v := .ref a1) (C := RX0) (T := TX0) (N := 7) hx hb hts in_X0 hown hK hP 0 rfl rfl 0 (by decide) (hts _ q22) (fun _ h9 => h9) rfl dX0_deleteFrom_19 ?_
    refine lv_iload_n hx hb dX0_deleteFrom_22 rfl (lv_at hl 2 rfl) ?_
    refine lv_iload_n hx hb dX0_deleteFrom_23 rfl (lv_at hl 0 rfl) ?_
    refine lv_i2b (v := (fq_leastInParts A0 p1).toInt8.toInt32) hx hb dX0_deleteFrom_24 rfl ?_
    have h_25 : vp_in p1 17 := hc
    refine va_bast (f := A0.1) hx hb hK hP hD hS 1 0 rfl rfl h_25 dX0_deleteFrom_25 (fun H locs hP hD hS => ?_)
    have hP : va_P (dC, dI) vwCl (fq_wq h0 a1 a2 a3 a4 d ((upd A0.1 p1.toNatClampNeg (vp_nar .byte ((fq_leastInParts A0 p1).toInt8.toInt32))), A0.2.1, A0.2.2.1, A0.2.2.2) mi mx ct) H := hP
    have hD : va_D A (fq_wq h0 a1 a2 a3 a4 d ((upd A0.1 p1.toNatClampNeg (vp_nar .byte ((fq_leastInParts A0 p1).toInt8.toInt32))), A0.2.1, A0.2.2.1, A0.2.2.2) mi mx ct) := hD
    refine lv_iload_n hx hb dX0_deleteFrom_26 rfl (lv_at hl 0 rfl) ?_
    refine lv_if_lt (tgt := 36) hx hb dX0_deleteFrom_27 (by decide) (fun c_27 => ?_) (fun c_27 => ?_)
    · skip
      refine lv_aload_n hx hb dX0_deleteFrom_36 rfl (lv_at hl 1 rfl) ?_
      refine lv_iload_n hx hb dX0_deleteFrom_37 rfl (lv_at hl 2 rfl) ?_
      have hFc := va_free (wc := fq_wq h0 a1 a2 a3 a4 d ((upd A0.1 p1.toNatClampNeg (vp_nar .byte ((fq_leastInParts A0 p1).toInt8.toInt32))), A0.2.1, A0.2.2.1, A0.2.2.2) mi mx ct) hD hS hA [0, 1, 2, 3, 4] rfl
      refine va_calli (va_runV (As := [.int p1]) (rest := []) ⟨hx, hb, hml, hown, hts⟩ (fq_met_greatestInParts l dC dI h0 a1 a2 a3 a4 d H.size ((upd A0.1 p1.toNatClampNeg (vp_nar .byte ((fq_leastInParts A0 p1).toInt8.toInt32))), A0.2.1, A0.2.2.1, A0.2.2.2) mi mx ct p1 hc) (cwV 1 hts (lw_V q84 q86 qs6 q12 q87) rfl rfl rfl (by decide +kernel) ⟨Nat.le_of_ble_eq_true rfl, Nat.le_of_ble_eq_true rfl⟩) ⟨fq_blind, va_recv hK hP (ci := 0) (q0 := 0) rfl rfl, fun U hU hW => ⟨rfl, by rw [hU], by rw [hU]; exact hP, va_K.moved hW.alike hK, hD.weaken (fun _ _ _ _ => trivial)⟩⟩ rfl rfl hl.1 rfl (lv_room (Nat.le_of_ble_eq_true rfl)) dX0_deleteFrom_38 ⟨Nat.le_of_ble_eq_true rfl, Nat.le_of_ble_eq_true rfl⟩) hS (fun q _ h => hFc q h) hFc (fun r_38 u_38 t H1 locs ht hvm hw hB hz1 hk1 hS => ?_)
      have hw : r_38 = (fq_greatestInParts ((upd A0.1 p1.toNatClampNeg (vp_nar .byte ((fq_leastInParts A0 p1).toInt8.toInt32))), A0.2.1, A0.2.2.1, A0.2.2.2) p1) := hw
      subst hw
      obtain ⟨hP1, hK1, hD1⟩ := hB
      rw [ht] at hP1
      have hP : va_P (dC, dI) vwCl (fq_wq h0 a1 a2 a3 a4 d ((upd A0.1 p1.toNatClampNeg (vp_nar .byte ((fq_leastInParts A0 p1).toInt8.toInt32))), A0.2.1, A0.2.2.1, A0.2.2.2) mi mx ct) H1 := hP1
      have hD : va_D A (fq_wq h0 a1 a2 a3 a4 d ((upd A0.1 p1.toNatClampNeg (vp_nar .byte ((fq_leastInParts A0 p1).toInt8.toInt32))), A0.2.1, A0.2.2.1, A0.2.2.2) mi mx ct) := hD1.weaken (fun _ _ _ h => hFc _ h)
      generalize H1 = H at hP hS ⊢
      refine lv_istore (lv' := [(4, .int (fq_greatestInParts ((upd A0.1 p1.toNatClampNeg (vp_nar .byte ((fq_leastInParts A0 p1).toInt8.toInt32))), A0.2.1, A0.2.2.1, A0.2.2.2) p1)), (3, .int (fq_leastInParts A0 p1)), (0, .ref h0), (1, .int p1), (2, .int p2)]) hx hb dX0_deleteFrom_41 hl (by decide) rfl (fun ls hl => ?_)
      refine lv_aload_n hx hb dX0_deleteFrom_43 rfl (lv_at hl 2 rfl) ?_
      refine va_get (D := (dC, dI)) (ci := 0) (v := .ref a2) (C := RX0) (T := TX0) (N := 7) hx hb hts in_X0 hown hK hP 0 rfl rfl 1 (by decide) (hts _ q23) (fun _ h9 => h9) rfl dX0_deleteFrom_44 ?_
      refine lv_iload_n hx hb dX0_deleteFrom_47 rfl (lv_at hl 3 rfl) ?_
      refine lv_iload hx hb dX0_deleteFrom_48 (lv_at hl 0 rfl) ?_
      refine lv_if_lt (tgt := 58) hx hb dX0_deleteFrom_50 (by decide) (fun c_50 => ?_) (fun c_50 => ?_)
      · skip
        refine lv_aload_n hx hb dX0_deleteFrom_58 rfl (lv_at hl 2 rfl) ?_
        refine va_get (D := (dC, dI)) (ci := 0) (v := .ref a1) (C := RX0) (T := TX0) (N := 7) hx hb hts in_X0 hown hK hP 0 rfl rfl 0 (by decide) (hts _ q22) (fun _ h9 => h9) rfl dX0_deleteFrom_59 ?_
        refine lv_iload_n hx hb dX0_deleteFrom_62 rfl (lv_at hl 3 rfl) ?_
        have h_63 : vp_in p1 17 := hc
        refine va_bald (f := (upd A0.1 p1.toNatClampNeg (vp_nar .byte ((fq_leastInParts A0 p1).toInt8.toInt32)))) hx hb hK hP 1 0 rfl rfl h_63 dX0_deleteFrom_63 ?_
        refine lv_i2b (v := ((upd A0.1 p1.toNatClampNeg (vp_nar .byte ((fq_leastInParts A0 p1).toInt8.toInt32))) p1.toNatClampNeg).toInt8.toInt32) hx hb dX0_deleteFrom_64 rfl ?_
        have h_65 : vp_in p1 17 := hc
        refine va_bast (f := A0.2.1) hx hb hK hP hD hS 2 0 rfl rfl h_65 dX0_deleteFrom_65 (fun H locs hP hD hS => ?_)
        have hP : va_P (dC, dI) vwCl (fq_wq h0 a1 a2 a3 a4 d ((upd A0.1 p1.toNatClampNeg (vp_nar .byte ((fq_leastInParts A0 p1).toInt8.toInt32))), (upd A0.2.1 p1.toNatClampNeg (vp_nar .byte (((upd A0.1 p1.toNatClampNeg (vp_nar .byte ((fq_leastInParts A0 p1).toInt8.toInt32))) p1.toNatClampNeg).toInt8.toInt32))), A0.2.2.1, A0.2.2.2) mi mx ct) H := hP
        have hD : va_D A (fq_wq h0 a1 a2 a3 a4 d ((upd A0.1 p1.toNatClampNeg (vp_nar .byte ((fq_leastInParts A0 p1).toInt8.toInt32))), (upd A0.2.1 p1.toNatClampNeg (vp_nar .byte (((upd A0.1 p1.toNatClampNeg (vp_nar .byte ((fq_leastInParts A0 p1).toInt8.toInt32))) p1.toNatClampNeg).toInt8.toInt32))), A0.2.2.1, A0.2.2.2) mi mx ct) := hD
        exact W.vret hx hb hr (fun t ht hW => ⟨⟨((upd A0.1 p1.toNatClampNeg (vp_nar .byte ((fq_leastInParts A0 p1).toInt8.toInt32))), (upd A0.2.1 p1.toNatClampNeg (vp_nar .byte (((upd A0.1 p1.toNatClampNeg (vp_nar .byte ((fq_leastInParts A0 p1).toInt8.toInt32))) p1.toNatClampNeg).toInt8.toInt32))), A0.2.2.1, A0.2.2.2), rfl, (by rw [fq_deleteFrom, if_pos c_9, if_pos c_27, if_pos c_50]), (by rw [ht]; exact hP), va_K.moved hW.alike hK, hD⟩, hS.F ht⟩) hS.2.2 dX0_deleteFrom_66
      · skip
        refine lv_iload hx hb dX0_deleteFrom_53 (lv_at hl 0 rfl) ?_
        refine lv_goto (tgt := 64) hx hb dX0_deleteFrom_55 (by decide) ?_
        refine lv_i2b (v := (fq_greatestInParts ((upd A0.1 p1.toNatClampNeg (vp_nar .byte ((fq_leastInParts A0 p1).toInt8.toInt32))), A0.2.1, A0.2.2.1, A0.2.2.2) p1).toInt8.toInt32) hx hb dX0_deleteFrom_64 rfl ?_
        have h_65 : vp_in p1 17 := hc
        refine va_bast (f := A0.2.1) hx hb hK hP hD hS 2 0 rfl rfl h_65 dX0_deleteFrom_65 (fun H locs hP hD hS => ?_)
        have hP : va_P (dC, dI) vwCl (fq_wq h0 a1 a2 a3 a4 d ((upd A0.1 p1.toNatClampNeg (vp_nar .byte ((fq_leastInParts A0 p1).toInt8.toInt32))), (upd A0.2.1 p1.toNatClampNeg (vp_nar .byte ((fq_greatestInParts ((upd A0.1 p1.toNatClampNeg (vp_nar .byte ((fq_leastInParts A0 p1).toInt8.toInt32))), A0.2.1, A0.2.2.1, A0.2.2.2) p1).toInt8.toInt32))), A0.2.2.1, A0.2.2.2) mi mx ct) H := hP
        have hD : va_D A (fq_wq h0 a1 a2 a3 a4 d ((upd A0.1 p1.toNatClampNeg (vp_nar .byte ((fq_leastInParts A0 p1).toInt8.toInt32))), (upd A0.2.1 p1.toNatClampNeg (vp_nar .byte ((fq_greatestInParts ((upd A0.1 p1.toNatClampNeg (vp_nar .byte ((fq_leastInParts A0 p1).toInt8.toInt32))), A0.2.1, A0.2.2.1, A0.2.2.2) p1).toInt8.toInt32))), A0.2.2.1, A0.2.2.2) mi mx ct) := hD
        exact W.vret hx hb hr (fun t ht hW => ⟨⟨((upd A0.1 p1.toNatClampNeg (vp_nar .byte ((fq_leastInParts A0 p1).toInt8.toInt32))), (upd A0.2.1 p1.toNatClampNeg (vp_nar .byte ((fq_greatestInParts ((upd A0.1 p1.toNatClampNeg (vp_nar .byte ((fq_leastInParts A0 p1).toInt8.toInt32))), A0.2.1, A0.2.2.1, A0.2.2.2) p1).toInt8.toInt32))), A0.2.2.1, A0.2.2.2), rfl, (by rw [fq_deleteFrom, if_pos c_9, if_pos c_27, if_neg c_50]), (by rw [ht]; exact hP), va_K.moved hW.alike hK, hD⟩, hS.F ht⟩) hS.2.2 dX0_deleteFrom_66
    · skip
      refine lv_aload_n hx hb dX0_deleteFrom_30 rfl (lv_at hl 1 rfl) ?_
      refine lv_iload_n hx hb dX0_deleteFrom_31 rfl (lv_at hl 2 rfl) ?_
      refine lv_iload_n hx hb dX0_deleteFrom_32 rfl (lv_at hl 0 rfl) ?_
      have hFc := va_free (wc := fq_wq h0 a1 a2 a3 a4 d ((upd A0.1 p1.toNatClampNeg (vp_nar .byte ((fq_leastInParts A0 p1).toInt8.toInt32))), A0.2.1, A0.2.2.1, A0.2.2.2) mi mx ct) hD hS hA [0, 1, 2, 3, 4] rfl
      refine va_callv (va_runV (As := [.int p1, .int (fq_leastInParts A0 p1)]) (rest := []) ⟨hx, hb, hml, hown, hts⟩ (fq_met_takeBit l dC dI h0 a1 a2 a3 a4 d H.size ((upd A0.1 p1.toNatClampNeg (vp_nar .byte ((fq_leastInParts A0 p1).toInt8.toInt32))), A0.2.1, A0.2.2.1, A0.2.2.2) mi mx ct p1 (fq_leastInParts A0 p1) hc (fq_lip_in c_27)) (cwV 2 hts (lw_V q80 q82 qs5 q12 q83) rfl rfl rfl (by decide +kernel) ⟨Nat.le_of_ble_eq_true rfl, Nat.le_of_ble_eq_true rfl⟩) ⟨fq_blind, va_recv hK hP (ci := 0) (q0 := 0) rfl rfl, fun U hU hW => ⟨rfl, by rw [hU], by rw [hU]; exact hP, va_K.moved hW.alike hK, hD.weaken (fun _ _ _ _ => trivial)⟩⟩ rfl rfl hl.1 rfl (lv_room (Nat.le_of_ble_eq_true rfl)) dX0_deleteFrom_33 ⟨Nat.le_of_ble_eq_true rfl, Nat.le_of_ble_eq_true rfl⟩) hS (fun q _ h => hFc q h) hFc (fun u_33 t H1 locs ht hvm hw hB hz1 hk1 hS => ?_)
      have hw : u_33 = (fq_takeBit ((upd A0.1 p1.toNatClampNeg (vp_nar .byte ((fq_leastInParts A0 p1).toInt8.toInt32))), A0.2.1, A0.2.2.1, A0.2.2.2) p1 (fq_leastInParts A0 p1)) := hw
      subst hw
      obtain ⟨hP1, hK1, hD1⟩ := hB
      rw [ht] at hP1
      have hP : va_P (dC, dI) vwCl (fq_wq h0 a1 a2 a3 a4 d (fq_takeBit ((upd A0.1 p1.toNatClampNeg (vp_nar .byte ((fq_leastInParts A0 p1).toInt8.toInt32))), A0.2.1, A0.2.2.1, A0.2.2.2) p1 (fq_leastInParts A0 p1)) mi mx ct) H1 := hP1
      have hD : va_D A (fq_wq h0 a1 a2 a3 a4 d (fq_takeBit ((upd A0.1 p1.toNatClampNeg (vp_nar .byte ((fq_leastInParts A0 p1).toInt8.toInt32))), A0.2.1, A0.2.2.1, A0.2.2.2) p1 (fq_leastInParts A0 p1)) mi mx ct) := hD1.weaken (fun _ _ _ h => hFc _ h)
      generalize H1 = H at hP hS ⊢
      refine lv_aload_n hx hb dX0_deleteFrom_36 rfl (lv_at hl 1 rfl) ?_
      refine lv_iload_n hx hb dX0_deleteFrom_37 rfl (lv_at hl 2 rfl) ?_
      have hFc := va_free (wc := fq_wq h0 a1 a2 a3 a4 d (fq_takeBit ((upd A0.1 p1.toNatClampNeg (vp_nar .byte ((fq_leastInParts A0 p1).toInt8.toInt32))), A0.2.1, A0.2.2.1, A0.2.2.2) p1 (fq_leastInParts A0 p1)) mi mx ct) hD hS hA [0, 1, 2, 3, 4] rfl
      refine va_calli (va_runV (As := [.int p1]) (rest := []) ⟨hx, hb, hml, hown, hts⟩ (fq_met_greatestInParts l dC dI h0 a1 a2 a3 a4 d H.size (fq_takeBit ((upd A0.1 p1.toNatClampNeg (vp_nar .byte ((fq_leastInParts A0 p1).toInt8.toInt32))), A0.2.1, A0.2.2.1, A0.2.2.2) p1 (fq_leastInParts A0 p1)) mi mx ct p1 hc) (cwV 1 hts (lw_V q84 q86 qs6 q12 q87) rfl rfl rfl (by decide +kernel) ⟨Nat.le_of_ble_eq_true rfl, Nat.le_of_ble_eq_true rfl⟩) ⟨fq_blind, va_recv hK hP (ci := 0) (q0 := 0) rfl rfl, fun U hU hW => ⟨rfl, by rw [hU], by rw [hU]; exact hP, va_K.moved hW.alike hK, hD.weaken (fun _ _ _ _ => trivial)⟩⟩ rfl rfl hl.1 rfl (lv_room (Nat.le_of_ble_eq_true rfl)) dX0_deleteFrom_38 ⟨Nat.le_of_ble_eq_true rfl, Nat.le_of_ble_eq_true rfl⟩) hS (fun q _ h => hFc q h) hFc (fun r_38 u_38 t H1 locs ht hvm hw hB hz1 hk1 hS => ?_)
      have hw : r_38 = (fq_greatestInParts (fq_takeBit ((upd A0.1 p1.toNatClampNeg (vp_nar .byte ((fq_leastInParts A0 p1).toInt8.toInt32))), A0.2.1, A0.2.2.1, A0.2.2.2) p1 (fq_leastInParts A0 p1)) p1) := hw
      subst hw
      obtain ⟨hP1, hK1, hD1⟩ := hB
      rw [ht] at hP1
      have hP : va_P (dC, dI) vwCl (fq_wq h0 a1 a2 a3 a4 d (fq_takeBit ((upd A0.1 p1.toNatClampNeg (vp_nar .byte ((fq_leastInParts A0 p1).toInt8.toInt32))), A0.2.1, A0.2.2.1, A0.2.2.2) p1 (fq_leastInParts A0 p1)) mi mx ct) H1 := hP1
      have hD : va_D A (fq_wq h0 a1 a2 a3 a4 d (fq_takeBit ((upd A0.1 p1.toNatClampNeg (vp_nar .byte ((fq_leastInParts A0 p1).toInt8.toInt32))), A0.2.1, A0.2.2.1, A0.2.2.2) p1 (fq_leastInParts A0 p1)) mi mx ct) := hD1.weaken (fun _ _ _ h => hFc _ h)
      generalize H1 = H at hP hS ⊢
      refine lv_istore (lv' := [(4, .int (fq_greatestInParts (fq_takeBit ((upd A0.1 p1.toNatClampNeg (vp_nar .byte ((fq_leastInParts A0 p1).toInt8.toInt32))), A0.2.1, A0.2.2.1, A0.2.2.2) p1 (fq_leastInParts A0 p1)) p1)), (3, .int (fq_leastInParts A0 p1)), (0, .ref h0), (1, .int p1), (2, .int p2)]) hx hb dX0_deleteFrom_41 hl (by decide) rfl (fun ls hl => ?_)
      refine lv_aload_n hx hb dX0_deleteFrom_43 rfl (lv_at hl 2 rfl) ?_
      refine va_get (D := (dC, dI)) (ci := 0) (v := .ref a2) (C := RX0) (T := TX0) (N := 7) hx hb hts in_X0 hown hK hP 0 rfl rfl 1 (by decide) (hts _ q23) (fun _ h9 => h9) rfl dX0_deleteFrom_44 ?_
      refine lv_iload_n hx hb dX0_deleteFrom_47 rfl (lv_at hl 3 rfl) ?_
      refine lv_iload hx hb dX0_deleteFrom_48 (lv_at hl 0 rfl) ?_
      refine lv_if_lt (tgt := 58) hx hb dX0_deleteFrom_50 (by decide) (fun c_50 => ?_) (fun c_50 => ?_)
      · skip
        refine lv_aload_n hx hb dX0_deleteFrom_58 rfl (lv_at hl 2 rfl) ?_
        refine va_get (D := (dC, dI)) (ci := 0) (v := .ref a1) (C := RX0) (T := TX0) (N := 7) hx hb hts in_X0 hown hK hP 0 rfl rfl 0 (by decide) (hts _ q22) (fun _ h9 => h9) rfl dX0_deleteFrom_59 ?_
        refine lv_iload_n hx hb dX0_deleteFrom_62 rfl (lv_at hl 3 rfl) ?_
        have h_63 : vp_in p1 17 := hc
        refine va_bald (f := (fq_takeBit ((upd A0.1 p1.toNatClampNeg (vp_nar .byte ((fq_leastInParts A0 p1).toInt8.toInt32))), A0.2.1, A0.2.2.1, A0.2.2.2) p1 (fq_leastInParts A0 p1)).1) hx hb hK hP 1 0 rfl rfl h_63 dX0_deleteFrom_63 ?_
        refine lv_i2b (v := (((fq_takeBit ((upd A0.1 p1.toNatClampNeg (vp_nar .byte ((fq_leastInParts A0 p1).toInt8.toInt32))), A0.2.1, A0.2.2.1, A0.2.2.2) p1 (fq_leastInParts A0 p1)).1) p1.toNatClampNeg).toInt8.toInt32) hx hb dX0_deleteFrom_64 rfl ?_
        have h_65 : vp_in p1 17 := hc
        refine va_bast (f := (fq_takeBit ((upd A0.1 p1.toNatClampNeg (vp_nar .byte ((fq_leastInParts A0 p1).toInt8.toInt32))), A0.2.1, A0.2.2.1, A0.2.2.2) p1 (fq_leastInParts A0 p1)).2.1) hx hb hK hP hD hS 2 0 rfl rfl h_65 dX0_deleteFrom_65 (fun H locs hP hD hS => ?_)
        have hP : va_P (dC, dI) vwCl (fq_wq h0 a1 a2 a3 a4 d ((fq_takeBit ((upd A0.1 p1.toNatClampNeg (vp_nar .byte ((fq_leastInParts A0 p1).toInt8.toInt32))), A0.2.1, A0.2.2.1, A0.2.2.2) p1 (fq_leastInParts A0 p1)).1, (upd ((fq_takeBit ((upd A0.1 p1.toNatClampNeg (vp_nar .byte ((fq_leastInParts A0 p1).toInt8.toInt32))), A0.2.1, A0.2.2.1, A0.2.2.2) p1 (fq_leastInParts A0 p1)).2.1) p1.toNatClampNeg (vp_nar .byte ((((fq_takeBit ((upd A0.1 p1.toNatClampNeg (vp_nar .byte ((fq_leastInParts A0 p1).toInt8.toInt32))), A0.2.1, A0.2.2.1, A0.2.2.2) p1 (fq_leastInParts A0 p1)).1) p1.toNatClampNeg).toInt8.toInt32))), (fq_takeBit ((upd A0.1 p1.toNatClampNeg (vp_nar .byte ((fq_leastInParts A0 p1).toInt8.toInt32))), A0.2.1, A0.2.2.1, A0.2.2.2) p1 (fq_leastInParts A0 p1)).2.2.1, (fq_takeBit ((upd A0.1 p1.toNatClampNeg (vp_nar .byte ((fq_leastInParts A0 p1).toInt8.toInt32))), A0.2.1, A0.2.2.1, A0.2.2.2) p1 (fq_leastInParts A0 p1)).2.2.2) mi mx ct) H := hP
        have hD : va_D A (fq_wq h0 a1 a2 a3 a4 d ((fq_takeBit ((upd A0.1 p1.toNatClampNeg (vp_nar .byte ((fq_leastInParts A0 p1).toInt8.toInt32))), A0.2.1, A0.2.2.1, A0.2.2.2) p1 (fq_leastInParts A0 p1)).1, (upd ((fq_takeBit ((upd A0.1 p1.toNatClampNeg (vp_nar .byte ((fq_leastInParts A0 p1).toInt8.toInt32))), A0.2.1, A0.2.2.1, A0.2.2.2) p1 (fq_leastInParts A0 p1)).2.1) p1.toNatClampNeg (vp_nar .byte ((((fq_takeBit ((upd A0.1 p1.toNatClampNeg (vp_nar .byte ((fq_leastInParts A0 p1).toInt8.toInt32))), A0.2.1, A0.2.2.1, A0.2.2.2) p1 (fq_leastInParts A0 p1)).1) p1.toNatClampNeg).toInt8.toInt32))), (fq_takeBit ((upd A0.1 p1.toNatClampNeg (vp_nar .byte ((fq_leastInParts A0 p1).toInt8.toInt32))), A0.2.1, A0.2.2.1, A0.2.2.2) p1 (fq_leastInParts A0 p1)).2.2.1, (fq_takeBit ((upd A0.1 p1.toNatClampNeg (vp_nar .byte ((fq_leastInParts A0 p1).toInt8.toInt32))), A0.2.1, A0.2.2.1, A0.2.2.2) p1 (fq_leastInParts A0 p1)).2.2.2) mi mx ct) := hD
        exact W.vret hx hb hr (fun t ht hW => ⟨⟨((fq_takeBit ((upd A0.1 p1.toNatClampNeg (vp_nar .byte ((fq_leastInParts A0 p1).toInt8.toInt32))), A0.2.1, A0.2.2.1, A0.2.2.2) p1 (fq_leastInParts A0 p1)).1, (upd ((fq_takeBit ((upd A0.1 p1.toNatClampNeg (vp_nar .byte ((fq_leastInParts A0 p1).toInt8.toInt32))), A0.2.1, A0.2.2.1, A0.2.2.2) p1 (fq_leastInParts A0 p1)).2.1) p1.toNatClampNeg (vp_nar .byte ((((fq_takeBit ((upd A0.1 p1.toNatClampNeg (vp_nar .byte ((fq_leastInParts A0 p1).toInt8.toInt32))), A0.2.1, A0.2.2.1, A0.2.2.2) p1 (fq_leastInParts A0 p1)).1) p1.toNatClampNeg).toInt8.toInt32))), (fq_takeBit ((upd A0.1 p1.toNatClampNeg (vp_nar .byte ((fq_leastInParts A0 p1).toInt8.toInt32))), A0.2.1, A0.2.2.1, A0.2.2.2) p1 (fq_leastInParts A0 p1)).2.2.1, (fq_takeBit ((upd A0.1 p1.toNatClampNeg (vp_nar .byte ((fq_leastInParts A0 p1).toInt8.toInt32))), A0.2.1, A0.2.2.1, A0.2.2.2) p1 (fq_leastInParts A0 p1)).2.2.2), rfl, (by rw [fq_deleteFrom, if_pos c_9, if_neg c_27, if_pos c_50]), (by rw [ht]; exact hP), va_K.moved hW.alike hK, hD⟩, hS.F ht⟩) hS.2.2 dX0_deleteFrom_66
      · skip
        refine lv_iload hx hb dX0_deleteFrom_53 (lv_at hl 0 rfl) ?_
        refine lv_goto (tgt := 64) hx hb dX0_deleteFrom_55 (by decide) ?_
        refine lv_i2b (v := (fq_greatestInParts (fq_takeBit ((upd A0.1 p1.toNatClampNeg (vp_nar .byte ((fq_leastInParts A0 p1).toInt8.toInt32))), A0.2.1, A0.2.2.1, A0.2.2.2) p1 (fq_leastInParts A0 p1)) p1).toInt8.toInt32) hx hb dX0_deleteFrom_64 rfl ?_
        have h_65 : vp_in p1 17 := hc
        refine va_bast (f := (fq_takeBit ((upd A0.1 p1.toNatClampNeg (vp_nar .byte ((fq_leastInParts A0 p1).toInt8.toInt32))), A0.2.1, A0.2.2.1, A0.2.2.2) p1 (fq_leastInParts A0 p1)).2.1) hx hb hK hP hD hS 2 0 rfl rfl h_65 dX0_deleteFrom_65 (fun H locs hP hD hS => ?_)
        have hP : va_P (dC, dI) vwCl (fq_wq h0 a1 a2 a3 a4 d ((fq_takeBit ((upd A0.1 p1.toNatClampNeg (vp_nar .byte ((fq_leastInParts A0 p1).toInt8.toInt32))), A0.2.1, A0.2.2.1, A0.2.2.2) p1 (fq_leastInParts A0 p1)).1, (upd ((fq_takeBit ((upd A0.1 p1.toNatClampNeg (vp_nar .byte ((fq_leastInParts A0 p1).toInt8.toInt32))), A0.2.1, A0.2.2.1, A0.2.2.2) p1 (fq_leastInParts A0 p1)).2.1) p1.toNatClampNeg (vp_nar .byte ((fq_greatestInParts (fq_takeBit ((upd A0.1 p1.toNatClampNeg (vp_nar .byte ((fq_leastInParts A0 p1).toInt8.toInt32))), A0.2.1, A0.2.2.1, A0.2.2.2) p1 (fq_leastInParts A0 p1)) p1).toInt8.toInt32))), (fq_takeBit ((upd A0.1 p1.toNatClampNeg (vp_nar .byte ((fq_leastInParts A0 p1).toInt8.toInt32))), A0.2.1, A0.2.2.1, A0.2.2.2) p1 (fq_leastInParts A0 p1)).2.2.1, (fq_takeBit ((upd A0.1 p1.toNatClampNeg (vp_nar .byte ((fq_leastInParts A0 p1).toInt8.toInt32))), A0.2.1, A0.2.2.1, A0.2.2.2) p1 (fq_leastInParts A0 p1)).2.2.2) mi mx ct) H := hP
        have hD : va_D A (fq_wq h0 a1 a2 a3 a4 d ((fq_takeBit ((upd A0.1 p1.toNatClampNeg (vp_nar .byte ((fq_leastInParts A0 p1).toInt8.toInt32))), A0.2.1, A0.2.2.1, A0.2.2.2) p1 (fq_leastInParts A0 p1)).1, (upd ((fq_takeBit ((upd A0.1 p1.toNatClampNeg (vp_nar .byte ((fq_leastInParts A0 p1).toInt8.toInt32))), A0.2.1, A0.2.2.1, A0.2.2.2) p1 (fq_leastInParts A0 p1)).2.1) p1.toNatClampNeg (vp_nar .byte ((fq_greatestInParts (fq_takeBit ((upd A0.1 p1.toNatClampNeg (vp_nar .byte ((fq_leastInParts A0 p1).toInt8.toInt32))), A0.2.1, A0.2.2.1, A0.2.2.2) p1 (fq_leastInParts A0 p1)) p1).toInt8.toInt32))), (fq_takeBit ((upd A0.1 p1.toNatClampNeg (vp_nar .byte ((fq_leastInParts A0 p1).toInt8.toInt32))), A0.2.1, A0.2.2.1, A0.2.2.2) p1 (fq_leastInParts A0 p1)).2.2.1, (fq_takeBit ((upd A0.1 p1.toNatClampNeg (vp_nar .byte ((fq_leastInParts A0 p1).toInt8.toInt32))), A0.2.1, A0.2.2.1, A0.2.2.2) p1 (fq_leastInParts A0 p1)).2.2.2) mi mx ct) := hD
        exact W.vret hx hb hr (fun t ht hW => ⟨⟨((fq_takeBit ((upd A0.1 p1.toNatClampNeg (vp_nar .byte ((fq_leastInParts A0 p1).toInt8.toInt32))), A0.2.1, A0.2.2.1, A0.2.2.2) p1 (fq_leastInParts A0 p1)).1, (upd ((fq_takeBit ((upd A0.1 p1.toNatClampNeg (vp_nar .byte ((fq_leastInParts A0 p1).toInt8.toInt32))), A0.2.1, A0.2.2.1, A0.2.2.2) p1 (fq_leastInParts A0 p1)).2.1) p1.toNatClampNeg (vp_nar .byte ((fq_greatestInParts (fq_takeBit ((upd A0.1 p1.toNatClampNeg (vp_nar .byte ((fq_leastInParts A0 p1).toInt8.toInt32))), A0.2.1, A0.2.2.1, A0.2.2.2) p1 (fq_leastInParts A0 p1)) p1).toInt8.toInt32))), (fq_takeBit ((upd A0.1 p1.toNatClampNeg (vp_nar .byte ((fq_leastInParts A0 p1).toInt8.toInt32))), A0.2.1, A0.2.2.1, A0.2.2.2) p1 (fq_leastInParts A0 p1)).2.2.1, (fq_takeBit ((upd A0.1 p1.toNatClampNeg (vp_nar .byte ((fq_leastInParts A0 p1).toInt8.toInt32))), A0.2.1, A0.2.2.1, A0.2.2.2) p1 (fq_leastInParts A0 p1)).2.2.2), rfl, (by rw [fq_deleteFrom, if_pos c_9, if_neg c_27, if_neg c_50]), (by rw [ht]; exact hP), va_K.moved hW.alike hK, hD⟩, hS.F ht⟩) hS.2.2 dX0_deleteFrom_66
set_option maxHeartbeats 4000000 in
set_option maxRecDepth 100000 in
theorem fq_met_afterIn (l : Launch) (dC : Nat → ClassId) (dI : Nat → Nat → Nat) (h0 a1 a2 a3 a4 : Nat) (d : ClassId) (sz : Nat) (A0 : fq_A4) (mi mx ct : Int32) (p1 p2 : Int32) (hc : vp_in p1 17) (hq : vp_in p2 16) : Met l yX0_afterIn (ws_ yX0_afterIn cX0_afterIn 7 (some .int)) ({ frames := 1, cells := 0, slots := 0, locals := 20 }) (va_Pc [.ref h0, .int p1, .int p2] (fq_PQ dC dI sz (fq_wq h0 a1 a2 a3 a4 d A0 mi mx ct) [(d, .byte)])) (va_Qi (fun (r : Int32) (_ : Unit) => r = fq_afterIn A0 p1 p2) (fun _ => fq_BQ dC dI (va_A (fq_wq h0 a1 a2 a3 a4 d A0 mi mx ct) sz) (fq_wq h0 a1 a2 a3 a4 d A0 mi mx ct) [(d, .byte)]) (va_A (fq_wq h0 a1 a2 a3 a4 d A0 mi mx ct) sz)) 0 0 (va_A (fq_wq h0 a1 a2 a3 a4 d A0 mi mx ct) sz) := by
  refine Met.ofW (cc := cX0_afterIn) (maxL := 7) (ret := (some .int)) (by decide) rfl ?_
  intro p e s m args below meth c s₁ B hml hv
  obtain ⟨rfl, hsz, hP, hK, hD0⟩ := hv
  have hx := B.exec
  have hb := B.bytes
  have hr := B.returns
  have hts := atoms_spec (ws := ws_ yX0_afterIn cX0_afterIn 7 (some .int)) B.pre
  have hts : ∀ w ∈ lw_all, w.before _ s = true := fun w h => hts w (List.mem_cons_of_mem _ h)
  have hown : s.vm.findClass RX0 = some m.cls := findClass_of_methodNamed B.named
  have hlocks := B.notSynchronized
  subst hsz
  have hD := hD0.self (sz := s.heap.size)
  generalize hAe : va_A (fq_wq h0 a1 a2 a3 a4 d A0 mi mx ct) s.heap.size = A at hD ⊢
  have hA : ∀ q : Nat, s.heap.size ≤ q → A q := fun q h => by rw [← hAe]; exact Or.inr h
  have hS : va_S A s.heap s.heap [] := va_S.rf
  have hP : va_P (dC, dI) vwCl (fq_wq h0 a1 a2 a3 a4 d A0 mi mx ct) s.heap := hP
  have hl := lv_entry ([.ref h0, .int p1, .int p2]) (n := 7) (Nat.le_of_ble_eq_true rfl)
  rw [lg_entry_eq]
  generalize (lg_sl ([.ref h0, .int p1, .int p2]) ++ List.replicate (7 - (lg_sl ([.ref h0, .int p1, .int p2])).length) Slot.unset).toArray = ls0 at hl ⊢
  have hl : lv_has ls0 7 [(0, .ref h0), (1, .int p1), (2, .int p2)] := hl
  refine lv_aload_n hx hb dX0_afterIn_0 rfl (lv_at hl 0 rfl) ?_
  refine va_get (D := (dC, dI)) (ci := 0) (v := .ref a1) (C := RX0) (T := TX0) (N := 7) hx hb hts in_X0 hown hK hP 0 rfl rfl 0 (by decide) (hts _ q22) (fun _ h9 => h9) rfl dX0_afterIn_1 ?_
  refine lv_iload_n hx hb dX0_afterIn_4 rfl (lv_at hl 1 rfl) ?_
  have h_5 : vp_in p1 17 := hc
  refine va_bald (f := A0.1) hx hb hK hP 1 0 rfl rfl h_5 dX0_afterIn_5 ?_
  refine lv_iload_n hx hb dX0_afterIn_6 rfl (lv_at hl 2 rfl) ?_
  refine lv_icmp_le (tgt := 17) hx hb dX0_afterIn_7 (by decide) (fun c_7 => ?_) (fun c_7 => ?_)
  · skip
    refine lv_aload_n hx hb dX0_afterIn_17 rfl (lv_at hl 0 rfl) ?_
    refine va_get (D := (dC, dI)) (ci := 0) (v := .ref a2) (C := RX0) (T := TX0) (N := 7) hx hb hts in_X0 hown hK hP 0 rfl rfl 1 (by decide) (hts _ q23) (fun _ h9 => h9) rfl dX0_afterIn_18 ?_
    refine lv_iload_n hx hb dX0_afterIn_21 rfl (lv_at hl 1 rfl) ?_
    have h_22 : vp_in p1 17 := hc
    refine va_bald (f := A0.2.1) hx hb hK hP 2 0 rfl rfl h_22 dX0_afterIn_22 ?_
    refine lv_iload_n hx hb dX0_afterIn_23 rfl (lv_at hl 2 rfl) ?_
    refine lv_icmp_gt (tgt := 29) hx hb dX0_afterIn_24 (by decide) (fun c_24 => ?_) (fun c_24 => ?_)
    · skip
      refine lv_iload_n hx hb dX0_afterIn_29 rfl (lv_at hl 2 rfl) ?_
      refine lv_iconst (v := 2) hx hb dX0_afterIn_30 (by decide) ?_
      refine lv_ishr hx hb dX0_afterIn_31 ?_
      refine lv_istore_n (lv' := [(3, .int (p2 >>> ((2 : Int32) &&& (31 : Int32)))), (0, .ref h0), (1, .int p1), (2, .int p2)]) hx hb dX0_afterIn_32 rfl hl (by decide) rfl (fun ls hl => ?_)
      refine lv_aload_n hx hb dX0_afterIn_33 rfl (lv_at hl 1 rfl) ?_
      refine va_get (D := (dC, dI)) (ci := 0) (v := .ref a4) (C := RX0) (T := TX0) (N := 7) hx hb hts in_X0 hown hK hP 0 rfl rfl 3 (by decide) (hts _ q25) (fun _ h9 => h9) rfl dX0_afterIn_34 ?_
      refine lv_iload_n hx hb dX0_afterIn_37 rfl (lv_at hl 2 rfl) ?_
      refine lv_iconst (v := 4) hx hb dX0_afterIn_38 (by decide) ?_
      refine lv_imul hx hb dX0_afterIn_39 ?_
      refine lv_iload_n hx hb dX0_afterIn_40 rfl (lv_at hl 0 rfl) ?_
      refine lv_iadd hx hb dX0_afterIn_41 ?_
      have h_42 : vp_in ((p1 * (4 : Int32)) + (p2 >>> ((2 : Int32) &&& (31 : Int32)))) 68 := fq_ix1 hc hq
      refine va_bald (f := A0.2.2.2) hx hb hK hP 4 0 rfl rfl h_42 dX0_afterIn_42 ?_
      refine lv_bipush (v := 14) hx hb dX0_afterIn_43 (by decide) ?_
      refine lv_iload_n hx hb dX0_afterIn_45 rfl (lv_at hl 3 rfl) ?_
      refine lv_iconst (v := 3) hx hb dX0_afterIn_46 (by decide) ?_
      refine lv_iand hx hb dX0_afterIn_47 ?_
      refine lv_ishl hx hb dX0_afterIn_48 ?_
      refine lv_iand hx hb dX0_afterIn_49 ?_
      refine lv_bipush (v := 15) hx hb dX0_afterIn_50 (by decide) ?_
      refine lv_iand hx hb dX0_afterIn_52 ?_
      refine lv_istore (lv' := [(4, .int (((A0.2.2.2 ((p1 * (4 : Int32)) + (p2 >>> ((2 : Int32) &&& (31 : Int32)))).toNatClampNeg) &&& ((14 : Int32) <<< ((p2 &&& (3 : Int32)) &&& (31 : Int32)))) &&& (15 : Int32))), (3, .int (p2 >>> ((2 : Int32) &&& (31 : Int32)))), (0, .ref h0), (1, .int p1), (2, .int p2)]) hx hb dX0_afterIn_53 hl (by decide) rfl (fun ls hl => ?_)
      refine lv_iload hx hb dX0_afterIn_55 (lv_at hl 0 rfl) ?_
      refine lv_if_eq (tgt := 70) hx hb dX0_afterIn_57 (by decide) (fun c_57 => ?_) (fun c_57 => ?_)
      · skip
        refine lv_aload_n hx hb dX0_afterIn_70 rfl (lv_at hl 2 rfl) ?_
        refine va_get (D := (dC, dI)) (ci := 0) (v := .ref a3) (C := RX0) (T := TX0) (N := 7) hx hb hts in_X0 hown hK hP 0 rfl rfl 2 (by decide) (hts _ q24) (fun _ h9 => h9) rfl dX0_afterIn_71 ?_
        refine lv_iload_n hx hb dX0_afterIn_74 rfl (lv_at hl 3 rfl) ?_
        have h_75 : vp_in p1 17 := hc
        refine va_bald (f := A0.2.2.1) hx hb hK hP 3 0 rfl rfl h_75 dX0_afterIn_75 ?_
        refine lv_bipush (v := 14) hx hb dX0_afterIn_76 (by decide) ?_
        refine lv_iload_n hx hb dX0_afterIn_78 rfl (lv_at hl 1 rfl) ?_
        refine lv_ishl hx hb dX0_afterIn_79 ?_
        refine lv_iand hx hb dX0_afterIn_80 ?_
        refine lv_bipush (v := 15) hx hb dX0_afterIn_81 (by decide) ?_
        refine lv_iand hx hb dX0_afterIn_83 ?_
        refine lv_istore (lv' := [(5, .int (((A0.2.2.1 p1.toNatClampNeg) &&& ((14 : Int32) <<< ((p2 >>> ((2 : Int32) &&& (31 : Int32))) &&& (31 : Int32)))) &&& (15 : Int32))), (4, .int (((A0.2.2.2 ((p1 * (4 : Int32)) + (p2 >>> ((2 : Int32) &&& (31 : Int32)))).toNatClampNeg) &&& ((14 : Int32) <<< ((p2 &&& (3 : Int32)) &&& (31 : Int32)))) &&& (15 : Int32))), (3, .int (p2 >>> ((2 : Int32) &&& (31 : Int32)))), (0, .ref h0), (1, .int p1), (2, .int p2)]) hx hb dX0_afterIn_84 hl (by decide) rfl (fun ls hl => ?_)
        refine lv_iload hx hb dX0_afterIn_86 (lv_at hl 0 rfl) ?_
        have hFc := va_free (wc := []) hD hS hA [] rfl
        refine va_calli (va_runS (As := [.int (((A0.2.2.1 p1.toNatClampNeg) &&& ((14 : Int32) <<< ((p2 >>> ((2 : Int32) &&& (31 : Int32))) &&& (31 : Int32)))) &&& (15 : Int32))]) (rest := []) ⟨hx, hb, hml, hown, hts⟩ (fq_met_lowest l dC dI s.heap.size (((A0.2.2.1 p1.toNatClampNeg) &&& ((14 : Int32) <<< ((p2 >>> ((2 : Int32) &&& (31 : Int32))) &&& (31 : Int32)))) &&& (15 : Int32))) (va_cwS 1 hts (lw_S q77 q78 q12 q79) rfl rfl rfl (by decide +kernel) ⟨Nat.le_of_ble_eq_true rfl, Nat.le_of_ble_eq_true rfl⟩) ⟨fq_blind, fun U hU hW => ⟨rfl, by rw [hU], fun k q h => by simp at h, va_K.moved hW.alike (hK.sub [] rfl), ⟨fun i j p q h => by simp at h, fun k q h => by simp at h⟩⟩⟩ rfl rfl hl.1 rfl (lv_room (Nat.le_of_ble_eq_true rfl)) dX0_afterIn_88 ⟨Nat.le_of_ble_eq_true rfl, Nat.le_of_ble_eq_true rfl⟩) hS (fun q _ h => hFc q h) hFc (fun r u t H1 locs ht hvm hw hB hz1 hk1 hS => ?_)
        subst hw
        obtain ⟨hP1, hK1, hD1⟩ := hB
        rw [ht] at hP1
        obtain ⟨hP, hD⟩ := va_join (wr := fq_wq h0 a1 a2 a3 a4 d A0 mi mx ct) (w1 := []) hP hD [] [0, 1, 2, 3, 4] rfl rfl (by decide) (by decide) hk1 hFc hP1 hD1
        generalize H1 = H at hP hS ⊢
        have hP : va_P (dC, dI) vwCl (fq_wq h0 a1 a2 a3 a4 d A0 mi mx ct) H := hP
        have hD : va_D A (fq_wq h0 a1 a2 a3 a4 d A0 mi mx ct) := hD
        refine lv_istore_n (lv' := [(3, .int (fq_lowest (((A0.2.2.1 p1.toNatClampNeg) &&& ((14 : Int32) <<< ((p2 >>> ((2 : Int32) &&& (31 : Int32))) &&& (31 : Int32)))) &&& (15 : Int32)))), (5, .int (((A0.2.2.1 p1.toNatClampNeg) &&& ((14 : Int32) <<< ((p2 >>> ((2 : Int32) &&& (31 : Int32))) &&& (31 : Int32)))) &&& (15 : Int32))), (4, .int (((A0.2.2.2 ((p1 * (4 : Int32)) + (p2 >>> ((2 : Int32) &&& (31 : Int32)))).toNatClampNeg) &&& ((14 : Int32) <<< ((p2 &&& (3 : Int32)) &&& (31 : Int32)))) &&& (15 : Int32))), (0, .ref h0), (1, .int p1), (2, .int p2)]) hx hb dX0_afterIn_91 rfl hl (by decide) rfl (fun ls hl => ?_)
        refine lv_aload_n hx hb dX0_afterIn_92 rfl (lv_at hl 3 rfl) ?_
        refine va_get (D := (dC, dI)) (ci := 0) (v := .ref a4) (C := RX0) (T := TX0) (N := 7) hx hb hts in_X0 hown hK hP 0 rfl rfl 3 (by decide) (hts _ q25) (fun _ h9 => h9) rfl dX0_afterIn_93 ?_
        refine lv_iload_n hx hb dX0_afterIn_96 rfl (lv_at hl 4 rfl) ?_
        refine lv_iconst (v := 4) hx hb dX0_afterIn_97 (by decide) ?_
        refine lv_imul hx hb dX0_afterIn_98 ?_
        refine lv_iload_n hx hb dX0_afterIn_99 rfl (lv_at hl 0 rfl) ?_
        refine lv_iadd hx hb dX0_afterIn_100 ?_
        have h_101 : vp_in ((p1 * (4 : Int32)) + (fq_lowest (((A0.2.2.1 p1.toNatClampNeg) &&& ((14 : Int32) <<< ((p2 >>> ((2 : Int32) &&& (31 : Int32))) &&& (31 : Int32)))) &&& (15 : Int32)))) 68 := fq_ix2 hc
        refine va_bald (f := A0.2.2.2) hx hb hK hP 4 0 rfl rfl h_101 dX0_afterIn_101 ?_
        refine lv_istore (lv' := [(6, .int (A0.2.2.2 ((p1 * (4 : Int32)) + (fq_lowest (((A0.2.2.1 p1.toNatClampNeg) &&& ((14 : Int32) <<< ((p2 >>> ((2 : Int32) &&& (31 : Int32))) &&& (31 : Int32)))) &&& (15 : Int32)))).toNatClampNeg)), (3, .int (fq_lowest (((A0.2.2.1 p1.toNatClampNeg) &&& ((14 : Int32) <<< ((p2 >>> ((2 : Int32) &&& (31 : Int32))) &&& (31 : Int32)))) &&& (15 : Int32)))), (5, .int (((A0.2.2.1 p1.toNatClampNeg) &&& ((14 : Int32) <<< ((p2 >>> ((2 : Int32) &&& (31 : Int32))) &&& (31 : Int32)))) &&& (15 : Int32))), (4, .int (((A0.2.2.2 ((p1 * (4 : Int32)) + (p2 >>> ((2 : Int32) &&& (31 : Int32)))).toNatClampNeg) &&& ((14 : Int32) <<< ((p2 &&& (3 : Int32)) &&& (31 : Int32)))) &&& (15 : Int32))), (0, .ref h0), (1, .int p1), (2, .int p2)]) hx hb dX0_afterIn_102 hl (by decide) rfl (fun ls hl => ?_)
        refine lv_iconst (v := 4) hx hb dX0_afterIn_104 (by decide) ?_
        refine lv_iload_n hx hb dX0_afterIn_105 rfl (lv_at hl 1 rfl) ?_
        refine lv_imul hx hb dX0_afterIn_106 ?_
        refine lv_iload hx hb dX0_afterIn_107 (lv_at hl 0 rfl) ?_
        have hFc := va_free (wc := []) hD hS hA [] rfl
        refine va_calli (va_runS (As := [.int (A0.2.2.2 ((p1 * (4 : Int32)) + (fq_lowest (((A0.2.2.1 p1.toNatClampNeg) &&& ((14 : Int32) <<< ((p2 >>> ((2 : Int32) &&& (31 : Int32))) &&& (31 : Int32)))) &&& (15 : Int32)))).toNatClampNeg)]) (rest := [.int ((4 : Int32) * (fq_lowest (((A0.2.2.1 p1.toNatClampNeg) &&& ((14 : Int32) <<< ((p2 >>> ((2 : Int32) &&& (31 : Int32))) &&& (31 : Int32)))) &&& (15 : Int32))))]) ⟨hx, hb, hml, hown, hts⟩ (fq_met_lowest l dC dI H.size (A0.2.2.2 ((p1 * (4 : Int32)) + (fq_lowest (((A0.2.2.1 p1.toNatClampNeg) &&& ((14 : Int32) <<< ((p2 >>> ((2 : Int32) &&& (31 : Int32))) &&& (31 : Int32)))) &&& (15 : Int32)))).toNatClampNeg)) (va_cwS 1 hts (lw_S q77 q78 q12 q79) rfl rfl rfl (by decide +kernel) ⟨Nat.le_of_ble_eq_true rfl, Nat.le_of_ble_eq_true rfl⟩) ⟨fq_blind, fun U hU hW => ⟨rfl, by rw [hU], fun k q h => by simp at h, va_K.moved hW.alike (hK.sub [] rfl), ⟨fun i j p q h => by simp at h, fun k q h => by simp at h⟩⟩⟩ rfl rfl hl.1 rfl (lv_room (Nat.le_of_ble_eq_true rfl)) dX0_afterIn_109 ⟨Nat.le_of_ble_eq_true rfl, Nat.le_of_ble_eq_true rfl⟩) hS (fun q _ h => hFc q h) hFc (fun r u t H1 locs ht hvm hw hB hz1 hk1 hS => ?_)
        subst hw
        obtain ⟨hP1, hK1, hD1⟩ := hB
        rw [ht] at hP1
        obtain ⟨hP, hD⟩ := va_join (wr := fq_wq h0 a1 a2 a3 a4 d A0 mi mx ct) (w1 := []) hP hD [] [0, 1, 2, 3, 4] rfl rfl (by decide) (by decide) hk1 hFc hP1 hD1
        generalize H1 = H at hP hS ⊢
        have hP : va_P (dC, dI) vwCl (fq_wq h0 a1 a2 a3 a4 d A0 mi mx ct) H := hP
        have hD : va_D A (fq_wq h0 a1 a2 a3 a4 d A0 mi mx ct) := hD
        refine lv_iadd hx hb dX0_afterIn_112 ?_
        exact W.iret (v := (((4 : Int32) * (fq_lowest (((A0.2.2.1 p1.toNatClampNeg) &&& ((14 : Int32) <<< ((p2 >>> ((2 : Int32) &&& (31 : Int32))) &&& (31 : Int32)))) &&& (15 : Int32)))) + (fq_lowest (A0.2.2.2 ((p1 * (4 : Int32)) + (fq_lowest (((A0.2.2.1 p1.toNatClampNeg) &&& ((14 : Int32) <<< ((p2 >>> ((2 : Int32) &&& (31 : Int32))) &&& (31 : Int32)))) &&& (15 : Int32)))).toNatClampNeg)))) hx hb hr (fun t ht hW => ⟨⟨(((4 : Int32) * (fq_lowest (((A0.2.2.1 p1.toNatClampNeg) &&& ((14 : Int32) <<< ((p2 >>> ((2 : Int32) &&& (31 : Int32))) &&& (31 : Int32)))) &&& (15 : Int32)))) + (fq_lowest (A0.2.2.2 ((p1 * (4 : Int32)) + (fq_lowest (((A0.2.2.1 p1.toNatClampNeg) &&& ((14 : Int32) <<< ((p2 >>> ((2 : Int32) &&& (31 : Int32))) &&& (31 : Int32)))) &&& (15 : Int32)))).toNatClampNeg))), (), rfl, (by rw [fq_afterIn, if_pos c_7, if_pos c_24, if_pos c_57]), (by rw [ht]; exact hP), va_K.moved hW.alike hK, hD⟩, hS.F ht⟩) hS.2.2 dX0_afterIn_113
      · skip
        refine lv_iconst (v := 4) hx hb dX0_afterIn_60 (by decide) ?_
        refine lv_iload_n hx hb dX0_afterIn_61 rfl (lv_at hl 1 rfl) ?_
        refine lv_imul hx hb dX0_afterIn_62 ?_
        refine lv_iload hx hb dX0_afterIn_63 (lv_at hl 0 rfl) ?_
        have hFc := va_free (wc := []) hD hS hA [] rfl
        refine va_calli (va_runS (As := [.int (((A0.2.2.2 ((p1 * (4 : Int32)) + (p2 >>> ((2 : Int32) &&& (31 : Int32)))).toNatClampNeg) &&& ((14 : Int32) <<< ((p2 &&& (3 : Int32)) &&& (31 : Int32)))) &&& (15 : Int32))]) (rest := [.int ((4 : Int32) * (p2 >>> ((2 : Int32) &&& (31 : Int32))))]) ⟨hx, hb, hml, hown, hts⟩ (fq_met_lowest l dC dI s.heap.size (((A0.2.2.2 ((p1 * (4 : Int32)) + (p2 >>> ((2 : Int32) &&& (31 : Int32)))).toNatClampNeg) &&& ((14 : Int32) <<< ((p2 &&& (3 : Int32)) &&& (31 : Int32)))) &&& (15 : Int32))) (va_cwS 1 hts (lw_S q77 q78 q12 q79) rfl rfl rfl (by decide +kernel) ⟨Nat.le_of_ble_eq_true rfl, Nat.le_of_ble_eq_true rfl⟩) ⟨fq_blind, fun U hU hW => ⟨rfl, by rw [hU], fun k q h => by simp at h, va_K.moved hW.alike (hK.sub [] rfl), ⟨fun i j p q h => by simp at h, fun k q h => by simp at h⟩⟩⟩ rfl rfl hl.1 rfl (lv_room (Nat.le_of_ble_eq_true rfl)) dX0_afterIn_65 ⟨Nat.le_of_ble_eq_true rfl, Nat.le_of_ble_eq_true rfl⟩) hS (fun q _ h => hFc q h) hFc (fun r u t H1 locs ht hvm hw hB hz1 hk1 hS => ?_)
        subst hw
        obtain ⟨hP1, hK1, hD1⟩ := hB
        rw [ht] at hP1
        obtain ⟨hP, hD⟩ := va_join (wr := fq_wq h0 a1 a2 a3 a4 d A0 mi mx ct) (w1 := []) hP hD [] [0, 1, 2, 3, 4] rfl rfl (by decide) (by decide) hk1 hFc hP1 hD1
        generalize H1 = H at hP hS ⊢
        have hP : va_P (dC, dI) vwCl (fq_wq h0 a1 a2 a3 a4 d A0 mi mx ct) H := hP
        have hD : va_D A (fq_wq h0 a1 a2 a3 a4 d A0 mi mx ct) := hD
        refine lv_iadd hx hb dX0_afterIn_68 ?_
        exact W.iret (v := (((4 : Int32) * (p2 >>> ((2 : Int32) &&& (31 : Int32)))) + (fq_lowest (((A0.2.2.2 ((p1 * (4 : Int32)) + (p2 >>> ((2 : Int32) &&& (31 : Int32)))).toNatClampNeg) &&& ((14 : Int32) <<< ((p2 &&& (3 : Int32)) &&& (31 : Int32)))) &&& (15 : Int32))))) hx hb hr (fun t ht hW => ⟨⟨(((4 : Int32) * (p2 >>> ((2 : Int32) &&& (31 : Int32)))) + (fq_lowest (((A0.2.2.2 ((p1 * (4 : Int32)) + (p2 >>> ((2 : Int32) &&& (31 : Int32)))).toNatClampNeg) &&& ((14 : Int32) <<< ((p2 &&& (3 : Int32)) &&& (31 : Int32)))) &&& (15 : Int32)))), (), rfl, (by rw [fq_afterIn, if_pos c_7, if_pos c_24, if_neg c_57]), (by rw [ht]; exact hP), va_K.moved hW.alike hK, hD⟩, hS.F ht⟩) hS.2.2 dX0_afterIn_69
    · skip
      refine lv_iconst (v := -1) hx hb dX0_afterIn_27 (by decide) ?_
      exact W.iret (v := (-1 : Int32)) hx hb hr (fun t ht hW => ⟨⟨(-1 : Int32), (), rfl, (by rw [fq_afterIn, if_pos c_7, if_neg c_24]), (by rw [ht]; exact hP), va_K.moved hW.alike hK, hD⟩, hS.F ht⟩) hS.2.2 dX0_afterIn_28
  · skip
    refine lv_aload_n hx hb dX0_afterIn_10 rfl (lv_at hl 0 rfl) ?_
    refine va_get (D := (dC, dI)) (ci := 0) (v := .ref a1) (C := RX0) (T := TX0) (N := 7) hx hb hts in_X0 hown hK hP 0 rfl rfl 0 (by decide) (hts _ q22) (fun _ h9 => h9) rfl dX0_afterIn_11 ?_
    refine lv_iload_n hx hb dX0_afterIn_14 rfl (lv_at hl 1 rfl) ?_
    have h_15 : vp_in p1 17 := hc
    refine va_bald (f := A0.1) hx hb hK hP 1 0 rfl rfl h_15 dX0_afterIn_15 ?_
    exact W.iret (v := (A0.1 p1.toNatClampNeg)) hx hb hr (fun t ht hW => ⟨⟨(A0.1 p1.toNatClampNeg), (), rfl, (by rw [fq_afterIn, if_neg c_7]), (by rw [ht]; exact hP), va_K.moved hW.alike hK, hD⟩, hS.F ht⟩) hS.2.2 dX0_afterIn_16
set_option maxHeartbeats 4000000 in
set_option maxRecDepth 100000 in
theorem fq_met_beforeIn (l : Launch) (dC : Nat → ClassId) (dI : Nat → Nat → Nat) (h0 a1 a2 a3 a4 : Nat) (d : ClassId) (sz : Nat) (A0 : fq_A4) (mi mx ct : Int32) (p1 p2 : Int32) (hc : vp_in p1 17) (hq : vp_in p2 16) : Met l yX0_beforeIn (ws_ yX0_beforeIn cX0_beforeIn 7 (some .int)) ({ frames := 1, cells := 0, slots := 0, locals := 20 }) (va_Pc [.ref h0, .int p1, .int p2] (fq_PQ dC dI sz (fq_wq h0 a1 a2 a3 a4 d A0 mi mx ct) [(d, .byte)])) (va_Qi (fun (r : Int32) (_ : Unit) => r = fq_beforeIn A0 p1 p2) (fun _ => fq_BQ dC dI (va_A (fq_wq h0 a1 a2 a3 a4 d A0 mi mx ct) sz) (fq_wq h0 a1 a2 a3 a4 d A0 mi mx ct) [(d, .byte)]) (va_A (fq_wq h0 a1 a2 a3 a4 d A0 mi mx ct) sz)) 0 0 (va_A (fq_wq h0 a1 a2 a3 a4 d A0 mi mx ct) sz) := by
  refine Met.ofW (cc := cX0_beforeIn) (maxL := 7) (ret := (some .int)) (by decide) rfl ?_
  intro p e s m args below meth c s₁ B hml hv
  obtain ⟨rfl, hsz, hP, hK, hD0⟩ := hv
  have hx := B.exec
  have hb := B.bytes
  have hr := B.returns
  have hts := atoms_spec (ws := ws_ yX0_beforeIn cX0_beforeIn 7 (some .int)) B.pre
  have hts : ∀ w ∈ lw_all, w.before _ s = true := fun w h => hts w (List.mem_cons_of_mem _ h)
  have hown : s.vm.findClass RX0 = some m.cls := findClass_of_methodNamed B.named
  have hlocks := B.notSynchronized
  subst hsz
  have hD := hD0.self (sz := s.heap.size)
  generalize hAe : va_A (fq_wq h0 a1 a2 a3 a4 d A0 mi mx ct) s.heap.size = A at hD ⊢
  have hA : ∀ q : Nat, s.heap.size ≤ q → A q := fun q h => by rw [← hAe]; exact Or.inr h
  have hS : va_S A s.heap s.heap [] := va_S.rf
  have hP : va_P (dC, dI) vwCl (fq_wq h0 a1 a2 a3 a4 d A0 mi mx ct) s.heap := hP
  have hl := lv_entry ([.ref h0, .int p1, .int p2]) (n := 7) (Nat.le_of_ble_eq_true rfl)
  rw [lg_entry_eq]
  generalize (lg_sl ([.ref h0, .int p1, .int p2]) ++ List.replicate (7 - (lg_sl ([.ref h0, .int p1, .int p2])).length) Slot.unset).toArray = ls0 at hl ⊢
  have hl : lv_has ls0 7 [(0, .ref h0), (1, .int p1), (2, .int p2)] := hl
  refine lv_aload_n hx hb dX0_beforeIn_0 rfl (lv_at hl 0 rfl) ?_
  refine va_get (D := (dC, dI)) (ci := 0) (v := .ref a1) (C := RX0) (T := TX0) (N := 7) hx hb hts in_X0 hown hK hP 0 rfl rfl 0 (by decide) (hts _ q22) (fun _ h9 => h9) rfl dX0_beforeIn_1 ?_
  refine lv_iload_n hx hb dX0_beforeIn_4 rfl (lv_at hl 1 rfl) ?_
  have h_5 : vp_in p1 17 := hc
  refine va_bald (f := A0.1) hx hb hK hP 1 0 rfl rfl h_5 dX0_beforeIn_5 ?_
  refine lv_if_lt (tgt := 19) hx hb dX0_beforeIn_6 (by decide) (fun c_6 => ?_) (fun c_6 => ?_)
  · skip
    refine lv_iconst (v := -1) hx hb dX0_beforeIn_19 (by decide) ?_
    exact W.iret (v := (-1 : Int32)) hx hb hr (fun t ht hW => ⟨⟨(-1 : Int32), (), rfl, (by rw [fq_beforeIn, if_pos c_6]), (by rw [ht]; exact hP), va_K.moved hW.alike hK, hD⟩, hS.F ht⟩) hS.2.2 dX0_beforeIn_20
  · skip
    refine lv_aload_n hx hb dX0_beforeIn_9 rfl (lv_at hl 0 rfl) ?_
    refine va_get (D := (dC, dI)) (ci := 0) (v := .ref a1) (C := RX0) (T := TX0) (N := 7) hx hb hts in_X0 hown hK hP 0 rfl rfl 0 (by decide) (hts _ q22) (fun _ h9 => h9) rfl dX0_beforeIn_10 ?_
    refine lv_iload_n hx hb dX0_beforeIn_13 rfl (lv_at hl 1 rfl) ?_
    have h_14 : vp_in p1 17 := hc
    refine va_bald (f := A0.1) hx hb hK hP 1 0 rfl rfl h_14 dX0_beforeIn_14 ?_
    refine lv_iload_n hx hb dX0_beforeIn_15 rfl (lv_at hl 2 rfl) ?_
    refine lv_icmp_lt (tgt := 21) hx hb dX0_beforeIn_16 (by decide) (fun c_16 => ?_) (fun c_16 => ?_)
    · skip
      refine lv_aload_n hx hb dX0_beforeIn_21 rfl (lv_at hl 0 rfl) ?_
      refine va_get (D := (dC, dI)) (ci := 0) (v := .ref a2) (C := RX0) (T := TX0) (N := 7) hx hb hts in_X0 hown hK hP 0 rfl rfl 1 (by decide) (hts _ q23) (fun _ h9 => h9) rfl dX0_beforeIn_22 ?_
      refine lv_iload_n hx hb dX0_beforeIn_25 rfl (lv_at hl 1 rfl) ?_
      have h_26 : vp_in p1 17 := hc
      refine va_bald (f := A0.2.1) hx hb hK hP 2 0 rfl rfl h_26 dX0_beforeIn_26 ?_
      refine lv_iload_n hx hb dX0_beforeIn_27 rfl (lv_at hl 2 rfl) ?_
      refine lv_icmp_ge (tgt := 38) hx hb dX0_beforeIn_28 (by decide) (fun c_28 => ?_) (fun c_28 => ?_)
      · skip
        refine lv_iload_n hx hb dX0_beforeIn_38 rfl (lv_at hl 2 rfl) ?_
        refine lv_iconst (v := 2) hx hb dX0_beforeIn_39 (by decide) ?_
        refine lv_ishr hx hb dX0_beforeIn_40 ?_
        refine lv_istore_n (lv' := [(3, .int (p2 >>> ((2 : Int32) &&& (31 : Int32)))), (0, .ref h0), (1, .int p1), (2, .int p2)]) hx hb dX0_beforeIn_41 rfl hl (by decide) rfl (fun ls hl => ?_)
        refine lv_aload_n hx hb dX0_beforeIn_42 rfl (lv_at hl 1 rfl) ?_
        refine va_get (D := (dC, dI)) (ci := 0) (v := .ref a4) (C := RX0) (T := TX0) (N := 7) hx hb hts in_X0 hown hK hP 0 rfl rfl 3 (by decide) (hts _ q25) (fun _ h9 => h9) rfl dX0_beforeIn_43 ?_
        refine lv_iload_n hx hb dX0_beforeIn_46 rfl (lv_at hl 2 rfl) ?_
        refine lv_iconst (v := 4) hx hb dX0_beforeIn_47 (by decide) ?_
        refine lv_imul hx hb dX0_beforeIn_48 ?_
        refine lv_iload_n hx hb dX0_beforeIn_49 rfl (lv_at hl 0 rfl) ?_
        refine lv_iadd hx hb dX0_beforeIn_50 ?_
        have h_51 : vp_in ((p1 * (4 : Int32)) + (p2 >>> ((2 : Int32) &&& (31 : Int32)))) 68 := fq_ix1 hc hq
        refine va_bald (f := A0.2.2.2) hx hb hK hP 4 0 rfl rfl h_51 dX0_beforeIn_51 ?_
        refine lv_iconst (v := 1) hx hb dX0_beforeIn_52 (by decide) ?_
        refine lv_iload_n hx hb dX0_beforeIn_53 rfl (lv_at hl 3 rfl) ?_
        refine lv_iconst (v := 3) hx hb dX0_beforeIn_54 (by decide) ?_
        refine lv_iand hx hb dX0_beforeIn_55 ?_
        refine lv_ishl hx hb dX0_beforeIn_56 ?_
        refine lv_iconst (v := 1) hx hb dX0_beforeIn_57 (by decide) ?_
        refine lv_isub hx hb dX0_beforeIn_58 ?_
        refine lv_iand hx hb dX0_beforeIn_59 ?_
        refine lv_istore (lv' := [(4, .int ((A0.2.2.2 ((p1 * (4 : Int32)) + (p2 >>> ((2 : Int32) &&& (31 : Int32)))).toNatClampNeg) &&& (((1 : Int32) <<< ((p2 &&& (3 : Int32)) &&& (31 : Int32))) - (1 : Int32)))), (3, .int (p2 >>> ((2 : Int32) &&& (31 : Int32)))), (0, .ref h0), (1, .int p1), (2, .int p2)]) hx hb dX0_beforeIn_60 hl (by decide) rfl (fun ls hl => ?_)
        refine lv_iload hx hb dX0_beforeIn_62 (lv_at hl 0 rfl) ?_
        refine lv_if_eq (tgt := 77) hx hb dX0_beforeIn_64 (by decide) (fun c_64 => ?_) (fun c_64 => ?_)
        · skip
          refine lv_aload_n hx hb dX0_beforeIn_77 rfl (lv_at hl 2 rfl) ?_
          refine va_get (D := (dC, dI)) (ci := 0) (v := .ref a3) (C := RX0) (T := TX0) (N := 7) hx hb hts in_X0 hown hK hP 0 rfl rfl 2 (by decide) (hts _ q24) (fun _ h9 => h9) rfl dX0_beforeIn_78 ?_
          refine lv_iload_n hx hb dX0_beforeIn_81 rfl (lv_at hl 3 rfl) ?_
          have h_82 : vp_in p1 17 := hc
          refine va_bald (f := A0.2.2.1) hx hb hK hP 3 0 rfl rfl h_82 dX0_beforeIn_82 ?_
          refine lv_iconst (v := 1) hx hb dX0_beforeIn_83 (by decide) ?_
          refine lv_iload_n hx hb dX0_beforeIn_84 rfl (lv_at hl 1 rfl) ?_
          refine lv_ishl hx hb dX0_beforeIn_85 ?_
          refine lv_iconst (v := 1) hx hb dX0_beforeIn_86 (by decide) ?_
          refine lv_isub hx hb dX0_beforeIn_87 ?_
          refine lv_iand hx hb dX0_beforeIn_88 ?_
          refine lv_istore (lv' := [(5, .int ((A0.2.2.1 p1.toNatClampNeg) &&& (((1 : Int32) <<< ((p2 >>> ((2 : Int32) &&& (31 : Int32))) &&& (31 : Int32))) - (1 : Int32)))), (4, .int ((A0.2.2.2 ((p1 * (4 : Int32)) + (p2 >>> ((2 : Int32) &&& (31 : Int32)))).toNatClampNeg) &&& (((1 : Int32) <<< ((p2 &&& (3 : Int32)) &&& (31 : Int32))) - (1 : Int32)))), (3, .int (p2 >>> ((2 : Int32) &&& (31 : Int32)))), (0, .ref h0), (1, .int p1), (2, .int p2)]) hx hb dX0_beforeIn_89 hl (by decide) rfl (fun ls hl => ?_)
          refine lv_iload hx hb dX0_beforeIn_91 (lv_at hl 0 rfl) ?_
          refine lv_if_ne (tgt := 103) hx hb dX0_beforeIn_93 (by decide) (fun c_93 => ?_) (fun c_93 => ?_)
          · skip
            refine lv_iload hx hb dX0_beforeIn_103 (lv_at hl 0 rfl) ?_
            have hFc := va_free (wc := []) hD hS hA [] rfl
            refine va_calli (va_runS (As := [.int ((A0.2.2.1 p1.toNatClampNeg) &&& (((1 : Int32) <<< ((p2 >>> ((2 : Int32) &&& (31 : Int32))) &&& (31 : Int32))) - (1 : Int32)))]) (rest := []) ⟨hx, hb, hml, hown, hts⟩ (fq_met_highest l dC dI s.heap.size ((A0.2.2.1 p1.toNatClampNeg) &&& (((1 : Int32) <<< ((p2 >>> ((2 : Int32) &&& (31 : Int32))) &&& (31 : Int32))) - (1 : Int32)))) (va_cwS 1 hts (lw_S q88 q89 q12 q90) rfl rfl rfl (by decide +kernel) ⟨Nat.le_of_ble_eq_true rfl, Nat.le_of_ble_eq_true rfl⟩) ⟨fq_blind, fun U hU hW => ⟨rfl, by rw [hU], fun k q h => by simp at h, va_K.moved hW.alike (hK.sub [] rfl), ⟨fun i j p q h => by simp at h, fun k q h => by simp at h⟩⟩⟩ rfl rfl hl.1 rfl (lv_room (Nat.le_of_ble_eq_true rfl)) dX0_beforeIn_105 ⟨Nat.le_of_ble_eq_true rfl, Nat.le_of_ble_eq_true rfl⟩) hS (fun q _ h => hFc q h) hFc (fun r u t H1 locs ht hvm hw hB hz1 hk1 hS => ?_)
            subst hw
            obtain ⟨hP1, hK1, hD1⟩ := hB
            rw [ht] at hP1
            obtain ⟨hP, hD⟩ := va_join (wr := fq_wq h0 a1 a2 a3 a4 d A0 mi mx ct) (w1 := []) hP hD [] [0, 1, 2, 3, 4] rfl rfl (by decide) (by decide) hk1 hFc hP1 hD1
            generalize H1 = H at hP hS ⊢
            have hP : va_P (dC, dI) vwCl (fq_wq h0 a1 a2 a3 a4 d A0 mi mx ct) H := hP
            have hD : va_D A (fq_wq h0 a1 a2 a3 a4 d A0 mi mx ct) := hD
            refine lv_istore_n (lv' := [(3, .int (fq_highest ((A0.2.2.1 p1.toNatClampNeg) &&& (((1 : Int32) <<< ((p2 >>> ((2 : Int32) &&& (31 : Int32))) &&& (31 : Int32))) - (1 : Int32))))), (5, .int ((A0.2.2.1 p1.toNatClampNeg) &&& (((1 : Int32) <<< ((p2 >>> ((2 : Int32) &&& (31 : Int32))) &&& (31 : Int32))) - (1 : Int32)))), (4, .int ((A0.2.2.2 ((p1 * (4 : Int32)) + (p2 >>> ((2 : Int32) &&& (31 : Int32)))).toNatClampNeg) &&& (((1 : Int32) <<< ((p2 &&& (3 : Int32)) &&& (31 : Int32))) - (1 : Int32)))), (0, .ref h0), (1, .int p1), (2, .int p2)]) hx hb dX0_beforeIn_108 rfl hl (by decide) rfl (fun ls hl => ?_)
            refine lv_aload_n hx hb dX0_beforeIn_109 rfl (lv_at hl 3 rfl) ?_
            refine va_get (D := (dC, dI)) (ci := 0) (v := .ref a4) (C := RX0) (T := TX0) (N := 7) hx hb hts in_X0 hown hK hP 0 rfl rfl 3 (by decide) (hts _ q25) (fun _ h9 => h9) rfl dX0_beforeIn_110 ?_
            refine lv_iload_n hx hb dX0_beforeIn_113 rfl (lv_at hl 4 rfl) ?_
            refine lv_iconst (v := 4) hx hb dX0_beforeIn_114 (by decide) ?_
            refine lv_imul hx hb dX0_beforeIn_115 ?_
            refine lv_iload_n hx hb dX0_beforeIn_116 rfl (lv_at hl 0 rfl) ?_
            refine lv_iadd hx hb dX0_beforeIn_117 ?_
            have h_118 : vp_in ((p1 * (4 : Int32)) + (fq_highest ((A0.2.2.1 p1.toNatClampNeg) &&& (((1 : Int32) <<< ((p2 >>> ((2 : Int32) &&& (31 : Int32))) &&& (31 : Int32))) - (1 : Int32))))) 68 := fq_ix3 hc
            refine va_bald (f := A0.2.2.2) hx hb hK hP 4 0 rfl rfl h_118 dX0_beforeIn_118 ?_
            refine lv_istore (lv' := [(6, .int (A0.2.2.2 ((p1 * (4 : Int32)) + (fq_highest ((A0.2.2.1 p1.toNatClampNeg) &&& (((1 : Int32) <<< ((p2 >>> ((2 : Int32) &&& (31 : Int32))) &&& (31 : Int32))) - (1 : Int32))))).toNatClampNeg)), (3, .int (fq_highest ((A0.2.2.1 p1.toNatClampNeg) &&& (((1 : Int32) <<< ((p2 >>> ((2 : Int32) &&& (31 : Int32))) &&& (31 : Int32))) - (1 : Int32))))), (5, .int ((A0.2.2.1 p1.toNatClampNeg) &&& (((1 : Int32) <<< ((p2 >>> ((2 : Int32) &&& (31 : Int32))) &&& (31 : Int32))) - (1 : Int32)))), (4, .int ((A0.2.2.2 ((p1 * (4 : Int32)) + (p2 >>> ((2 : Int32) &&& (31 : Int32)))).toNatClampNeg) &&& (((1 : Int32) <<< ((p2 &&& (3 : Int32)) &&& (31 : Int32))) - (1 : Int32)))), (0, .ref h0), (1, .int p1), (2, .int p2)]) hx hb dX0_beforeIn_119 hl (by decide) rfl (fun ls hl => ?_)
            refine lv_iconst (v := 4) hx hb dX0_beforeIn_121 (by decide) ?_
            refine lv_iload_n hx hb dX0_beforeIn_122 rfl (lv_at hl 1 rfl) ?_
            refine lv_imul hx hb dX0_beforeIn_123 ?_
            refine lv_iload hx hb dX0_beforeIn_124 (lv_at hl 0 rfl) ?_
            have hFc := va_free (wc := []) hD hS hA [] rfl
            refine va_calli (va_runS (As := [.int (A0.2.2.2 ((p1 * (4 : Int32)) + (fq_highest ((A0.2.2.1 p1.toNatClampNeg) &&& (((1 : Int32) <<< ((p2 >>> ((2 : Int32) &&& (31 : Int32))) &&& (31 : Int32))) - (1 : Int32))))).toNatClampNeg)]) (rest := [.int ((4 : Int32) * (fq_highest ((A0.2.2.1 p1.toNatClampNeg) &&& (((1 : Int32) <<< ((p2 >>> ((2 : Int32) &&& (31 : Int32))) &&& (31 : Int32))) - (1 : Int32)))))]) ⟨hx, hb, hml, hown, hts⟩ (fq_met_highest l dC dI H.size (A0.2.2.2 ((p1 * (4 : Int32)) + (fq_highest ((A0.2.2.1 p1.toNatClampNeg) &&& (((1 : Int32) <<< ((p2 >>> ((2 : Int32) &&& (31 : Int32))) &&& (31 : Int32))) - (1 : Int32))))).toNatClampNeg)) (va_cwS 1 hts (lw_S q88 q89 q12 q90) rfl rfl rfl (by decide +kernel) ⟨Nat.le_of_ble_eq_true rfl, Nat.le_of_ble_eq_true rfl⟩) ⟨fq_blind, fun U hU hW => ⟨rfl, by rw [hU], fun k q h => by simp at h, va_K.moved hW.alike (hK.sub [] rfl), ⟨fun i j p q h => by simp at h, fun k q h => by simp at h⟩⟩⟩ rfl rfl hl.1 rfl (lv_room (Nat.le_of_ble_eq_true rfl)) dX0_beforeIn_126 ⟨Nat.le_of_ble_eq_true rfl, Nat.le_of_ble_eq_true rfl⟩) hS (fun q _ h => hFc q h) hFc (fun r u t H1 locs ht hvm hw hB hz1 hk1 hS => ?_)
            subst hw
            obtain ⟨hP1, hK1, hD1⟩ := hB
            rw [ht] at hP1
            obtain ⟨hP, hD⟩ := va_join (wr := fq_wq h0 a1 a2 a3 a4 d A0 mi mx ct) (w1 := []) hP hD [] [0, 1, 2, 3, 4] rfl rfl (by decide) (by decide) hk1 hFc hP1 hD1
            generalize H1 = H at hP hS ⊢
            have hP : va_P (dC, dI) vwCl (fq_wq h0 a1 a2 a3 a4 d A0 mi mx ct) H := hP
            have hD : va_D A (fq_wq h0 a1 a2 a3 a4 d A0 mi mx ct) := hD
            refine lv_iadd hx hb dX0_beforeIn_129 ?_
            exact W.iret (v := (((4 : Int32) * (fq_highest ((A0.2.2.1 p1.toNatClampNeg) &&& (((1 : Int32) <<< ((p2 >>> ((2 : Int32) &&& (31 : Int32))) &&& (31 : Int32))) - (1 : Int32))))) + (fq_highest (A0.2.2.2 ((p1 * (4 : Int32)) + (fq_highest ((A0.2.2.1 p1.toNatClampNeg) &&& (((1 : Int32) <<< ((p2 >>> ((2 : Int32) &&& (31 : Int32))) &&& (31 : Int32))) - (1 : Int32))))).toNatClampNeg)))) hx hb hr (fun t ht hW => ⟨⟨(((4 : Int32) * (fq_highest ((A0.2.2.1 p1.toNatClampNeg) &&& (((1 : Int32) <<< ((p2 >>> ((2 : Int32) &&& (31 : Int32))) &&& (31 : Int32))) - (1 : Int32))))) + (fq_highest (A0.2.2.2 ((p1 * (4 : Int32)) + (fq_highest ((A0.2.2.1 p1.toNatClampNeg) &&& (((1 : Int32) <<< ((p2 >>> ((2 : Int32) &&& (31 : Int32))) &&& (31 : Int32))) - (1 : Int32))))).toNatClampNeg))), (), rfl, (by rw [fq_beforeIn, if_neg c_6, if_pos c_16, if_pos c_28, if_pos c_64, if_neg c_93]), (by rw [ht]; exact hP), va_K.moved hW.alike hK, hD⟩, hS.F ht⟩) hS.2.2 dX0_beforeIn_130
          · skip
            refine lv_aload_n hx hb dX0_beforeIn_96 rfl (lv_at hl 3 rfl) ?_
            refine va_get (D := (dC, dI)) (ci := 0) (v := .ref a1) (C := RX0) (T := TX0) (N := 7) hx hb hts in_X0 hown hK hP 0 rfl rfl 0 (by decide) (hts _ q22) (fun _ h9 => h9) rfl dX0_beforeIn_97 ?_
            refine lv_iload_n hx hb dX0_beforeIn_100 rfl (lv_at hl 4 rfl) ?_
            have h_101 : vp_in p1 17 := hc
            refine va_bald (f := A0.1) hx hb hK hP 1 0 rfl rfl h_101 dX0_beforeIn_101 ?_
            exact W.iret (v := (A0.1 p1.toNatClampNeg)) hx hb hr (fun t ht hW => ⟨⟨(A0.1 p1.toNatClampNeg), (), rfl, (by rw [fq_beforeIn, if_neg c_6, if_pos c_16, if_pos c_28, if_pos c_64, if_pos c_93]), (by rw [ht]; exact hP), va_K.moved hW.alike hK, hD⟩, hS.F ht⟩) hS.2.2 dX0_beforeIn_102
        · skip
          refine lv_iconst (v := 4) hx hb dX0_beforeIn_67 (by decide) ?_
          refine lv_iload_n hx hb dX0_beforeIn_68 rfl (lv_at hl 1 rfl) ?_
          refine lv_imul hx hb dX0_beforeIn_69 ?_
          refine lv_iload hx hb dX0_beforeIn_70 (lv_at hl 0 rfl) ?_
          have hFc := va_free (wc := []) hD hS hA [] rfl
          refine va_calli (va_runS (As := [.int ((A0.2.2.2 ((p1 * (4 : Int32)) + (p2 >>> ((2 : Int32) &&& (31 : Int32)))).toNatClampNeg) &&& (((1 : Int32) <<< ((p2 &&& (3 : Int32)) &&& (31 : Int32))) - (1 : Int32)))]) (rest := [.int ((4 : Int32) * (p2 >>> ((2 : Int32) &&& (31 : Int32))))]) ⟨hx, hb, hml, hown, hts⟩ (fq_met_highest l dC dI s.heap.size ((A0.2.2.2 ((p1 * (4 : Int32)) + (p2 >>> ((2 : Int32) &&& (31 : Int32)))).toNatClampNeg) &&& (((1 : Int32) <<< ((p2 &&& (3 : Int32)) &&& (31 : Int32))) - (1 : Int32)))) (va_cwS 1 hts (lw_S q88 q89 q12 q90) rfl rfl rfl (by decide +kernel) ⟨Nat.le_of_ble_eq_true rfl, Nat.le_of_ble_eq_true rfl⟩) ⟨fq_blind, fun U hU hW => ⟨rfl, by rw [hU], fun k q h => by simp at h, va_K.moved hW.alike (hK.sub [] rfl), ⟨fun i j p q h => by simp at h, fun k q h => by simp at h⟩⟩⟩ rfl rfl hl.1 rfl (lv_room (Nat.le_of_ble_eq_true rfl)) dX0_beforeIn_72 ⟨Nat.le_of_ble_eq_true rfl, Nat.le_of_ble_eq_true rfl⟩) hS (fun q _ h => hFc q h) hFc (fun r u t H1 locs ht hvm hw hB hz1 hk1 hS => ?_)
          subst hw
          obtain ⟨hP1, hK1, hD1⟩ := hB
          rw [ht] at hP1
          obtain ⟨hP, hD⟩ := va_join (wr := fq_wq h0 a1 a2 a3 a4 d A0 mi mx ct) (w1 := []) hP hD [] [0, 1, 2, 3, 4] rfl rfl (by decide) (by decide) hk1 hFc hP1 hD1
          generalize H1 = H at hP hS ⊢
          have hP : va_P (dC, dI) vwCl (fq_wq h0 a1 a2 a3 a4 d A0 mi mx ct) H := hP
          have hD : va_D A (fq_wq h0 a1 a2 a3 a4 d A0 mi mx ct) := hD
          refine lv_iadd hx hb dX0_beforeIn_75 ?_
          exact W.iret (v := (((4 : Int32) * (p2 >>> ((2 : Int32) &&& (31 : Int32)))) + (fq_highest ((A0.2.2.2 ((p1 * (4 : Int32)) + (p2 >>> ((2 : Int32) &&& (31 : Int32)))).toNatClampNeg) &&& (((1 : Int32) <<< ((p2 &&& (3 : Int32)) &&& (31 : Int32))) - (1 : Int32)))))) hx hb hr (fun t ht hW => ⟨⟨(((4 : Int32) * (p2 >>> ((2 : Int32) &&& (31 : Int32)))) + (fq_highest ((A0.2.2.2 ((p1 * (4 : Int32)) + (p2 >>> ((2 : Int32) &&& (31 : Int32)))).toNatClampNeg) &&& (((1 : Int32) <<< ((p2 &&& (3 : Int32)) &&& (31 : Int32))) - (1 : Int32))))), (), rfl, (by rw [fq_beforeIn, if_neg c_6, if_pos c_16, if_pos c_28, if_neg c_64]), (by rw [ht]; exact hP), va_K.moved hW.alike hK, hD⟩, hS.F ht⟩) hS.2.2 dX0_beforeIn_76
      · skip
        refine lv_aload_n hx hb dX0_beforeIn_31 rfl (lv_at hl 0 rfl) ?_
        refine va_get (D := (dC, dI)) (ci := 0) (v := .ref a2) (C := RX0) (T := TX0) (N := 7) hx hb hts in_X0 hown hK hP 0 rfl rfl 1 (by decide) (hts _ q23) (fun _ h9 => h9) rfl dX0_beforeIn_32 ?_
        refine lv_iload_n hx hb dX0_beforeIn_35 rfl (lv_at hl 1 rfl) ?_
        have h_36 : vp_in p1 17 := hc
        refine va_bald (f := A0.2.1) hx hb hK hP 2 0 rfl rfl h_36 dX0_beforeIn_36 ?_
        exact W.iret (v := (A0.2.1 p1.toNatClampNeg)) hx hb hr (fun t ht hW => ⟨⟨(A0.2.1 p1.toNatClampNeg), (), rfl, (by rw [fq_beforeIn, if_neg c_6, if_pos c_16, if_neg c_28]), (by rw [ht]; exact hP), va_K.moved hW.alike hK, hD⟩, hS.F ht⟩) hS.2.2 dX0_beforeIn_37
    · skip
      refine lv_iconst (v := -1) hx hb dX0_beforeIn_19 (by decide) ?_
      exact W.iret (v := (-1 : Int32)) hx hb hr (fun t ht hW => ⟨⟨(-1 : Int32), (), rfl, (by rw [fq_beforeIn, if_neg c_6, if_neg c_16]), (by rw [ht]; exact hP), va_K.moved hW.alike hK, hD⟩, hS.F ht⟩) hS.2.2 dX0_beforeIn_20
set_option maxHeartbeats 4000000 in
set_option maxRecDepth 100000 in
theorem fq_met_member (l : Launch) (dC : Nat → ClassId) (dI : Nat → Nat → Nat) (h0 a1 a2 a3 a4 : Nat) (d : ClassId) (sz : Nat) (A0 : fq_A4) (mi mx ct : Int32) (p1 : Int32) : Met l yX0_member (ws_ yX0_member cX0_member 2 (some .boolean)) ({ frames := 1, cells := 0, slots := 0, locals := 22 }) (va_Pc [.ref h0, .int p1] (fq_PQ dC dI sz (fq_wq h0 a1 a2 a3 a4 d A0 mi mx ct) [(d, .byte)])) (va_Qi (fun (r : Int32) (_ : Unit) => r = fq_member A0 mi mx ct p1) (fun _ => fq_BQ dC dI (va_A (fq_wq h0 a1 a2 a3 a4 d A0 mi mx ct) sz) (fq_wq h0 a1 a2 a3 a4 d A0 mi mx ct) [(d, .byte)]) (va_A (fq_wq h0 a1 a2 a3 a4 d A0 mi mx ct) sz)) 0 0 (va_A (fq_wq h0 a1 a2 a3 a4 d A0 mi mx ct) sz) := by
  refine Met.ofW (cc := cX0_member) (maxL := 2) (ret := (some .boolean)) (by decide) rfl ?_
  intro p e s m args below meth c s₁ B hml hv
  obtain ⟨rfl, hsz, hP, hK, hD0⟩ := hv
  have hx := B.exec
  have hb := B.bytes
  have hr := B.returns
  have hts := atoms_spec (ws := ws_ yX0_member cX0_member 2 (some .boolean)) B.pre
  have hts : ∀ w ∈ lw_all, w.before _ s = true := fun w h => hts w (List.mem_cons_of_mem _ h)
  have hown : s.vm.findClass RX0 = some m.cls := findClass_of_methodNamed B.named
  have hlocks := B.notSynchronized
  subst hsz
  have hD := hD0.self (sz := s.heap.size)
  generalize hAe : va_A (fq_wq h0 a1 a2 a3 a4 d A0 mi mx ct) s.heap.size = A at hD ⊢
  have hA : ∀ q : Nat, s.heap.size ≤ q → A q := fun q h => by rw [← hAe]; exact Or.inr h
  have hS : va_S A s.heap s.heap [] := va_S.rf
  have hP : va_P (dC, dI) vwCl (fq_wq h0 a1 a2 a3 a4 d A0 mi mx ct) s.heap := hP
  have hl := lv_entry ([.ref h0, .int p1]) (n := 2) (Nat.le_of_ble_eq_true rfl)
  rw [lg_entry_eq]
  generalize (lg_sl ([.ref h0, .int p1]) ++ List.replicate (2 - (lg_sl ([.ref h0, .int p1])).length) Slot.unset).toArray = ls0 at hl ⊢
  have hl : lv_has ls0 2 [(0, .ref h0), (1, .int p1)] := hl
  refine lv_iload_n hx hb dX0_member_0 rfl (lv_at hl 1 rfl) ?_
  refine lv_if_lt (tgt := 37) hx hb dX0_member_1 (by decide) (fun c_1 => ?_) (fun c_1 => ?_)
  · skip
    refine lv_iconst (v := 0) hx hb dX0_member_37 (by decide) ?_
    exact W.zret (v := (0 : Int32)) hx hb hr rfl (fun t ht hW => ⟨⟨(0 : Int32), (), rfl, (by rw [fq_member, if_pos c_1]), (by rw [ht]; exact hP), va_K.moved hW.alike hK, hD⟩, hS.F ht⟩) hS.2.2 dX0_member_38
  · skip
    refine lv_iload_n hx hb dX0_member_4 rfl (lv_at hl 1 rfl) ?_
    refine lv_sipush (v := 256) hx hb dX0_member_5 (by decide) ?_
    refine lv_icmp_ge (tgt := 37) hx hb dX0_member_8 (by decide) (fun c_8 => ?_) (fun c_8 => ?_)
    · skip
      refine lv_iconst (v := 0) hx hb dX0_member_37 (by decide) ?_
      exact W.zret (v := (0 : Int32)) hx hb hr rfl (fun t ht hW => ⟨⟨(0 : Int32), (), rfl, (by rw [fq_member, if_neg c_1, if_pos c_8]), (by rw [ht]; exact hP), va_K.moved hW.alike hK, hD⟩, hS.F ht⟩) hS.2.2 dX0_member_38
    · skip
      refine lv_iload_n hx hb dX0_member_11 rfl (lv_at hl 1 rfl) ?_
      refine lv_aload_n hx hb dX0_member_12 rfl (lv_at hl 0 rfl) ?_
      refine va_get (D := (dC, dI)) (ci := 0) (v := .int mi) (C := RX0) (T := TX0) (N := 7) hx hb hts in_X0 hown hK hP 0 rfl rfl 4 (by decide) (hts _ q26) (fun _ h9 => h9) rfl dX0_member_13 ?_
      refine lv_icmp_eq (tgt := 33) hx hb dX0_member_16 (by decide) (fun c_16 => ?_) (fun c_16 => ?_)
      · skip
        refine lv_iconst (v := 1) hx hb dX0_member_33 (by decide) ?_
        refine lv_goto (tgt := 38) hx hb dX0_member_34 (by decide) ?_
        exact W.zret (v := (1 : Int32)) hx hb hr rfl (fun t ht hW => ⟨⟨(1 : Int32), (), rfl, (by rw [fq_member, if_neg c_1, if_neg c_8, if_pos c_16]), (by rw [ht]; exact hP), va_K.moved hW.alike hK, hD⟩, hS.F ht⟩) hS.2.2 dX0_member_38
      · skip
        refine lv_aload_n hx hb dX0_member_19 rfl (lv_at hl 0 rfl) ?_
        refine lv_iload_n hx hb dX0_member_20 rfl (lv_at hl 1 rfl) ?_
        refine lv_iconst (v := 4) hx hb dX0_member_21 (by decide) ?_
        refine lv_ishr hx hb dX0_member_22 ?_
        refine lv_iload_n hx hb dX0_member_23 rfl (lv_at hl 1 rfl) ?_
        refine lv_bipush (v := 15) hx hb dX0_member_24 (by decide) ?_
        refine lv_iand hx hb dX0_member_26 ?_
        have hFc := va_free (wc := fq_wq h0 a1 a2 a3 a4 d A0 mi mx ct) hD hS hA [0, 1, 2, 3, 4] rfl
        refine va_calli (va_runV (As := [.int (p1 >>> ((4 : Int32) &&& (31 : Int32))), .int (p1 &&& (15 : Int32))]) (rest := []) ⟨hx, hb, hml, hown, hts⟩ (fq_met_inCluster l dC dI h0 a1 a2 a3 a4 d s.heap.size A0 mi mx ct (p1 >>> ((4 : Int32) &&& (31 : Int32))) (p1 &&& (15 : Int32)) (fq_ix6 (fq_in256 c_1 c_8)) (fq_ix5 _)) (cwV 2 hts (lw_V q53 q55 qs0 q12 q56) rfl rfl rfl (by decide +kernel) ⟨Nat.le_of_ble_eq_true rfl, Nat.le_of_ble_eq_true rfl⟩) ⟨fq_blind, va_recv hK hP (ci := 0) (q0 := 0) rfl rfl, fun U hU hW => ⟨rfl, by rw [hU], by rw [hU]; exact hP, va_K.moved hW.alike hK, hD.weaken (fun _ _ _ _ => trivial)⟩⟩ rfl rfl hl.1 rfl (lv_room (Nat.le_of_ble_eq_true rfl)) dX0_member_27 ⟨Nat.le_of_ble_eq_true rfl, Nat.le_of_ble_eq_true rfl⟩) hS (fun q _ h => hFc q h) hFc (fun r_27 u_27 t H1 locs ht hvm hw hB hz1 hk1 hS => ?_)
        have hw : r_27 = (fq_inCluster A0 (p1 >>> ((4 : Int32) &&& (31 : Int32))) (p1 &&& (15 : Int32))) := hw
        subst hw
        obtain ⟨hP1, hK1, hD1⟩ := hB
        rw [ht] at hP1
        have hP : va_P (dC, dI) vwCl (fq_wq h0 a1 a2 a3 a4 d A0 mi mx ct) H1 := hP1
        have hD : va_D A (fq_wq h0 a1 a2 a3 a4 d A0 mi mx ct) := hD1.weaken (fun _ _ _ h => hFc _ h)
        generalize H1 = H at hP hS ⊢
        refine lv_if_eq (tgt := 37) hx hb dX0_member_30 (by decide) (fun c_30 => ?_) (fun c_30 => ?_)
        · skip
          refine lv_iconst (v := 0) hx hb dX0_member_37 (by decide) ?_
          exact W.zret (v := (0 : Int32)) hx hb hr rfl (fun t ht hW => ⟨⟨(0 : Int32), (), rfl, (by rw [fq_member, if_neg c_1, if_neg c_8, if_neg c_16, if_pos c_30]), (by rw [ht]; exact hP), va_K.moved hW.alike hK, hD⟩, hS.F ht⟩) hS.2.2 dX0_member_38
        · skip
          refine lv_iconst (v := 1) hx hb dX0_member_33 (by decide) ?_
          refine lv_goto (tgt := 38) hx hb dX0_member_34 (by decide) ?_
          exact W.zret (v := (1 : Int32)) hx hb hr rfl (fun t ht hW => ⟨⟨(1 : Int32), (), rfl, (by rw [fq_member, if_neg c_1, if_neg c_8, if_neg c_16, if_neg c_30]), (by rw [ht]; exact hP), va_K.moved hW.alike hK, hD⟩, hS.F ht⟩) hS.2.2 dX0_member_38
set_option maxHeartbeats 4000000 in
set_option maxRecDepth 100000 in
theorem fq_met_size (l : Launch) (dC : Nat → ClassId) (dI : Nat → Nat → Nat) (h0 a1 a2 a3 a4 : Nat) (d : ClassId) (sz : Nat) (A0 : fq_A4) (mi mx ct : Int32) : Met l yX0_size (ws_ yX0_size cX0_size 1 (some .int)) ({ frames := 0, cells := 0, slots := 0, locals := 0 }) (va_Pc [.ref h0] (fq_PQ dC dI sz (fq_wq h0 a1 a2 a3 a4 d A0 mi mx ct) [(d, .byte)])) (va_Qi (fun (r : Int32) (_ : Unit) => r = fq_size A0 mi mx ct) (fun _ => fq_BQ dC dI (va_A (fq_wq h0 a1 a2 a3 a4 d A0 mi mx ct) sz) (fq_wq h0 a1 a2 a3 a4 d A0 mi mx ct) [(d, .byte)]) (va_A (fq_wq h0 a1 a2 a3 a4 d A0 mi mx ct) sz)) 0 0 (va_A (fq_wq h0 a1 a2 a3 a4 d A0 mi mx ct) sz) := by
  refine Met.ofW (cc := cX0_size) (maxL := 1) (ret := (some .int)) (by decide) rfl ?_
  intro p e s m args below meth c s₁ B hml hv
  obtain ⟨rfl, hsz, hP, hK, hD0⟩ := hv
  have hx := B.exec
  have hb := B.bytes
  have hr := B.returns
  have hts := atoms_spec (ws := ws_ yX0_size cX0_size 1 (some .int)) B.pre
  have hts : ∀ w ∈ lw_all, w.before _ s = true := fun w h => hts w (List.mem_cons_of_mem _ h)
  have hown : s.vm.findClass RX0 = some m.cls := findClass_of_methodNamed B.named
  have hlocks := B.notSynchronized
  subst hsz
  have hD := hD0.self (sz := s.heap.size)
  generalize hAe : va_A (fq_wq h0 a1 a2 a3 a4 d A0 mi mx ct) s.heap.size = A at hD ⊢
  have hA : ∀ q : Nat, s.heap.size ≤ q → A q := fun q h => by rw [← hAe]; exact Or.inr h
  have hS : va_S A s.heap s.heap [] := va_S.rf
  have hP : va_P (dC, dI) vwCl (fq_wq h0 a1 a2 a3 a4 d A0 mi mx ct) s.heap := hP
  have hl := lv_entry ([.ref h0]) (n := 1) (Nat.le_of_ble_eq_true rfl)
  rw [lg_entry_eq]
  generalize (lg_sl ([.ref h0]) ++ List.replicate (1 - (lg_sl ([.ref h0])).length) Slot.unset).toArray = ls0 at hl ⊢
  have hl : lv_has ls0 1 [(0, .ref h0)] := hl
  refine lv_aload_n hx hb dX0_size_0 rfl (lv_at hl 0 rfl) ?_
  refine va_get (D := (dC, dI)) (ci := 0) (v := .int ct) (C := RX0) (T := TX0) (N := 7) hx hb hts in_X0 hown hK hP 0 rfl rfl 6 (by decide) (hts _ q28) (fun _ h9 => h9) rfl dX0_size_1 ?_
  exact W.iret (v := ct) hx hb hr (fun t ht hW => ⟨⟨ct, (), rfl, (by rw [fq_size]), (by rw [ht]; exact hP), va_K.moved hW.alike hK, hD⟩, hS.F ht⟩) hS.2.2 dX0_size_4
set_option maxHeartbeats 4000000 in
set_option maxRecDepth 100000 in
theorem fq_met_least (l : Launch) (dC : Nat → ClassId) (dI : Nat → Nat → Nat) (h0 a1 a2 a3 a4 : Nat) (d : ClassId) (sz : Nat) (A0 : fq_A4) (mi mx ct : Int32) : Met l yX0_least (ws_ yX0_least cX0_least 1 (some .int)) ({ frames := 0, cells := 0, slots := 0, locals := 0 }) (va_Pc [.ref h0] (fq_PQ dC dI sz (fq_wq h0 a1 a2 a3 a4 d A0 mi mx ct) [(d, .byte)])) (va_Qi (fun (r : Int32) (_ : Unit) => r = fq_least A0 mi mx ct) (fun _ => fq_BQ dC dI (va_A (fq_wq h0 a1 a2 a3 a4 d A0 mi mx ct) sz) (fq_wq h0 a1 a2 a3 a4 d A0 mi mx ct) [(d, .byte)]) (va_A (fq_wq h0 a1 a2 a3 a4 d A0 mi mx ct) sz)) 0 0 (va_A (fq_wq h0 a1 a2 a3 a4 d A0 mi mx ct) sz) := by
  refine Met.ofW (cc := cX0_least) (maxL := 1) (ret := (some .int)) (by decide) rfl ?_
  intro p e s m args below meth c s₁ B hml hv
  obtain ⟨rfl, hsz, hP, hK, hD0⟩ := hv
  have hx := B.exec
  have hb := B.bytes
  have hr := B.returns
  have hts := atoms_spec (ws := ws_ yX0_least cX0_least 1 (some .int)) B.pre
  have hts : ∀ w ∈ lw_all, w.before _ s = true := fun w h => hts w (List.mem_cons_of_mem _ h)
  have hown : s.vm.findClass RX0 = some m.cls := findClass_of_methodNamed B.named
  have hlocks := B.notSynchronized
  subst hsz
  have hD := hD0.self (sz := s.heap.size)
  generalize hAe : va_A (fq_wq h0 a1 a2 a3 a4 d A0 mi mx ct) s.heap.size = A at hD ⊢
  have hA : ∀ q : Nat, s.heap.size ≤ q → A q := fun q h => by rw [← hAe]; exact Or.inr h
  have hS : va_S A s.heap s.heap [] := va_S.rf
  have hP : va_P (dC, dI) vwCl (fq_wq h0 a1 a2 a3 a4 d A0 mi mx ct) s.heap := hP
  have hl := lv_entry ([.ref h0]) (n := 1) (Nat.le_of_ble_eq_true rfl)
  rw [lg_entry_eq]
  generalize (lg_sl ([.ref h0]) ++ List.replicate (1 - (lg_sl ([.ref h0])).length) Slot.unset).toArray = ls0 at hl ⊢
  have hl : lv_has ls0 1 [(0, .ref h0)] := hl
  refine lv_aload_n hx hb dX0_least_0 rfl (lv_at hl 0 rfl) ?_
  refine va_get (D := (dC, dI)) (ci := 0) (v := .int mi) (C := RX0) (T := TX0) (N := 7) hx hb hts in_X0 hown hK hP 0 rfl rfl 4 (by decide) (hts _ q26) (fun _ h9 => h9) rfl dX0_least_1 ?_
  exact W.iret (v := mi) hx hb hr (fun t ht hW => ⟨⟨mi, (), rfl, (by rw [fq_least]), (by rw [ht]; exact hP), va_K.moved hW.alike hK, hD⟩, hS.F ht⟩) hS.2.2 dX0_least_4
set_option maxHeartbeats 4000000 in
set_option maxRecDepth 100000 in
theorem fq_met_greatest (l : Launch) (dC : Nat → ClassId) (dI : Nat → Nat → Nat) (h0 a1 a2 a3 a4 : Nat) (d : ClassId) (sz : Nat) (A0 : fq_A4) (mi mx ct : Int32) : Met l yX0_greatest (ws_ yX0_greatest cX0_greatest 1 (some .int)) ({ frames := 0, cells := 0, slots := 0, locals := 0 }) (va_Pc [.ref h0] (fq_PQ dC dI sz (fq_wq h0 a1 a2 a3 a4 d A0 mi mx ct) [(d, .byte)])) (va_Qi (fun (r : Int32) (_ : Unit) => r = fq_greatest A0 mi mx ct) (fun _ => fq_BQ dC dI (va_A (fq_wq h0 a1 a2 a3 a4 d A0 mi mx ct) sz) (fq_wq h0 a1 a2 a3 a4 d A0 mi mx ct) [(d, .byte)]) (va_A (fq_wq h0 a1 a2 a3 a4 d A0 mi mx ct) sz)) 0 0 (va_A (fq_wq h0 a1 a2 a3 a4 d A0 mi mx ct) sz) := by
  refine Met.ofW (cc := cX0_greatest) (maxL := 1) (ret := (some .int)) (by decide) rfl ?_
  intro p e s m args below meth c s₁ B hml hv
  obtain ⟨rfl, hsz, hP, hK, hD0⟩ := hv
  have hx := B.exec
  have hb := B.bytes
  have hr := B.returns
  have hts := atoms_spec (ws := ws_ yX0_greatest cX0_greatest 1 (some .int)) B.pre
  have hts : ∀ w ∈ lw_all, w.before _ s = true := fun w h => hts w (List.mem_cons_of_mem _ h)
  have hown : s.vm.findClass RX0 = some m.cls := findClass_of_methodNamed B.named
  have hlocks := B.notSynchronized
  subst hsz
  have hD := hD0.self (sz := s.heap.size)
  generalize hAe : va_A (fq_wq h0 a1 a2 a3 a4 d A0 mi mx ct) s.heap.size = A at hD ⊢
  have hA : ∀ q : Nat, s.heap.size ≤ q → A q := fun q h => by rw [← hAe]; exact Or.inr h
  have hS : va_S A s.heap s.heap [] := va_S.rf
  have hP : va_P (dC, dI) vwCl (fq_wq h0 a1 a2 a3 a4 d A0 mi mx ct) s.heap := hP
  have hl := lv_entry ([.ref h0]) (n := 1) (Nat.le_of_ble_eq_true rfl)
  rw [lg_entry_eq]
  generalize (lg_sl ([.ref h0]) ++ List.replicate (1 - (lg_sl ([.ref h0])).length) Slot.unset).toArray = ls0 at hl ⊢
  have hl : lv_has ls0 1 [(0, .ref h0)] := hl
  refine lv_aload_n hx hb dX0_greatest_0 rfl (lv_at hl 0 rfl) ?_
  refine va_get (D := (dC, dI)) (ci := 0) (v := .int mx) (C := RX0) (T := TX0) (N := 7) hx hb hts in_X0 hown hK hP 0 rfl rfl 5 (by decide) (hts _ q27) (fun _ h9 => h9) rfl dX0_greatest_1 ?_
  exact W.iret (v := mx) hx hb hr (fun t ht hW => ⟨⟨mx, (), rfl, (by rw [fq_greatest]), (by rw [ht]; exact hP), va_K.moved hW.alike hK, hD⟩, hS.F ht⟩) hS.2.2 dX0_greatest_4
end
section
/-! a cluster of sixteen: what its cells say of a set T of numbers below 16 -/
def fq_q4 (U : Nat → Bool) (i : Nat) : Bool := U (4 * i) || U (4 * i + 1) || U (4 * i + 2) || U (4 * i + 3)
def fq_PB (U : Nat → Bool) (pt bt : Nat → Int32) (c : Nat) : Prop := (∀ i, i < 4 → bt (c * 4 + i) = fq_W4 (fun j => U (4 * i + j))) ∧ pt c = fq_W4 (fq_q4 U)
theorem fq_q4_f {U : Nat → Bool} {i j : Nat} (h : fq_q4 U i = false) (hj : j < 4) : U (4 * i + j) = false := by
  unfold fq_q4 at h
  simp only [Bool.or_eq_false_iff] at h
  rcases fq_lt4 hj with rfl | rfl | rfl | rfl
  · exact h.1.1.1
  · exact h.1.1.2
  · exact h.1.2
  · exact h.2
theorem fq_q4_t {U : Nat → Bool} {i j : Nat} (hj : j < 4) (h : U (4 * i + j) = true) : fq_q4 U i = true := by
  cases hq : fq_q4 U i
  · exact absurd (fq_q4_f hq hj) (fun e => fq_tf h e)
  · rfl
theorem fq_q4_ex {U : Nat → Bool} {i : Nat} (h : fq_q4 U i = true) : ∃ j, j < 4 ∧ U (4 * i + j) = true := by
  unfold fq_q4 at h
  simp only [Bool.or_eq_true] at h
  rcases h with ((h | h) | h) | h
  · exact ⟨0, by omega, h⟩
  · exact ⟨1, by omega, h⟩
  · exact ⟨2, by omega, h⟩
  · exact ⟨3, by omega, h⟩
theorem fq_q4_all {U : Nat → Bool} {i : Nat} (h : ∀ j, j < 4 → U (4 * i + j) = false) : fq_q4 U i = false := by
  cases hq : fq_q4 U i
  · rfl
  · obtain ⟨j, hj, e⟩ := fq_q4_ex hq
    exact absurd (h j hj) (fun e2 => fq_tf e e2)
theorem fq_q4_cg {U V : Nat → Bool} {i : Nat} (h : ∀ j, j < 4 → U (4 * i + j) = V (4 * i + j)) : fq_q4 U i = fq_q4 V i := by
  unfold fq_q4
  have h0 : U (4 * i) = V (4 * i) := h 0 (by omega)
  rw [h0, h 1 (by omega), h 2 (by omega), h 3 (by omega)]
theorem fq_PB_cg {U V : Nat → Bool} {pt bt : Nat → Int32} {c : Nat} (h : fq_PB U pt bt c) (e : ∀ y, y < 16 → U y = V y) : fq_PB V pt bt c := by
  refine ⟨fun i hi => ?_, ?_⟩
  · rw [h.1 i hi]
    exact fq_W4_cg (fun j hj => e _ (by omega))
  · rw [h.2]
    exact fq_W4_cg (fun i hi => fq_q4_cg (fun j hj => e _ (by omega)))
theorem fq_b4 {U : Nat → Bool} {i j y : Nat} (P : ∀ a, a < i → ∀ b, b < 4 → U (4 * a + b) = false) (Q : ∀ b, b < j → U (4 * i + b) = false) (hj : j < 4) (hy : y < 4 * i + j) : U y = false := by
  have e : y = 4 * (y / 4) + y % 4 := by omega
  by_cases h : y / 4 < i
  · rw [e]; exact P _ h _ (by omega)
  · have h2 : y / 4 = i := by omega
    rw [e, h2]; exact Q _ (by omega)
theorem fq_b4x {U : Nat → Bool} {i j y : Nat} (P : ∀ a, i < a → a < 4 → ∀ b, b < 4 → U (4 * a + b) = false) (Q : ∀ b, j < b → b < 4 → U (4 * i + b) = false) (hj : j < 4) (hy : 4 * i + j < y) (h16 : y < 16) : U y = false := by
  have e : y = 4 * (y / 4) + y % 4 := by omega
  by_cases h : i < y / 4
  · rw [e]; exact P _ h (by omega) _ (by omega)
  · have h2 : y / 4 = i := by omega
    rw [e, h2]; exact Q _ (by omega) (by omega)
/-- the least of the parts -/
theorem fq_lip {A : fq_A4} {c : Nat} {U : Nat → Bool} (hc : c < 17) (h : fq_PB U A.2.2.1 A.2.2.2 c) : fq_Mn U 16 (fq_leastInParts A (nI c)) := by
  unfold fq_leastInParts
  rw [fq_cl (c := c) (by omega), h.2]
  by_cases hz : fq_W4 (fq_q4 U) = 0
  · rw [if_pos hz]
    refine Or.inr ⟨rfl, fun k hk => ?_⟩
    have h1 := fq_q4_f (fq_W_z hz (j := k / 4) (by omega)) (j := k % 4) (by omega)
    rw [show 4 * (k / 4) + k % 4 = k by omega] at h1
    exact h1
  · rw [if_neg hz]
    obtain ⟨i, hi, hq, hl, hlt⟩ := fq_low_spec hz
    obtain ⟨j0, hj0, hu0⟩ := fq_q4_ex hq
    rw [hl, fq_ixc hc hi, h.1 i hi]
    obtain ⟨j, hj, hu, hl2, hlt2⟩ := fq_low_spec (p := fun j => U (4 * i + j)) (fq_W_nz hj0 hu0)
    rw [hl2, fq_4ij]
    exact Or.inl ⟨4 * i + j, by omega, hu, rfl, fun y hy => fq_b4 (fun a ha b hb => fq_q4_f (hlt a ha) hb) hlt2 hj hy⟩
theorem fq_gip {A : fq_A4} {c : Nat} {U : Nat → Bool} (hc : c < 17) (h : fq_PB U A.2.2.1 A.2.2.2 c) : fq_Mx U 16 (fq_greatestInParts A (nI c)) := by
  unfold fq_greatestInParts
  rw [fq_cl (c := c) (by omega), h.2]
  by_cases hz : fq_W4 (fq_q4 U) = 0
  · rw [if_pos hz]
    refine Or.inr ⟨rfl, fun k hk => ?_⟩
    have h1 := fq_q4_f (fq_W_z hz (j := k / 4) (by omega)) (j := k % 4) (by omega)
    rw [show 4 * (k / 4) + k % 4 = k by omega] at h1
    exact h1
  · rw [if_neg hz]
    obtain ⟨i, hi, hq, hl, hlt⟩ := fq_high_spec hz
    obtain ⟨j0, hj0, hu0⟩ := fq_q4_ex hq
    rw [hl, fq_ixc hc hi, h.1 i hi]
    obtain ⟨j, hj, hu, hl2, hlt2⟩ := fq_high_spec (p := fun j => U (4 * i + j)) (fq_W_nz hj0 hu0)
    rw [hl2, fq_4ij]
    exact Or.inl ⟨4 * i + j, by omega, hu, rfl, fun y hy h16 => fq_b4x (fun a ha h4 b hb => fq_q4_f (hlt a ha h4) hb) hlt2 hj hy h16⟩
/-- the set with x, without x -/
def fq_wi (U : Nat → Bool) (x : Nat) : Nat → Bool := fun y => U y || decide (y = x)
def fq_wo (U : Nat → Bool) (x : Nat) : Nat → Bool := fun y => U y && !decide (y = x)
theorem fq_wi_s {U : Nat → Bool} {x : Nat} : fq_wi U x x = true := by simp [fq_wi]
theorem fq_wi_n {U : Nat → Bool} {x y : Nat} (h : y ≠ x) : fq_wi U x y = U y := by simp [fq_wi, h]
theorem fq_wo_s {U : Nat → Bool} {x : Nat} : fq_wo U x x = false := by simp [fq_wo]
theorem fq_wo_n {U : Nat → Bool} {x y : Nat} (h : y ≠ x) : fq_wo U x y = U y := by simp [fq_wo, h]
/-- cells of other clusters stay -/
def fq_Fr (A B : fq_A4) (c : Nat) : Prop := ∀ k, k ≠ c → B.1 k = A.1 k ∧ B.2.1 k = A.2.1 k ∧ B.2.2.1 k = A.2.2.1 k ∧ ∀ i, i < 4 → B.2.2.2 (k * 4 + i) = A.2.2.2 (k * 4 + i)
theorem fq_put_eq (A : fq_A4) {c x : Nat} (hc : c < 17) (hx : x < 16) : fq_putBit A (nI c) (nI x) = (A.1, A.2.1, upd A.2.2.1 c (vp_nar .byte ((A.2.2.1 c ||| ((1 : Int32) <<< (nI (x / 4) &&& (31 : Int32)))).toInt8.toInt32)), upd A.2.2.2 (c * 4 + x / 4) (vp_nar .byte ((A.2.2.2 (c * 4 + x / 4) ||| ((1 : Int32) <<< (nI (x % 4) &&& (31 : Int32)))).toInt8.toInt32))) := by
  unfold fq_putBit
  rw [fq_sh2 hx, fq_an3 hx, fq_ixc hc (by omega), fq_cl (c := c) (by omega)]
theorem fq_put_PB {A : fq_A4} {c x : Nat} {U : Nat → Bool} (hc : c < 17) (hx : x < 16) (h : fq_PB U A.2.2.1 A.2.2.2 c) : fq_PB (fq_wi U x) (fq_putBit A (nI c) (nI x)).2.2.1 (fq_putBit A (nI c) (nI x)).2.2.2 c := by
  rw [fq_put_eq A hc hx]
  refine ⟨fun i hi => ?_, ?_⟩
  · show upd A.2.2.2 (c * 4 + x / 4) _ (c * 4 + i) = _
    by_cases e : i = x / 4
    · subst e
      rw [pk_us, h.1 _ hi, fq_W_or _ (by omega)]
      refine fq_W4_cg (fun j hj => ?_)
      show (U (4 * (x / 4) + j) || decide (j = x % 4)) = (U (4 * (x / 4) + j) || decide (4 * (x / 4) + j = x))
      congr 1
      exact decide_eq_decide.mpr (by omega)
    · rw [pk_un (by omega), h.1 i hi]
      exact fq_W4_cg (fun j hj => (fq_wi_n (by omega)).symm)
  · show upd A.2.2.1 c _ c = _
    rw [pk_us, h.2, fq_W_or _ (by omega)]
    refine fq_W4_cg (fun i hi => ?_)
    show (fq_q4 U i || decide (i = x / 4)) = fq_q4 (fq_wi U x) i
    by_cases e : i = x / 4
    · subst e
      have h1 : fq_q4 (fq_wi U x) (x / 4) = true := fq_q4_t (j := x % 4) (by omega) (by rw [show 4 * (x / 4) + x % 4 = x by omega]; exact fq_wi_s)
      rw [h1]; simp
    · rw [fq_q4_cg (V := U) (fun j hj => fq_wi_n (by omega))]
      simp [e]
theorem fq_put_Fr (A : fq_A4) {c x : Nat} (hc : c < 17) (hx : x < 16) : fq_Fr A (fq_putBit A (nI c) (nI x)) c := by
  rw [fq_put_eq A hc hx]
  intro k hk
  refine ⟨rfl, rfl, ?_, fun i hi => ?_⟩
  · exact pk_un hk
  · exact pk_un (by omega)
theorem fq_take_eq (A : fq_A4) {c x : Nat} (hc : c < 17) (hx : x < 16) {V : Int32} (hV : vp_nar .byte ((A.2.2.2 (c * 4 + x / 4) &&& (((1 : Int32) <<< (nI (x % 4) &&& (31 : Int32))) ^^^ (-1 : Int32))).toInt8.toInt32) = V) : fq_takeBit A (nI c) (nI x) = (A.1, A.2.1, (if V = 0 then upd A.2.2.1 c (vp_nar .byte ((A.2.2.1 c &&& (((1 : Int32) <<< (nI (x / 4) &&& (31 : Int32))) ^^^ (-1 : Int32))).toInt8.toInt32)) else A.2.2.1), upd A.2.2.2 (c * 4 + x / 4) V) := by
  unfold fq_takeBit
  rw [fq_sh2 hx, fq_an3 hx, fq_ixc hc (by omega), fq_cl (c := c) (by omega), hV, pk_us]
  split <;> rfl
theorem fq_take_PB {A : fq_A4} {c x : Nat} {U : Nat → Bool} (hc : c < 17) (hx : x < 16) (h : fq_PB U A.2.2.1 A.2.2.2 c) : fq_PB (fq_wo U x) (fq_takeBit A (nI c) (nI x)).2.2.1 (fq_takeBit A (nI c) (nI x)).2.2.2 c := by
  have hV : vp_nar .byte ((A.2.2.2 (c * 4 + x / 4) &&& (((1 : Int32) <<< (nI (x % 4) &&& (31 : Int32))) ^^^ (-1 : Int32))).toInt8.toInt32) = fq_W4 (fun j => fq_wo U x (4 * (x / 4) + j)) := by
    rw [h.1 _ (by omega), fq_W_and _ (by omega)]
    refine fq_W4_cg (fun j hj => ?_)
    show (U (4 * (x / 4) + j) && !decide (j = x % 4)) = (U (4 * (x / 4) + j) && !decide (4 * (x / 4) + j = x))
    congr 2
    exact decide_eq_decide.mpr (by omega)
  rw [fq_take_eq A hc hx hV]
  refine ⟨fun i hi => ?_, ?_⟩
  · show upd A.2.2.2 (c * 4 + x / 4) _ (c * 4 + i) = _
    by_cases e : i = x / 4
    · subst e
      rw [pk_us]
    · rw [pk_un (by omega), h.1 i hi]
      exact fq_W4_cg (fun j hj => (fq_wo_n (by omega)).symm)
  · show (if _ then _ else _ : Nat → Int32) c = _
    by_cases hz : fq_W4 (fun j => fq_wo U x (4 * (x / 4) + j)) = 0
    · rw [if_pos hz, pk_us, h.2, fq_W_and _ (by omega)]
      refine fq_W4_cg (fun i hi => ?_)
      show (fq_q4 U i && !decide (i = x / 4)) = fq_q4 (fq_wo U x) i
      by_cases e : i = x / 4
      · subst e
        rw [fq_q4_all (U := fq_wo U x) (fun j hj => fq_W_z hz hj)]
        simp
      · rw [fq_q4_cg (U := fq_wo U x) (V := U) (fun j hj => fq_wo_n (by omega))]
        simp [e]
    · rw [if_neg hz, h.2]
      refine fq_W4_cg (fun i hi => ?_)
      try dsimp only
      by_cases e : i = x / 4
      · subst e
        have h1 : fq_q4 (fq_wo U x) (x / 4) = true := by
          cases hq : fq_q4 (fq_wo U x) (x / 4)
          · exact absurd (fq_W_0 (fun j hj => fq_q4_f hq hj)) hz
          · rfl
        rw [h1]
        obtain ⟨j, hj, hu⟩ := fq_q4_ex h1
        refine fq_q4_t hj ?_
        unfold fq_wo at hu
        simp only [Bool.and_eq_true] at hu
        exact hu.1
      · exact (fq_q4_cg (U := fq_wo U x) (V := U) (fun j hj => fq_wo_n (by omega))).symm
theorem fq_take_Fr (A : fq_A4) {c x : Nat} (hc : c < 17) (hx : x < 16) : fq_Fr A (fq_takeBit A (nI c) (nI x)) c := by
  rw [fq_take_eq A hc hx rfl]
  intro k hk
  refine ⟨rfl, rfl, ?_, fun i hi => ?_⟩
  · show (if _ then _ else _ : Nat → Int32) k = _
    split
    · exact pk_un hk
    · rfl
  · exact pk_un (by omega)
/-- cluster c holds the set T -/
def fq_Cl (T : Nat → Bool) (A : fq_A4) (c : Nat) : Prop := fq_Mn T 16 (A.1 c) ∧ fq_Mx T 16 (A.2.1 c) ∧ fq_PB (fun y => T y && decide (A.1 c ≠ nI y)) A.2.2.1 A.2.2.2 c
theorem fq_Cl_Fr {T : Nat → Bool} {A B : fq_A4} {c k : Nat} (h : fq_Cl T A k) (hF : fq_Fr A B c) (hk : k ≠ c) : fq_Cl T B k := by
  obtain ⟨e1, e2, e3, e4⟩ := hF k hk
  obtain ⟨h1, h2, h3, h4⟩ := h
  refine ⟨by rw [e1]; exact h1, by rw [e2]; exact h2, fun i hi => ?_, ?_⟩
  · rw [e4 i hi, e1]; exact h3 i hi
  · rw [e3, e1]; exact h4
theorem fq_Cl_cg {T V : Nat → Bool} {A : fq_A4} {c : Nat} (h : fq_Cl T A c) (e : ∀ y, y < 16 → T y = V y) : fq_Cl V A c :=
  ⟨fq_Mn_cg h.1 e, fq_Mx_cg h.2.1 e, fq_PB_cg h.2.2 (fun y hy => by rw [e y hy])⟩
theorem fq_dne {a b : Nat} (ha : a < 256) (hb : b < 256) : decide (nI a ≠ nI b) = decide (a ≠ b) := decide_eq_decide.mpr (by rw [ne_eq, ne_eq, nI_eq (by omega) (by omega)])
theorem fq_dm1 {b : Nat} (hb : b < 256) : decide ((-1 : Int32) ≠ nI b) = true := decide_eq_true (fun e => fq_nI_ne (by omega) e.symm)
theorem fq_Fr_rf (A : fq_A4) (c : Nat) : fq_Fr A A c := fun k hk => ⟨rfl, rfl, rfl, fun i hi => rfl⟩
theorem fq_Fr_tr {A B C : fq_A4} {c : Nat} (h : fq_Fr A B c) (g : fq_Fr B C c) : fq_Fr A C c := fun k hk =>
  ⟨(g k hk).1.trans (h k hk).1, (g k hk).2.1.trans (h k hk).2.1, (g k hk).2.2.1.trans (h k hk).2.2.1, fun i hi => ((g k hk).2.2.2 i hi).trans ((h k hk).2.2.2 i hi)⟩
theorem fq_Fr_u {A : fq_A4} {c : Nat} {v w : Int32} : fq_Fr A (upd A.1 c v, upd A.2.1 c w, A.2.2.1, A.2.2.2) c := fun k hk => ⟨pk_un hk, pk_un hk, rfl, fun i hi => rfl⟩
theorem fq_Fr_lo {A : fq_A4} {c : Nat} {v : Int32} : fq_Fr A (upd A.1 c v, A.2.1, A.2.2.1, A.2.2.2) c := fun k hk => ⟨pk_un hk, rfl, rfl, fun i hi => rfl⟩
theorem fq_Fr_hi {A : fq_A4} {c : Nat} {v : Int32} : fq_Fr A (A.1, upd A.2.1 c v, A.2.2.1, A.2.2.2) c := fun k hk => ⟨rfl, pk_un hk, rfl, fun i hi => rfl⟩
/-- is x in the cluster? -/
theorem fq_inCl {T : Nat → Bool} {A : fq_A4} {c x : Nat} (hc : c < 17) (hx : x < 16) (h : fq_Cl T A c) : fq_inCluster A (nI c) (nI x) = cond (T x) 1 0 := by
  obtain ⟨h1, h2, h3, h4⟩ := h
  unfold fq_inCluster
  rw [fq_sh2 hx, fq_an3 hx, fq_ixc hc (by omega), fq_cl (c := c) (by omega), h3 _ (by omega), fq_W_bit _ (by omega)]
  rw [show 4 * (x / 4) + x % 4 = x by omega]
  by_cases e : A.1 c = nI x
  · rw [if_pos e]
    rcases h1 with ⟨k, hk, ht, hr, -⟩ | ⟨hr, -⟩
    · have : k = x := (nI_eq (by omega) (by omega)).mp (hr.symm.trans e)
      subst this
      rw [ht]; rfl
    · exact absurd (e.symm.trans hr) (fq_nI_ne (by omega))
  · rw [if_neg e]
    have : decide (A.1 c ≠ nI x) = true := decide_eq_true e
    simp only [this, Bool.and_true]
    cases T x <;> rfl
/-- a new member goes into the cluster -/
theorem fq_insCl {T : Nat → Bool} {A : fq_A4} {c x : Nat} (hc : c < 17) (hx : x < 16) (h : fq_Cl T A c) (hn : T x = false) : fq_Cl (fq_wi T x) (fq_insertInto A (nI c) (nI x)) c ∧ fq_Fr A (fq_insertInto A (nI c) (nI x)) c := by
  obtain ⟨h1, h2, hPB⟩ := h
  unfold fq_insertInto
  rw [fq_cl (c := c) (by omega), fq_nb x hx]
  rcases h1 with ⟨k, hk, ht, hr, hl⟩ | ⟨hr, hl⟩
  · -- the cluster has members, k the least
    rw [if_pos (show (0 : Int32) ≤ A.1 c by rw [hr]; exact nI_pos' (by omega))]
    have hkx : k ≠ x := fun e => fq_tf ht (by rw [e]; exact hn)
    have hmx : ∃ g, g < 16 ∧ T g = true ∧ A.2.1 c = nI g ∧ ∀ j, g < j → j < 16 → T j = false := by
      rcases h2 with h2 | ⟨-, h2⟩
      · exact h2
      · exact absurd (h2 k hk) (fun e => fq_tf ht e)
    obtain ⟨g, hg, hgt, hgr, hgl⟩ := hmx
    have hkg : k ≤ g := by
      rcases Nat.lt_or_ge g k with q | q
      · exact absurd (hl g q) (fun e => fq_tf hgt e)
      · exact q
    rw [hr] at hPB
    rw [hr]
    by_cases hlt : k ≤ x
    · rw [if_pos (nI_le hlt (by omega))]
      rw [(fq_put1 A (nI c) (nI x)).2, hgr]
      have hP2 := fq_put_PB hc hx hPB
      have hP3 : fq_PB (fun y => fq_wi T x y && decide (nI k ≠ nI y)) (fq_putBit A (nI c) (nI x)).2.2.1 (fq_putBit A (nI c) (nI x)).2.2.2 c := by
        refine fq_PB_cg hP2 (fun y hy => ?_)
        try dsimp only
        unfold fq_wi
        dsimp only
        rw [fq_dne (a := k) (b := y) (by omega) (by omega)]
        by_cases e : y = x
        · subst e; simp [hkx]
        · simp [e]
      have hmn : fq_Mn (fq_wi T x) 16 (nI k) := Or.inl ⟨k, hk, by rw [fq_wi_n hkx]; exact ht, rfl, fun j hj => by rw [fq_wi_n (by omega)]; exact hl j hj⟩
      by_cases hxg : x ≤ g
      · rw [if_pos (nI_le hxg (by omega))]
        refine ⟨⟨by show fq_Mn _ 16 (A.1 c); rw [hr]; exact hmn, ?_, by show fq_PB (fun y => fq_wi T x y && decide (A.1 c ≠ nI y)) _ _ c; rw [hr]; exact hP3⟩, fq_put_Fr A hc hx⟩
        show fq_Mx _ 16 (A.2.1 c)
        rw [hgr]
        exact Or.inl ⟨g, hg, by unfold fq_wi; rw [hgt]; rfl, rfl, fun j h5 h6 => by rw [fq_wi_n (by omega)]; exact hgl j h5 h6⟩
      · rw [if_neg (nI_ge (by omega) (by omega))]
        refine ⟨⟨by show fq_Mn _ 16 (A.1 c); rw [hr]; exact hmn, ?_, by show fq_PB (fun y => fq_wi T x y && decide (A.1 c ≠ nI y)) _ _ c; rw [hr]; exact hP3⟩, ?_⟩
        · show fq_Mx _ 16 (upd A.2.1 c (nI x) c)
          rw [pk_us]
          exact Or.inl ⟨x, hx, fq_wi_s, rfl, fun j h5 h6 => by rw [fq_wi_n (by omega)]; exact hgl j (by omega) h6⟩
        · exact fq_Fr_tr (fq_put_Fr A hc hx) (fq_Fr_hi (A := fq_putBit A (nI c) (nI x)))
    · rw [if_neg (nI_ge (by omega) (by omega))]
      generalize hB : ((upd A.1 c (nI x)), A.2.1, A.2.2.1, A.2.2.2) = B
      have hB1 : B.1 = upd A.1 c (nI x) := by rw [← hB]
      have hB2 : B.2.1 = A.2.1 := by rw [← hB]
      have hB3 : B.2.2.1 = A.2.2.1 := by rw [← hB]
      have hB4 : B.2.2.2 = A.2.2.2 := by rw [← hB]
      have hFB : fq_Fr A B c := by rw [← hB]; exact fq_Fr_lo
      rw [(fq_put1 B (nI c) (nI k)).2, hB2, hgr]
      rw [if_pos (nI_le hkg (by omega))]
      have hP2 := fq_put_PB (A := B) hc hk (by rw [hB3, hB4]; exact hPB)
      refine ⟨⟨?_, ?_, ?_⟩, fq_Fr_tr hFB (fq_put_Fr B hc hk)⟩
      · show fq_Mn _ 16 (B.1 c)
        rw [hB1, pk_us]
        exact Or.inl ⟨x, hx, fq_wi_s, rfl, fun j hj => by rw [fq_wi_n (by omega)]; exact hl j (by omega)⟩
      · show fq_Mx _ 16 (B.2.1 c)
        rw [hB2, hgr]
        exact Or.inl ⟨g, hg, by unfold fq_wi; rw [hgt]; rfl, rfl, fun j h5 h6 => by rw [fq_wi_n (by omega)]; exact hgl j h5 h6⟩
      · show fq_PB (fun y => fq_wi T x y && decide (B.1 c ≠ nI y)) _ _ c
        rw [hB1, pk_us]
        refine fq_PB_cg hP2 (fun y hy => ?_)
        try dsimp only
        unfold fq_wi
        dsimp only
        rw [fq_dne (a := k) (b := y) (by omega) (by omega), fq_dne (a := x) (b := y) (by omega) (by omega)]
        by_cases e : y = x
        · subst e; rw [hn]; simp [Ne.symm hkx]
        · by_cases e2 : y = k
          · subst e2; rw [ht]; simp [Ne.symm e]
          · simp [e, e2, Ne.symm e, Ne.symm e2]
  · -- an empty one
    rw [if_neg (show ¬ (0 : Int32) ≤ A.1 c by rw [hr]; exact fq_n0m1)]
    refine ⟨⟨?_, ?_, ?_⟩, fq_Fr_u⟩
    · show fq_Mn _ 16 (upd A.1 c (nI x) c)
      rw [pk_us]
      exact Or.inl ⟨x, hx, fq_wi_s, rfl, fun j hj => by rw [fq_wi_n (by omega)]; exact hl j (by omega)⟩
    · show fq_Mx _ 16 (upd A.2.1 c (nI x) c)
      rw [pk_us]
      exact Or.inl ⟨x, hx, fq_wi_s, rfl, fun j h5 h6 => by rw [fq_wi_n (by omega)]; exact hl j (by omega)⟩
    · show fq_PB (fun y => fq_wi T x y && decide (upd A.1 c (nI x) c ≠ nI y)) A.2.2.1 A.2.2.2 c
      rw [pk_us]
      refine fq_PB_cg hPB (fun y hy => ?_)
      try dsimp only
      rw [hl y hy, fq_dne (by omega) (by omega)]
      by_cases e : y = x
      · subst e; simp
      · rw [fq_wi_n e, hl y hy]; rfl
end
section
/-- the greatest of T by the greatest of what is left without its least -/
theorem fq_top {T : Nat → Bool} {l t : Int32} (h : fq_Mn T 16 l) (g : fq_Mx (fun y => T y && decide (l ≠ nI y)) 16 t) : fq_Mx T 16 (if t < 0 then l else t) := by
  rcases g with ⟨j, hj, hu, hr, hg⟩ | ⟨hr, hg⟩
  · rw [hr, if_neg (nI_pos (by omega))]
    simp only [Bool.and_eq_true] at hu
    refine Or.inl ⟨j, hj, hu.1, rfl, fun y h1 h2 => ?_⟩
    have h3 : (T y && decide (l ≠ nI y)) = false := hg y h1 h2
    cases hy : T y
    · rfl
    · have h4 : decide (l ≠ nI y) = false := by simpa [hy] using h3
      have h5 : l = nI y := by simpa using h4
      rcases h with ⟨k, hk, hkt, hkr, hkl⟩ | ⟨-, hl⟩
      · have : k = y := (nI_eq (by omega) (by omega)).mp (hkr.symm.trans h5)
        exact absurd (hkl j (by omega)) (fun e => fq_tf hu.1 e)
      · exact absurd (hl j hj) (fun e => fq_tf hu.1 e)
  · rw [hr, if_pos fq_nm1]
    rcases h with ⟨k, hk, hkt, hkr, hkl⟩ | ⟨hlr, hl⟩
    · refine Or.inl ⟨k, hk, hkt, hkr, fun y h1 h2 => ?_⟩
      have h3 : (T y && decide (l ≠ nI y)) = false := hg y h2
      rw [hkr, fq_dne (by omega) (by omega)] at h3
      cases hy : T y
      · rfl
      · rw [hy] at h3
        have : k = y := by simpa using h3
        omega
    · exact Or.inr ⟨hlr, hl⟩
/-- what deleteFrom does, step by step: the least, the bits, the greatest -/
theorem fq_del_end {T : Nat → Bool} {A B : fq_A4} {c : Nat} {l : Int32} (hc : c < 17) (hF : fq_Fr A B c) (hl : B.1 c = l) (h1 : fq_Mn T 16 l) (hP : fq_PB (fun y => T y && decide (l ≠ nI y)) B.2.2.1 B.2.2.2 c) : fq_Cl T (B.1, upd B.2.1 c (vp_nar .byte ((if fq_greatestInParts B (nI c) < 0 then B.1 c else fq_greatestInParts B (nI c))).toInt8.toInt32), B.2.2.1, B.2.2.2) c ∧ fq_Fr A (B.1, upd B.2.1 c (vp_nar .byte ((if fq_greatestInParts B (nI c) < 0 then B.1 c else fq_greatestInParts B (nI c))).toInt8.toInt32), B.2.2.1, B.2.2.2) c := by
  have hg := fq_gip hc hP
  have ht := fq_top h1 hg
  have hr : fq_r16 (if fq_greatestInParts B (nI c) < 0 then l else fq_greatestInParts B (nI c)) := by
    rcases ht with ⟨k, hk, -, hr, -⟩ | ⟨hr, -⟩
    · exact Or.inr ⟨k, hk, hr⟩
    · exact Or.inl hr
  rw [hl, fq_r16_n hr]
  refine ⟨⟨?_, ?_, ?_⟩, fq_Fr_tr hF fq_Fr_hi⟩
  · show fq_Mn T 16 (B.1 c)
    rw [hl]; exact h1
  · show fq_Mx T 16 (upd B.2.1 c _ c)
    rw [pk_us]; exact ht
  · show fq_PB (fun y => T y && decide (B.1 c ≠ nI y)) B.2.2.1 B.2.2.2 c
    rw [hl]; exact hP
theorem fq_del_shape (A : fq_A4) {c : Nat} (x : Int32) (hc : c < 17) : fq_deleteFrom A (nI c) x =
    (let B : fq_A4 := if x = A.1 c then (if fq_leastInParts A (nI c) < 0 then ((upd A.1 c (vp_nar .byte (fq_leastInParts A (nI c)).toInt8.toInt32)), A.2.1, A.2.2.1, A.2.2.2) else fq_takeBit ((upd A.1 c (vp_nar .byte (fq_leastInParts A (nI c)).toInt8.toInt32)), A.2.1, A.2.2.1, A.2.2.2) (nI c) (fq_leastInParts A (nI c))) else (if x < 0 then A else fq_takeBit A (nI c) x)
     (B.1, upd B.2.1 c (vp_nar .byte ((if fq_greatestInParts B (nI c) < 0 then B.1 c else fq_greatestInParts B (nI c))).toInt8.toInt32), B.2.2.1, B.2.2.2)) := by
  unfold fq_deleteFrom
  rw [fq_cl (c := c) (by omega)]
  by_cases e : x = A.1 c
  · rw [if_pos e, if_pos e]
    by_cases e2 : fq_leastInParts A (nI c) < 0
    · rw [if_pos e2, if_pos e2]
      dsimp only
      split <;> rfl
    · rw [if_neg e2, if_neg e2]
      dsimp only
      split <;> rfl
  · rw [if_neg e, if_neg e]
    by_cases e2 : x < 0
    · rw [if_pos e2, if_pos e2]
      dsimp only
      split <;> rfl
    · rw [if_neg e2, if_neg e2]
      dsimp only
      split <;> rfl
theorem fq_delCl {T : Nat → Bool} {A : fq_A4} {c x : Nat} (hc : c < 17) (hx : x < 16) (h : fq_Cl T A c) (hn : T x = true) : fq_Cl (fq_wo T x) (fq_deleteFrom A (nI c) (nI x)) c ∧ fq_Fr A (fq_deleteFrom A (nI c) (nI x)) c := by
  obtain ⟨h1, h2, hPB⟩ := h
  obtain ⟨k, hk, ht, hr, hl⟩ : ∃ k, k < 16 ∧ T k = true ∧ A.1 c = nI k ∧ ∀ j, j < k → T j = false := by
    rcases h1 with h1 | ⟨-, h1⟩
    · exact h1
    · exact absurd (h1 x hx) (fun e => fq_tf hn e)
  rw [hr] at hPB
  rw [fq_del_shape A (nI x) hc]
  by_cases e : nI x = A.1 c
  · have hxk : x = k := (nI_eq (by omega) (by omega)).mp (e.trans hr)
    subst hxk
    rw [if_pos e]
    have hPB : fq_PB (fq_wo T x) A.2.2.1 A.2.2.2 c := fq_PB_cg hPB (fun y hy => by
      unfold fq_wo
      try dsimp only
      rw [fq_dne (by omega) (by omega)]
      by_cases e : y = x
      · subst e; simp
      · simp [e, Ne.symm e])
    have hm := fq_lip hc hPB
    rw [fq_r16_n fq_lip_r]
    generalize hL : fq_leastInParts A (nI c) = L at hm
    rcases hm with ⟨g, hg, hgt, hgr, hgl⟩ | ⟨hgr, hgl⟩
    · rw [if_neg (by rw [hgr]; exact nI_pos (by omega))]
      have hB4 : fq_PB (fq_wo T x) ((upd A.1 c L, A.2.1, A.2.2.1, A.2.2.2) : fq_A4).2.2.1 ((upd A.1 c L, A.2.1, A.2.2.1, A.2.2.2) : fq_A4).2.2.2 c := hPB
      have hT := fq_take_PB hc hg hB4
      have hFr := fq_take_Fr (upd A.1 c L, A.2.1, A.2.2.1, A.2.2.2) hc hg
      have ht1 := (fq_take1 (upd A.1 c L, A.2.1, A.2.2.1, A.2.2.2) (nI c) (nI g)).1
      rw [← hgr] at hT hFr ht1
      refine fq_del_end (l := L) hc (fq_Fr_tr fq_Fr_lo hFr) ?_ ?_ ?_
      · rw [ht1]; exact pk_us
      · exact Or.inl ⟨g, hg, hgt, hgr, hgl⟩
      · refine fq_PB_cg hT (fun y hy => ?_)
        try dsimp only
        rw [hgr, fq_dne (by omega) (by omega)]
        show (fq_wo T x y && !decide (y = g)) = _
        by_cases e : y = g
        · subst e; simp
        · simp [e, Ne.symm e]
    · rw [if_pos (by rw [hgr]; exact fq_nm1)]
      refine fq_del_end (l := L) hc fq_Fr_lo ?_ ?_ ?_
      · exact pk_us
      · exact Or.inr ⟨hgr, hgl⟩
      · refine fq_PB_cg hPB (fun y hy => ?_)
        try dsimp only
        rw [hgl y hy]; rfl
  · rw [if_neg e, if_neg (nI_pos (by omega))]
    have hkx : k ≠ x := fun e2 => e (by rw [hr, e2])
    have hT := fq_take_PB hc hx hPB
    refine fq_del_end (l := nI k) hc (fq_take_Fr A hc hx) ?_ ?_ ?_
    · rw [(fq_take1 A (nI c) (nI x)).1]; exact hr
    · exact Or.inl ⟨k, hk, by rw [fq_wo_n hkx]; exact ht, rfl, fun j hj => by
        unfold fq_wo; rw [hl j hj]; rfl⟩
    · refine fq_PB_cg hT (fun y hy => ?_)
      try dsimp only
      unfold fq_wo
      try dsimp only
      rw [fq_dne (by omega) (by omega)]
      by_cases e3 : y = x
      · subst e3; simp
      · simp [e3]
/-- the parts of a cluster whose least is k -/
theorem fq_Cl_U {T : Nat → Bool} {A : fq_A4} {c k : Nat} (hk : k < 16) (hr : A.1 c = nI k) (hPB : fq_PB (fun y => T y && decide (A.1 c ≠ nI y)) A.2.2.1 A.2.2.2 c) : ∃ U : Nat → Bool, fq_PB U A.2.2.1 A.2.2.2 c ∧ U k = false ∧ ∀ y, y < 16 → k ≠ y → U y = T y := by
  refine ⟨_, hPB, ?_, fun y hy h => ?_⟩
  · show (T k && decide (A.1 c ≠ nI k)) = false
    rw [hr]; simp
  · show (T y && decide (A.1 c ≠ nI y)) = T y
    rw [hr, fq_dne (by omega) (by omega)]
    simp [h]
/-- the least member above x -/
theorem fq_afCl {T : Nat → Bool} {A : fq_A4} {c x : Nat} (hc : c < 17) (hx : x < 16) (h : fq_Cl T A c) : fq_Mn (fun y => T y && decide (x < y)) 16 (fq_afterIn A (nI c) (nI x)) := by
  obtain ⟨h1, h2, hPB⟩ := h
  unfold fq_afterIn
  rw [fq_sh2 hx, fq_an3 hx, fq_ixc hc (by omega), fq_cl (c := c) (by omega)]
  rcases h1 with ⟨k, hk, ht, hr, hl⟩ | ⟨hr, hl⟩
  · obtain ⟨U, hPB, hUk, hU⟩ := fq_Cl_U hk hr hPB
    rw [hr]
    by_cases hkx : k ≤ x
    · rw [if_pos (nI_le hkx (by omega))]
      rcases h2 with ⟨g, hg, hgt, hgr, hgl⟩ | ⟨-, hgl⟩
      · rw [hgr]
        by_cases hxg : x < g
        · rw [if_pos (nI_lt hxg (by omega))]
          have hUg : U g = true := by rw [hU g hg (by omega)]; exact hgt
          rw [hPB.1 _ (by omega), hPB.2, fq_W_gt _ (by omega), fq_W_gt _ (by omega)]
          by_cases hz : fq_W4 (fun j => U (4 * (x / 4) + j) && decide (x % 4 < j)) = 0
          · rw [if_pos hz]
            have hgq : fq_q4 U (g / 4) = true := fq_q4_t (j := g % 4) (by omega) (by rw [show 4 * (g / 4) + g % 4 = g by omega]; exact hUg)
            have hgi : x / 4 < g / 4 := by
              rcases Nat.lt_or_ge (x / 4) (g / 4) with q | q
              · exact q
              · exfalso
                have h5 := fq_W_z hz (j := g % 4) (by omega)
                rw [show 4 * (x / 4) + g % 4 = g by omega, hUg] at h5
                have h7 : x % 4 < g % 4 := by omega
                simp [h7] at h5
            obtain ⟨i, hi, hq, hlo, hlt⟩ := fq_low_spec (p := fun i => fq_q4 U i && decide (x / 4 < i)) (fq_W_nz (j := g / 4) (by omega) (by simp [hgq, hgi]))
            simp only [Bool.and_eq_true, decide_eq_true_eq] at hq
            obtain ⟨j0, hj0, hu0⟩ := fq_q4_ex hq.1
            rw [hlo, fq_ixc hc hi, hPB.1 i hi]
            obtain ⟨j, hj, hu, hlo2, hlt2⟩ := fq_low_spec (p := fun j => U (4 * i + j)) (fq_W_nz hj0 hu0)
            rw [hlo2, fq_4ij]
            have hxi : x < 4 * i + j := by omega
            refine Or.inl ⟨4 * i + j, by omega, ?_, rfl, fun y hy => ?_⟩
            · have h5 : T (4 * i + j) = true := by rw [← hU _ (by omega) (by omega)]; exact hu
              simp [h5, hxi]
            · by_cases hxy : x < y
              · have hTy : U y = false := by
                  by_cases hyi : y / 4 < i
                  · by_cases hyx : x / 4 < y / 4
                    · have h8 := hlt (y / 4) hyi
                      simp only [hyx, decide_true, Bool.and_true] at h8
                      have h9 := fq_q4_f h8 (j := y % 4) (by omega)
                      rw [show 4 * (y / 4) + y % 4 = y by omega] at h9
                      exact h9
                    · have h8 := fq_W_z hz (j := y % 4) (by omega)
                      rw [show 4 * (x / 4) + y % 4 = y by omega] at h8
                      have h9 : x % 4 < y % 4 := by omega
                      simpa [h9] using h8
                  · have h8 := hlt2 (y % 4) (by omega)
                    rw [show 4 * i + y % 4 = y by omega] at h8
                    exact h8
                have h5 : T y = false := by rw [← hU y (by omega) (by omega)]; exact hTy
                simp [h5]
              · simp [hxy]
          · rw [if_neg hz]
            obtain ⟨j, hj, hu, hlo, hlt⟩ := fq_low_spec hz
            rw [hlo, fq_4ij]
            simp only [Bool.and_eq_true, decide_eq_true_eq] at hu
            have hxi : x < 4 * (x / 4) + j := by omega
            refine Or.inl ⟨4 * (x / 4) + j, by omega, ?_, rfl, fun y hy => ?_⟩
            · have h5 : T (4 * (x / 4) + j) = true := by rw [← hU _ (by omega) (by omega)]; exact hu.1
              simp [h5, hxi]
            · by_cases hxy : x < y
              · have h8 := hlt (y % 4) (by omega)
                rw [show 4 * (x / 4) + y % 4 = y by omega] at h8
                have h9 : x % 4 < y % 4 := by omega
                simp only [h9, decide_true, Bool.and_true] at h8
                have h5 : T y = false := by rw [← hU y (by omega) (by omega)]; exact h8
                simp [h5]
              · simp [hxy]
        · rw [if_neg (nI_nlt (by omega) (by omega))]
          refine Or.inr ⟨rfl, fun y hy => ?_⟩
          by_cases hxy : x < y
          · simp [hgl y (by omega) hy]
          · simp [hxy]
      · exact absurd (hgl k hk) (fun e => fq_tf ht e)
    · rw [if_neg (nI_ge (by omega) (by omega))]
      have hxk : x < k := by omega
      exact Or.inl ⟨k, hk, by simp [ht, hxk], rfl, fun j hj => by simp [hl j hj]⟩
  · rw [hr]
    rw [if_pos (show (-1 : Int32) ≤ nI x by rw [fq_le_nlt, Int32.lt_iff_toInt_lt, nI_toInt (by omega), show (-1 : Int32).toInt = -1 by decide]; omega)]
    rcases h2 with ⟨g, hg, hgt, hgr, hgl⟩ | ⟨hgr, hgl⟩
    · exact absurd (hl g hg) (fun e => fq_tf hgt e)
    · rw [hgr, if_neg (show ¬ nI x < (-1 : Int32) by rw [Int32.lt_iff_toInt_lt, nI_toInt (by omega), show (-1 : Int32).toInt = -1 by decide]; omega)]
      exact Or.inr ⟨rfl, fun y hy => by simp [hl y hy]⟩
/-- the greatest member below x -/
theorem fq_bfCl {T : Nat → Bool} {A : fq_A4} {c x : Nat} (hc : c < 17) (hx : x < 16) (h : fq_Cl T A c) : fq_Mx (fun y => T y && decide (y < x)) 16 (fq_beforeIn A (nI c) (nI x)) := by
  obtain ⟨h1, h2, hPB⟩ := h
  unfold fq_beforeIn
  rw [fq_sh2 hx, fq_an3 hx, fq_ixc hc (by omega), fq_cl (c := c) (by omega)]
  rcases h1 with ⟨k, hk, ht, hr, hl⟩ | ⟨hr, hl⟩
  · obtain ⟨U, hPB, hUk, hU⟩ := fq_Cl_U hk hr hPB
    rw [hr]
    rw [if_neg (nI_pos (by omega))]
    by_cases hkx : k < x
    · rw [if_pos (nI_lt hkx (by omega))]
      rcases h2 with ⟨g, hg, hgt, hgr, hgl⟩ | ⟨-, hgl⟩
      · rw [hgr]
        by_cases hxg : x ≤ g
        · rw [if_pos (nI_le hxg (by omega))]
          have hlow : ∀ m, m < 16 → U m = true → k < m ∧ T m = true := fun m hm hu => by
            have hne : k ≠ m := fun e => by subst e; exact fq_tf hu hUk
            have hT : T m = true := by rw [← hU m hm hne]; exact hu
            refine ⟨?_, hT⟩
            rcases Nat.lt_or_ge m k with q | q
            · exact absurd (hl m q) (fun e => fq_tf hT e)
            · omega
          rw [hPB.1 _ (by omega), hPB.2, fq_W_lt _ (by omega), fq_W_lt _ (by omega)]
          by_cases hz : fq_W4 (fun j => U (4 * (x / 4) + j) && decide (j < x % 4)) = 0
          · rw [if_pos hz]
            have hA : ∀ y, y < x → y / 4 = x / 4 → U y = false := fun y h5 h6 => by
              have h8 := fq_W_z hz (j := y % 4) (by omega)
              rw [show 4 * (x / 4) + y % 4 = y by omega] at h8
              have h9 : y % 4 < x % 4 := by omega
              simpa [h9] using h8
            by_cases hz2 : fq_W4 (fun i => fq_q4 U i && decide (i < x / 4)) = 0
            · rw [if_pos hz2]
              refine Or.inl ⟨k, hk, by simp [ht, hkx], rfl, fun y h5 h6 => ?_⟩
              by_cases hyx : y < x
              · have hTy : U y = false := by
                  by_cases h7 : y / 4 = x / 4
                  · exact hA y hyx h7
                  · have h8 := fq_W_z hz2 (j := y / 4) (by omega)
                    have h9 : y / 4 < x / 4 := by omega
                    simp only [h9, decide_true, Bool.and_true] at h8
                    have h10 := fq_q4_f h8 (j := y % 4) (by omega)
                    rw [show 4 * (y / 4) + y % 4 = y by omega] at h10
                    exact h10
                have h5 : T y = false := by rw [← hU y (by omega) (by omega)]; exact hTy
                simp [h5]
              · simp [hyx]
            · rw [if_neg hz2]
              obtain ⟨i, hi, hq, hlo, hlt⟩ := fq_high_spec hz2
              simp only [Bool.and_eq_true, decide_eq_true_eq] at hq
              obtain ⟨j0, hj0, hu0⟩ := fq_q4_ex hq.1
              rw [hlo, fq_ixc hc hi, hPB.1 i hi]
              obtain ⟨j, hj, hu, hlo2, hlt2⟩ := fq_high_spec (p := fun j => U (4 * i + j)) (fq_W_nz hj0 hu0)
              rw [hlo2, fq_4ij]
              have hkm := hlow (4 * i + j) (by omega) hu
              have hxi : 4 * i + j < x := by omega
              refine Or.inl ⟨4 * i + j, by omega, by simp [hkm.2, hxi], rfl, fun y h5 h6 => ?_⟩
              by_cases hyx : y < x
              · have hTy : U y = false := by
                  by_cases h7 : y / 4 = x / 4
                  · exact hA y hyx h7
                  · by_cases hyi : i < y / 4
                    · have h8 := hlt (y / 4) hyi (by omega)
                      have h9 : y / 4 < x / 4 := by omega
                      simp only [h9, decide_true, Bool.and_true] at h8
                      have h10 := fq_q4_f h8 (j := y % 4) (by omega)
                      rw [show 4 * (y / 4) + y % 4 = y by omega] at h10
                      exact h10
                    · have h8 := hlt2 (y % 4) (by omega) (by omega)
                      rw [show 4 * i + y % 4 = y by omega] at h8
                      exact h8
                have h12 : T y = false := by rw [← hU y (by omega) (by omega)]; exact hTy
                simp [h12]
              · simp [hyx]
          · rw [if_neg hz]
            obtain ⟨j, hj, hu, hlo, hlt⟩ := fq_high_spec hz
            rw [hlo, fq_4ij]
            simp only [Bool.and_eq_true, decide_eq_true_eq] at hu
            have hkm := hlow (4 * (x / 4) + j) (by omega) hu.1
            have hxi : 4 * (x / 4) + j < x := by omega
            refine Or.inl ⟨4 * (x / 4) + j, by omega, by simp [hkm.2, hxi], rfl, fun y h5 h6 => ?_⟩
            by_cases hyx : y < x
            · have h8 := hlt (y % 4) (by omega) (by omega)
              rw [show 4 * (x / 4) + y % 4 = y by omega] at h8
              have h9 : y % 4 < x % 4 := by omega
              simp only [h9, decide_true, Bool.and_true] at h8
              have h12 : T y = false := by rw [← hU y (by omega) (by omega)]; exact h8
              simp [h12]
            · simp [hyx]
        · rw [if_neg (nI_ge (by omega) (by omega))]
          have hgx : g < x := by omega
          exact Or.inl ⟨g, hg, by simp [hgt, hgx], rfl, fun y h5 h6 => by simp [hgl y h5 h6]⟩
      · exact absurd (hgl k hk) (fun e => fq_tf ht e)
    · rw [if_neg (nI_nlt (by omega) (by omega))]
      refine Or.inr ⟨rfl, fun y hy => ?_⟩
      by_cases hyx : y < x
      · simp [hl y (by omega)]
      · simp [hyx]
  · rw [hr, if_pos fq_nm1]
    exact Or.inr ⟨rfl, fun y hy => by simp [hl y hy]⟩
end
section
/-! the whole: sixteen clusters and their summary hold a set U of numbers below 256 -/
def fq_q16 (U : Nat → Bool) (c : Nat) : Bool := (List.range 16).any (fun y => U (16 * c + y))
theorem fq_q16_ex {U : Nat → Bool} {c : Nat} (h : fq_q16 U c = true) : ∃ y, y < 16 ∧ U (16 * c + y) = true := by
  unfold fq_q16 at h
  rw [List.any_eq_true] at h
  obtain ⟨y, hy, hu⟩ := h
  exact ⟨y, List.mem_range.mp hy, hu⟩
theorem fq_q16_t {U : Nat → Bool} {c y : Nat} (hy : y < 16) (h : U (16 * c + y) = true) : fq_q16 U c = true := List.any_eq_true.mpr ⟨y, List.mem_range.mpr hy, h⟩
theorem fq_q16_f {U : Nat → Bool} {c y : Nat} (h : fq_q16 U c = false) (hy : y < 16) : U (16 * c + y) = false := by
  cases hu : U (16 * c + y)
  · rfl
  · exact absurd (fq_q16_t hy hu) (fun e => fq_tf e h)
theorem fq_q16_all {U : Nat → Bool} {c : Nat} (h : ∀ y, y < 16 → U (16 * c + y) = false) : fq_q16 U c = false := by
  cases hq : fq_q16 U c
  · rfl
  · obtain ⟨y, hy, hu⟩ := fq_q16_ex hq
    exact absurd (h y hy) (fun e => fq_tf hu e)
theorem fq_q16_cg {U V : Nat → Bool} {c : Nat} (h : ∀ y, y < 16 → U (16 * c + y) = V (16 * c + y)) : fq_q16 U c = fq_q16 V c := by
  cases hq : fq_q16 V c
  · exact fq_q16_all (fun y hy => by rw [h y hy]; exact fq_q16_f hq hy)
  · obtain ⟨y, hy, hu⟩ := fq_q16_ex hq
    exact fq_q16_t hy (by rw [h y hy]; exact hu)
def fq_Cs (U : Nat → Bool) (A : fq_A4) : Prop := (∀ c, c < 16 → fq_Cl (fun y => U (16 * c + y)) A c) ∧ fq_Cl (fq_q16 U) A 16
theorem fq_Cs_cg {U V : Nat → Bool} {A : fq_A4} (h : fq_Cs U A) (e : ∀ y, y < 256 → U y = V y) : fq_Cs V A :=
  ⟨fun c hc => fq_Cl_cg (h.1 c hc) (fun y hy => e _ (by omega)), fq_Cl_cg h.2 (fun c hc => fq_q16_cg (fun y hy => e _ (by omega)))⟩
theorem fq_16n : (16 : Int32) = nI 16 := rfl
/-- a new member, its cluster not empty -/
theorem fq_Cs_insA {U : Nat → Bool} {A : fq_A4} {r : Nat} (h : fq_Cs U A) (hr : r < 256) (hn : U r = false) (h0 : 0 ≤ A.1 (r / 16)) : fq_Cs (fq_wi U r) (fq_insertInto A (nI (r / 16)) (nI (r % 16))) := by
  have hC := h.1 (r / 16) (by omega)
  obtain ⟨hI, hF⟩ := fq_insCl (by omega) (by omega) hC (x := r % 16) (by rw [show 16 * (r / 16) + r % 16 = r by omega]; exact hn)
  obtain ⟨k, hk, hkt, -⟩ := fq_Mn_ge (by decide) hC.1 (fq_0le.mp h0)
  refine ⟨fun c hc => ?_, ?_⟩
  · by_cases e : c = r / 16
    · subst e
      refine fq_Cl_cg hI (fun y hy => ?_)
      show (U (16 * (r / 16) + y) || decide (y = r % 16)) = (U (16 * (r / 16) + y) || decide (16 * (r / 16) + y = r))
      congr 1
      exact decide_eq_decide.mpr (by omega)
    · refine fq_Cl_cg (fq_Cl_Fr (h.1 c hc) hF e) (fun y hy => (fq_wi_n (by omega)).symm)
  · refine fq_Cl_cg (fq_Cl_Fr h.2 hF (by omega)) (fun c hc => ?_)
    try dsimp only
    by_cases e : c = r / 16
    · subst e
      rw [fq_q16_t hk hkt, fq_q16_t (y := r % 16) (by omega) (by rw [show 16 * (r / 16) + r % 16 = r by omega]; exact fq_wi_s)]
    · exact fq_q16_cg (fun y hy => (fq_wi_n (by omega)).symm)
/-- a new member, its cluster empty -/
theorem fq_Cs_insB {U : Nat → Bool} {A : fq_A4} {r : Nat} (h : fq_Cs U A) (hr : r < 256) (hn : U r = false) (h0 : ¬ 0 ≤ A.1 (r / 16)) : fq_Cs (fq_wi U r) (fq_insertInto (fq_insertInto A (16 : Int32) (nI (r / 16))) (nI (r / 16)) (nI (r % 16))) := by
  rw [fq_16n]
  have hC := h.1 (r / 16) (by omega)
  have hem := (fq_Mn_lt (by decide) hC.1 (by
    rcases hC.1 with ⟨k, hk, -, e, -⟩ | ⟨e, -⟩
    · rw [e] at h0; exact absurd (nI_pos' (by omega)) h0
    · rw [e]; exact fq_nm1)).2
  obtain ⟨hI1, hF1⟩ := fq_insCl (T := fq_q16 U) (c := 16) (x := r / 16) (by omega) (by omega) h.2 (fq_q16_all hem)
  obtain ⟨hI, hF⟩ := fq_insCl (by omega) (by omega) (fq_Cl_Fr hC hF1 (by omega)) (x := r % 16) (by rw [show 16 * (r / 16) + r % 16 = r by omega]; exact hn)
  refine ⟨fun c hc => ?_, ?_⟩
  · by_cases e : c = r / 16
    · subst e
      refine fq_Cl_cg hI (fun y hy => ?_)
      show (U (16 * (r / 16) + y) || decide (y = r % 16)) = (U (16 * (r / 16) + y) || decide (16 * (r / 16) + y = r))
      congr 1
      exact decide_eq_decide.mpr (by omega)
    · refine fq_Cl_cg (fq_Cl_Fr (fq_Cl_Fr (h.1 c hc) hF1 (by omega)) hF e) (fun y hy => (fq_wi_n (by omega)).symm)
  · refine fq_Cl_cg (fq_Cl_Fr hI1 hF (by omega)) (fun c hc => ?_)
    try dsimp only
    by_cases e : c = r / 16
    · subst e
      rw [fq_wi_s, fq_q16_t (y := r % 16) (by omega) (by rw [show 16 * (r / 16) + r % 16 = r by omega]; exact fq_wi_s)]
    · rw [fq_wi_n e]
      exact fq_q16_cg (fun y hy => (fq_wi_n (by omega)).symm)
/-- a member goes -/
theorem fq_Cs_del {U : Nat → Bool} {A : fq_A4} {r : Nat} (h : fq_Cs U A) (hr : r < 256) (hn : U r = true) : fq_Cs (fq_wo U r) (if 0 ≤ (fq_deleteFrom A (nI (r / 16)) (nI (r % 16))).1 (r / 16) then fq_deleteFrom A (nI (r / 16)) (nI (r % 16)) else fq_deleteFrom (fq_deleteFrom A (nI (r / 16)) (nI (r % 16))) (16 : Int32) (nI (r / 16))) := by
  rw [fq_16n]
  have hC := h.1 (r / 16) (by omega)
  obtain ⟨hI, hF⟩ := fq_delCl (by omega) (by omega) hC (x := r % 16) (by rw [show 16 * (r / 16) + r % 16 = r by omega]; exact hn)
  have hI2 : fq_Cl (fun y => fq_wo U r (16 * (r / 16) + y)) (fq_deleteFrom A (nI (r / 16)) (nI (r % 16))) (r / 16) := by
    refine fq_Cl_cg hI (fun y hy => ?_)
    show (U (16 * (r / 16) + y) && !decide (y = r % 16)) = (U (16 * (r / 16) + y) && !decide (16 * (r / 16) + y = r))
    congr 2
    exact decide_eq_decide.mpr (by omega)
  have hoth : ∀ c, c < 16 → c ≠ r / 16 → fq_Cl (fun y => fq_wo U r (16 * c + y)) (fq_deleteFrom A (nI (r / 16)) (nI (r % 16))) c := fun c hc e =>
    fq_Cl_cg (fq_Cl_Fr (h.1 c hc) hF e) (fun y hy => (fq_wo_n (by omega)).symm)
  have hsum := fq_Cl_Fr h.2 hF (show 16 ≠ r / 16 by omega)
  have hq : fq_q16 U (r / 16) = true := fq_q16_t (y := r % 16) (by omega) (by rw [show 16 * (r / 16) + r % 16 = r by omega]; exact hn)
  generalize fq_deleteFrom A (nI (r / 16)) (nI (r % 16)) = B at *
  by_cases h0 : 0 ≤ B.1 (r / 16)
  · rw [if_pos h0]
    obtain ⟨k, hk, hkt, -⟩ := fq_Mn_ge (by decide) hI2.1 (fq_0le.mp h0)
    refine ⟨fun c hc => ?_, ?_⟩
    · by_cases e : c = r / 16
      · subst e; exact hI2
      · exact hoth c hc e
    · refine fq_Cl_cg hsum (fun c hc => ?_)
      try dsimp only
      by_cases e : c = r / 16
      · subst e
        rw [hq, fq_q16_t hk hkt]
      · exact fq_q16_cg (fun y hy => (fq_wo_n (by omega)).symm)
  · rw [if_neg h0]
    have hem := (fq_Mn_lt (by decide) hI2.1 (by
      rcases hI2.1 with ⟨k, hk, -, e, -⟩ | ⟨e, -⟩
      · rw [e] at h0; exact absurd (nI_pos' (by omega)) h0
      · rw [e]; exact fq_nm1)).2
    obtain ⟨hI3, hF3⟩ := fq_delCl (T := fq_q16 U) (c := 16) (x := r / 16) (by omega) (by omega) hsum hq
    refine ⟨fun c hc => ?_, ?_⟩
    · by_cases e : c = r / 16
      · subst e; exact fq_Cl_Fr hI2 hF3 (by omega)
      · exact fq_Cl_Fr (hoth c hc e) hF3 (by omega)
    · refine fq_Cl_cg hI3 (fun c hc => ?_)
      try dsimp only
      by_cases e : c = r / 16
      · subst e
        rw [fq_wo_s, fq_q16_all hem]
      · rw [fq_wo_n e]
        exact fq_q16_cg (fun y hy => (fq_wo_n (by omega)).symm)
theorem fq_b16 {U : Nat → Bool} {i j y : Nat} (P : ∀ a, a < i → ∀ b, b < 16 → U (16 * a + b) = false) (Q : ∀ b, b < j → U (16 * i + b) = false) (hj : j < 16) (hy : y < 16 * i + j) : U y = false := by
  have e : y = 16 * (y / 16) + y % 16 := by omega
  by_cases h : y / 16 < i
  · rw [e]; exact P _ h _ (by omega)
  · have h2 : y / 16 = i := by omega
    rw [e, h2]; exact Q _ (by omega)
theorem fq_b16x {U : Nat → Bool} {i j y : Nat} (P : ∀ a, i < a → a < 16 → ∀ b, b < 16 → U (16 * a + b) = false) (Q : ∀ b, j < b → b < 16 → U (16 * i + b) = false) (hj : j < 16) (hy : 16 * i + j < y) (h16 : y < 256) : U y = false := by
  have e : y = 16 * (y / 16) + y % 16 := by omega
  by_cases h : i < y / 16
  · rw [e]; exact P _ h (by omega) _ (by omega)
  · have h2 : y / 16 = i := by omega
    rw [e, h2]; exact Q _ (by omega) (by omega)
theorem fq_Cs_min {U : Nat → Bool} {A : fq_A4} (h : fq_Cs U A) : fq_Mn U 256 (if 0 ≤ A.1 16 then (16 : Int32) * A.1 16 + A.1 (A.1 16).toNatClampNeg else -1) := by
  rcases h.2.1 with ⟨k, hk, hkt, e, hl⟩ | ⟨e, hl⟩
  · rw [e, if_pos (nI_pos' (by omega)), fq_cl (by omega)]
    obtain ⟨y, hy, hu⟩ := fq_q16_ex hkt
    rcases (h.1 k hk).1 with ⟨j, hj, hjt, e2, hl2⟩ | ⟨-, hl2⟩
    · rw [e2, fq_16ij]
      exact Or.inl ⟨16 * k + j, by omega, hjt, rfl, fun y hy => fq_b16 (fun a ha b hb => fq_q16_f (hl a ha) hb) hl2 hj hy⟩
    · exact absurd (hl2 y hy) (fun e => fq_tf hu e)
  · rw [e, if_neg fq_n0m1]
    refine Or.inr ⟨rfl, fun y hy => ?_⟩
    have := fq_q16_f (hl (y / 16) (by omega)) (y := y % 16) (by omega)
    rw [show 16 * (y / 16) + y % 16 = y by omega] at this
    exact this
theorem fq_Cs_max {U : Nat → Bool} {A : fq_A4} (h : fq_Cs U A) : fq_Mx U 256 (if 0 ≤ A.2.1 16 then (16 : Int32) * A.2.1 16 + A.2.1 (A.2.1 16).toNatClampNeg else -1) := by
  rcases h.2.2.1 with ⟨k, hk, hkt, e, hl⟩ | ⟨e, hl⟩
  · rw [e, if_pos (nI_pos' (by omega)), fq_cl (by omega)]
    obtain ⟨y, hy, hu⟩ := fq_q16_ex hkt
    rcases (h.1 k hk).2.1 with ⟨j, hj, hjt, e2, hl2⟩ | ⟨-, hl2⟩
    · rw [e2, fq_16ij]
      exact Or.inl ⟨16 * k + j, by omega, hjt, rfl, fun y hy h6 => fq_b16x (fun a ha h4 b hb => fq_q16_f (hl a ha h4) hb) hl2 hj hy h6⟩
    · exact absurd (hl2 y hy) (fun e => fq_tf hu e)
  · rw [e, if_neg fq_n0m1]
    refine Or.inr ⟨rfl, fun y hy => ?_⟩
    have := fq_q16_f (hl (y / 16) (by omega)) (y := y % 16) (by omega)
    rw [show 16 * (y / 16) + y % 16 = y by omega] at this
    exact this
/-- the next member above n: in its own cluster -/
theorem fq_Cs_afA {U : Nat → Bool} {A : fq_A4} {n : Nat} (h : fq_Cs U A) (hn : n < 256) (h0 : ¬ fq_afterIn A (nI (n / 16)) (nI (n % 16)) < 0) : fq_Mn (fun y => U y && decide (n < y)) 256 ((16 : Int32) * nI (n / 16) + fq_afterIn A (nI (n / 16)) (nI (n % 16))) := by
  have ha := fq_afCl (c := n / 16) (x := n % 16) (by omega) (by omega) (h.1 (n / 16) (by omega))
  obtain ⟨j, hj, hjt, e, hl⟩ := fq_Mn_ge (by decide) ha h0
  rw [e, fq_16ij]
  simp only [Bool.and_eq_true, decide_eq_true_eq] at hjt
  refine Or.inl ⟨16 * (n / 16) + j, by omega, ?_, rfl, fun y hy => ?_⟩
  · have : n < 16 * (n / 16) + j := by omega
    simp [hjt.1, this]
  · by_cases hny : n < y
    · have h5 := hl (y % 16) (by omega)
      rw [show 16 * (n / 16) + y % 16 = y by omega] at h5
      have h6 : n % 16 < y % 16 := by omega
      simp only [h6, decide_true, Bool.and_true] at h5
      simp [h5]
    · simp [hny]
/-- the next member above n: in a later cluster -/
theorem fq_Cs_afB {U : Nat → Bool} {A : fq_A4} {n g : Nat} (h : fq_Cs U A) (hn : n < 256) (hg : g < 256) (hu : U g = true) (hng : n < g) (h0 : fq_afterIn A (nI (n / 16)) (nI (n % 16)) < 0) : ∃ i, i < 16 ∧ fq_afterIn A (16 : Int32) (nI (n / 16)) = nI i ∧ fq_Mn (fun y => U y && decide (n < y)) 256 ((16 : Int32) * nI i + A.1 i) := by
  have ha := fq_afCl (c := n / 16) (x := n % 16) (by omega) (by omega) (h.1 (n / 16) (by omega))
  have hno := (fq_Mn_lt (by decide) ha h0).2
  have hgc : n / 16 < g / 16 := by
    rcases Nat.lt_or_ge (n / 16) (g / 16) with q | q
    · exact q
    · exfalso
      have h5 := hno (g % 16) (by omega)
      rw [show 16 * (n / 16) + g % 16 = g by omega, hu] at h5
      have h6 : n % 16 < g % 16 := by omega
      simp [h6] at h5
  have hs := fq_afCl (c := 16) (x := n / 16) (by omega) (by omega) h.2
  have hgq : fq_q16 U (g / 16) = true := fq_q16_t (y := g % 16) (by omega) (by rw [show 16 * (g / 16) + g % 16 = g by omega]; exact hu)
  rcases hs with ⟨i, hi, hit, e, hl⟩ | ⟨-, hl⟩
  · refine ⟨i, hi, e, ?_⟩
    simp only [Bool.and_eq_true, decide_eq_true_eq] at hit
    obtain ⟨y0, hy0, hu0⟩ := fq_q16_ex hit.1
    rcases (h.1 i hi).1 with ⟨j, hj, hjt, e2, hl2⟩ | ⟨-, hl2⟩
    · rw [e2, fq_16ij]
      refine Or.inl ⟨16 * i + j, by omega, ?_, rfl, fun y hy => ?_⟩
      · have : n < 16 * i + j := by omega
        simp [hjt, this]
      · by_cases hny : n < y
        · have hy2 : U y = false := by
            by_cases q : y / 16 = n / 16
            · have h5 := hno (y % 16) (by omega)
              rw [show 16 * (n / 16) + y % 16 = y by omega] at h5
              have h6 : n % 16 < y % 16 := by omega
              simpa [h6] using h5
            · by_cases q2 : y / 16 < i
              · have h5 := hl (y / 16) q2
                have h6 : n / 16 < y / 16 := by omega
                simp only [h6, decide_true, Bool.and_true] at h5
                have h7 := fq_q16_f h5 (y := y % 16) (by omega)
                rw [show 16 * (y / 16) + y % 16 = y by omega] at h7
                exact h7
              · have h5 : U (16 * i + y % 16) = false := hl2 (y % 16) (by omega)
                rw [show 16 * i + y % 16 = y by omega] at h5
                exact h5
          simp [hy2]
        · simp [hny]
    · exact absurd (hl2 y0 hy0) (fun e => fq_tf hu0 e)
  · exfalso
    have h5 : (fq_q16 U (g / 16) && decide (n / 16 < g / 16)) = false := hl (g / 16) (by omega)
    rw [hgq] at h5
    simp [hgc] at h5
theorem fq_Cs_bfA {U : Nat → Bool} {A : fq_A4} {n : Nat} (h : fq_Cs U A) (hn : n < 256) (h0 : ¬ fq_beforeIn A (nI (n / 16)) (nI (n % 16)) < 0) : fq_Mx (fun y => U y && decide (y < n)) 256 ((16 : Int32) * nI (n / 16) + fq_beforeIn A (nI (n / 16)) (nI (n % 16))) := by
  have ha := fq_bfCl (c := n / 16) (x := n % 16) (by omega) (by omega) (h.1 (n / 16) (by omega))
  obtain ⟨j, hj, hjt, e, hl⟩ := fq_Mx_ge (by decide) ha h0
  rw [e, fq_16ij]
  simp only [Bool.and_eq_true, decide_eq_true_eq] at hjt
  refine Or.inl ⟨16 * (n / 16) + j, by omega, ?_, rfl, fun y hy h6 => ?_⟩
  · have : 16 * (n / 16) + j < n := by omega
    simp [hjt.1, this]
  · by_cases hny : y < n
    · have h5 := hl (y % 16) (by omega) (by omega)
      rw [show 16 * (n / 16) + y % 16 = y by omega] at h5
      have h6 : y % 16 < n % 16 := by omega
      simp only [h6, decide_true, Bool.and_true] at h5
      simp [h5]
    · simp [hny]
theorem fq_Cs_bfB {U : Nat → Bool} {A : fq_A4} {n : Nat} (h : fq_Cs U A) (hn : n < 256) (h0 : fq_beforeIn A (nI (n / 16)) (nI (n % 16)) < 0) : fq_Mx (fun y => U y && decide (y < n)) 256 (if 0 ≤ fq_beforeIn A (16 : Int32) (nI (n / 16)) then (16 : Int32) * fq_beforeIn A (16 : Int32) (nI (n / 16)) + A.2.1 (fq_beforeIn A (16 : Int32) (nI (n / 16))).toNatClampNeg else -1) := by
  have ha := fq_bfCl (c := n / 16) (x := n % 16) (by omega) (by omega) (h.1 (n / 16) (by omega))
  have hno := (fq_Mx_lt (by decide) ha h0).2
  have hs := fq_bfCl (c := 16) (x := n / 16) (by omega) (by omega) h.2
  rw [fq_16n] at *
  have hsame : ∀ y, y < n → y / 16 = n / 16 → U y = false := fun y hy q => by
    have h5 := hno (y % 16) (by omega)
    rw [show 16 * (n / 16) + y % 16 = y by omega] at h5
    have h6 : y % 16 < n % 16 := by omega
    simpa [h6] using h5
  rcases hs with ⟨i, hi, hit, e, hl⟩ | ⟨e, hl⟩
  · rw [e, if_pos (nI_pos' (by omega)), fq_cl (by omega)]
    simp only [Bool.and_eq_true, decide_eq_true_eq] at hit
    obtain ⟨y0, hy0, hu0⟩ := fq_q16_ex hit.1
    rcases (h.1 i hi).2.1 with ⟨j, hj, hjt, e2, hl2⟩ | ⟨-, hl2⟩
    · rw [e2, ← fq_16n, fq_16ij]
      refine Or.inl ⟨16 * i + j, by omega, ?_, rfl, fun y hy h6 => ?_⟩
      · have : 16 * i + j < n := by omega
        simp [hjt, this]
      · by_cases hny : y < n
        · have hy2 : U y = false := by
            by_cases q : y / 16 = n / 16
            · exact hsame y hny q
            · by_cases q2 : i < y / 16
              · have h5 := hl (y / 16) q2 (by omega)
                have h6 : y / 16 < n / 16 := by omega
                simp only [h6, decide_true, Bool.and_true] at h5
                have h7 := fq_q16_f h5 (y := y % 16) (by omega)
                rw [show 16 * (y / 16) + y % 16 = y by omega] at h7
                exact h7
              · have h5 : U (16 * i + y % 16) = false := hl2 (y % 16) (by omega) (by omega)
                rw [show 16 * i + y % 16 = y by omega] at h5
                exact h5
          simp [hy2]
        · simp [hny]
    · exact absurd (hl2 y0 hy0) (fun e => fq_tf hu0 e)
  · rw [e, if_neg fq_n0m1]
    refine Or.inr ⟨rfl, fun y hy => ?_⟩
    by_cases hny : y < n
    · have hy2 : U y = false := by
        by_cases q : y / 16 = n / 16
        · exact hsame y hny q
        · have h5 := hl (y / 16) (by omega)
          have h6 : y / 16 < n / 16 := by omega
          simp only [h6, decide_true, Bool.and_true] at h5
          have h7 := fq_q16_f h5 (y := y % 16) (by omega)
          rw [show 16 * (y / 16) + y % 16 = y by omega] at h7
          exact h7
      simp [hy2]
    · simp [hny]
end
section
/-! counting -/
def fq_cnt (P : Nat → Bool) : Nat → Nat
  | 0 => 0
  | n + 1 => fq_cnt P n + cond (P n) 1 0
theorem fq_cnt_le (P : Nat → Bool) : ∀ n, fq_cnt P n ≤ n
  | 0 => Nat.le_refl 0
  | n + 1 => by
    have h := fq_cnt_le P n
    show fq_cnt P n + cond (P n) 1 0 ≤ n + 1
    cases P n
    · show fq_cnt P n + 0 ≤ n + 1; omega
    · show fq_cnt P n + 1 ≤ n + 1; omega
theorem fq_cnt_t {P : Nat → Bool} {n : Nat} (h : P n = true) : fq_cnt P (n + 1) = fq_cnt P n + 1 := by
  show fq_cnt P n + cond (P n) 1 0 = _
  rw [h]; rfl
theorem fq_cnt_f {P : Nat → Bool} {n : Nat} (h : P n = false) : fq_cnt P (n + 1) = fq_cnt P n := by
  show fq_cnt P n + cond (P n) 1 0 = _
  rw [h]; rfl
theorem fq_cnt_cg {P Q : Nat → Bool} : ∀ n, (∀ k, k < n → P k = Q k) → fq_cnt P n = fq_cnt Q n
  | 0, _ => rfl
  | n + 1, h => by
    show fq_cnt P n + cond (P n) 1 0 = fq_cnt Q n + cond (Q n) 1 0
    rw [fq_cnt_cg n (fun k hk => h k (by omega)), h n (by omega)]
theorem fq_cnt_wi {U : Nat → Bool} {x : Nat} (hu : U x = false) : ∀ n, x < n → fq_cnt (fq_wi U x) n = fq_cnt U n + 1
  | 0, h => absurd h (by omega)
  | n + 1, h => by
    by_cases e : x = n
    · subst e
      rw [fq_cnt_t fq_wi_s, fq_cnt_f hu, fq_cnt_cg x (fun k hk => fq_wi_n (by omega))]
    · show fq_cnt (fq_wi U x) n + cond (fq_wi U x n) 1 0 = (fq_cnt U n + cond (U n) 1 0) + 1
      rw [fq_cnt_wi hu n (by omega), fq_wi_n (fun h => e h.symm)]
      omega
theorem fq_cnt_wo {U : Nat → Bool} {x : Nat} (hu : U x = true) : ∀ n, x < n → fq_cnt U n = fq_cnt (fq_wo U x) n + 1
  | 0, h => absurd h (by omega)
  | n + 1, h => by
    by_cases e : x = n
    · subst e
      rw [fq_cnt_t hu, fq_cnt_f fq_wo_s, fq_cnt_cg x (fun k hk => fq_wo_n (by omega))]
    · show fq_cnt U n + cond (U n) 1 0 = (fq_cnt (fq_wo U x) n + cond (fq_wo U x n) 1 0) + 1
      rw [fq_cnt_wo hu n (by omega), fq_wo_n (fun h => e h.symm)]
      omega
/-! what a member call does to the set, for any int -/
def fq_rng (x : Int32) : Bool := decide (0 ≤ x) && decide (x ≤ 255)
def fq_memR (S : Nat → Bool) (x : Int32) : Int32 := cond (fq_rng x && S x.toNatClampNeg) 1 0
def fq_insR (S : Nat → Bool) (x : Int32) : Int32 := cond (fq_rng x && !S x.toNatClampNeg) 1 0
def fq_insS (S : Nat → Bool) (x : Int32) : Nat → Bool := fun j => S j || (fq_rng x && decide (j = x.toNatClampNeg))
def fq_delS (S : Nat → Bool) (x : Int32) : Nat → Bool := fun j => S j && !(fq_rng x && decide (j = x.toNatClampNeg))
theorem fq_rng_n {n : Nat} (h : n < 256) : fq_rng (nI n) = true := by
  unfold fq_rng
  have h1 : (0 : Int32) ≤ nI n := nI_pos' (by omega)
  have h2 : nI n ≤ 255 := nI_le (b := 255) (by omega) (by decide)
  simp [h1, h2]
theorem fq_rng_lt {x : Int32} (h : x < 0) : fq_rng x = false := by
  unfold fq_rng
  have h1 : ¬ (0 : Int32) ≤ x := fun q => fq_0le.mp q h
  simp [h1]
theorem fq_rng_ge {x : Int32} (h : (256 : Int32) ≤ x) : fq_rng x = false := by
  unfold fq_rng
  have h1 : ¬ x ≤ 255 := by
    rw [Int32.le_iff_toInt_le, show (256 : Int32).toInt = 256 by decide] at h
    rw [Int32.le_iff_toInt_le, show (255 : Int32).toInt = 255 by decide]
    omega
  simp [h1]
theorem fq_cases (x : Int32) : x < 0 ∨ (256 : Int32) ≤ x ∨ ∃ j : Nat, j < 256 ∧ x = nI j := pk_ix x (n := 256) (by decide)
theorem fq_insS_n {S : Nat → Bool} {n : Nat} (h : n < 256) : fq_insS S (nI n) = fq_wi S n := by
  funext j
  unfold fq_insS fq_wi
  rw [fq_rng_n h, fq_cl h, Bool.true_and]
theorem fq_delS_n {S : Nat → Bool} {n : Nat} (h : n < 256) : fq_delS S (nI n) = fq_wo S n := by
  funext j
  unfold fq_delS fq_wo
  rw [fq_rng_n h, fq_cl h, Bool.true_and]
theorem fq_insS_o {S : Nat → Bool} {x : Int32} (h : fq_rng x = false) : fq_insS S x = S := by
  funext j
  unfold fq_insS
  rw [h]; simp
theorem fq_delS_o {S : Nat → Bool} {x : Int32} (h : fq_rng x = false) : fq_delS S x = S := by
  funext j
  unfold fq_delS
  rw [h]; simp
theorem fq_memR_n {S : Nat → Bool} {n : Nat} (h : n < 256) : fq_memR S (nI n) = cond (S n) 1 0 := by
  unfold fq_memR
  rw [fq_rng_n h, fq_cl h, Bool.true_and]
theorem fq_memR_o {S : Nat → Bool} {x : Int32} (h : fq_rng x = false) : fq_memR S x = 0 := by
  unfold fq_memR
  rw [h]; rfl
theorem fq_insR_n {S : Nat → Bool} {n : Nat} (h : n < 256) : fq_insR S (nI n) = cond (!S n) 1 0 := by
  unfold fq_insR
  rw [fq_rng_n h, fq_cl h, Bool.true_and]
theorem fq_insR_o {S : Nat → Bool} {x : Int32} (h : fq_rng x = false) : fq_insR S x = 0 := by
  unfold fq_insR
  rw [h]; rfl
theorem fq_wi_self {S : Nat → Bool} {n : Nat} (h : S n = true) : fq_wi S n = S := by
  funext j
  by_cases e : j = n
  · subst e; rw [fq_wi_s, h]
  · exact fq_wi_n e
theorem fq_wo_self {S : Nat → Bool} {n : Nat} (h : S n = false) : fq_wo S n = S := by
  funext j
  by_cases e : j = n
  · subst e; rw [fq_wo_s, h]
  · exact fq_wo_n e
/-! THE INVARIANT: the cells hold the set S of numbers below 256 -/
def fq_U (S : Nat → Bool) (mi : Int32) : Nat → Bool := fun y => S y && decide (mi ≠ nI y)
def fq_Inv (S : Nat → Bool) (A : fq_A4) (mi mx ct : Int32) : Prop := fq_Mn S 256 mi ∧ fq_Mx S 256 mx ∧ ct = nI (fq_cnt S 256) ∧ fq_Cs (fq_U S mi) A
theorem fq_RIs {S : Nat → Bool} {A : fq_A4} {mi mx ct : Int32} (h : fq_Inv S A mi mx ct) : fq_RI A.1 ∧ fq_RI A.2.1 := by
  obtain ⟨-, -, -, hC, h16⟩ := h
  refine ⟨fun c hc => ?_, fun c hc => ?_⟩
  · by_cases e : c < 16
    · rcases (hC c e).1 with ⟨k, hk, -, e2, -⟩ | ⟨e2, -⟩
      · exact Or.inr ⟨k, hk, e2⟩
      · exact Or.inl e2
    · have : c = 16 := by omega
      subst this
      rcases h16.1 with ⟨k, hk, -, e2, -⟩ | ⟨e2, -⟩
      · exact Or.inr ⟨k, hk, e2⟩
      · exact Or.inl e2
  · by_cases e : c < 16
    · rcases (hC c e).2.1 with ⟨k, hk, -, e2, -⟩ | ⟨e2, -⟩
      · exact Or.inr ⟨k, hk, e2⟩
      · exact Or.inl e2
    · have : c = 16 := by omega
      subst this
      rcases h16.2.1 with ⟨k, hk, -, e2, -⟩ | ⟨e2, -⟩
      · exact Or.inr ⟨k, hk, e2⟩
      · exact Or.inl e2
theorem fq_lo_RI {S : Nat → Bool} {A : fq_A4} {mi mx ct : Int32} (h : fq_Inv S A mi mx ct) : fq_RI A.1 := (fq_RIs h).1
theorem fq_hi_RI {S : Nat → Bool} {A : fq_A4} {mi mx ct : Int32} (h : fq_Inv S A mi mx ct) : fq_RI A.2.1 := (fq_RIs h).2
theorem fq_mi_in {S : Nat → Bool} {A : fq_A4} {mi mx ct : Int32} (h : fq_Inv S A mi mx ct) (h0 : 0 ≤ mi) : vp_in mi 256 := by
  obtain ⟨k, hk, -, e, -⟩ := fq_Mn_ge (by decide) h.1 (fq_0le.mp h0)
  rw [e]; exact vp_in_nI hk (by decide)
theorem fq_x_in {S : Nat → Bool} {A : fq_A4} {mi mx ct x : Int32} (h : fq_Inv S A mi mx ct) (h0 : ¬ mi < 0) (h1 : x < mx) (h2 : mi ≤ x) : vp_in x 256 := by
  obtain ⟨k, hk, hkt, e, -⟩ := fq_Mn_ge (by decide) h.1 h0
  rcases h.2.1 with ⟨g, hg, -, e2, -⟩ | ⟨-, hn⟩
  · rw [vp_in_iff]
    rw [e2, Int32.lt_iff_toInt_lt, nI_toInt (by omega)] at h1
    rw [e, Int32.le_iff_toInt_le, nI_toInt (by omega)] at h2
    omega
  · exact absurd (hn k hk) (fun e => fq_tf hkt e)
theorem fq_x_in2 {S : Nat → Bool} {A : fq_A4} {mi mx ct x : Int32} (h : fq_Inv S A mi mx ct) (h0 : ¬ mi < 0) (h1 : mi < x) (h2 : x ≤ mx) : vp_in x 256 := by
  obtain ⟨k, hk, hkt, e, -⟩ := fq_Mn_ge (by decide) h.1 h0
  rcases h.2.1 with ⟨g, hg, -, e2, -⟩ | ⟨-, hn⟩
  · rw [vp_in_iff]
    rw [e2, Int32.le_iff_toInt_le, nI_toInt (by omega)] at h2
    rw [e, Int32.lt_iff_toInt_lt, nI_toInt (by omega)] at h1
    omega
  · exact absurd (hn k hk) (fun e => fq_tf hkt e)
/-- above the least, S and U are the same -/
theorem fq_U_gt {S : Nat → Bool} {k y : Nat} (hk : k < 256) (hy : y < 256) (h : k < y) : fq_U S (nI k) y = S y := by
  unfold fq_U
  rw [fq_dne hk hy]
  have : k ≠ y := by omega
  simp [this]
theorem fq_U_self {S : Nat → Bool} {k : Nat} (hk : k < 256) : fq_U S (nI k) k = false := by
  unfold fq_U
  simp
theorem fq_U_ne {S : Nat → Bool} {k y : Nat} (hk : k < 256) (hy : y < 256) (h : k ≠ y) : fq_U S (nI k) y = S y := by
  unfold fq_U
  rw [fq_dne hk hy]
  simp [h]
theorem fq_dlt {a b : Nat} (ha : a < 256) (hb : b < 256) : decide (nI a < nI b) = decide (a < b) := decide_eq_decide.mpr (nI_ltI (by omega) (by omega))
/-- member -/
theorem fq_member_spec {S : Nat → Bool} {A : fq_A4} {mi mx ct x : Int32} (h : fq_Inv S A mi mx ct) : fq_member A mi mx ct x = fq_memR S x := by
  obtain ⟨h1, h2, h3, hC, h16⟩ := h
  unfold fq_member
  rcases fq_cases x with q | q | ⟨n, hn, rfl⟩
  · rw [if_pos q, fq_memR_o (fq_rng_lt q)]
  · rw [if_neg (fun h => by
      rw [Int32.le_iff_toInt_le, show (256 : Int32).toInt = 256 by decide] at q
      rw [Int32.lt_iff_toInt_lt, Int32.toInt_zero] at h
      omega), if_pos q, fq_memR_o (fq_rng_ge q)]
  · rw [if_neg (nI_pos (by omega)), if_neg (show ¬ (256 : Int32) ≤ nI n from nI_ge (b := 256) (by omega) (by decide)), fq_memR_n hn, fq_sh4 hn, fq_an15 hn]
    by_cases e : nI n = mi
    · rw [if_pos e]
      rcases h1 with ⟨k, hk, hkt, e2, -⟩ | ⟨e2, -⟩
      · have : n = k := (nI_eq (by omega) (by omega)).mp (e.trans e2)
        subst this
        rw [hkt]; rfl
      · exact absurd (e.trans e2) (fq_nI_ne (by omega))
    · rw [if_neg e, fq_inCl (by omega) (by omega) (hC (n / 16) (by omega))]
      rw [show 16 * (n / 16) + n % 16 = n by omega]
      have : fq_U S mi n = S n := by
        unfold fq_U
        have : mi ≠ nI n := fun q => e q.symm
        simp [this]
      rw [this]
      cases S n <;> rfl
/-- after -/
theorem fq_after_spec {S : Nat → Bool} {A : fq_A4} {mi mx ct x : Int32} (h : fq_Inv S A mi mx ct) : fq_Mn (fun j => S j && decide (x < nI j)) 256 (fq_after A mi mx ct x) ∧ (¬ mi < 0 → x < mx → mi ≤ x → fq_afterIn A (x >>> ((4 : Int32) &&& (31 : Int32))) (x &&& (15 : Int32)) < 0 → vp_in (fq_afterIn A (16 : Int32) (x >>> ((4 : Int32) &&& (31 : Int32)))) 17) := by
  have hI := h
  obtain ⟨h1, h2, h3, hC⟩ := h
  unfold fq_after
  rcases h1 with ⟨k, hk, hkt, e, hl⟩ | ⟨e, hl⟩
  · subst e
    rw [if_neg (nI_pos (by omega))]
    obtain ⟨g, hg, hgt, e, hgl⟩ : ∃ g, g < 256 ∧ S g = true ∧ mx = nI g ∧ ∀ j, g < j → j < 256 → S j = false := by
      rcases h2 with h2 | ⟨-, h2⟩
      · exact h2
      · exact absurd (h2 k hk) (fun e => fq_tf hkt e)
    subst e
    by_cases hxg : x < nI g
    · rw [if_pos hxg]
      by_cases hkx : nI k ≤ x
      · rw [if_pos hkx]
        obtain ⟨n, hn, rfl⟩ := vp_in_of (fq_x_in hI (nI_pos (by omega)) hxg hkx) (by decide)
        rw [fq_sh4 hn, fq_an15 hn]
        have hng : n < g := (nI_ltI (by omega) (by omega)).mp hxg
        have hkn : k ≤ n := (nI_leI (by omega) (by omega)).mp hkx
        have hcg : ∀ y, y < 256 → (fq_U S (nI k) y && decide (n < y)) = (S y && decide (nI n < nI y)) := fun y hy => by
          rw [fq_dlt hn hy]
          by_cases q : n < y
          · rw [fq_U_gt hk hy (by omega)]
          · simp [q]
        have hug : fq_U S (nI k) g = true := by rw [fq_U_gt hk hg (by omega)]; exact hgt
        by_cases h0 : fq_afterIn A (nI (n / 16)) (nI (n % 16)) < 0
        · rw [if_pos h0]
          obtain ⟨i, hi, e, hm⟩ := fq_Cs_afB hC hn hg hug hng h0
          rw [e, fq_cl (by omega)]
          exact ⟨fq_Mn_cg hm hcg, fun _ _ _ _ => vp_in_nI (by omega) (by decide)⟩
        · rw [if_neg h0]
          exact ⟨fq_Mn_cg (fq_Cs_afA hC hn h0) hcg, fun _ _ _ q => absurd q h0⟩
      · rw [if_neg hkx]
        refine ⟨Or.inl ⟨k, hk, ?_, rfl, fun j hj => by simp [hl j hj]⟩, fun _ _ q => absurd q hkx⟩
        have : x < nI k := by
          rw [fq_le_nlt] at hkx
          exact Classical.not_not.mp hkx
        simp [hkt, this]
    · rw [if_neg hxg]
      refine ⟨Or.inr ⟨rfl, fun j hj => ?_⟩, fun _ q => absurd q hxg⟩
      by_cases q : x < nI j
      · rcases Nat.lt_or_ge g j with q2 | q2
        · simp [hgl j q2 hj]
        · exfalso
          apply hxg
          have := nI_le q2 (show g < 2 ^ 31 by omega)
          rw [Int32.lt_iff_toInt_lt] at *
          rw [Int32.le_iff_toInt_le] at this
          omega
      · simp [q]
  · rw [e, if_pos fq_nm1]
    exact ⟨Or.inr ⟨rfl, fun j hj => by simp [hl j hj]⟩, fun q => absurd fq_nm1 q⟩
theorem fq_after_ix {S : Nat → Bool} {A : fq_A4} {mi mx ct x : Int32} (h : fq_Inv S A mi mx ct) (a : ¬ mi < 0) (b : x < mx) (c : mi ≤ x) (d : fq_afterIn A (x >>> ((4 : Int32) &&& (31 : Int32))) (x &&& (15 : Int32)) < 0) : vp_in (fq_afterIn A (16 : Int32) (x >>> ((4 : Int32) &&& (31 : Int32)))) 17 := (fq_after_spec h).2 a b c d
/-- before -/
theorem fq_before_spec {S : Nat → Bool} {A : fq_A4} {mi mx ct x : Int32} (h : fq_Inv S A mi mx ct) : fq_Mx (fun j => S j && decide (nI j < x)) 256 (fq_before A mi mx ct x) := by
  have hI := h
  obtain ⟨h1, h2, h3, hC⟩ := h
  unfold fq_before
  rcases h1 with ⟨k, hk, hkt, e, hl⟩ | ⟨e, hl⟩
  · subst e
    rw [if_neg (nI_pos (by omega))]
    obtain ⟨g, hg, hgt, e, hgl⟩ : ∃ g, g < 256 ∧ S g = true ∧ mx = nI g ∧ ∀ j, g < j → j < 256 → S j = false := by
      rcases h2 with h2 | ⟨-, h2⟩
      · exact h2
      · exact absurd (h2 k hk) (fun e => fq_tf hkt e)
    subst e
    by_cases hkx : nI k < x
    · rw [if_pos hkx]
      by_cases hxg : x ≤ nI g
      · rw [if_pos hxg]
        obtain ⟨n, hn, rfl⟩ := vp_in_of (fq_x_in2 hI (nI_pos (by omega)) hkx hxg) (by decide)
        rw [fq_sh4 hn, fq_an15 hn]
        have hng : n ≤ g := (nI_leI (by omega) (by omega)).mp hxg
        have hkn : k < n := (nI_ltI (by omega) (by omega)).mp hkx
        -- a greatest of U below n that exists is S's
        have hup : ∀ r, fq_Mx (fun y => fq_U S (nI k) y && decide (y < n)) 256 r → fq_Mx (fun j => S j && decide (nI j < nI n)) 256 (if r < 0 then nI k else r) := fun r hm => by
          rcases hm with ⟨i, hi, hit, e, hil⟩ | ⟨e, hil⟩
          · rw [e, if_neg (nI_pos (by omega))]
            simp only [Bool.and_eq_true, decide_eq_true_eq] at hit
            have hki : k < i := by
              rcases Nat.lt_trichotomy k i with q | q | q
              · exact q
              · subst q
                exact absurd (fq_U_self hk) (fun e => fq_tf hit.1 e)
              · have h5 := hit.1
                unfold fq_U at h5
                rw [hl i q] at h5
                cases h5
            refine Or.inl ⟨i, hi, ?_, rfl, fun y q1 q2 => ?_⟩
            · show (S i && decide (nI i < nI n)) = true
              rw [fq_dlt hi hn, ← fq_U_gt (S := S) hk hi hki, hit.1]
              simp [hit.2]
            · show (S y && decide (nI y < nI n)) = false
              have h5 : (fq_U S (nI k) y && decide (y < n)) = false := hil y q1 q2
              rw [fq_U_gt hk q2 (by omega)] at h5
              rw [fq_dlt q2 hn]; exact h5
          · rw [e, if_pos fq_nm1]
            refine Or.inl ⟨k, hk, ?_, rfl, fun y q1 q2 => ?_⟩
            · show (S k && decide (nI k < nI n)) = true
              rw [hkt, fq_dlt hk hn]; simp [hkn]
            · show (S y && decide (nI y < nI n)) = false
              have h5 : (fq_U S (nI k) y && decide (y < n)) = false := hil y q2
              rw [fq_U_gt hk q2 (by omega)] at h5
              rw [fq_dlt q2 hn]; exact h5
        by_cases h0 : fq_beforeIn A (nI (n / 16)) (nI (n % 16)) < 0
        · rw [if_pos h0]
          have hm := hup _ (fq_Cs_bfB hC hn h0)
          by_cases h5 : 0 ≤ fq_beforeIn A (16 : Int32) (nI (n / 16))
          · rw [if_pos h5] at hm
            rw [if_pos h5]
            have hnn : ¬ ((16 : Int32) * fq_beforeIn A (16 : Int32) (nI (n / 16)) + A.2.1 (fq_beforeIn A (16 : Int32) (nI (n / 16))).toNatClampNeg) < 0 := by
              have hm2 := fq_Cs_bfB hC hn h0
              rw [if_pos h5] at hm2
              intro q
              have h6 := (fq_Mx_lt (by decide) hm2 q).1
              -- the summary's answer names a cluster that has members
              have hs := fq_bfCl (c := 16) (x := n / 16) (by omega) (by omega) hC.2
              obtain ⟨i, hi, hit, e, -⟩ := fq_Mx_ge (by decide) hs (fq_0le.mp h5)
              have e' : fq_beforeIn A (16 : Int32) (nI (n / 16)) = nI i := e
              rw [e', fq_cl (by omega)] at h6
              simp only [Bool.and_eq_true, decide_eq_true_eq] at hit
              obtain ⟨y0, hy0, hu0⟩ := fq_q16_ex hit.1
              rcases (hC.1 i hi).2.1 with ⟨j, hj, -, e2, -⟩ | ⟨-, hl2⟩
              · rw [e2, fq_16ij] at h6
                exact fq_nI_ne (by omega) h6
              · exact fq_tf hu0 (hl2 y0 hy0)
            rw [if_neg hnn] at hm
            exact hm
          · rw [if_neg h5] at hm
            rw [if_neg h5]
            rw [if_pos fq_nm1] at hm
            exact hm
        · rw [if_neg h0]
          have hm2 := fq_Cs_bfA hC hn h0
          have hm := hup _ hm2
          rw [if_neg] at hm
          · exact hm
          · have ha := fq_bfCl (c := n / 16) (x := n % 16) (by omega) (by omega) (hC.1 (n / 16) (by omega))
            obtain ⟨j, hj, -, e, -⟩ := fq_Mx_ge (by decide) ha h0
            rw [e, fq_16ij]
            exact nI_pos (by omega)
      · rw [if_neg hxg]
        have hgx : nI g < x := by
          rw [fq_le_nlt] at hxg
          exact Classical.not_not.mp hxg
        exact Or.inl ⟨g, hg, by simp [hgt, hgx], rfl, fun y q1 q2 => by simp [hgl y q1 q2]⟩
    · rw [if_neg hkx]
      refine Or.inr ⟨rfl, fun y hy => ?_⟩
      by_cases q : nI y < x
      · rcases Nat.lt_or_ge y k with q2 | q2
        · simp [hl y q2]
        · exfalso
          apply hkx
          have := nI_le q2 (show y < 2 ^ 31 by omega)
          rw [Int32.lt_iff_toInt_lt] at *
          rw [Int32.le_iff_toInt_le] at this
          omega
      · simp [q]
  · rw [e, if_pos fq_nm1]
    exact Or.inr ⟨rfl, fun j hj => by simp [hl j hj]⟩
end
section
/-! insert, delete -/
theorem fq_Mn_wi {S : Nat → Bool} {k n : Nat} (hk : k < 256) (hn : n < 256) (hkt : S k = true) (hl : ∀ j, j < k → S j = false) (h : k < n) : fq_Mn (fq_wi S n) 256 (nI k) := Or.inl ⟨k, hk, by rw [fq_wi_n (by omega)]; exact hkt, rfl, fun j hj => by rw [fq_wi_n (by omega)]; exact hl j hj⟩
theorem fq_cnt_ins {S : Nat → Bool} {n : Nat} (hn : n < 256) (h : S n = false) : nI (fq_cnt S 256) + 1 = nI (fq_cnt (fq_wi S n) 256) := by
  rw [fq_cnt_wi h 256 hn, nI_1]
theorem fq_cnt_del {S : Nat → Bool} {n : Nat} (hn : n < 256) (h : S n = true) : nI (fq_cnt S 256) - 1 = nI (fq_cnt (fq_wo S n) 256) := by
  rw [fq_cnt_wo h 256 hn, nI_pred]
theorem fq_insR_spec {S : Nat → Bool} {A : fq_A4} {mi mx ct x : Int32} (h : fq_Inv S A mi mx ct) : fq_insertR A mi mx ct x = fq_insR S x := by
  unfold fq_insertR
  rw [fq_member_spec h]
  rcases fq_cases x with q | q | ⟨n, hn, rfl⟩
  · rw [if_pos q, fq_insR_o (fq_rng_lt q)]
  · rw [if_neg (fun h => by
      rw [Int32.le_iff_toInt_le, show (256 : Int32).toInt = 256 by decide] at q
      rw [Int32.lt_iff_toInt_lt, Int32.toInt_zero] at h
      omega), if_pos q, fq_insR_o (fq_rng_ge q)]
  · rw [if_neg (nI_pos (by omega)), if_neg (show ¬ (256 : Int32) ≤ nI n from nI_ge (b := 256) (by omega) (by decide)), fq_insR_n hn, fq_memR_n hn]
    cases hs : S n
    · rw [if_pos (show (cond false 1 0 : Int32) = 0 from rfl)]
      show _ = (1 : Int32)
      split
      · split
        · split
          · split <;> rfl
          · split <;> rfl
        · split
          · split <;> rfl
          · split <;> rfl
      · rfl
    · rw [if_neg (show ¬ (cond true 1 0 : Int32) = 0 by decide)]
      rfl
/-- the arrays behind an insertion of r into the clusters -/
theorem fq_Cs_ins {U : Nat → Bool} {A : fq_A4} {r : Nat} (h : fq_Cs U A) (hr : r < 256) (hn : U r = false) : fq_Cs (fq_wi U r) (if 0 ≤ A.1 (r / 16) then fq_insertInto A (nI (r / 16)) (nI (r % 16)) else fq_insertInto (fq_insertInto A (16 : Int32) (nI (r / 16))) (nI (r / 16)) (nI (r % 16))) := by
  by_cases h0 : 0 ≤ A.1 (r / 16)
  · rw [if_pos h0]; exact fq_Cs_insA h hr hn h0
  · rw [if_neg h0]; exact fq_Cs_insB h hr hn h0
theorem fq_insU_shape (A : fq_A4) (mi mx ct : Int32) {n k : Nat} (hn : n < 256) (hk : k < 256) (hmi : mi = nI k) (hm : fq_member A mi mx ct (nI n) = 0) : fq_insertU A mi mx ct (nI n) =
    (let r := if k ≤ n then n else k
     ((if 0 ≤ A.1 (r / 16) then fq_insertInto A (nI (r / 16)) (nI (r % 16)) else fq_insertInto (fq_insertInto A (16 : Int32) (nI (r / 16))) (nI (r / 16)) (nI (r % 16))), (if k ≤ n then nI k else nI n), (if nI r ≤ mx then mx else nI r), ct + 1)) := by
  subst hmi
  unfold fq_insertU
  rw [if_neg (nI_pos (by omega)), if_neg (show ¬ (256 : Int32) ≤ nI n from nI_ge (b := 256) (by omega) (by decide)), if_pos hm, if_pos (nI_pos' (by omega)), fq_sh4 hn, fq_an15 hn, fq_sh4 hk, fq_an15 hk, fq_cl (c := n / 16) (by omega), fq_cl (c := k / 16) (by omega)]
  by_cases h : k ≤ n
  · rw [if_pos (nI_le h (by omega))]
    simp only [if_pos h]
    split
    · split <;> rfl
    · split <;> rfl
  · rw [if_neg (nI_ge (by omega) (by omega))]
    simp only [if_neg h]
    split
    · split <;> rfl
    · split <;> rfl
theorem fq_insU_spec {S : Nat → Bool} {A : fq_A4} {mi mx ct x : Int32} (h : fq_Inv S A mi mx ct) : fq_Inv (fq_insS S x) (fq_insertU A mi mx ct x).1 (fq_insertU A mi mx ct x).2.1 (fq_insertU A mi mx ct x).2.2.1 (fq_insertU A mi mx ct x).2.2.2 := by
  have hI := h
  obtain ⟨h1, h2, h3, hC⟩ := h
  rcases fq_cases x with q | q | ⟨n, hn, rfl⟩
  · rw [fq_insS_o (fq_rng_lt q)]
    unfold fq_insertU
    rw [if_pos q]; exact hI
  · rw [fq_insS_o (fq_rng_ge q)]
    unfold fq_insertU
    rw [if_neg (fun h => by
      rw [Int32.le_iff_toInt_le, show (256 : Int32).toInt = 256 by decide] at q
      rw [Int32.lt_iff_toInt_lt, Int32.toInt_zero] at h
      omega), if_pos q]
    exact hI
  · rw [fq_insS_n hn]
    have hm := fq_member_spec (x := nI n) hI
    rw [fq_memR_n hn] at hm
    cases hs : S n
    · rw [hs] at hm
      have hm : fq_member A mi mx ct (nI n) = 0 := hm
      rcases h1 with ⟨k, hk, hkt, e, hl⟩ | ⟨e, hl⟩
      · obtain ⟨g, hg, hgt, eg, hgl⟩ : ∃ g, g < 256 ∧ S g = true ∧ mx = nI g ∧ ∀ j, g < j → j < 256 → S j = false := by
          rcases h2 with h2 | ⟨-, h2⟩
          · exact h2
          · exact absurd (h2 k hk) (fun e => fq_tf hkt e)
        have hkn : k ≠ n := fun e => fq_tf hkt (by rw [e]; exact hs)
        have hkg : k ≤ g := by
          rcases Nat.lt_or_ge g k with q | q
          · exact absurd (hl g q) (fun e => fq_tf hgt e)
          · exact q
        rw [fq_insU_shape A mi mx ct hn hk e hm]
        subst e
        subst eg
        by_cases hlt : k ≤ n
        · simp only [if_pos hlt]
          have hU : fq_U S (nI k) n = false := by unfold fq_U; rw [hs]; rfl
          refine ⟨fq_Mn_wi hk hn hkt hl (by omega), ?_, by rw [h3]; exact fq_cnt_ins hn hs, ?_⟩
          · show fq_Mx (fq_wi S n) 256 (if nI n ≤ nI g then nI g else nI n)
            by_cases hng : n ≤ g
            · rw [if_pos (nI_le hng (by omega))]
              exact Or.inl ⟨g, hg, by unfold fq_wi; rw [hgt]; rfl, rfl, fun j q1 q2 => by rw [fq_wi_n (by omega)]; exact hgl j q1 q2⟩
            · rw [if_neg (nI_ge (by omega) (by omega))]
              exact Or.inl ⟨n, hn, fq_wi_s, rfl, fun j q1 q2 => by rw [fq_wi_n (by omega)]; exact hgl j (by omega) q2⟩
          · refine fq_Cs_cg (fq_Cs_ins hC hn hU) (fun y hy => ?_)
            unfold fq_U fq_wi
            dsimp only
            rw [fq_dne hk hy]
            by_cases e : y = n
            · subst e; simp [hkn]
            · simp [e]
        · simp only [if_neg hlt]
          refine ⟨?_, ?_, by rw [h3]; exact fq_cnt_ins hn hs, ?_⟩
          · exact Or.inl ⟨n, hn, fq_wi_s, rfl, fun j hj => by rw [fq_wi_n (by omega)]; exact hl j (by omega)⟩
          · show fq_Mx (fq_wi S n) 256 (if nI k ≤ nI g then nI g else nI k)
            rw [if_pos (nI_le hkg (by omega))]
            exact Or.inl ⟨g, hg, by unfold fq_wi; rw [hgt]; rfl, rfl, fun j q1 q2 => by rw [fq_wi_n (by omega)]; exact hgl j q1 q2⟩
          · refine fq_Cs_cg (fq_Cs_ins hC hk (fq_U_self hk)) (fun y hy => ?_)
            unfold fq_U fq_wi
            dsimp only
            rw [fq_dne hk hy, fq_dne hn hy]
            by_cases e : y = n
            · subst e; simp [hs, Ne.symm hkn]
            · by_cases e2 : y = k
              · subst e2; simp [hkt, Ne.symm e]
              · simp [e, e2, Ne.symm e, Ne.symm e2]
      · unfold fq_insertU
        rw [if_neg (nI_pos (by omega)), if_neg (show ¬ (256 : Int32) ≤ nI n from nI_ge (b := 256) (by omega) (by decide)), if_pos hm, if_neg (show ¬ (0 : Int32) ≤ mi by rw [e]; exact fq_n0m1)]
        refine ⟨?_, ?_, by rw [h3]; exact fq_cnt_ins hn hs, ?_⟩
        · exact Or.inl ⟨n, hn, fq_wi_s, rfl, fun j hj => by rw [fq_wi_n (by omega)]; exact hl j (by omega)⟩
        · exact Or.inl ⟨n, hn, fq_wi_s, rfl, fun j q1 q2 => by rw [fq_wi_n (by omega)]; exact hl j q2⟩
        · refine fq_Cs_cg hC (fun y hy => ?_)
          unfold fq_U
          dsimp only
          rw [hl y hy, fq_dne hn hy]
          by_cases e : y = n
          · subst e; simp
          · rw [fq_wi_n e, hl y hy]; rfl
    · rw [hs] at hm
      have hm : fq_member A mi mx ct (nI n) = 1 := hm
      rw [fq_wi_self hs]
      unfold fq_insertU
      rw [if_neg (nI_pos (by omega)), if_neg (show ¬ (256 : Int32) ≤ nI n from nI_ge (b := 256) (by omega) (by decide)), if_neg (by rw [hm]; decide)]
      exact hI
theorem fq_delR_spec {S : Nat → Bool} {A : fq_A4} {mi mx ct x : Int32} (h : fq_Inv S A mi mx ct) : fq_deleteR A mi mx ct x = fq_memR S x := by
  have hm := fq_member_spec (x := x) h
  have h01 : fq_memR S x = 0 ∨ fq_memR S x = 1 := by
    unfold fq_memR
    cases fq_rng x && S x.toNatClampNeg
    · exact Or.inl rfl
    · exact Or.inr rfl
  unfold fq_deleteR
  rw [hm]
  rcases h01 with e | e
  · rw [e, if_pos rfl]
  · rw [e, if_neg (by decide)]
    split
    · split
      · split
        · split <;> rfl
        · split
          · split <;> rfl
          · split <;> rfl
      · split <;> rfl
    · split
      · split <;> rfl
      · split
        · split <;> rfl
        · split <;> rfl
/-- what a deletion does to the arrays, g: what goes out of the clusters (-1: nothing) -/
def fq_dArr (A : fq_A4) (g : Int32) : fq_A4 := if g < 0 then A else (if 0 ≤ (fq_deleteFrom A (g >>> ((4 : Int32) &&& (31 : Int32))) (g &&& (15 : Int32))).1 (g >>> ((4 : Int32) &&& (31 : Int32))).toNatClampNeg then fq_deleteFrom A (g >>> ((4 : Int32) &&& (31 : Int32))) (g &&& (15 : Int32)) else fq_deleteFrom (fq_deleteFrom A (g >>> ((4 : Int32) &&& (31 : Int32))) (g &&& (15 : Int32))) (16 : Int32) (g >>> ((4 : Int32) &&& (31 : Int32))))
def fq_dMx (B : fq_A4) (m : Int32) : Int32 := if 0 ≤ B.2.1 (16 : Int32).toNatClampNeg then (16 : Int32) * B.2.1 (16 : Int32).toNatClampNeg + B.2.1 (B.2.1 (16 : Int32).toNatClampNeg).toNatClampNeg else m
theorem fq_delU_shape (A : fq_A4) (mi mx ct x : Int32) (hm : ¬ fq_member A mi mx ct x = 0) : fq_deleteU A mi mx ct x =
    (let g := if x = mi then (if 0 ≤ A.1 (16 : Int32).toNatClampNeg then (16 : Int32) * A.1 (16 : Int32).toNatClampNeg + A.1 (A.1 (16 : Int32).toNatClampNeg).toNatClampNeg else -1) else x
     let m := if x = mi then g else mi
     (fq_dArr A g, m, fq_dMx (fq_dArr A g) m, ct - 1)) := by
  unfold fq_deleteU
  rw [if_neg hm]
  unfold fq_dArr fq_dMx
  by_cases e : x = mi
  · rw [if_pos e]
    simp only [if_pos e]
    by_cases e1 : 0 ≤ A.1 (16 : Int32).toNatClampNeg
    · rw [if_pos e1]
      simp only [if_pos e1]
      generalize hg : (16 : Int32) * A.1 (16 : Int32).toNatClampNeg + A.1 (A.1 (16 : Int32).toNatClampNeg).toNatClampNeg = g
      by_cases e2 : g < 0
      · rw [if_pos e2]
        simp only [if_pos e2]
        split <;> rfl
      · rw [if_neg e2]
        simp only [if_neg e2]
        split
        · split <;> rfl
        · split <;> rfl
    · rw [if_neg e1]
      simp only [if_neg e1, if_pos fq_nm1]
      split <;> rfl
  · rw [if_neg e]
    simp only [if_neg e]
    by_cases e2 : x < 0
    · rw [if_pos e2]
      simp only [if_pos e2]
      split <;> rfl
    · rw [if_neg e2]
      simp only [if_neg e2]
      split
      · split <;> rfl
      · split <;> rfl
theorem fq_dArr_Cs {U : Nat → Bool} {A : fq_A4} {r : Nat} (h : fq_Cs U A) (hr : r < 256) (hn : U r = true) : fq_Cs (fq_wo U r) (fq_dArr A (nI r)) := by
  unfold fq_dArr
  rw [if_neg (nI_pos (by omega)), fq_sh4 hr, fq_an15 hr, fq_cl (c := r / 16) (by omega)]
  exact fq_Cs_del h hr hn
/-- the greatest by the clusters, or the least -/
theorem fq_dMx_spec {S : Nat → Bool} {B : fq_A4} {m : Int32} (h1 : fq_Mn S 256 m) (h : fq_Cs (fq_U S m) B) : fq_Mx S 256 (fq_dMx B m) := by
  have hx := fq_Cs_max h
  unfold fq_dMx
  rw [show (16 : Int32).toNatClampNeg = 16 from rfl]
  by_cases h0 : 0 ≤ B.2.1 16
  · rw [if_pos h0] at *
    rcases hx with ⟨g, hg, hgt, e, hgl⟩ | ⟨e, hn⟩
    · have hgS : S g = true := by
        unfold fq_U at hgt
        simp only [Bool.and_eq_true] at hgt
        exact hgt.1
      obtain ⟨k, hk, hkt, ek, hkl⟩ : ∃ k, k < 256 ∧ S k = true ∧ m = nI k ∧ ∀ j, j < k → S j = false := by
        rcases h1 with h1 | ⟨-, h1⟩
        · exact h1
        · exact absurd (h1 g hg) (fun e => fq_tf hgS e)
      subst ek
      have hkg : k < g := by
        rcases Nat.lt_trichotomy k g with q | q | q
        · exact q
        · subst q; exact absurd (fq_U_self hk) (fun e => fq_tf hgt e)
        · exact absurd (hkl g q) (fun e => fq_tf hgS e)
      exact Or.inl ⟨g, hg, hgS, e, fun j q1 q2 => by rw [← fq_U_gt (S := S) hk q2 (by omega)]; exact hgl j q1 q2⟩
    · exfalso
      obtain ⟨k, hk, hkt, ek, -⟩ := fq_Mx_ge (by decide) h.2.2.1 (fq_0le.mp h0)
      obtain ⟨y, hy, hu⟩ := fq_q16_ex hkt
      exact fq_tf hu (hn _ (by omega))
  · rw [if_neg h0] at *
    have hn := (fq_Mx_lt (by decide) hx fq_nm1).2
    rcases h1 with ⟨k, hk, hkt, ek, hkl⟩ | ⟨ek, hkl⟩
    · subst ek
      exact Or.inl ⟨k, hk, hkt, rfl, fun j q1 q2 => by rw [← fq_U_gt (S := S) hk q2 q1]; exact hn j q2⟩
    · exact Or.inr ⟨ek, hkl⟩
theorem fq_delU_spec {S : Nat → Bool} {A : fq_A4} {mi mx ct x : Int32} (h : fq_Inv S A mi mx ct) : fq_Inv (fq_delS S x) (fq_deleteU A mi mx ct x).1 (fq_deleteU A mi mx ct x).2.1 (fq_deleteU A mi mx ct x).2.2.1 (fq_deleteU A mi mx ct x).2.2.2 := by
  have hI := h
  obtain ⟨h1, h2, h3, hC⟩ := h
  have hm := fq_member_spec (x := x) hI
  have hout : fq_member A mi mx ct x = 0 → fq_deleteU A mi mx ct x = (A, mi, mx, ct) := fun e => by
    unfold fq_deleteU
    rw [if_pos e]
  rcases fq_cases x with q | q | ⟨n, hn, rfl⟩
  · rw [fq_delS_o (fq_rng_lt q), hout (by rw [hm]; exact fq_memR_o (fq_rng_lt q))]
    exact hI
  · rw [fq_delS_o (fq_rng_ge q), hout (by rw [hm]; exact fq_memR_o (fq_rng_ge q))]
    exact hI
  · rw [fq_delS_n hn]
    rw [fq_memR_n hn] at hm
    cases hs : S n
    · rw [hs] at hm
      rw [fq_wo_self hs, hout hm]
      exact hI
    · rw [hs] at hm
      have hm : ¬ fq_member A mi mx ct (nI n) = 0 := by rw [hm]; decide
      obtain ⟨k, hk, hkt, e, hl⟩ : ∃ k, k < 256 ∧ S k = true ∧ mi = nI k ∧ ∀ j, j < k → S j = false := by
        rcases h1 with h1 | ⟨-, h1⟩
        · exact h1
        · exact absurd (h1 n hn) (fun e => fq_tf hs e)
      rw [fq_delU_shape A mi mx ct (nI n) hm]
      subst e
      by_cases e : nI n = nI k
      · have hnk : n = k := (nI_eq (by omega) (by omega)).mp e
        subst hnk
        simp only [if_pos]
        have hmn := fq_Cs_min hC
        rw [show (16 : Int32).toNatClampNeg = 16 from rfl]
        generalize (if 0 ≤ A.1 16 then (16 : Int32) * A.1 16 + A.1 (A.1 16).toNatClampNeg else -1) = g at *
        have hmn2 : fq_Mn (fq_wo S n) 256 g := fq_Mn_cg hmn (fun y hy => by
          unfold fq_U fq_wo
          rw [fq_dne hn hy]
          by_cases q : y = n
          · subst q; simp
          · simp [q, Ne.symm q])
        have hCs : fq_Cs (fq_U (fq_wo S n) g) (fq_dArr A g) := by
          rcases hmn with ⟨r, hr, hrt, er, -⟩ | ⟨er, hnn⟩
          · subst er
            refine fq_Cs_cg (fq_dArr_Cs hC hr hrt) (fun y hy => ?_)
            unfold fq_U fq_wo
            dsimp only
            rw [fq_dne hn hy, fq_dne hr hy]
            by_cases q : y = n
            · subst q; simp
            · by_cases q2 : y = r
              · subst q2; simp
              · simp [q, q2, Ne.symm q, Ne.symm q2]
          · subst er
            unfold fq_dArr
            rw [if_pos fq_nm1]
            refine fq_Cs_cg hC (fun y hy => ?_)
            rw [hnn y hy]
            have h5 := hnn y hy
            unfold fq_U at h5 ⊢
            rw [fq_dne hn hy] at h5
            unfold fq_wo
            by_cases q : y = n
            · subst q; simp
            · have : S y = false := by simpa [Ne.symm q] using h5
              simp [this]
        exact ⟨hmn2, fq_dMx_spec hmn2 hCs, by rw [h3]; exact fq_cnt_del hn hs, hCs⟩
      · simp only [if_neg e]
        have hnk : k ≠ n := fun q => e (by rw [q])
        have hmn2 : fq_Mn (fq_wo S n) 256 (nI k) := Or.inl ⟨k, hk, by rw [fq_wo_n hnk]; exact hkt, rfl, fun j hj => by unfold fq_wo; rw [hl j hj]; rfl⟩
        have hCs : fq_Cs (fq_U (fq_wo S n) (nI k)) (fq_dArr A (nI n)) := by
          refine fq_Cs_cg (fq_dArr_Cs hC hn (by rw [fq_U_ne hk hn hnk]; exact hs)) (fun y hy => ?_)
          unfold fq_U fq_wo
          dsimp only
          by_cases q : y = n
          · subst q; simp
          · simp [q]
        exact ⟨hmn2, fq_dMx_spec hmn2 hCs, by rw [h3]; exact fq_cnt_del hn hs, hCs⟩
end
section
set_option maxHeartbeats 4000000 in
set_option maxRecDepth 100000 in
theorem fq_met_insert (l : Launch) (dC : Nat → ClassId) (dI : Nat → Nat → Nat) (h0 a1 a2 a3 a4 : Nat) (d : ClassId) (sz : Nat) (A0 : fq_A4) (mi mx ct : Int32) (p1 : Int32) (S : Nat → Bool) (hI : fq_Inv S A0 mi mx ct) : Met l yX0_insert (ws_ yX0_insert cX0_insert 4 (some .boolean)) ({ frames := 2, cells := 0, slots := 0, locals := 46 }) (va_Pc [.ref h0, .int p1] (fq_PQ dC dI sz (fq_wq h0 a1 a2 a3 a4 d A0 mi mx ct) [(d, .byte)])) (va_Qi (fun (r : Int32) (u : fq_A7) => r = fq_insertR A0 mi mx ct p1 ∧ u = fq_insertU A0 mi mx ct p1) (fun u => fq_BQ dC dI (va_A (fq_wq h0 a1 a2 a3 a4 d A0 mi mx ct) sz) (fq_wq h0 a1 a2 a3 a4 d u.1 u.2.1 u.2.2.1 u.2.2.2) [(d, .byte)]) (va_A (fq_wq h0 a1 a2 a3 a4 d A0 mi mx ct) sz)) 0 0 (va_A (fq_wq h0 a1 a2 a3 a4 d A0 mi mx ct) sz) := by
  refine Met.ofW (cc := cX0_insert) (maxL := 4) (ret := (some .boolean)) (by decide) rfl ?_
  intro p e s m args below meth c s₁ B hml hv
  obtain ⟨rfl, hsz, hP, hK, hD0⟩ := hv
  have hx := B.exec
  have hb := B.bytes
  have hr := B.returns
  have hts := atoms_spec (ws := ws_ yX0_insert cX0_insert 4 (some .boolean)) B.pre
  have hts : ∀ w ∈ lw_all, w.before _ s = true := fun w h => hts w (List.mem_cons_of_mem _ h)
  have hown : s.vm.findClass RX0 = some m.cls := findClass_of_methodNamed B.named
  have hlocks := B.notSynchronized
  subst hsz
  have hD := hD0.self (sz := s.heap.size)
  generalize hAe : va_A (fq_wq h0 a1 a2 a3 a4 d A0 mi mx ct) s.heap.size = A at hD ⊢
  have hA : ∀ q : Nat, s.heap.size ≤ q → A q := fun q h => by rw [← hAe]; exact Or.inr h
  have hS : va_S A s.heap s.heap [] := va_S.rf
  have hP : va_P (dC, dI) vwCl (fq_wq h0 a1 a2 a3 a4 d A0 mi mx ct) s.heap := hP
  have hl := lv_entry ([.ref h0, .int p1]) (n := 4) (Nat.le_of_ble_eq_true rfl)
  rw [lg_entry_eq]
  generalize (lg_sl ([.ref h0, .int p1]) ++ List.replicate (4 - (lg_sl ([.ref h0, .int p1])).length) Slot.unset).toArray = ls0 at hl ⊢
  have hl : lv_has ls0 4 [(0, .ref h0), (1, .int p1)] := hl
  refine lv_iload_n hx hb dX0_insert_0 rfl (lv_at hl 1 rfl) ?_
  refine lv_if_lt (tgt := 19) hx hb dX0_insert_1 (by decide) (fun c_1 => ?_) (fun c_1 => ?_)
  · skip
    refine lv_iconst (v := 0) hx hb dX0_insert_19 (by decide) ?_
    exact W.zret (v := (0 : Int32)) hx hb hr rfl (fun t ht hW => ⟨⟨(0 : Int32), (A0, mi, mx, ct), rfl, ⟨by rw [fq_insertR, if_pos c_1], by rw [fq_insertU, if_pos c_1]⟩, (by rw [ht]; exact hP), va_K.moved hW.alike hK, hD⟩, hS.F ht⟩) hS.2.2 dX0_insert_20
  · skip
    refine lv_iload_n hx hb dX0_insert_4 rfl (lv_at hl 1 rfl) ?_
    refine lv_sipush (v := 256) hx hb dX0_insert_5 (by decide) ?_
    refine lv_icmp_ge (tgt := 19) hx hb dX0_insert_8 (by decide) (fun c_8 => ?_) (fun c_8 => ?_)
    · skip
      refine lv_iconst (v := 0) hx hb dX0_insert_19 (by decide) ?_
      exact W.zret (v := (0 : Int32)) hx hb hr rfl (fun t ht hW => ⟨⟨(0 : Int32), (A0, mi, mx, ct), rfl, ⟨by rw [fq_insertR, if_neg c_1, if_pos c_8], by rw [fq_insertU, if_neg c_1, if_pos c_8]⟩, (by rw [ht]; exact hP), va_K.moved hW.alike hK, hD⟩, hS.F ht⟩) hS.2.2 dX0_insert_20
    · skip
      refine lv_aload_n hx hb dX0_insert_11 rfl (lv_at hl 0 rfl) ?_
      refine lv_iload_n hx hb dX0_insert_12 rfl (lv_at hl 1 rfl) ?_
      have hFc := va_free (wc := fq_wq h0 a1 a2 a3 a4 d A0 mi mx ct) hD hS hA [0, 1, 2, 3, 4] rfl
      refine va_calli (va_runV (As := [.int p1]) (rest := []) ⟨hx, hb, hml, hown, hts⟩ (fq_met_member l dC dI h0 a1 a2 a3 a4 d s.heap.size A0 mi mx ct p1 ) (cwV 1 hts (lw_V q49 q50 q51 q12 q52) rfl rfl rfl (by decide +kernel) ⟨Nat.le_of_ble_eq_true rfl, Nat.le_of_ble_eq_true rfl⟩) ⟨fq_blind, va_recv hK hP (ci := 0) (q0 := 0) rfl rfl, fun U hU hW => ⟨rfl, by rw [hU], by rw [hU]; exact hP, va_K.moved hW.alike hK, hD.weaken (fun _ _ _ _ => trivial)⟩⟩ rfl rfl hl.1 rfl (lv_room (Nat.le_of_ble_eq_true rfl)) dX0_insert_13 ⟨Nat.le_of_ble_eq_true rfl, Nat.le_of_ble_eq_true rfl⟩) hS (fun q _ h => hFc q h) hFc (fun r_13 u_13 t H1 locs ht hvm hw hB hz1 hk1 hS => ?_)
      have hw : r_13 = (fq_member A0 mi mx ct p1) := hw
      subst hw
      obtain ⟨hP1, hK1, hD1⟩ := hB
      rw [ht] at hP1
      have hP : va_P (dC, dI) vwCl (fq_wq h0 a1 a2 a3 a4 d A0 mi mx ct) H1 := hP1
      have hD : va_D A (fq_wq h0 a1 a2 a3 a4 d A0 mi mx ct) := hD1.weaken (fun _ _ _ h => hFc _ h)
      generalize H1 = H at hP hS ⊢
      refine lv_if_eq (tgt := 21) hx hb dX0_insert_16 (by decide) (fun c_16 => ?_) (fun c_16 => ?_)
      · skip
        refine lv_aload_n hx hb dX0_insert_21 rfl (lv_at hl 0 rfl) ?_
        refine lv_dup hx hb dX0_insert_22 rfl ?_
        refine va_get (D := (dC, dI)) (ci := 0) (v := .int ct) (C := RX0) (T := TX0) (N := 7) hx hb hts in_X0 hown hK hP 0 rfl rfl 6 (by decide) (hts _ q28) (fun _ h9 => h9) rfl dX0_insert_23 ?_
        refine lv_iconst (v := 1) hx hb dX0_insert_26 (by decide) ?_
        refine lv_iadd hx hb dX0_insert_27 ?_
        refine va_put (D := (dC, dI)) (ci := 0) (v := .int (ct + (1 : Int32))) (ty := .int) (C := RX0) (T := TX0) (N := 7) hx hb hts in_X0 tyX0 tyX0_ok nmX0 hown hK hP hD hS 0 rfl rfl 6 (by decide) (hts _ q28) (fun _ h9 => h9) rfl (by decide +kernel) rfl rfl (Nat.le_of_ble_eq_true rfl) dX0_insert_28 (fun H locs hP hD hS => ?_)
        have hP : va_P (dC, dI) vwCl (fq_wq h0 a1 a2 a3 a4 d A0 mi mx (ct + (1 : Int32))) H := hP
        have hD : va_D A (fq_wq h0 a1 a2 a3 a4 d A0 mi mx (ct + (1 : Int32))) := hD
        refine lv_aload_n hx hb dX0_insert_31 rfl (lv_at hl 0 rfl) ?_
        refine va_get (D := (dC, dI)) (ci := 0) (v := .int mi) (C := RX0) (T := TX0) (N := 7) hx hb hts in_X0 hown hK hP 0 rfl rfl 4 (by decide) (hts _ q26) (fun _ h9 => h9) rfl dX0_insert_32 ?_
        refine lv_if_ge (tgt := 50) hx hb dX0_insert_35 (by decide) (fun c_35 => ?_) (fun c_35 => ?_)
        · skip
          refine lv_iload_n hx hb dX0_insert_50 rfl (lv_at hl 1 rfl) ?_
          refine lv_istore_n (lv' := [(2, .int p1), (0, .ref h0), (1, .int p1)]) hx hb dX0_insert_51 rfl hl (by decide) rfl (fun ls hl => ?_)
          refine lv_iload_n hx hb dX0_insert_52 rfl (lv_at hl 2 rfl) ?_
          refine lv_aload_n hx hb dX0_insert_53 rfl (lv_at hl 1 rfl) ?_
          refine va_get (D := (dC, dI)) (ci := 0) (v := .int mi) (C := RX0) (T := TX0) (N := 7) hx hb hts in_X0 hown hK hP 0 rfl rfl 4 (by decide) (hts _ q26) (fun _ h9 => h9) rfl dX0_insert_54 ?_
          refine lv_icmp_ge (tgt := 70) hx hb dX0_insert_57 (by decide) (fun c_57 => ?_) (fun c_57 => ?_)
          · skip
            refine lv_iload_n hx hb dX0_insert_70 rfl (lv_at hl 0 rfl) ?_
            refine lv_iconst (v := 4) hx hb dX0_insert_71 (by decide) ?_
            refine lv_ishr hx hb dX0_insert_72 ?_
            refine lv_istore_n (lv' := [(3, .int (p1 >>> ((4 : Int32) &&& (31 : Int32)))), (2, .int p1), (0, .ref h0), (1, .int p1)]) hx hb dX0_insert_73 rfl hl (by decide) rfl (fun ls hl => ?_)
            refine lv_aload_n hx hb dX0_insert_74 rfl (lv_at hl 2 rfl) ?_
            refine va_get (D := (dC, dI)) (ci := 0) (v := .ref a1) (C := RX0) (T := TX0) (N := 7) hx hb hts in_X0 hown hK hP 0 rfl rfl 0 (by decide) (hts _ q22) (fun _ h9 => h9) rfl dX0_insert_75 ?_
            refine lv_iload_n hx hb dX0_insert_78 rfl (lv_at hl 0 rfl) ?_
            have h_79 : vp_in (p1 >>> ((4 : Int32) &&& (31 : Int32))) 17 := fq_ix6 (fq_in256 c_1 c_8)
            refine va_bald (f := A0.1) hx hb hK hP 1 0 rfl rfl h_79 dX0_insert_79 ?_
            refine lv_if_ge (tgt := 90) hx hb dX0_insert_80 (by decide) (fun c_80 => ?_) (fun c_80 => ?_)
            · skip
              refine lv_aload_n hx hb dX0_insert_90 rfl (lv_at hl 2 rfl) ?_
              refine lv_iload_n hx hb dX0_insert_91 rfl (lv_at hl 0 rfl) ?_
              refine lv_iload_n hx hb dX0_insert_92 rfl (lv_at hl 1 rfl) ?_
              refine lv_bipush (v := 15) hx hb dX0_insert_93 (by decide) ?_
              refine lv_iand hx hb dX0_insert_95 ?_
              have hFc := va_free (wc := fq_wq h0 a1 a2 a3 a4 d A0 mi mx (ct + (1 : Int32))) hD hS hA [0, 1, 2, 3, 4] rfl
              refine va_callv (va_runV (As := [.int (p1 >>> ((4 : Int32) &&& (31 : Int32))), .int (p1 &&& (15 : Int32))]) (rest := []) ⟨hx, hb, hml, hown, hts⟩ (fq_met_insertInto l dC dI h0 a1 a2 a3 a4 d H.size A0 mi mx (ct + (1 : Int32)) (p1 >>> ((4 : Int32) &&& (31 : Int32))) (p1 &&& (15 : Int32)) (fq_ix6 (fq_in256 c_1 c_8)) (fq_ix5 _) (fq_lo_RI hI)) (cwV 2 hts (lw_V q57 q59 qs1 q12 q60) rfl rfl rfl (by decide +kernel) ⟨Nat.le_of_ble_eq_true rfl, Nat.le_of_ble_eq_true rfl⟩) ⟨fq_blind, va_recv hK hP (ci := 0) (q0 := 0) rfl rfl, fun U hU hW => ⟨rfl, by rw [hU], by rw [hU]; exact hP, va_K.moved hW.alike hK, hD.weaken (fun _ _ _ _ => trivial)⟩⟩ rfl rfl hl.1 rfl (lv_room (Nat.le_of_ble_eq_true rfl)) dX0_insert_96 ⟨Nat.le_of_ble_eq_true rfl, Nat.le_of_ble_eq_true rfl⟩) hS (fun q _ h => hFc q h) hFc (fun u_96 t H1 locs ht hvm hw hB hz1 hk1 hS => ?_)
              have hw : u_96 = (fq_insertInto A0 (p1 >>> ((4 : Int32) &&& (31 : Int32))) (p1 &&& (15 : Int32))) := hw
              subst hw
              obtain ⟨hP1, hK1, hD1⟩ := hB
              rw [ht] at hP1
              have hP : va_P (dC, dI) vwCl (fq_wq h0 a1 a2 a3 a4 d (fq_insertInto A0 (p1 >>> ((4 : Int32) &&& (31 : Int32))) (p1 &&& (15 : Int32))) mi mx (ct + (1 : Int32))) H1 := hP1
              have hD : va_D A (fq_wq h0 a1 a2 a3 a4 d (fq_insertInto A0 (p1 >>> ((4 : Int32) &&& (31 : Int32))) (p1 &&& (15 : Int32))) mi mx (ct + (1 : Int32))) := hD1.weaken (fun _ _ _ h => hFc _ h)
              generalize H1 = H at hP hS ⊢
              refine lv_aload_n hx hb dX0_insert_99 rfl (lv_at hl 2 rfl) ?_
              refine lv_iload_n hx hb dX0_insert_100 rfl (lv_at hl 1 rfl) ?_
              refine lv_aload_n hx hb dX0_insert_101 rfl (lv_at hl 2 rfl) ?_
              refine va_get (D := (dC, dI)) (ci := 0) (v := .int mx) (C := RX0) (T := TX0) (N := 7) hx hb hts in_X0 hown hK hP 0 rfl rfl 5 (by decide) (hts _ q27) (fun _ h9 => h9) rfl dX0_insert_102 ?_
              refine lv_icmp_le (tgt := 112) hx hb dX0_insert_105 (by decide) (fun c_105 => ?_) (fun c_105 => ?_)
              · skip
                refine lv_aload_n hx hb dX0_insert_112 rfl (lv_at hl 2 rfl) ?_
                refine va_get (D := (dC, dI)) (ci := 0) (v := .int mx) (C := RX0) (T := TX0) (N := 7) hx hb hts in_X0 hown hK hP 0 rfl rfl 5 (by decide) (hts _ q27) (fun _ h9 => h9) rfl dX0_insert_113 ?_
                refine va_put (D := (dC, dI)) (ci := 0) (v := .int mx) (ty := .int) (C := RX0) (T := TX0) (N := 7) hx hb hts in_X0 tyX0 tyX0_ok nmX0 hown hK hP hD hS 0 rfl rfl 5 (by decide) (hts _ q27) (fun _ h9 => h9) rfl (by decide +kernel) rfl rfl (Nat.le_of_ble_eq_true rfl) dX0_insert_116 (fun H locs hP hD hS => ?_)
                have hP : va_P (dC, dI) vwCl (fq_wq h0 a1 a2 a3 a4 d (fq_insertInto A0 (p1 >>> ((4 : Int32) &&& (31 : Int32))) (p1 &&& (15 : Int32))) mi mx (ct + (1 : Int32))) H := hP
                have hD : va_D A (fq_wq h0 a1 a2 a3 a4 d (fq_insertInto A0 (p1 >>> ((4 : Int32) &&& (31 : Int32))) (p1 &&& (15 : Int32))) mi mx (ct + (1 : Int32))) := hD
                refine lv_iconst (v := 1) hx hb dX0_insert_119 (by decide) ?_
                exact W.zret (v := (1 : Int32)) hx hb hr rfl (fun t ht hW => ⟨⟨(1 : Int32), ((fq_insertInto A0 (p1 >>> ((4 : Int32) &&& (31 : Int32))) (p1 &&& (15 : Int32))), mi, mx, (ct + (1 : Int32))), rfl, ⟨by rw [fq_insertR, if_neg c_1, if_neg c_8, if_pos c_16, if_pos c_35, if_pos c_57, if_pos c_80, if_pos c_105], by rw [fq_insertU, if_neg c_1, if_neg c_8, if_pos c_16, if_pos c_35, if_pos c_57, if_pos c_80, if_pos c_105]⟩, (by rw [ht]; exact hP), va_K.moved hW.alike hK, hD⟩, hS.F ht⟩) hS.2.2 dX0_insert_120
              · skip
                refine lv_iload_n hx hb dX0_insert_108 rfl (lv_at hl 1 rfl) ?_
                refine lv_goto (tgt := 116) hx hb dX0_insert_109 (by decide) ?_
                refine va_put (D := (dC, dI)) (ci := 0) (v := .int p1) (ty := .int) (C := RX0) (T := TX0) (N := 7) hx hb hts in_X0 tyX0 tyX0_ok nmX0 hown hK hP hD hS 0 rfl rfl 5 (by decide) (hts _ q27) (fun _ h9 => h9) rfl (by decide +kernel) rfl rfl (Nat.le_of_ble_eq_true rfl) dX0_insert_116 (fun H locs hP hD hS => ?_)
                have hP : va_P (dC, dI) vwCl (fq_wq h0 a1 a2 a3 a4 d (fq_insertInto A0 (p1 >>> ((4 : Int32) &&& (31 : Int32))) (p1 &&& (15 : Int32))) mi p1 (ct + (1 : Int32))) H := hP
                have hD : va_D A (fq_wq h0 a1 a2 a3 a4 d (fq_insertInto A0 (p1 >>> ((4 : Int32) &&& (31 : Int32))) (p1 &&& (15 : Int32))) mi p1 (ct + (1 : Int32))) := hD
                refine lv_iconst (v := 1) hx hb dX0_insert_119 (by decide) ?_
                exact W.zret (v := (1 : Int32)) hx hb hr rfl (fun t ht hW => ⟨⟨(1 : Int32), ((fq_insertInto A0 (p1 >>> ((4 : Int32) &&& (31 : Int32))) (p1 &&& (15 : Int32))), mi, p1, (ct + (1 : Int32))), rfl, ⟨by rw [fq_insertR, if_neg c_1, if_neg c_8, if_pos c_16, if_pos c_35, if_pos c_57, if_pos c_80, if_neg c_105], by rw [fq_insertU, if_neg c_1, if_neg c_8, if_pos c_16, if_pos c_35, if_pos c_57, if_pos c_80, if_neg c_105]⟩, (by rw [ht]; exact hP), va_K.moved hW.alike hK, hD⟩, hS.F ht⟩) hS.2.2 dX0_insert_120
            · skip
              refine lv_aload_n hx hb dX0_insert_83 rfl (lv_at hl 2 rfl) ?_
              refine lv_bipush (v := 16) hx hb dX0_insert_84 (by decide) ?_
              refine lv_iload_n hx hb dX0_insert_86 rfl (lv_at hl 0 rfl) ?_
              have hFc := va_free (wc := fq_wq h0 a1 a2 a3 a4 d A0 mi mx (ct + (1 : Int32))) hD hS hA [0, 1, 2, 3, 4] rfl
              refine va_callv (va_runV (As := [.int (16 : Int32), .int (p1 >>> ((4 : Int32) &&& (31 : Int32)))]) (rest := []) ⟨hx, hb, hml, hown, hts⟩ (fq_met_insertInto l dC dI h0 a1 a2 a3 a4 d H.size A0 mi mx (ct + (1 : Int32)) (16 : Int32) (p1 >>> ((4 : Int32) &&& (31 : Int32))) fq_16 (fq_ix7 (fq_in256 c_1 c_8)) (fq_lo_RI hI)) (cwV 2 hts (lw_V q57 q59 qs1 q12 q60) rfl rfl rfl (by decide +kernel) ⟨Nat.le_of_ble_eq_true rfl, Nat.le_of_ble_eq_true rfl⟩) ⟨fq_blind, va_recv hK hP (ci := 0) (q0 := 0) rfl rfl, fun U hU hW => ⟨rfl, by rw [hU], by rw [hU]; exact hP, va_K.moved hW.alike hK, hD.weaken (fun _ _ _ _ => trivial)⟩⟩ rfl rfl hl.1 rfl (lv_room (Nat.le_of_ble_eq_true rfl)) dX0_insert_87 ⟨Nat.le_of_ble_eq_true rfl, Nat.le_of_ble_eq_true rfl⟩) hS (fun q _ h => hFc q h) hFc (fun u_87 t H1 locs ht hvm hw hB hz1 hk1 hS => ?_)
              have hw : u_87 = (fq_insertInto A0 (16 : Int32) (p1 >>> ((4 : Int32) &&& (31 : Int32)))) := hw
              subst hw
              obtain ⟨hP1, hK1, hD1⟩ := hB
              rw [ht] at hP1
              have hP : va_P (dC, dI) vwCl (fq_wq h0 a1 a2 a3 a4 d (fq_insertInto A0 (16 : Int32) (p1 >>> ((4 : Int32) &&& (31 : Int32)))) mi mx (ct + (1 : Int32))) H1 := hP1
              have hD : va_D A (fq_wq h0 a1 a2 a3 a4 d (fq_insertInto A0 (16 : Int32) (p1 >>> ((4 : Int32) &&& (31 : Int32)))) mi mx (ct + (1 : Int32))) := hD1.weaken (fun _ _ _ h => hFc _ h)
              generalize H1 = H at hP hS ⊢
              refine lv_aload_n hx hb dX0_insert_90 rfl (lv_at hl 2 rfl) ?_
              refine lv_iload_n hx hb dX0_insert_91 rfl (lv_at hl 0 rfl) ?_
              refine lv_iload_n hx hb dX0_insert_92 rfl (lv_at hl 1 rfl) ?_
              refine lv_bipush (v := 15) hx hb dX0_insert_93 (by decide) ?_
              refine lv_iand hx hb dX0_insert_95 ?_
              have hFc := va_free (wc := fq_wq h0 a1 a2 a3 a4 d (fq_insertInto A0 (16 : Int32) (p1 >>> ((4 : Int32) &&& (31 : Int32)))) mi mx (ct + (1 : Int32))) hD hS hA [0, 1, 2, 3, 4] rfl
              refine va_callv (va_runV (As := [.int (p1 >>> ((4 : Int32) &&& (31 : Int32))), .int (p1 &&& (15 : Int32))]) (rest := []) ⟨hx, hb, hml, hown, hts⟩ (fq_met_insertInto l dC dI h0 a1 a2 a3 a4 d H.size (fq_insertInto A0 (16 : Int32) (p1 >>> ((4 : Int32) &&& (31 : Int32)))) mi mx (ct + (1 : Int32)) (p1 >>> ((4 : Int32) &&& (31 : Int32))) (p1 &&& (15 : Int32)) (fq_ix6 (fq_in256 c_1 c_8)) (fq_ix5 _) (fq_RI_ins (fq_lo_RI hI) (fq_ix7 (fq_in256 c_1 c_8)))) (cwV 2 hts (lw_V q57 q59 qs1 q12 q60) rfl rfl rfl (by decide +kernel) ⟨Nat.le_of_ble_eq_true rfl, Nat.le_of_ble_eq_true rfl⟩) ⟨fq_blind, va_recv hK hP (ci := 0) (q0 := 0) rfl rfl, fun U hU hW => ⟨rfl, by rw [hU], by rw [hU]; exact hP, va_K.moved hW.alike hK, hD.weaken (fun _ _ _ _ => trivial)⟩⟩ rfl rfl hl.1 rfl (lv_room (Nat.le_of_ble_eq_true rfl)) dX0_insert_96 ⟨Nat.le_of_ble_eq_true rfl, Nat.le_of_ble_eq_true rfl⟩) hS (fun q _ h => hFc q h) hFc (fun u_96 t H1 locs ht hvm hw hB hz1 hk1 hS => ?_)
              have hw : u_96 = (fq_insertInto (fq_insertInto A0 (16 : Int32) (p1 >>> ((4 : Int32) &&& (31 : Int32)))) (p1 >>> ((4 : Int32) &&& (31 : Int32))) (p1 &&& (15 : Int32))) := hw
              subst hw
              obtain ⟨hP1, hK1, hD1⟩ := hB
              rw [ht] at hP1
              have hP : va_P (dC, dI) vwCl (fq_wq h0 a1 a2 a3 a4 d (fq_insertInto (fq_insertInto A0 (16 : Int32) (p1 >>> ((4 : Int32) &&& (31 : Int32)))) (p1 >>> ((4 : Int32) &&& (31 : Int32))) (p1 &&& (15 : Int32))) mi mx (ct + (1 : Int32))) H1 := hP1
              have hD : va_D A (fq_wq h0 a1 a2 a3 a4 d (fq_insertInto (fq_insertInto A0 (16 : Int32) (p1 >>> ((4 : Int32) &&& (31 : Int32)))) (p1 >>> ((4 : Int32) &&& (31 : Int32))) (p1 &&& (15 : Int32))) mi mx (ct + (1 : Int32))) := hD1.weaken (fun _ _ _ h => hFc _ h)
              generalize H1 = H at hP hS ⊢
              refine lv_aload_n hx hb dX0_insert_99 rfl (lv_at hl 2 rfl) ?_
              refine lv_iload_n hx hb dX0_insert_100 rfl (lv_at hl 1 rfl) ?_
              refine lv_aload_n hx hb dX0_insert_101 rfl (lv_at hl 2 rfl) ?_
              refine va_get (D := (dC, dI)) (ci := 0) (v := .int mx) (C := RX0) (T := TX0) (N := 7) hx hb hts in_X0 hown hK hP 0 rfl rfl 5 (by decide) (hts _ q27) (fun _ h9 => h9) rfl dX0_insert_102 ?_
              refine lv_icmp_le (tgt := 112) hx hb dX0_insert_105 (by decide) (fun c_105 => ?_) (fun c_105 => ?_)
              · skip
                refine lv_aload_n hx hb dX0_insert_112 rfl (lv_at hl 2 rfl) ?_
                refine va_get (D := (dC, dI)) (ci := 0) (v := .int mx) (C := RX0) (T := TX0) (N := 7) hx hb hts in_X0 hown hK hP 0 rfl rfl 5 (by decide) (hts _ q27) (fun _ h9 => h9) rfl dX0_insert_113 ?_
                refine va_put (D := (dC, dI)) (ci := 0) (v := .int mx) (ty := .int) (C := RX0) (T := TX0) (N := 7) hx hb hts in_X0 tyX0 tyX0_ok nmX0 hown hK hP hD hS 0 rfl rfl 5 (by decide) (hts _ q27) (fun _ h9 => h9) rfl (by decide +kernel) rfl rfl (Nat.le_of_ble_eq_true rfl) dX0_insert_116 (fun H locs hP hD hS => ?_)
                have hP : va_P (dC, dI) vwCl (fq_wq h0 a1 a2 a3 a4 d (fq_insertInto (fq_insertInto A0 (16 : Int32) (p1 >>> ((4 : Int32) &&& (31 : Int32)))) (p1 >>> ((4 : Int32) &&& (31 : Int32))) (p1 &&& (15 : Int32))) mi mx (ct + (1 : Int32))) H := hP
                have hD : va_D A (fq_wq h0 a1 a2 a3 a4 d (fq_insertInto (fq_insertInto A0 (16 : Int32) (p1 >>> ((4 : Int32) &&& (31 : Int32)))) (p1 >>> ((4 : Int32) &&& (31 : Int32))) (p1 &&& (15 : Int32))) mi mx (ct + (1 : Int32))) := hD
                refine lv_iconst (v := 1) hx hb dX0_insert_119 (by decide) ?_
                exact W.zret (v := (1 : Int32)) hx hb hr rfl (fun t ht hW => ⟨⟨(1 : Int32), ((fq_insertInto (fq_insertInto A0 (16 : Int32) (p1 >>> ((4 : Int32) &&& (31 : Int32)))) (p1 >>> ((4 : Int32) &&& (31 : Int32))) (p1 &&& (15 : Int32))), mi, mx, (ct + (1 : Int32))), rfl, ⟨by rw [fq_insertR, if_neg c_1, if_neg c_8, if_pos c_16, if_pos c_35, if_pos c_57, if_neg c_80, if_pos c_105], by rw [fq_insertU, if_neg c_1, if_neg c_8, if_pos c_16, if_pos c_35, if_pos c_57, if_neg c_80, if_pos c_105]⟩, (by rw [ht]; exact hP), va_K.moved hW.alike hK, hD⟩, hS.F ht⟩) hS.2.2 dX0_insert_120
              · skip
                refine lv_iload_n hx hb dX0_insert_108 rfl (lv_at hl 1 rfl) ?_
                refine lv_goto (tgt := 116) hx hb dX0_insert_109 (by decide) ?_
                refine va_put (D := (dC, dI)) (ci := 0) (v := .int p1) (ty := .int) (C := RX0) (T := TX0) (N := 7) hx hb hts in_X0 tyX0 tyX0_ok nmX0 hown hK hP hD hS 0 rfl rfl 5 (by decide) (hts _ q27) (fun _ h9 => h9) rfl (by decide +kernel) rfl rfl (Nat.le_of_ble_eq_true rfl) dX0_insert_116 (fun H locs hP hD hS => ?_)
                have hP : va_P (dC, dI) vwCl (fq_wq h0 a1 a2 a3 a4 d (fq_insertInto (fq_insertInto A0 (16 : Int32) (p1 >>> ((4 : Int32) &&& (31 : Int32)))) (p1 >>> ((4 : Int32) &&& (31 : Int32))) (p1 &&& (15 : Int32))) mi p1 (ct + (1 : Int32))) H := hP
                have hD : va_D A (fq_wq h0 a1 a2 a3 a4 d (fq_insertInto (fq_insertInto A0 (16 : Int32) (p1 >>> ((4 : Int32) &&& (31 : Int32)))) (p1 >>> ((4 : Int32) &&& (31 : Int32))) (p1 &&& (15 : Int32))) mi p1 (ct + (1 : Int32))) := hD
                refine lv_iconst (v := 1) hx hb dX0_insert_119 (by decide) ?_
                exact W.zret (v := (1 : Int32)) hx hb hr rfl (fun t ht hW => ⟨⟨(1 : Int32), ((fq_insertInto (fq_insertInto A0 (16 : Int32) (p1 >>> ((4 : Int32) &&& (31 : Int32)))) (p1 >>> ((4 : Int32) &&& (31 : Int32))) (p1 &&& (15 : Int32))), mi, p1, (ct + (1 : Int32))), rfl, ⟨by rw [fq_insertR, if_neg c_1, if_neg c_8, if_pos c_16, if_pos c_35, if_pos c_57, if_neg c_80, if_neg c_105], by rw [fq_insertU, if_neg c_1, if_neg c_8, if_pos c_16, if_pos c_35, if_pos c_57, if_neg c_80, if_neg c_105]⟩, (by rw [ht]; exact hP), va_K.moved hW.alike hK, hD⟩, hS.F ht⟩) hS.2.2 dX0_insert_120
          · skip
            refine lv_aload_n hx hb dX0_insert_60 rfl (lv_at hl 1 rfl) ?_
            refine va_get (D := (dC, dI)) (ci := 0) (v := .int mi) (C := RX0) (T := TX0) (N := 7) hx hb hts in_X0 hown hK hP 0 rfl rfl 4 (by decide) (hts _ q26) (fun _ h9 => h9) rfl dX0_insert_61 ?_
            refine lv_istore_n (lv' := [(2, .int mi), (0, .ref h0), (1, .int p1)]) hx hb dX0_insert_64 rfl hl (by decide) rfl (fun ls hl => ?_)
            refine lv_aload_n hx hb dX0_insert_65 rfl (lv_at hl 1 rfl) ?_
            refine lv_iload_n hx hb dX0_insert_66 rfl (lv_at hl 2 rfl) ?_
            refine va_put (D := (dC, dI)) (ci := 0) (v := .int p1) (ty := .int) (C := RX0) (T := TX0) (N := 7) hx hb hts in_X0 tyX0 tyX0_ok nmX0 hown hK hP hD hS 0 rfl rfl 4 (by decide) (hts _ q26) (fun _ h9 => h9) rfl (by decide +kernel) rfl rfl (Nat.le_of_ble_eq_true rfl) dX0_insert_67 (fun H locs hP hD hS => ?_)
            have hP : va_P (dC, dI) vwCl (fq_wq h0 a1 a2 a3 a4 d A0 p1 mx (ct + (1 : Int32))) H := hP
            have hD : va_D A (fq_wq h0 a1 a2 a3 a4 d A0 p1 mx (ct + (1 : Int32))) := hD
            refine lv_iload_n hx hb dX0_insert_70 rfl (lv_at hl 0 rfl) ?_
            refine lv_iconst (v := 4) hx hb dX0_insert_71 (by decide) ?_
            refine lv_ishr hx hb dX0_insert_72 ?_
            refine lv_istore_n (lv' := [(3, .int (mi >>> ((4 : Int32) &&& (31 : Int32)))), (2, .int mi), (0, .ref h0), (1, .int p1)]) hx hb dX0_insert_73 rfl hl (by decide) rfl (fun ls hl => ?_)
            refine lv_aload_n hx hb dX0_insert_74 rfl (lv_at hl 2 rfl) ?_
            refine va_get (D := (dC, dI)) (ci := 0) (v := .ref a1) (C := RX0) (T := TX0) (N := 7) hx hb hts in_X0 hown hK hP 0 rfl rfl 0 (by decide) (hts _ q22) (fun _ h9 => h9) rfl dX0_insert_75 ?_
            refine lv_iload_n hx hb dX0_insert_78 rfl (lv_at hl 0 rfl) ?_
            have h_79 : vp_in (mi >>> ((4 : Int32) &&& (31 : Int32))) 17 := fq_ix6 (fq_mi_in hI c_35)
            refine va_bald (f := A0.1) hx hb hK hP 1 0 rfl rfl h_79 dX0_insert_79 ?_
            refine lv_if_ge (tgt := 90) hx hb dX0_insert_80 (by decide) (fun c_80 => ?_) (fun c_80 => ?_)
            · skip
              refine lv_aload_n hx hb dX0_insert_90 rfl (lv_at hl 2 rfl) ?_
              refine lv_iload_n hx hb dX0_insert_91 rfl (lv_at hl 0 rfl) ?_
              refine lv_iload_n hx hb dX0_insert_92 rfl (lv_at hl 1 rfl) ?_
              refine lv_bipush (v := 15) hx hb dX0_insert_93 (by decide) ?_
              refine lv_iand hx hb dX0_insert_95 ?_
              have hFc := va_free (wc := fq_wq h0 a1 a2 a3 a4 d A0 p1 mx (ct + (1 : Int32))) hD hS hA [0, 1, 2, 3, 4] rfl
              refine va_callv (va_runV (As := [.int (mi >>> ((4 : Int32) &&& (31 : Int32))), .int (mi &&& (15 : Int32))]) (rest := []) ⟨hx, hb, hml, hown, hts⟩ (fq_met_insertInto l dC dI h0 a1 a2 a3 a4 d H.size A0 p1 mx (ct + (1 : Int32)) (mi >>> ((4 : Int32) &&& (31 : Int32))) (mi &&& (15 : Int32)) (fq_ix6 (fq_mi_in hI c_35)) (fq_ix5 _) (fq_lo_RI hI)) (cwV 2 hts (lw_V q57 q59 qs1 q12 q60) rfl rfl rfl (by decide +kernel) ⟨Nat.le_of_ble_eq_true rfl, Nat.le_of_ble_eq_true rfl⟩) ⟨fq_blind, va_recv hK hP (ci := 0) (q0 := 0) rfl rfl, fun U hU hW => ⟨rfl, by rw [hU], by rw [hU]; exact hP, va_K.moved hW.alike hK, hD.weaken (fun _ _ _ _ => trivial)⟩⟩ rfl rfl hl.1 rfl (lv_room (Nat.le_of_ble_eq_true rfl)) dX0_insert_96 ⟨Nat.le_of_ble_eq_true rfl, Nat.le_of_ble_eq_true rfl⟩) hS (fun q _ h => hFc q h) hFc (fun u_96 t H1 locs ht hvm hw hB hz1 hk1 hS => ?_)
              have hw : u_96 = (fq_insertInto A0 (mi >>> ((4 : Int32) &&& (31 : Int32))) (mi &&& (15 : Int32))) := hw
              subst hw
              obtain ⟨hP1, hK1, hD1⟩ := hB
              rw [ht] at hP1
              have hP : va_P (dC, dI) vwCl (fq_wq h0 a1 a2 a3 a4 d (fq_insertInto A0 (mi >>> ((4 : Int32) &&& (31 : Int32))) (mi &&& (15 : Int32))) p1 mx (ct + (1 : Int32))) H1 := hP1
              have hD : va_D A (fq_wq h0 a1 a2 a3 a4 d (fq_insertInto A0 (mi >>> ((4 : Int32) &&& (31 : Int32))) (mi &&& (15 : Int32))) p1 mx (ct + (1 : Int32))) := hD1.weaken (fun _ _ _ h => hFc _ h)
              generalize H1 = H at hP hS ⊢
              refine lv_aload_n hx hb dX0_insert_99 rfl (lv_at hl 2 rfl) ?_
              refine lv_iload_n hx hb dX0_insert_100 rfl (lv_at hl 1 rfl) ?_
              refine lv_aload_n hx hb dX0_insert_101 rfl (lv_at hl 2 rfl) ?_
              refine va_get (D := (dC, dI)) (ci := 0) (v := .int mx) (C := RX0) (T := TX0) (N := 7) hx hb hts in_X0 hown hK hP 0 rfl rfl 5 (by decide) (hts _ q27) (fun _ h9 => h9) rfl dX0_insert_102 ?_
              refine lv_icmp_le (tgt := 112) hx hb dX0_insert_105 (by decide) (fun c_105 => ?_) (fun c_105 => ?_)
              · skip
                refine lv_aload_n hx hb dX0_insert_112 rfl (lv_at hl 2 rfl) ?_
                refine va_get (D := (dC, dI)) (ci := 0) (v := .int mx) (C := RX0) (T := TX0) (N := 7) hx hb hts in_X0 hown hK hP 0 rfl rfl 5 (by decide) (hts _ q27) (fun _ h9 => h9) rfl dX0_insert_113 ?_
                refine va_put (D := (dC, dI)) (ci := 0) (v := .int mx) (ty := .int) (C := RX0) (T := TX0) (N := 7) hx hb hts in_X0 tyX0 tyX0_ok nmX0 hown hK hP hD hS 0 rfl rfl 5 (by decide) (hts _ q27) (fun _ h9 => h9) rfl (by decide +kernel) rfl rfl (Nat.le_of_ble_eq_true rfl) dX0_insert_116 (fun H locs hP hD hS => ?_)
                have hP : va_P (dC, dI) vwCl (fq_wq h0 a1 a2 a3 a4 d (fq_insertInto A0 (mi >>> ((4 : Int32) &&& (31 : Int32))) (mi &&& (15 : Int32))) p1 mx (ct + (1 : Int32))) H := hP
                have hD : va_D A (fq_wq h0 a1 a2 a3 a4 d (fq_insertInto A0 (mi >>> ((4 : Int32) &&& (31 : Int32))) (mi &&& (15 : Int32))) p1 mx (ct + (1 : Int32))) := hD
                refine lv_iconst (v := 1) hx hb dX0_insert_119 (by decide) ?_
                exact W.zret (v := (1 : Int32)) hx hb hr rfl (fun t ht hW => ⟨⟨(1 : Int32), ((fq_insertInto A0 (mi >>> ((4 : Int32) &&& (31 : Int32))) (mi &&& (15 : Int32))), p1, mx, (ct + (1 : Int32))), rfl, ⟨by rw [fq_insertR, if_neg c_1, if_neg c_8, if_pos c_16, if_pos c_35, if_neg c_57, if_pos c_80, if_pos c_105], by rw [fq_insertU, if_neg c_1, if_neg c_8, if_pos c_16, if_pos c_35, if_neg c_57, if_pos c_80, if_pos c_105]⟩, (by rw [ht]; exact hP), va_K.moved hW.alike hK, hD⟩, hS.F ht⟩) hS.2.2 dX0_insert_120
              · skip
                refine lv_iload_n hx hb dX0_insert_108 rfl (lv_at hl 1 rfl) ?_
                refine lv_goto (tgt := 116) hx hb dX0_insert_109 (by decide) ?_
                refine va_put (D := (dC, dI)) (ci := 0) (v := .int mi) (ty := .int) (C := RX0) (T := TX0) (N := 7) hx hb hts in_X0 tyX0 tyX0_ok nmX0 hown hK hP hD hS 0 rfl rfl 5 (by decide) (hts _ q27) (fun _ h9 => h9) rfl (by decide +kernel) rfl rfl (Nat.le_of_ble_eq_true rfl) dX0_insert_116 (fun H locs hP hD hS => ?_)
                have hP : va_P (dC, dI) vwCl (fq_wq h0 a1 a2 a3 a4 d (fq_insertInto A0 (mi >>> ((4 : Int32) &&& (31 : Int32))) (mi &&& (15 : Int32))) p1 mi (ct + (1 : Int32))) H := hP
                have hD : va_D A (fq_wq h0 a1 a2 a3 a4 d (fq_insertInto A0 (mi >>> ((4 : Int32) &&& (31 : Int32))) (mi &&& (15 : Int32))) p1 mi (ct + (1 : Int32))) := hD
                refine lv_iconst (v := 1) hx hb dX0_insert_119 (by decide) ?_
                exact W.zret (v := (1 : Int32)) hx hb hr rfl (fun t ht hW => ⟨⟨(1 : Int32), ((fq_insertInto A0 (mi >>> ((4 : Int32) &&& (31 : Int32))) (mi &&& (15 : Int32))), p1, mi, (ct + (1 : Int32))), rfl, ⟨by rw [fq_insertR, if_neg c_1, if_neg c_8, if_pos c_16, if_pos c_35, if_neg c_57, if_pos c_80, if_neg c_105], by rw [fq_insertU, if_neg c_1, if_neg c_8, if_pos c_16, if_pos c_35, if_neg c_57, if_pos c_80, if_neg c_105]⟩, (by rw [ht]; exact hP), va_K.moved hW.alike hK, hD⟩, hS.F ht⟩) hS.2.2 dX0_insert_120
            · skip
              refine lv_aload_n hx hb dX0_insert_83 rfl (lv_at hl 2 rfl) ?_
              refine lv_bipush (v := 16) hx hb dX0_insert_84 (by decide) ?_
              refine lv_iload_n hx hb dX0_insert_86 rfl (lv_at hl 0 rfl) ?_
              have hFc := va_free (wc := fq_wq h0 a1 a2 a3 a4 d A0 p1 mx (ct + (1 : Int32))) hD hS hA [0, 1, 2, 3, 4] rfl
              refine va_callv (va_runV (As := [.int (16 : Int32), .int (mi >>> ((4 : Int32) &&& (31 : Int32)))]) (rest := []) ⟨hx, hb, hml, hown, hts⟩ (fq_met_insertInto l dC dI h0 a1 a2 a3 a4 d H.size A0 p1 mx (ct + (1 : Int32)) (16 : Int32) (mi >>> ((4 : Int32) &&& (31 : Int32))) fq_16 (fq_ix7 (fq_mi_in hI c_35)) (fq_lo_RI hI)) (cwV 2 hts (lw_V q57 q59 qs1 q12 q60) rfl rfl rfl (by decide +kernel) ⟨Nat.le_of_ble_eq_true rfl, Nat.le_of_ble_eq_true rfl⟩) ⟨fq_blind, va_recv hK hP (ci := 0) (q0 := 0) rfl rfl, fun U hU hW => ⟨rfl, by rw [hU], by rw [hU]; exact hP, va_K.moved hW.alike hK, hD.weaken (fun _ _ _ _ => trivial)⟩⟩ rfl rfl hl.1 rfl (lv_room (Nat.le_of_ble_eq_true rfl)) dX0_insert_87 ⟨Nat.le_of_ble_eq_true rfl, Nat.le_of_ble_eq_true rfl⟩) hS (fun q _ h => hFc q h) hFc (fun u_87 t H1 locs ht hvm hw hB hz1 hk1 hS => ?_)
              have hw : u_87 = (fq_insertInto A0 (16 : Int32) (mi >>> ((4 : Int32) &&& (31 : Int32)))) := hw
              subst hw
              obtain ⟨hP1, hK1, hD1⟩ := hB
              rw [ht] at hP1
              have hP : va_P (dC, dI) vwCl (fq_wq h0 a1 a2 a3 a4 d (fq_insertInto A0 (16 : Int32) (mi >>> ((4 : Int32) &&& (31 : Int32)))) p1 mx (ct + (1 : Int32))) H1 := hP1
              have hD : va_D A (fq_wq h0 a1 a2 a3 a4 d (fq_insertInto A0 (16 : Int32) (mi >>> ((4 : Int32) &&& (31 : Int32)))) p1 mx (ct + (1 : Int32))) := hD1.weaken (fun _ _ _ h => hFc _ h)
              generalize H1 = H at hP hS ⊢
              refine lv_aload_n hx hb dX0_insert_90 rfl (lv_at hl 2 rfl) ?_
              refine lv_iload_n hx hb dX0_insert_91 rfl (lv_at hl 0 rfl) ?_
              refine lv_iload_n hx hb dX0_insert_92 rfl (lv_at hl 1 rfl) ?_
              refine lv_bipush (v := 15) hx hb dX0_insert_93 (by decide) ?_
              refine lv_iand hx hb dX0_insert_95 ?_
              have hFc := va_free (wc := fq_wq h0 a1 a2 a3 a4 d (fq_insertInto A0 (16 : Int32) (mi >>> ((4 : Int32) &&& (31 : Int32)))) p1 mx (ct + (1 : Int32))) hD hS hA [0, 1, 2, 3, 4] rfl
              refine va_callv (va_runV (As := [.int (mi >>> ((4 : Int32) &&& (31 : Int32))), .int (mi &&& (15 : Int32))]) (rest := []) ⟨hx, hb, hml, hown, hts⟩ (fq_met_insertInto l dC dI h0 a1 a2 a3 a4 d H.size (fq_insertInto A0 (16 : Int32) (mi >>> ((4 : Int32) &&& (31 : Int32)))) p1 mx (ct + (1 : Int32)) (mi >>> ((4 : Int32) &&& (31 : Int32))) (mi &&& (15 : Int32)) (fq_ix6 (fq_mi_in hI c_35)) (fq_ix5 _) (fq_RI_ins (fq_lo_RI hI) (fq_ix7 (fq_mi_in hI c_35)))) (cwV 2 hts (lw_V q57 q59 qs1 q12 q60) rfl rfl rfl (by decide +kernel) ⟨Nat.le_of_ble_eq_true rfl, Nat.le_of_ble_eq_true rfl⟩) ⟨fq_blind, va_recv hK hP (ci := 0) (q0 := 0) rfl rfl, fun U hU hW => ⟨rfl, by rw [hU], by rw [hU]; exact hP, va_K.moved hW.alike hK, hD.weaken (fun _ _ _ _ => trivial)⟩⟩ rfl rfl hl.1 rfl (lv_room (Nat.le_of_ble_eq_true rfl)) dX0_insert_96 ⟨Nat.le_of_ble_eq_true rfl, Nat.le_of_ble_eq_true rfl⟩) hS (fun q _ h => hFc q h) hFc (fun u_96 t H1 locs ht hvm hw hB hz1 hk1 hS => ?_)
              have hw : u_96 = (fq_insertInto (fq_insertInto A0 (16 : Int32) (mi >>> ((4 : Int32) &&& (31 : Int32)))) (mi >>> ((4 : Int32) &&& (31 : Int32))) (mi &&& (15 : Int32))) := hw
              subst hw
              obtain ⟨hP1, hK1, hD1⟩ := hB
              rw [ht] at hP1
              have hP : va_P (dC, dI) vwCl (fq_wq h0 a1 a2 a3 a4 d (fq_insertInto (fq_insertInto A0 (16 : Int32) (mi >>> ((4 : Int32) &&& (31 : Int32)))) (mi >>> ((4 : Int32) &&& (31 : Int32))) (mi &&& (15 : Int32))) p1 mx (ct + (1 : Int32))) H1 := hP1
              have hD : va_D A (fq_wq h0 a1 a2 a3 a4 d (fq_insertInto (fq_insertInto A0 (16 : Int32) (mi >>> ((4 : Int32) &&& (31 : Int32)))) (mi >>> ((4 : Int32) &&& (31 : Int32))) (mi &&& (15 : Int32))) p1 mx (ct + (1 : Int32))) := hD1.weaken (fun _ _ _ h => hFc _ h)
              generalize H1 = H at hP hS ⊢
              refine lv_aload_n hx hb dX0_insert_99 rfl (lv_at hl 2 rfl) ?_
              refine lv_iload_n hx hb dX0_insert_100 rfl (lv_at hl 1 rfl) ?_
              refine lv_aload_n hx hb dX0_insert_101 rfl (lv_at hl 2 rfl) ?_
              refine va_get (D := (dC, dI)) (ci := 0) (v := .int mx) (C := RX0) (T := TX0) (N := 7) hx hb hts in_X0 hown hK hP 0 rfl rfl 5 (by decide) (hts _ q27) (fun _ h9 => h9) rfl dX0_insert_102 ?_
              refine lv_icmp_le (tgt := 112) hx hb dX0_insert_105 (by decide) (fun c_105 => ?_) (fun c_105 => ?_)
              · skip
                refine lv_aload_n hx hb dX0_insert_112 rfl (lv_at hl 2 rfl) ?_
                refine va_get (D := (dC, dI)) (ci := 0) (v := .int mx) (C := RX0) (T := TX0) (N := 7) hx hb hts in_X0 hown hK hP 0 rfl rfl 5 (by decide) (hts _ q27) (fun _ h9 => h9) rfl dX0_insert_113 ?_
                refine va_put (D := (dC, dI)) (ci := 0) (v := .int mx) (ty := .int) (C := RX0) (T := TX0) (N := 7) hx hb hts in_X0 tyX0 tyX0_ok nmX0 hown hK hP hD hS 0 rfl rfl 5 (by decide) (hts _ q27) (fun _ h9 => h9) rfl (by decide +kernel) rfl rfl (Nat.le_of_ble_eq_true rfl) dX0_insert_116 (fun H locs hP hD hS => ?_)
                have hP : va_P (dC, dI) vwCl (fq_wq h0 a1 a2 a3 a4 d (fq_insertInto (fq_insertInto A0 (16 : Int32) (mi >>> ((4 : Int32) &&& (31 : Int32)))) (mi >>> ((4 : Int32) &&& (31 : Int32))) (mi &&& (15 : Int32))) p1 mx (ct + (1 : Int32))) H := hP
                have hD : va_D A (fq_wq h0 a1 a2 a3 a4 d (fq_insertInto (fq_insertInto A0 (16 : Int32) (mi >>> ((4 : Int32) &&& (31 : Int32)))) (mi >>> ((4 : Int32) &&& (31 : Int32))) (mi &&& (15 : Int32))) p1 mx (ct + (1 : Int32))) := hD
                refine lv_iconst (v := 1) hx hb dX0_insert_119 (by decide) ?_
                exact W.zret (v := (1 : Int32)) hx hb hr rfl (fun t ht hW => ⟨⟨(1 : Int32), ((fq_insertInto (fq_insertInto A0 (16 : Int32) (mi >>> ((4 : Int32) &&& (31 : Int32)))) (mi >>> ((4 : Int32) &&& (31 : Int32))) (mi &&& (15 : Int32))), p1, mx, (ct + (1 : Int32))), rfl, ⟨by rw [fq_insertR, if_neg c_1, if_neg c_8, if_pos c_16, if_pos c_35, if_neg c_57, if_neg c_80, if_pos c_105], by rw [fq_insertU, if_neg c_1, if_neg c_8, if_pos c_16, if_pos c_35, if_neg c_57, if_neg c_80, if_pos c_105]⟩, (by rw [ht]; exact hP), va_K.moved hW.alike hK, hD⟩, hS.F ht⟩) hS.2.2 dX0_insert_120
              · skip
                refine lv_iload_n hx hb dX0_insert_108 rfl (lv_at hl 1 rfl) ?_
                refine lv_goto (tgt := 116) hx hb dX0_insert_109 (by decide) ?_
                refine va_put (D := (dC, dI)) (ci := 0) (v := .int mi) (ty := .int) (C := RX0) (T := TX0) (N := 7) hx hb hts in_X0 tyX0 tyX0_ok nmX0 hown hK hP hD hS 0 rfl rfl 5 (by decide) (hts _ q27) (fun _ h9 => h9) rfl (by decide +kernel) rfl rfl (Nat.le_of_ble_eq_true rfl) dX0_insert_116 (fun H locs hP hD hS => ?_)
                have hP : va_P (dC, dI) vwCl (fq_wq h0 a1 a2 a3 a4 d (fq_insertInto (fq_insertInto A0 (16 : Int32) (mi >>> ((4 : Int32) &&& (31 : Int32)))) (mi >>> ((4 : Int32) &&& (31 : Int32))) (mi &&& (15 : Int32))) p1 mi (ct + (1 : Int32))) H := hP
                have hD : va_D A (fq_wq h0 a1 a2 a3 a4 d (fq_insertInto (fq_insertInto A0 (16 : Int32) (mi >>> ((4 : Int32) &&& (31 : Int32)))) (mi >>> ((4 : Int32) &&& (31 : Int32))) (mi &&& (15 : Int32))) p1 mi (ct + (1 : Int32))) := hD
                refine lv_iconst (v := 1) hx hb dX0_insert_119 (by decide) ?_
                exact W.zret (v := (1 : Int32)) hx hb hr rfl (fun t ht hW => ⟨⟨(1 : Int32), ((fq_insertInto (fq_insertInto A0 (16 : Int32) (mi >>> ((4 : Int32) &&& (31 : Int32)))) (mi >>> ((4 : Int32) &&& (31 : Int32))) (mi &&& (15 : Int32))), p1, mi, (ct + (1 : Int32))), rfl, ⟨by rw [fq_insertR, if_neg c_1, if_neg c_8, if_pos c_16, if_pos c_35, if_neg c_57, if_neg c_80, if_neg c_105], by rw [fq_insertU, if_neg c_1, if_neg c_8, if_pos c_16, if_pos c_35, if_neg c_57, if_neg c_80, if_neg c_105]⟩, (by rw [ht]; exact hP), va_K.moved hW.alike hK, hD⟩, hS.F ht⟩) hS.2.2 dX0_insert_120
        · skip
          refine lv_aload_n hx hb dX0_insert_38 rfl (lv_at hl 0 rfl) ?_
          refine lv_iload_n hx hb dX0_insert_39 rfl (lv_at hl 1 rfl) ?_
          refine va_put (D := (dC, dI)) (ci := 0) (v := .int p1) (ty := .int) (C := RX0) (T := TX0) (N := 7) hx hb hts in_X0 tyX0 tyX0_ok nmX0 hown hK hP hD hS 0 rfl rfl 4 (by decide) (hts _ q26) (fun _ h9 => h9) rfl (by decide +kernel) rfl rfl (Nat.le_of_ble_eq_true rfl) dX0_insert_40 (fun H locs hP hD hS => ?_)
          have hP : va_P (dC, dI) vwCl (fq_wq h0 a1 a2 a3 a4 d A0 p1 mx (ct + (1 : Int32))) H := hP
          have hD : va_D A (fq_wq h0 a1 a2 a3 a4 d A0 p1 mx (ct + (1 : Int32))) := hD
          refine lv_aload_n hx hb dX0_insert_43 rfl (lv_at hl 0 rfl) ?_
          refine lv_iload_n hx hb dX0_insert_44 rfl (lv_at hl 1 rfl) ?_
          refine va_put (D := (dC, dI)) (ci := 0) (v := .int p1) (ty := .int) (C := RX0) (T := TX0) (N := 7) hx hb hts in_X0 tyX0 tyX0_ok nmX0 hown hK hP hD hS 0 rfl rfl 5 (by decide) (hts _ q27) (fun _ h9 => h9) rfl (by decide +kernel) rfl rfl (Nat.le_of_ble_eq_true rfl) dX0_insert_45 (fun H locs hP hD hS => ?_)
          have hP : va_P (dC, dI) vwCl (fq_wq h0 a1 a2 a3 a4 d A0 p1 p1 (ct + (1 : Int32))) H := hP
          have hD : va_D A (fq_wq h0 a1 a2 a3 a4 d A0 p1 p1 (ct + (1 : Int32))) := hD
          refine lv_iconst (v := 1) hx hb dX0_insert_48 (by decide) ?_
          exact W.zret (v := (1 : Int32)) hx hb hr rfl (fun t ht hW => ⟨⟨(1 : Int32), (A0, p1, p1, (ct + (1 : Int32))), rfl, ⟨by rw [fq_insertR, if_neg c_1, if_neg c_8, if_pos c_16, if_neg c_35], by rw [fq_insertU, if_neg c_1, if_neg c_8, if_pos c_16, if_neg c_35]⟩, (by rw [ht]; exact hP), va_K.moved hW.alike hK, hD⟩, hS.F ht⟩) hS.2.2 dX0_insert_49
      · skip
        refine lv_iconst (v := 0) hx hb dX0_insert_19 (by decide) ?_
        exact W.zret (v := (0 : Int32)) hx hb hr rfl (fun t ht hW => ⟨⟨(0 : Int32), (A0, mi, mx, ct), rfl, ⟨by rw [fq_insertR, if_neg c_1, if_neg c_8, if_neg c_16], by rw [fq_insertU, if_neg c_1, if_neg c_8, if_neg c_16]⟩, (by rw [ht]; exact hP), va_K.moved hW.alike hK, hD⟩, hS.F ht⟩) hS.2.2 dX0_insert_20
set_option maxHeartbeats 4000000 in
set_option maxRecDepth 100000 in
theorem fq_met_delete (l : Launch) (dC : Nat → ClassId) (dI : Nat → Nat → Nat) (h0 a1 a2 a3 a4 : Nat) (d : ClassId) (sz : Nat) (A0 : fq_A4) (mi mx ct : Int32) (p1 : Int32) (S : Nat → Bool) (hI : fq_Inv S A0 mi mx ct) : Met l yX0_delete (ws_ yX0_delete cX0_delete 4 (some .boolean)) ({ frames := 3, cells := 0, slots := 0, locals := 67 }) (va_Pc [.ref h0, .int p1] (fq_PQ dC dI sz (fq_wq h0 a1 a2 a3 a4 d A0 mi mx ct) [(d, .byte)])) (va_Qi (fun (r : Int32) (u : fq_A7) => r = fq_deleteR A0 mi mx ct p1 ∧ u = fq_deleteU A0 mi mx ct p1) (fun u => fq_BQ dC dI (va_A (fq_wq h0 a1 a2 a3 a4 d A0 mi mx ct) sz) (fq_wq h0 a1 a2 a3 a4 d u.1 u.2.1 u.2.2.1 u.2.2.2) [(d, .byte)]) (va_A (fq_wq h0 a1 a2 a3 a4 d A0 mi mx ct) sz)) 0 0 (va_A (fq_wq h0 a1 a2 a3 a4 d A0 mi mx ct) sz) := by
  refine Met.ofW (cc := cX0_delete) (maxL := 4) (ret := (some .boolean)) (by decide) rfl ?_
  intro p e s m args below meth c s₁ B hml hv
  obtain ⟨rfl, hsz, hP, hK, hD0⟩ := hv
  have hx := B.exec
  have hb := B.bytes
  have hr := B.returns
  have hts := atoms_spec (ws := ws_ yX0_delete cX0_delete 4 (some .boolean)) B.pre
  have hts : ∀ w ∈ lw_all, w.before _ s = true := fun w h => hts w (List.mem_cons_of_mem _ h)
  have hown : s.vm.findClass RX0 = some m.cls := findClass_of_methodNamed B.named
  have hlocks := B.notSynchronized
  subst hsz
  have hD := hD0.self (sz := s.heap.size)
  generalize hAe : va_A (fq_wq h0 a1 a2 a3 a4 d A0 mi mx ct) s.heap.size = A at hD ⊢
  have hA : ∀ q : Nat, s.heap.size ≤ q → A q := fun q h => by rw [← hAe]; exact Or.inr h
  have hS : va_S A s.heap s.heap [] := va_S.rf
  have hP : va_P (dC, dI) vwCl (fq_wq h0 a1 a2 a3 a4 d A0 mi mx ct) s.heap := hP
  have hl := lv_entry ([.ref h0, .int p1]) (n := 4) (Nat.le_of_ble_eq_true rfl)
  rw [lg_entry_eq]
  generalize (lg_sl ([.ref h0, .int p1]) ++ List.replicate (4 - (lg_sl ([.ref h0, .int p1])).length) Slot.unset).toArray = ls0 at hl ⊢
  have hl : lv_has ls0 4 [(0, .ref h0), (1, .int p1)] := hl
  refine lv_aload_n hx hb dX0_delete_0 rfl (lv_at hl 0 rfl) ?_
  refine lv_iload_n hx hb dX0_delete_1 rfl (lv_at hl 1 rfl) ?_
  have hFc := va_free (wc := fq_wq h0 a1 a2 a3 a4 d A0 mi mx ct) hD hS hA [0, 1, 2, 3, 4] rfl
  refine va_calli (va_runV (As := [.int p1]) (rest := []) ⟨hx, hb, hml, hown, hts⟩ (fq_met_member l dC dI h0 a1 a2 a3 a4 d s.heap.size A0 mi mx ct p1 ) (cwV 1 hts (lw_V q49 q50 q51 q12 q52) rfl rfl rfl (by decide +kernel) ⟨Nat.le_of_ble_eq_true rfl, Nat.le_of_ble_eq_true rfl⟩) ⟨fq_blind, va_recv hK hP (ci := 0) (q0 := 0) rfl rfl, fun U hU hW => ⟨rfl, by rw [hU], by rw [hU]; exact hP, va_K.moved hW.alike hK, hD.weaken (fun _ _ _ _ => trivial)⟩⟩ rfl rfl hl.1 rfl (lv_room (Nat.le_of_ble_eq_true rfl)) dX0_delete_2 ⟨Nat.le_of_ble_eq_true rfl, Nat.le_of_ble_eq_true rfl⟩) hS (fun q _ h => hFc q h) hFc (fun r_2 u_2 t H1 locs ht hvm hw hB hz1 hk1 hS => ?_)
  have hw : r_2 = (fq_member A0 mi mx ct p1) := hw
  subst hw
  obtain ⟨hP1, hK1, hD1⟩ := hB
  rw [ht] at hP1
  have hP : va_P (dC, dI) vwCl (fq_wq h0 a1 a2 a3 a4 d A0 mi mx ct) H1 := hP1
  have hD : va_D A (fq_wq h0 a1 a2 a3 a4 d A0 mi mx ct) := hD1.weaken (fun _ _ _ h => hFc _ h)
  generalize H1 = H at hP hS ⊢
  refine lv_if_ne (tgt := 10) hx hb dX0_delete_5 (by decide) (fun c_5 => ?_) (fun c_5 => ?_)
  · skip
    refine lv_aload_n hx hb dX0_delete_10 rfl (lv_at hl 0 rfl) ?_
    refine lv_dup hx hb dX0_delete_11 rfl ?_
    refine va_get (D := (dC, dI)) (ci := 0) (v := .int ct) (C := RX0) (T := TX0) (N := 7) hx hb hts in_X0 hown hK hP 0 rfl rfl 6 (by decide) (hts _ q28) (fun _ h9 => h9) rfl dX0_delete_12 ?_
    refine lv_iconst (v := 1) hx hb dX0_delete_15 (by decide) ?_
    refine lv_isub hx hb dX0_delete_16 ?_
    refine va_put (D := (dC, dI)) (ci := 0) (v := .int (ct - (1 : Int32))) (ty := .int) (C := RX0) (T := TX0) (N := 7) hx hb hts in_X0 tyX0 tyX0_ok nmX0 hown hK hP hD hS 0 rfl rfl 6 (by decide) (hts _ q28) (fun _ h9 => h9) rfl (by decide +kernel) rfl rfl (Nat.le_of_ble_eq_true rfl) dX0_delete_17 (fun H locs hP hD hS => ?_)
    have hP : va_P (dC, dI) vwCl (fq_wq h0 a1 a2 a3 a4 d A0 mi mx (ct - (1 : Int32))) H := hP
    have hD : va_D A (fq_wq h0 a1 a2 a3 a4 d A0 mi mx (ct - (1 : Int32))) := hD
    refine lv_iload_n hx hb dX0_delete_20 rfl (lv_at hl 1 rfl) ?_
    refine lv_istore_n (lv' := [(2, .int p1), (0, .ref h0), (1, .int p1)]) hx hb dX0_delete_21 rfl hl (by decide) rfl (fun ls hl => ?_)
    refine lv_iload_n hx hb dX0_delete_22 rfl (lv_at hl 2 rfl) ?_
    refine lv_aload_n hx hb dX0_delete_23 rfl (lv_at hl 1 rfl) ?_
    refine va_get (D := (dC, dI)) (ci := 0) (v := .int mi) (C := RX0) (T := TX0) (N := 7) hx hb hts in_X0 hown hK hP 0 rfl rfl 4 (by decide) (hts _ q26) (fun _ h9 => h9) rfl dX0_delete_24 ?_
    refine lv_icmp_ne (tgt := 63) hx hb dX0_delete_27 (by decide) (fun c_27 => ?_) (fun c_27 => ?_)
    · skip
      refine lv_iload_n hx hb dX0_delete_63 rfl (lv_at hl 0 rfl) ?_
      refine lv_if_lt (tgt := 96) hx hb dX0_delete_64 (by decide) (fun c_64 => ?_) (fun c_64 => ?_)
      · skip
        refine lv_aload_n hx hb dX0_delete_96 rfl (lv_at hl 1 rfl) ?_
        refine va_get (D := (dC, dI)) (ci := 0) (v := .ref a2) (C := RX0) (T := TX0) (N := 7) hx hb hts in_X0 hown hK hP 0 rfl rfl 1 (by decide) (hts _ q23) (fun _ h9 => h9) rfl dX0_delete_97 ?_
        refine lv_bipush (v := 16) hx hb dX0_delete_100 (by decide) ?_
        have h_102 : vp_in (16 : Int32) 17 := fq_16
        refine va_bald (f := A0.2.1) hx hb hK hP 2 0 rfl rfl h_102 dX0_delete_102 ?_
        refine lv_istore_n (lv' := [(3, .int (A0.2.1 (16 : Int32).toNatClampNeg)), (2, .int p1), (0, .ref h0), (1, .int p1)]) hx hb dX0_delete_103 rfl hl (by decide) rfl (fun ls hl => ?_)
        refine lv_aload_n hx hb dX0_delete_104 rfl (lv_at hl 2 rfl) ?_
        refine lv_iload_n hx hb dX0_delete_105 rfl (lv_at hl 0 rfl) ?_
        refine lv_if_ge (tgt := 116) hx hb dX0_delete_106 (by decide) (fun c_106 => ?_) (fun c_106 => ?_)
        · skip
          refine lv_bipush (v := 16) hx hb dX0_delete_116 (by decide) ?_
          refine lv_iload_n hx hb dX0_delete_118 rfl (lv_at hl 0 rfl) ?_
          refine lv_imul hx hb dX0_delete_119 ?_
          refine lv_aload_n hx hb dX0_delete_120 rfl (lv_at hl 2 rfl) ?_
          refine va_get (D := (dC, dI)) (ci := 0) (v := .ref a2) (C := RX0) (T := TX0) (N := 7) hx hb hts in_X0 hown hK hP 0 rfl rfl 1 (by decide) (hts _ q23) (fun _ h9 => h9) rfl dX0_delete_121 ?_
          refine lv_iload_n hx hb dX0_delete_124 rfl (lv_at hl 0 rfl) ?_
          have h_125 : vp_in (A0.2.1 (16 : Int32).toNatClampNeg) 17 := fq_17 (fq_RI_in (fq_hi_RI hI) fq_16 c_106)
          refine va_bald (f := A0.2.1) hx hb hK hP 2 0 rfl rfl h_125 dX0_delete_125 ?_
          refine lv_iadd hx hb dX0_delete_126 ?_
          refine va_put (D := (dC, dI)) (ci := 0) (v := .int (((16 : Int32) * (A0.2.1 (16 : Int32).toNatClampNeg)) + (A0.2.1 (A0.2.1 (16 : Int32).toNatClampNeg).toNatClampNeg))) (ty := .int) (C := RX0) (T := TX0) (N := 7) hx hb hts in_X0 tyX0 tyX0_ok nmX0 hown hK hP hD hS 0 rfl rfl 5 (by decide) (hts _ q27) (fun _ h9 => h9) rfl (by decide +kernel) rfl rfl (Nat.le_of_ble_eq_true rfl) dX0_delete_127 (fun H locs hP hD hS => ?_)
          have hP : va_P (dC, dI) vwCl (fq_wq h0 a1 a2 a3 a4 d A0 mi (((16 : Int32) * (A0.2.1 (16 : Int32).toNatClampNeg)) + (A0.2.1 (A0.2.1 (16 : Int32).toNatClampNeg).toNatClampNeg)) (ct - (1 : Int32))) H := hP
          have hD : va_D A (fq_wq h0 a1 a2 a3 a4 d A0 mi (((16 : Int32) * (A0.2.1 (16 : Int32).toNatClampNeg)) + (A0.2.1 (A0.2.1 (16 : Int32).toNatClampNeg).toNatClampNeg)) (ct - (1 : Int32))) := hD
          refine lv_iconst (v := 1) hx hb dX0_delete_130 (by decide) ?_
          exact W.zret (v := (1 : Int32)) hx hb hr rfl (fun t ht hW => ⟨⟨(1 : Int32), (A0, mi, (((16 : Int32) * (A0.2.1 (16 : Int32).toNatClampNeg)) + (A0.2.1 (A0.2.1 (16 : Int32).toNatClampNeg).toNatClampNeg)), (ct - (1 : Int32))), rfl, ⟨by rw [fq_deleteR, if_neg c_5, if_neg c_27, if_pos c_64, if_pos c_106], by rw [fq_deleteU, if_neg c_5, if_neg c_27, if_pos c_64, if_pos c_106]⟩, (by rw [ht]; exact hP), va_K.moved hW.alike hK, hD⟩, hS.F ht⟩) hS.2.2 dX0_delete_131
        · skip
          refine lv_aload_n hx hb dX0_delete_109 rfl (lv_at hl 2 rfl) ?_
          refine va_get (D := (dC, dI)) (ci := 0) (v := .int mi) (C := RX0) (T := TX0) (N := 7) hx hb hts in_X0 hown hK hP 0 rfl rfl 4 (by decide) (hts _ q26) (fun _ h9 => h9) rfl dX0_delete_110 ?_
          refine lv_goto (tgt := 127) hx hb dX0_delete_113 (by decide) ?_
          refine va_put (D := (dC, dI)) (ci := 0) (v := .int mi) (ty := .int) (C := RX0) (T := TX0) (N := 7) hx hb hts in_X0 tyX0 tyX0_ok nmX0 hown hK hP hD hS 0 rfl rfl 5 (by decide) (hts _ q27) (fun _ h9 => h9) rfl (by decide +kernel) rfl rfl (Nat.le_of_ble_eq_true rfl) dX0_delete_127 (fun H locs hP hD hS => ?_)
          have hP : va_P (dC, dI) vwCl (fq_wq h0 a1 a2 a3 a4 d A0 mi mi (ct - (1 : Int32))) H := hP
          have hD : va_D A (fq_wq h0 a1 a2 a3 a4 d A0 mi mi (ct - (1 : Int32))) := hD
          refine lv_iconst (v := 1) hx hb dX0_delete_130 (by decide) ?_
          exact W.zret (v := (1 : Int32)) hx hb hr rfl (fun t ht hW => ⟨⟨(1 : Int32), (A0, mi, mi, (ct - (1 : Int32))), rfl, ⟨by rw [fq_deleteR, if_neg c_5, if_neg c_27, if_pos c_64, if_neg c_106], by rw [fq_deleteU, if_neg c_5, if_neg c_27, if_pos c_64, if_neg c_106]⟩, (by rw [ht]; exact hP), va_K.moved hW.alike hK, hD⟩, hS.F ht⟩) hS.2.2 dX0_delete_131
      · skip
        refine lv_iload_n hx hb dX0_delete_67 rfl (lv_at hl 0 rfl) ?_
        refine lv_iconst (v := 4) hx hb dX0_delete_68 (by decide) ?_
        refine lv_ishr hx hb dX0_delete_69 ?_
        refine lv_istore_n (lv' := [(3, .int (p1 >>> ((4 : Int32) &&& (31 : Int32)))), (2, .int p1), (0, .ref h0), (1, .int p1)]) hx hb dX0_delete_70 rfl hl (by decide) rfl (fun ls hl => ?_)
        refine lv_aload_n hx hb dX0_delete_71 rfl (lv_at hl 2 rfl) ?_
        refine lv_iload_n hx hb dX0_delete_72 rfl (lv_at hl 0 rfl) ?_
        refine lv_iload_n hx hb dX0_delete_73 rfl (lv_at hl 1 rfl) ?_
        refine lv_bipush (v := 15) hx hb dX0_delete_74 (by decide) ?_
        refine lv_iand hx hb dX0_delete_76 ?_
        have hFc := va_free (wc := fq_wq h0 a1 a2 a3 a4 d A0 mi mx (ct - (1 : Int32))) hD hS hA [0, 1, 2, 3, 4] rfl
        refine va_callv (va_runV (As := [.int (p1 >>> ((4 : Int32) &&& (31 : Int32))), .int (p1 &&& (15 : Int32))]) (rest := []) ⟨hx, hb, hml, hown, hts⟩ (fq_met_deleteFrom l dC dI h0 a1 a2 a3 a4 d H.size A0 mi mx (ct - (1 : Int32)) (p1 >>> ((4 : Int32) &&& (31 : Int32))) (p1 &&& (15 : Int32)) (fq_ix6 (fq_mem_in c_5)) (fq_ix5 _)) (cwV 2 hts (lw_V q69 q71 qs3 q12 q72) rfl rfl rfl (by decide +kernel) ⟨Nat.le_of_ble_eq_true rfl, Nat.le_of_ble_eq_true rfl⟩) ⟨fq_blind, va_recv hK hP (ci := 0) (q0 := 0) rfl rfl, fun U hU hW => ⟨rfl, by rw [hU], by rw [hU]; exact hP, va_K.moved hW.alike hK, hD.weaken (fun _ _ _ _ => trivial)⟩⟩ rfl rfl hl.1 rfl (lv_room (Nat.le_of_ble_eq_true rfl)) dX0_delete_77 ⟨Nat.le_of_ble_eq_true rfl, Nat.le_of_ble_eq_true rfl⟩) hS (fun q _ h => hFc q h) hFc (fun u_77 t H1 locs ht hvm hw hB hz1 hk1 hS => ?_)
        have hw : u_77 = (fq_deleteFrom A0 (p1 >>> ((4 : Int32) &&& (31 : Int32))) (p1 &&& (15 : Int32))) := hw
        subst hw
        obtain ⟨hP1, hK1, hD1⟩ := hB
        rw [ht] at hP1
        have hP : va_P (dC, dI) vwCl (fq_wq h0 a1 a2 a3 a4 d (fq_deleteFrom A0 (p1 >>> ((4 : Int32) &&& (31 : Int32))) (p1 &&& (15 : Int32))) mi mx (ct - (1 : Int32))) H1 := hP1
        have hD : va_D A (fq_wq h0 a1 a2 a3 a4 d (fq_deleteFrom A0 (p1 >>> ((4 : Int32) &&& (31 : Int32))) (p1 &&& (15 : Int32))) mi mx (ct - (1 : Int32))) := hD1.weaken (fun _ _ _ h => hFc _ h)
        generalize H1 = H at hP hS ⊢
        refine lv_aload_n hx hb dX0_delete_80 rfl (lv_at hl 2 rfl) ?_
        refine va_get (D := (dC, dI)) (ci := 0) (v := .ref a1) (C := RX0) (T := TX0) (N := 7) hx hb hts in_X0 hown hK hP 0 rfl rfl 0 (by decide) (hts _ q22) (fun _ h9 => h9) rfl dX0_delete_81 ?_
        refine lv_iload_n hx hb dX0_delete_84 rfl (lv_at hl 0 rfl) ?_
        have h_85 : vp_in (p1 >>> ((4 : Int32) &&& (31 : Int32))) 17 := fq_ix6 (fq_mem_in c_5)
        refine va_bald (f := (fq_deleteFrom A0 (p1 >>> ((4 : Int32) &&& (31 : Int32))) (p1 &&& (15 : Int32))).1) hx hb hK hP 1 0 rfl rfl h_85 dX0_delete_85 ?_
        refine lv_if_ge (tgt := 96) hx hb dX0_delete_86 (by decide) (fun c_86 => ?_) (fun c_86 => ?_)
        · skip
          refine lv_aload_n hx hb dX0_delete_96 rfl (lv_at hl 2 rfl) ?_
          refine va_get (D := (dC, dI)) (ci := 0) (v := .ref a2) (C := RX0) (T := TX0) (N := 7) hx hb hts in_X0 hown hK hP 0 rfl rfl 1 (by decide) (hts _ q23) (fun _ h9 => h9) rfl dX0_delete_97 ?_
          refine lv_bipush (v := 16) hx hb dX0_delete_100 (by decide) ?_
          have h_102 : vp_in (16 : Int32) 17 := fq_16
          refine va_bald (f := (fq_deleteFrom A0 (p1 >>> ((4 : Int32) &&& (31 : Int32))) (p1 &&& (15 : Int32))).2.1) hx hb hK hP 2 0 rfl rfl h_102 dX0_delete_102 ?_
          refine lv_istore_n (lv' := [(3, .int (((fq_deleteFrom A0 (p1 >>> ((4 : Int32) &&& (31 : Int32))) (p1 &&& (15 : Int32))).2.1) (16 : Int32).toNatClampNeg)), (2, .int p1), (0, .ref h0), (1, .int p1)]) hx hb dX0_delete_103 rfl hl (by decide) rfl (fun ls hl => ?_)
          refine lv_aload_n hx hb dX0_delete_104 rfl (lv_at hl 2 rfl) ?_
          refine lv_iload_n hx hb dX0_delete_105 rfl (lv_at hl 0 rfl) ?_
          refine lv_if_ge (tgt := 116) hx hb dX0_delete_106 (by decide) (fun c_106 => ?_) (fun c_106 => ?_)
          · skip
            refine lv_bipush (v := 16) hx hb dX0_delete_116 (by decide) ?_
            refine lv_iload_n hx hb dX0_delete_118 rfl (lv_at hl 0 rfl) ?_
            refine lv_imul hx hb dX0_delete_119 ?_
            refine lv_aload_n hx hb dX0_delete_120 rfl (lv_at hl 2 rfl) ?_
            refine va_get (D := (dC, dI)) (ci := 0) (v := .ref a2) (C := RX0) (T := TX0) (N := 7) hx hb hts in_X0 hown hK hP 0 rfl rfl 1 (by decide) (hts _ q23) (fun _ h9 => h9) rfl dX0_delete_121 ?_
            refine lv_iload_n hx hb dX0_delete_124 rfl (lv_at hl 0 rfl) ?_
            have h_125 : vp_in (((fq_deleteFrom A0 (p1 >>> ((4 : Int32) &&& (31 : Int32))) (p1 &&& (15 : Int32))).2.1) (16 : Int32).toNatClampNeg) 17 := fq_17 (fq_RI_in (fq_RI_del (fq_RIs hI) (fq_ix6 (fq_mem_in c_5)) (fq_ix5 _)).2 fq_16 c_106)
            refine va_bald (f := (fq_deleteFrom A0 (p1 >>> ((4 : Int32) &&& (31 : Int32))) (p1 &&& (15 : Int32))).2.1) hx hb hK hP 2 0 rfl rfl h_125 dX0_delete_125 ?_
            refine lv_iadd hx hb dX0_delete_126 ?_
            refine va_put (D := (dC, dI)) (ci := 0) (v := .int (((16 : Int32) * (((fq_deleteFrom A0 (p1 >>> ((4 : Int32) &&& (31 : Int32))) (p1 &&& (15 : Int32))).2.1) (16 : Int32).toNatClampNeg)) + (((fq_deleteFrom A0 (p1 >>> ((4 : Int32) &&& (31 : Int32))) (p1 &&& (15 : Int32))).2.1) (((fq_deleteFrom A0 (p1 >>> ((4 : Int32) &&& (31 : Int32))) (p1 &&& (15 : Int32))).2.1) (16 : Int32).toNatClampNeg).toNatClampNeg))) (ty := .int) (C := RX0) (T := TX0) (N := 7) hx hb hts in_X0 tyX0 tyX0_ok nmX0 hown hK hP hD hS 0 rfl rfl 5 (by decide) (hts _ q27) (fun _ h9 => h9) rfl (by decide +kernel) rfl rfl (Nat.le_of_ble_eq_true rfl) dX0_delete_127 (fun H locs hP hD hS => ?_)
            have hP : va_P (dC, dI) vwCl (fq_wq h0 a1 a2 a3 a4 d (fq_deleteFrom A0 (p1 >>> ((4 : Int32) &&& (31 : Int32))) (p1 &&& (15 : Int32))) mi (((16 : Int32) * (((fq_deleteFrom A0 (p1 >>> ((4 : Int32) &&& (31 : Int32))) (p1 &&& (15 : Int32))).2.1) (16 : Int32).toNatClampNeg)) + (((fq_deleteFrom A0 (p1 >>> ((4 : Int32) &&& (31 : Int32))) (p1 &&& (15 : Int32))).2.1) (((fq_deleteFrom A0 (p1 >>> ((4 : Int32) &&& (31 : Int32))) (p1 &&& (15 : Int32))).2.1) (16 : Int32).toNatClampNeg).toNatClampNeg)) (ct - (1 : Int32))) H := hP
            have hD : va_D A (fq_wq h0 a1 a2 a3 a4 d (fq_deleteFrom A0 (p1 >>> ((4 : Int32) &&& (31 : Int32))) (p1 &&& (15 : Int32))) mi (((16 : Int32) * (((fq_deleteFrom A0 (p1 >>> ((4 : Int32) &&& (31 : Int32))) (p1 &&& (15 : Int32))).2.1) (16 : Int32).toNatClampNeg)) + (((fq_deleteFrom A0 (p1 >>> ((4 : Int32) &&& (31 : Int32))) (p1 &&& (15 : Int32))).2.1) (((fq_deleteFrom A0 (p1 >>> ((4 : Int32) &&& (31 : Int32))) (p1 &&& (15 : Int32))).2.1) (16 : Int32).toNatClampNeg).toNatClampNeg)) (ct - (1 : Int32))) := hD
            refine lv_iconst (v := 1) hx hb dX0_delete_130 (by decide) ?_
            exact W.zret (v := (1 : Int32)) hx hb hr rfl (fun t ht hW => ⟨⟨(1 : Int32), ((fq_deleteFrom A0 (p1 >>> ((4 : Int32) &&& (31 : Int32))) (p1 &&& (15 : Int32))), mi, (((16 : Int32) * (((fq_deleteFrom A0 (p1 >>> ((4 : Int32) &&& (31 : Int32))) (p1 &&& (15 : Int32))).2.1) (16 : Int32).toNatClampNeg)) + (((fq_deleteFrom A0 (p1 >>> ((4 : Int32) &&& (31 : Int32))) (p1 &&& (15 : Int32))).2.1) (((fq_deleteFrom A0 (p1 >>> ((4 : Int32) &&& (31 : Int32))) (p1 &&& (15 : Int32))).2.1) (16 : Int32).toNatClampNeg).toNatClampNeg)), (ct - (1 : Int32))), rfl, ⟨by rw [fq_deleteR, if_neg c_5, if_neg c_27, if_neg c_64, if_pos c_86, if_pos c_106], by rw [fq_deleteU, if_neg c_5, if_neg c_27, if_neg c_64, if_pos c_86, if_pos c_106]⟩, (by rw [ht]; exact hP), va_K.moved hW.alike hK, hD⟩, hS.F ht⟩) hS.2.2 dX0_delete_131
          · skip
            refine lv_aload_n hx hb dX0_delete_109 rfl (lv_at hl 2 rfl) ?_
            refine va_get (D := (dC, dI)) (ci := 0) (v := .int mi) (C := RX0) (T := TX0) (N := 7) hx hb hts in_X0 hown hK hP 0 rfl rfl 4 (by decide) (hts _ q26) (fun _ h9 => h9) rfl dX0_delete_110 ?_
            refine lv_goto (tgt := 127) hx hb dX0_delete_113 (by decide) ?_
            refine va_put (D := (dC, dI)) (ci := 0) (v := .int mi) (ty := .int) (C := RX0) (T := TX0) (N := 7) hx hb hts in_X0 tyX0 tyX0_ok nmX0 hown hK hP hD hS 0 rfl rfl 5 (by decide) (hts _ q27) (fun _ h9 => h9) rfl (by decide +kernel) rfl rfl (Nat.le_of_ble_eq_true rfl) dX0_delete_127 (fun H locs hP hD hS => ?_)
            have hP : va_P (dC, dI) vwCl (fq_wq h0 a1 a2 a3 a4 d (fq_deleteFrom A0 (p1 >>> ((4 : Int32) &&& (31 : Int32))) (p1 &&& (15 : Int32))) mi mi (ct - (1 : Int32))) H := hP
            have hD : va_D A (fq_wq h0 a1 a2 a3 a4 d (fq_deleteFrom A0 (p1 >>> ((4 : Int32) &&& (31 : Int32))) (p1 &&& (15 : Int32))) mi mi (ct - (1 : Int32))) := hD
            refine lv_iconst (v := 1) hx hb dX0_delete_130 (by decide) ?_
            exact W.zret (v := (1 : Int32)) hx hb hr rfl (fun t ht hW => ⟨⟨(1 : Int32), ((fq_deleteFrom A0 (p1 >>> ((4 : Int32) &&& (31 : Int32))) (p1 &&& (15 : Int32))), mi, mi, (ct - (1 : Int32))), rfl, ⟨by rw [fq_deleteR, if_neg c_5, if_neg c_27, if_neg c_64, if_pos c_86, if_neg c_106], by rw [fq_deleteU, if_neg c_5, if_neg c_27, if_neg c_64, if_pos c_86, if_neg c_106]⟩, (by rw [ht]; exact hP), va_K.moved hW.alike hK, hD⟩, hS.F ht⟩) hS.2.2 dX0_delete_131
        · skip
          refine lv_aload_n hx hb dX0_delete_89 rfl (lv_at hl 2 rfl) ?_
          refine lv_bipush (v := 16) hx hb dX0_delete_90 (by decide) ?_
          refine lv_iload_n hx hb dX0_delete_92 rfl (lv_at hl 0 rfl) ?_
          have hFc := va_free (wc := fq_wq h0 a1 a2 a3 a4 d (fq_deleteFrom A0 (p1 >>> ((4 : Int32) &&& (31 : Int32))) (p1 &&& (15 : Int32))) mi mx (ct - (1 : Int32))) hD hS hA [0, 1, 2, 3, 4] rfl
          refine va_callv (va_runV (As := [.int (16 : Int32), .int (p1 >>> ((4 : Int32) &&& (31 : Int32)))]) (rest := []) ⟨hx, hb, hml, hown, hts⟩ (fq_met_deleteFrom l dC dI h0 a1 a2 a3 a4 d H.size (fq_deleteFrom A0 (p1 >>> ((4 : Int32) &&& (31 : Int32))) (p1 &&& (15 : Int32))) mi mx (ct - (1 : Int32)) (16 : Int32) (p1 >>> ((4 : Int32) &&& (31 : Int32))) fq_16 (fq_ix7 (fq_mem_in c_5))) (cwV 2 hts (lw_V q69 q71 qs3 q12 q72) rfl rfl rfl (by decide +kernel) ⟨Nat.le_of_ble_eq_true rfl, Nat.le_of_ble_eq_true rfl⟩) ⟨fq_blind, va_recv hK hP (ci := 0) (q0 := 0) rfl rfl, fun U hU hW => ⟨rfl, by rw [hU], by rw [hU]; exact hP, va_K.moved hW.alike hK, hD.weaken (fun _ _ _ _ => trivial)⟩⟩ rfl rfl hl.1 rfl (lv_room (Nat.le_of_ble_eq_true rfl)) dX0_delete_93 ⟨Nat.le_of_ble_eq_true rfl, Nat.le_of_ble_eq_true rfl⟩) hS (fun q _ h => hFc q h) hFc (fun u_93 t H1 locs ht hvm hw hB hz1 hk1 hS => ?_)
          have hw : u_93 = (fq_deleteFrom (fq_deleteFrom A0 (p1 >>> ((4 : Int32) &&& (31 : Int32))) (p1 &&& (15 : Int32))) (16 : Int32) (p1 >>> ((4 : Int32) &&& (31 : Int32)))) := hw
          subst hw
          obtain ⟨hP1, hK1, hD1⟩ := hB
          rw [ht] at hP1
          have hP : va_P (dC, dI) vwCl (fq_wq h0 a1 a2 a3 a4 d (fq_deleteFrom (fq_deleteFrom A0 (p1 >>> ((4 : Int32) &&& (31 : Int32))) (p1 &&& (15 : Int32))) (16 : Int32) (p1 >>> ((4 : Int32) &&& (31 : Int32)))) mi mx (ct - (1 : Int32))) H1 := hP1
          have hD : va_D A (fq_wq h0 a1 a2 a3 a4 d (fq_deleteFrom (fq_deleteFrom A0 (p1 >>> ((4 : Int32) &&& (31 : Int32))) (p1 &&& (15 : Int32))) (16 : Int32) (p1 >>> ((4 : Int32) &&& (31 : Int32)))) mi mx (ct - (1 : Int32))) := hD1.weaken (fun _ _ _ h => hFc _ h)
          generalize H1 = H at hP hS ⊢
          refine lv_aload_n hx hb dX0_delete_96 rfl (lv_at hl 2 rfl) ?_
          refine va_get (D := (dC, dI)) (ci := 0) (v := .ref a2) (C := RX0) (T := TX0) (N := 7) hx hb hts in_X0 hown hK hP 0 rfl rfl 1 (by decide) (hts _ q23) (fun _ h9 => h9) rfl dX0_delete_97 ?_
          refine lv_bipush (v := 16) hx hb dX0_delete_100 (by decide) ?_
          have h_102 : vp_in (16 : Int32) 17 := fq_16
          refine va_bald (f := (fq_deleteFrom (fq_deleteFrom A0 (p1 >>> ((4 : Int32) &&& (31 : Int32))) (p1 &&& (15 : Int32))) (16 : Int32) (p1 >>> ((4 : Int32) &&& (31 : Int32)))).2.1) hx hb hK hP 2 0 rfl rfl h_102 dX0_delete_102 ?_
          refine lv_istore_n (lv' := [(3, .int (((fq_deleteFrom (fq_deleteFrom A0 (p1 >>> ((4 : Int32) &&& (31 : Int32))) (p1 &&& (15 : Int32))) (16 : Int32) (p1 >>> ((4 : Int32) &&& (31 : Int32)))).2.1) (16 : Int32).toNatClampNeg)), (2, .int p1), (0, .ref h0), (1, .int p1)]) hx hb dX0_delete_103 rfl hl (by decide) rfl (fun ls hl => ?_)
          refine lv_aload_n hx hb dX0_delete_104 rfl (lv_at hl 2 rfl) ?_
          refine lv_iload_n hx hb dX0_delete_105 rfl (lv_at hl 0 rfl) ?_
          refine lv_if_ge (tgt := 116) hx hb dX0_delete_106 (by decide) (fun c_106 => ?_) (fun c_106 => ?_)
          · skip
            refine lv_bipush (v := 16) hx hb dX0_delete_116 (by decide) ?_
            refine lv_iload_n hx hb dX0_delete_118 rfl (lv_at hl 0 rfl) ?_
            refine lv_imul hx hb dX0_delete_119 ?_
            refine lv_aload_n hx hb dX0_delete_120 rfl (lv_at hl 2 rfl) ?_
            refine va_get (D := (dC, dI)) (ci := 0) (v := .ref a2) (C := RX0) (T := TX0) (N := 7) hx hb hts in_X0 hown hK hP 0 rfl rfl 1 (by decide) (hts _ q23) (fun _ h9 => h9) rfl dX0_delete_121 ?_
            refine lv_iload_n hx hb dX0_delete_124 rfl (lv_at hl 0 rfl) ?_
            have h_125 : vp_in (((fq_deleteFrom (fq_deleteFrom A0 (p1 >>> ((4 : Int32) &&& (31 : Int32))) (p1 &&& (15 : Int32))) (16 : Int32) (p1 >>> ((4 : Int32) &&& (31 : Int32)))).2.1) (16 : Int32).toNatClampNeg) 17 := fq_17 (fq_RI_in (fq_RI_del (fq_RI_del (fq_RIs hI) (fq_ix6 (fq_mem_in c_5)) (fq_ix5 _)) fq_16 (fq_ix7 (fq_mem_in c_5))).2 fq_16 c_106)
            refine va_bald (f := (fq_deleteFrom (fq_deleteFrom A0 (p1 >>> ((4 : Int32) &&& (31 : Int32))) (p1 &&& (15 : Int32))) (16 : Int32) (p1 >>> ((4 : Int32) &&& (31 : Int32)))).2.1) hx hb hK hP 2 0 rfl rfl h_125 dX0_delete_125 ?_
            refine lv_iadd hx hb dX0_delete_126 ?_
            refine va_put (D := (dC, dI)) (ci := 0) (v := .int (((16 : Int32) * (((fq_deleteFrom (fq_deleteFrom A0 (p1 >>> ((4 : Int32) &&& (31 : Int32))) (p1 &&& (15 : Int32))) (16 : Int32) (p1 >>> ((4 : Int32) &&& (31 : Int32)))).2.1) (16 : Int32).toNatClampNeg)) + (((fq_deleteFrom (fq_deleteFrom A0 (p1 >>> ((4 : Int32) &&& (31 : Int32))) (p1 &&& (15 : Int32))) (16 : Int32) (p1 >>> ((4 : Int32) &&& (31 : Int32)))).2.1) (((fq_deleteFrom (fq_deleteFrom A0 (p1 >>> ((4 : Int32) &&& (31 : Int32))) (p1 &&& (15 : Int32))) (16 : Int32) (p1 >>> ((4 : Int32) &&& (31 : Int32)))).2.1) (16 : Int32).toNatClampNeg).toNatClampNeg))) (ty := .int) (C := RX0) (T := TX0) (N := 7) hx hb hts in_X0 tyX0 tyX0_ok nmX0 hown hK hP hD hS 0 rfl rfl 5 (by decide) (hts _ q27) (fun _ h9 => h9) rfl (by decide +kernel) rfl rfl (Nat.le_of_ble_eq_true rfl) dX0_delete_127 (fun H locs hP hD hS => ?_)
            have hP : va_P (dC, dI) vwCl (fq_wq h0 a1 a2 a3 a4 d (fq_deleteFrom (fq_deleteFrom A0 (p1 >>> ((4 : Int32) &&& (31 : Int32))) (p1 &&& (15 : Int32))) (16 : Int32) (p1 >>> ((4 : Int32) &&& (31 : Int32)))) mi (((16 : Int32) * (((fq_deleteFrom (fq_deleteFrom A0 (p1 >>> ((4 : Int32) &&& (31 : Int32))) (p1 &&& (15 : Int32))) (16 : Int32) (p1 >>> ((4 : Int32) &&& (31 : Int32)))).2.1) (16 : Int32).toNatClampNeg)) + (((fq_deleteFrom (fq_deleteFrom A0 (p1 >>> ((4 : Int32) &&& (31 : Int32))) (p1 &&& (15 : Int32))) (16 : Int32) (p1 >>> ((4 : Int32) &&& (31 : Int32)))).2.1) (((fq_deleteFrom (fq_deleteFrom A0 (p1 >>> ((4 : Int32) &&& (31 : Int32))) (p1 &&& (15 : Int32))) (16 : Int32) (p1 >>> ((4 : Int32) &&& (31 : Int32)))).2.1) (16 : Int32).toNatClampNeg).toNatClampNeg)) (ct - (1 : Int32))) H := hP
            have hD : va_D A (fq_wq h0 a1 a2 a3 a4 d (fq_deleteFrom (fq_deleteFrom A0 (p1 >>> ((4 : Int32) &&& (31 : Int32))) (p1 &&& (15 : Int32))) (16 : Int32) (p1 >>> ((4 : Int32) &&& (31 : Int32)))) mi (((16 : Int32) * (((fq_deleteFrom (fq_deleteFrom A0 (p1 >>> ((4 : Int32) &&& (31 : Int32))) (p1 &&& (15 : Int32))) (16 : Int32) (p1 >>> ((4 : Int32) &&& (31 : Int32)))).2.1) (16 : Int32).toNatClampNeg)) + (((fq_deleteFrom (fq_deleteFrom A0 (p1 >>> ((4 : Int32) &&& (31 : Int32))) (p1 &&& (15 : Int32))) (16 : Int32) (p1 >>> ((4 : Int32) &&& (31 : Int32)))).2.1) (((fq_deleteFrom (fq_deleteFrom A0 (p1 >>> ((4 : Int32) &&& (31 : Int32))) (p1 &&& (15 : Int32))) (16 : Int32) (p1 >>> ((4 : Int32) &&& (31 : Int32)))).2.1) (16 : Int32).toNatClampNeg).toNatClampNeg)) (ct - (1 : Int32))) := hD
            refine lv_iconst (v := 1) hx hb dX0_delete_130 (by decide) ?_
            exact W.zret (v := (1 : Int32)) hx hb hr rfl (fun t ht hW => ⟨⟨(1 : Int32), ((fq_deleteFrom (fq_deleteFrom A0 (p1 >>> ((4 : Int32) &&& (31 : Int32))) (p1 &&& (15 : Int32))) (16 : Int32) (p1 >>> ((4 : Int32) &&& (31 : Int32)))), mi, (((16 : Int32) * (((fq_deleteFrom (fq_deleteFrom A0 (p1 >>> ((4 : Int32) &&& (31 : Int32))) (p1 &&& (15 : Int32))) (16 : Int32) (p1 >>> ((4 : Int32) &&& (31 : Int32)))).2.1) (16 : Int32).toNatClampNeg)) + (((fq_deleteFrom (fq_deleteFrom A0 (p1 >>> ((4 : Int32) &&& (31 : Int32))) (p1 &&& (15 : Int32))) (16 : Int32) (p1 >>> ((4 : Int32) &&& (31 : Int32)))).2.1) (((fq_deleteFrom (fq_deleteFrom A0 (p1 >>> ((4 : Int32) &&& (31 : Int32))) (p1 &&& (15 : Int32))) (16 : Int32) (p1 >>> ((4 : Int32) &&& (31 : Int32)))).2.1) (16 : Int32).toNatClampNeg).toNatClampNeg)), (ct - (1 : Int32))), rfl, ⟨by rw [fq_deleteR, if_neg c_5, if_neg c_27, if_neg c_64, if_neg c_86, if_pos c_106], by rw [fq_deleteU, if_neg c_5, if_neg c_27, if_neg c_64, if_neg c_86, if_pos c_106]⟩, (by rw [ht]; exact hP), va_K.moved hW.alike hK, hD⟩, hS.F ht⟩) hS.2.2 dX0_delete_131
          · skip
            refine lv_aload_n hx hb dX0_delete_109 rfl (lv_at hl 2 rfl) ?_
            refine va_get (D := (dC, dI)) (ci := 0) (v := .int mi) (C := RX0) (T := TX0) (N := 7) hx hb hts in_X0 hown hK hP 0 rfl rfl 4 (by decide) (hts _ q26) (fun _ h9 => h9) rfl dX0_delete_110 ?_
            refine lv_goto (tgt := 127) hx hb dX0_delete_113 (by decide) ?_
            refine va_put (D := (dC, dI)) (ci := 0) (v := .int mi) (ty := .int) (C := RX0) (T := TX0) (N := 7) hx hb hts in_X0 tyX0 tyX0_ok nmX0 hown hK hP hD hS 0 rfl rfl 5 (by decide) (hts _ q27) (fun _ h9 => h9) rfl (by decide +kernel) rfl rfl (Nat.le_of_ble_eq_true rfl) dX0_delete_127 (fun H locs hP hD hS => ?_)
            have hP : va_P (dC, dI) vwCl (fq_wq h0 a1 a2 a3 a4 d (fq_deleteFrom (fq_deleteFrom A0 (p1 >>> ((4 : Int32) &&& (31 : Int32))) (p1 &&& (15 : Int32))) (16 : Int32) (p1 >>> ((4 : Int32) &&& (31 : Int32)))) mi mi (ct - (1 : Int32))) H := hP
            have hD : va_D A (fq_wq h0 a1 a2 a3 a4 d (fq_deleteFrom (fq_deleteFrom A0 (p1 >>> ((4 : Int32) &&& (31 : Int32))) (p1 &&& (15 : Int32))) (16 : Int32) (p1 >>> ((4 : Int32) &&& (31 : Int32)))) mi mi (ct - (1 : Int32))) := hD
            refine lv_iconst (v := 1) hx hb dX0_delete_130 (by decide) ?_
            exact W.zret (v := (1 : Int32)) hx hb hr rfl (fun t ht hW => ⟨⟨(1 : Int32), ((fq_deleteFrom (fq_deleteFrom A0 (p1 >>> ((4 : Int32) &&& (31 : Int32))) (p1 &&& (15 : Int32))) (16 : Int32) (p1 >>> ((4 : Int32) &&& (31 : Int32)))), mi, mi, (ct - (1 : Int32))), rfl, ⟨by rw [fq_deleteR, if_neg c_5, if_neg c_27, if_neg c_64, if_neg c_86, if_neg c_106], by rw [fq_deleteU, if_neg c_5, if_neg c_27, if_neg c_64, if_neg c_86, if_neg c_106]⟩, (by rw [ht]; exact hP), va_K.moved hW.alike hK, hD⟩, hS.F ht⟩) hS.2.2 dX0_delete_131
    · skip
      refine lv_aload_n hx hb dX0_delete_30 rfl (lv_at hl 1 rfl) ?_
      refine va_get (D := (dC, dI)) (ci := 0) (v := .ref a1) (C := RX0) (T := TX0) (N := 7) hx hb hts in_X0 hown hK hP 0 rfl rfl 0 (by decide) (hts _ q22) (fun _ h9 => h9) rfl dX0_delete_31 ?_
      refine lv_bipush (v := 16) hx hb dX0_delete_34 (by decide) ?_
      have h_36 : vp_in (16 : Int32) 17 := fq_16
      refine va_bald (f := A0.1) hx hb hK hP 1 0 rfl rfl h_36 dX0_delete_36 ?_
      refine lv_istore_n (lv' := [(3, .int (A0.1 (16 : Int32).toNatClampNeg)), (2, .int p1), (0, .ref h0), (1, .int p1)]) hx hb dX0_delete_37 rfl hl (by decide) rfl (fun ls hl => ?_)
      refine lv_iload_n hx hb dX0_delete_38 rfl (lv_at hl 0 rfl) ?_
      refine lv_if_ge (tgt := 46) hx hb dX0_delete_39 (by decide) (fun c_39 => ?_) (fun c_39 => ?_)
      · skip
        refine lv_bipush (v := 16) hx hb dX0_delete_46 (by decide) ?_
        refine lv_iload_n hx hb dX0_delete_48 rfl (lv_at hl 0 rfl) ?_
        refine lv_imul hx hb dX0_delete_49 ?_
        refine lv_aload_n hx hb dX0_delete_50 rfl (lv_at hl 2 rfl) ?_
        refine va_get (D := (dC, dI)) (ci := 0) (v := .ref a1) (C := RX0) (T := TX0) (N := 7) hx hb hts in_X0 hown hK hP 0 rfl rfl 0 (by decide) (hts _ q22) (fun _ h9 => h9) rfl dX0_delete_51 ?_
        refine lv_iload_n hx hb dX0_delete_54 rfl (lv_at hl 0 rfl) ?_
        have h_55 : vp_in (A0.1 (16 : Int32).toNatClampNeg) 17 := fq_17 (fq_RI_in (fq_lo_RI hI) fq_16 c_39)
        refine va_bald (f := A0.1) hx hb hK hP 1 0 rfl rfl h_55 dX0_delete_55 ?_
        refine lv_iadd hx hb dX0_delete_56 ?_
        refine lv_istore_n (lv' := [(2, .int (((16 : Int32) * (A0.1 (16 : Int32).toNatClampNeg)) + (A0.1 (A0.1 (16 : Int32).toNatClampNeg).toNatClampNeg))), (3, .int (A0.1 (16 : Int32).toNatClampNeg)), (0, .ref h0), (1, .int p1)]) hx hb dX0_delete_57 rfl hl (by decide) rfl (fun ls hl => ?_)
        refine lv_aload_n hx hb dX0_delete_58 rfl (lv_at hl 2 rfl) ?_
        refine lv_iload_n hx hb dX0_delete_59 rfl (lv_at hl 0 rfl) ?_
        refine va_put (D := (dC, dI)) (ci := 0) (v := .int (((16 : Int32) * (A0.1 (16 : Int32).toNatClampNeg)) + (A0.1 (A0.1 (16 : Int32).toNatClampNeg).toNatClampNeg))) (ty := .int) (C := RX0) (T := TX0) (N := 7) hx hb hts in_X0 tyX0 tyX0_ok nmX0 hown hK hP hD hS 0 rfl rfl 4 (by decide) (hts _ q26) (fun _ h9 => h9) rfl (by decide +kernel) rfl rfl (Nat.le_of_ble_eq_true rfl) dX0_delete_60 (fun H locs hP hD hS => ?_)
        have hP : va_P (dC, dI) vwCl (fq_wq h0 a1 a2 a3 a4 d A0 (((16 : Int32) * (A0.1 (16 : Int32).toNatClampNeg)) + (A0.1 (A0.1 (16 : Int32).toNatClampNeg).toNatClampNeg)) mx (ct - (1 : Int32))) H := hP
        have hD : va_D A (fq_wq h0 a1 a2 a3 a4 d A0 (((16 : Int32) * (A0.1 (16 : Int32).toNatClampNeg)) + (A0.1 (A0.1 (16 : Int32).toNatClampNeg).toNatClampNeg)) mx (ct - (1 : Int32))) := hD
        refine lv_iload_n hx hb dX0_delete_63 rfl (lv_at hl 0 rfl) ?_
        refine lv_if_lt (tgt := 96) hx hb dX0_delete_64 (by decide) (fun c_64 => ?_) (fun c_64 => ?_)
        · skip
          refine lv_aload_n hx hb dX0_delete_96 rfl (lv_at hl 2 rfl) ?_
          refine va_get (D := (dC, dI)) (ci := 0) (v := .ref a2) (C := RX0) (T := TX0) (N := 7) hx hb hts in_X0 hown hK hP 0 rfl rfl 1 (by decide) (hts _ q23) (fun _ h9 => h9) rfl dX0_delete_97 ?_
          refine lv_bipush (v := 16) hx hb dX0_delete_100 (by decide) ?_
          have h_102 : vp_in (16 : Int32) 17 := fq_16
          refine va_bald (f := A0.2.1) hx hb hK hP 2 0 rfl rfl h_102 dX0_delete_102 ?_
          refine lv_istore_n (lv' := [(3, .int (A0.2.1 (16 : Int32).toNatClampNeg)), (2, .int (((16 : Int32) * (A0.1 (16 : Int32).toNatClampNeg)) + (A0.1 (A0.1 (16 : Int32).toNatClampNeg).toNatClampNeg))), (0, .ref h0), (1, .int p1)]) hx hb dX0_delete_103 rfl hl (by decide) rfl (fun ls hl => ?_)
          refine lv_aload_n hx hb dX0_delete_104 rfl (lv_at hl 2 rfl) ?_
          refine lv_iload_n hx hb dX0_delete_105 rfl (lv_at hl 0 rfl) ?_
          refine lv_if_ge (tgt := 116) hx hb dX0_delete_106 (by decide) (fun c_106 => ?_) (fun c_106 => ?_)
          · skip
            refine lv_bipush (v := 16) hx hb dX0_delete_116 (by decide) ?_
            refine lv_iload_n hx hb dX0_delete_118 rfl (lv_at hl 0 rfl) ?_
            refine lv_imul hx hb dX0_delete_119 ?_
            refine lv_aload_n hx hb dX0_delete_120 rfl (lv_at hl 2 rfl) ?_
            refine va_get (D := (dC, dI)) (ci := 0) (v := .ref a2) (C := RX0) (T := TX0) (N := 7) hx hb hts in_X0 hown hK hP 0 rfl rfl 1 (by decide) (hts _ q23) (fun _ h9 => h9) rfl dX0_delete_121 ?_
            refine lv_iload_n hx hb dX0_delete_124 rfl (lv_at hl 0 rfl) ?_
            have h_125 : vp_in (A0.2.1 (16 : Int32).toNatClampNeg) 17 := fq_17 (fq_RI_in (fq_hi_RI hI) fq_16 c_106)
            refine va_bald (f := A0.2.1) hx hb hK hP 2 0 rfl rfl h_125 dX0_delete_125 ?_
            refine lv_iadd hx hb dX0_delete_126 ?_
            refine va_put (D := (dC, dI)) (ci := 0) (v := .int (((16 : Int32) * (A0.2.1 (16 : Int32).toNatClampNeg)) + (A0.2.1 (A0.2.1 (16 : Int32).toNatClampNeg).toNatClampNeg))) (ty := .int) (C := RX0) (T := TX0) (N := 7) hx hb hts in_X0 tyX0 tyX0_ok nmX0 hown hK hP hD hS 0 rfl rfl 5 (by decide) (hts _ q27) (fun _ h9 => h9) rfl (by decide +kernel) rfl rfl (Nat.le_of_ble_eq_true rfl) dX0_delete_127 (fun H locs hP hD hS => ?_)
            have hP : va_P (dC, dI) vwCl (fq_wq h0 a1 a2 a3 a4 d A0 (((16 : Int32) * (A0.1 (16 : Int32).toNatClampNeg)) + (A0.1 (A0.1 (16 : Int32).toNatClampNeg).toNatClampNeg)) (((16 : Int32) * (A0.2.1 (16 : Int32).toNatClampNeg)) + (A0.2.1 (A0.2.1 (16 : Int32).toNatClampNeg).toNatClampNeg)) (ct - (1 : Int32))) H := hP
            have hD : va_D A (fq_wq h0 a1 a2 a3 a4 d A0 (((16 : Int32) * (A0.1 (16 : Int32).toNatClampNeg)) + (A0.1 (A0.1 (16 : Int32).toNatClampNeg).toNatClampNeg)) (((16 : Int32) * (A0.2.1 (16 : Int32).toNatClampNeg)) + (A0.2.1 (A0.2.1 (16 : Int32).toNatClampNeg).toNatClampNeg)) (ct - (1 : Int32))) := hD
            refine lv_iconst (v := 1) hx hb dX0_delete_130 (by decide) ?_
            exact W.zret (v := (1 : Int32)) hx hb hr rfl (fun t ht hW => ⟨⟨(1 : Int32), (A0, (((16 : Int32) * (A0.1 (16 : Int32).toNatClampNeg)) + (A0.1 (A0.1 (16 : Int32).toNatClampNeg).toNatClampNeg)), (((16 : Int32) * (A0.2.1 (16 : Int32).toNatClampNeg)) + (A0.2.1 (A0.2.1 (16 : Int32).toNatClampNeg).toNatClampNeg)), (ct - (1 : Int32))), rfl, ⟨by rw [fq_deleteR, if_neg c_5, if_pos c_27, if_pos c_39, if_pos c_64, if_pos c_106], by rw [fq_deleteU, if_neg c_5, if_pos c_27, if_pos c_39, if_pos c_64, if_pos c_106]⟩, (by rw [ht]; exact hP), va_K.moved hW.alike hK, hD⟩, hS.F ht⟩) hS.2.2 dX0_delete_131
          · skip
            refine lv_aload_n hx hb dX0_delete_109 rfl (lv_at hl 2 rfl) ?_
            refine va_get (D := (dC, dI)) (ci := 0) (v := .int (((16 : Int32) * (A0.1 (16 : Int32).toNatClampNeg)) + (A0.1 (A0.1 (16 : Int32).toNatClampNeg).toNatClampNeg))) (C := RX0) (T := TX0) (N := 7) hx hb hts in_X0 hown hK hP 0 rfl rfl 4 (by decide) (hts _ q26) (fun _ h9 => h9) rfl dX0_delete_110 ?_
            refine lv_goto (tgt := 127) hx hb dX0_delete_113 (by decide) ?_
            refine va_put (D := (dC, dI)) (ci := 0) (v := .int (((16 : Int32) * (A0.1 (16 : Int32).toNatClampNeg)) + (A0.1 (A0.1 (16 : Int32).toNatClampNeg).toNatClampNeg))) (ty := .int) (C := RX0) (T := TX0) (N := 7) hx hb hts in_X0 tyX0 tyX0_ok nmX0 hown hK hP hD hS 0 rfl rfl 5 (by decide) (hts _ q27) (fun _ h9 => h9) rfl (by decide +kernel) rfl rfl (Nat.le_of_ble_eq_true rfl) dX0_delete_127 (fun H locs hP hD hS => ?_)
            have hP : va_P (dC, dI) vwCl (fq_wq h0 a1 a2 a3 a4 d A0 (((16 : Int32) * (A0.1 (16 : Int32).toNatClampNeg)) + (A0.1 (A0.1 (16 : Int32).toNatClampNeg).toNatClampNeg)) (((16 : Int32) * (A0.1 (16 : Int32).toNatClampNeg)) + (A0.1 (A0.1 (16 : Int32).toNatClampNeg).toNatClampNeg)) (ct - (1 : Int32))) H := hP
            have hD : va_D A (fq_wq h0 a1 a2 a3 a4 d A0 (((16 : Int32) * (A0.1 (16 : Int32).toNatClampNeg)) + (A0.1 (A0.1 (16 : Int32).toNatClampNeg).toNatClampNeg)) (((16 : Int32) * (A0.1 (16 : Int32).toNatClampNeg)) + (A0.1 (A0.1 (16 : Int32).toNatClampNeg).toNatClampNeg)) (ct - (1 : Int32))) := hD
            refine lv_iconst (v := 1) hx hb dX0_delete_130 (by decide) ?_
            exact W.zret (v := (1 : Int32)) hx hb hr rfl (fun t ht hW => ⟨⟨(1 : Int32), (A0, (((16 : Int32) * (A0.1 (16 : Int32).toNatClampNeg)) + (A0.1 (A0.1 (16 : Int32).toNatClampNeg).toNatClampNeg)), (((16 : Int32) * (A0.1 (16 : Int32).toNatClampNeg)) + (A0.1 (A0.1 (16 : Int32).toNatClampNeg).toNatClampNeg)), (ct - (1 : Int32))), rfl, ⟨by rw [fq_deleteR, if_neg c_5, if_pos c_27, if_pos c_39, if_pos c_64, if_neg c_106], by rw [fq_deleteU, if_neg c_5, if_pos c_27, if_pos c_39, if_pos c_64, if_neg c_106]⟩, (by rw [ht]; exact hP), va_K.moved hW.alike hK, hD⟩, hS.F ht⟩) hS.2.2 dX0_delete_131
        · skip
          refine lv_iload_n hx hb dX0_delete_67 rfl (lv_at hl 0 rfl) ?_
          refine lv_iconst (v := 4) hx hb dX0_delete_68 (by decide) ?_
          refine lv_ishr hx hb dX0_delete_69 ?_
          refine lv_istore_n (lv' := [(3, .int ((((16 : Int32) * (A0.1 (16 : Int32).toNatClampNeg)) + (A0.1 (A0.1 (16 : Int32).toNatClampNeg).toNatClampNeg)) >>> ((4 : Int32) &&& (31 : Int32)))), (2, .int (((16 : Int32) * (A0.1 (16 : Int32).toNatClampNeg)) + (A0.1 (A0.1 (16 : Int32).toNatClampNeg).toNatClampNeg))), (0, .ref h0), (1, .int p1)]) hx hb dX0_delete_70 rfl hl (by decide) rfl (fun ls hl => ?_)
          refine lv_aload_n hx hb dX0_delete_71 rfl (lv_at hl 2 rfl) ?_
          refine lv_iload_n hx hb dX0_delete_72 rfl (lv_at hl 0 rfl) ?_
          refine lv_iload_n hx hb dX0_delete_73 rfl (lv_at hl 1 rfl) ?_
          refine lv_bipush (v := 15) hx hb dX0_delete_74 (by decide) ?_
          refine lv_iand hx hb dX0_delete_76 ?_
          have hFc := va_free (wc := fq_wq h0 a1 a2 a3 a4 d A0 (((16 : Int32) * (A0.1 (16 : Int32).toNatClampNeg)) + (A0.1 (A0.1 (16 : Int32).toNatClampNeg).toNatClampNeg)) mx (ct - (1 : Int32))) hD hS hA [0, 1, 2, 3, 4] rfl
          refine va_callv (va_runV (As := [.int ((((16 : Int32) * (A0.1 (16 : Int32).toNatClampNeg)) + (A0.1 (A0.1 (16 : Int32).toNatClampNeg).toNatClampNeg)) >>> ((4 : Int32) &&& (31 : Int32))), .int ((((16 : Int32) * (A0.1 (16 : Int32).toNatClampNeg)) + (A0.1 (A0.1 (16 : Int32).toNatClampNeg).toNatClampNeg)) &&& (15 : Int32))]) (rest := []) ⟨hx, hb, hml, hown, hts⟩ (fq_met_deleteFrom l dC dI h0 a1 a2 a3 a4 d H.size A0 (((16 : Int32) * (A0.1 (16 : Int32).toNatClampNeg)) + (A0.1 (A0.1 (16 : Int32).toNatClampNeg).toNatClampNeg)) mx (ct - (1 : Int32)) ((((16 : Int32) * (A0.1 (16 : Int32).toNatClampNeg)) + (A0.1 (A0.1 (16 : Int32).toNatClampNeg).toNatClampNeg)) >>> ((4 : Int32) &&& (31 : Int32))) ((((16 : Int32) * (A0.1 (16 : Int32).toNatClampNeg)) + (A0.1 (A0.1 (16 : Int32).toNatClampNeg).toNatClampNeg)) &&& (15 : Int32)) (fq_ix6 (fq_g_in (fq_lo_RI hI) c_39 c_64)) (fq_ix5 _)) (cwV 2 hts (lw_V q69 q71 qs3 q12 q72) rfl rfl rfl (by decide +kernel) ⟨Nat.le_of_ble_eq_true rfl, Nat.le_of_ble_eq_true rfl⟩) ⟨fq_blind, va_recv hK hP (ci := 0) (q0 := 0) rfl rfl, fun U hU hW => ⟨rfl, by rw [hU], by rw [hU]; exact hP, va_K.moved hW.alike hK, hD.weaken (fun _ _ _ _ => trivial)⟩⟩ rfl rfl hl.1 rfl (lv_room (Nat.le_of_ble_eq_true rfl)) dX0_delete_77 ⟨Nat.le_of_ble_eq_true rfl, Nat.le_of_ble_eq_true rfl⟩) hS (fun q _ h => hFc q h) hFc (fun u_77 t H1 locs ht hvm hw hB hz1 hk1 hS => ?_)
          have hw : u_77 = (fq_deleteFrom A0 ((((16 : Int32) * (A0.1 (16 : Int32).toNatClampNeg)) + (A0.1 (A0.1 (16 : Int32).toNatClampNeg).toNatClampNeg)) >>> ((4 : Int32) &&& (31 : Int32))) ((((16 : Int32) * (A0.1 (16 : Int32).toNatClampNeg)) + (A0.1 (A0.1 (16 : Int32).toNatClampNeg).toNatClampNeg)) &&& (15 : Int32))) := hw
          subst hw
          obtain ⟨hP1, hK1, hD1⟩ := hB
          rw [ht] at hP1
          have hP : va_P (dC, dI) vwCl (fq_wq h0 a1 a2 a3 a4 d (fq_deleteFrom A0 ((((16 : Int32) * (A0.1 (16 : Int32).toNatClampNeg)) + (A0.1 (A0.1 (16 : Int32).toNatClampNeg).toNatClampNeg)) >>> ((4 : Int32) &&& (31 : Int32))) ((((16 : Int32) * (A0.1 (16 : Int32).toNatClampNeg)) + (A0.1 (A0.1 (16 : Int32).toNatClampNeg).toNatClampNeg)) &&& (15 : Int32))) (((16 : Int32) * (A0.1 (16 : Int32).toNatClampNeg)) + (A0.1 (A0.1 (16 : Int32).toNatClampNeg).toNatClampNeg)) mx (ct - (1 : Int32))) H1 := hP1
          have hD : va_D A (fq_wq h0 a1 a2 a3 a4 d (fq_deleteFrom A0 ((((16 : Int32) * (A0.1 (16 : Int32).toNatClampNeg)) + (A0.1 (A0.1 (16 : Int32).toNatClampNeg).toNatClampNeg)) >>> ((4 : Int32) &&& (31 : Int32))) ((((16 : Int32) * (A0.1 (16 : Int32).toNatClampNeg)) + (A0.1 (A0.1 (16 : Int32).toNatClampNeg).toNatClampNeg)) &&& (15 : Int32))) (((16 : Int32) * (A0.1 (16 : Int32).toNatClampNeg)) + (A0.1 (A0.1 (16 : Int32).toNatClampNeg).toNatClampNeg)) mx (ct - (1 : Int32))) := hD1.weaken (fun _ _ _ h => hFc _ h)
          generalize H1 = H at hP hS ⊢
          refine lv_aload_n hx hb dX0_delete_80 rfl (lv_at hl 2 rfl) ?_
          refine va_get (D := (dC, dI)) (ci := 0) (v := .ref a1) (C := RX0) (T := TX0) (N := 7) hx hb hts in_X0 hown hK hP 0 rfl rfl 0 (by decide) (hts _ q22) (fun _ h9 => h9) rfl dX0_delete_81 ?_
          refine lv_iload_n hx hb dX0_delete_84 rfl (lv_at hl 0 rfl) ?_
          have h_85 : vp_in ((((16 : Int32) * (A0.1 (16 : Int32).toNatClampNeg)) + (A0.1 (A0.1 (16 : Int32).toNatClampNeg).toNatClampNeg)) >>> ((4 : Int32) &&& (31 : Int32))) 17 := fq_ix6 (fq_g_in (fq_lo_RI hI) c_39 c_64)
          refine va_bald (f := (fq_deleteFrom A0 ((((16 : Int32) * (A0.1 (16 : Int32).toNatClampNeg)) + (A0.1 (A0.1 (16 : Int32).toNatClampNeg).toNatClampNeg)) >>> ((4 : Int32) &&& (31 : Int32))) ((((16 : Int32) * (A0.1 (16 : Int32).toNatClampNeg)) + (A0.1 (A0.1 (16 : Int32).toNatClampNeg).toNatClampNeg)) &&& (15 : Int32))).1) hx hb hK hP 1 0 rfl rfl h_85 dX0_delete_85 ?_
          refine lv_if_ge (tgt := 96) hx hb dX0_delete_86 (by decide) (fun c_86 => ?_) (fun c_86 => ?_)
          · skip
            refine lv_aload_n hx hb dX0_delete_96 rfl (lv_at hl 2 rfl) ?_
            refine va_get (D := (dC, dI)) (ci := 0) (v := .ref a2) (C := RX0) (T := TX0) (N := 7) hx hb hts in_X0 hown hK hP 0 rfl rfl 1 (by decide) (hts _ q23) (fun _ h9 => h9) rfl dX0_delete_97 ?_
            refine lv_bipush (v := 16) hx hb dX0_delete_100 (by decide) ?_
            have h_102 : vp_in (16 : Int32) 17 := fq_16
            refine va_bald (f := (fq_deleteFrom A0 ((((16 : Int32) * (A0.1 (16 : Int32).toNatClampNeg)) + (A0.1 (A0.1 (16 : Int32).toNatClampNeg).toNatClampNeg)) >>> ((4 : Int32) &&& (31 : Int32))) ((((16 : Int32) * (A0.1 (16 : Int32).toNatClampNeg)) + (A0.1 (A0.1 (16 : Int32).toNatClampNeg).toNatClampNeg)) &&& (15 : Int32))).2.1) hx hb hK hP 2 0 rfl rfl h_102 dX0_delete_102 ?_
            refine lv_istore_n (lv' := [(3, .int (((fq_deleteFrom A0 ((((16 : Int32) * (A0.1 (16 : Int32).toNatClampNeg)) + (A0.1 (A0.1 (16 : Int32).toNatClampNeg).toNatClampNeg)) >>> ((4 : Int32) &&& (31 : Int32))) ((((16 : Int32) * (A0.1 (16 : Int32).toNatClampNeg)) + (A0.1 (A0.1 (16 : Int32).toNatClampNeg).toNatClampNeg)) &&& (15 : Int32))).2.1) (16 : Int32).toNatClampNeg)), (2, .int (((16 : Int32) * (A0.1 (16 : Int32).toNatClampNeg)) + (A0.1 (A0.1 (16 : Int32).toNatClampNeg).toNatClampNeg))), (0, .ref h0), (1, .int p1)]) hx hb dX0_delete_103 rfl hl (by decide) rfl (fun ls hl => ?_)
            refine lv_aload_n hx hb dX0_delete_104 rfl (lv_at hl 2 rfl) ?_
            refine lv_iload_n hx hb dX0_delete_105 rfl (lv_at hl 0 rfl) ?_
            refine lv_if_ge (tgt := 116) hx hb dX0_delete_106 (by decide) (fun c_106 => ?_) (fun c_106 => ?_)
            · skip
              refine lv_bipush (v := 16) hx hb dX0_delete_116 (by decide) ?_
              refine lv_iload_n hx hb dX0_delete_118 rfl (lv_at hl 0 rfl) ?_
              refine lv_imul hx hb dX0_delete_119 ?_
              refine lv_aload_n hx hb dX0_delete_120 rfl (lv_at hl 2 rfl) ?_
              refine va_get (D := (dC, dI)) (ci := 0) (v := .ref a2) (C := RX0) (T := TX0) (N := 7) hx hb hts in_X0 hown hK hP 0 rfl rfl 1 (by decide) (hts _ q23) (fun _ h9 => h9) rfl dX0_delete_121 ?_
              refine lv_iload_n hx hb dX0_delete_124 rfl (lv_at hl 0 rfl) ?_
              have h_125 : vp_in (((fq_deleteFrom A0 ((((16 : Int32) * (A0.1 (16 : Int32).toNatClampNeg)) + (A0.1 (A0.1 (16 : Int32).toNatClampNeg).toNatClampNeg)) >>> ((4 : Int32) &&& (31 : Int32))) ((((16 : Int32) * (A0.1 (16 : Int32).toNatClampNeg)) + (A0.1 (A0.1 (16 : Int32).toNatClampNeg).toNatClampNeg)) &&& (15 : Int32))).2.1) (16 : Int32).toNatClampNeg) 17 := fq_17 (fq_RI_in (fq_RI_del (fq_RIs hI) (fq_ix6 (fq_g_in (fq_lo_RI hI) c_39 c_64)) (fq_ix5 _)).2 fq_16 c_106)
              refine va_bald (f := (fq_deleteFrom A0 ((((16 : Int32) * (A0.1 (16 : Int32).toNatClampNeg)) + (A0.1 (A0.1 (16 : Int32).toNatClampNeg).toNatClampNeg)) >>> ((4 : Int32) &&& (31 : Int32))) ((((16 : Int32) * (A0.1 (16 : Int32).toNatClampNeg)) + (A0.1 (A0.1 (16 : Int32).toNatClampNeg).toNatClampNeg)) &&& (15 : Int32))).2.1) hx hb hK hP 2 0 rfl rfl h_125 dX0_delete_125 ?_
              refine lv_iadd hx hb dX0_delete_126 ?_
              refine va_put (D := (dC, dI)) (ci := 0) (v := .int (((16 : Int32) * (((fq_deleteFrom A0 ((((16 : Int32) * (A0.1 (16 : Int32).toNatClampNeg)) + (A0.1 (A0.1 (16 : Int32).toNatClampNeg).toNatClampNeg)) >>> ((4 : Int32) &&& (31 : Int32))) ((((16 : Int32) * (A0.1 (16 : Int32).toNatClampNeg)) + (A0.1 (A0.1 (16 : Int32).toNatClampNeg).toNatClampNeg)) &&& (15 : Int32))).2.1) (16 : Int32).toNatClampNeg)) + (((fq_deleteFrom A0 ((((16 : Int32) * (A0.1 (16 : Int32).toNatClampNeg)) + (A0.1 (A0.1 (16 : Int32).toNatClampNeg).toNatClampNeg)) >>> ((4 : Int32) &&& (31 : Int32))) ((((16 : Int32) * (A0.1 (16 : Int32).toNatClampNeg)) + (A0.1 (A0.1 (16 : Int32).toNatClampNeg).toNatClampNeg)) &&& (15 : Int32))).2.1) (((fq_deleteFrom A0 ((((16 : Int32) * (A0.1 (16 : Int32).toNatClampNeg)) + (A0.1 (A0.1 (16 : Int32).toNatClampNeg).toNatClampNeg)) >>> ((4 : Int32) &&& (31 : Int32))) ((((16 : Int32) * (A0.1 (16 : Int32).toNatClampNeg)) + (A0.1 (A0.1 (16 : Int32).toNatClampNeg).toNatClampNeg)) &&& (15 : Int32))).2.1) (16 : Int32).toNatClampNeg).toNatClampNeg))) (ty := .int) (C := RX0) (T := TX0) (N := 7) hx hb hts in_X0 tyX0 tyX0_ok nmX0 hown hK hP hD hS 0 rfl rfl 5 (by decide) (hts _ q27) (fun _ h9 => h9) rfl (by decide +kernel) rfl rfl (Nat.le_of_ble_eq_true rfl) dX0_delete_127 (fun H locs hP hD hS => ?_)
              have hP : va_P (dC, dI) vwCl (fq_wq h0 a1 a2 a3 a4 d (fq_deleteFrom A0 ((((16 : Int32) * (A0.1 (16 : Int32).toNatClampNeg)) + (A0.1 (A0.1 (16 : Int32).toNatClampNeg).toNatClampNeg)) >>> ((4 : Int32) &&& (31 : Int32))) ((((16 : Int32) * (A0.1 (16 : Int32).toNatClampNeg)) + (A0.1 (A0.1 (16 : Int32).toNatClampNeg).toNatClampNeg)) &&& (15 : Int32))) (((16 : Int32) * (A0.1 (16 : Int32).toNatClampNeg)) + (A0.1 (A0.1 (16 : Int32).toNatClampNeg).toNatClampNeg)) (((16 : Int32) * (((fq_deleteFrom A0 ((((16 : Int32) * (A0.1 (16 : Int32).toNatClampNeg)) + (A0.1 (A0.1 (16 : Int32).toNatClampNeg).toNatClampNeg)) >>> ((4 : Int32) &&& (31 : Int32))) ((((16 : Int32) * (A0.1 (16 : Int32).toNatClampNeg)) + (A0.1 (A0.1 (16 : Int32).toNatClampNeg).toNatClampNeg)) &&& (15 : Int32))).2.1) (16 : Int32).toNatClampNeg)) + (((fq_deleteFrom A0 ((((16 : Int32) * (A0.1 (16 : Int32).toNatClampNeg)) + (A0.1 (A0.1 (16 : Int32).toNatClampNeg).toNatClampNeg)) >>> ((4 : Int32) &&& (31 : Int32))) ((((16 : Int32) * (A0.1 (16 : Int32).toNatClampNeg)) + (A0.1 (A0.1 (16 : Int32).toNatClampNeg).toNatClampNeg)) &&& (15 : Int32))).2.1) (((fq_deleteFrom A0 ((((16 : Int32) * (A0.1 (16 : Int32).toNatClampNeg)) + (A0.1 (A0.1 (16 : Int32).toNatClampNeg).toNatClampNeg)) >>> ((4 : Int32) &&& (31 : Int32))) ((((16 : Int32) * (A0.1 (16 : Int32).toNatClampNeg)) + (A0.1 (A0.1 (16 : Int32).toNatClampNeg).toNatClampNeg)) &&& (15 : Int32))).2.1) (16 : Int32).toNatClampNeg).toNatClampNeg)) (ct - (1 : Int32))) H := hP
              have hD : va_D A (fq_wq h0 a1 a2 a3 a4 d (fq_deleteFrom A0 ((((16 : Int32) * (A0.1 (16 : Int32).toNatClampNeg)) + (A0.1 (A0.1 (16 : Int32).toNatClampNeg).toNatClampNeg)) >>> ((4 : Int32) &&& (31 : Int32))) ((((16 : Int32) * (A0.1 (16 : Int32).toNatClampNeg)) + (A0.1 (A0.1 (16 : Int32).toNatClampNeg).toNatClampNeg)) &&& (15 : Int32))) (((16 : Int32) * (A0.1 (16 : Int32).toNatClampNeg)) + (A0.1 (A0.1 (16 : Int32).toNatClampNeg).toNatClampNeg)) (((16 : Int32) * (((fq_deleteFrom A0 ((((16 : Int32) * (A0.1 (16 : Int32).toNatClampNeg)) + (A0.1 (A0.1 (16 : Int32).toNatClampNeg).toNatClampNeg)) >>> ((4 : Int32) &&& (31 : Int32))) ((((16 : Int32) * (A0.1 (16 : Int32).toNatClampNeg)) + (A0.1 (A0.1 (16 : Int32).toNatClampNeg).toNatClampNeg)) &&& (15 : Int32))).2.1) (16 : Int32).toNatClampNeg)) + (((fq_deleteFrom A0 ((((16 : Int32) * (A0.1 (16 : Int32).toNatClampNeg)) + (A0.1 (A0.1 (16 : Int32).toNatClampNeg).toNatClampNeg)) >>> ((4 : Int32) &&& (31 : Int32))) ((((16 : Int32) * (A0.1 (16 : Int32).toNatClampNeg)) + (A0.1 (A0.1 (16 : Int32).toNatClampNeg).toNatClampNeg)) &&& (15 : Int32))).2.1) (((fq_deleteFrom A0 ((((16 : Int32) * (A0.1 (16 : Int32).toNatClampNeg)) + (A0.1 (A0.1 (16 : Int32).toNatClampNeg).toNatClampNeg)) >>> ((4 : Int32) &&& (31 : Int32))) ((((16 : Int32) * (A0.1 (16 : Int32).toNatClampNeg)) + (A0.1 (A0.1 (16 : Int32).toNatClampNeg).toNatClampNeg)) &&& (15 : Int32))).2.1) (16 : Int32).toNatClampNeg).toNatClampNeg)) (ct - (1 : Int32))) := hD
              refine lv_iconst (v := 1) hx hb dX0_delete_130 (by decide) ?_
              exact W.zret (v := (1 : Int32)) hx hb hr rfl (fun t ht hW => ⟨⟨(1 : Int32), ((fq_deleteFrom A0 ((((16 : Int32) * (A0.1 (16 : Int32).toNatClampNeg)) + (A0.1 (A0.1 (16 : Int32).toNatClampNeg).toNatClampNeg)) >>> ((4 : Int32) &&& (31 : Int32))) ((((16 : Int32) * (A0.1 (16 : Int32).toNatClampNeg)) + (A0.1 (A0.1 (16 : Int32).toNatClampNeg).toNatClampNeg)) &&& (15 : Int32))), (((16 : Int32) * (A0.1 (16 : Int32).toNatClampNeg)) + (A0.1 (A0.1 (16 : Int32).toNatClampNeg).toNatClampNeg)), (((16 : Int32) * (((fq_deleteFrom A0 ((((16 : Int32) * (A0.1 (16 : Int32).toNatClampNeg)) + (A0.1 (A0.1 (16 : Int32).toNatClampNeg).toNatClampNeg)) >>> ((4 : Int32) &&& (31 : Int32))) ((((16 : Int32) * (A0.1 (16 : Int32).toNatClampNeg)) + (A0.1 (A0.1 (16 : Int32).toNatClampNeg).toNatClampNeg)) &&& (15 : Int32))).2.1) (16 : Int32).toNatClampNeg)) + (((fq_deleteFrom A0 ((((16 : Int32) * (A0.1 (16 : Int32).toNatClampNeg)) + (A0.1 (A0.1 (16 : Int32).toNatClampNeg).toNatClampNeg)) >>> ((4 : Int32) &&& (31 : Int32))) ((((16 : Int32) * (A0.1 (16 : Int32).toNatClampNeg)) + (A0.1 (A0.1 (16 : Int32).toNatClampNeg).toNatClampNeg)) &&& (15 : Int32))).2.1) (((fq_deleteFrom A0 ((((16 : Int32) * (A0.1 (16 : Int32).toNatClampNeg)) + (A0.1 (A0.1 (16 : Int32).toNatClampNeg).toNatClampNeg)) >>> ((4 : Int32) &&& (31 : Int32))) ((((16 : Int32) * (A0.1 (16 : Int32).toNatClampNeg)) + (A0.1 (A0.1 (16 : Int32).toNatClampNeg).toNatClampNeg)) &&& (15 : Int32))).2.1) (16 : Int32).toNatClampNeg).toNatClampNeg)), (ct - (1 : Int32))), rfl, ⟨by rw [fq_deleteR, if_neg c_5, if_pos c_27, if_pos c_39, if_neg c_64, if_pos c_86, if_pos c_106], by rw [fq_deleteU, if_neg c_5, if_pos c_27, if_pos c_39, if_neg c_64, if_pos c_86, if_pos c_106]⟩, (by rw [ht]; exact hP), va_K.moved hW.alike hK, hD⟩, hS.F ht⟩) hS.2.2 dX0_delete_131
            · skip
              refine lv_aload_n hx hb dX0_delete_109 rfl (lv_at hl 2 rfl) ?_
              refine va_get (D := (dC, dI)) (ci := 0) (v := .int (((16 : Int32) * (A0.1 (16 : Int32).toNatClampNeg)) + (A0.1 (A0.1 (16 : Int32).toNatClampNeg).toNatClampNeg))) (C := RX0) (T := TX0) (N := 7) hx hb hts in_X0 hown hK hP 0 rfl rfl 4 (by decide) (hts _ q26) (fun _ h9 => h9) rfl dX0_delete_110 ?_
              refine lv_goto (tgt := 127) hx hb dX0_delete_113 (by decide) ?_
              refine va_put (D := (dC, dI)) (ci := 0) (v := .int (((16 : Int32) * (A0.1 (16 : Int32).toNatClampNeg)) + (A0.1 (A0.1 (16 : Int32).toNatClampNeg).toNatClampNeg))) (ty := .int) (C := RX0) (T := TX0) (N := 7) hx hb hts in_X0 tyX0 tyX0_ok nmX0 hown hK hP hD hS 0 rfl rfl 5 (by decide) (hts _ q27) (fun _ h9 => h9) rfl (by decide +kernel) rfl rfl (Nat.le_of_ble_eq_true rfl) dX0_delete_127 (fun H locs hP hD hS => ?_)
              have hP : va_P (dC, dI) vwCl (fq_wq h0 a1 a2 a3 a4 d (fq_deleteFrom A0 ((((16 : Int32) * (A0.1 (16 : Int32).toNatClampNeg)) + (A0.1 (A0.1 (16 : Int32).toNatClampNeg).toNatClampNeg)) >>> ((4 : Int32) &&& (31 : Int32))) ((((16 : Int32) * (A0.1 (16 : Int32).toNatClampNeg)) + (A0.1 (A0.1 (16 : Int32).toNatClampNeg).toNatClampNeg)) &&& (15 : Int32))) (((16 : Int32) * (A0.1 (16 : Int32).toNatClampNeg)) + (A0.1 (A0.1 (16 : Int32).toNatClampNeg).toNatClampNeg)) (((16 : Int32) * (A0.1 (16 : Int32).toNatClampNeg)) + (A0.1 (A0.1 (16 : Int32).toNatClampNeg).toNatClampNeg)) (ct - (1 : Int32))) H := hP
              have hD : va_D A (fq_wq h0 a1 a2 a3 a4 d (fq_deleteFrom A0 ((((16 : Int32) * (A0.1 (16 : Int32).toNatClampNeg)) + (A0.1 (A0.1 (16 : Int32).toNatClampNeg).toNatClampNeg)) >>> ((4 : Int32) &&& (31 : Int32))) ((((16 : Int32) * (A0.1 (16 : Int32).toNatClampNeg)) + (A0.1 (A0.1 (16 : Int32).toNatClampNeg).toNatClampNeg)) &&& (15 : Int32))) (((16 : Int32) * (A0.1 (16 : Int32).toNatClampNeg)) + (A0.1 (A0.1 (16 : Int32).toNatClampNeg).toNatClampNeg)) (((16 : Int32) * (A0.1 (16 : Int32).toNatClampNeg)) + (A0.1 (A0.1 (16 : Int32).toNatClampNeg).toNatClampNeg)) (ct - (1 : Int32))) := hD
              refine lv_iconst (v := 1) hx hb dX0_delete_130 (by decide) ?_
              exact W.zret (v := (1 : Int32)) hx hb hr rfl (fun t ht hW => ⟨⟨(1 : Int32), ((fq_deleteFrom A0 ((((16 : Int32) * (A0.1 (16 : Int32).toNatClampNeg)) + (A0.1 (A0.1 (16 : Int32).toNatClampNeg).toNatClampNeg)) >>> ((4 : Int32) &&& (31 : Int32))) ((((16 : Int32) * (A0.1 (16 : Int32).toNatClampNeg)) + (A0.1 (A0.1 (16 : Int32).toNatClampNeg).toNatClampNeg)) &&& (15 : Int32))), (((16 : Int32) * (A0.1 (16 : Int32).toNatClampNeg)) + (A0.1 (A0.1 (16 : Int32).toNatClampNeg).toNatClampNeg)), (((16 : Int32) * (A0.1 (16 : Int32).toNatClampNeg)) + (A0.1 (A0.1 (16 : Int32).toNatClampNeg).toNatClampNeg)), (ct - (1 : Int32))), rfl, ⟨by rw [fq_deleteR, if_neg c_5, if_pos c_27, if_pos c_39, if_neg c_64, if_pos c_86, if_neg c_106], by rw [fq_deleteU, if_neg c_5, if_pos c_27, if_pos c_39, if_neg c_64, if_pos c_86, if_neg c_106]⟩, (by rw [ht]; exact hP), va_K.moved hW.alike hK, hD⟩, hS.F ht⟩) hS.2.2 dX0_delete_131
          · skip
            refine lv_aload_n hx hb dX0_delete_89 rfl (lv_at hl 2 rfl) ?_
            refine lv_bipush (v := 16) hx hb dX0_delete_90 (by decide) ?_
            refine lv_iload_n hx hb dX0_delete_92 rfl (lv_at hl 0 rfl) ?_
            have hFc := va_free (wc := fq_wq h0 a1 a2 a3 a4 d (fq_deleteFrom A0 ((((16 : Int32) * (A0.1 (16 : Int32).toNatClampNeg)) + (A0.1 (A0.1 (16 : Int32).toNatClampNeg).toNatClampNeg)) >>> ((4 : Int32) &&& (31 : Int32))) ((((16 : Int32) * (A0.1 (16 : Int32).toNatClampNeg)) + (A0.1 (A0.1 (16 : Int32).toNatClampNeg).toNatClampNeg)) &&& (15 : Int32))) (((16 : Int32) * (A0.1 (16 : Int32).toNatClampNeg)) + (A0.1 (A0.1 (16 : Int32).toNatClampNeg).toNatClampNeg)) mx (ct - (1 : Int32))) hD hS hA [0, 1, 2, 3, 4] rfl
            refine va_callv (va_runV (As := [.int (16 : Int32), .int ((((16 : Int32) * (A0.1 (16 : Int32).toNatClampNeg)) + (A0.1 (A0.1 (16 : Int32).toNatClampNeg).toNatClampNeg)) >>> ((4 : Int32) &&& (31 : Int32)))]) (rest := []) ⟨hx, hb, hml, hown, hts⟩ (fq_met_deleteFrom l dC dI h0 a1 a2 a3 a4 d H.size (fq_deleteFrom A0 ((((16 : Int32) * (A0.1 (16 : Int32).toNatClampNeg)) + (A0.1 (A0.1 (16 : Int32).toNatClampNeg).toNatClampNeg)) >>> ((4 : Int32) &&& (31 : Int32))) ((((16 : Int32) * (A0.1 (16 : Int32).toNatClampNeg)) + (A0.1 (A0.1 (16 : Int32).toNatClampNeg).toNatClampNeg)) &&& (15 : Int32))) (((16 : Int32) * (A0.1 (16 : Int32).toNatClampNeg)) + (A0.1 (A0.1 (16 : Int32).toNatClampNeg).toNatClampNeg)) mx (ct - (1 : Int32)) (16 : Int32) ((((16 : Int32) * (A0.1 (16 : Int32).toNatClampNeg)) + (A0.1 (A0.1 (16 : Int32).toNatClampNeg).toNatClampNeg)) >>> ((4 : Int32) &&& (31 : Int32))) fq_16 (fq_ix7 (fq_g_in (fq_lo_RI hI) c_39 c_64))) (cwV 2 hts (lw_V q69 q71 qs3 q12 q72) rfl rfl rfl (by decide +kernel) ⟨Nat.le_of_ble_eq_true rfl, Nat.le_of_ble_eq_true rfl⟩) ⟨fq_blind, va_recv hK hP (ci := 0) (q0 := 0) rfl rfl, fun U hU hW => ⟨rfl, by rw [hU], by rw [hU]; exact hP, va_K.moved hW.alike hK, hD.weaken (fun _ _ _ _ => trivial)⟩⟩ rfl rfl hl.1 rfl (lv_room (Nat.le_of_ble_eq_true rfl)) dX0_delete_93 ⟨Nat.le_of_ble_eq_true rfl, Nat.le_of_ble_eq_true rfl⟩) hS (fun q _ h => hFc q h) hFc (fun u_93 t H1 locs ht hvm hw hB hz1 hk1 hS => ?_)
            have hw : u_93 = (fq_deleteFrom (fq_deleteFrom A0 ((((16 : Int32) * (A0.1 (16 : Int32).toNatClampNeg)) + (A0.1 (A0.1 (16 : Int32).toNatClampNeg).toNatClampNeg)) >>> ((4 : Int32) &&& (31 : Int32))) ((((16 : Int32) * (A0.1 (16 : Int32).toNatClampNeg)) + (A0.1 (A0.1 (16 : Int32).toNatClampNeg).toNatClampNeg)) &&& (15 : Int32))) (16 : Int32) ((((16 : Int32) * (A0.1 (16 : Int32).toNatClampNeg)) + (A0.1 (A0.1 (16 : Int32).toNatClampNeg).toNatClampNeg)) >>> ((4 : Int32) &&& (31 : Int32)))) := hw
            subst hw
            obtain ⟨hP1, hK1, hD1⟩ := hB
            rw [ht] at hP1
            have hP : va_P (dC, dI) vwCl (fq_wq h0 a1 a2 a3 a4 d (fq_deleteFrom (fq_deleteFrom A0 ((((16 : Int32) * (A0.1 (16 : Int32).toNatClampNeg)) + (A0.1 (A0.1 (16 : Int32).toNatClampNeg).toNatClampNeg)) >>> ((4 : Int32) &&& (31 : Int32))) ((((16 : Int32) * (A0.1 (16 : Int32).toNatClampNeg)) + (A0.1 (A0.1 (16 : Int32).toNatClampNeg).toNatClampNeg)) &&& (15 : Int32))) (16 : Int32) ((((16 : Int32) * (A0.1 (16 : Int32).toNatClampNeg)) + (A0.1 (A0.1 (16 : Int32).toNatClampNeg).toNatClampNeg)) >>> ((4 : Int32) &&& (31 : Int32)))) (((16 : Int32) * (A0.1 (16 : Int32).toNatClampNeg)) + (A0.1 (A0.1 (16 : Int32).toNatClampNeg).toNatClampNeg)) mx (ct - (1 : Int32))) H1 := hP1
            have hD : va_D A (fq_wq h0 a1 a2 a3 a4 d (fq_deleteFrom (fq_deleteFrom A0 ((((16 : Int32) * (A0.1 (16 : Int32).toNatClampNeg)) + (A0.1 (A0.1 (16 : Int32).toNatClampNeg).toNatClampNeg)) >>> ((4 : Int32) &&& (31 : Int32))) ((((16 : Int32) * (A0.1 (16 : Int32).toNatClampNeg)) + (A0.1 (A0.1 (16 : Int32).toNatClampNeg).toNatClampNeg)) &&& (15 : Int32))) (16 : Int32) ((((16 : Int32) * (A0.1 (16 : Int32).toNatClampNeg)) + (A0.1 (A0.1 (16 : Int32).toNatClampNeg).toNatClampNeg)) >>> ((4 : Int32) &&& (31 : Int32)))) (((16 : Int32) * (A0.1 (16 : Int32).toNatClampNeg)) + (A0.1 (A0.1 (16 : Int32).toNatClampNeg).toNatClampNeg)) mx (ct - (1 : Int32))) := hD1.weaken (fun _ _ _ h => hFc _ h)
            generalize H1 = H at hP hS ⊢
            refine lv_aload_n hx hb dX0_delete_96 rfl (lv_at hl 2 rfl) ?_
            refine va_get (D := (dC, dI)) (ci := 0) (v := .ref a2) (C := RX0) (T := TX0) (N := 7) hx hb hts in_X0 hown hK hP 0 rfl rfl 1 (by decide) (hts _ q23) (fun _ h9 => h9) rfl dX0_delete_97 ?_
            refine lv_bipush (v := 16) hx hb dX0_delete_100 (by decide) ?_
            have h_102 : vp_in (16 : Int32) 17 := fq_16
            refine va_bald (f := (fq_deleteFrom (fq_deleteFrom A0 ((((16 : Int32) * (A0.1 (16 : Int32).toNatClampNeg)) + (A0.1 (A0.1 (16 : Int32).toNatClampNeg).toNatClampNeg)) >>> ((4 : Int32) &&& (31 : Int32))) ((((16 : Int32) * (A0.1 (16 : Int32).toNatClampNeg)) + (A0.1 (A0.1 (16 : Int32).toNatClampNeg).toNatClampNeg)) &&& (15 : Int32))) (16 : Int32) ((((16 : Int32) * (A0.1 (16 : Int32).toNatClampNeg)) + (A0.1 (A0.1 (16 : Int32).toNatClampNeg).toNatClampNeg)) >>> ((4 : Int32) &&& (31 : Int32)))).2.1) hx hb hK hP 2 0 rfl rfl h_102 dX0_delete_102 ?_
            refine lv_istore_n (lv' := [(3, .int (((fq_deleteFrom (fq_deleteFrom A0 ((((16 : Int32) * (A0.1 (16 : Int32).toNatClampNeg)) + (A0.1 (A0.1 (16 : Int32).toNatClampNeg).toNatClampNeg)) >>> ((4 : Int32) &&& (31 : Int32))) ((((16 : Int32) * (A0.1 (16 : Int32).toNatClampNeg)) + (A0.1 (A0.1 (16 : Int32).toNatClampNeg).toNatClampNeg)) &&& (15 : Int32))) (16 : Int32) ((((16 : Int32) * (A0.1 (16 : Int32).toNatClampNeg)) + (A0.1 (A0.1 (16 : Int32).toNatClampNeg).toNatClampNeg)) >>> ((4 : Int32) &&& (31 : Int32)))).2.1) (16 : Int32).toNatClampNeg)), (2, .int (((16 : Int32) * (A0.1 (16 : Int32).toNatClampNeg)) + (A0.1 (A0.1 (16 : Int32).toNatClampNeg).toNatClampNeg))), (0, .ref h0), (1, .int p1)]) hx hb dX0_delete_103 rfl hl (by decide) rfl (fun ls hl => ?_)
            refine lv_aload_n hx hb dX0_delete_104 rfl (lv_at hl 2 rfl) ?_
            refine lv_iload_n hx hb dX0_delete_105 rfl (lv_at hl 0 rfl) ?_
            refine lv_if_ge (tgt := 116) hx hb dX0_delete_106 (by decide) (fun c_106 => ?_) (fun c_106 => ?_)
            · skip
              refine lv_bipush (v := 16) hx hb dX0_delete_116 (by decide) ?_
              refine lv_iload_n hx hb dX0_delete_118 rfl (lv_at hl 0 rfl) ?_
              refine lv_imul hx hb dX0_delete_119 ?_
              refine lv_aload_n hx hb dX0_delete_120 rfl (lv_at hl 2 rfl) ?_
              refine va_get (D := (dC, dI)) (ci := 0) (v := .ref a2) (C := RX0) (T := TX0) (N := 7) hx hb hts in_X0 hown hK hP 0 rfl rfl 1 (by decide) (hts _ q23) (fun _ h9 => h9) rfl dX0_delete_121 ?_
              refine lv_iload_n hx hb dX0_delete_124 rfl (lv_at hl 0 rfl) ?_
              have h_125 : vp_in (((fq_deleteFrom (fq_deleteFrom A0 ((((16 : Int32) * (A0.1 (16 : Int32).toNatClampNeg)) + (A0.1 (A0.1 (16 : Int32).toNatClampNeg).toNatClampNeg)) >>> ((4 : Int32) &&& (31 : Int32))) ((((16 : Int32) * (A0.1 (16 : Int32).toNatClampNeg)) + (A0.1 (A0.1 (16 : Int32).toNatClampNeg).toNatClampNeg)) &&& (15 : Int32))) (16 : Int32) ((((16 : Int32) * (A0.1 (16 : Int32).toNatClampNeg)) + (A0.1 (A0.1 (16 : Int32).toNatClampNeg).toNatClampNeg)) >>> ((4 : Int32) &&& (31 : Int32)))).2.1) (16 : Int32).toNatClampNeg) 17 := fq_17 (fq_RI_in (fq_RI_del (fq_RI_del (fq_RIs hI) (fq_ix6 (fq_g_in (fq_lo_RI hI) c_39 c_64)) (fq_ix5 _)) fq_16 (fq_ix7 (fq_g_in (fq_lo_RI hI) c_39 c_64))).2 fq_16 c_106)
              refine va_bald (f := (fq_deleteFrom (fq_deleteFrom A0 ((((16 : Int32) * (A0.1 (16 : Int32).toNatClampNeg)) + (A0.1 (A0.1 (16 : Int32).toNatClampNeg).toNatClampNeg)) >>> ((4 : Int32) &&& (31 : Int32))) ((((16 : Int32) * (A0.1 (16 : Int32).toNatClampNeg)) + (A0.1 (A0.1 (16 : Int32).toNatClampNeg).toNatClampNeg)) &&& (15 : Int32))) (16 : Int32) ((((16 : Int32) * (A0.1 (16 : Int32).toNatClampNeg)) + (A0.1 (A0.1 (16 : Int32).toNatClampNeg).toNatClampNeg)) >>> ((4 : Int32) &&& (31 : Int32)))).2.1) hx hb hK hP 2 0 rfl rfl h_125 dX0_delete_125 ?_
              refine lv_iadd hx hb dX0_delete_126 ?_
              refine va_put (D := (dC, dI)) (ci := 0) (v := .int (((16 : Int32) * (((fq_deleteFrom (fq_deleteFrom A0 ((((16 : Int32) * (A0.1 (16 : Int32).toNatClampNeg)) + (A0.1 (A0.1 (16 : Int32).toNatClampNeg).toNatClampNeg)) >>> ((4 : Int32) &&& (31 : Int32))) ((((16 : Int32) * (A0.1 (16 : Int32).toNatClampNeg)) + (A0.1 (A0.1 (16 : Int32).toNatClampNeg).toNatClampNeg)) &&& (15 : Int32))) (16 : Int32) ((((16 : Int32) * (A0.1 (16 : Int32).toNatClampNeg)) + (A0.1 (A0.1 (16 : Int32).toNatClampNeg).toNatClampNeg)) >>> ((4 : Int32) &&& (31 : Int32)))).2.1) (16 : Int32).toNatClampNeg)) + (((fq_deleteFrom (fq_deleteFrom A0 ((((16 : Int32) * (A0.1 (16 : Int32).toNatClampNeg)) + (A0.1 (A0.1 (16 : Int32).toNatClampNeg).toNatClampNeg)) >>> ((4 : Int32) &&& (31 : Int32))) ((((16 : Int32) * (A0.1 (16 : Int32).toNatClampNeg)) + (A0.1 (A0.1 (16 : Int32).toNatClampNeg).toNatClampNeg)) &&& (15 : Int32))) (16 : Int32) ((((16 : Int32) * (A0.1 (16 : Int32).toNatClampNeg)) + (A0.1 (A0.1 (16 : Int32).toNatClampNeg).toNatClampNeg)) >>> ((4 : Int32) &&& (31 : Int32)))).2.1) (((fq_deleteFrom (fq_deleteFrom A0 ((((16 : Int32) * (A0.1 (16 : Int32).toNatClampNeg)) + (A0.1 (A0.1 (16 : Int32).toNatClampNeg).toNatClampNeg)) >>> ((4 : Int32) &&& (31 : Int32))) ((((16 : Int32) * (A0.1 (16 : Int32).toNatClampNeg)) + (A0.1 (A0.1 (16 : Int32).toNatClampNeg).toNatClampNeg)) &&& (15 : Int32))) (16 : Int32) ((((16 : Int32) * (A0.1 (16 : Int32).toNatClampNeg)) + (A0.1 (A0.1 (16 : Int32).toNatClampNeg).toNatClampNeg)) >>> ((4 : Int32) &&& (31 : Int32)))).2.1) (16 : Int32).toNatClampNeg).toNatClampNeg))) (ty := .int) (C := RX0) (T := TX0) (N := 7) hx hb hts in_X0 tyX0 tyX0_ok nmX0 hown hK hP hD hS 0 rfl rfl 5 (by decide) (hts _ q27) (fun _ h9 => h9) rfl (by decide +kernel) rfl rfl (Nat.le_of_ble_eq_true rfl) dX0_delete_127 (fun H locs hP hD hS => ?_)
              have hP : va_P (dC, dI) vwCl (fq_wq h0 a1 a2 a3 a4 d (fq_deleteFrom (fq_deleteFrom A0 ((((16 : Int32) * (A0.1 (16 : Int32).toNatClampNeg)) + (A0.1 (A0.1 (16 : Int32).toNatClampNeg).toNatClampNeg)) >>> ((4 : Int32) &&& (31 : Int32))) ((((16 : Int32) * (A0.1 (16 : Int32).toNatClampNeg)) + (A0.1 (A0.1 (16 : Int32).toNatClampNeg).toNatClampNeg)) &&& (15 : Int32))) (16 : Int32) ((((16 : Int32) * (A0.1 (16 : Int32).toNatClampNeg)) + (A0.1 (A0.1 (16 : Int32).toNatClampNeg).toNatClampNeg)) >>> ((4 : Int32) &&& (31 : Int32)))) (((16 : Int32) * (A0.1 (16 : Int32).toNatClampNeg)) + (A0.1 (A0.1 (16 : Int32).toNatClampNeg).toNatClampNeg)) (((16 : Int32) * (((fq_deleteFrom (fq_deleteFrom A0 ((((16 : Int32) * (A0.1 (16 : Int32).toNatClampNeg)) + (A0.1 (A0.1 (16 : Int32).toNatClampNeg).toNatClampNeg)) >>> ((4 : Int32) &&& (31 : Int32))) ((((16 : Int32) * (A0.1 (16 : Int32).toNatClampNeg)) + (A0.1 (A0.1 (16 : Int32).toNatClampNeg).toNatClampNeg)) &&& (15 : Int32))) (16 : Int32) ((((16 : Int32) * (A0.1 (16 : Int32).toNatClampNeg)) + (A0.1 (A0.1 (16 : Int32).toNatClampNeg).toNatClampNeg)) >>> ((4 : Int32) &&& (31 : Int32)))).2.1) (16 : Int32).toNatClampNeg)) + (((fq_deleteFrom (fq_deleteFrom A0 ((((16 : Int32) * (A0.1 (16 : Int32).toNatClampNeg)) + (A0.1 (A0.1 (16 : Int32).toNatClampNeg).toNatClampNeg)) >>> ((4 : Int32) &&& (31 : Int32))) ((((16 : Int32) * (A0.1 (16 : Int32).toNatClampNeg)) + (A0.1 (A0.1 (16 : Int32).toNatClampNeg).toNatClampNeg)) &&& (15 : Int32))) (16 : Int32) ((((16 : Int32) * (A0.1 (16 : Int32).toNatClampNeg)) + (A0.1 (A0.1 (16 : Int32).toNatClampNeg).toNatClampNeg)) >>> ((4 : Int32) &&& (31 : Int32)))).2.1) (((fq_deleteFrom (fq_deleteFrom A0 ((((16 : Int32) * (A0.1 (16 : Int32).toNatClampNeg)) + (A0.1 (A0.1 (16 : Int32).toNatClampNeg).toNatClampNeg)) >>> ((4 : Int32) &&& (31 : Int32))) ((((16 : Int32) * (A0.1 (16 : Int32).toNatClampNeg)) + (A0.1 (A0.1 (16 : Int32).toNatClampNeg).toNatClampNeg)) &&& (15 : Int32))) (16 : Int32) ((((16 : Int32) * (A0.1 (16 : Int32).toNatClampNeg)) + (A0.1 (A0.1 (16 : Int32).toNatClampNeg).toNatClampNeg)) >>> ((4 : Int32) &&& (31 : Int32)))).2.1) (16 : Int32).toNatClampNeg).toNatClampNeg)) (ct - (1 : Int32))) H := hP
              have hD : va_D A (fq_wq h0 a1 a2 a3 a4 d (fq_deleteFrom (fq_deleteFrom A0 ((((16 : Int32) * (A0.1 (16 : Int32).toNatClampNeg)) + (A0.1 (A0.1 (16 : Int32).toNatClampNeg).toNatClampNeg)) >>> ((4 : Int32) &&& (31 : Int32))) ((((16 : Int32) * (A0.1 (16 : Int32).toNatClampNeg)) + (A0.1 (A0.1 (16 : Int32).toNatClampNeg).toNatClampNeg)) &&& (15 : Int32))) (16 : Int32) ((((16 : Int32) * (A0.1 (16 : Int32).toNatClampNeg)) + (A0.1 (A0.1 (16 : Int32).toNatClampNeg).toNatClampNeg)) >>> ((4 : Int32) &&& (31 : Int32)))) (((16 : Int32) * (A0.1 (16 : Int32).toNatClampNeg)) + (A0.1 (A0.1 (16 : Int32).toNatClampNeg).toNatClampNeg)) (((16 : Int32) * (((fq_deleteFrom (fq_deleteFrom A0 ((((16 : Int32) * (A0.1 (16 : Int32).toNatClampNeg)) + (A0.1 (A0.1 (16 : Int32).toNatClampNeg).toNatClampNeg)) >>> ((4 : Int32) &&& (31 : Int32))) ((((16 : Int32) * (A0.1 (16 : Int32).toNatClampNeg)) + (A0.1 (A0.1 (16 : Int32).toNatClampNeg).toNatClampNeg)) &&& (15 : Int32))) (16 : Int32) ((((16 : Int32) * (A0.1 (16 : Int32).toNatClampNeg)) + (A0.1 (A0.1 (16 : Int32).toNatClampNeg).toNatClampNeg)) >>> ((4 : Int32) &&& (31 : Int32)))).2.1) (16 : Int32).toNatClampNeg)) + (((fq_deleteFrom (fq_deleteFrom A0 ((((16 : Int32) * (A0.1 (16 : Int32).toNatClampNeg)) + (A0.1 (A0.1 (16 : Int32).toNatClampNeg).toNatClampNeg)) >>> ((4 : Int32) &&& (31 : Int32))) ((((16 : Int32) * (A0.1 (16 : Int32).toNatClampNeg)) + (A0.1 (A0.1 (16 : Int32).toNatClampNeg).toNatClampNeg)) &&& (15 : Int32))) (16 : Int32) ((((16 : Int32) * (A0.1 (16 : Int32).toNatClampNeg)) + (A0.1 (A0.1 (16 : Int32).toNatClampNeg).toNatClampNeg)) >>> ((4 : Int32) &&& (31 : Int32)))).2.1) (((fq_deleteFrom (fq_deleteFrom A0 ((((16 : Int32) * (A0.1 (16 : Int32).toNatClampNeg)) + (A0.1 (A0.1 (16 : Int32).toNatClampNeg).toNatClampNeg)) >>> ((4 : Int32) &&& (31 : Int32))) ((((16 : Int32) * (A0.1 (16 : Int32).toNatClampNeg)) + (A0.1 (A0.1 (16 : Int32).toNatClampNeg).toNatClampNeg)) &&& (15 : Int32))) (16 : Int32) ((((16 : Int32) * (A0.1 (16 : Int32).toNatClampNeg)) + (A0.1 (A0.1 (16 : Int32).toNatClampNeg).toNatClampNeg)) >>> ((4 : Int32) &&& (31 : Int32)))).2.1) (16 : Int32).toNatClampNeg).toNatClampNeg)) (ct - (1 : Int32))) := hD
              refine lv_iconst (v := 1) hx hb dX0_delete_130 (by decide) ?_
              exact W.zret (v := (1 : Int32)) hx hb hr rfl (fun t ht hW => ⟨⟨(1 : Int32), ((fq_deleteFrom (fq_deleteFrom A0 ((((16 : Int32) * (A0.1 (16 : Int32).toNatClampNeg)) + (A0.1 (A0.1 (16 : Int32).toNatClampNeg).toNatClampNeg)) >>> ((4 : Int32) &&& (31 : Int32))) ((((16 : Int32) * (A0.1 (16 : Int32).toNatClampNeg)) + (A0.1 (A0.1 (16 : Int32).toNatClampNeg).toNatClampNeg)) &&& (15 : Int32))) (16 : Int32) ((((16 : Int32) * (A0.1 (16 : Int32).toNatClampNeg)) + (A0.1 (A0.1 (16 : Int32).toNatClampNeg).toNatClampNeg)) >>> ((4 : Int32) &&& (31 : Int32)))), (((16 : Int32) * (A0.1 (16 : Int32).toNatClampNeg)) + (A0.1 (A0.1 (16 : Int32).toNatClampNeg).toNatClampNeg)), (((16 : Int32) * (((fq_deleteFrom (fq_deleteFrom A0 ((((16 : Int32) * (A0.1 (16 : Int32).toNatClampNeg)) + (A0.1 (A0.1 (16 : Int32).toNatClampNeg).toNatClampNeg)) >>> ((4 : Int32) &&& (31 : Int32))) ((((16 : Int32) * (A0.1 (16 : Int32).toNatClampNeg)) + (A0.1 (A0.1 (16 : Int32).toNatClampNeg).toNatClampNeg)) &&& (15 : Int32))) (16 : Int32) ((((16 : Int32) * (A0.1 (16 : Int32).toNatClampNeg)) + (A0.1 (A0.1 (16 : Int32).toNatClampNeg).toNatClampNeg)) >>> ((4 : Int32) &&& (31 : Int32)))).2.1) (16 : Int32).toNatClampNeg)) + (((fq_deleteFrom (fq_deleteFrom A0 ((((16 : Int32) * (A0.1 (16 : Int32).toNatClampNeg)) + (A0.1 (A0.1 (16 : Int32).toNatClampNeg).toNatClampNeg)) >>> ((4 : Int32) &&& (31 : Int32))) ((((16 : Int32) * (A0.1 (16 : Int32).toNatClampNeg)) + (A0.1 (A0.1 (16 : Int32).toNatClampNeg).toNatClampNeg)) &&& (15 : Int32))) (16 : Int32) ((((16 : Int32) * (A0.1 (16 : Int32).toNatClampNeg)) + (A0.1 (A0.1 (16 : Int32).toNatClampNeg).toNatClampNeg)) >>> ((4 : Int32) &&& (31 : Int32)))).2.1) (((fq_deleteFrom (fq_deleteFrom A0 ((((16 : Int32) * (A0.1 (16 : Int32).toNatClampNeg)) + (A0.1 (A0.1 (16 : Int32).toNatClampNeg).toNatClampNeg)) >>> ((4 : Int32) &&& (31 : Int32))) ((((16 : Int32) * (A0.1 (16 : Int32).toNatClampNeg)) + (A0.1 (A0.1 (16 : Int32).toNatClampNeg).toNatClampNeg)) &&& (15 : Int32))) (16 : Int32) ((((16 : Int32) * (A0.1 (16 : Int32).toNatClampNeg)) + (A0.1 (A0.1 (16 : Int32).toNatClampNeg).toNatClampNeg)) >>> ((4 : Int32) &&& (31 : Int32)))).2.1) (16 : Int32).toNatClampNeg).toNatClampNeg)), (ct - (1 : Int32))), rfl, ⟨by rw [fq_deleteR, if_neg c_5, if_pos c_27, if_pos c_39, if_neg c_64, if_neg c_86, if_pos c_106], by rw [fq_deleteU, if_neg c_5, if_pos c_27, if_pos c_39, if_neg c_64, if_neg c_86, if_pos c_106]⟩, (by rw [ht]; exact hP), va_K.moved hW.alike hK, hD⟩, hS.F ht⟩) hS.2.2 dX0_delete_131
            · skip
              refine lv_aload_n hx hb dX0_delete_109 rfl (lv_at hl 2 rfl) ?_
              refine va_get (D := (dC, dI)) (ci := 0) (v := .int (((16 : Int32) * (A0.1 (16 : Int32).toNatClampNeg)) + (A0.1 (A0.1 (16 : Int32).toNatClampNeg).toNatClampNeg))) (C := RX0) (T := TX0) (N := 7) hx hb hts in_X0 hown hK hP 0 rfl rfl 4 (by decide) (hts _ q26) (fun _ h9 => h9) rfl dX0_delete_110 ?_
              refine lv_goto (tgt := 127) hx hb dX0_delete_113 (by decide) ?_
              refine va_put (D := (dC, dI)) (ci := 0) (v := .int (((16 : Int32) * (A0.1 (16 : Int32).toNatClampNeg)) + (A0.1 (A0.1 (16 : Int32).toNatClampNeg).toNatClampNeg))) (ty := .int) (C := RX0) (T := TX0) (N := 7) hx hb hts in_X0 tyX0 tyX0_ok nmX0 hown hK hP hD hS 0 rfl rfl 5 (by decide) (hts _ q27) (fun _ h9 => h9) rfl (by decide +kernel) rfl rfl (Nat.le_of_ble_eq_true rfl) dX0_delete_127 (fun H locs hP hD hS => ?_)
              have hP : va_P (dC, dI) vwCl (fq_wq h0 a1 a2 a3 a4 d (fq_deleteFrom (fq_deleteFrom A0 ((((16 : Int32) * (A0.1 (16 : Int32).toNatClampNeg)) + (A0.1 (A0.1 (16 : Int32).toNatClampNeg).toNatClampNeg)) >>> ((4 : Int32) &&& (31 : Int32))) ((((16 : Int32) * (A0.1 (16 : Int32).toNatClampNeg)) + (A0.1 (A0.1 (16 : Int32).toNatClampNeg).toNatClampNeg)) &&& (15 : Int32))) (16 : Int32) ((((16 : Int32) * (A0.1 (16 : Int32).toNatClampNeg)) + (A0.1 (A0.1 (16 : Int32).toNatClampNeg).toNatClampNeg)) >>> ((4 : Int32) &&& (31 : Int32)))) (((16 : Int32) * (A0.1 (16 : Int32).toNatClampNeg)) + (A0.1 (A0.1 (16 : Int32).toNatClampNeg).toNatClampNeg)) (((16 : Int32) * (A0.1 (16 : Int32).toNatClampNeg)) + (A0.1 (A0.1 (16 : Int32).toNatClampNeg).toNatClampNeg)) (ct - (1 : Int32))) H := hP
              have hD : va_D A (fq_wq h0 a1 a2 a3 a4 d (fq_deleteFrom (fq_deleteFrom A0 ((((16 : Int32) * (A0.1 (16 : Int32).toNatClampNeg)) + (A0.1 (A0.1 (16 : Int32).toNatClampNeg).toNatClampNeg)) >>> ((4 : Int32) &&& (31 : Int32))) ((((16 : Int32) * (A0.1 (16 : Int32).toNatClampNeg)) + (A0.1 (A0.1 (16 : Int32).toNatClampNeg).toNatClampNeg)) &&& (15 : Int32))) (16 : Int32) ((((16 : Int32) * (A0.1 (16 : Int32).toNatClampNeg)) + (A0.1 (A0.1 (16 : Int32).toNatClampNeg).toNatClampNeg)) >>> ((4 : Int32) &&& (31 : Int32)))) (((16 : Int32) * (A0.1 (16 : Int32).toNatClampNeg)) + (A0.1 (A0.1 (16 : Int32).toNatClampNeg).toNatClampNeg)) (((16 : Int32) * (A0.1 (16 : Int32).toNatClampNeg)) + (A0.1 (A0.1 (16 : Int32).toNatClampNeg).toNatClampNeg)) (ct - (1 : Int32))) := hD
              refine lv_iconst (v := 1) hx hb dX0_delete_130 (by decide) ?_
              exact W.zret (v := (1 : Int32)) hx hb hr rfl (fun t ht hW => ⟨⟨(1 : Int32), ((fq_deleteFrom (fq_deleteFrom A0 ((((16 : Int32) * (A0.1 (16 : Int32).toNatClampNeg)) + (A0.1 (A0.1 (16 : Int32).toNatClampNeg).toNatClampNeg)) >>> ((4 : Int32) &&& (31 : Int32))) ((((16 : Int32) * (A0.1 (16 : Int32).toNatClampNeg)) + (A0.1 (A0.1 (16 : Int32).toNatClampNeg).toNatClampNeg)) &&& (15 : Int32))) (16 : Int32) ((((16 : Int32) * (A0.1 (16 : Int32).toNatClampNeg)) + (A0.1 (A0.1 (16 : Int32).toNatClampNeg).toNatClampNeg)) >>> ((4 : Int32) &&& (31 : Int32)))), (((16 : Int32) * (A0.1 (16 : Int32).toNatClampNeg)) + (A0.1 (A0.1 (16 : Int32).toNatClampNeg).toNatClampNeg)), (((16 : Int32) * (A0.1 (16 : Int32).toNatClampNeg)) + (A0.1 (A0.1 (16 : Int32).toNatClampNeg).toNatClampNeg)), (ct - (1 : Int32))), rfl, ⟨by rw [fq_deleteR, if_neg c_5, if_pos c_27, if_pos c_39, if_neg c_64, if_neg c_86, if_neg c_106], by rw [fq_deleteU, if_neg c_5, if_pos c_27, if_pos c_39, if_neg c_64, if_neg c_86, if_neg c_106]⟩, (by rw [ht]; exact hP), va_K.moved hW.alike hK, hD⟩, hS.F ht⟩) hS.2.2 dX0_delete_131
      · skip
        refine lv_iconst (v := -1) hx hb dX0_delete_42 (by decide) ?_
        refine lv_goto (tgt := 57) hx hb dX0_delete_43 (by decide) ?_
        refine lv_istore_n (lv' := [(2, .int (-1 : Int32)), (3, .int (A0.1 (16 : Int32).toNatClampNeg)), (0, .ref h0), (1, .int p1)]) hx hb dX0_delete_57 rfl hl (by decide) rfl (fun ls hl => ?_)
        refine lv_aload_n hx hb dX0_delete_58 rfl (lv_at hl 2 rfl) ?_
        refine lv_iload_n hx hb dX0_delete_59 rfl (lv_at hl 0 rfl) ?_
        refine va_put (D := (dC, dI)) (ci := 0) (v := .int (-1 : Int32)) (ty := .int) (C := RX0) (T := TX0) (N := 7) hx hb hts in_X0 tyX0 tyX0_ok nmX0 hown hK hP hD hS 0 rfl rfl 4 (by decide) (hts _ q26) (fun _ h9 => h9) rfl (by decide +kernel) rfl rfl (Nat.le_of_ble_eq_true rfl) dX0_delete_60 (fun H locs hP hD hS => ?_)
        have hP : va_P (dC, dI) vwCl (fq_wq h0 a1 a2 a3 a4 d A0 (-1 : Int32) mx (ct - (1 : Int32))) H := hP
        have hD : va_D A (fq_wq h0 a1 a2 a3 a4 d A0 (-1 : Int32) mx (ct - (1 : Int32))) := hD
        refine lv_iload_n hx hb dX0_delete_63 rfl (lv_at hl 0 rfl) ?_
        refine lv_if_lt (tgt := 96) hx hb dX0_delete_64 (by decide) (fun c_64 => ?_) (fun c_64 => ?_)
        · skip
          refine lv_aload_n hx hb dX0_delete_96 rfl (lv_at hl 2 rfl) ?_
          refine va_get (D := (dC, dI)) (ci := 0) (v := .ref a2) (C := RX0) (T := TX0) (N := 7) hx hb hts in_X0 hown hK hP 0 rfl rfl 1 (by decide) (hts _ q23) (fun _ h9 => h9) rfl dX0_delete_97 ?_
          refine lv_bipush (v := 16) hx hb dX0_delete_100 (by decide) ?_
          have h_102 : vp_in (16 : Int32) 17 := fq_16
          refine va_bald (f := A0.2.1) hx hb hK hP 2 0 rfl rfl h_102 dX0_delete_102 ?_
          refine lv_istore_n (lv' := [(3, .int (A0.2.1 (16 : Int32).toNatClampNeg)), (2, .int (-1 : Int32)), (0, .ref h0), (1, .int p1)]) hx hb dX0_delete_103 rfl hl (by decide) rfl (fun ls hl => ?_)
          refine lv_aload_n hx hb dX0_delete_104 rfl (lv_at hl 2 rfl) ?_
          refine lv_iload_n hx hb dX0_delete_105 rfl (lv_at hl 0 rfl) ?_
          refine lv_if_ge (tgt := 116) hx hb dX0_delete_106 (by decide) (fun c_106 => ?_) (fun c_106 => ?_)
          · skip
            refine lv_bipush (v := 16) hx hb dX0_delete_116 (by decide) ?_
            refine lv_iload_n hx hb dX0_delete_118 rfl (lv_at hl 0 rfl) ?_
            refine lv_imul hx hb dX0_delete_119 ?_
            refine lv_aload_n hx hb dX0_delete_120 rfl (lv_at hl 2 rfl) ?_
            refine va_get (D := (dC, dI)) (ci := 0) (v := .ref a2) (C := RX0) (T := TX0) (N := 7) hx hb hts in_X0 hown hK hP 0 rfl rfl 1 (by decide) (hts _ q23) (fun _ h9 => h9) rfl dX0_delete_121 ?_
            refine lv_iload_n hx hb dX0_delete_124 rfl (lv_at hl 0 rfl) ?_
            have h_125 : vp_in (A0.2.1 (16 : Int32).toNatClampNeg) 17 := fq_17 (fq_RI_in (fq_hi_RI hI) fq_16 c_106)
            refine va_bald (f := A0.2.1) hx hb hK hP 2 0 rfl rfl h_125 dX0_delete_125 ?_
            refine lv_iadd hx hb dX0_delete_126 ?_
            refine va_put (D := (dC, dI)) (ci := 0) (v := .int (((16 : Int32) * (A0.2.1 (16 : Int32).toNatClampNeg)) + (A0.2.1 (A0.2.1 (16 : Int32).toNatClampNeg).toNatClampNeg))) (ty := .int) (C := RX0) (T := TX0) (N := 7) hx hb hts in_X0 tyX0 tyX0_ok nmX0 hown hK hP hD hS 0 rfl rfl 5 (by decide) (hts _ q27) (fun _ h9 => h9) rfl (by decide +kernel) rfl rfl (Nat.le_of_ble_eq_true rfl) dX0_delete_127 (fun H locs hP hD hS => ?_)
            have hP : va_P (dC, dI) vwCl (fq_wq h0 a1 a2 a3 a4 d A0 (-1 : Int32) (((16 : Int32) * (A0.2.1 (16 : Int32).toNatClampNeg)) + (A0.2.1 (A0.2.1 (16 : Int32).toNatClampNeg).toNatClampNeg)) (ct - (1 : Int32))) H := hP
            have hD : va_D A (fq_wq h0 a1 a2 a3 a4 d A0 (-1 : Int32) (((16 : Int32) * (A0.2.1 (16 : Int32).toNatClampNeg)) + (A0.2.1 (A0.2.1 (16 : Int32).toNatClampNeg).toNatClampNeg)) (ct - (1 : Int32))) := hD
            refine lv_iconst (v := 1) hx hb dX0_delete_130 (by decide) ?_
            exact W.zret (v := (1 : Int32)) hx hb hr rfl (fun t ht hW => ⟨⟨(1 : Int32), (A0, (-1 : Int32), (((16 : Int32) * (A0.2.1 (16 : Int32).toNatClampNeg)) + (A0.2.1 (A0.2.1 (16 : Int32).toNatClampNeg).toNatClampNeg)), (ct - (1 : Int32))), rfl, ⟨by rw [fq_deleteR, if_neg c_5, if_pos c_27, if_neg c_39, if_pos c_106], by rw [fq_deleteU, if_neg c_5, if_pos c_27, if_neg c_39, if_pos c_106]⟩, (by rw [ht]; exact hP), va_K.moved hW.alike hK, hD⟩, hS.F ht⟩) hS.2.2 dX0_delete_131
          · skip
            refine lv_aload_n hx hb dX0_delete_109 rfl (lv_at hl 2 rfl) ?_
            refine va_get (D := (dC, dI)) (ci := 0) (v := .int (-1 : Int32)) (C := RX0) (T := TX0) (N := 7) hx hb hts in_X0 hown hK hP 0 rfl rfl 4 (by decide) (hts _ q26) (fun _ h9 => h9) rfl dX0_delete_110 ?_
            refine lv_goto (tgt := 127) hx hb dX0_delete_113 (by decide) ?_
            refine va_put (D := (dC, dI)) (ci := 0) (v := .int (-1 : Int32)) (ty := .int) (C := RX0) (T := TX0) (N := 7) hx hb hts in_X0 tyX0 tyX0_ok nmX0 hown hK hP hD hS 0 rfl rfl 5 (by decide) (hts _ q27) (fun _ h9 => h9) rfl (by decide +kernel) rfl rfl (Nat.le_of_ble_eq_true rfl) dX0_delete_127 (fun H locs hP hD hS => ?_)
            have hP : va_P (dC, dI) vwCl (fq_wq h0 a1 a2 a3 a4 d A0 (-1 : Int32) (-1 : Int32) (ct - (1 : Int32))) H := hP
            have hD : va_D A (fq_wq h0 a1 a2 a3 a4 d A0 (-1 : Int32) (-1 : Int32) (ct - (1 : Int32))) := hD
            refine lv_iconst (v := 1) hx hb dX0_delete_130 (by decide) ?_
            exact W.zret (v := (1 : Int32)) hx hb hr rfl (fun t ht hW => ⟨⟨(1 : Int32), (A0, (-1 : Int32), (-1 : Int32), (ct - (1 : Int32))), rfl, ⟨by rw [fq_deleteR, if_neg c_5, if_pos c_27, if_neg c_39, if_neg c_106], by rw [fq_deleteU, if_neg c_5, if_pos c_27, if_neg c_39, if_neg c_106]⟩, (by rw [ht]; exact hP), va_K.moved hW.alike hK, hD⟩, hS.F ht⟩) hS.2.2 dX0_delete_131
        · exact absurd (by decide) c_64
  · skip
    refine lv_iconst (v := 0) hx hb dX0_delete_8 (by decide) ?_
    exact W.zret (v := (0 : Int32)) hx hb hr rfl (fun t ht hW => ⟨⟨(0 : Int32), (A0, mi, mx, ct), rfl, ⟨by rw [fq_deleteR, if_pos c_5], by rw [fq_deleteU, if_pos c_5]⟩, (by rw [ht]; exact hP), va_K.moved hW.alike hK, hD⟩, hS.F ht⟩) hS.2.2 dX0_delete_9
set_option maxHeartbeats 4000000 in
set_option maxRecDepth 100000 in
theorem fq_met_after (l : Launch) (dC : Nat → ClassId) (dI : Nat → Nat → Nat) (h0 a1 a2 a3 a4 : Nat) (d : ClassId) (sz : Nat) (A0 : fq_A4) (mi mx ct : Int32) (p1 : Int32) (S : Nat → Bool) (hI : fq_Inv S A0 mi mx ct) : Met l yX0_after (ws_ yX0_after cX0_after 5 (some .int)) ({ frames := 2, cells := 0, slots := 0, locals := 46 }) (va_Pc [.ref h0, .int p1] (fq_PQ dC dI sz (fq_wq h0 a1 a2 a3 a4 d A0 mi mx ct) [(d, .byte)])) (va_Qi (fun (r : Int32) (_ : Unit) => r = fq_after A0 mi mx ct p1) (fun _ => fq_BQ dC dI (va_A (fq_wq h0 a1 a2 a3 a4 d A0 mi mx ct) sz) (fq_wq h0 a1 a2 a3 a4 d A0 mi mx ct) [(d, .byte)]) (va_A (fq_wq h0 a1 a2 a3 a4 d A0 mi mx ct) sz)) 0 0 (va_A (fq_wq h0 a1 a2 a3 a4 d A0 mi mx ct) sz) := by
  refine Met.ofW (cc := cX0_after) (maxL := 5) (ret := (some .int)) (by decide) rfl ?_
  intro p e s m args below meth c s₁ B hml hv
  obtain ⟨rfl, hsz, hP, hK, hD0⟩ := hv
  have hx := B.exec
  have hb := B.bytes
  have hr := B.returns
  have hts := atoms_spec (ws := ws_ yX0_after cX0_after 5 (some .int)) B.pre
  have hts : ∀ w ∈ lw_all, w.before _ s = true := fun w h => hts w (List.mem_cons_of_mem _ h)
  have hown : s.vm.findClass RX0 = some m.cls := findClass_of_methodNamed B.named
  have hlocks := B.notSynchronized
  subst hsz
  have hD := hD0.self (sz := s.heap.size)
  generalize hAe : va_A (fq_wq h0 a1 a2 a3 a4 d A0 mi mx ct) s.heap.size = A at hD ⊢
  have hA : ∀ q : Nat, s.heap.size ≤ q → A q := fun q h => by rw [← hAe]; exact Or.inr h
  have hS : va_S A s.heap s.heap [] := va_S.rf
  have hP : va_P (dC, dI) vwCl (fq_wq h0 a1 a2 a3 a4 d A0 mi mx ct) s.heap := hP
  have hl := lv_entry ([.ref h0, .int p1]) (n := 5) (Nat.le_of_ble_eq_true rfl)
  rw [lg_entry_eq]
  generalize (lg_sl ([.ref h0, .int p1]) ++ List.replicate (5 - (lg_sl ([.ref h0, .int p1])).length) Slot.unset).toArray = ls0 at hl ⊢
  have hl : lv_has ls0 5 [(0, .ref h0), (1, .int p1)] := hl
  refine lv_aload_n hx hb dX0_after_0 rfl (lv_at hl 0 rfl) ?_
  refine va_get (D := (dC, dI)) (ci := 0) (v := .int mi) (C := RX0) (T := TX0) (N := 7) hx hb hts in_X0 hown hK hP 0 rfl rfl 4 (by decide) (hts _ q26) (fun _ h9 => h9) rfl dX0_after_1 ?_
  refine lv_if_lt (tgt := 15) hx hb dX0_after_4 (by decide) (fun c_4 => ?_) (fun c_4 => ?_)
  · skip
    refine lv_iconst (v := -1) hx hb dX0_after_15 (by decide) ?_
    exact W.iret (v := (-1 : Int32)) hx hb hr (fun t ht hW => ⟨⟨(-1 : Int32), (), rfl, (by rw [fq_after, if_pos c_4]), (by rw [ht]; exact hP), va_K.moved hW.alike hK, hD⟩, hS.F ht⟩) hS.2.2 dX0_after_16
  · skip
    refine lv_iload_n hx hb dX0_after_7 rfl (lv_at hl 1 rfl) ?_
    refine lv_aload_n hx hb dX0_after_8 rfl (lv_at hl 0 rfl) ?_
    refine va_get (D := (dC, dI)) (ci := 0) (v := .int mx) (C := RX0) (T := TX0) (N := 7) hx hb hts in_X0 hown hK hP 0 rfl rfl 5 (by decide) (hts _ q27) (fun _ h9 => h9) rfl dX0_after_9 ?_
    refine lv_icmp_lt (tgt := 17) hx hb dX0_after_12 (by decide) (fun c_12 => ?_) (fun c_12 => ?_)
    · skip
      refine lv_iload_n hx hb dX0_after_17 rfl (lv_at hl 1 rfl) ?_
      refine lv_aload_n hx hb dX0_after_18 rfl (lv_at hl 0 rfl) ?_
      refine va_get (D := (dC, dI)) (ci := 0) (v := .int mi) (C := RX0) (T := TX0) (N := 7) hx hb hts in_X0 hown hK hP 0 rfl rfl 4 (by decide) (hts _ q26) (fun _ h9 => h9) rfl dX0_after_19 ?_
      refine lv_icmp_ge (tgt := 30) hx hb dX0_after_22 (by decide) (fun c_22 => ?_) (fun c_22 => ?_)
      · skip
        refine lv_iload_n hx hb dX0_after_30 rfl (lv_at hl 1 rfl) ?_
        refine lv_iconst (v := 4) hx hb dX0_after_31 (by decide) ?_
        refine lv_ishr hx hb dX0_after_32 ?_
        refine lv_istore_n (lv' := [(2, .int (p1 >>> ((4 : Int32) &&& (31 : Int32)))), (0, .ref h0), (1, .int p1)]) hx hb dX0_after_33 rfl hl (by decide) rfl (fun ls hl => ?_)
        refine lv_aload_n hx hb dX0_after_34 rfl (lv_at hl 1 rfl) ?_
        refine lv_iload_n hx hb dX0_after_35 rfl (lv_at hl 0 rfl) ?_
        refine lv_iload_n hx hb dX0_after_36 rfl (lv_at hl 2 rfl) ?_
        refine lv_bipush (v := 15) hx hb dX0_after_37 (by decide) ?_
        refine lv_iand hx hb dX0_after_39 ?_
        have hFc := va_free (wc := fq_wq h0 a1 a2 a3 a4 d A0 mi mx ct) hD hS hA [0, 1, 2, 3, 4] rfl
        refine va_calli (va_runV (As := [.int (p1 >>> ((4 : Int32) &&& (31 : Int32))), .int (p1 &&& (15 : Int32))]) (rest := []) ⟨hx, hb, hml, hown, hts⟩ (fq_met_afterIn l dC dI h0 a1 a2 a3 a4 d s.heap.size A0 mi mx ct (p1 >>> ((4 : Int32) &&& (31 : Int32))) (p1 &&& (15 : Int32)) (fq_ix6 (fq_x_in hI c_4 c_12 c_22)) (fq_ix5 _)) (cwV 2 hts (lw_V q108 q110 qs7 q12 q111) rfl rfl rfl (by decide +kernel) ⟨Nat.le_of_ble_eq_true rfl, Nat.le_of_ble_eq_true rfl⟩) ⟨fq_blind, va_recv hK hP (ci := 0) (q0 := 0) rfl rfl, fun U hU hW => ⟨rfl, by rw [hU], by rw [hU]; exact hP, va_K.moved hW.alike hK, hD.weaken (fun _ _ _ _ => trivial)⟩⟩ rfl rfl hl.1 rfl (lv_room (Nat.le_of_ble_eq_true rfl)) dX0_after_40 ⟨Nat.le_of_ble_eq_true rfl, Nat.le_of_ble_eq_true rfl⟩) hS (fun q _ h => hFc q h) hFc (fun r_40 u_40 t H1 locs ht hvm hw hB hz1 hk1 hS => ?_)
        have hw : r_40 = (fq_afterIn A0 (p1 >>> ((4 : Int32) &&& (31 : Int32))) (p1 &&& (15 : Int32))) := hw
        subst hw
        obtain ⟨hP1, hK1, hD1⟩ := hB
        rw [ht] at hP1
        have hP : va_P (dC, dI) vwCl (fq_wq h0 a1 a2 a3 a4 d A0 mi mx ct) H1 := hP1
        have hD : va_D A (fq_wq h0 a1 a2 a3 a4 d A0 mi mx ct) := hD1.weaken (fun _ _ _ h => hFc _ h)
        generalize H1 = H at hP hS ⊢
        refine lv_istore_n (lv' := [(3, .int (fq_afterIn A0 (p1 >>> ((4 : Int32) &&& (31 : Int32))) (p1 &&& (15 : Int32)))), (2, .int (p1 >>> ((4 : Int32) &&& (31 : Int32)))), (0, .ref h0), (1, .int p1)]) hx hb dX0_after_43 rfl hl (by decide) rfl (fun ls hl => ?_)
        refine lv_iload_n hx hb dX0_after_44 rfl (lv_at hl 0 rfl) ?_
        refine lv_if_lt (tgt := 55) hx hb dX0_after_45 (by decide) (fun c_45 => ?_) (fun c_45 => ?_)
        · skip
          refine lv_aload_n hx hb dX0_after_55 rfl (lv_at hl 2 rfl) ?_
          refine lv_bipush (v := 16) hx hb dX0_after_56 (by decide) ?_
          refine lv_iload_n hx hb dX0_after_58 rfl (lv_at hl 1 rfl) ?_
          have hFc := va_free (wc := fq_wq h0 a1 a2 a3 a4 d A0 mi mx ct) hD hS hA [0, 1, 2, 3, 4] rfl
          refine va_calli (va_runV (As := [.int (16 : Int32), .int (p1 >>> ((4 : Int32) &&& (31 : Int32)))]) (rest := []) ⟨hx, hb, hml, hown, hts⟩ (fq_met_afterIn l dC dI h0 a1 a2 a3 a4 d H.size A0 mi mx ct (16 : Int32) (p1 >>> ((4 : Int32) &&& (31 : Int32))) fq_16 (fq_ix7 (fq_x_in hI c_4 c_12 c_22))) (cwV 2 hts (lw_V q108 q110 qs7 q12 q111) rfl rfl rfl (by decide +kernel) ⟨Nat.le_of_ble_eq_true rfl, Nat.le_of_ble_eq_true rfl⟩) ⟨fq_blind, va_recv hK hP (ci := 0) (q0 := 0) rfl rfl, fun U hU hW => ⟨rfl, by rw [hU], by rw [hU]; exact hP, va_K.moved hW.alike hK, hD.weaken (fun _ _ _ _ => trivial)⟩⟩ rfl rfl hl.1 rfl (lv_room (Nat.le_of_ble_eq_true rfl)) dX0_after_59 ⟨Nat.le_of_ble_eq_true rfl, Nat.le_of_ble_eq_true rfl⟩) hS (fun q _ h => hFc q h) hFc (fun r_59 u_59 t H1 locs ht hvm hw hB hz1 hk1 hS => ?_)
          have hw : r_59 = (fq_afterIn A0 (16 : Int32) (p1 >>> ((4 : Int32) &&& (31 : Int32)))) := hw
          subst hw
          obtain ⟨hP1, hK1, hD1⟩ := hB
          rw [ht] at hP1
          have hP : va_P (dC, dI) vwCl (fq_wq h0 a1 a2 a3 a4 d A0 mi mx ct) H1 := hP1
          have hD : va_D A (fq_wq h0 a1 a2 a3 a4 d A0 mi mx ct) := hD1.weaken (fun _ _ _ h => hFc _ h)
          generalize H1 = H at hP hS ⊢
          refine lv_istore (lv' := [(4, .int (fq_afterIn A0 (16 : Int32) (p1 >>> ((4 : Int32) &&& (31 : Int32))))), (3, .int (fq_afterIn A0 (p1 >>> ((4 : Int32) &&& (31 : Int32))) (p1 &&& (15 : Int32)))), (2, .int (p1 >>> ((4 : Int32) &&& (31 : Int32)))), (0, .ref h0), (1, .int p1)]) hx hb dX0_after_62 hl (by decide) rfl (fun ls hl => ?_)
          refine lv_bipush (v := 16) hx hb dX0_after_64 (by decide) ?_
          refine lv_iload hx hb dX0_after_66 (lv_at hl 0 rfl) ?_
          refine lv_imul hx hb dX0_after_68 ?_
          refine lv_aload_n hx hb dX0_after_69 rfl (lv_at hl 3 rfl) ?_
          refine va_get (D := (dC, dI)) (ci := 0) (v := .ref a1) (C := RX0) (T := TX0) (N := 7) hx hb hts in_X0 hown hK hP 0 rfl rfl 0 (by decide) (hts _ q22) (fun _ h9 => h9) rfl dX0_after_70 ?_
          refine lv_iload hx hb dX0_after_73 (lv_at hl 0 rfl) ?_
          have h_75 : vp_in (fq_afterIn A0 (16 : Int32) (p1 >>> ((4 : Int32) &&& (31 : Int32)))) 17 := fq_after_ix hI c_4 c_12 c_22 c_45
          refine va_bald (f := A0.1) hx hb hK hP 1 0 rfl rfl h_75 dX0_after_75 ?_
          refine lv_iadd hx hb dX0_after_76 ?_
          exact W.iret (v := (((16 : Int32) * (fq_afterIn A0 (16 : Int32) (p1 >>> ((4 : Int32) &&& (31 : Int32))))) + (A0.1 (fq_afterIn A0 (16 : Int32) (p1 >>> ((4 : Int32) &&& (31 : Int32)))).toNatClampNeg))) hx hb hr (fun t ht hW => ⟨⟨(((16 : Int32) * (fq_afterIn A0 (16 : Int32) (p1 >>> ((4 : Int32) &&& (31 : Int32))))) + (A0.1 (fq_afterIn A0 (16 : Int32) (p1 >>> ((4 : Int32) &&& (31 : Int32)))).toNatClampNeg)), (), rfl, (by rw [fq_after, if_neg c_4, if_pos c_12, if_pos c_22, if_pos c_45]), (by rw [ht]; exact hP), va_K.moved hW.alike hK, hD⟩, hS.F ht⟩) hS.2.2 dX0_after_77
        · skip
          refine lv_bipush (v := 16) hx hb dX0_after_48 (by decide) ?_
          refine lv_iload_n hx hb dX0_after_50 rfl (lv_at hl 1 rfl) ?_
          refine lv_imul hx hb dX0_after_51 ?_
          refine lv_iload_n hx hb dX0_after_52 rfl (lv_at hl 0 rfl) ?_
          refine lv_iadd hx hb dX0_after_53 ?_
          exact W.iret (v := (((16 : Int32) * (p1 >>> ((4 : Int32) &&& (31 : Int32)))) + (fq_afterIn A0 (p1 >>> ((4 : Int32) &&& (31 : Int32))) (p1 &&& (15 : Int32))))) hx hb hr (fun t ht hW => ⟨⟨(((16 : Int32) * (p1 >>> ((4 : Int32) &&& (31 : Int32)))) + (fq_afterIn A0 (p1 >>> ((4 : Int32) &&& (31 : Int32))) (p1 &&& (15 : Int32)))), (), rfl, (by rw [fq_after, if_neg c_4, if_pos c_12, if_pos c_22, if_neg c_45]), (by rw [ht]; exact hP), va_K.moved hW.alike hK, hD⟩, hS.F ht⟩) hS.2.2 dX0_after_54
      · skip
        refine lv_aload_n hx hb dX0_after_25 rfl (lv_at hl 0 rfl) ?_
        refine va_get (D := (dC, dI)) (ci := 0) (v := .int mi) (C := RX0) (T := TX0) (N := 7) hx hb hts in_X0 hown hK hP 0 rfl rfl 4 (by decide) (hts _ q26) (fun _ h9 => h9) rfl dX0_after_26 ?_
        exact W.iret (v := mi) hx hb hr (fun t ht hW => ⟨⟨mi, (), rfl, (by rw [fq_after, if_neg c_4, if_pos c_12, if_neg c_22]), (by rw [ht]; exact hP), va_K.moved hW.alike hK, hD⟩, hS.F ht⟩) hS.2.2 dX0_after_29
    · skip
      refine lv_iconst (v := -1) hx hb dX0_after_15 (by decide) ?_
      exact W.iret (v := (-1 : Int32)) hx hb hr (fun t ht hW => ⟨⟨(-1 : Int32), (), rfl, (by rw [fq_after, if_neg c_4, if_neg c_12]), (by rw [ht]; exact hP), va_K.moved hW.alike hK, hD⟩, hS.F ht⟩) hS.2.2 dX0_after_16
set_option maxHeartbeats 4000000 in
set_option maxRecDepth 100000 in
theorem fq_met_before (l : Launch) (dC : Nat → ClassId) (dI : Nat → Nat → Nat) (h0 a1 a2 a3 a4 : Nat) (d : ClassId) (sz : Nat) (A0 : fq_A4) (mi mx ct : Int32) (p1 : Int32) (S : Nat → Bool) (hI : fq_Inv S A0 mi mx ct) : Met l yX0_before (ws_ yX0_before cX0_before 5 (some .int)) ({ frames := 2, cells := 0, slots := 0, locals := 46 }) (va_Pc [.ref h0, .int p1] (fq_PQ dC dI sz (fq_wq h0 a1 a2 a3 a4 d A0 mi mx ct) [(d, .byte)])) (va_Qi (fun (r : Int32) (_ : Unit) => r = fq_before A0 mi mx ct p1) (fun _ => fq_BQ dC dI (va_A (fq_wq h0 a1 a2 a3 a4 d A0 mi mx ct) sz) (fq_wq h0 a1 a2 a3 a4 d A0 mi mx ct) [(d, .byte)]) (va_A (fq_wq h0 a1 a2 a3 a4 d A0 mi mx ct) sz)) 0 0 (va_A (fq_wq h0 a1 a2 a3 a4 d A0 mi mx ct) sz) := by
  refine Met.ofW (cc := cX0_before) (maxL := 5) (ret := (some .int)) (by decide) rfl ?_
  intro p e s m args below meth c s₁ B hml hv
  obtain ⟨rfl, hsz, hP, hK, hD0⟩ := hv
  have hx := B.exec
  have hb := B.bytes
  have hr := B.returns
  have hts := atoms_spec (ws := ws_ yX0_before cX0_before 5 (some .int)) B.pre
  have hts : ∀ w ∈ lw_all, w.before _ s = true := fun w h => hts w (List.mem_cons_of_mem _ h)
  have hown : s.vm.findClass RX0 = some m.cls := findClass_of_methodNamed B.named
  have hlocks := B.notSynchronized
  subst hsz
  have hD := hD0.self (sz := s.heap.size)
  generalize hAe : va_A (fq_wq h0 a1 a2 a3 a4 d A0 mi mx ct) s.heap.size = A at hD ⊢
  have hA : ∀ q : Nat, s.heap.size ≤ q → A q := fun q h => by rw [← hAe]; exact Or.inr h
  have hS : va_S A s.heap s.heap [] := va_S.rf
  have hP : va_P (dC, dI) vwCl (fq_wq h0 a1 a2 a3 a4 d A0 mi mx ct) s.heap := hP
  have hl := lv_entry ([.ref h0, .int p1]) (n := 5) (Nat.le_of_ble_eq_true rfl)
  rw [lg_entry_eq]
  generalize (lg_sl ([.ref h0, .int p1]) ++ List.replicate (5 - (lg_sl ([.ref h0, .int p1])).length) Slot.unset).toArray = ls0 at hl ⊢
  have hl : lv_has ls0 5 [(0, .ref h0), (1, .int p1)] := hl
  refine lv_aload_n hx hb dX0_before_0 rfl (lv_at hl 0 rfl) ?_
  refine va_get (D := (dC, dI)) (ci := 0) (v := .int mi) (C := RX0) (T := TX0) (N := 7) hx hb hts in_X0 hown hK hP 0 rfl rfl 4 (by decide) (hts _ q26) (fun _ h9 => h9) rfl dX0_before_1 ?_
  refine lv_if_lt (tgt := 15) hx hb dX0_before_4 (by decide) (fun c_4 => ?_) (fun c_4 => ?_)
  · skip
    refine lv_iconst (v := -1) hx hb dX0_before_15 (by decide) ?_
    exact W.iret (v := (-1 : Int32)) hx hb hr (fun t ht hW => ⟨⟨(-1 : Int32), (), rfl, (by rw [fq_before, if_pos c_4]), (by rw [ht]; exact hP), va_K.moved hW.alike hK, hD⟩, hS.F ht⟩) hS.2.2 dX0_before_16
  · skip
    refine lv_iload_n hx hb dX0_before_7 rfl (lv_at hl 1 rfl) ?_
    refine lv_aload_n hx hb dX0_before_8 rfl (lv_at hl 0 rfl) ?_
    refine va_get (D := (dC, dI)) (ci := 0) (v := .int mi) (C := RX0) (T := TX0) (N := 7) hx hb hts in_X0 hown hK hP 0 rfl rfl 4 (by decide) (hts _ q26) (fun _ h9 => h9) rfl dX0_before_9 ?_
    refine lv_icmp_gt (tgt := 17) hx hb dX0_before_12 (by decide) (fun c_12 => ?_) (fun c_12 => ?_)
    · skip
      refine lv_iload_n hx hb dX0_before_17 rfl (lv_at hl 1 rfl) ?_
      refine lv_aload_n hx hb dX0_before_18 rfl (lv_at hl 0 rfl) ?_
      refine va_get (D := (dC, dI)) (ci := 0) (v := .int mx) (C := RX0) (T := TX0) (N := 7) hx hb hts in_X0 hown hK hP 0 rfl rfl 5 (by decide) (hts _ q27) (fun _ h9 => h9) rfl dX0_before_19 ?_
      refine lv_icmp_le (tgt := 30) hx hb dX0_before_22 (by decide) (fun c_22 => ?_) (fun c_22 => ?_)
      · skip
        refine lv_iload_n hx hb dX0_before_30 rfl (lv_at hl 1 rfl) ?_
        refine lv_iconst (v := 4) hx hb dX0_before_31 (by decide) ?_
        refine lv_ishr hx hb dX0_before_32 ?_
        refine lv_istore_n (lv' := [(2, .int (p1 >>> ((4 : Int32) &&& (31 : Int32)))), (0, .ref h0), (1, .int p1)]) hx hb dX0_before_33 rfl hl (by decide) rfl (fun ls hl => ?_)
        refine lv_aload_n hx hb dX0_before_34 rfl (lv_at hl 1 rfl) ?_
        refine lv_iload_n hx hb dX0_before_35 rfl (lv_at hl 0 rfl) ?_
        refine lv_iload_n hx hb dX0_before_36 rfl (lv_at hl 2 rfl) ?_
        refine lv_bipush (v := 15) hx hb dX0_before_37 (by decide) ?_
        refine lv_iand hx hb dX0_before_39 ?_
        have hFc := va_free (wc := fq_wq h0 a1 a2 a3 a4 d A0 mi mx ct) hD hS hA [0, 1, 2, 3, 4] rfl
        refine va_calli (va_runV (As := [.int (p1 >>> ((4 : Int32) &&& (31 : Int32))), .int (p1 &&& (15 : Int32))]) (rest := []) ⟨hx, hb, hml, hown, hts⟩ (fq_met_beforeIn l dC dI h0 a1 a2 a3 a4 d s.heap.size A0 mi mx ct (p1 >>> ((4 : Int32) &&& (31 : Int32))) (p1 &&& (15 : Int32)) (fq_ix6 (fq_x_in2 hI c_4 c_12 c_22)) (fq_ix5 _)) (cwV 2 hts (lw_V q116 q118 qs8 q12 q119) rfl rfl rfl (by decide +kernel) ⟨Nat.le_of_ble_eq_true rfl, Nat.le_of_ble_eq_true rfl⟩) ⟨fq_blind, va_recv hK hP (ci := 0) (q0 := 0) rfl rfl, fun U hU hW => ⟨rfl, by rw [hU], by rw [hU]; exact hP, va_K.moved hW.alike hK, hD.weaken (fun _ _ _ _ => trivial)⟩⟩ rfl rfl hl.1 rfl (lv_room (Nat.le_of_ble_eq_true rfl)) dX0_before_40 ⟨Nat.le_of_ble_eq_true rfl, Nat.le_of_ble_eq_true rfl⟩) hS (fun q _ h => hFc q h) hFc (fun r_40 u_40 t H1 locs ht hvm hw hB hz1 hk1 hS => ?_)
        have hw : r_40 = (fq_beforeIn A0 (p1 >>> ((4 : Int32) &&& (31 : Int32))) (p1 &&& (15 : Int32))) := hw
        subst hw
        obtain ⟨hP1, hK1, hD1⟩ := hB
        rw [ht] at hP1
        have hP : va_P (dC, dI) vwCl (fq_wq h0 a1 a2 a3 a4 d A0 mi mx ct) H1 := hP1
        have hD : va_D A (fq_wq h0 a1 a2 a3 a4 d A0 mi mx ct) := hD1.weaken (fun _ _ _ h => hFc _ h)
        generalize H1 = H at hP hS ⊢
        refine lv_istore_n (lv' := [(3, .int (fq_beforeIn A0 (p1 >>> ((4 : Int32) &&& (31 : Int32))) (p1 &&& (15 : Int32)))), (2, .int (p1 >>> ((4 : Int32) &&& (31 : Int32)))), (0, .ref h0), (1, .int p1)]) hx hb dX0_before_43 rfl hl (by decide) rfl (fun ls hl => ?_)
        refine lv_iload_n hx hb dX0_before_44 rfl (lv_at hl 0 rfl) ?_
        refine lv_if_lt (tgt := 55) hx hb dX0_before_45 (by decide) (fun c_45 => ?_) (fun c_45 => ?_)
        · skip
          refine lv_aload_n hx hb dX0_before_55 rfl (lv_at hl 2 rfl) ?_
          refine lv_bipush (v := 16) hx hb dX0_before_56 (by decide) ?_
          refine lv_iload_n hx hb dX0_before_58 rfl (lv_at hl 1 rfl) ?_
          have hFc := va_free (wc := fq_wq h0 a1 a2 a3 a4 d A0 mi mx ct) hD hS hA [0, 1, 2, 3, 4] rfl
          refine va_calli (va_runV (As := [.int (16 : Int32), .int (p1 >>> ((4 : Int32) &&& (31 : Int32)))]) (rest := []) ⟨hx, hb, hml, hown, hts⟩ (fq_met_beforeIn l dC dI h0 a1 a2 a3 a4 d H.size A0 mi mx ct (16 : Int32) (p1 >>> ((4 : Int32) &&& (31 : Int32))) fq_16 (fq_ix7 (fq_x_in2 hI c_4 c_12 c_22))) (cwV 2 hts (lw_V q116 q118 qs8 q12 q119) rfl rfl rfl (by decide +kernel) ⟨Nat.le_of_ble_eq_true rfl, Nat.le_of_ble_eq_true rfl⟩) ⟨fq_blind, va_recv hK hP (ci := 0) (q0 := 0) rfl rfl, fun U hU hW => ⟨rfl, by rw [hU], by rw [hU]; exact hP, va_K.moved hW.alike hK, hD.weaken (fun _ _ _ _ => trivial)⟩⟩ rfl rfl hl.1 rfl (lv_room (Nat.le_of_ble_eq_true rfl)) dX0_before_59 ⟨Nat.le_of_ble_eq_true rfl, Nat.le_of_ble_eq_true rfl⟩) hS (fun q _ h => hFc q h) hFc (fun r_59 u_59 t H1 locs ht hvm hw hB hz1 hk1 hS => ?_)
          have hw : r_59 = (fq_beforeIn A0 (16 : Int32) (p1 >>> ((4 : Int32) &&& (31 : Int32)))) := hw
          subst hw
          obtain ⟨hP1, hK1, hD1⟩ := hB
          rw [ht] at hP1
          have hP : va_P (dC, dI) vwCl (fq_wq h0 a1 a2 a3 a4 d A0 mi mx ct) H1 := hP1
          have hD : va_D A (fq_wq h0 a1 a2 a3 a4 d A0 mi mx ct) := hD1.weaken (fun _ _ _ h => hFc _ h)
          generalize H1 = H at hP hS ⊢
          refine lv_istore (lv' := [(4, .int (fq_beforeIn A0 (16 : Int32) (p1 >>> ((4 : Int32) &&& (31 : Int32))))), (3, .int (fq_beforeIn A0 (p1 >>> ((4 : Int32) &&& (31 : Int32))) (p1 &&& (15 : Int32)))), (2, .int (p1 >>> ((4 : Int32) &&& (31 : Int32)))), (0, .ref h0), (1, .int p1)]) hx hb dX0_before_62 hl (by decide) rfl (fun ls hl => ?_)
          refine lv_iload hx hb dX0_before_64 (lv_at hl 0 rfl) ?_
          refine lv_if_ge (tgt := 76) hx hb dX0_before_66 (by decide) (fun c_66 => ?_) (fun c_66 => ?_)
          · skip
            refine lv_bipush (v := 16) hx hb dX0_before_76 (by decide) ?_
            refine lv_iload hx hb dX0_before_78 (lv_at hl 0 rfl) ?_
            refine lv_imul hx hb dX0_before_80 ?_
            refine lv_aload_n hx hb dX0_before_81 rfl (lv_at hl 3 rfl) ?_
            refine va_get (D := (dC, dI)) (ci := 0) (v := .ref a2) (C := RX0) (T := TX0) (N := 7) hx hb hts in_X0 hown hK hP 0 rfl rfl 1 (by decide) (hts _ q23) (fun _ h9 => h9) rfl dX0_before_82 ?_
            refine lv_iload hx hb dX0_before_85 (lv_at hl 0 rfl) ?_
            have h_87 : vp_in (fq_beforeIn A0 (16 : Int32) (p1 >>> ((4 : Int32) &&& (31 : Int32)))) 17 := fq_17 (fq_bfi_in (fq_RIs hI) fq_16 (fq_ix7 (fq_x_in2 hI c_4 c_12 c_22)) c_66)
            refine va_bald (f := A0.2.1) hx hb hK hP 2 0 rfl rfl h_87 dX0_before_87 ?_
            refine lv_iadd hx hb dX0_before_88 ?_
            exact W.iret (v := (((16 : Int32) * (fq_beforeIn A0 (16 : Int32) (p1 >>> ((4 : Int32) &&& (31 : Int32))))) + (A0.2.1 (fq_beforeIn A0 (16 : Int32) (p1 >>> ((4 : Int32) &&& (31 : Int32)))).toNatClampNeg))) hx hb hr (fun t ht hW => ⟨⟨(((16 : Int32) * (fq_beforeIn A0 (16 : Int32) (p1 >>> ((4 : Int32) &&& (31 : Int32))))) + (A0.2.1 (fq_beforeIn A0 (16 : Int32) (p1 >>> ((4 : Int32) &&& (31 : Int32)))).toNatClampNeg)), (), rfl, (by rw [fq_before, if_neg c_4, if_pos c_12, if_pos c_22, if_pos c_45, if_pos c_66]), (by rw [ht]; exact hP), va_K.moved hW.alike hK, hD⟩, hS.F ht⟩) hS.2.2 dX0_before_89
          · skip
            refine lv_aload_n hx hb dX0_before_69 rfl (lv_at hl 3 rfl) ?_
            refine va_get (D := (dC, dI)) (ci := 0) (v := .int mi) (C := RX0) (T := TX0) (N := 7) hx hb hts in_X0 hown hK hP 0 rfl rfl 4 (by decide) (hts _ q26) (fun _ h9 => h9) rfl dX0_before_70 ?_
            refine lv_goto (tgt := 89) hx hb dX0_before_73 (by decide) ?_
            exact W.iret (v := mi) hx hb hr (fun t ht hW => ⟨⟨mi, (), rfl, (by rw [fq_before, if_neg c_4, if_pos c_12, if_pos c_22, if_pos c_45, if_neg c_66]), (by rw [ht]; exact hP), va_K.moved hW.alike hK, hD⟩, hS.F ht⟩) hS.2.2 dX0_before_89
        · skip
          refine lv_bipush (v := 16) hx hb dX0_before_48 (by decide) ?_
          refine lv_iload_n hx hb dX0_before_50 rfl (lv_at hl 1 rfl) ?_
          refine lv_imul hx hb dX0_before_51 ?_
          refine lv_iload_n hx hb dX0_before_52 rfl (lv_at hl 0 rfl) ?_
          refine lv_iadd hx hb dX0_before_53 ?_
          exact W.iret (v := (((16 : Int32) * (p1 >>> ((4 : Int32) &&& (31 : Int32)))) + (fq_beforeIn A0 (p1 >>> ((4 : Int32) &&& (31 : Int32))) (p1 &&& (15 : Int32))))) hx hb hr (fun t ht hW => ⟨⟨(((16 : Int32) * (p1 >>> ((4 : Int32) &&& (31 : Int32)))) + (fq_beforeIn A0 (p1 >>> ((4 : Int32) &&& (31 : Int32))) (p1 &&& (15 : Int32)))), (), rfl, (by rw [fq_before, if_neg c_4, if_pos c_12, if_pos c_22, if_neg c_45]), (by rw [ht]; exact hP), va_K.moved hW.alike hK, hD⟩, hS.F ht⟩) hS.2.2 dX0_before_54
      · skip
        refine lv_aload_n hx hb dX0_before_25 rfl (lv_at hl 0 rfl) ?_
        refine va_get (D := (dC, dI)) (ci := 0) (v := .int mx) (C := RX0) (T := TX0) (N := 7) hx hb hts in_X0 hown hK hP 0 rfl rfl 5 (by decide) (hts _ q27) (fun _ h9 => h9) rfl dX0_before_26 ?_
        exact W.iret (v := mx) hx hb hr (fun t ht hW => ⟨⟨mx, (), rfl, (by rw [fq_before, if_neg c_4, if_pos c_12, if_neg c_22]), (by rw [ht]; exact hP), va_K.moved hW.alike hK, hD⟩, hS.F ht⟩) hS.2.2 dX0_before_29
    · skip
      refine lv_iconst (v := -1) hx hb dX0_before_15 (by decide) ?_
      exact W.iret (v := (-1 : Int32)) hx hb hr (fun t ht hW => ⟨⟨(-1 : Int32), (), rfl, (by rw [fq_before, if_neg c_4, if_neg c_12]), (by rw [ht]; exact hP), va_K.moved hW.alike hK, hD⟩, hS.F ht⟩) hS.2.2 dX0_before_16
set_option maxHeartbeats 4000000 in
set_option maxRecDepth 100000 in
theorem fq_met_takeLeast (l : Launch) (dC : Nat → ClassId) (dI : Nat → Nat → Nat) (h0 a1 a2 a3 a4 : Nat) (d : ClassId) (sz : Nat) (A0 : fq_A4) (mi mx ct : Int32) (S : Nat → Bool) (hI : fq_Inv S A0 mi mx ct) : Met l yX0_takeLeast (ws_ yX0_takeLeast cX0_takeLeast 2 (some .int)) ({ frames := 4, cells := 0, slots := 0, locals := 90 }) (va_Pc [.ref h0] (fq_PQ dC dI sz (fq_wq h0 a1 a2 a3 a4 d A0 mi mx ct) [(d, .byte)])) (va_Qi (fun (r : Int32) (u : fq_A7) => r = fq_takeLeastR A0 mi mx ct ∧ u = fq_takeLeastU A0 mi mx ct) (fun u => fq_BQ dC dI (va_A (fq_wq h0 a1 a2 a3 a4 d A0 mi mx ct) sz) (fq_wq h0 a1 a2 a3 a4 d u.1 u.2.1 u.2.2.1 u.2.2.2) [(d, .byte)]) (va_A (fq_wq h0 a1 a2 a3 a4 d A0 mi mx ct) sz)) 0 0 (va_A (fq_wq h0 a1 a2 a3 a4 d A0 mi mx ct) sz) := by
  refine Met.ofW (cc := cX0_takeLeast) (maxL := 2) (ret := (some .int)) (by decide) rfl ?_
  intro p e s m args below meth c s₁ B hml hv
  obtain ⟨rfl, hsz, hP, hK, hD0⟩ := hv
  have hx := B.exec
  have hb := B.bytes
  have hr := B.returns
  have hts := atoms_spec (ws := ws_ yX0_takeLeast cX0_takeLeast 2 (some .int)) B.pre
  have hts : ∀ w ∈ lw_all, w.before _ s = true := fun w h => hts w (List.mem_cons_of_mem _ h)
  have hown : s.vm.findClass RX0 = some m.cls := findClass_of_methodNamed B.named
  have hlocks := B.notSynchronized
  subst hsz
  have hD := hD0.self (sz := s.heap.size)
  generalize hAe : va_A (fq_wq h0 a1 a2 a3 a4 d A0 mi mx ct) s.heap.size = A at hD ⊢
  have hA : ∀ q : Nat, s.heap.size ≤ q → A q := fun q h => by rw [← hAe]; exact Or.inr h
  have hS : va_S A s.heap s.heap [] := va_S.rf
  have hP : va_P (dC, dI) vwCl (fq_wq h0 a1 a2 a3 a4 d A0 mi mx ct) s.heap := hP
  have hl := lv_entry ([.ref h0]) (n := 2) (Nat.le_of_ble_eq_true rfl)
  rw [lg_entry_eq]
  generalize (lg_sl ([.ref h0]) ++ List.replicate (2 - (lg_sl ([.ref h0])).length) Slot.unset).toArray = ls0 at hl ⊢
  have hl : lv_has ls0 2 [(0, .ref h0)] := hl
  refine lv_aload_n hx hb dX0_takeLeast_0 rfl (lv_at hl 0 rfl) ?_
  refine va_get (D := (dC, dI)) (ci := 0) (v := .int mi) (C := RX0) (T := TX0) (N := 7) hx hb hts in_X0 hown hK hP 0 rfl rfl 4 (by decide) (hts _ q26) (fun _ h9 => h9) rfl dX0_takeLeast_1 ?_
  refine lv_istore_n (lv' := [(1, .int mi), (0, .ref h0)]) hx hb dX0_takeLeast_4 rfl hl (by decide) rfl (fun ls hl => ?_)
  refine lv_aload_n hx hb dX0_takeLeast_5 rfl (lv_at hl 1 rfl) ?_
  refine lv_iload_n hx hb dX0_takeLeast_6 rfl (lv_at hl 0 rfl) ?_
  have hFc := va_free (wc := fq_wq h0 a1 a2 a3 a4 d A0 mi mx ct) hD hS hA [0, 1, 2, 3, 4] rfl
  refine va_calli (va_runV (As := [.int mi]) (rest := []) ⟨hx, hb, hml, hown, hts⟩ (fq_met_delete l dC dI h0 a1 a2 a3 a4 d s.heap.size A0 mi mx ct mi S hI) (cwV 1 hts (lw_V q124 q66 q67 q12 q68) rfl rfl rfl (by decide +kernel) ⟨Nat.le_of_ble_eq_true rfl, Nat.le_of_ble_eq_true rfl⟩) ⟨fq_blind, va_recv hK hP (ci := 0) (q0 := 0) rfl rfl, fun U hU hW => ⟨rfl, by rw [hU], by rw [hU]; exact hP, va_K.moved hW.alike hK, hD.weaken (fun _ _ _ _ => trivial)⟩⟩ rfl rfl hl.1 rfl (lv_room (Nat.le_of_ble_eq_true rfl)) dX0_takeLeast_7 ⟨Nat.le_of_ble_eq_true rfl, Nat.le_of_ble_eq_true rfl⟩) hS (fun q _ h => hFc q h) hFc (fun r_7 u_7 t H1 locs ht hvm hw hB hz1 hk1 hS => ?_)
  have hw1 : r_7 = (fq_deleteR A0 mi mx ct mi) := hw.1
  have hw2 : u_7 = (fq_deleteU A0 mi mx ct mi) := hw.2
  subst hw1
  subst hw2
  obtain ⟨hP1, hK1, hD1⟩ := hB
  rw [ht] at hP1
  have hP : va_P (dC, dI) vwCl (fq_wq h0 a1 a2 a3 a4 d ((fq_deleteU A0 mi mx ct mi).1) ((fq_deleteU A0 mi mx ct mi).2.1) ((fq_deleteU A0 mi mx ct mi).2.2.1) ((fq_deleteU A0 mi mx ct mi).2.2.2)) H1 := hP1
  have hD : va_D A (fq_wq h0 a1 a2 a3 a4 d ((fq_deleteU A0 mi mx ct mi).1) ((fq_deleteU A0 mi mx ct mi).2.1) ((fq_deleteU A0 mi mx ct mi).2.2.1) ((fq_deleteU A0 mi mx ct mi).2.2.2)) := hD1.weaken (fun _ _ _ h => hFc _ h)
  generalize H1 = H at hP hS ⊢
  refine lv_if_eq (tgt := 17) hx hb dX0_takeLeast_10 (by decide) (fun c_10 => ?_) (fun c_10 => ?_)
  · skip
    refine lv_iconst (v := -1) hx hb dX0_takeLeast_17 (by decide) ?_
    exact W.iret (v := (-1 : Int32)) hx hb hr (fun t ht hW => ⟨⟨(-1 : Int32), ((fq_deleteU A0 mi mx ct mi).1, (fq_deleteU A0 mi mx ct mi).2.1, (fq_deleteU A0 mi mx ct mi).2.2.1, (fq_deleteU A0 mi mx ct mi).2.2.2), rfl, ⟨by rw [fq_takeLeastR, if_pos c_10], by rw [fq_takeLeastU, if_pos c_10]⟩, (by rw [ht]; exact hP), va_K.moved hW.alike hK, hD⟩, hS.F ht⟩) hS.2.2 dX0_takeLeast_18
  · skip
    refine lv_iload_n hx hb dX0_takeLeast_13 rfl (lv_at hl 0 rfl) ?_
    refine lv_goto (tgt := 18) hx hb dX0_takeLeast_14 (by decide) ?_
    exact W.iret (v := mi) hx hb hr (fun t ht hW => ⟨⟨mi, ((fq_deleteU A0 mi mx ct mi).1, (fq_deleteU A0 mi mx ct mi).2.1, (fq_deleteU A0 mi mx ct mi).2.2.1, (fq_deleteU A0 mi mx ct mi).2.2.2), rfl, ⟨by rw [fq_takeLeastR, if_neg c_10], by rw [fq_takeLeastU, if_neg c_10]⟩, (by rw [ht]; exact hP), va_K.moved hW.alike hK, hD⟩, hS.F ht⟩) hS.2.2 dX0_takeLeast_18
set_option maxHeartbeats 4000000 in
set_option maxRecDepth 100000 in
theorem fq_met_takeGreatest (l : Launch) (dC : Nat → ClassId) (dI : Nat → Nat → Nat) (h0 a1 a2 a3 a4 : Nat) (d : ClassId) (sz : Nat) (A0 : fq_A4) (mi mx ct : Int32) (S : Nat → Bool) (hI : fq_Inv S A0 mi mx ct) : Met l yX0_takeGreatest (ws_ yX0_takeGreatest cX0_takeGreatest 2 (some .int)) ({ frames := 4, cells := 0, slots := 0, locals := 90 }) (va_Pc [.ref h0] (fq_PQ dC dI sz (fq_wq h0 a1 a2 a3 a4 d A0 mi mx ct) [(d, .byte)])) (va_Qi (fun (r : Int32) (u : fq_A7) => r = fq_takeGreatestR A0 mi mx ct ∧ u = fq_takeGreatestU A0 mi mx ct) (fun u => fq_BQ dC dI (va_A (fq_wq h0 a1 a2 a3 a4 d A0 mi mx ct) sz) (fq_wq h0 a1 a2 a3 a4 d u.1 u.2.1 u.2.2.1 u.2.2.2) [(d, .byte)]) (va_A (fq_wq h0 a1 a2 a3 a4 d A0 mi mx ct) sz)) 0 0 (va_A (fq_wq h0 a1 a2 a3 a4 d A0 mi mx ct) sz) := by
  refine Met.ofW (cc := cX0_takeGreatest) (maxL := 2) (ret := (some .int)) (by decide) rfl ?_
  intro p e s m args below meth c s₁ B hml hv
  obtain ⟨rfl, hsz, hP, hK, hD0⟩ := hv
  have hx := B.exec
  have hb := B.bytes
  have hr := B.returns
  have hts := atoms_spec (ws := ws_ yX0_takeGreatest cX0_takeGreatest 2 (some .int)) B.pre
  have hts : ∀ w ∈ lw_all, w.before _ s = true := fun w h => hts w (List.mem_cons_of_mem _ h)
  have hown : s.vm.findClass RX0 = some m.cls := findClass_of_methodNamed B.named
  have hlocks := B.notSynchronized
  subst hsz
  have hD := hD0.self (sz := s.heap.size)
  generalize hAe : va_A (fq_wq h0 a1 a2 a3 a4 d A0 mi mx ct) s.heap.size = A at hD ⊢
  have hA : ∀ q : Nat, s.heap.size ≤ q → A q := fun q h => by rw [← hAe]; exact Or.inr h
  have hS : va_S A s.heap s.heap [] := va_S.rf
  have hP : va_P (dC, dI) vwCl (fq_wq h0 a1 a2 a3 a4 d A0 mi mx ct) s.heap := hP
  have hl := lv_entry ([.ref h0]) (n := 2) (Nat.le_of_ble_eq_true rfl)
  rw [lg_entry_eq]
  generalize (lg_sl ([.ref h0]) ++ List.replicate (2 - (lg_sl ([.ref h0])).length) Slot.unset).toArray = ls0 at hl ⊢
  have hl : lv_has ls0 2 [(0, .ref h0)] := hl
  refine lv_aload_n hx hb dX0_takeGreatest_0 rfl (lv_at hl 0 rfl) ?_
  refine va_get (D := (dC, dI)) (ci := 0) (v := .int mx) (C := RX0) (T := TX0) (N := 7) hx hb hts in_X0 hown hK hP 0 rfl rfl 5 (by decide) (hts _ q27) (fun _ h9 => h9) rfl dX0_takeGreatest_1 ?_
  refine lv_istore_n (lv' := [(1, .int mx), (0, .ref h0)]) hx hb dX0_takeGreatest_4 rfl hl (by decide) rfl (fun ls hl => ?_)
  refine lv_aload_n hx hb dX0_takeGreatest_5 rfl (lv_at hl 1 rfl) ?_
  refine lv_iload_n hx hb dX0_takeGreatest_6 rfl (lv_at hl 0 rfl) ?_
  have hFc := va_free (wc := fq_wq h0 a1 a2 a3 a4 d A0 mi mx ct) hD hS hA [0, 1, 2, 3, 4] rfl
  refine va_calli (va_runV (As := [.int mx]) (rest := []) ⟨hx, hb, hml, hown, hts⟩ (fq_met_delete l dC dI h0 a1 a2 a3 a4 d s.heap.size A0 mi mx ct mx S hI) (cwV 1 hts (lw_V q124 q66 q67 q12 q68) rfl rfl rfl (by decide +kernel) ⟨Nat.le_of_ble_eq_true rfl, Nat.le_of_ble_eq_true rfl⟩) ⟨fq_blind, va_recv hK hP (ci := 0) (q0 := 0) rfl rfl, fun U hU hW => ⟨rfl, by rw [hU], by rw [hU]; exact hP, va_K.moved hW.alike hK, hD.weaken (fun _ _ _ _ => trivial)⟩⟩ rfl rfl hl.1 rfl (lv_room (Nat.le_of_ble_eq_true rfl)) dX0_takeGreatest_7 ⟨Nat.le_of_ble_eq_true rfl, Nat.le_of_ble_eq_true rfl⟩) hS (fun q _ h => hFc q h) hFc (fun r_7 u_7 t H1 locs ht hvm hw hB hz1 hk1 hS => ?_)
  have hw1 : r_7 = (fq_deleteR A0 mi mx ct mx) := hw.1
  have hw2 : u_7 = (fq_deleteU A0 mi mx ct mx) := hw.2
  subst hw1
  subst hw2
  obtain ⟨hP1, hK1, hD1⟩ := hB
  rw [ht] at hP1
  have hP : va_P (dC, dI) vwCl (fq_wq h0 a1 a2 a3 a4 d ((fq_deleteU A0 mi mx ct mx).1) ((fq_deleteU A0 mi mx ct mx).2.1) ((fq_deleteU A0 mi mx ct mx).2.2.1) ((fq_deleteU A0 mi mx ct mx).2.2.2)) H1 := hP1
  have hD : va_D A (fq_wq h0 a1 a2 a3 a4 d ((fq_deleteU A0 mi mx ct mx).1) ((fq_deleteU A0 mi mx ct mx).2.1) ((fq_deleteU A0 mi mx ct mx).2.2.1) ((fq_deleteU A0 mi mx ct mx).2.2.2)) := hD1.weaken (fun _ _ _ h => hFc _ h)
  generalize H1 = H at hP hS ⊢
  refine lv_if_eq (tgt := 17) hx hb dX0_takeGreatest_10 (by decide) (fun c_10 => ?_) (fun c_10 => ?_)
  · skip
    refine lv_iconst (v := -1) hx hb dX0_takeGreatest_17 (by decide) ?_
    exact W.iret (v := (-1 : Int32)) hx hb hr (fun t ht hW => ⟨⟨(-1 : Int32), ((fq_deleteU A0 mi mx ct mx).1, (fq_deleteU A0 mi mx ct mx).2.1, (fq_deleteU A0 mi mx ct mx).2.2.1, (fq_deleteU A0 mi mx ct mx).2.2.2), rfl, ⟨by rw [fq_takeGreatestR, if_pos c_10], by rw [fq_takeGreatestU, if_pos c_10]⟩, (by rw [ht]; exact hP), va_K.moved hW.alike hK, hD⟩, hS.F ht⟩) hS.2.2 dX0_takeGreatest_18
  · skip
    refine lv_iload_n hx hb dX0_takeGreatest_13 rfl (lv_at hl 0 rfl) ?_
    refine lv_goto (tgt := 18) hx hb dX0_takeGreatest_14 (by decide) ?_
    exact W.iret (v := mx) hx hb hr (fun t ht hW => ⟨⟨mx, ((fq_deleteU A0 mi mx ct mx).1, (fq_deleteU A0 mi mx ct mx).2.1, (fq_deleteU A0 mi mx ct mx).2.2.1, (fq_deleteU A0 mi mx ct mx).2.2.2), rfl, ⟨by rw [fq_takeGreatestR, if_neg c_10], by rw [fq_takeGreatestU, if_neg c_10]⟩, (by rw [ht]; exact hP), va_K.moved hW.alike hK, hD⟩, hS.F ht⟩) hS.2.2 dX0_takeGreatest_18
set_option maxHeartbeats 4000000 in
set_option maxRecDepth 100000 in
theorem fq_met_from (l : Launch) (dC : Nat → ClassId) (dI : Nat → Nat → Nat) (h0 a1 a2 a3 a4 : Nat) (d : ClassId) (sz : Nat) (A0 : fq_A4) (mi mx ct : Int32) (p1 : Int32) (S : Nat → Bool) (hI : fq_Inv S A0 mi mx ct) : Met l yX0_from (ws_ yX0_from cX0_from 2 (some .int)) ({ frames := 3, cells := 0, slots := 0, locals := 70 }) (va_Pc [.ref h0, .int p1] (fq_PQ dC dI sz (fq_wq h0 a1 a2 a3 a4 d A0 mi mx ct) [(d, .byte)])) (va_Qi (fun (r : Int32) (_ : Unit) => r = fq_from A0 mi mx ct p1) (fun _ => fq_BQ dC dI (va_A (fq_wq h0 a1 a2 a3 a4 d A0 mi mx ct) sz) (fq_wq h0 a1 a2 a3 a4 d A0 mi mx ct) [(d, .byte)]) (va_A (fq_wq h0 a1 a2 a3 a4 d A0 mi mx ct) sz)) 0 0 (va_A (fq_wq h0 a1 a2 a3 a4 d A0 mi mx ct) sz) := by
  refine Met.ofW (cc := cX0_from) (maxL := 2) (ret := (some .int)) (by decide) rfl ?_
  intro p e s m args below meth c s₁ B hml hv
  obtain ⟨rfl, hsz, hP, hK, hD0⟩ := hv
  have hx := B.exec
  have hb := B.bytes
  have hr := B.returns
  have hts := atoms_spec (ws := ws_ yX0_from cX0_from 2 (some .int)) B.pre
  have hts : ∀ w ∈ lw_all, w.before _ s = true := fun w h => hts w (List.mem_cons_of_mem _ h)
  have hown : s.vm.findClass RX0 = some m.cls := findClass_of_methodNamed B.named
  have hlocks := B.notSynchronized
  subst hsz
  have hD := hD0.self (sz := s.heap.size)
  generalize hAe : va_A (fq_wq h0 a1 a2 a3 a4 d A0 mi mx ct) s.heap.size = A at hD ⊢
  have hA : ∀ q : Nat, s.heap.size ≤ q → A q := fun q h => by rw [← hAe]; exact Or.inr h
  have hS : va_S A s.heap s.heap [] := va_S.rf
  have hP : va_P (dC, dI) vwCl (fq_wq h0 a1 a2 a3 a4 d A0 mi mx ct) s.heap := hP
  have hl := lv_entry ([.ref h0, .int p1]) (n := 2) (Nat.le_of_ble_eq_true rfl)
  rw [lg_entry_eq]
  generalize (lg_sl ([.ref h0, .int p1]) ++ List.replicate (2 - (lg_sl ([.ref h0, .int p1])).length) Slot.unset).toArray = ls0 at hl ⊢
  have hl : lv_has ls0 2 [(0, .ref h0), (1, .int p1)] := hl
  refine lv_iload_n hx hb dX0_from_0 rfl (lv_at hl 1 rfl) ?_
  refine lv_if_gt (tgt := 11) hx hb dX0_from_1 (by decide) (fun c_1 => ?_) (fun c_1 => ?_)
  · skip
    refine lv_aload_n hx hb dX0_from_11 rfl (lv_at hl 0 rfl) ?_
    refine lv_iload_n hx hb dX0_from_12 rfl (lv_at hl 1 rfl) ?_
    refine lv_iconst (v := 1) hx hb dX0_from_13 (by decide) ?_
    refine lv_isub hx hb dX0_from_14 ?_
    have hFc := va_free (wc := fq_wq h0 a1 a2 a3 a4 d A0 mi mx ct) hD hS hA [0, 1, 2, 3, 4] rfl
    refine va_calli (va_runV (As := [.int (p1 - (1 : Int32))]) (rest := []) ⟨hx, hb, hml, hown, hts⟩ (fq_met_after l dC dI h0 a1 a2 a3 a4 d s.heap.size A0 mi mx ct (p1 - (1 : Int32)) S hI) (cwV 1 hts (lw_V q137 q105 q106 q12 q107) rfl rfl rfl (by decide +kernel) ⟨Nat.le_of_ble_eq_true rfl, Nat.le_of_ble_eq_true rfl⟩) ⟨fq_blind, va_recv hK hP (ci := 0) (q0 := 0) rfl rfl, fun U hU hW => ⟨rfl, by rw [hU], by rw [hU]; exact hP, va_K.moved hW.alike hK, hD.weaken (fun _ _ _ _ => trivial)⟩⟩ rfl rfl hl.1 rfl (lv_room (Nat.le_of_ble_eq_true rfl)) dX0_from_15 ⟨Nat.le_of_ble_eq_true rfl, Nat.le_of_ble_eq_true rfl⟩) hS (fun q _ h => hFc q h) hFc (fun r_15 u_15 t H1 locs ht hvm hw hB hz1 hk1 hS => ?_)
    have hw : r_15 = (fq_after A0 mi mx ct (p1 - (1 : Int32))) := hw
    subst hw
    obtain ⟨hP1, hK1, hD1⟩ := hB
    rw [ht] at hP1
    have hP : va_P (dC, dI) vwCl (fq_wq h0 a1 a2 a3 a4 d A0 mi mx ct) H1 := hP1
    have hD : va_D A (fq_wq h0 a1 a2 a3 a4 d A0 mi mx ct) := hD1.weaken (fun _ _ _ h => hFc _ h)
    generalize H1 = H at hP hS ⊢
    exact W.iret (v := (fq_after A0 mi mx ct (p1 - (1 : Int32)))) hx hb hr (fun t ht hW => ⟨⟨(fq_after A0 mi mx ct (p1 - (1 : Int32))), (), rfl, (by rw [fq_from, if_pos c_1]), (by rw [ht]; exact hP), va_K.moved hW.alike hK, hD⟩, hS.F ht⟩) hS.2.2 dX0_from_18
  · skip
    refine lv_aload_n hx hb dX0_from_4 rfl (lv_at hl 0 rfl) ?_
    refine va_get (D := (dC, dI)) (ci := 0) (v := .int mi) (C := RX0) (T := TX0) (N := 7) hx hb hts in_X0 hown hK hP 0 rfl rfl 4 (by decide) (hts _ q26) (fun _ h9 => h9) rfl dX0_from_5 ?_
    refine lv_goto (tgt := 18) hx hb dX0_from_8 (by decide) ?_
    exact W.iret (v := mi) hx hb hr (fun t ht hW => ⟨⟨mi, (), rfl, (by rw [fq_from, if_neg c_1]), (by rw [ht]; exact hP), va_K.moved hW.alike hK, hD⟩, hS.F ht⟩) hS.2.2 dX0_from_18
set_option maxHeartbeats 4000000 in
set_option maxRecDepth 100000 in
theorem fq_met_nearest (l : Launch) (dC : Nat → ClassId) (dI : Nat → Nat → Nat) (h0 a1 a2 a3 a4 : Nat) (d : ClassId) (sz : Nat) (A0 : fq_A4) (mi mx ct : Int32) (p1 : Int32) (S : Nat → Bool) (hI : fq_Inv S A0 mi mx ct) : Met l yX0_nearest (ws_ yX0_nearest cX0_nearest 4 (some .int)) ({ frames := 3, cells := 0, slots := 0, locals := 70 }) (va_Pc [.ref h0, .int p1] (fq_PQ dC dI sz (fq_wq h0 a1 a2 a3 a4 d A0 mi mx ct) [(d, .byte)])) (va_Qi (fun (r : Int32) (_ : Unit) => r = fq_nearest A0 mi mx ct p1) (fun _ => fq_BQ dC dI (va_A (fq_wq h0 a1 a2 a3 a4 d A0 mi mx ct) sz) (fq_wq h0 a1 a2 a3 a4 d A0 mi mx ct) [(d, .byte)]) (va_A (fq_wq h0 a1 a2 a3 a4 d A0 mi mx ct) sz)) 0 0 (va_A (fq_wq h0 a1 a2 a3 a4 d A0 mi mx ct) sz) := by
  refine Met.ofW (cc := cX0_nearest) (maxL := 4) (ret := (some .int)) (by decide) rfl ?_
  intro p e s m args below meth c s₁ B hml hv
  obtain ⟨rfl, hsz, hP, hK, hD0⟩ := hv
  have hx := B.exec
  have hb := B.bytes
  have hr := B.returns
  have hts := atoms_spec (ws := ws_ yX0_nearest cX0_nearest 4 (some .int)) B.pre
  have hts : ∀ w ∈ lw_all, w.before _ s = true := fun w h => hts w (List.mem_cons_of_mem _ h)
  have hown : s.vm.findClass RX0 = some m.cls := findClass_of_methodNamed B.named
  have hlocks := B.notSynchronized
  subst hsz
  have hD := hD0.self (sz := s.heap.size)
  generalize hAe : va_A (fq_wq h0 a1 a2 a3 a4 d A0 mi mx ct) s.heap.size = A at hD ⊢
  have hA : ∀ q : Nat, s.heap.size ≤ q → A q := fun q h => by rw [← hAe]; exact Or.inr h
  have hS : va_S A s.heap s.heap [] := va_S.rf
  have hP : va_P (dC, dI) vwCl (fq_wq h0 a1 a2 a3 a4 d A0 mi mx ct) s.heap := hP
  have hl := lv_entry ([.ref h0, .int p1]) (n := 4) (Nat.le_of_ble_eq_true rfl)
  rw [lg_entry_eq]
  generalize (lg_sl ([.ref h0, .int p1]) ++ List.replicate (4 - (lg_sl ([.ref h0, .int p1])).length) Slot.unset).toArray = ls0 at hl ⊢
  have hl : lv_has ls0 4 [(0, .ref h0), (1, .int p1)] := hl
  refine lv_aload_n hx hb dX0_nearest_0 rfl (lv_at hl 0 rfl) ?_
  refine lv_iload_n hx hb dX0_nearest_1 rfl (lv_at hl 1 rfl) ?_
  have hFc := va_free (wc := fq_wq h0 a1 a2 a3 a4 d A0 mi mx ct) hD hS hA [0, 1, 2, 3, 4] rfl
  refine va_calli (va_runV (As := [.int p1]) (rest := []) ⟨hx, hb, hml, hown, hts⟩ (fq_met_after l dC dI h0 a1 a2 a3 a4 d s.heap.size A0 mi mx ct p1 S hI) (cwV 1 hts (lw_V q137 q105 q106 q12 q107) rfl rfl rfl (by decide +kernel) ⟨Nat.le_of_ble_eq_true rfl, Nat.le_of_ble_eq_true rfl⟩) ⟨fq_blind, va_recv hK hP (ci := 0) (q0 := 0) rfl rfl, fun U hU hW => ⟨rfl, by rw [hU], by rw [hU]; exact hP, va_K.moved hW.alike hK, hD.weaken (fun _ _ _ _ => trivial)⟩⟩ rfl rfl hl.1 rfl (lv_room (Nat.le_of_ble_eq_true rfl)) dX0_nearest_2 ⟨Nat.le_of_ble_eq_true rfl, Nat.le_of_ble_eq_true rfl⟩) hS (fun q _ h => hFc q h) hFc (fun r_2 u_2 t H1 locs ht hvm hw hB hz1 hk1 hS => ?_)
  have hw : r_2 = (fq_after A0 mi mx ct p1) := hw
  subst hw
  obtain ⟨hP1, hK1, hD1⟩ := hB
  rw [ht] at hP1
  have hP : va_P (dC, dI) vwCl (fq_wq h0 a1 a2 a3 a4 d A0 mi mx ct) H1 := hP1
  have hD : va_D A (fq_wq h0 a1 a2 a3 a4 d A0 mi mx ct) := hD1.weaken (fun _ _ _ h => hFc _ h)
  generalize H1 = H at hP hS ⊢
  refine lv_istore_n (lv' := [(2, .int (fq_after A0 mi mx ct p1)), (0, .ref h0), (1, .int p1)]) hx hb dX0_nearest_5 rfl hl (by decide) rfl (fun ls hl => ?_)
  refine lv_aload_n hx hb dX0_nearest_6 rfl (lv_at hl 1 rfl) ?_
  refine lv_iload_n hx hb dX0_nearest_7 rfl (lv_at hl 2 rfl) ?_
  have hFc := va_free (wc := fq_wq h0 a1 a2 a3 a4 d A0 mi mx ct) hD hS hA [0, 1, 2, 3, 4] rfl
  refine va_calli (va_runV (As := [.int p1]) (rest := []) ⟨hx, hb, hml, hown, hts⟩ (fq_met_member l dC dI h0 a1 a2 a3 a4 d H.size A0 mi mx ct p1 ) (cwV 1 hts (lw_V q49 q50 q51 q12 q52) rfl rfl rfl (by decide +kernel) ⟨Nat.le_of_ble_eq_true rfl, Nat.le_of_ble_eq_true rfl⟩) ⟨fq_blind, va_recv hK hP (ci := 0) (q0 := 0) rfl rfl, fun U hU hW => ⟨rfl, by rw [hU], by rw [hU]; exact hP, va_K.moved hW.alike hK, hD.weaken (fun _ _ _ _ => trivial)⟩⟩ rfl rfl hl.1 rfl (lv_room (Nat.le_of_ble_eq_true rfl)) dX0_nearest_8 ⟨Nat.le_of_ble_eq_true rfl, Nat.le_of_ble_eq_true rfl⟩) hS (fun q _ h => hFc q h) hFc (fun r_8 u_8 t H1 locs ht hvm hw hB hz1 hk1 hS => ?_)
  have hw : r_8 = (fq_member A0 mi mx ct p1) := hw
  subst hw
  obtain ⟨hP1, hK1, hD1⟩ := hB
  rw [ht] at hP1
  have hP : va_P (dC, dI) vwCl (fq_wq h0 a1 a2 a3 a4 d A0 mi mx ct) H1 := hP1
  have hD : va_D A (fq_wq h0 a1 a2 a3 a4 d A0 mi mx ct) := hD1.weaken (fun _ _ _ h => hFc _ h)
  generalize H1 = H at hP hS ⊢
  refine lv_if_eq (tgt := 18) hx hb dX0_nearest_11 (by decide) (fun c_11 => ?_) (fun c_11 => ?_)
  · skip
    refine lv_aload_n hx hb dX0_nearest_18 rfl (lv_at hl 1 rfl) ?_
    refine lv_iload_n hx hb dX0_nearest_19 rfl (lv_at hl 2 rfl) ?_
    have hFc := va_free (wc := fq_wq h0 a1 a2 a3 a4 d A0 mi mx ct) hD hS hA [0, 1, 2, 3, 4] rfl
    refine va_calli (va_runV (As := [.int p1]) (rest := []) ⟨hx, hb, hml, hown, hts⟩ (fq_met_before l dC dI h0 a1 a2 a3 a4 d H.size A0 mi mx ct p1 S hI) (cwV 1 hts (lw_V q154 q113 q114 q12 q115) rfl rfl rfl (by decide +kernel) ⟨Nat.le_of_ble_eq_true rfl, Nat.le_of_ble_eq_true rfl⟩) ⟨fq_blind, va_recv hK hP (ci := 0) (q0 := 0) rfl rfl, fun U hU hW => ⟨rfl, by rw [hU], by rw [hU]; exact hP, va_K.moved hW.alike hK, hD.weaken (fun _ _ _ _ => trivial)⟩⟩ rfl rfl hl.1 rfl (lv_room (Nat.le_of_ble_eq_true rfl)) dX0_nearest_20 ⟨Nat.le_of_ble_eq_true rfl, Nat.le_of_ble_eq_true rfl⟩) hS (fun q _ h => hFc q h) hFc (fun r_20 u_20 t H1 locs ht hvm hw hB hz1 hk1 hS => ?_)
    have hw : r_20 = (fq_before A0 mi mx ct p1) := hw
    subst hw
    obtain ⟨hP1, hK1, hD1⟩ := hB
    rw [ht] at hP1
    have hP : va_P (dC, dI) vwCl (fq_wq h0 a1 a2 a3 a4 d A0 mi mx ct) H1 := hP1
    have hD : va_D A (fq_wq h0 a1 a2 a3 a4 d A0 mi mx ct) := hD1.weaken (fun _ _ _ h => hFc _ h)
    generalize H1 = H at hP hS ⊢
    refine lv_istore_n (lv' := [(3, .int (fq_before A0 mi mx ct p1)), (2, .int (fq_after A0 mi mx ct p1)), (0, .ref h0), (1, .int p1)]) hx hb dX0_nearest_23 rfl hl (by decide) rfl (fun ls hl => ?_)
    refine lv_iload_n hx hb dX0_nearest_24 rfl (lv_at hl 1 rfl) ?_
    refine lv_if_lt (tgt := 32) hx hb dX0_nearest_25 (by decide) (fun c_25 => ?_) (fun c_25 => ?_)
    · skip
      refine lv_iload_n hx hb dX0_nearest_32 rfl (lv_at hl 1 rfl) ?_
      refine lv_if_ge (tgt := 40) hx hb dX0_nearest_33 (by decide) (fun c_33 => ?_) (fun c_33 => ?_)
      · skip
        refine lv_iload_n hx hb dX0_nearest_40 rfl (lv_at hl 1 rfl) ?_
        exact W.iret (v := (fq_after A0 mi mx ct p1)) hx hb hr (fun t ht hW => ⟨⟨(fq_after A0 mi mx ct p1), (), rfl, (by rw [fq_nearest, if_pos c_11, if_pos c_25, if_pos c_33]), (by rw [ht]; exact hP), va_K.moved hW.alike hK, hD⟩, hS.F ht⟩) hS.2.2 dX0_nearest_41
      · skip
        refine lv_iload_n hx hb dX0_nearest_36 rfl (lv_at hl 0 rfl) ?_
        refine lv_goto (tgt := 41) hx hb dX0_nearest_37 (by decide) ?_
        exact W.iret (v := (fq_before A0 mi mx ct p1)) hx hb hr (fun t ht hW => ⟨⟨(fq_before A0 mi mx ct p1), (), rfl, (by rw [fq_nearest, if_pos c_11, if_pos c_25, if_neg c_33]), (by rw [ht]; exact hP), va_K.moved hW.alike hK, hD⟩, hS.F ht⟩) hS.2.2 dX0_nearest_41
    · skip
      refine lv_iload_n hx hb dX0_nearest_28 rfl (lv_at hl 0 rfl) ?_
      refine lv_if_ge (tgt := 42) hx hb dX0_nearest_29 (by decide) (fun c_29 => ?_) (fun c_29 => ?_)
      · skip
        refine lv_iload_n hx hb dX0_nearest_42 rfl (lv_at hl 3 rfl) ?_
        refine lv_iload_n hx hb dX0_nearest_43 rfl (lv_at hl 0 rfl) ?_
        refine lv_isub hx hb dX0_nearest_44 ?_
        refine lv_iload_n hx hb dX0_nearest_45 rfl (lv_at hl 1 rfl) ?_
        refine lv_iload_n hx hb dX0_nearest_46 rfl (lv_at hl 3 rfl) ?_
        refine lv_isub hx hb dX0_nearest_47 ?_
        refine lv_icmp_gt (tgt := 55) hx hb dX0_nearest_48 (by decide) (fun c_48 => ?_) (fun c_48 => ?_)
        · skip
          refine lv_iload_n hx hb dX0_nearest_55 rfl (lv_at hl 1 rfl) ?_
          exact W.iret (v := (fq_after A0 mi mx ct p1)) hx hb hr (fun t ht hW => ⟨⟨(fq_after A0 mi mx ct p1), (), rfl, (by rw [fq_nearest, if_pos c_11, if_neg c_25, if_pos c_29, if_pos c_48]), (by rw [ht]; exact hP), va_K.moved hW.alike hK, hD⟩, hS.F ht⟩) hS.2.2 dX0_nearest_56
        · skip
          refine lv_iload_n hx hb dX0_nearest_51 rfl (lv_at hl 0 rfl) ?_
          refine lv_goto (tgt := 56) hx hb dX0_nearest_52 (by decide) ?_
          exact W.iret (v := (fq_before A0 mi mx ct p1)) hx hb hr (fun t ht hW => ⟨⟨(fq_before A0 mi mx ct p1), (), rfl, (by rw [fq_nearest, if_pos c_11, if_neg c_25, if_pos c_29, if_neg c_48]), (by rw [ht]; exact hP), va_K.moved hW.alike hK, hD⟩, hS.F ht⟩) hS.2.2 dX0_nearest_56
      · skip
        refine lv_iload_n hx hb dX0_nearest_32 rfl (lv_at hl 1 rfl) ?_
        refine lv_if_ge (tgt := 40) hx hb dX0_nearest_33 (by decide) (fun c_33 => ?_) (fun c_33 => ?_)
        · skip
          refine lv_iload_n hx hb dX0_nearest_40 rfl (lv_at hl 1 rfl) ?_
          exact W.iret (v := (fq_after A0 mi mx ct p1)) hx hb hr (fun t ht hW => ⟨⟨(fq_after A0 mi mx ct p1), (), rfl, (by rw [fq_nearest, if_pos c_11, if_neg c_25, if_neg c_29, if_pos c_33]), (by rw [ht]; exact hP), va_K.moved hW.alike hK, hD⟩, hS.F ht⟩) hS.2.2 dX0_nearest_41
        · skip
          refine lv_iload_n hx hb dX0_nearest_36 rfl (lv_at hl 0 rfl) ?_
          refine lv_goto (tgt := 41) hx hb dX0_nearest_37 (by decide) ?_
          exact W.iret (v := (fq_before A0 mi mx ct p1)) hx hb hr (fun t ht hW => ⟨⟨(fq_before A0 mi mx ct p1), (), rfl, (by rw [fq_nearest, if_pos c_11, if_neg c_25, if_neg c_29, if_neg c_33]), (by rw [ht]; exact hP), va_K.moved hW.alike hK, hD⟩, hS.F ht⟩) hS.2.2 dX0_nearest_41
  · skip
    refine lv_iload_n hx hb dX0_nearest_14 rfl (lv_at hl 2 rfl) ?_
    refine lv_goto (tgt := 23) hx hb dX0_nearest_15 (by decide) ?_
    refine lv_istore_n (lv' := [(3, .int p1), (2, .int (fq_after A0 mi mx ct p1)), (0, .ref h0), (1, .int p1)]) hx hb dX0_nearest_23 rfl hl (by decide) rfl (fun ls hl => ?_)
    refine lv_iload_n hx hb dX0_nearest_24 rfl (lv_at hl 1 rfl) ?_
    refine lv_if_lt (tgt := 32) hx hb dX0_nearest_25 (by decide) (fun c_25 => ?_) (fun c_25 => ?_)
    · skip
      refine lv_iload_n hx hb dX0_nearest_32 rfl (lv_at hl 1 rfl) ?_
      refine lv_if_ge (tgt := 40) hx hb dX0_nearest_33 (by decide) (fun c_33 => ?_) (fun c_33 => ?_)
      · skip
        refine lv_iload_n hx hb dX0_nearest_40 rfl (lv_at hl 1 rfl) ?_
        exact W.iret (v := (fq_after A0 mi mx ct p1)) hx hb hr (fun t ht hW => ⟨⟨(fq_after A0 mi mx ct p1), (), rfl, (by rw [fq_nearest, if_neg c_11, if_pos c_25, if_pos c_33]), (by rw [ht]; exact hP), va_K.moved hW.alike hK, hD⟩, hS.F ht⟩) hS.2.2 dX0_nearest_41
      · skip
        refine lv_iload_n hx hb dX0_nearest_36 rfl (lv_at hl 0 rfl) ?_
        refine lv_goto (tgt := 41) hx hb dX0_nearest_37 (by decide) ?_
        exact W.iret (v := p1) hx hb hr (fun t ht hW => ⟨⟨p1, (), rfl, (by rw [fq_nearest, if_neg c_11, if_pos c_25, if_neg c_33]), (by rw [ht]; exact hP), va_K.moved hW.alike hK, hD⟩, hS.F ht⟩) hS.2.2 dX0_nearest_41
    · skip
      refine lv_iload_n hx hb dX0_nearest_28 rfl (lv_at hl 0 rfl) ?_
      refine lv_if_ge (tgt := 42) hx hb dX0_nearest_29 (by decide) (fun c_29 => ?_) (fun c_29 => ?_)
      · skip
        refine lv_iload_n hx hb dX0_nearest_42 rfl (lv_at hl 3 rfl) ?_
        refine lv_iload_n hx hb dX0_nearest_43 rfl (lv_at hl 0 rfl) ?_
        refine lv_isub hx hb dX0_nearest_44 ?_
        refine lv_iload_n hx hb dX0_nearest_45 rfl (lv_at hl 1 rfl) ?_
        refine lv_iload_n hx hb dX0_nearest_46 rfl (lv_at hl 3 rfl) ?_
        refine lv_isub hx hb dX0_nearest_47 ?_
        refine lv_icmp_gt (tgt := 55) hx hb dX0_nearest_48 (by decide) (fun c_48 => ?_) (fun c_48 => ?_)
        · skip
          refine lv_iload_n hx hb dX0_nearest_55 rfl (lv_at hl 1 rfl) ?_
          exact W.iret (v := (fq_after A0 mi mx ct p1)) hx hb hr (fun t ht hW => ⟨⟨(fq_after A0 mi mx ct p1), (), rfl, (by rw [fq_nearest, if_neg c_11, if_neg c_25, if_pos c_29, if_pos c_48]), (by rw [ht]; exact hP), va_K.moved hW.alike hK, hD⟩, hS.F ht⟩) hS.2.2 dX0_nearest_56
        · skip
          refine lv_iload_n hx hb dX0_nearest_51 rfl (lv_at hl 0 rfl) ?_
          refine lv_goto (tgt := 56) hx hb dX0_nearest_52 (by decide) ?_
          exact W.iret (v := p1) hx hb hr (fun t ht hW => ⟨⟨p1, (), rfl, (by rw [fq_nearest, if_neg c_11, if_neg c_25, if_pos c_29, if_neg c_48]), (by rw [ht]; exact hP), va_K.moved hW.alike hK, hD⟩, hS.F ht⟩) hS.2.2 dX0_nearest_56
      · skip
        refine lv_iload_n hx hb dX0_nearest_32 rfl (lv_at hl 1 rfl) ?_
        refine lv_if_ge (tgt := 40) hx hb dX0_nearest_33 (by decide) (fun c_33 => ?_) (fun c_33 => ?_)
        · skip
          refine lv_iload_n hx hb dX0_nearest_40 rfl (lv_at hl 1 rfl) ?_
          exact W.iret (v := (fq_after A0 mi mx ct p1)) hx hb hr (fun t ht hW => ⟨⟨(fq_after A0 mi mx ct p1), (), rfl, (by rw [fq_nearest, if_neg c_11, if_neg c_25, if_neg c_29, if_pos c_33]), (by rw [ht]; exact hP), va_K.moved hW.alike hK, hD⟩, hS.F ht⟩) hS.2.2 dX0_nearest_41
        · skip
          refine lv_iload_n hx hb dX0_nearest_36 rfl (lv_at hl 0 rfl) ?_
          refine lv_goto (tgt := 41) hx hb dX0_nearest_37 (by decide) ?_
          exact W.iret (v := p1) hx hb hr (fun t ht hW => ⟨⟨p1, (), rfl, (by rw [fq_nearest, if_neg c_11, if_neg c_25, if_neg c_29, if_neg c_33]), (by rw [ht]; exact hP), va_K.moved hW.alike hK, hD⟩, hS.F ht⟩) hS.2.2 dX0_nearest_41
end
section
/-! the reference's loops: what they compute of the set S -/
def fq_num (p1 : Int32) : Int32 := if p1 < 0 then (0 : Int32) else if (255 : Int32) < p1 then (0 : Int32) else (1 : Int32)
theorem fq_num1 {x : Int32} (h : ¬ fq_num x = 0) : ∃ n, n < 256 ∧ x = nI n := by
  rcases fq_cases x with q | q | q
  · unfold fq_num at h
    rw [if_pos q] at h
    exact absurd rfl h
  · have q2 : (255 : Int32) < x := by
      rw [Int32.le_iff_toInt_le, show (256 : Int32).toInt = 256 by decide] at q
      rw [Int32.lt_iff_toInt_lt, show (255 : Int32).toInt = 255 by decide]
      omega
    have e : fq_num x = 0 := by
      unfold fq_num
      by_cases q3 : x < 0
      · rw [if_pos q3]
      · rw [if_neg q3, if_pos q2]
    exact absurd e h
  · exact q
theorem fq_num_n {n : Nat} (h : n < 256) : fq_num (nI n) = 1 := by
  unfold fq_num
  rw [if_neg (nI_pos (by omega)), if_neg (show ¬ (255 : Int32) < nI n from nI_nlt (b := n) (a := 255) (by omega) (by decide))]
theorem fq_num_in {x : Int32} (h : ¬ fq_num x = 0) : vp_in x 256 := by
  obtain ⟨n, hn, rfl⟩ := fq_num1 h
  exact vp_in_nI hn (by decide)
theorem fq_num0 {x : Int32} (h : fq_num x = 0) : fq_rng x = false := by
  rcases fq_cases x with q | q | ⟨n, hn, rfl⟩
  · exact fq_rng_lt q
  · exact fq_rng_ge q
  · rw [fq_num_n hn] at h
    exact absurd h (by decide)
theorem fq_bf_n {S : Nat → Bool} {n : Nat} (hn : n < 256) : fq_bf S (nI n).toNatClampNeg = cond (S n) 1 0 := by
  rw [fq_cl hn]; rfl
theorem fq_bf0 {S : Nat → Bool} {n : Nat} (hn : n < 256) (h : fq_bf S (nI n).toNatClampNeg = 0) : S n = false := by
  rw [fq_bf_n hn] at h
  cases e : S n
  · rfl
  · rw [e] at h
    exact absurd h (by decide)
theorem fq_bf1 {S : Nat → Bool} {n : Nat} (hn : n < 256) (h : ¬ fq_bf S (nI n).toNatClampNeg = 0) : S n = true := by
  rw [fq_bf_n hn] at h
  cases e : S n
  · rw [e] at h
    exact absurd rfl h
  · rfl
theorem fq_nz1 : vp_nar .boolean (1 : Int32) = 1 := by decide +kernel
theorem fq_nz0 : vp_nar .boolean (0 : Int32) = 0 := by decide +kernel
theorem fq_updb {S T : Nat → Bool} {n : Nat} {v : Int32} (hv : v = cond (T n) 1 0) (h : ∀ j, j ≠ n → T j = S j) : upd (fq_bf S) n v = fq_bf T := by
  funext j
  by_cases e : j = n
  · subst e
    rw [pk_us, hv]; rfl
  · rw [pk_un e]
    unfold fq_bf
    rw [h j e]
theorem fq_insM1 {S : Nat → Bool} {x : Int32} (h : fq_num x = 0) : (0 : Int32) = fq_insR S x ∧ S = fq_insS S x := ⟨(fq_insR_o (fq_num0 h)).symm, (fq_insS_o (fq_num0 h)).symm⟩
theorem fq_insM2 {S : Nat → Bool} {x : Int32} (h : ¬ fq_num x = 0) (h1 : ¬ fq_bf S x.toNatClampNeg = 0) : (0 : Int32) = fq_insR S x ∧ S = fq_insS S x := by
  obtain ⟨n, hn, rfl⟩ := fq_num1 h
  have hs := fq_bf1 hn h1
  rw [fq_insR_n hn, fq_insS_n hn, hs, fq_wi_self hs]
  exact ⟨rfl, rfl⟩
theorem fq_insM3 {S : Nat → Bool} {x : Int32} (h : ¬ fq_num x = 0) : upd (fq_bf S) x.toNatClampNeg (vp_nar .boolean (1 : Int32)) = fq_bf (fq_insS S x) := by
  obtain ⟨n, hn, rfl⟩ := fq_num1 h
  rw [fq_insS_n hn, fq_cl hn, fq_nz1]
  exact fq_updb (by rw [fq_wi_s]; rfl) (fun j hj => fq_wi_n hj)
theorem fq_insM4 {S : Nat → Bool} {x : Int32} (h : ¬ fq_num x = 0) (h1 : fq_bf S x.toNatClampNeg = 0) : (1 : Int32) = fq_insR S x ∧ fq_insS S x = fq_insS S x := by
  obtain ⟨n, hn, rfl⟩ := fq_num1 h
  have hs := fq_bf0 hn h1
  rw [fq_insR_n hn, hs]
  exact ⟨rfl, rfl⟩
theorem fq_delM1 {S : Nat → Bool} {x : Int32} (h : fq_num x = 0) : (0 : Int32) = fq_memR S x ∧ S = fq_delS S x := ⟨(fq_memR_o (fq_num0 h)).symm, (fq_delS_o (fq_num0 h)).symm⟩
theorem fq_delM2 {S : Nat → Bool} {x : Int32} (h : ¬ fq_num x = 0) (h1 : fq_bf S x.toNatClampNeg = 0) : (0 : Int32) = fq_memR S x ∧ S = fq_delS S x := by
  obtain ⟨n, hn, rfl⟩ := fq_num1 h
  have hs := fq_bf0 hn h1
  rw [fq_memR_n hn, fq_delS_n hn, hs, fq_wo_self hs]
  exact ⟨rfl, rfl⟩
theorem fq_delM3 {S : Nat → Bool} {x : Int32} (h : ¬ fq_num x = 0) : upd (fq_bf S) x.toNatClampNeg (vp_nar .boolean (0 : Int32)) = fq_bf (fq_delS S x) := by
  obtain ⟨n, hn, rfl⟩ := fq_num1 h
  rw [fq_delS_n hn, fq_cl hn, fq_nz0]
  exact fq_updb (by rw [fq_wo_s]; rfl) (fun j hj => fq_wo_n hj)
theorem fq_delM4 {S : Nat → Bool} {x : Int32} (h : ¬ fq_num x = 0) (h1 : ¬ fq_bf S x.toNatClampNeg = 0) : (1 : Int32) = fq_memR S x ∧ fq_delS S x = fq_delS S x := by
  obtain ⟨n, hn, rfl⟩ := fq_num1 h
  have hs := fq_bf1 hn h1
  rw [fq_memR_n hn, hs]
  exact ⟨rfl, rfl⟩
theorem fq_lt256 {i : Nat} (c : ¬ (256 : Int32) ≤ nI i) (h : i ≤ 256) : i < 256 := by
  rcases Nat.lt_or_ge i 256 with q | q
  · exact q
  · have : i = 256 := by omega
    subst this
    exact absurd (by decide) c
theorem fq_eq256 {i : Nat} (c : (256 : Int32) ≤ nI i) (h : i ≤ 256) : i = 256 := by
  rcases Nat.lt_or_ge i 256 with q | q
  · exact absurd c (show ¬ (256 : Int32) ≤ nI i from nI_ge (b := 256) q (by decide))
  · omega
/-! countBetween -/
def fq_btw (S : Nat → Bool) (a b : Int32) : Nat → Bool := fun j => S j && (decide (a ≤ nI j) && decide (nI j ≤ b))
theorem fq_cb0 {S : Nat → Bool} {a b : Int32} {i : Nat} (c : fq_bf S (nI i).toNatClampNeg = 0) (h : i < 256) : nI (fq_cnt (fq_btw S a b) (i + 1)) = nI (fq_cnt (fq_btw S a b) i) := by
  rw [fq_cnt_f]
  unfold fq_btw
  rw [fq_bf0 h c]; rfl
theorem fq_cb1 {S : Nat → Bool} {a b : Int32} {i : Nat} (c : nI i < a) (h : i < 256) : nI (fq_cnt (fq_btw S a b) (i + 1)) = nI (fq_cnt (fq_btw S a b) i) := by
  rw [fq_cnt_f]
  unfold fq_btw
  have : ¬ a ≤ nI i := fun q => fq_le_nlt.mp q c
  simp [this]
theorem fq_cb2 {S : Nat → Bool} {a b : Int32} {i : Nat} (c : b < nI i) (h : i < 256) : nI (fq_cnt (fq_btw S a b) (i + 1)) = nI (fq_cnt (fq_btw S a b) i) := by
  rw [fq_cnt_f]
  unfold fq_btw
  have : ¬ nI i ≤ b := fun q => fq_le_nlt.mp q c
  simp [this]
theorem fq_cb3 {S : Nat → Bool} {a b : Int32} {i : Nat} (c : ¬ fq_bf S (nI i).toNatClampNeg = 0) (c1 : ¬ nI i < a) (c2 : ¬ b < nI i) (h : i < 256) : nI (fq_cnt (fq_btw S a b) (i + 1)) = nI (fq_cnt (fq_btw S a b) i) + 1 := by
  rw [fq_cnt_t, nI_1]
  unfold fq_btw
  rw [fq_bf1 h c]
  have h1 : a ≤ nI i := fq_le_nlt.mpr c1
  have h2 : nI i ≤ b := fq_le_nlt.mpr c2
  simp [h1, h2]
/-! after, before -/
theorem fq_afM1 {S : Nat → Bool} {a : Int32} {i : Nat} (hv : ∀ j, j < i → (S j && decide (a < nI j)) = false) (c : nI i ≤ a) : ∀ j, j < i + 1 → (S j && decide (a < nI j)) = false := by
  intro j hj
  rcases Nat.lt_or_ge j i with q | q
  · exact hv j q
  · have : j = i := by omega
    subst this
    have : ¬ a < nI j := fq_le_nlt.mp c
    simp [this]
theorem fq_afM2 {S : Nat → Bool} {a : Int32} {i : Nat} (hv : ∀ j, j < i → (S j && decide (a < nI j)) = false) (h : i < 256) (c : fq_bf S (nI i).toNatClampNeg = 0) : ∀ j, j < i + 1 → (S j && decide (a < nI j)) = false := by
  intro j hj
  rcases Nat.lt_or_ge j i with q | q
  · exact hv j q
  · have : j = i := by omega
    subst this
    rw [fq_bf0 h c]; rfl
theorem fq_afM3 {S : Nat → Bool} {a : Int32} {i : Nat} (hv : ∀ j, j < i → (S j && decide (a < nI j)) = false) (h : i ≤ 256) (c : (256 : Int32) ≤ nI i) : fq_Mn (fun j => S j && decide (a < nI j)) 256 (-1) := by
  have := fq_eq256 c h
  subst this
  exact Or.inr ⟨rfl, hv⟩
theorem fq_afM4 {S : Nat → Bool} {a : Int32} {i : Nat} (hv : ∀ j, j < i → (S j && decide (a < nI j)) = false) (h : i < 256) (c : ¬ nI i ≤ a) (c2 : ¬ fq_bf S (nI i).toNatClampNeg = 0) : fq_Mn (fun j => S j && decide (a < nI j)) 256 (nI i) := by
  refine Or.inl ⟨i, h, ?_, rfl, hv⟩
  have h1 : a < nI i := by
    rw [fq_le_nlt] at c
    exact Classical.not_not.mp c
  simp [fq_bf1 h c2, h1]
theorem fq_m1 {i : Nat} : nI i - 1 = nI i + (-1) := Int32.sub_eq_add_neg _ _
theorem fq_bfM0 {S : Nat → Bool} {a : Int32} (hv : ∀ j, 0 ≤ j → j < 256 → (S j && decide (nI j < a)) = false) : fq_Mx (fun j => S j && decide (nI j < a)) 256 (-1) := Or.inr ⟨rfl, fun k hk => hv k (Nat.zero_le k) hk⟩
theorem fq_bfM1 {S : Nat → Bool} {a : Int32} {i : Nat} (hv : ∀ j, i + 1 ≤ j → j < 256 → (S j && decide (nI j < a)) = false) (c : a ≤ nI i) : ∀ j, i ≤ j → j < 256 → (S j && decide (nI j < a)) = false := by
  intro j hj h2
  by_cases e : j = i
  · subst e
    have : ¬ nI j < a := fq_le_nlt.mp c
    simp [this]
  · exact hv j (by omega) h2
theorem fq_bfM2 {S : Nat → Bool} {a : Int32} {i : Nat} (hv : ∀ j, i + 1 ≤ j → j < 256 → (S j && decide (nI j < a)) = false) (h : i + 1 ≤ 256) (c : fq_bf S (nI i).toNatClampNeg = 0) : ∀ j, i ≤ j → j < 256 → (S j && decide (nI j < a)) = false := by
  intro j hj h2
  by_cases e : j = i
  · subst e
    rw [fq_bf0 h c]; rfl
  · exact hv j (by omega) h2
theorem fq_bfM4 {S : Nat → Bool} {a : Int32} {i : Nat} (hv : ∀ j, i + 1 ≤ j → j < 256 → (S j && decide (nI j < a)) = false) (h : i + 1 ≤ 256) (c : ¬ a ≤ nI i) (c2 : ¬ fq_bf S (nI i).toNatClampNeg = 0) : fq_Mx (fun j => S j && decide (nI j < a)) 256 (nI i) := by
  refine Or.inl ⟨i, h, ?_, rfl, fun j h1 h2 => hv j h1 h2⟩
  have h1 : nI i < a := by
    rw [fq_le_nlt] at c
    exact Classical.not_not.mp c
  simp [fq_bf1 h c2, h1]
/-! select -/
def fq_Sel (S : Nat → Bool) (k r : Int32) : Prop := (∃ i, i < 256 ∧ S i = true ∧ nI (fq_cnt S i) = k ∧ r = nI i) ∨ (r = -1 ∧ ∀ i, i < 256 → S i = true → ¬ nI (fq_cnt S i) = k)
theorem fq_seM1 {S : Nat → Bool} {k : Int32} {i : Nat} (hv : ∀ j, j < i → S j = true → ¬ nI (fq_cnt S j) = k) (h : i < 256) (c : fq_bf S (nI i).toNatClampNeg = 0) : ∀ j, j < i + 1 → S j = true → ¬ nI (fq_cnt S j) = k := by
  intro j hj hs
  rcases Nat.lt_or_ge j i with q | q
  · exact hv j q hs
  · have : j = i := by omega
    subst this
    exact absurd (fq_bf0 h c) (fun e => fq_tf hs e)
theorem fq_seM2 {S : Nat → Bool} {i : Nat} (h : i < 256) (c : fq_bf S (nI i).toNatClampNeg = 0) : nI (fq_cnt S (i + 1)) = nI (fq_cnt S i) := by
  rw [fq_cnt_f (fq_bf0 h c)]
theorem fq_seM3 {S : Nat → Bool} {k : Int32} {i : Nat} (hv : ∀ j, j < i → S j = true → ¬ nI (fq_cnt S j) = k) (c : ¬ nI (fq_cnt S i) = k) : ∀ j, j < i + 1 → S j = true → ¬ nI (fq_cnt S j) = k := by
  intro j hj hs
  rcases Nat.lt_or_ge j i with q | q
  · exact hv j q hs
  · have : j = i := by omega
    subst this
    exact c
theorem fq_seM4 {S : Nat → Bool} {i : Nat} (h : i < 256) (c : ¬ fq_bf S (nI i).toNatClampNeg = 0) : nI (fq_cnt S (i + 1)) = nI (fq_cnt S i) + 1 := by
  rw [fq_cnt_t (fq_bf1 h c), nI_1]
theorem fq_seM5 {S : Nat → Bool} {k : Int32} {i : Nat} (hv : ∀ j, j < i → S j = true → ¬ nI (fq_cnt S j) = k) (h : i ≤ 256) (c : (256 : Int32) ≤ nI i) : fq_Sel S k (-1) := by
  have := fq_eq256 c h
  subst this
  exact Or.inr ⟨rfl, hv⟩
theorem fq_seM6 {S : Nat → Bool} {k : Int32} {i : Nat} (h : i < 256) (c : ¬ fq_bf S (nI i).toNatClampNeg = 0) (c2 : nI (fq_cnt S i) = k) : fq_Sel S k (nI i) := Or.inl ⟨i, h, fq_bf1 h c, c2, rfl⟩
/-! gapFrom -/
def fq_gm (x : Int32) : Nat := (256 - x.toInt).toNat
def fq_GI (S : Nat → Bool) (a x : Int32) : Prop := (a < 0 → x = a) ∧ a ≤ x ∧ ∀ j, j < 256 → a ≤ nI j → nI j < x → S j = true
def fq_Gap (S : Nat → Bool) (a r : Int32) : Prop := (a < 0 → r = -1) ∧ (¬ a < 0 → fq_Mn (fun j => !S j && decide (a ≤ nI j)) 256 r)
theorem fq_gaM0 (S : Nat → Bool) (a : Int32) : fq_GI S a a := ⟨fun _ => rfl, fq_le_nlt.mpr (by rw [Int32.lt_iff_toInt_lt]; omega), fun j _ h1 h2 => absurd h2 (fq_le_nlt.mp h1)⟩
theorem fq_x1 {n : Nat} (h : n < 256) : (nI n + (1 : Int32)).toInt = n + 1 := by
  rw [nI_1, nI_toInt (by omega)]; omega
theorem fq_gaM1 {x : Int32} {n : Nat} (hn : fq_gm x = n) (c : ¬ fq_num x = 0) : fq_gm (x + 1) < n := by
  obtain ⟨k, hk, rfl⟩ := fq_num1 c
  unfold fq_gm at *
  rw [fq_x1 hk]
  rw [nI_toInt (by omega)] at hn
  omega
theorem fq_gaM2 {S : Nat → Bool} {a x : Int32} (hv : fq_GI S a x) (c : ¬ fq_num x = 0) (c2 : ¬ fq_bf S x.toNatClampNeg = 0) : fq_GI S a (x + 1) := by
  obtain ⟨k, hk, rfl⟩ := fq_num1 c
  obtain ⟨h1, h2, h3⟩ := hv
  refine ⟨fun q => ?_, ?_, fun j hj q1 q2 => ?_⟩
  · have e := h1 q
    rw [← e] at q
    exact absurd q (nI_pos (by omega))
  · rw [Int32.le_iff_toInt_le] at *
    rw [fq_x1 hk]
    rw [nI_toInt (by omega)] at h2
    omega
  · by_cases e : j = k
    · subst e
      exact fq_bf1 hk c2
    · refine h3 j hj q1 ?_
      rw [Int32.lt_iff_toInt_lt] at *
      rw [fq_x1 hk, nI_toInt (by omega)] at q2
      rw [nI_toInt (by omega), nI_toInt (by omega)]
      omega
theorem fq_gaM3 {S : Nat → Bool} {a x : Int32} (hv : fq_GI S a x) (c : fq_num x = 0) : fq_Gap S a (-1) := by
  obtain ⟨h1, h2, h3⟩ := hv
  refine ⟨fun _ => rfl, fun q => Or.inr ⟨rfl, fun j hj => ?_⟩⟩
  by_cases h : a ≤ nI j
  · have hs : S j = true := by
      refine h3 j hj h ?_
      rcases fq_cases x with q2 | q2 | ⟨n, hn, rfl⟩
      · exfalso
        rw [Int32.lt_iff_toInt_lt, Int32.toInt_zero] at q q2
        rw [Int32.le_iff_toInt_le] at h2
        omega
      · rw [Int32.le_iff_toInt_le, show (256 : Int32).toInt = 256 by decide] at q2
        rw [Int32.lt_iff_toInt_lt, nI_toInt (by omega)]
        omega
      · rw [fq_num_n hn] at c
        exact absurd c (by decide)
    simp [hs]
  · simp [h]
theorem fq_gaM4 {S : Nat → Bool} {a x : Int32} (hv : fq_GI S a x) (c : ¬ fq_num x = 0) (c2 : fq_bf S x.toNatClampNeg = 0) : fq_Gap S a x := by
  obtain ⟨k, hk, rfl⟩ := fq_num1 c
  obtain ⟨h1, h2, h3⟩ := hv
  refine ⟨fun q => ?_, fun q => ?_⟩
  · have e := h1 q
    rw [← e] at q
    exact absurd q (nI_pos (by omega))
  · refine Or.inl ⟨k, hk, ?_, rfl, fun j hj => ?_⟩
    · simp [fq_bf0 hk c2, h2]
    · by_cases h : a ≤ nI j
      · simp [h3 j (by omega) h (nI_lt hj (by omega))]
      · simp [h]
/-! deleteBetween -/
def fq_dbI (S : Nat → Bool) (a b : Int32) (i : Nat) : Nat → Bool := fun j => S j && !(decide (j < i) && (decide (a ≤ nI j) && decide (nI j ≤ b)))
theorem fq_dbI0 {S : Nat → Bool} {a b : Int32} : fq_dbI S a b 0 = S := by
  funext j
  unfold fq_dbI
  simp
theorem fq_dbI_n {S : Nat → Bool} {a b : Int32} {i j : Nat} (h : j ≠ i) : fq_dbI S a b (i + 1) j = fq_dbI S a b i j := by
  unfold fq_dbI
  have : decide (j < i + 1) = decide (j < i) := decide_eq_decide.mpr (by omega)
  rw [this]
theorem fq_dbI_s {S : Nat → Bool} {a b : Int32} {i : Nat} : fq_dbI S a b i i = S i := by
  unfold fq_dbI
  simp
theorem fq_dbM1 {S : Nat → Bool} {a b : Int32} {i : Nat} (h : i < 256) (c : fq_bf (fq_dbI S a b i) (nI i).toNatClampNeg = 0) : upd (fq_bf (fq_dbI S a b i)) (nI i).toNatClampNeg (vp_nar .boolean (0 : Int32)) = fq_bf (fq_dbI S a b (i + 1)) := by
  have hs := fq_bf0 h c
  rw [fq_dbI_s] at hs
  rw [fq_cl h, fq_nz0]
  refine fq_updb ?_ (fun j hj => fq_dbI_n hj)
  unfold fq_dbI
  rw [hs]; rfl
theorem fq_dbM2 {S : Nat → Bool} {a b : Int32} {i : Nat} (h : i < 256) (c : ¬ fq_bf (fq_dbI S a b i) (nI i).toNatClampNeg = 0) (c2 : nI i < a) : upd (fq_bf (fq_dbI S a b i)) (nI i).toNatClampNeg (vp_nar .boolean (1 : Int32)) = fq_bf (fq_dbI S a b (i + 1)) := by
  have hs := fq_bf1 h c
  rw [fq_dbI_s] at hs
  rw [fq_cl h, fq_nz1]
  refine fq_updb ?_ (fun j hj => fq_dbI_n hj)
  unfold fq_dbI
  have : ¬ a ≤ nI i := fun q => fq_le_nlt.mp q c2
  simp [hs, this]
theorem fq_dbM3 {S : Nat → Bool} {a b : Int32} {i : Nat} (h : i < 256) (c : ¬ nI i < a) (c2 : nI i ≤ b) : upd (fq_bf (fq_dbI S a b i)) (nI i).toNatClampNeg (vp_nar .boolean (0 : Int32)) = fq_bf (fq_dbI S a b (i + 1)) := by
  rw [fq_cl h, fq_nz0]
  refine fq_updb ?_ (fun j hj => fq_dbI_n hj)
  unfold fq_dbI
  have h1 : a ≤ nI i := fq_le_nlt.mpr c
  simp [h1, c2]
theorem fq_dbM4 {S : Nat → Bool} {a b : Int32} {i : Nat} (h : i < 256) (c : ¬ fq_bf (fq_dbI S a b i) (nI i).toNatClampNeg = 0) (c2 : ¬ nI i ≤ b) : upd (fq_bf (fq_dbI S a b i)) (nI i).toNatClampNeg (vp_nar .boolean (1 : Int32)) = fq_bf (fq_dbI S a b (i + 1)) := by
  have hs := fq_bf1 h c
  rw [fq_dbI_s] at hs
  rw [fq_cl h, fq_nz1]
  refine fq_updb ?_ (fun j hj => fq_dbI_n hj)
  unfold fq_dbI
  simp [hs, c2]
/-! nearest -/
def fq_ds (x : Int32) (k : Nat) : Nat := ((k : Int) - x.toInt).natAbs
def fq_NI (S : Nat → Bool) (a : Int32) (i : Nat) (x : Int32) (y : Int64) : Prop := (x = -1 ∧ ∀ j, j < i → S j = false) ∨ (∃ k, k < i ∧ S k = true ∧ x = nI k ∧ y.toInt = (fq_ds a k : Int) ∧ ∀ j, j < i → S j = true → fq_ds a k ≤ fq_ds a j ∧ (j < k → fq_ds a k < fq_ds a j))
def fq_Near (S : Nat → Bool) (a r : Int32) : Prop := (r = -1 ∧ ∀ j, j < 256 → S j = false) ∨ (∃ k, k < 256 ∧ S k = true ∧ r = nI k ∧ ∀ j, j < 256 → S j = true → fq_ds a k ≤ fq_ds a j ∧ (j < k → fq_ds a k < fq_ds a j))
theorem fq_dsub {a : Int32} {i : Nat} (h : i < 256) : ((nI i).toInt64 - a.toInt64).toInt = (i : Int) - a.toInt := by
  have h1 := Int32.le_toInt a
  have h2 := Int32.toInt_lt a
  rw [Int64.toInt_sub, Int32.toInt_toInt64, Int32.toInt_toInt64, nI_toInt (by omega)]
  exact Int.bmod_eq_of_le (by omega) (by omega)
theorem fq_dd0 {a : Int32} {i : Nat} (c : 0 ≤ lg_cmp ((nI i).toInt64 - a.toInt64) (0 : Int64)) (h : i < 256) : ((nI i).toInt64 - a.toInt64).toInt = (fq_ds a i : Int) := by
  rw [lg_cmp_ge, Int64.le_iff_toInt_le, fq_dsub h, show (0 : Int64).toInt = 0 by decide] at c
  rw [fq_dsub h]
  unfold fq_ds
  omega
theorem fq_dd1 {a : Int32} {i : Nat} (c : ¬ 0 ≤ lg_cmp ((nI i).toInt64 - a.toInt64) (0 : Int64)) (h : i < 256) : (-((nI i).toInt64 - a.toInt64)).toInt = (fq_ds a i : Int) := by
  rw [lg_cmp_ge, Int64.le_iff_toInt_le, fq_dsub h, show (0 : Int64).toInt = 0 by decide] at c
  have h1 := Int32.le_toInt a
  have h2 := Int32.toInt_lt a
  rw [Int64.toInt_neg, fq_dsub h, Int.bmod_eq_of_le (by omega) (by omega)]
  unfold fq_ds
  omega
theorem fq_neM0 (S : Nat → Bool) (a : Int32) : fq_NI S a 0 (-1) (0 : Int64) := Or.inl ⟨rfl, fun j hj => absurd hj (by omega)⟩
theorem fq_neM1 {S : Nat → Bool} {a x : Int32} {y : Int64} {i : Nat} (hv : fq_NI S a i x y) (h : i < 256) (c : fq_bf S (nI i).toNatClampNeg = 0) : fq_NI S a (i + 1) x y := by
  have hs := fq_bf0 h c
  rcases hv with ⟨e, hn⟩ | ⟨k, hk, hkt, e, ey, hl⟩
  · refine Or.inl ⟨e, fun j hj => ?_⟩
    by_cases q : j = i
    · subst q; exact hs
    · exact hn j (by omega)
  · refine Or.inr ⟨k, by omega, hkt, e, ey, fun j hj hjt => ?_⟩
    by_cases q : j = i
    · subst q; exact absurd hs (fun e => fq_tf hjt e)
    · exact hl j (by omega) hjt
theorem fq_neM2 {S : Nat → Bool} {a x : Int32} {y D : Int64} {i : Nat} (hv : fq_NI S a i x y) (h : i < 256) (c : ¬ fq_bf S (nI i).toNatClampNeg = 0) (c2 : x < 0) (hd : D.toInt = (fq_ds a i : Int)) : fq_NI S a (i + 1) (nI i) D := by
  have hs := fq_bf1 h c
  rcases hv with ⟨e, hn⟩ | ⟨k, hk, hkt, e, ey, hl⟩
  · refine Or.inr ⟨i, by omega, hs, rfl, hd, fun j hj hjt => ?_⟩
    by_cases q : j = i
    · subst q; exact ⟨Nat.le_refl _, fun q => absurd q (by omega)⟩
    · exact absurd (hn j (by omega)) (fun e => fq_tf hjt e)
  · rw [e] at c2
    exact absurd c2 (nI_pos (by omega))
theorem fq_neM3 {S : Nat → Bool} {a x : Int32} {y D : Int64} {i : Nat} (hv : fq_NI S a i x y) (h : i < 256) (c2 : ¬ x < 0) (hd : D.toInt = (fq_ds a i : Int)) (c3 : 0 ≤ lg_cmp D y) : fq_NI S a (i + 1) x y := by
  rw [lg_cmp_ge, Int64.le_iff_toInt_le, hd] at c3
  rcases hv with ⟨e, hn⟩ | ⟨k, hk, hkt, e, ey, hl⟩
  · rw [e] at c2
    exact absurd fq_nm1 c2
  · refine Or.inr ⟨k, by omega, hkt, e, ey, fun j hj hjt => ?_⟩
    by_cases q : j = i
    · subst q
      rw [ey] at c3
      exact ⟨by omega, fun q => absurd q (by omega)⟩
    · exact hl j (by omega) hjt
theorem fq_neM4 {S : Nat → Bool} {a x : Int32} {y D : Int64} {i : Nat} (hv : fq_NI S a i x y) (h : i < 256) (c : ¬ fq_bf S (nI i).toNatClampNeg = 0) (c2 : ¬ x < 0) (hd : D.toInt = (fq_ds a i : Int)) (c3 : ¬ 0 ≤ lg_cmp D y) : fq_NI S a (i + 1) (nI i) D := by
  have hs := fq_bf1 h c
  rw [lg_cmp_ge, Int64.le_iff_toInt_le, hd] at c3
  rcases hv with ⟨e, hn⟩ | ⟨k, hk, hkt, e, ey, hl⟩
  · rw [e] at c2
    exact absurd fq_nm1 c2
  · refine Or.inr ⟨i, by omega, hs, rfl, hd, fun j hj hjt => ?_⟩
    by_cases q : j = i
    · subst q; exact ⟨Nat.le_refl _, fun q => absurd q (by omega)⟩
    · have := (hl j (by omega) hjt).1
      rw [ey] at c3
      exact ⟨by omega, fun _ => by omega⟩
theorem fq_neM5 {S : Nat → Bool} {a x : Int32} {y : Int64} {i : Nat} (hv : fq_NI S a i x y) (h : i ≤ 256) (c : (256 : Int32) ≤ nI i) : fq_Near S a x := by
  have := fq_eq256 c h
  subst this
  rcases hv with h | ⟨k, hk, hkt, e, ey, hl⟩
  · exact Or.inl h
  · exact Or.inr ⟨k, hk, hkt, e, hl⟩
end
section
set_option maxHeartbeats 4000000 in
set_option maxRecDepth 100000 in
theorem fq_metM_number (l : Launch) (dC : Nat → ClassId) (dI : Nat → Nat → Nat) (h0 b1 : Nat) (z : ClassId) (sz : Nat) (S : Nat → Bool) (p1 : Int32) : Met l yX1_number (ws_ yX1_number cX1_number 2 (some .boolean)) ({ frames := 0, cells := 0, slots := 0, locals := 0 }) (va_Pc [.ref h0, .int p1] (fq_PQ dC dI sz (fq_wm h0 b1 z (fq_bf S)) [(z, .boolean)])) (va_Qi (fun (r : Int32) (_ : Unit) => r = fq_num p1) (fun _ => fq_BQ dC dI (va_A (fq_wm h0 b1 z (fq_bf S)) sz) (fq_wm h0 b1 z (fq_bf S)) [(z, .boolean)]) (va_A (fq_wm h0 b1 z (fq_bf S)) sz)) 0 0 (va_A (fq_wm h0 b1 z (fq_bf S)) sz) := by
  refine Met.ofW (cc := cX1_number) (maxL := 2) (ret := (some .boolean)) (by decide) rfl ?_
  intro p e s m args below meth c s₁ B hml hv
  obtain ⟨rfl, hsz, hP, hK, hD0⟩ := hv
  have hx := B.exec
  have hb := B.bytes
  have hr := B.returns
  have hts := atoms_spec (ws := ws_ yX1_number cX1_number 2 (some .boolean)) B.pre
  have hts : ∀ w ∈ lw_all, w.before _ s = true := fun w h => hts w (List.mem_cons_of_mem _ h)
  have hown : s.vm.findClass RX1 = some m.cls := findClass_of_methodNamed B.named
  have hlocks := B.notSynchronized
  subst hsz
  have hD := hD0.self (sz := s.heap.size)
  generalize hAe : va_A (fq_wm h0 b1 z (fq_bf S)) s.heap.size = A at hD ⊢
  have hA : ∀ q : Nat, s.heap.size ≤ q → A q := fun q h => by rw [← hAe]; exact Or.inr h
  have hS : va_S A s.heap s.heap [] := va_S.rf
  have hP : va_P (dC, dI) vwCl (fq_wm h0 b1 z (fq_bf S)) s.heap := hP
  have hl := lv_entry ([.ref h0, .int p1]) (n := 2) (Nat.le_of_ble_eq_true rfl)
  rw [lg_entry_eq]
  generalize (lg_sl ([.ref h0, .int p1]) ++ List.replicate (2 - (lg_sl ([.ref h0, .int p1])).length) Slot.unset).toArray = ls0 at hl ⊢
  have hl : lv_has ls0 2 [(0, .ref h0), (1, .int p1)] := hl
  refine lv_iload_n hx hb dX1_number_0 rfl (lv_at hl 1 rfl) ?_
  refine lv_if_lt (tgt := 15) hx hb dX1_number_1 (by decide) (fun c_1 => ?_) (fun c_1 => ?_)
  · skip
    refine lv_iconst (v := 0) hx hb dX1_number_15 (by decide) ?_
    exact W.zret (v := (0 : Int32)) hx hb hr rfl (fun t ht hW => ⟨⟨(0 : Int32), (), rfl, (by rw [fq_num, if_pos c_1]), (by rw [ht]; exact hP), va_K.moved hW.alike hK, hD⟩, hS.F ht⟩) hS.2.2 dX1_number_16
  · skip
    refine lv_iload_n hx hb dX1_number_4 rfl (lv_at hl 1 rfl) ?_
    refine lv_sipush (v := 255) hx hb dX1_number_5 (by decide) ?_
    refine lv_icmp_gt (tgt := 15) hx hb dX1_number_8 (by decide) (fun c_8 => ?_) (fun c_8 => ?_)
    · skip
      refine lv_iconst (v := 0) hx hb dX1_number_15 (by decide) ?_
      exact W.zret (v := (0 : Int32)) hx hb hr rfl (fun t ht hW => ⟨⟨(0 : Int32), (), rfl, (by rw [fq_num, if_neg c_1, if_pos c_8]), (by rw [ht]; exact hP), va_K.moved hW.alike hK, hD⟩, hS.F ht⟩) hS.2.2 dX1_number_16
    · skip
      refine lv_iconst (v := 1) hx hb dX1_number_11 (by decide) ?_
      refine lv_goto (tgt := 16) hx hb dX1_number_12 (by decide) ?_
      exact W.zret (v := (1 : Int32)) hx hb hr rfl (fun t ht hW => ⟨⟨(1 : Int32), (), rfl, (by rw [fq_num, if_neg c_1, if_neg c_8]), (by rw [ht]; exact hP), va_K.moved hW.alike hK, hD⟩, hS.F ht⟩) hS.2.2 dX1_number_16
set_option maxHeartbeats 4000000 in
set_option maxRecDepth 100000 in
theorem fq_metM_insert (l : Launch) (dC : Nat → ClassId) (dI : Nat → Nat → Nat) (h0 b1 : Nat) (z : ClassId) (sz : Nat) (S : Nat → Bool) (p1 : Int32) : Met l yX1_insert (ws_ yX1_insert cX1_insert 2 (some .boolean)) ({ frames := 1, cells := 0, slots := 0, locals := 21 }) (va_Pc [.ref h0, .int p1] (fq_PQ dC dI sz (fq_wm h0 b1 z (fq_bf S)) [(z, .boolean)])) (va_Qi (fun (r : Int32) (u : Nat → Bool) => r = fq_insR S p1 ∧ u = fq_insS S p1) (fun u => fq_BQ dC dI (va_A (fq_wm h0 b1 z (fq_bf S)) sz) (fq_wm h0 b1 z (fq_bf u)) [(z, .boolean)]) (va_A (fq_wm h0 b1 z (fq_bf S)) sz)) 0 0 (va_A (fq_wm h0 b1 z (fq_bf S)) sz) := by
  refine Met.ofW (cc := cX1_insert) (maxL := 2) (ret := (some .boolean)) (by decide) rfl ?_
  intro p e s m args below meth c s₁ B hml hv
  obtain ⟨rfl, hsz, hP, hK, hD0⟩ := hv
  have hx := B.exec
  have hb := B.bytes
  have hr := B.returns
  have hts := atoms_spec (ws := ws_ yX1_insert cX1_insert 2 (some .boolean)) B.pre
  have hts : ∀ w ∈ lw_all, w.before _ s = true := fun w h => hts w (List.mem_cons_of_mem _ h)
  have hown : s.vm.findClass RX1 = some m.cls := findClass_of_methodNamed B.named
  have hlocks := B.notSynchronized
  subst hsz
  have hD := hD0.self (sz := s.heap.size)
  generalize hAe : va_A (fq_wm h0 b1 z (fq_bf S)) s.heap.size = A at hD ⊢
  have hA : ∀ q : Nat, s.heap.size ≤ q → A q := fun q h => by rw [← hAe]; exact Or.inr h
  have hS : va_S A s.heap s.heap [] := va_S.rf
  have hP : va_P (dC, dI) vwCl (fq_wm h0 b1 z (fq_bf S)) s.heap := hP
  have hl := lv_entry ([.ref h0, .int p1]) (n := 2) (Nat.le_of_ble_eq_true rfl)
  rw [lg_entry_eq]
  generalize (lg_sl ([.ref h0, .int p1]) ++ List.replicate (2 - (lg_sl ([.ref h0, .int p1])).length) Slot.unset).toArray = ls0 at hl ⊢
  have hl : lv_has ls0 2 [(0, .ref h0), (1, .int p1)] := hl
  refine lv_aload_n hx hb dX1_insert_0 rfl (lv_at hl 0 rfl) ?_
  refine lv_iload_n hx hb dX1_insert_1 rfl (lv_at hl 1 rfl) ?_
  have hFc := va_free (wc := fq_wm h0 b1 z (fq_bf S)) hD hS hA [0, 1] rfl
  refine va_calli (va_runV (As := [.int p1]) (rest := []) ⟨hx, hb, hml, hown, hts⟩ (fq_metM_number l dC dI h0 b1 z s.heap.size S p1 ) (cwV 1 hts (lw_V q170 q172 qs10 q13 q173) rfl rfl rfl (by decide +kernel) ⟨Nat.le_of_ble_eq_true rfl, Nat.le_of_ble_eq_true rfl⟩) ⟨fq_blind, va_recv hK hP (ci := 1) (q0 := 0) rfl rfl, fun U hU hW => ⟨rfl, by rw [hU], by rw [hU]; exact hP, va_K.moved hW.alike hK, hD.weaken (fun _ _ _ _ => trivial)⟩⟩ rfl rfl hl.1 rfl (lv_room (Nat.le_of_ble_eq_true rfl)) dX1_insert_2 ⟨Nat.le_of_ble_eq_true rfl, Nat.le_of_ble_eq_true rfl⟩) hS (fun q _ h => hFc q h) hFc (fun r_2 u_2 t H1 locs ht hvm hw hB hz1 hk1 hS => ?_)
  have hw : r_2 = (fq_num p1) := hw
  subst hw
  obtain ⟨hP1, hK1, hD1⟩ := hB
  rw [ht] at hP1
  have hP : va_P (dC, dI) vwCl (fq_wm h0 b1 z (fq_bf S)) H1 := hP1
  have hD : va_D A (fq_wm h0 b1 z (fq_bf S)) := hD1.weaken (fun _ _ _ h => hFc _ h)
  generalize H1 = H at hP hS ⊢
  refine lv_if_eq (tgt := 17) hx hb dX1_insert_5 (by decide) (fun c_5 => ?_) (fun c_5 => ?_)
  · skip
    refine lv_iconst (v := 0) hx hb dX1_insert_17 (by decide) ?_
    exact W.zret (v := (0 : Int32)) hx hb hr rfl (fun t ht hW => ⟨⟨(0 : Int32), S, rfl, (fq_insM1 c_5), (by rw [ht]; exact hP), va_K.moved hW.alike hK, hD⟩, hS.F ht⟩) hS.2.2 dX1_insert_18
  · skip
    refine lv_aload_n hx hb dX1_insert_8 rfl (lv_at hl 0 rfl) ?_
    refine va_get (D := (dC, dI)) (ci := 1) (v := .ref b1) (C := RX1) (T := TX1) (N := 1) hx hb hts in_X1 hown hK hP 0 rfl rfl 0 (by decide) (hts _ q161) (fun _ h9 => h9) rfl dX1_insert_9 ?_
    refine lv_iload_n hx hb dX1_insert_12 rfl (lv_at hl 1 rfl) ?_
    have h_13 : vp_in p1 256 := fq_num_in c_5
    refine va_zald (f := (fq_bf S)) hx hb hK hP 1 0 rfl rfl h_13 dX1_insert_13 ?_
    refine lv_if_eq (tgt := 19) hx hb dX1_insert_14 (by decide) (fun c_14 => ?_) (fun c_14 => ?_)
    · skip
      refine lv_aload_n hx hb dX1_insert_19 rfl (lv_at hl 0 rfl) ?_
      refine va_get (D := (dC, dI)) (ci := 1) (v := .ref b1) (C := RX1) (T := TX1) (N := 1) hx hb hts in_X1 hown hK hP 0 rfl rfl 0 (by decide) (hts _ q161) (fun _ h9 => h9) rfl dX1_insert_20 ?_
      refine lv_iload_n hx hb dX1_insert_23 rfl (lv_at hl 1 rfl) ?_
      refine lv_iconst (v := 1) hx hb dX1_insert_24 (by decide) ?_
      have h_25 : vp_in p1 256 := fq_num_in c_5
      refine va_zast (f := (fq_bf S)) hx hb hK hP hD hS 1 0 rfl rfl h_25 dX1_insert_25 (fun H locs hP hD hS => ?_)
      have hP : va_P (dC, dI) vwCl (fq_wm h0 b1 z (upd (fq_bf S) p1.toNatClampNeg (vp_nar .boolean (1 : Int32)))) H := hP
      have hD : va_D A (fq_wm h0 b1 z (upd (fq_bf S) p1.toNatClampNeg (vp_nar .boolean (1 : Int32)))) := hD
      refine lv_iconst (v := 1) hx hb dX1_insert_26 (by decide) ?_
      rw [fq_insM3 c_5] at hP hD
      exact W.zret (v := (1 : Int32)) hx hb hr rfl (fun t ht hW => ⟨⟨(1 : Int32), (fq_insS S p1), rfl, (fq_insM4 c_5 c_14), (by rw [ht]; exact hP), va_K.moved hW.alike hK, hD⟩, hS.F ht⟩) hS.2.2 dX1_insert_27
    · skip
      refine lv_iconst (v := 0) hx hb dX1_insert_17 (by decide) ?_
      exact W.zret (v := (0 : Int32)) hx hb hr rfl (fun t ht hW => ⟨⟨(0 : Int32), S, rfl, (fq_insM2 c_5 c_14), (by rw [ht]; exact hP), va_K.moved hW.alike hK, hD⟩, hS.F ht⟩) hS.2.2 dX1_insert_18
set_option maxHeartbeats 4000000 in
set_option maxRecDepth 100000 in
theorem fq_metM_delete (l : Launch) (dC : Nat → ClassId) (dI : Nat → Nat → Nat) (h0 b1 : Nat) (z : ClassId) (sz : Nat) (S : Nat → Bool) (p1 : Int32) : Met l yX1_delete (ws_ yX1_delete cX1_delete 2 (some .boolean)) ({ frames := 1, cells := 0, slots := 0, locals := 21 }) (va_Pc [.ref h0, .int p1] (fq_PQ dC dI sz (fq_wm h0 b1 z (fq_bf S)) [(z, .boolean)])) (va_Qi (fun (r : Int32) (u : Nat → Bool) => r = fq_memR S p1 ∧ u = fq_delS S p1) (fun u => fq_BQ dC dI (va_A (fq_wm h0 b1 z (fq_bf S)) sz) (fq_wm h0 b1 z (fq_bf u)) [(z, .boolean)]) (va_A (fq_wm h0 b1 z (fq_bf S)) sz)) 0 0 (va_A (fq_wm h0 b1 z (fq_bf S)) sz) := by
  refine Met.ofW (cc := cX1_delete) (maxL := 2) (ret := (some .boolean)) (by decide) rfl ?_
  intro p e s m args below meth c s₁ B hml hv
  obtain ⟨rfl, hsz, hP, hK, hD0⟩ := hv
  have hx := B.exec
  have hb := B.bytes
  have hr := B.returns
  have hts := atoms_spec (ws := ws_ yX1_delete cX1_delete 2 (some .boolean)) B.pre
  have hts : ∀ w ∈ lw_all, w.before _ s = true := fun w h => hts w (List.mem_cons_of_mem _ h)
  have hown : s.vm.findClass RX1 = some m.cls := findClass_of_methodNamed B.named
  have hlocks := B.notSynchronized
  subst hsz
  have hD := hD0.self (sz := s.heap.size)
  generalize hAe : va_A (fq_wm h0 b1 z (fq_bf S)) s.heap.size = A at hD ⊢
  have hA : ∀ q : Nat, s.heap.size ≤ q → A q := fun q h => by rw [← hAe]; exact Or.inr h
  have hS : va_S A s.heap s.heap [] := va_S.rf
  have hP : va_P (dC, dI) vwCl (fq_wm h0 b1 z (fq_bf S)) s.heap := hP
  have hl := lv_entry ([.ref h0, .int p1]) (n := 2) (Nat.le_of_ble_eq_true rfl)
  rw [lg_entry_eq]
  generalize (lg_sl ([.ref h0, .int p1]) ++ List.replicate (2 - (lg_sl ([.ref h0, .int p1])).length) Slot.unset).toArray = ls0 at hl ⊢
  have hl : lv_has ls0 2 [(0, .ref h0), (1, .int p1)] := hl
  refine lv_aload_n hx hb dX1_delete_0 rfl (lv_at hl 0 rfl) ?_
  refine lv_iload_n hx hb dX1_delete_1 rfl (lv_at hl 1 rfl) ?_
  have hFc := va_free (wc := fq_wm h0 b1 z (fq_bf S)) hD hS hA [0, 1] rfl
  refine va_calli (va_runV (As := [.int p1]) (rest := []) ⟨hx, hb, hml, hown, hts⟩ (fq_metM_number l dC dI h0 b1 z s.heap.size S p1 ) (cwV 1 hts (lw_V q170 q172 qs10 q13 q173) rfl rfl rfl (by decide +kernel) ⟨Nat.le_of_ble_eq_true rfl, Nat.le_of_ble_eq_true rfl⟩) ⟨fq_blind, va_recv hK hP (ci := 1) (q0 := 0) rfl rfl, fun U hU hW => ⟨rfl, by rw [hU], by rw [hU]; exact hP, va_K.moved hW.alike hK, hD.weaken (fun _ _ _ _ => trivial)⟩⟩ rfl rfl hl.1 rfl (lv_room (Nat.le_of_ble_eq_true rfl)) dX1_delete_2 ⟨Nat.le_of_ble_eq_true rfl, Nat.le_of_ble_eq_true rfl⟩) hS (fun q _ h => hFc q h) hFc (fun r_2 u_2 t H1 locs ht hvm hw hB hz1 hk1 hS => ?_)
  have hw : r_2 = (fq_num p1) := hw
  subst hw
  obtain ⟨hP1, hK1, hD1⟩ := hB
  rw [ht] at hP1
  have hP : va_P (dC, dI) vwCl (fq_wm h0 b1 z (fq_bf S)) H1 := hP1
  have hD : va_D A (fq_wm h0 b1 z (fq_bf S)) := hD1.weaken (fun _ _ _ h => hFc _ h)
  generalize H1 = H at hP hS ⊢
  refine lv_if_eq (tgt := 17) hx hb dX1_delete_5 (by decide) (fun c_5 => ?_) (fun c_5 => ?_)
  · skip
    refine lv_iconst (v := 0) hx hb dX1_delete_17 (by decide) ?_
    exact W.zret (v := (0 : Int32)) hx hb hr rfl (fun t ht hW => ⟨⟨(0 : Int32), S, rfl, (fq_delM1 c_5), (by rw [ht]; exact hP), va_K.moved hW.alike hK, hD⟩, hS.F ht⟩) hS.2.2 dX1_delete_18
  · skip
    refine lv_aload_n hx hb dX1_delete_8 rfl (lv_at hl 0 rfl) ?_
    refine va_get (D := (dC, dI)) (ci := 1) (v := .ref b1) (C := RX1) (T := TX1) (N := 1) hx hb hts in_X1 hown hK hP 0 rfl rfl 0 (by decide) (hts _ q161) (fun _ h9 => h9) rfl dX1_delete_9 ?_
    refine lv_iload_n hx hb dX1_delete_12 rfl (lv_at hl 1 rfl) ?_
    have h_13 : vp_in p1 256 := fq_num_in c_5
    refine va_zald (f := (fq_bf S)) hx hb hK hP 1 0 rfl rfl h_13 dX1_delete_13 ?_
    refine lv_if_ne (tgt := 19) hx hb dX1_delete_14 (by decide) (fun c_14 => ?_) (fun c_14 => ?_)
    · skip
      refine lv_aload_n hx hb dX1_delete_19 rfl (lv_at hl 0 rfl) ?_
      refine va_get (D := (dC, dI)) (ci := 1) (v := .ref b1) (C := RX1) (T := TX1) (N := 1) hx hb hts in_X1 hown hK hP 0 rfl rfl 0 (by decide) (hts _ q161) (fun _ h9 => h9) rfl dX1_delete_20 ?_
      refine lv_iload_n hx hb dX1_delete_23 rfl (lv_at hl 1 rfl) ?_
      refine lv_iconst (v := 0) hx hb dX1_delete_24 (by decide) ?_
      have h_25 : vp_in p1 256 := fq_num_in c_5
      refine va_zast (f := (fq_bf S)) hx hb hK hP hD hS 1 0 rfl rfl h_25 dX1_delete_25 (fun H locs hP hD hS => ?_)
      have hP : va_P (dC, dI) vwCl (fq_wm h0 b1 z (upd (fq_bf S) p1.toNatClampNeg (vp_nar .boolean (0 : Int32)))) H := hP
      have hD : va_D A (fq_wm h0 b1 z (upd (fq_bf S) p1.toNatClampNeg (vp_nar .boolean (0 : Int32)))) := hD
      refine lv_iconst (v := 1) hx hb dX1_delete_26 (by decide) ?_
      rw [fq_delM3 c_5] at hP hD
      exact W.zret (v := (1 : Int32)) hx hb hr rfl (fun t ht hW => ⟨⟨(1 : Int32), (fq_delS S p1), rfl, (fq_delM4 c_5 c_14), (by rw [ht]; exact hP), va_K.moved hW.alike hK, hD⟩, hS.F ht⟩) hS.2.2 dX1_delete_27
    · skip
      refine lv_iconst (v := 0) hx hb dX1_delete_17 (by decide) ?_
      exact W.zret (v := (0 : Int32)) hx hb hr rfl (fun t ht hW => ⟨⟨(0 : Int32), S, rfl, (fq_delM2 c_5 c_14), (by rw [ht]; exact hP), va_K.moved hW.alike hK, hD⟩, hS.F ht⟩) hS.2.2 dX1_delete_18
set_option maxHeartbeats 4000000 in
set_option maxRecDepth 100000 in
theorem fq_metM_member (l : Launch) (dC : Nat → ClassId) (dI : Nat → Nat → Nat) (h0 b1 : Nat) (z : ClassId) (sz : Nat) (S : Nat → Bool) (p1 : Int32) : Met l yX1_member (ws_ yX1_member cX1_member 2 (some .boolean)) ({ frames := 1, cells := 0, slots := 0, locals := 21 }) (va_Pc [.ref h0, .int p1] (fq_PQ dC dI sz (fq_wm h0 b1 z (fq_bf S)) [(z, .boolean)])) (va_Qi (fun (r : Int32) (_ : Unit) => r = fq_memR S p1) (fun _ => fq_BQ dC dI (va_A (fq_wm h0 b1 z (fq_bf S)) sz) (fq_wm h0 b1 z (fq_bf S)) [(z, .boolean)]) (va_A (fq_wm h0 b1 z (fq_bf S)) sz)) 0 0 (va_A (fq_wm h0 b1 z (fq_bf S)) sz) := by
  refine Met.ofW (cc := cX1_member) (maxL := 2) (ret := (some .boolean)) (by decide) rfl ?_
  intro p e s m args below meth c s₁ B hml hv
  obtain ⟨rfl, hsz, hP, hK, hD0⟩ := hv
  have hx := B.exec
  have hb := B.bytes
  have hr := B.returns
  have hts := atoms_spec (ws := ws_ yX1_member cX1_member 2 (some .boolean)) B.pre
  have hts : ∀ w ∈ lw_all, w.before _ s = true := fun w h => hts w (List.mem_cons_of_mem _ h)
  have hown : s.vm.findClass RX1 = some m.cls := findClass_of_methodNamed B.named
  have hlocks := B.notSynchronized
  subst hsz
  have hD := hD0.self (sz := s.heap.size)
  generalize hAe : va_A (fq_wm h0 b1 z (fq_bf S)) s.heap.size = A at hD ⊢
  have hA : ∀ q : Nat, s.heap.size ≤ q → A q := fun q h => by rw [← hAe]; exact Or.inr h
  have hS : va_S A s.heap s.heap [] := va_S.rf
  have hP : va_P (dC, dI) vwCl (fq_wm h0 b1 z (fq_bf S)) s.heap := hP
  have hl := lv_entry ([.ref h0, .int p1]) (n := 2) (Nat.le_of_ble_eq_true rfl)
  rw [lg_entry_eq]
  generalize (lg_sl ([.ref h0, .int p1]) ++ List.replicate (2 - (lg_sl ([.ref h0, .int p1])).length) Slot.unset).toArray = ls0 at hl ⊢
  have hl : lv_has ls0 2 [(0, .ref h0), (1, .int p1)] := hl
  refine lv_aload_n hx hb dX1_member_0 rfl (lv_at hl 0 rfl) ?_
  refine lv_iload_n hx hb dX1_member_1 rfl (lv_at hl 1 rfl) ?_
  have hFc := va_free (wc := fq_wm h0 b1 z (fq_bf S)) hD hS hA [0, 1] rfl
  refine va_calli (va_runV (As := [.int p1]) (rest := []) ⟨hx, hb, hml, hown, hts⟩ (fq_metM_number l dC dI h0 b1 z s.heap.size S p1 ) (cwV 1 hts (lw_V q170 q172 qs10 q13 q173) rfl rfl rfl (by decide +kernel) ⟨Nat.le_of_ble_eq_true rfl, Nat.le_of_ble_eq_true rfl⟩) ⟨fq_blind, va_recv hK hP (ci := 1) (q0 := 0) rfl rfl, fun U hU hW => ⟨rfl, by rw [hU], by rw [hU]; exact hP, va_K.moved hW.alike hK, hD.weaken (fun _ _ _ _ => trivial)⟩⟩ rfl rfl hl.1 rfl (lv_room (Nat.le_of_ble_eq_true rfl)) dX1_member_2 ⟨Nat.le_of_ble_eq_true rfl, Nat.le_of_ble_eq_true rfl⟩) hS (fun q _ h => hFc q h) hFc (fun r_2 u_2 t H1 locs ht hvm hw hB hz1 hk1 hS => ?_)
  have hw : r_2 = (fq_num p1) := hw
  subst hw
  obtain ⟨hP1, hK1, hD1⟩ := hB
  rw [ht] at hP1
  have hP : va_P (dC, dI) vwCl (fq_wm h0 b1 z (fq_bf S)) H1 := hP1
  have hD : va_D A (fq_wm h0 b1 z (fq_bf S)) := hD1.weaken (fun _ _ _ h => hFc _ h)
  generalize H1 = H at hP hS ⊢
  refine lv_if_eq (tgt := 21) hx hb dX1_member_5 (by decide) (fun c_5 => ?_) (fun c_5 => ?_)
  · skip
    refine lv_iconst (v := 0) hx hb dX1_member_21 (by decide) ?_
    exact W.zret (v := (0 : Int32)) hx hb hr rfl (fun t ht hW => ⟨⟨(0 : Int32), (), rfl, (fq_delM1 c_5).1, (by rw [ht]; exact hP), va_K.moved hW.alike hK, hD⟩, hS.F ht⟩) hS.2.2 dX1_member_22
  · skip
    refine lv_aload_n hx hb dX1_member_8 rfl (lv_at hl 0 rfl) ?_
    refine va_get (D := (dC, dI)) (ci := 1) (v := .ref b1) (C := RX1) (T := TX1) (N := 1) hx hb hts in_X1 hown hK hP 0 rfl rfl 0 (by decide) (hts _ q161) (fun _ h9 => h9) rfl dX1_member_9 ?_
    refine lv_iload_n hx hb dX1_member_12 rfl (lv_at hl 1 rfl) ?_
    have h_13 : vp_in p1 256 := fq_num_in c_5
    refine va_zald (f := (fq_bf S)) hx hb hK hP 1 0 rfl rfl h_13 dX1_member_13 ?_
    refine lv_if_eq (tgt := 21) hx hb dX1_member_14 (by decide) (fun c_14 => ?_) (fun c_14 => ?_)
    · skip
      refine lv_iconst (v := 0) hx hb dX1_member_21 (by decide) ?_
      exact W.zret (v := (0 : Int32)) hx hb hr rfl (fun t ht hW => ⟨⟨(0 : Int32), (), rfl, (fq_delM2 c_5 c_14).1, (by rw [ht]; exact hP), va_K.moved hW.alike hK, hD⟩, hS.F ht⟩) hS.2.2 dX1_member_22
    · skip
      refine lv_iconst (v := 1) hx hb dX1_member_17 (by decide) ?_
      refine lv_goto (tgt := 22) hx hb dX1_member_18 (by decide) ?_
      exact W.zret (v := (1 : Int32)) hx hb hr rfl (fun t ht hW => ⟨⟨(1 : Int32), (), rfl, (fq_delM4 c_5 c_14).1, (by rw [ht]; exact hP), va_K.moved hW.alike hK, hD⟩, hS.F ht⟩) hS.2.2 dX1_member_22
set_option maxHeartbeats 4000000 in
set_option maxRecDepth 100000 in
theorem fq_metM_countBetween (l : Launch) (dC : Nat → ClassId) (dI : Nat → Nat → Nat) (h0 b1 : Nat) (z : ClassId) (sz : Nat) (S : Nat → Bool) (p1 p2 : Int32) : Met l yX1_countBetween (ws_ yX1_countBetween cX1_countBetween 5 (some .int)) ({ frames := 0, cells := 0, slots := 0, locals := 0 }) (va_Pc [.ref h0, .int p1, .int p2] (fq_PQ dC dI sz (fq_wm h0 b1 z (fq_bf S)) [(z, .boolean)])) (va_Qi (fun (r : Int32) (_ : Unit) => r = nI (fq_cnt (fq_btw S p1 p2) 256)) (fun _ => fq_BQ dC dI (va_A (fq_wm h0 b1 z (fq_bf S)) sz) (fq_wm h0 b1 z (fq_bf S)) [(z, .boolean)]) (va_A (fq_wm h0 b1 z (fq_bf S)) sz)) 0 0 (va_A (fq_wm h0 b1 z (fq_bf S)) sz) := by
  refine Met.ofW (cc := cX1_countBetween) (maxL := 5) (ret := (some .int)) (by decide) rfl ?_
  intro p e s m args below meth c s₁ B hml hv
  obtain ⟨rfl, hsz, hP, hK, hD0⟩ := hv
  have hx := B.exec
  have hb := B.bytes
  have hr := B.returns
  have hts := atoms_spec (ws := ws_ yX1_countBetween cX1_countBetween 5 (some .int)) B.pre
  have hts : ∀ w ∈ lw_all, w.before _ s = true := fun w h => hts w (List.mem_cons_of_mem _ h)
  have hown : s.vm.findClass RX1 = some m.cls := findClass_of_methodNamed B.named
  have hlocks := B.notSynchronized
  subst hsz
  have hD := hD0.self (sz := s.heap.size)
  generalize hAe : va_A (fq_wm h0 b1 z (fq_bf S)) s.heap.size = A at hD ⊢
  have hA : ∀ q : Nat, s.heap.size ≤ q → A q := fun q h => by rw [← hAe]; exact Or.inr h
  have hS : va_S A s.heap s.heap [] := va_S.rf
  have hP : va_P (dC, dI) vwCl (fq_wm h0 b1 z (fq_bf S)) s.heap := hP
  have hl := lv_entry ([.ref h0, .int p1, .int p2]) (n := 5) (Nat.le_of_ble_eq_true rfl)
  rw [lg_entry_eq]
  generalize (lg_sl ([.ref h0, .int p1, .int p2]) ++ List.replicate (5 - (lg_sl ([.ref h0, .int p1, .int p2])).length) Slot.unset).toArray = ls0 at hl ⊢
  have hl : lv_has ls0 5 [(0, .ref h0), (1, .int p1), (2, .int p2)] := hl
  refine lv_iconst (v := 0) hx hb dX1_countBetween_0 (by decide) ?_
  refine lv_istore_n (lv' := [(3, .int (0 : Int32)), (0, .ref h0), (1, .int p1), (2, .int p2)]) hx hb dX1_countBetween_1 rfl hl (by decide) rfl (fun ls hl => ?_)
  refine lv_iconst (v := 0) hx hb dX1_countBetween_2 (by decide) ?_
  refine lv_istore (lv' := [(4, .int (0 : Int32)), (3, .int (0 : Int32)), (0, .ref h0), (1, .int p1), (2, .int p2)]) hx hb dX1_countBetween_3 hl (by decide) rfl (fun ls hl => ?_)
  have key : ∀ (n : Nat) (i : Nat), i ≤ 256 → 257 ≤ i + n → ∀ (H : Heap) (locs : List Loc), va_P (dC, dI) vwCl (fq_wm h0 b1 z (fq_bf S)) H → va_D A (fq_wm h0 b1 z (fq_bf S)) → va_S A s.heap H locs → ∀ ls : Array Slot, lv_has ls 5 [(4, .int (nI i)), (3, .int (nI (fq_cnt (fq_btw S p1 p2) i))), (0, .ref h0), (1, .int p1), (2, .int p2)] → W p l e (headSpec (ws_ yX1_countBetween cX1_countBetween 5 (some .int)) ({ frames := 0, cells := 0, slots := 0, locals := 0 })).room s m ([.ref h0, .int p1, .int p2] : List Value).toArray below meth c H locs 0 0 (MQ below (va_Qi (fun (r : Int32) (_ : Unit) => r = nI (fq_cnt (fq_btw S p1 p2) 256)) (fun _ => fq_BQ dC dI A (fq_wm h0 b1 z (fq_bf S)) [(z, .boolean)]) A) ([.ref h0, .int p1, .int p2] : List Value).toArray s 0 0 A) (F0 m 5 ls []) := by
    intro n
    induction n with
    | zero =>
      intro i h1 h2
      exact absurd h2 (by omega)
    | succ n ih =>
      intro i hi hn H locs hP hD hS ls hl
      refine lv_iload hx hb dX1_countBetween_5 (lv_at hl 0 rfl) ?_
      refine lv_sipush (v := 256) hx hb dX1_countBetween_7 (by decide) ?_
      refine lv_icmp_ge (tgt := 49) hx hb dX1_countBetween_10 (by decide) (fun c_10 => ?_) (fun c_10 => ?_)
      · skip
        refine lv_iload_n hx hb dX1_countBetween_49 rfl (lv_at hl 1 rfl) ?_
        exact W.iret (v := (nI (fq_cnt (fq_btw S p1 p2) i))) hx hb hr (fun t ht hW => ⟨⟨(nI (fq_cnt (fq_btw S p1 p2) i)), (), rfl, (by rw [fq_eq256 c_10 hi]), (by rw [ht]; exact hP), va_K.moved hW.alike hK, hD⟩, hS.F ht⟩) hS.2.2 dX1_countBetween_50
      · skip
        have hlt : i < 256 := fq_lt256 c_10 hi
        refine lv_aload_n hx hb dX1_countBetween_13 rfl (lv_at hl 2 rfl) ?_
        refine va_get (D := (dC, dI)) (ci := 1) (v := .ref b1) (C := RX1) (T := TX1) (N := 1) hx hb hts in_X1 hown hK hP 0 rfl rfl 0 (by decide) (hts _ q161) (fun _ h9 => h9) rfl dX1_countBetween_14 ?_
        refine lv_iload hx hb dX1_countBetween_17 (lv_at hl 0 rfl) ?_
        have h_19 : vp_in (nI i) 256 := vp_in_nI hlt (by decide)
        refine va_zald (f := (fq_bf S)) hx hb hK hP 1 0 rfl rfl h_19 dX1_countBetween_19 ?_
        refine lv_if_eq (tgt := 41) hx hb dX1_countBetween_20 (by decide) (fun c_20 => ?_) (fun c_20 => ?_)
        · skip
          refine lv_iload_n hx hb dX1_countBetween_41 rfl (lv_at hl 1 rfl) ?_
          refine lv_istore_n (lv' := [(3, .int (nI (fq_cnt (fq_btw S p1 p2) i))), (4, .int (nI i)), (0, .ref h0), (1, .int p1), (2, .int p2)]) hx hb dX1_countBetween_42 rfl hl (by decide) rfl (fun ls hl => ?_)
          refine lv_iinc (v := nI (i + 1)) (lv' := [(4, .int (nI (i + 1))), (3, .int (nI (fq_cnt (fq_btw S p1 p2) i))), (0, .ref h0), (1, .int p1), (2, .int p2)]) hx hb dX1_countBetween_43 hl (k := 1) rfl (nI_1 _) (by decide) rfl (fun ls hl => ?_)
          refine lv_goto (tgt := 5) hx hb dX1_countBetween_46 (by decide) ?_
          exact ih (i + 1) hlt (by omega) H locs hP hD hS ls (by rw [fq_cb0 c_20 hlt]; exact lv_sub hl [0, 1, 2, 3, 4] rfl)
        · skip
          refine lv_iload hx hb dX1_countBetween_23 (lv_at hl 0 rfl) ?_
          refine lv_iload_n hx hb dX1_countBetween_25 rfl (lv_at hl 3 rfl) ?_
          refine lv_icmp_lt (tgt := 41) hx hb dX1_countBetween_26 (by decide) (fun c_26 => ?_) (fun c_26 => ?_)
          · skip
            refine lv_iload_n hx hb dX1_countBetween_41 rfl (lv_at hl 1 rfl) ?_
            refine lv_istore_n (lv' := [(3, .int (nI (fq_cnt (fq_btw S p1 p2) i))), (4, .int (nI i)), (0, .ref h0), (1, .int p1), (2, .int p2)]) hx hb dX1_countBetween_42 rfl hl (by decide) rfl (fun ls hl => ?_)
            refine lv_iinc (v := nI (i + 1)) (lv' := [(4, .int (nI (i + 1))), (3, .int (nI (fq_cnt (fq_btw S p1 p2) i))), (0, .ref h0), (1, .int p1), (2, .int p2)]) hx hb dX1_countBetween_43 hl (k := 1) rfl (nI_1 _) (by decide) rfl (fun ls hl => ?_)
            refine lv_goto (tgt := 5) hx hb dX1_countBetween_46 (by decide) ?_
            exact ih (i + 1) hlt (by omega) H locs hP hD hS ls (by rw [fq_cb1 c_26 hlt]; exact lv_sub hl [0, 1, 2, 3, 4] rfl)
          · skip
            refine lv_iload hx hb dX1_countBetween_29 (lv_at hl 0 rfl) ?_
            refine lv_iload_n hx hb dX1_countBetween_31 rfl (lv_at hl 4 rfl) ?_
            refine lv_icmp_gt (tgt := 41) hx hb dX1_countBetween_32 (by decide) (fun c_32 => ?_) (fun c_32 => ?_)
            · skip
              refine lv_iload_n hx hb dX1_countBetween_41 rfl (lv_at hl 1 rfl) ?_
              refine lv_istore_n (lv' := [(3, .int (nI (fq_cnt (fq_btw S p1 p2) i))), (4, .int (nI i)), (0, .ref h0), (1, .int p1), (2, .int p2)]) hx hb dX1_countBetween_42 rfl hl (by decide) rfl (fun ls hl => ?_)
              refine lv_iinc (v := nI (i + 1)) (lv' := [(4, .int (nI (i + 1))), (3, .int (nI (fq_cnt (fq_btw S p1 p2) i))), (0, .ref h0), (1, .int p1), (2, .int p2)]) hx hb dX1_countBetween_43 hl (k := 1) rfl (nI_1 _) (by decide) rfl (fun ls hl => ?_)
              refine lv_goto (tgt := 5) hx hb dX1_countBetween_46 (by decide) ?_
              exact ih (i + 1) hlt (by omega) H locs hP hD hS ls (by rw [fq_cb2 c_32 hlt]; exact lv_sub hl [0, 1, 2, 3, 4] rfl)
            · skip
              refine lv_iload_n hx hb dX1_countBetween_35 rfl (lv_at hl 1 rfl) ?_
              refine lv_iconst (v := 1) hx hb dX1_countBetween_36 (by decide) ?_
              refine lv_iadd hx hb dX1_countBetween_37 ?_
              refine lv_goto (tgt := 42) hx hb dX1_countBetween_38 (by decide) ?_
              refine lv_istore_n (lv' := [(3, .int ((nI (fq_cnt (fq_btw S p1 p2) i)) + (1 : Int32))), (4, .int (nI i)), (0, .ref h0), (1, .int p1), (2, .int p2)]) hx hb dX1_countBetween_42 rfl hl (by decide) rfl (fun ls hl => ?_)
              refine lv_iinc (v := nI (i + 1)) (lv' := [(4, .int (nI (i + 1))), (3, .int ((nI (fq_cnt (fq_btw S p1 p2) i)) + (1 : Int32))), (0, .ref h0), (1, .int p1), (2, .int p2)]) hx hb dX1_countBetween_43 hl (k := 1) rfl (nI_1 _) (by decide) rfl (fun ls hl => ?_)
              refine lv_goto (tgt := 5) hx hb dX1_countBetween_46 (by decide) ?_
              exact ih (i + 1) hlt (by omega) H locs hP hD hS ls (by rw [fq_cb3 c_20 c_26 c_32 hlt]; exact lv_sub hl [0, 1, 2, 3, 4] rfl)
  exact key 257 0 (by omega) (by omega) _ _ hP hD hS ls (lv_sub hl [0, 1, 2, 3, 4] rfl)
set_option maxHeartbeats 4000000 in
set_option maxRecDepth 100000 in
theorem fq_metM_after (l : Launch) (dC : Nat → ClassId) (dI : Nat → Nat → Nat) (h0 b1 : Nat) (z : ClassId) (sz : Nat) (S : Nat → Bool) (p1 : Int32) : Met l yX1_after (ws_ yX1_after cX1_after 3 (some .int)) ({ frames := 0, cells := 0, slots := 0, locals := 0 }) (va_Pc [.ref h0, .int p1] (fq_PQ dC dI sz (fq_wm h0 b1 z (fq_bf S)) [(z, .boolean)])) (va_Qi (fun (r : Int32) (_ : Unit) => fq_Mn (fun j => S j && decide (p1 < nI j)) 256 r) (fun _ => fq_BQ dC dI (va_A (fq_wm h0 b1 z (fq_bf S)) sz) (fq_wm h0 b1 z (fq_bf S)) [(z, .boolean)]) (va_A (fq_wm h0 b1 z (fq_bf S)) sz)) 0 0 (va_A (fq_wm h0 b1 z (fq_bf S)) sz) := by
  refine Met.ofW (cc := cX1_after) (maxL := 3) (ret := (some .int)) (by decide) rfl ?_
  intro p e s m args below meth c s₁ B hml hv
  obtain ⟨rfl, hsz, hP, hK, hD0⟩ := hv
  have hx := B.exec
  have hb := B.bytes
  have hr := B.returns
  have hts := atoms_spec (ws := ws_ yX1_after cX1_after 3 (some .int)) B.pre
  have hts : ∀ w ∈ lw_all, w.before _ s = true := fun w h => hts w (List.mem_cons_of_mem _ h)
  have hown : s.vm.findClass RX1 = some m.cls := findClass_of_methodNamed B.named
  have hlocks := B.notSynchronized
  subst hsz
  have hD := hD0.self (sz := s.heap.size)
  generalize hAe : va_A (fq_wm h0 b1 z (fq_bf S)) s.heap.size = A at hD ⊢
  have hA : ∀ q : Nat, s.heap.size ≤ q → A q := fun q h => by rw [← hAe]; exact Or.inr h
  have hS : va_S A s.heap s.heap [] := va_S.rf
  have hP : va_P (dC, dI) vwCl (fq_wm h0 b1 z (fq_bf S)) s.heap := hP
  have hl := lv_entry ([.ref h0, .int p1]) (n := 3) (Nat.le_of_ble_eq_true rfl)
  rw [lg_entry_eq]
  generalize (lg_sl ([.ref h0, .int p1]) ++ List.replicate (3 - (lg_sl ([.ref h0, .int p1])).length) Slot.unset).toArray = ls0 at hl ⊢
  have hl : lv_has ls0 3 [(0, .ref h0), (1, .int p1)] := hl
  refine lv_iconst (v := 0) hx hb dX1_after_0 (by decide) ?_
  refine lv_istore_n (lv' := [(2, .int (0 : Int32)), (0, .ref h0), (1, .int p1)]) hx hb dX1_after_1 rfl hl (by decide) rfl (fun ls hl => ?_)
  have key : ∀ (n : Nat) (i : Nat), i ≤ 256 → 257 ≤ i + n → (∀ j, j < i → (fun j => S j && decide (p1 < nI j)) j = false) → ∀ (H : Heap) (locs : List Loc), va_P (dC, dI) vwCl (fq_wm h0 b1 z (fq_bf S)) H → va_D A (fq_wm h0 b1 z (fq_bf S)) → va_S A s.heap H locs → ∀ ls : Array Slot, lv_has ls 3 [(2, .int (nI i)), (0, .ref h0), (1, .int p1)] → W p l e (headSpec (ws_ yX1_after cX1_after 3 (some .int)) ({ frames := 0, cells := 0, slots := 0, locals := 0 })).room s m ([.ref h0, .int p1] : List Value).toArray below meth c H locs 0 0 (MQ below (va_Qi (fun (r : Int32) (_ : Unit) => fq_Mn (fun j => S j && decide (p1 < nI j)) 256 r) (fun _ => fq_BQ dC dI A (fq_wm h0 b1 z (fq_bf S)) [(z, .boolean)]) A) ([.ref h0, .int p1] : List Value).toArray s 0 0 A) (F0 m 2 ls []) := by
    intro n
    induction n with
    | zero =>
      intro i h1 h2
      exact absurd h2 (by omega)
    | succ n ih =>
      intro i hi hn hv H locs hP hD hS ls hl
      refine lv_iload_n hx hb dX1_after_2 rfl (lv_at hl 0 rfl) ?_
      refine lv_sipush (v := 256) hx hb dX1_after_3 (by decide) ?_
      refine lv_icmp_ge (tgt := 31) hx hb dX1_after_6 (by decide) (fun c_6 => ?_) (fun c_6 => ?_)
      · skip
        refine lv_iconst (v := -1) hx hb dX1_after_31 (by decide) ?_
        exact W.iret (v := (-1 : Int32)) hx hb hr (fun t ht hW => ⟨⟨(-1 : Int32), (), rfl, (fq_afM3 hv hi c_6), (by rw [ht]; exact hP), va_K.moved hW.alike hK, hD⟩, hS.F ht⟩) hS.2.2 dX1_after_32
      · skip
        have hlt : i < 256 := fq_lt256 c_6 hi
        refine lv_iload_n hx hb dX1_after_9 rfl (lv_at hl 0 rfl) ?_
        refine lv_iload_n hx hb dX1_after_10 rfl (lv_at hl 2 rfl) ?_
        refine lv_icmp_le (tgt := 25) hx hb dX1_after_11 (by decide) (fun c_11 => ?_) (fun c_11 => ?_)
        · skip
          refine lv_iinc (v := nI (i + 1)) (lv' := [(2, .int (nI (i + 1))), (0, .ref h0), (1, .int p1)]) hx hb dX1_after_25 hl (k := 0) rfl (nI_1 _) (by decide) rfl (fun ls hl => ?_)
          refine lv_goto (tgt := 2) hx hb dX1_after_28 (by decide) ?_
          exact ih (i + 1) hlt (by omega) (fq_afM1 hv c_11) H locs hP hD hS ls (lv_sub hl [0, 1, 2] rfl)
        · skip
          refine lv_aload_n hx hb dX1_after_14 rfl (lv_at hl 1 rfl) ?_
          refine va_get (D := (dC, dI)) (ci := 1) (v := .ref b1) (C := RX1) (T := TX1) (N := 1) hx hb hts in_X1 hown hK hP 0 rfl rfl 0 (by decide) (hts _ q161) (fun _ h9 => h9) rfl dX1_after_15 ?_
          refine lv_iload_n hx hb dX1_after_18 rfl (lv_at hl 0 rfl) ?_
          have h_19 : vp_in (nI i) 256 := vp_in_nI hlt (by decide)
          refine va_zald (f := (fq_bf S)) hx hb hK hP 1 0 rfl rfl h_19 dX1_after_19 ?_
          refine lv_if_eq (tgt := 25) hx hb dX1_after_20 (by decide) (fun c_20 => ?_) (fun c_20 => ?_)
          · skip
            refine lv_iinc (v := nI (i + 1)) (lv' := [(2, .int (nI (i + 1))), (0, .ref h0), (1, .int p1)]) hx hb dX1_after_25 hl (k := 0) rfl (nI_1 _) (by decide) rfl (fun ls hl => ?_)
            refine lv_goto (tgt := 2) hx hb dX1_after_28 (by decide) ?_
            exact ih (i + 1) hlt (by omega) (fq_afM2 hv hlt c_20) H locs hP hD hS ls (lv_sub hl [0, 1, 2] rfl)
          · skip
            refine lv_iload_n hx hb dX1_after_23 rfl (lv_at hl 0 rfl) ?_
            exact W.iret (v := (nI i)) hx hb hr (fun t ht hW => ⟨⟨(nI i), (), rfl, (fq_afM4 hv hlt c_11 c_20), (by rw [ht]; exact hP), va_K.moved hW.alike hK, hD⟩, hS.F ht⟩) hS.2.2 dX1_after_24
  exact key 257 0 (by omega) (by omega) (fun j hj => absurd hj (by omega)) _ _ hP hD hS ls (lv_sub hl [0, 1, 2] rfl)
set_option maxHeartbeats 4000000 in
set_option maxRecDepth 100000 in
theorem fq_metM_before (l : Launch) (dC : Nat → ClassId) (dI : Nat → Nat → Nat) (h0 b1 : Nat) (z : ClassId) (sz : Nat) (S : Nat → Bool) (p1 : Int32) : Met l yX1_before (ws_ yX1_before cX1_before 3 (some .int)) ({ frames := 0, cells := 0, slots := 0, locals := 0 }) (va_Pc [.ref h0, .int p1] (fq_PQ dC dI sz (fq_wm h0 b1 z (fq_bf S)) [(z, .boolean)])) (va_Qi (fun (r : Int32) (_ : Unit) => fq_Mx (fun j => S j && decide (nI j < p1)) 256 r) (fun _ => fq_BQ dC dI (va_A (fq_wm h0 b1 z (fq_bf S)) sz) (fq_wm h0 b1 z (fq_bf S)) [(z, .boolean)]) (va_A (fq_wm h0 b1 z (fq_bf S)) sz)) 0 0 (va_A (fq_wm h0 b1 z (fq_bf S)) sz) := by
  refine Met.ofW (cc := cX1_before) (maxL := 3) (ret := (some .int)) (by decide) rfl ?_
  intro p e s m args below meth c s₁ B hml hv
  obtain ⟨rfl, hsz, hP, hK, hD0⟩ := hv
  have hx := B.exec
  have hb := B.bytes
  have hr := B.returns
  have hts := atoms_spec (ws := ws_ yX1_before cX1_before 3 (some .int)) B.pre
  have hts : ∀ w ∈ lw_all, w.before _ s = true := fun w h => hts w (List.mem_cons_of_mem _ h)
  have hown : s.vm.findClass RX1 = some m.cls := findClass_of_methodNamed B.named
  have hlocks := B.notSynchronized
  subst hsz
  have hD := hD0.self (sz := s.heap.size)
  generalize hAe : va_A (fq_wm h0 b1 z (fq_bf S)) s.heap.size = A at hD ⊢
  have hA : ∀ q : Nat, s.heap.size ≤ q → A q := fun q h => by rw [← hAe]; exact Or.inr h
  have hS : va_S A s.heap s.heap [] := va_S.rf
  have hP : va_P (dC, dI) vwCl (fq_wm h0 b1 z (fq_bf S)) s.heap := hP
  have hl := lv_entry ([.ref h0, .int p1]) (n := 3) (Nat.le_of_ble_eq_true rfl)
  rw [lg_entry_eq]
  generalize (lg_sl ([.ref h0, .int p1]) ++ List.replicate (3 - (lg_sl ([.ref h0, .int p1])).length) Slot.unset).toArray = ls0 at hl ⊢
  have hl : lv_has ls0 3 [(0, .ref h0), (1, .int p1)] := hl
  refine lv_sipush (v := 255) hx hb dX1_before_0 (by decide) ?_
  refine lv_istore_n (lv' := [(2, .int (255 : Int32)), (0, .ref h0), (1, .int p1)]) hx hb dX1_before_3 rfl hl (by decide) rfl (fun ls hl => ?_)
  have key : ∀ (n : Nat) , n ≤ 256 → (∀ j, n ≤ j → j < 256 → (fun j => S j && decide (nI j < p1)) j = false) → ∀ (H : Heap) (locs : List Loc), va_P (dC, dI) vwCl (fq_wm h0 b1 z (fq_bf S)) H → va_D A (fq_wm h0 b1 z (fq_bf S)) → va_S A s.heap H locs → ∀ ls : Array Slot, lv_has ls 3 [(2, .int (nI n - 1)), (0, .ref h0), (1, .int p1)] → W p l e (headSpec (ws_ yX1_before cX1_before 3 (some .int)) ({ frames := 0, cells := 0, slots := 0, locals := 0 })).room s m ([.ref h0, .int p1] : List Value).toArray below meth c H locs 0 0 (MQ below (va_Qi (fun (r : Int32) (_ : Unit) => fq_Mx (fun j => S j && decide (nI j < p1)) 256 r) (fun _ => fq_BQ dC dI A (fq_wm h0 b1 z (fq_bf S)) [(z, .boolean)]) A) ([.ref h0, .int p1] : List Value).toArray s 0 0 A) (F0 m 4 ls []) := by
    intro n
    induction n with
    | zero =>
      intro hi hv H locs hP hD hS ls hl
      rw [show nI 0 - 1 = (-1 : Int32) by decide] at hl
      refine lv_iload_n hx hb dX1_before_4 rfl (lv_at hl 0 rfl) ?_
      refine lv_if_lt (tgt := 30) hx hb dX1_before_5 (by decide) (fun c_5 => ?_) (fun c_5 => ?_)
      · skip
        refine lv_iconst (v := -1) hx hb dX1_before_30 (by decide) ?_
        exact W.iret (v := (-1 : Int32)) hx hb hr (fun t ht hW => ⟨⟨(-1 : Int32), (), rfl, (fq_bfM0 hv), (by rw [ht]; exact hP), va_K.moved hW.alike hK, hD⟩, hS.F ht⟩) hS.2.2 dX1_before_31
      · exact absurd (by decide) c_5
    | succ i ih =>
      intro hi hv H locs hP hD hS ls hl
      rw [nI_pred] at hl
      refine lv_iload_n hx hb dX1_before_4 rfl (lv_at hl 0 rfl) ?_
      refine lv_if_lt (tgt := 30) hx hb dX1_before_5 (by decide) (fun c_5 => ?_) (fun c_5 => ?_)
      · skip
        exact absurd c_5 (nI_pos (by omega))
      · skip
        refine lv_iload_n hx hb dX1_before_8 rfl (lv_at hl 0 rfl) ?_
        refine lv_iload_n hx hb dX1_before_9 rfl (lv_at hl 2 rfl) ?_
        refine lv_icmp_ge (tgt := 24) hx hb dX1_before_10 (by decide) (fun c_10 => ?_) (fun c_10 => ?_)
        · skip
          refine lv_iinc (v := (nI i) + (-1 : Int32)) (lv' := [(2, .int ((nI i) + (-1 : Int32))), (0, .ref h0), (1, .int p1)]) hx hb dX1_before_24 hl (k := 0) rfl rfl (by decide) rfl (fun ls hl => ?_)
          refine lv_goto (tgt := 4) hx hb dX1_before_27 (by decide) ?_
          exact ih (by omega) (fq_bfM1 hv c_10) H locs hP hD hS ls (by rw [fq_m1]; exact lv_sub hl [0, 1, 2] rfl)
        · skip
          refine lv_aload_n hx hb dX1_before_13 rfl (lv_at hl 1 rfl) ?_
          refine va_get (D := (dC, dI)) (ci := 1) (v := .ref b1) (C := RX1) (T := TX1) (N := 1) hx hb hts in_X1 hown hK hP 0 rfl rfl 0 (by decide) (hts _ q161) (fun _ h9 => h9) rfl dX1_before_14 ?_
          refine lv_iload_n hx hb dX1_before_17 rfl (lv_at hl 0 rfl) ?_
          have h_18 : vp_in (nI i) 256 := vp_in_nI hi (by decide)
          refine va_zald (f := (fq_bf S)) hx hb hK hP 1 0 rfl rfl h_18 dX1_before_18 ?_
          refine lv_if_eq (tgt := 24) hx hb dX1_before_19 (by decide) (fun c_19 => ?_) (fun c_19 => ?_)
          · skip
            refine lv_iinc (v := (nI i) + (-1 : Int32)) (lv' := [(2, .int ((nI i) + (-1 : Int32))), (0, .ref h0), (1, .int p1)]) hx hb dX1_before_24 hl (k := 0) rfl rfl (by decide) rfl (fun ls hl => ?_)
            refine lv_goto (tgt := 4) hx hb dX1_before_27 (by decide) ?_
            exact ih (by omega) (fq_bfM2 hv hi c_19) H locs hP hD hS ls (by rw [fq_m1]; exact lv_sub hl [0, 1, 2] rfl)
          · skip
            refine lv_iload_n hx hb dX1_before_22 rfl (lv_at hl 0 rfl) ?_
            exact W.iret (v := (nI i)) hx hb hr (fun t ht hW => ⟨⟨(nI i), (), rfl, (fq_bfM4 hv hi c_10 c_19), (by rw [ht]; exact hP), va_K.moved hW.alike hK, hD⟩, hS.F ht⟩) hS.2.2 dX1_before_23
  exact key 256 (by omega) (fun j h1 h2 => absurd h2 (by omega)) _ _ hP hD hS ls (by rw [show nI 256 - 1 = (255 : Int32) by decide]; exact lv_sub hl [0, 1, 2] rfl)
set_option maxHeartbeats 4000000 in
set_option maxRecDepth 100000 in
theorem fq_metM_size (l : Launch) (dC : Nat → ClassId) (dI : Nat → Nat → Nat) (h0 b1 : Nat) (z : ClassId) (sz : Nat) (S : Nat → Bool) : Met l yX1_size (ws_ yX1_size cX1_size 1 (some .int)) ({ frames := 1, cells := 0, slots := 0, locals := 24 }) (va_Pc [.ref h0] (fq_PQ dC dI sz (fq_wm h0 b1 z (fq_bf S)) [(z, .boolean)])) (va_Qi (fun (r : Int32) (_ : Unit) => r = nI (fq_cnt (fq_btw S 0 255) 256)) (fun _ => fq_BQ dC dI (va_A (fq_wm h0 b1 z (fq_bf S)) sz) (fq_wm h0 b1 z (fq_bf S)) [(z, .boolean)]) (va_A (fq_wm h0 b1 z (fq_bf S)) sz)) 0 0 (va_A (fq_wm h0 b1 z (fq_bf S)) sz) := by
  refine Met.ofW (cc := cX1_size) (maxL := 1) (ret := (some .int)) (by decide) rfl ?_
  intro p e s m args below meth c s₁ B hml hv
  obtain ⟨rfl, hsz, hP, hK, hD0⟩ := hv
  have hx := B.exec
  have hb := B.bytes
  have hr := B.returns
  have hts := atoms_spec (ws := ws_ yX1_size cX1_size 1 (some .int)) B.pre
  have hts : ∀ w ∈ lw_all, w.before _ s = true := fun w h => hts w (List.mem_cons_of_mem _ h)
  have hown : s.vm.findClass RX1 = some m.cls := findClass_of_methodNamed B.named
  have hlocks := B.notSynchronized
  subst hsz
  have hD := hD0.self (sz := s.heap.size)
  generalize hAe : va_A (fq_wm h0 b1 z (fq_bf S)) s.heap.size = A at hD ⊢
  have hA : ∀ q : Nat, s.heap.size ≤ q → A q := fun q h => by rw [← hAe]; exact Or.inr h
  have hS : va_S A s.heap s.heap [] := va_S.rf
  have hP : va_P (dC, dI) vwCl (fq_wm h0 b1 z (fq_bf S)) s.heap := hP
  have hl := lv_entry ([.ref h0]) (n := 1) (Nat.le_of_ble_eq_true rfl)
  rw [lg_entry_eq]
  generalize (lg_sl ([.ref h0]) ++ List.replicate (1 - (lg_sl ([.ref h0])).length) Slot.unset).toArray = ls0 at hl ⊢
  have hl : lv_has ls0 1 [(0, .ref h0)] := hl
  refine lv_aload_n hx hb dX1_size_0 rfl (lv_at hl 0 rfl) ?_
  refine lv_iconst (v := 0) hx hb dX1_size_1 (by decide) ?_
  refine lv_sipush (v := 255) hx hb dX1_size_2 (by decide) ?_
  have hFc := va_free (wc := fq_wm h0 b1 z (fq_bf S)) hD hS hA [0, 1] rfl
  refine va_calli (va_runV (As := [.int (0 : Int32), .int (255 : Int32)]) (rest := []) ⟨hx, hb, hml, hown, hts⟩ (fq_metM_countBetween l dC dI h0 b1 z s.heap.size S (0 : Int32) (255 : Int32) ) (cwV 2 hts (lw_V q186 q187 q188 q13 q189) rfl rfl rfl (by decide +kernel) ⟨Nat.le_of_ble_eq_true rfl, Nat.le_of_ble_eq_true rfl⟩) ⟨fq_blind, va_recv hK hP (ci := 1) (q0 := 0) rfl rfl, fun U hU hW => ⟨rfl, by rw [hU], by rw [hU]; exact hP, va_K.moved hW.alike hK, hD.weaken (fun _ _ _ _ => trivial)⟩⟩ rfl rfl hl.1 rfl (lv_room (Nat.le_of_ble_eq_true rfl)) dX1_size_5 ⟨Nat.le_of_ble_eq_true rfl, Nat.le_of_ble_eq_true rfl⟩) hS (fun q _ h => hFc q h) hFc (fun r_5 u_5 t H1 locs ht hvm hw hB hz1 hk1 hS => ?_)
  have hw_5 := hw
  obtain ⟨hP1, hK1, hD1⟩ := hB
  rw [ht] at hP1
  have hP : va_P (dC, dI) vwCl (fq_wm h0 b1 z (fq_bf S)) H1 := hP1
  have hD : va_D A (fq_wm h0 b1 z (fq_bf S)) := hD1.weaken (fun _ _ _ h => hFc _ h)
  generalize H1 = H at hP hS ⊢
  exact W.iret (v := r_5) hx hb hr (fun t ht hW => ⟨⟨r_5, (), rfl, hw_5, (by rw [ht]; exact hP), va_K.moved hW.alike hK, hD⟩, hS.F ht⟩) hS.2.2 dX1_size_8
set_option maxHeartbeats 4000000 in
set_option maxRecDepth 100000 in
theorem fq_metM_least (l : Launch) (dC : Nat → ClassId) (dI : Nat → Nat → Nat) (h0 b1 : Nat) (z : ClassId) (sz : Nat) (S : Nat → Bool) : Met l yX1_least (ws_ yX1_least cX1_least 1 (some .int)) ({ frames := 1, cells := 0, slots := 0, locals := 22 }) (va_Pc [.ref h0] (fq_PQ dC dI sz (fq_wm h0 b1 z (fq_bf S)) [(z, .boolean)])) (va_Qi (fun (r : Int32) (_ : Unit) => fq_Mn (fun j => S j && decide (-1 < nI j)) 256 r) (fun _ => fq_BQ dC dI (va_A (fq_wm h0 b1 z (fq_bf S)) sz) (fq_wm h0 b1 z (fq_bf S)) [(z, .boolean)]) (va_A (fq_wm h0 b1 z (fq_bf S)) sz)) 0 0 (va_A (fq_wm h0 b1 z (fq_bf S)) sz) := by
  refine Met.ofW (cc := cX1_least) (maxL := 1) (ret := (some .int)) (by decide) rfl ?_
  intro p e s m args below meth c s₁ B hml hv
  obtain ⟨rfl, hsz, hP, hK, hD0⟩ := hv
  have hx := B.exec
  have hb := B.bytes
  have hr := B.returns
  have hts := atoms_spec (ws := ws_ yX1_least cX1_least 1 (some .int)) B.pre
  have hts : ∀ w ∈ lw_all, w.before _ s = true := fun w h => hts w (List.mem_cons_of_mem _ h)
  have hown : s.vm.findClass RX1 = some m.cls := findClass_of_methodNamed B.named
  have hlocks := B.notSynchronized
  subst hsz
  have hD := hD0.self (sz := s.heap.size)
  generalize hAe : va_A (fq_wm h0 b1 z (fq_bf S)) s.heap.size = A at hD ⊢
  have hA : ∀ q : Nat, s.heap.size ≤ q → A q := fun q h => by rw [← hAe]; exact Or.inr h
  have hS : va_S A s.heap s.heap [] := va_S.rf
  have hP : va_P (dC, dI) vwCl (fq_wm h0 b1 z (fq_bf S)) s.heap := hP
  have hl := lv_entry ([.ref h0]) (n := 1) (Nat.le_of_ble_eq_true rfl)
  rw [lg_entry_eq]
  generalize (lg_sl ([.ref h0]) ++ List.replicate (1 - (lg_sl ([.ref h0])).length) Slot.unset).toArray = ls0 at hl ⊢
  have hl : lv_has ls0 1 [(0, .ref h0)] := hl
  refine lv_aload_n hx hb dX1_least_0 rfl (lv_at hl 0 rfl) ?_
  refine lv_iconst (v := -1) hx hb dX1_least_1 (by decide) ?_
  have hFc := va_free (wc := fq_wm h0 b1 z (fq_bf S)) hD hS hA [0, 1] rfl
  refine va_calli (va_runV (As := [.int (-1 : Int32)]) (rest := []) ⟨hx, hb, hml, hown, hts⟩ (fq_metM_after l dC dI h0 b1 z s.heap.size S (-1 : Int32) ) (cwV 1 hts (lw_V q194 q195 q196 q13 q197) rfl rfl rfl (by decide +kernel) ⟨Nat.le_of_ble_eq_true rfl, Nat.le_of_ble_eq_true rfl⟩) ⟨fq_blind, va_recv hK hP (ci := 1) (q0 := 0) rfl rfl, fun U hU hW => ⟨rfl, by rw [hU], by rw [hU]; exact hP, va_K.moved hW.alike hK, hD.weaken (fun _ _ _ _ => trivial)⟩⟩ rfl rfl hl.1 rfl (lv_room (Nat.le_of_ble_eq_true rfl)) dX1_least_2 ⟨Nat.le_of_ble_eq_true rfl, Nat.le_of_ble_eq_true rfl⟩) hS (fun q _ h => hFc q h) hFc (fun r_2 u_2 t H1 locs ht hvm hw hB hz1 hk1 hS => ?_)
  have hw_2 := hw
  obtain ⟨hP1, hK1, hD1⟩ := hB
  rw [ht] at hP1
  have hP : va_P (dC, dI) vwCl (fq_wm h0 b1 z (fq_bf S)) H1 := hP1
  have hD : va_D A (fq_wm h0 b1 z (fq_bf S)) := hD1.weaken (fun _ _ _ h => hFc _ h)
  generalize H1 = H at hP hS ⊢
  exact W.iret (v := r_2) hx hb hr (fun t ht hW => ⟨⟨r_2, (), rfl, hw_2, (by rw [ht]; exact hP), va_K.moved hW.alike hK, hD⟩, hS.F ht⟩) hS.2.2 dX1_least_5
set_option maxHeartbeats 4000000 in
set_option maxRecDepth 100000 in
theorem fq_metM_greatest (l : Launch) (dC : Nat → ClassId) (dI : Nat → Nat → Nat) (h0 b1 : Nat) (z : ClassId) (sz : Nat) (S : Nat → Bool) : Met l yX1_greatest (ws_ yX1_greatest cX1_greatest 1 (some .int)) ({ frames := 1, cells := 0, slots := 0, locals := 22 }) (va_Pc [.ref h0] (fq_PQ dC dI sz (fq_wm h0 b1 z (fq_bf S)) [(z, .boolean)])) (va_Qi (fun (r : Int32) (_ : Unit) => fq_Mx (fun j => S j && decide (nI j < 256)) 256 r) (fun _ => fq_BQ dC dI (va_A (fq_wm h0 b1 z (fq_bf S)) sz) (fq_wm h0 b1 z (fq_bf S)) [(z, .boolean)]) (va_A (fq_wm h0 b1 z (fq_bf S)) sz)) 0 0 (va_A (fq_wm h0 b1 z (fq_bf S)) sz) := by
  refine Met.ofW (cc := cX1_greatest) (maxL := 1) (ret := (some .int)) (by decide) rfl ?_
  intro p e s m args below meth c s₁ B hml hv
  obtain ⟨rfl, hsz, hP, hK, hD0⟩ := hv
  have hx := B.exec
  have hb := B.bytes
  have hr := B.returns
  have hts := atoms_spec (ws := ws_ yX1_greatest cX1_greatest 1 (some .int)) B.pre
  have hts : ∀ w ∈ lw_all, w.before _ s = true := fun w h => hts w (List.mem_cons_of_mem _ h)
  have hown : s.vm.findClass RX1 = some m.cls := findClass_of_methodNamed B.named
  have hlocks := B.notSynchronized
  subst hsz
  have hD := hD0.self (sz := s.heap.size)
  generalize hAe : va_A (fq_wm h0 b1 z (fq_bf S)) s.heap.size = A at hD ⊢
  have hA : ∀ q : Nat, s.heap.size ≤ q → A q := fun q h => by rw [← hAe]; exact Or.inr h
  have hS : va_S A s.heap s.heap [] := va_S.rf
  have hP : va_P (dC, dI) vwCl (fq_wm h0 b1 z (fq_bf S)) s.heap := hP
  have hl := lv_entry ([.ref h0]) (n := 1) (Nat.le_of_ble_eq_true rfl)
  rw [lg_entry_eq]
  generalize (lg_sl ([.ref h0]) ++ List.replicate (1 - (lg_sl ([.ref h0])).length) Slot.unset).toArray = ls0 at hl ⊢
  have hl : lv_has ls0 1 [(0, .ref h0)] := hl
  refine lv_aload_n hx hb dX1_greatest_0 rfl (lv_at hl 0 rfl) ?_
  refine lv_sipush (v := 256) hx hb dX1_greatest_1 (by decide) ?_
  have hFc := va_free (wc := fq_wm h0 b1 z (fq_bf S)) hD hS hA [0, 1] rfl
  refine va_calli (va_runV (As := [.int (256 : Int32)]) (rest := []) ⟨hx, hb, hml, hown, hts⟩ (fq_metM_before l dC dI h0 b1 z s.heap.size S (256 : Int32) ) (cwV 1 hts (lw_V q202 q203 q204 q13 q205) rfl rfl rfl (by decide +kernel) ⟨Nat.le_of_ble_eq_true rfl, Nat.le_of_ble_eq_true rfl⟩) ⟨fq_blind, va_recv hK hP (ci := 1) (q0 := 0) rfl rfl, fun U hU hW => ⟨rfl, by rw [hU], by rw [hU]; exact hP, va_K.moved hW.alike hK, hD.weaken (fun _ _ _ _ => trivial)⟩⟩ rfl rfl hl.1 rfl (lv_room (Nat.le_of_ble_eq_true rfl)) dX1_greatest_4 ⟨Nat.le_of_ble_eq_true rfl, Nat.le_of_ble_eq_true rfl⟩) hS (fun q _ h => hFc q h) hFc (fun r_4 u_4 t H1 locs ht hvm hw hB hz1 hk1 hS => ?_)
  have hw_4 := hw
  obtain ⟨hP1, hK1, hD1⟩ := hB
  rw [ht] at hP1
  have hP : va_P (dC, dI) vwCl (fq_wm h0 b1 z (fq_bf S)) H1 := hP1
  have hD : va_D A (fq_wm h0 b1 z (fq_bf S)) := hD1.weaken (fun _ _ _ h => hFc _ h)
  generalize H1 = H at hP hS ⊢
  exact W.iret (v := r_4) hx hb hr (fun t ht hW => ⟨⟨r_4, (), rfl, hw_4, (by rw [ht]; exact hP), va_K.moved hW.alike hK, hD⟩, hS.F ht⟩) hS.2.2 dX1_greatest_7
set_option maxHeartbeats 4000000 in
set_option maxRecDepth 100000 in
theorem fq_metM_takeLeast (l : Launch) (dC : Nat → ClassId) (dI : Nat → Nat → Nat) (h0 b1 : Nat) (z : ClassId) (sz : Nat) (S : Nat → Bool) : Met l yX1_takeLeast (ws_ yX1_takeLeast cX1_takeLeast 2 (some .int)) ({ frames := 2, cells := 0, slots := 0, locals := 42 }) (va_Pc [.ref h0] (fq_PQ dC dI sz (fq_wm h0 b1 z (fq_bf S)) [(z, .boolean)])) (va_Qi (fun (r : Int32) (u : Nat → Bool) => fq_Mn (fun j => S j && decide (-1 < nI j)) 256 r ∧ u = fq_delS S r) (fun u => fq_BQ dC dI (va_A (fq_wm h0 b1 z (fq_bf S)) sz) (fq_wm h0 b1 z (fq_bf u)) [(z, .boolean)]) (va_A (fq_wm h0 b1 z (fq_bf S)) sz)) 0 0 (va_A (fq_wm h0 b1 z (fq_bf S)) sz) := by
  refine Met.ofW (cc := cX1_takeLeast) (maxL := 2) (ret := (some .int)) (by decide) rfl ?_
  intro p e s m args below meth c s₁ B hml hv
  obtain ⟨rfl, hsz, hP, hK, hD0⟩ := hv
  have hx := B.exec
  have hb := B.bytes
  have hr := B.returns
  have hts := atoms_spec (ws := ws_ yX1_takeLeast cX1_takeLeast 2 (some .int)) B.pre
  have hts : ∀ w ∈ lw_all, w.before _ s = true := fun w h => hts w (List.mem_cons_of_mem _ h)
  have hown : s.vm.findClass RX1 = some m.cls := findClass_of_methodNamed B.named
  have hlocks := B.notSynchronized
  subst hsz
  have hD := hD0.self (sz := s.heap.size)
  generalize hAe : va_A (fq_wm h0 b1 z (fq_bf S)) s.heap.size = A at hD ⊢
  have hA : ∀ q : Nat, s.heap.size ≤ q → A q := fun q h => by rw [← hAe]; exact Or.inr h
  have hS : va_S A s.heap s.heap [] := va_S.rf
  have hP : va_P (dC, dI) vwCl (fq_wm h0 b1 z (fq_bf S)) s.heap := hP
  have hl := lv_entry ([.ref h0]) (n := 2) (Nat.le_of_ble_eq_true rfl)
  rw [lg_entry_eq]
  generalize (lg_sl ([.ref h0]) ++ List.replicate (2 - (lg_sl ([.ref h0])).length) Slot.unset).toArray = ls0 at hl ⊢
  have hl : lv_has ls0 2 [(0, .ref h0)] := hl
  refine lv_aload_n hx hb dX1_takeLeast_0 rfl (lv_at hl 0 rfl) ?_
  have hFc := va_free (wc := fq_wm h0 b1 z (fq_bf S)) hD hS hA [0, 1] rfl
  refine va_calli (va_runV (As := []) (rest := []) ⟨hx, hb, hml, hown, hts⟩ (fq_metM_least l dC dI h0 b1 z s.heap.size S  ) (cwV 0 hts (lw_V q212 q191 q192 q13 q193) rfl rfl rfl (by decide +kernel) ⟨Nat.le_of_ble_eq_true rfl, Nat.le_of_ble_eq_true rfl⟩) ⟨fq_blind, va_recv hK hP (ci := 1) (q0 := 0) rfl rfl, fun U hU hW => ⟨rfl, by rw [hU], by rw [hU]; exact hP, va_K.moved hW.alike hK, hD.weaken (fun _ _ _ _ => trivial)⟩⟩ rfl rfl hl.1 rfl (lv_room (Nat.le_of_ble_eq_true rfl)) dX1_takeLeast_1 ⟨Nat.le_of_ble_eq_true rfl, Nat.le_of_ble_eq_true rfl⟩) hS (fun q _ h => hFc q h) hFc (fun r_1 u_1 t H1 locs ht hvm hw hB hz1 hk1 hS => ?_)
  have hw_1 := hw
  obtain ⟨hP1, hK1, hD1⟩ := hB
  rw [ht] at hP1
  have hP : va_P (dC, dI) vwCl (fq_wm h0 b1 z (fq_bf S)) H1 := hP1
  have hD : va_D A (fq_wm h0 b1 z (fq_bf S)) := hD1.weaken (fun _ _ _ h => hFc _ h)
  generalize H1 = H at hP hS ⊢
  refine lv_istore_n (lv' := [(1, .int r_1), (0, .ref h0)]) hx hb dX1_takeLeast_4 rfl hl (by decide) rfl (fun ls hl => ?_)
  refine lv_aload_n hx hb dX1_takeLeast_5 rfl (lv_at hl 1 rfl) ?_
  refine lv_iload_n hx hb dX1_takeLeast_6 rfl (lv_at hl 0 rfl) ?_
  have hFc := va_free (wc := fq_wm h0 b1 z (fq_bf S)) hD hS hA [0, 1] rfl
  refine va_calli (va_runV (As := [.int r_1]) (rest := []) ⟨hx, hb, hml, hown, hts⟩ (fq_metM_delete l dC dI h0 b1 z H.size S r_1 ) (cwV 1 hts (lw_V q213 q175 q176 q13 q177) rfl rfl rfl (by decide +kernel) ⟨Nat.le_of_ble_eq_true rfl, Nat.le_of_ble_eq_true rfl⟩) ⟨fq_blind, va_recv hK hP (ci := 1) (q0 := 0) rfl rfl, fun U hU hW => ⟨rfl, by rw [hU], by rw [hU]; exact hP, va_K.moved hW.alike hK, hD.weaken (fun _ _ _ _ => trivial)⟩⟩ rfl rfl hl.1 rfl (lv_room (Nat.le_of_ble_eq_true rfl)) dX1_takeLeast_7 ⟨Nat.le_of_ble_eq_true rfl, Nat.le_of_ble_eq_true rfl⟩) hS (fun q _ h => hFc q h) hFc (fun r_7 u_7 t H1 locs ht hvm hw hB hz1 hk1 hS => ?_)
  have hw_7 := hw
  obtain ⟨hP1, hK1, hD1⟩ := hB
  rw [ht] at hP1
  have hP : va_P (dC, dI) vwCl (fq_wm h0 b1 z (fq_bf u_7)) H1 := hP1
  have hD : va_D A (fq_wm h0 b1 z (fq_bf u_7)) := hD1.weaken (fun _ _ _ h => hFc _ h)
  generalize H1 = H at hP hS ⊢
  refine lv_pop hx hb dX1_takeLeast_10 rfl ?_
  refine lv_iload_n hx hb dX1_takeLeast_11 rfl (lv_at hl 0 rfl) ?_
  exact W.iret (v := r_1) hx hb hr (fun t ht hW => ⟨⟨r_1, u_7, rfl, ⟨hw_1, hw_7.2⟩, (by rw [ht]; exact hP), va_K.moved hW.alike hK, hD⟩, hS.F ht⟩) hS.2.2 dX1_takeLeast_12
set_option maxHeartbeats 4000000 in
set_option maxRecDepth 100000 in
theorem fq_metM_takeGreatest (l : Launch) (dC : Nat → ClassId) (dI : Nat → Nat → Nat) (h0 b1 : Nat) (z : ClassId) (sz : Nat) (S : Nat → Bool) : Met l yX1_takeGreatest (ws_ yX1_takeGreatest cX1_takeGreatest 2 (some .int)) ({ frames := 2, cells := 0, slots := 0, locals := 42 }) (va_Pc [.ref h0] (fq_PQ dC dI sz (fq_wm h0 b1 z (fq_bf S)) [(z, .boolean)])) (va_Qi (fun (r : Int32) (u : Nat → Bool) => fq_Mx (fun j => S j && decide (nI j < 256)) 256 r ∧ u = fq_delS S r) (fun u => fq_BQ dC dI (va_A (fq_wm h0 b1 z (fq_bf S)) sz) (fq_wm h0 b1 z (fq_bf u)) [(z, .boolean)]) (va_A (fq_wm h0 b1 z (fq_bf S)) sz)) 0 0 (va_A (fq_wm h0 b1 z (fq_bf S)) sz) := by
  refine Met.ofW (cc := cX1_takeGreatest) (maxL := 2) (ret := (some .int)) (by decide) rfl ?_
  intro p e s m args below meth c s₁ B hml hv
  obtain ⟨rfl, hsz, hP, hK, hD0⟩ := hv
  have hx := B.exec
  have hb := B.bytes
  have hr := B.returns
  have hts := atoms_spec (ws := ws_ yX1_takeGreatest cX1_takeGreatest 2 (some .int)) B.pre
  have hts : ∀ w ∈ lw_all, w.before _ s = true := fun w h => hts w (List.mem_cons_of_mem _ h)
  have hown : s.vm.findClass RX1 = some m.cls := findClass_of_methodNamed B.named
  have hlocks := B.notSynchronized
  subst hsz
  have hD := hD0.self (sz := s.heap.size)
  generalize hAe : va_A (fq_wm h0 b1 z (fq_bf S)) s.heap.size = A at hD ⊢
  have hA : ∀ q : Nat, s.heap.size ≤ q → A q := fun q h => by rw [← hAe]; exact Or.inr h
  have hS : va_S A s.heap s.heap [] := va_S.rf
  have hP : va_P (dC, dI) vwCl (fq_wm h0 b1 z (fq_bf S)) s.heap := hP
  have hl := lv_entry ([.ref h0]) (n := 2) (Nat.le_of_ble_eq_true rfl)
  rw [lg_entry_eq]
  generalize (lg_sl ([.ref h0]) ++ List.replicate (2 - (lg_sl ([.ref h0])).length) Slot.unset).toArray = ls0 at hl ⊢
  have hl : lv_has ls0 2 [(0, .ref h0)] := hl
  refine lv_aload_n hx hb dX1_takeGreatest_0 rfl (lv_at hl 0 rfl) ?_
  have hFc := va_free (wc := fq_wm h0 b1 z (fq_bf S)) hD hS hA [0, 1] rfl
  refine va_calli (va_runV (As := []) (rest := []) ⟨hx, hb, hml, hown, hts⟩ (fq_metM_greatest l dC dI h0 b1 z s.heap.size S  ) (cwV 0 hts (lw_V q218 q199 q200 q13 q201) rfl rfl rfl (by decide +kernel) ⟨Nat.le_of_ble_eq_true rfl, Nat.le_of_ble_eq_true rfl⟩) ⟨fq_blind, va_recv hK hP (ci := 1) (q0 := 0) rfl rfl, fun U hU hW => ⟨rfl, by rw [hU], by rw [hU]; exact hP, va_K.moved hW.alike hK, hD.weaken (fun _ _ _ _ => trivial)⟩⟩ rfl rfl hl.1 rfl (lv_room (Nat.le_of_ble_eq_true rfl)) dX1_takeGreatest_1 ⟨Nat.le_of_ble_eq_true rfl, Nat.le_of_ble_eq_true rfl⟩) hS (fun q _ h => hFc q h) hFc (fun r_1 u_1 t H1 locs ht hvm hw hB hz1 hk1 hS => ?_)
  have hw_1 := hw
  obtain ⟨hP1, hK1, hD1⟩ := hB
  rw [ht] at hP1
  have hP : va_P (dC, dI) vwCl (fq_wm h0 b1 z (fq_bf S)) H1 := hP1
  have hD : va_D A (fq_wm h0 b1 z (fq_bf S)) := hD1.weaken (fun _ _ _ h => hFc _ h)
  generalize H1 = H at hP hS ⊢
  refine lv_istore_n (lv' := [(1, .int r_1), (0, .ref h0)]) hx hb dX1_takeGreatest_4 rfl hl (by decide) rfl (fun ls hl => ?_)
  refine lv_aload_n hx hb dX1_takeGreatest_5 rfl (lv_at hl 1 rfl) ?_
  refine lv_iload_n hx hb dX1_takeGreatest_6 rfl (lv_at hl 0 rfl) ?_
  have hFc := va_free (wc := fq_wm h0 b1 z (fq_bf S)) hD hS hA [0, 1] rfl
  refine va_calli (va_runV (As := [.int r_1]) (rest := []) ⟨hx, hb, hml, hown, hts⟩ (fq_metM_delete l dC dI h0 b1 z H.size S r_1 ) (cwV 1 hts (lw_V q213 q175 q176 q13 q177) rfl rfl rfl (by decide +kernel) ⟨Nat.le_of_ble_eq_true rfl, Nat.le_of_ble_eq_true rfl⟩) ⟨fq_blind, va_recv hK hP (ci := 1) (q0 := 0) rfl rfl, fun U hU hW => ⟨rfl, by rw [hU], by rw [hU]; exact hP, va_K.moved hW.alike hK, hD.weaken (fun _ _ _ _ => trivial)⟩⟩ rfl rfl hl.1 rfl (lv_room (Nat.le_of_ble_eq_true rfl)) dX1_takeGreatest_7 ⟨Nat.le_of_ble_eq_true rfl, Nat.le_of_ble_eq_true rfl⟩) hS (fun q _ h => hFc q h) hFc (fun r_7 u_7 t H1 locs ht hvm hw hB hz1 hk1 hS => ?_)
  have hw_7 := hw
  obtain ⟨hP1, hK1, hD1⟩ := hB
  rw [ht] at hP1
  have hP : va_P (dC, dI) vwCl (fq_wm h0 b1 z (fq_bf u_7)) H1 := hP1
  have hD : va_D A (fq_wm h0 b1 z (fq_bf u_7)) := hD1.weaken (fun _ _ _ h => hFc _ h)
  generalize H1 = H at hP hS ⊢
  refine lv_pop hx hb dX1_takeGreatest_10 rfl ?_
  refine lv_iload_n hx hb dX1_takeGreatest_11 rfl (lv_at hl 0 rfl) ?_
  exact W.iret (v := r_1) hx hb hr (fun t ht hW => ⟨⟨r_1, u_7, rfl, ⟨hw_1, hw_7.2⟩, (by rw [ht]; exact hP), va_K.moved hW.alike hK, hD⟩, hS.F ht⟩) hS.2.2 dX1_takeGreatest_12
set_option maxHeartbeats 4000000 in
set_option maxRecDepth 100000 in
theorem fq_metM_select (l : Launch) (dC : Nat → ClassId) (dI : Nat → Nat → Nat) (h0 b1 : Nat) (z : ClassId) (sz : Nat) (S : Nat → Bool) (p1 : Int32) : Met l yX1_select (ws_ yX1_select cX1_select 4 (some .int)) ({ frames := 0, cells := 0, slots := 0, locals := 0 }) (va_Pc [.ref h0, .int p1] (fq_PQ dC dI sz (fq_wm h0 b1 z (fq_bf S)) [(z, .boolean)])) (va_Qi (fun (r : Int32) (_ : Unit) => fq_Sel S p1 r) (fun _ => fq_BQ dC dI (va_A (fq_wm h0 b1 z (fq_bf S)) sz) (fq_wm h0 b1 z (fq_bf S)) [(z, .boolean)]) (va_A (fq_wm h0 b1 z (fq_bf S)) sz)) 0 0 (va_A (fq_wm h0 b1 z (fq_bf S)) sz) := by
  refine Met.ofW (cc := cX1_select) (maxL := 4) (ret := (some .int)) (by decide) rfl ?_
  intro p e s m args below meth c s₁ B hml hv
  obtain ⟨rfl, hsz, hP, hK, hD0⟩ := hv
  have hx := B.exec
  have hb := B.bytes
  have hr := B.returns
  have hts := atoms_spec (ws := ws_ yX1_select cX1_select 4 (some .int)) B.pre
  have hts : ∀ w ∈ lw_all, w.before _ s = true := fun w h => hts w (List.mem_cons_of_mem _ h)
  have hown : s.vm.findClass RX1 = some m.cls := findClass_of_methodNamed B.named
  have hlocks := B.notSynchronized
  subst hsz
  have hD := hD0.self (sz := s.heap.size)
  generalize hAe : va_A (fq_wm h0 b1 z (fq_bf S)) s.heap.size = A at hD ⊢
  have hA : ∀ q : Nat, s.heap.size ≤ q → A q := fun q h => by rw [← hAe]; exact Or.inr h
  have hS : va_S A s.heap s.heap [] := va_S.rf
  have hP : va_P (dC, dI) vwCl (fq_wm h0 b1 z (fq_bf S)) s.heap := hP
  have hl := lv_entry ([.ref h0, .int p1]) (n := 4) (Nat.le_of_ble_eq_true rfl)
  rw [lg_entry_eq]
  generalize (lg_sl ([.ref h0, .int p1]) ++ List.replicate (4 - (lg_sl ([.ref h0, .int p1])).length) Slot.unset).toArray = ls0 at hl ⊢
  have hl : lv_has ls0 4 [(0, .ref h0), (1, .int p1)] := hl
  refine lv_iconst (v := 0) hx hb dX1_select_0 (by decide) ?_
  refine lv_istore_n (lv' := [(2, .int (0 : Int32)), (0, .ref h0), (1, .int p1)]) hx hb dX1_select_1 rfl hl (by decide) rfl (fun ls hl => ?_)
  refine lv_iconst (v := 0) hx hb dX1_select_2 (by decide) ?_
  refine lv_istore_n (lv' := [(3, .int (0 : Int32)), (2, .int (0 : Int32)), (0, .ref h0), (1, .int p1)]) hx hb dX1_select_3 rfl hl (by decide) rfl (fun ls hl => ?_)
  have key : ∀ (n : Nat) (i : Nat), i ≤ 256 → 257 ≤ i + n → (∀ j, j < i → S j = true → ¬ nI (fq_cnt S j) = p1) → ∀ (H : Heap) (locs : List Loc), va_P (dC, dI) vwCl (fq_wm h0 b1 z (fq_bf S)) H → va_D A (fq_wm h0 b1 z (fq_bf S)) → va_S A s.heap H locs → ∀ ls : Array Slot, lv_has ls 4 [(3, .int (nI i)), (2, .int (nI (fq_cnt S i))), (0, .ref h0), (1, .int p1)] → W p l e (headSpec (ws_ yX1_select cX1_select 4 (some .int)) ({ frames := 0, cells := 0, slots := 0, locals := 0 })).room s m ([.ref h0, .int p1] : List Value).toArray below meth c H locs 0 0 (MQ below (va_Qi (fun (r : Int32) (_ : Unit) => fq_Sel S p1 r) (fun _ => fq_BQ dC dI A (fq_wm h0 b1 z (fq_bf S)) [(z, .boolean)]) A) ([.ref h0, .int p1] : List Value).toArray s 0 0 A) (F0 m 4 ls []) := by
    intro n
    induction n with
    | zero =>
      intro i h1 h2
      exact absurd h2 (by omega)
    | succ n ih =>
      intro i hi hn hv H locs hP hD hS ls hl
      refine lv_iload_n hx hb dX1_select_4 rfl (lv_at hl 0 rfl) ?_
      refine lv_sipush (v := 256) hx hb dX1_select_5 (by decide) ?_
      refine lv_icmp_ge (tgt := 36) hx hb dX1_select_8 (by decide) (fun c_8 => ?_) (fun c_8 => ?_)
      · skip
        refine lv_iconst (v := -1) hx hb dX1_select_36 (by decide) ?_
        exact W.iret (v := (-1 : Int32)) hx hb hr (fun t ht hW => ⟨⟨(-1 : Int32), (), rfl, (fq_seM5 hv hi c_8), (by rw [ht]; exact hP), va_K.moved hW.alike hK, hD⟩, hS.F ht⟩) hS.2.2 dX1_select_37
      · skip
        have hlt : i < 256 := fq_lt256 c_8 hi
        refine lv_aload_n hx hb dX1_select_11 rfl (lv_at hl 2 rfl) ?_
        refine va_get (D := (dC, dI)) (ci := 1) (v := .ref b1) (C := RX1) (T := TX1) (N := 1) hx hb hts in_X1 hown hK hP 0 rfl rfl 0 (by decide) (hts _ q161) (fun _ h9 => h9) rfl dX1_select_12 ?_
        refine lv_iload_n hx hb dX1_select_15 rfl (lv_at hl 0 rfl) ?_
        have h_16 : vp_in (nI i) 256 := vp_in_nI hlt (by decide)
        refine va_zald (f := (fq_bf S)) hx hb hK hP 1 0 rfl rfl h_16 dX1_select_16 ?_
        refine lv_if_eq (tgt := 30) hx hb dX1_select_17 (by decide) (fun c_17 => ?_) (fun c_17 => ?_)
        · skip
          refine lv_iinc (v := nI (i + 1)) (lv' := [(3, .int (nI (i + 1))), (2, .int (nI (fq_cnt S i))), (0, .ref h0), (1, .int p1)]) hx hb dX1_select_30 hl (k := 0) rfl (nI_1 _) (by decide) rfl (fun ls hl => ?_)
          refine lv_goto (tgt := 4) hx hb dX1_select_33 (by decide) ?_
          exact ih (i + 1) hlt (by omega) (fq_seM1 hv hlt c_17) H locs hP hD hS ls (by rw [fq_seM2 hlt c_17]; exact lv_sub hl [0, 1, 2, 3] rfl)
        · skip
          refine lv_iload_n hx hb dX1_select_20 rfl (lv_at hl 1 rfl) ?_
          refine lv_iload_n hx hb dX1_select_21 rfl (lv_at hl 3 rfl) ?_
          refine lv_icmp_ne (tgt := 27) hx hb dX1_select_22 (by decide) (fun c_22 => ?_) (fun c_22 => ?_)
          · skip
            refine lv_iinc (v := (nI (fq_cnt S i)) + (1 : Int32)) (lv' := [(2, .int ((nI (fq_cnt S i)) + (1 : Int32))), (3, .int (nI i)), (0, .ref h0), (1, .int p1)]) hx hb dX1_select_27 hl (k := 1) rfl rfl (by decide) rfl (fun ls hl => ?_)
            refine lv_iinc (v := nI (i + 1)) (lv' := [(3, .int (nI (i + 1))), (2, .int ((nI (fq_cnt S i)) + (1 : Int32))), (0, .ref h0), (1, .int p1)]) hx hb dX1_select_30 hl (k := 1) rfl (nI_1 _) (by decide) rfl (fun ls hl => ?_)
            refine lv_goto (tgt := 4) hx hb dX1_select_33 (by decide) ?_
            exact ih (i + 1) hlt (by omega) (fq_seM3 hv c_22) H locs hP hD hS ls (by rw [fq_seM4 hlt c_17]; exact lv_sub hl [0, 1, 2, 3] rfl)
          · skip
            refine lv_iload_n hx hb dX1_select_25 rfl (lv_at hl 0 rfl) ?_
            exact W.iret (v := (nI i)) hx hb hr (fun t ht hW => ⟨⟨(nI i), (), rfl, (fq_seM6 hlt c_17 c_22), (by rw [ht]; exact hP), va_K.moved hW.alike hK, hD⟩, hS.F ht⟩) hS.2.2 dX1_select_26
  exact key 257 0 (by omega) (by omega) (fun j hj => absurd hj (by omega)) _ _ hP hD hS ls (lv_sub hl [0, 1, 2, 3] rfl)
set_option maxHeartbeats 4000000 in
set_option maxRecDepth 100000 in
theorem fq_metM_gapFrom (l : Launch) (dC : Nat → ClassId) (dI : Nat → Nat → Nat) (h0 b1 : Nat) (z : ClassId) (sz : Nat) (S : Nat → Bool) (p1 : Int32) : Met l yX1_gapFrom (ws_ yX1_gapFrom cX1_gapFrom 3 (some .int)) ({ frames := 1, cells := 0, slots := 0, locals := 21 }) (va_Pc [.ref h0, .int p1] (fq_PQ dC dI sz (fq_wm h0 b1 z (fq_bf S)) [(z, .boolean)])) (va_Qi (fun (r : Int32) (_ : Unit) => fq_Gap S p1 r) (fun _ => fq_BQ dC dI (va_A (fq_wm h0 b1 z (fq_bf S)) sz) (fq_wm h0 b1 z (fq_bf S)) [(z, .boolean)]) (va_A (fq_wm h0 b1 z (fq_bf S)) sz)) 0 0 (va_A (fq_wm h0 b1 z (fq_bf S)) sz) := by
  refine Met.ofW (cc := cX1_gapFrom) (maxL := 3) (ret := (some .int)) (by decide) rfl ?_
  intro p e s m args below meth c s₁ B hml hv
  obtain ⟨rfl, hsz, hP, hK, hD0⟩ := hv
  have hx := B.exec
  have hb := B.bytes
  have hr := B.returns
  have hts := atoms_spec (ws := ws_ yX1_gapFrom cX1_gapFrom 3 (some .int)) B.pre
  have hts : ∀ w ∈ lw_all, w.before _ s = true := fun w h => hts w (List.mem_cons_of_mem _ h)
  have hown : s.vm.findClass RX1 = some m.cls := findClass_of_methodNamed B.named
  have hlocks := B.notSynchronized
  subst hsz
  have hD := hD0.self (sz := s.heap.size)
  generalize hAe : va_A (fq_wm h0 b1 z (fq_bf S)) s.heap.size = A at hD ⊢
  have hA : ∀ q : Nat, s.heap.size ≤ q → A q := fun q h => by rw [← hAe]; exact Or.inr h
  have hS : va_S A s.heap s.heap [] := va_S.rf
  have hP : va_P (dC, dI) vwCl (fq_wm h0 b1 z (fq_bf S)) s.heap := hP
  have hl := lv_entry ([.ref h0, .int p1]) (n := 3) (Nat.le_of_ble_eq_true rfl)
  rw [lg_entry_eq]
  generalize (lg_sl ([.ref h0, .int p1]) ++ List.replicate (3 - (lg_sl ([.ref h0, .int p1])).length) Slot.unset).toArray = ls0 at hl ⊢
  have hl : lv_has ls0 3 [(0, .ref h0), (1, .int p1)] := hl
  refine lv_iload_n hx hb dX1_gapFrom_0 rfl (lv_at hl 1 rfl) ?_
  refine lv_istore_n (lv' := [(2, .int p1), (0, .ref h0), (1, .int p1)]) hx hb dX1_gapFrom_1 rfl hl (by decide) rfl (fun ls hl => ?_)
  have key : ∀ (n : Nat) (x : Int32), fq_gm x = n → fq_GI S p1 x → ∀ (H : Heap) (locs : List Loc), va_P (dC, dI) vwCl (fq_wm h0 b1 z (fq_bf S)) H → va_D A (fq_wm h0 b1 z (fq_bf S)) → va_S A s.heap H locs → ∀ ls : Array Slot, lv_has ls 3 [(2, .int x), (0, .ref h0), (1, .int p1)] → W p l e (headSpec (ws_ yX1_gapFrom cX1_gapFrom 3 (some .int)) ({ frames := 1, cells := 0, slots := 0, locals := 21 })).room s m ([.ref h0, .int p1] : List Value).toArray below meth c H locs 0 0 (MQ below (va_Qi (fun (r : Int32) (_ : Unit) => fq_Gap S p1 r) (fun _ => fq_BQ dC dI A (fq_wm h0 b1 z (fq_bf S)) [(z, .boolean)]) A) ([.ref h0, .int p1] : List Value).toArray s 0 0 A) (F0 m 2 ls []) := by
    intro n
    induction n using Nat.strongRecOn with
    | ind n ih =>
      intro x hn hv H locs hP hD hS ls hl
      refine lv_aload_n hx hb dX1_gapFrom_2 rfl (lv_at hl 1 rfl) ?_
      refine lv_iload_n hx hb dX1_gapFrom_3 rfl (lv_at hl 0 rfl) ?_
      have hFc := va_free (wc := fq_wm h0 b1 z (fq_bf S)) hD hS hA [0, 1] rfl
      refine va_calli (va_runV (As := [.int x]) (rest := []) ⟨hx, hb, hml, hown, hts⟩ (fq_metM_number l dC dI h0 b1 z H.size S x ) (cwV 1 hts (lw_V q170 q172 qs10 q13 q173) rfl rfl rfl (by decide +kernel) ⟨Nat.le_of_ble_eq_true rfl, Nat.le_of_ble_eq_true rfl⟩) ⟨fq_blind, va_recv hK hP (ci := 1) (q0 := 0) rfl rfl, fun U hU hW => ⟨rfl, by rw [hU], by rw [hU]; exact hP, va_K.moved hW.alike hK, hD.weaken (fun _ _ _ _ => trivial)⟩⟩ rfl rfl hl.1 rfl (lv_room (Nat.le_of_ble_eq_true rfl)) dX1_gapFrom_4 ⟨Nat.le_of_ble_eq_true rfl, Nat.le_of_ble_eq_true rfl⟩) hS (fun q _ h => hFc q h) hFc (fun r_4 u_4 t H1 locs ht hvm hw hB hz1 hk1 hS => ?_)
      have hw : r_4 = (fq_num x) := hw
      subst hw
      obtain ⟨hP1, hK1, hD1⟩ := hB
      rw [ht] at hP1
      have hP : va_P (dC, dI) vwCl (fq_wm h0 b1 z (fq_bf S)) H1 := hP1
      have hD : va_D A (fq_wm h0 b1 z (fq_bf S)) := hD1.weaken (fun _ _ _ h => hFc _ h)
      generalize H1 = H at hP hS ⊢
      refine lv_if_eq (tgt := 27) hx hb dX1_gapFrom_7 (by decide) (fun c_7 => ?_) (fun c_7 => ?_)
      · skip
        refine lv_iconst (v := -1) hx hb dX1_gapFrom_27 (by decide) ?_
        exact W.iret (v := (-1 : Int32)) hx hb hr (fun t ht hW => ⟨⟨(-1 : Int32), (), rfl, (fq_gaM3 hv c_7), (by rw [ht]; exact hP), va_K.moved hW.alike hK, hD⟩, hS.F ht⟩) hS.2.2 dX1_gapFrom_28
      · skip
        refine lv_aload_n hx hb dX1_gapFrom_10 rfl (lv_at hl 1 rfl) ?_
        refine va_get (D := (dC, dI)) (ci := 1) (v := .ref b1) (C := RX1) (T := TX1) (N := 1) hx hb hts in_X1 hown hK hP 0 rfl rfl 0 (by decide) (hts _ q161) (fun _ h9 => h9) rfl dX1_gapFrom_11 ?_
        refine lv_iload_n hx hb dX1_gapFrom_14 rfl (lv_at hl 0 rfl) ?_
        have h_15 : vp_in x 256 := fq_num_in c_7
        refine va_zald (f := (fq_bf S)) hx hb hK hP 1 0 rfl rfl h_15 dX1_gapFrom_15 ?_
        refine lv_if_ne (tgt := 21) hx hb dX1_gapFrom_16 (by decide) (fun c_16 => ?_) (fun c_16 => ?_)
        · skip
          refine lv_iinc (v := x + (1 : Int32)) (lv' := [(2, .int (x + (1 : Int32))), (0, .ref h0), (1, .int p1)]) hx hb dX1_gapFrom_21 hl (k := 0) rfl rfl (by decide) rfl (fun ls hl => ?_)
          refine lv_goto (tgt := 2) hx hb dX1_gapFrom_24 (by decide) ?_
          exact ih _ (fq_gaM1 hn c_7) _ rfl (fq_gaM2 hv c_7 c_16) H locs hP hD hS ls (lv_sub hl [0, 1, 2] rfl)
        · skip
          refine lv_iload_n hx hb dX1_gapFrom_19 rfl (lv_at hl 0 rfl) ?_
          exact W.iret (v := x) hx hb hr (fun t ht hW => ⟨⟨x, (), rfl, (fq_gaM4 hv c_7 c_16), (by rw [ht]; exact hP), va_K.moved hW.alike hK, hD⟩, hS.F ht⟩) hS.2.2 dX1_gapFrom_20
  exact key _ _ rfl (fq_gaM0 S p1) _ _ hP hD hS ls (lv_sub hl [0, 1, 2] rfl)
set_option maxHeartbeats 4000000 in
set_option maxRecDepth 100000 in
theorem fq_metM_deleteBetween (l : Launch) (dC : Nat → ClassId) (dI : Nat → Nat → Nat) (h0 b1 : Nat) (z : ClassId) (sz : Nat) (S : Nat → Bool) (p1 p2 : Int32) : Met l yX1_deleteBetween (ws_ yX1_deleteBetween cX1_deleteBetween 5 (some .int)) ({ frames := 1, cells := 0, slots := 0, locals := 24 }) (va_Pc [.ref h0, .int p1, .int p2] (fq_PQ dC dI sz (fq_wm h0 b1 z (fq_bf S)) [(z, .boolean)])) (va_Qi (fun (r : Int32) (u : Nat → Bool) => r = nI (fq_cnt (fq_btw S p1 p2) 256) ∧ u = fq_dbI S p1 p2 256) (fun u => fq_BQ dC dI (va_A (fq_wm h0 b1 z (fq_bf S)) sz) (fq_wm h0 b1 z (fq_bf u)) [(z, .boolean)]) (va_A (fq_wm h0 b1 z (fq_bf S)) sz)) 0 0 (va_A (fq_wm h0 b1 z (fq_bf S)) sz) := by
  refine Met.ofW (cc := cX1_deleteBetween) (maxL := 5) (ret := (some .int)) (by decide) rfl ?_
  intro p e s m args below meth c s₁ B hml hv
  obtain ⟨rfl, hsz, hP, hK, hD0⟩ := hv
  have hx := B.exec
  have hb := B.bytes
  have hr := B.returns
  have hts := atoms_spec (ws := ws_ yX1_deleteBetween cX1_deleteBetween 5 (some .int)) B.pre
  have hts : ∀ w ∈ lw_all, w.before _ s = true := fun w h => hts w (List.mem_cons_of_mem _ h)
  have hown : s.vm.findClass RX1 = some m.cls := findClass_of_methodNamed B.named
  have hlocks := B.notSynchronized
  subst hsz
  have hD := hD0.self (sz := s.heap.size)
  generalize hAe : va_A (fq_wm h0 b1 z (fq_bf S)) s.heap.size = A at hD ⊢
  have hA : ∀ q : Nat, s.heap.size ≤ q → A q := fun q h => by rw [← hAe]; exact Or.inr h
  have hS : va_S A s.heap s.heap [] := va_S.rf
  have hP : va_P (dC, dI) vwCl (fq_wm h0 b1 z (fq_bf S)) s.heap := hP
  have hl := lv_entry ([.ref h0, .int p1, .int p2]) (n := 5) (Nat.le_of_ble_eq_true rfl)
  rw [lg_entry_eq]
  generalize (lg_sl ([.ref h0, .int p1, .int p2]) ++ List.replicate (5 - (lg_sl ([.ref h0, .int p1, .int p2])).length) Slot.unset).toArray = ls0 at hl ⊢
  have hl : lv_has ls0 5 [(0, .ref h0), (1, .int p1), (2, .int p2)] := hl
  refine lv_aload_n hx hb dX1_deleteBetween_0 rfl (lv_at hl 0 rfl) ?_
  refine lv_iload_n hx hb dX1_deleteBetween_1 rfl (lv_at hl 1 rfl) ?_
  refine lv_iload_n hx hb dX1_deleteBetween_2 rfl (lv_at hl 2 rfl) ?_
  have hFc := va_free (wc := fq_wm h0 b1 z (fq_bf S)) hD hS hA [0, 1] rfl
  refine va_calli (va_runV (As := [.int p1, .int p2]) (rest := []) ⟨hx, hb, hml, hown, hts⟩ (fq_metM_countBetween l dC dI h0 b1 z s.heap.size S p1 p2 ) (cwV 2 hts (lw_V q186 q187 q188 q13 q189) rfl rfl rfl (by decide +kernel) ⟨Nat.le_of_ble_eq_true rfl, Nat.le_of_ble_eq_true rfl⟩) ⟨fq_blind, va_recv hK hP (ci := 1) (q0 := 0) rfl rfl, fun U hU hW => ⟨rfl, by rw [hU], by rw [hU]; exact hP, va_K.moved hW.alike hK, hD.weaken (fun _ _ _ _ => trivial)⟩⟩ rfl rfl hl.1 rfl (lv_room (Nat.le_of_ble_eq_true rfl)) dX1_deleteBetween_3 ⟨Nat.le_of_ble_eq_true rfl, Nat.le_of_ble_eq_true rfl⟩) hS (fun q _ h => hFc q h) hFc (fun r_3 u_3 t H1 locs ht hvm hw hB hz1 hk1 hS => ?_)
  have hw_3 := hw
  obtain ⟨hP1, hK1, hD1⟩ := hB
  rw [ht] at hP1
  have hP : va_P (dC, dI) vwCl (fq_wm h0 b1 z (fq_bf S)) H1 := hP1
  have hD : va_D A (fq_wm h0 b1 z (fq_bf S)) := hD1.weaken (fun _ _ _ h => hFc _ h)
  generalize H1 = H at hP hS ⊢
  refine lv_istore_n (lv' := [(3, .int r_3), (0, .ref h0), (1, .int p1), (2, .int p2)]) hx hb dX1_deleteBetween_6 rfl hl (by decide) rfl (fun ls hl => ?_)
  refine lv_iconst (v := 0) hx hb dX1_deleteBetween_7 (by decide) ?_
  refine lv_istore (lv' := [(4, .int (0 : Int32)), (3, .int r_3), (0, .ref h0), (1, .int p1), (2, .int p2)]) hx hb dX1_deleteBetween_8 hl (by decide) rfl (fun ls hl => ?_)
  have key : ∀ (n : Nat) (i : Nat), i ≤ 256 → 257 ≤ i + n → ∀ (H : Heap) (locs : List Loc), va_P (dC, dI) vwCl (fq_wm h0 b1 z (fq_bf (fq_dbI S p1 p2 i))) H → va_D A (fq_wm h0 b1 z (fq_bf (fq_dbI S p1 p2 i))) → va_S A s.heap H locs → ∀ ls : Array Slot, lv_has ls 5 [(4, .int (nI i)), (3, .int r_3), (0, .ref h0), (1, .int p1), (2, .int p2)] → W p l e (headSpec (ws_ yX1_deleteBetween cX1_deleteBetween 5 (some .int)) ({ frames := 1, cells := 0, slots := 0, locals := 24 })).room s m ([.ref h0, .int p1, .int p2] : List Value).toArray below meth c H locs 0 0 (MQ below (va_Qi (fun (r : Int32) (u : Nat → Bool) => r = nI (fq_cnt (fq_btw S p1 p2) 256) ∧ u = fq_dbI S p1 p2 256) (fun u => fq_BQ dC dI A (fq_wm h0 b1 z (fq_bf u)) [(z, .boolean)]) A) ([.ref h0, .int p1, .int p2] : List Value).toArray s 0 0 A) (F0 m 10 ls []) := by
    intro n
    induction n with
    | zero =>
      intro i h1 h2
      exact absurd h2 (by omega)
    | succ n ih =>
      intro i hi hn H locs hP hD hS ls hl
      refine lv_iload hx hb dX1_deleteBetween_10 (lv_at hl 0 rfl) ?_
      refine lv_sipush (v := 256) hx hb dX1_deleteBetween_12 (by decide) ?_
      refine lv_icmp_ge (tgt := 58) hx hb dX1_deleteBetween_15 (by decide) (fun c_15 => ?_) (fun c_15 => ?_)
      · skip
        refine lv_iload_n hx hb dX1_deleteBetween_58 rfl (lv_at hl 1 rfl) ?_
        obtain rfl : i = 256 := fq_eq256 c_15 hi
        exact W.iret (v := r_3) hx hb hr (fun t ht hW => ⟨⟨r_3, (fq_dbI S p1 p2 256), rfl, ⟨hw_3, rfl⟩, (by rw [ht]; exact hP), va_K.moved hW.alike hK, hD⟩, hS.F ht⟩) hS.2.2 dX1_deleteBetween_59
      · skip
        have hlt : i < 256 := fq_lt256 c_15 hi
        refine lv_aload_n hx hb dX1_deleteBetween_18 rfl (lv_at hl 2 rfl) ?_
        refine va_get (D := (dC, dI)) (ci := 1) (v := .ref b1) (C := RX1) (T := TX1) (N := 1) hx hb hts in_X1 hown hK hP 0 rfl rfl 0 (by decide) (hts _ q161) (fun _ h9 => h9) rfl dX1_deleteBetween_19 ?_
        refine lv_iload hx hb dX1_deleteBetween_22 (lv_at hl 0 rfl) ?_
        refine lv_aload_n hx hb dX1_deleteBetween_24 rfl (lv_at hl 2 rfl) ?_
        refine va_get (D := (dC, dI)) (ci := 1) (v := .ref b1) (C := RX1) (T := TX1) (N := 1) hx hb hts in_X1 hown hK hP 0 rfl rfl 0 (by decide) (hts _ q161) (fun _ h9 => h9) rfl dX1_deleteBetween_25 ?_
        refine lv_iload hx hb dX1_deleteBetween_28 (lv_at hl 0 rfl) ?_
        have h_30 : vp_in (nI i) 256 := vp_in_nI hlt (by decide)
        refine va_zald (f := (fq_bf (fq_dbI S p1 p2 i))) hx hb hK hP 1 0 rfl rfl h_30 dX1_deleteBetween_30 ?_
        refine lv_if_eq (tgt := 50) hx hb dX1_deleteBetween_31 (by decide) (fun c_31 => ?_) (fun c_31 => ?_)
        · skip
          refine lv_iconst (v := 0) hx hb dX1_deleteBetween_50 (by decide) ?_
          have h_51 : vp_in (nI i) 256 := vp_in_nI hlt (by decide)
          refine va_zast (f := (fq_bf (fq_dbI S p1 p2 i))) hx hb hK hP hD hS 1 0 rfl rfl h_51 dX1_deleteBetween_51 (fun H locs hP hD hS => ?_)
          have hP : va_P (dC, dI) vwCl (fq_wm h0 b1 z (upd (fq_bf (fq_dbI S p1 p2 i)) (nI i).toNatClampNeg (vp_nar .boolean (0 : Int32)))) H := hP
          have hD : va_D A (fq_wm h0 b1 z (upd (fq_bf (fq_dbI S p1 p2 i)) (nI i).toNatClampNeg (vp_nar .boolean (0 : Int32)))) := hD
          refine lv_iinc (v := nI (i + 1)) (lv' := [(4, .int (nI (i + 1))), (3, .int r_3), (0, .ref h0), (1, .int p1), (2, .int p2)]) hx hb dX1_deleteBetween_52 hl (k := 0) rfl (nI_1 _) (by decide) rfl (fun ls hl => ?_)
          refine lv_goto (tgt := 10) hx hb dX1_deleteBetween_55 (by decide) ?_
          rw [fq_dbM1 hlt c_31] at hP hD
          exact ih (i + 1) hlt (by omega) H locs hP hD hS ls (lv_sub hl [0, 1, 2, 3, 4] rfl)
        · skip
          refine lv_iload hx hb dX1_deleteBetween_34 (lv_at hl 0 rfl) ?_
          refine lv_iload_n hx hb dX1_deleteBetween_36 rfl (lv_at hl 3 rfl) ?_
          refine lv_icmp_lt (tgt := 46) hx hb dX1_deleteBetween_37 (by decide) (fun c_37 => ?_) (fun c_37 => ?_)
          · skip
            refine lv_iconst (v := 1) hx hb dX1_deleteBetween_46 (by decide) ?_
            refine lv_goto (tgt := 51) hx hb dX1_deleteBetween_47 (by decide) ?_
            have h_51 : vp_in (nI i) 256 := vp_in_nI hlt (by decide)
            refine va_zast (f := (fq_bf (fq_dbI S p1 p2 i))) hx hb hK hP hD hS 1 0 rfl rfl h_51 dX1_deleteBetween_51 (fun H locs hP hD hS => ?_)
            have hP : va_P (dC, dI) vwCl (fq_wm h0 b1 z (upd (fq_bf (fq_dbI S p1 p2 i)) (nI i).toNatClampNeg (vp_nar .boolean (1 : Int32)))) H := hP
            have hD : va_D A (fq_wm h0 b1 z (upd (fq_bf (fq_dbI S p1 p2 i)) (nI i).toNatClampNeg (vp_nar .boolean (1 : Int32)))) := hD
            refine lv_iinc (v := nI (i + 1)) (lv' := [(4, .int (nI (i + 1))), (3, .int r_3), (0, .ref h0), (1, .int p1), (2, .int p2)]) hx hb dX1_deleteBetween_52 hl (k := 0) rfl (nI_1 _) (by decide) rfl (fun ls hl => ?_)
            refine lv_goto (tgt := 10) hx hb dX1_deleteBetween_55 (by decide) ?_
            rw [fq_dbM2 hlt c_31 c_37] at hP hD
            exact ih (i + 1) hlt (by omega) H locs hP hD hS ls (lv_sub hl [0, 1, 2, 3, 4] rfl)
          · skip
            refine lv_iload hx hb dX1_deleteBetween_40 (lv_at hl 0 rfl) ?_
            refine lv_iload_n hx hb dX1_deleteBetween_42 rfl (lv_at hl 4 rfl) ?_
            refine lv_icmp_le (tgt := 50) hx hb dX1_deleteBetween_43 (by decide) (fun c_43 => ?_) (fun c_43 => ?_)
            · skip
              refine lv_iconst (v := 0) hx hb dX1_deleteBetween_50 (by decide) ?_
              have h_51 : vp_in (nI i) 256 := vp_in_nI hlt (by decide)
              refine va_zast (f := (fq_bf (fq_dbI S p1 p2 i))) hx hb hK hP hD hS 1 0 rfl rfl h_51 dX1_deleteBetween_51 (fun H locs hP hD hS => ?_)
              have hP : va_P (dC, dI) vwCl (fq_wm h0 b1 z (upd (fq_bf (fq_dbI S p1 p2 i)) (nI i).toNatClampNeg (vp_nar .boolean (0 : Int32)))) H := hP
              have hD : va_D A (fq_wm h0 b1 z (upd (fq_bf (fq_dbI S p1 p2 i)) (nI i).toNatClampNeg (vp_nar .boolean (0 : Int32)))) := hD
              refine lv_iinc (v := nI (i + 1)) (lv' := [(4, .int (nI (i + 1))), (3, .int r_3), (0, .ref h0), (1, .int p1), (2, .int p2)]) hx hb dX1_deleteBetween_52 hl (k := 0) rfl (nI_1 _) (by decide) rfl (fun ls hl => ?_)
              refine lv_goto (tgt := 10) hx hb dX1_deleteBetween_55 (by decide) ?_
              rw [fq_dbM3 hlt c_37 c_43] at hP hD
              exact ih (i + 1) hlt (by omega) H locs hP hD hS ls (lv_sub hl [0, 1, 2, 3, 4] rfl)
            · skip
              refine lv_iconst (v := 1) hx hb dX1_deleteBetween_46 (by decide) ?_
              refine lv_goto (tgt := 51) hx hb dX1_deleteBetween_47 (by decide) ?_
              have h_51 : vp_in (nI i) 256 := vp_in_nI hlt (by decide)
              refine va_zast (f := (fq_bf (fq_dbI S p1 p2 i))) hx hb hK hP hD hS 1 0 rfl rfl h_51 dX1_deleteBetween_51 (fun H locs hP hD hS => ?_)
              have hP : va_P (dC, dI) vwCl (fq_wm h0 b1 z (upd (fq_bf (fq_dbI S p1 p2 i)) (nI i).toNatClampNeg (vp_nar .boolean (1 : Int32)))) H := hP
              have hD : va_D A (fq_wm h0 b1 z (upd (fq_bf (fq_dbI S p1 p2 i)) (nI i).toNatClampNeg (vp_nar .boolean (1 : Int32)))) := hD
              refine lv_iinc (v := nI (i + 1)) (lv' := [(4, .int (nI (i + 1))), (3, .int r_3), (0, .ref h0), (1, .int p1), (2, .int p2)]) hx hb dX1_deleteBetween_52 hl (k := 0) rfl (nI_1 _) (by decide) rfl (fun ls hl => ?_)
              refine lv_goto (tgt := 10) hx hb dX1_deleteBetween_55 (by decide) ?_
              rw [fq_dbM4 hlt c_31 c_43] at hP hD
              exact ih (i + 1) hlt (by omega) H locs hP hD hS ls (lv_sub hl [0, 1, 2, 3, 4] rfl)
  exact key 257 0 (by omega) (by omega) _ _ (by rw [fq_dbI0]; exact hP) (by rw [fq_dbI0]; exact hD) hS ls (lv_sub hl [0, 1, 2, 3, 4] rfl)
set_option maxHeartbeats 4000000 in
set_option maxRecDepth 100000 in
theorem fq_metM_nearest (l : Launch) (dC : Nat → ClassId) (dI : Nat → Nat → Nat) (h0 b1 : Nat) (z : ClassId) (sz : Nat) (S : Nat → Bool) (p1 : Int32) : Met l yX1_nearest (ws_ yX1_nearest cX1_nearest 8 (some .int)) ({ frames := 0, cells := 0, slots := 0, locals := 0 }) (va_Pc [.ref h0, .int p1] (fq_PQ dC dI sz (fq_wm h0 b1 z (fq_bf S)) [(z, .boolean)])) (va_Qi (fun (r : Int32) (_ : Unit) => fq_Near S p1 r) (fun _ => fq_BQ dC dI (va_A (fq_wm h0 b1 z (fq_bf S)) sz) (fq_wm h0 b1 z (fq_bf S)) [(z, .boolean)]) (va_A (fq_wm h0 b1 z (fq_bf S)) sz)) 0 0 (va_A (fq_wm h0 b1 z (fq_bf S)) sz) := by
  refine Met.ofW (cc := cX1_nearest) (maxL := 8) (ret := (some .int)) (by decide) rfl ?_
  intro p e s m args below meth c s₁ B hml hv
  obtain ⟨rfl, hsz, hP, hK, hD0⟩ := hv
  have hx := B.exec
  have hb := B.bytes
  have hr := B.returns
  have hts := atoms_spec (ws := ws_ yX1_nearest cX1_nearest 8 (some .int)) B.pre
  have hts : ∀ w ∈ lw_all, w.before _ s = true := fun w h => hts w (List.mem_cons_of_mem _ h)
  have hown : s.vm.findClass RX1 = some m.cls := findClass_of_methodNamed B.named
  have hlocks := B.notSynchronized
  subst hsz
  have hD := hD0.self (sz := s.heap.size)
  generalize hAe : va_A (fq_wm h0 b1 z (fq_bf S)) s.heap.size = A at hD ⊢
  have hA : ∀ q : Nat, s.heap.size ≤ q → A q := fun q h => by rw [← hAe]; exact Or.inr h
  have hS : va_S A s.heap s.heap [] := va_S.rf
  have hP : va_P (dC, dI) vwCl (fq_wm h0 b1 z (fq_bf S)) s.heap := hP
  have hl := lv_entry ([.ref h0, .int p1]) (n := 8) (Nat.le_of_ble_eq_true rfl)
  rw [lg_entry_eq]
  generalize (lg_sl ([.ref h0, .int p1]) ++ List.replicate (8 - (lg_sl ([.ref h0, .int p1])).length) Slot.unset).toArray = ls0 at hl ⊢
  have hl : lv_has ls0 8 [(0, .ref h0), (1, .int p1)] := hl
  refine lv_iconst (v := -1) hx hb dX1_nearest_0 (by decide) ?_
  refine lv_istore_n (lv' := [(2, .int (-1 : Int32)), (0, .ref h0), (1, .int p1)]) hx hb dX1_nearest_1 rfl hl (by decide) rfl (fun ls hl => ?_)
  refine lv_lconst (v := 0) hx hb dX1_nearest_2 (by decide) ?_
  refine lv_lstore_n (lv' := [(3, .long (0 : Int64)), (2, .int (-1 : Int32)), (0, .ref h0), (1, .int p1)]) hx hb dX1_nearest_3 rfl hl (by decide) rfl (fun ls hl => ?_)
  refine lv_iconst (v := 0) hx hb dX1_nearest_4 (by decide) ?_
  refine lv_istore (lv' := [(5, .int (0 : Int32)), (3, .long (0 : Int64)), (2, .int (-1 : Int32)), (0, .ref h0), (1, .int p1)]) hx hb dX1_nearest_5 hl (by decide) rfl (fun ls hl => ?_)
  have key : ∀ (n : Nat) (i : Nat) (x : Int32) (y : Int64), i ≤ 256 → 257 ≤ i + n → fq_NI S p1 i x y → ∀ (H : Heap) (locs : List Loc), va_P (dC, dI) vwCl (fq_wm h0 b1 z (fq_bf S)) H → va_D A (fq_wm h0 b1 z (fq_bf S)) → va_S A s.heap H locs → ∀ ls : Array Slot, lv_has ls 8 [(5, .int (nI i)), (3, .long y), (2, .int x), (0, .ref h0), (1, .int p1)] → W p l e (headSpec (ws_ yX1_nearest cX1_nearest 8 (some .int)) ({ frames := 0, cells := 0, slots := 0, locals := 0 })).room s m ([.ref h0, .int p1] : List Value).toArray below meth c H locs 0 0 (MQ below (va_Qi (fun (r : Int32) (_ : Unit) => fq_Near S p1 r) (fun _ => fq_BQ dC dI A (fq_wm h0 b1 z (fq_bf S)) [(z, .boolean)]) A) ([.ref h0, .int p1] : List Value).toArray s 0 0 A) (F0 m 7 ls []) := by
    intro n
    induction n with
    | zero =>
      intro i x y h1 h2
      exact absurd h2 (by omega)
    | succ n ih =>
      intro i x y hi hn hv H locs hP hD hS ls hl
      refine lv_iload hx hb dX1_nearest_7 (lv_at hl 0 rfl) ?_
      refine lv_sipush (v := 256) hx hb dX1_nearest_9 (by decide) ?_
      refine lv_icmp_ge (tgt := 73) hx hb dX1_nearest_12 (by decide) (fun c_12 => ?_) (fun c_12 => ?_)
      · skip
        refine lv_iload_n hx hb dX1_nearest_73 rfl (lv_at hl 2 rfl) ?_
        exact W.iret (v := x) hx hb hr (fun t ht hW => ⟨⟨x, (), rfl, (fq_neM5 hv hi c_12), (by rw [ht]; exact hP), va_K.moved hW.alike hK, hD⟩, hS.F ht⟩) hS.2.2 dX1_nearest_74
      · skip
        have hlt : i < 256 := fq_lt256 c_12 hi
        refine lv_iload hx hb dX1_nearest_15 (lv_at hl 0 rfl) ?_
        refine lv_i2l (v := (nI i).toInt64) hx hb dX1_nearest_17 rfl ?_
        refine lv_iload_n hx hb dX1_nearest_18 rfl (lv_at hl 4 rfl) ?_
        refine lv_i2l (v := p1.toInt64) hx hb dX1_nearest_19 rfl ?_
        refine lv_lsub hx hb dX1_nearest_20 ?_
        refine lv_lstore (lv' := [(6, .long (((nI i).toInt64) - p1.toInt64)), (5, .int (nI i)), (3, .long y), (2, .int x), (0, .ref h0), (1, .int p1)]) hx hb dX1_nearest_21 hl (by decide) rfl (fun ls hl => ?_)
        refine lv_lload hx hb dX1_nearest_23 (lv_at hl 0 rfl) ?_
        refine lv_lconst (v := 0) hx hb dX1_nearest_25 (by decide) ?_
        refine W.lcmp hx hb dX1_nearest_26 ?_
        refine lv_if_ge (tgt := 36) hx hb dX1_nearest_27 (by decide) (fun c_27 => ?_) (fun c_27 => ?_)
        · skip
          refine lv_lload hx hb dX1_nearest_36 (lv_at hl 0 rfl) ?_
          refine lv_lstore (lv' := [(6, .long (((nI i).toInt64) - p1.toInt64)), (5, .int (nI i)), (3, .long y), (2, .int x), (0, .ref h0), (1, .int p1)]) hx hb dX1_nearest_38 hl (by decide) rfl (fun ls hl => ?_)
          refine lv_aload_n hx hb dX1_nearest_40 rfl (lv_at hl 4 rfl) ?_
          refine va_get (D := (dC, dI)) (ci := 1) (v := .ref b1) (C := RX1) (T := TX1) (N := 1) hx hb hts in_X1 hown hK hP 0 rfl rfl 0 (by decide) (hts _ q161) (fun _ h9 => h9) rfl dX1_nearest_41 ?_
          refine lv_iload hx hb dX1_nearest_44 (lv_at hl 1 rfl) ?_
          have h_46 : vp_in (nI i) 256 := vp_in_nI hlt (by decide)
          refine va_zald (f := (fq_bf S)) hx hb hK hP 1 0 rfl rfl h_46 dX1_nearest_46 ?_
          refine lv_if_eq (tgt := 67) hx hb dX1_nearest_47 (by decide) (fun c_47 => ?_) (fun c_47 => ?_)
          · skip
            refine lv_iinc (v := nI (i + 1)) (lv' := [(5, .int (nI (i + 1))), (6, .long (((nI i).toInt64) - p1.toInt64)), (3, .long y), (2, .int x), (0, .ref h0), (1, .int p1)]) hx hb dX1_nearest_67 hl (k := 1) rfl (nI_1 _) (by decide) rfl (fun ls hl => ?_)
            refine lv_goto (tgt := 7) hx hb dX1_nearest_70 (by decide) ?_
            exact ih (i + 1) _ _ hlt (by omega) (fq_neM1 hv hlt c_47) H locs hP hD hS ls (lv_sub hl [0, 2, 3, 4, 5] rfl)
          · skip
            refine lv_iload_n hx hb dX1_nearest_50 rfl (lv_at hl 3 rfl) ?_
            refine lv_if_lt (tgt := 61) hx hb dX1_nearest_51 (by decide) (fun c_51 => ?_) (fun c_51 => ?_)
            · skip
              refine lv_iload hx hb dX1_nearest_61 (lv_at hl 1 rfl) ?_
              refine lv_istore_n (lv' := [(2, .int (nI i)), (6, .long (((nI i).toInt64) - p1.toInt64)), (5, .int (nI i)), (3, .long y), (0, .ref h0), (1, .int p1)]) hx hb dX1_nearest_63 rfl hl (by decide) rfl (fun ls hl => ?_)
              refine lv_lload hx hb dX1_nearest_64 (lv_at hl 1 rfl) ?_
              refine lv_lstore_n (lv' := [(3, .long (((nI i).toInt64) - p1.toInt64)), (2, .int (nI i)), (6, .long (((nI i).toInt64) - p1.toInt64)), (5, .int (nI i)), (0, .ref h0), (1, .int p1)]) hx hb dX1_nearest_66 rfl hl (by decide) rfl (fun ls hl => ?_)
              refine lv_iinc (v := nI (i + 1)) (lv' := [(5, .int (nI (i + 1))), (3, .long (((nI i).toInt64) - p1.toInt64)), (2, .int (nI i)), (6, .long (((nI i).toInt64) - p1.toInt64)), (0, .ref h0), (1, .int p1)]) hx hb dX1_nearest_67 hl (k := 3) rfl (nI_1 _) (by decide) rfl (fun ls hl => ?_)
              refine lv_goto (tgt := 7) hx hb dX1_nearest_70 (by decide) ?_
              exact ih (i + 1) _ _ hlt (by omega) (fq_neM2 hv hlt c_47 c_51 (fq_dd0 c_27 hlt)) H locs hP hD hS ls (lv_sub hl [0, 1, 2, 4, 5] rfl)
            · skip
              refine lv_lload hx hb dX1_nearest_54 (lv_at hl 0 rfl) ?_
              refine lv_lload_n hx hb dX1_nearest_56 rfl (lv_at hl 2 rfl) ?_
              refine W.lcmp hx hb dX1_nearest_57 ?_
              refine lv_if_ge (tgt := 67) hx hb dX1_nearest_58 (by decide) (fun c_58 => ?_) (fun c_58 => ?_)
              · skip
                refine lv_iinc (v := nI (i + 1)) (lv' := [(5, .int (nI (i + 1))), (6, .long (((nI i).toInt64) - p1.toInt64)), (3, .long y), (2, .int x), (0, .ref h0), (1, .int p1)]) hx hb dX1_nearest_67 hl (k := 1) rfl (nI_1 _) (by decide) rfl (fun ls hl => ?_)
                refine lv_goto (tgt := 7) hx hb dX1_nearest_70 (by decide) ?_
                exact ih (i + 1) _ _ hlt (by omega) (fq_neM3 hv hlt c_51 (fq_dd0 c_27 hlt) c_58) H locs hP hD hS ls (lv_sub hl [0, 2, 3, 4, 5] rfl)
              · skip
                refine lv_iload hx hb dX1_nearest_61 (lv_at hl 1 rfl) ?_
                refine lv_istore_n (lv' := [(2, .int (nI i)), (6, .long (((nI i).toInt64) - p1.toInt64)), (5, .int (nI i)), (3, .long y), (0, .ref h0), (1, .int p1)]) hx hb dX1_nearest_63 rfl hl (by decide) rfl (fun ls hl => ?_)
                refine lv_lload hx hb dX1_nearest_64 (lv_at hl 1 rfl) ?_
                refine lv_lstore_n (lv' := [(3, .long (((nI i).toInt64) - p1.toInt64)), (2, .int (nI i)), (6, .long (((nI i).toInt64) - p1.toInt64)), (5, .int (nI i)), (0, .ref h0), (1, .int p1)]) hx hb dX1_nearest_66 rfl hl (by decide) rfl (fun ls hl => ?_)
                refine lv_iinc (v := nI (i + 1)) (lv' := [(5, .int (nI (i + 1))), (3, .long (((nI i).toInt64) - p1.toInt64)), (2, .int (nI i)), (6, .long (((nI i).toInt64) - p1.toInt64)), (0, .ref h0), (1, .int p1)]) hx hb dX1_nearest_67 hl (k := 3) rfl (nI_1 _) (by decide) rfl (fun ls hl => ?_)
                refine lv_goto (tgt := 7) hx hb dX1_nearest_70 (by decide) ?_
                exact ih (i + 1) _ _ hlt (by omega) (fq_neM4 hv hlt c_47 c_51 (fq_dd0 c_27 hlt) c_58) H locs hP hD hS ls (lv_sub hl [0, 1, 2, 4, 5] rfl)
        · skip
          refine lv_lload hx hb dX1_nearest_30 (lv_at hl 0 rfl) ?_
          refine lv_lneg hx hb dX1_nearest_32 ?_
          refine lv_goto (tgt := 38) hx hb dX1_nearest_33 (by decide) ?_
          refine lv_lstore (lv' := [(6, .long (-(((nI i).toInt64) - p1.toInt64))), (5, .int (nI i)), (3, .long y), (2, .int x), (0, .ref h0), (1, .int p1)]) hx hb dX1_nearest_38 hl (by decide) rfl (fun ls hl => ?_)
          refine lv_aload_n hx hb dX1_nearest_40 rfl (lv_at hl 4 rfl) ?_
          refine va_get (D := (dC, dI)) (ci := 1) (v := .ref b1) (C := RX1) (T := TX1) (N := 1) hx hb hts in_X1 hown hK hP 0 rfl rfl 0 (by decide) (hts _ q161) (fun _ h9 => h9) rfl dX1_nearest_41 ?_
          refine lv_iload hx hb dX1_nearest_44 (lv_at hl 1 rfl) ?_
          have h_46 : vp_in (nI i) 256 := vp_in_nI hlt (by decide)
          refine va_zald (f := (fq_bf S)) hx hb hK hP 1 0 rfl rfl h_46 dX1_nearest_46 ?_
          refine lv_if_eq (tgt := 67) hx hb dX1_nearest_47 (by decide) (fun c_47 => ?_) (fun c_47 => ?_)
          · skip
            refine lv_iinc (v := nI (i + 1)) (lv' := [(5, .int (nI (i + 1))), (6, .long (-(((nI i).toInt64) - p1.toInt64))), (3, .long y), (2, .int x), (0, .ref h0), (1, .int p1)]) hx hb dX1_nearest_67 hl (k := 1) rfl (nI_1 _) (by decide) rfl (fun ls hl => ?_)
            refine lv_goto (tgt := 7) hx hb dX1_nearest_70 (by decide) ?_
            exact ih (i + 1) _ _ hlt (by omega) (fq_neM1 hv hlt c_47) H locs hP hD hS ls (lv_sub hl [0, 2, 3, 4, 5] rfl)
          · skip
            refine lv_iload_n hx hb dX1_nearest_50 rfl (lv_at hl 3 rfl) ?_
            refine lv_if_lt (tgt := 61) hx hb dX1_nearest_51 (by decide) (fun c_51 => ?_) (fun c_51 => ?_)
            · skip
              refine lv_iload hx hb dX1_nearest_61 (lv_at hl 1 rfl) ?_
              refine lv_istore_n (lv' := [(2, .int (nI i)), (6, .long (-(((nI i).toInt64) - p1.toInt64))), (5, .int (nI i)), (3, .long y), (0, .ref h0), (1, .int p1)]) hx hb dX1_nearest_63 rfl hl (by decide) rfl (fun ls hl => ?_)
              refine lv_lload hx hb dX1_nearest_64 (lv_at hl 1 rfl) ?_
              refine lv_lstore_n (lv' := [(3, .long (-(((nI i).toInt64) - p1.toInt64))), (2, .int (nI i)), (6, .long (-(((nI i).toInt64) - p1.toInt64))), (5, .int (nI i)), (0, .ref h0), (1, .int p1)]) hx hb dX1_nearest_66 rfl hl (by decide) rfl (fun ls hl => ?_)
              refine lv_iinc (v := nI (i + 1)) (lv' := [(5, .int (nI (i + 1))), (3, .long (-(((nI i).toInt64) - p1.toInt64))), (2, .int (nI i)), (6, .long (-(((nI i).toInt64) - p1.toInt64))), (0, .ref h0), (1, .int p1)]) hx hb dX1_nearest_67 hl (k := 3) rfl (nI_1 _) (by decide) rfl (fun ls hl => ?_)
              refine lv_goto (tgt := 7) hx hb dX1_nearest_70 (by decide) ?_
              exact ih (i + 1) _ _ hlt (by omega) (fq_neM2 hv hlt c_47 c_51 (fq_dd1 c_27 hlt)) H locs hP hD hS ls (lv_sub hl [0, 1, 2, 4, 5] rfl)
            · skip
              refine lv_lload hx hb dX1_nearest_54 (lv_at hl 0 rfl) ?_
              refine lv_lload_n hx hb dX1_nearest_56 rfl (lv_at hl 2 rfl) ?_
              refine W.lcmp hx hb dX1_nearest_57 ?_
              refine lv_if_ge (tgt := 67) hx hb dX1_nearest_58 (by decide) (fun c_58 => ?_) (fun c_58 => ?_)
              · skip
                refine lv_iinc (v := nI (i + 1)) (lv' := [(5, .int (nI (i + 1))), (6, .long (-(((nI i).toInt64) - p1.toInt64))), (3, .long y), (2, .int x), (0, .ref h0), (1, .int p1)]) hx hb dX1_nearest_67 hl (k := 1) rfl (nI_1 _) (by decide) rfl (fun ls hl => ?_)
                refine lv_goto (tgt := 7) hx hb dX1_nearest_70 (by decide) ?_
                exact ih (i + 1) _ _ hlt (by omega) (fq_neM3 hv hlt c_51 (fq_dd1 c_27 hlt) c_58) H locs hP hD hS ls (lv_sub hl [0, 2, 3, 4, 5] rfl)
              · skip
                refine lv_iload hx hb dX1_nearest_61 (lv_at hl 1 rfl) ?_
                refine lv_istore_n (lv' := [(2, .int (nI i)), (6, .long (-(((nI i).toInt64) - p1.toInt64))), (5, .int (nI i)), (3, .long y), (0, .ref h0), (1, .int p1)]) hx hb dX1_nearest_63 rfl hl (by decide) rfl (fun ls hl => ?_)
                refine lv_lload hx hb dX1_nearest_64 (lv_at hl 1 rfl) ?_
                refine lv_lstore_n (lv' := [(3, .long (-(((nI i).toInt64) - p1.toInt64))), (2, .int (nI i)), (6, .long (-(((nI i).toInt64) - p1.toInt64))), (5, .int (nI i)), (0, .ref h0), (1, .int p1)]) hx hb dX1_nearest_66 rfl hl (by decide) rfl (fun ls hl => ?_)
                refine lv_iinc (v := nI (i + 1)) (lv' := [(5, .int (nI (i + 1))), (3, .long (-(((nI i).toInt64) - p1.toInt64))), (2, .int (nI i)), (6, .long (-(((nI i).toInt64) - p1.toInt64))), (0, .ref h0), (1, .int p1)]) hx hb dX1_nearest_67 hl (k := 3) rfl (nI_1 _) (by decide) rfl (fun ls hl => ?_)
                refine lv_goto (tgt := 7) hx hb dX1_nearest_70 (by decide) ?_
                exact ih (i + 1) _ _ hlt (by omega) (fq_neM4 hv hlt c_47 c_51 (fq_dd1 c_27 hlt) c_58) H locs hP hD hS ls (lv_sub hl [0, 1, 2, 4, 5] rfl)
  exact key 257 0 _ _ (by omega) (by omega) (fq_neM0 S p1) _ _ hP hD hS ls (lv_sub hl [0, 1, 2, 3, 4] rfl)
end
section
/-! the class's loops -/
theorem fq_Inv_cg {S V : Nat → Bool} {A : fq_A4} {mi mx ct : Int32} (h : fq_Inv S A mi mx ct) (e : ∀ y, y < 256 → S y = V y) : fq_Inv V A mi mx ct :=
  ⟨fq_Mn_cg h.1 e, fq_Mx_cg h.2.1 e, by rw [h.2.2.1, fq_cnt_cg 256 e], fq_Cs_cg h.2.2.2 (fun y hy => by unfold fq_U; rw [e y hy])⟩
def fq_fr (S : Nat → Bool) (a : Int32) (cur : Nat) : Nat → Bool := fun j => S j && (decide (a ≤ nI j) && decide (cur ≤ j))
theorem fq_from_spec {S : Nat → Bool} {A : fq_A4} {mi mx ct a : Int32} (h : fq_Inv S A mi mx ct) : fq_Mn (fq_fr S a 0) 256 (fq_from A mi mx ct a) := by
  unfold fq_from
  by_cases q : 0 < a
  · rw [if_pos q]
    refine fq_Mn_cg (fq_after_spec (x := a - 1) h).1 (fun j hj => ?_)
    unfold fq_fr
    have e : (a - (1 : Int32)).toInt = a.toInt - 1 := by
      have h1 := Int32.le_toInt a
      have h2 := Int32.toInt_lt a
      rw [Int32.lt_iff_toInt_lt, Int32.toInt_zero] at q
      rw [Int32.toInt_sub, show (1 : Int32).toInt = 1 by decide]
      exact Int.bmod_eq_of_le (by omega) (by omega)
    have e2 : decide (a - 1 < nI j) = decide (a ≤ nI j) := decide_eq_decide.mpr (by
      rw [Int32.lt_iff_toInt_lt, Int32.le_iff_toInt_le, e]; omega)
    show (S j && decide (a - 1 < nI j)) = _
    rw [e2]
    simp
  · rw [if_neg q]
    refine fq_Mn_cg h.1 (fun j hj => ?_)
    unfold fq_fr
    have : a ≤ nI j := by
      rw [Int32.lt_iff_toInt_lt, Int32.toInt_zero] at q
      rw [Int32.le_iff_toInt_le, nI_toInt (by omega)]
      omega
    simp [this]
/-- no member of the span in between -/
theorem fq_cnt_skip {P : Nat → Bool} {u : Nat} : ∀ v, u ≤ v → (∀ j, u ≤ j → j < v → P j = false) → fq_cnt P v = fq_cnt P u
  | 0, h, _ => by rw [show u = 0 by omega]
  | v + 1, h, hn => by
    by_cases e : u = v + 1
    · rw [e]
    · rw [fq_cnt_f (hn v (by omega) (by omega)), fq_cnt_skip v (by omega) (fun j h1 h2 => hn j h1 (by omega))]
theorem fq_clE1 {S : Nat → Bool} {a b : Int32} {k cur : Nat} (hk : k ≤ cur) (hc : cur ≤ 256) (c : (256 : Int32) ≤ nI k) : cur = 256 := by
  have := fq_eq256 c (by omega)
  omega
theorem fq_clE2 {S : Nat → Bool} {a x : Int32} {cur : Nat} (hv : fq_Mn (fq_fr S a cur) 256 x) (c : x < 0) : ∀ j, cur ≤ j → j < 256 → S j = true → ¬ a ≤ nI j := by
  intro j h1 h2 hs q
  have h3 := (fq_Mn_lt (by decide) hv c).2 j h2
  unfold fq_fr at h3
  simp [hs, q, h1] at h3
theorem fq_clE3 {S : Nat → Bool} {a b x : Int32} {cur : Nat} (hv : fq_Mn (fq_fr S a cur) 256 x) (c0 : ¬ x < 0) (c : b < x) : ∀ j, cur ≤ j → j < 256 → S j = true → a ≤ nI j → ¬ nI j ≤ b := by
  intro j h1 h2 hs q q2
  obtain ⟨k, hk, hkt, e, hl⟩ := fq_Mn_ge (by decide) hv c0
  subst e
  have hjk : j < k := by
    rw [Int32.lt_iff_toInt_lt, nI_toInt (by omega)] at c
    rw [Int32.le_iff_toInt_le, nI_toInt (by omega)] at q2
    omega
  have h3 := hl j hjk
  unfold fq_fr at h3
  simp [hs, q, h1] at h3
theorem fq_clN {S : Nat → Bool} {a b : Int32} {cur : Nat} (hc : cur ≤ 256) (h : ∀ j, cur ≤ j → j < 256 → S j = true → a ≤ nI j → ¬ nI j ≤ b) : nI (fq_cnt (fq_btw S a b) cur) = nI (fq_cnt (fq_btw S a b) 256) := by
  rw [fq_cnt_skip 256 hc (fun j h1 h2 => ?_)]
  unfold fq_btw
  cases hs : S j
  · rfl
  · by_cases q : a ≤ nI j
    · have := h j h1 h2 hs q
      simp [this]
    · simp [q]
theorem fq_clS {S : Nat → Bool} {a b x : Int32} {cur : Nat} (hv : fq_Mn (fq_fr S a cur) 256 x) (c0 : ¬ x < 0) (c : ¬ b < x) : ∃ j, j < 256 ∧ cur ≤ j ∧ x = nI j ∧ S j = true ∧ a ≤ nI j ∧ nI j ≤ b ∧ (∀ y, cur ≤ y → y < j → S y = true → ¬ a ≤ nI y) ∧ nI (fq_cnt (fq_btw S a b) (j + 1)) = nI (fq_cnt (fq_btw S a b) cur) + 1 := by
  obtain ⟨k, hk, hkt, e, hl⟩ := fq_Mn_ge (by decide) hv c0
  subst e
  unfold fq_fr at hkt
  simp only [Bool.and_eq_true, decide_eq_true_eq] at hkt
  obtain ⟨h1, h2, h3⟩ := hkt
  have hb : nI k ≤ b := fq_le_nlt.mpr c
  have hno : ∀ y, cur ≤ y → y < k → S y = true → ¬ a ≤ nI y := fun y q1 q2 hs q3 => by
    have h4 := hl y q2
    unfold fq_fr at h4
    simp [hs, q3, q1] at h4
  refine ⟨k, hk, h3, rfl, h1, h2, hb, hno, ?_⟩
  rw [fq_cnt_t (by unfold fq_btw; simp [h1, h2, hb]), fq_cnt_skip k h3 (fun j q1 q2 => ?_), nI_1]
  unfold fq_btw
  cases hs : S j
  · rfl
  · have := hno j q1 q2 hs
    simp [this]
theorem fq_clM {S : Nat → Bool} {a : Int32} {j : Nat} {r : Int32} (hj : j < 256) (ha : a ≤ nI j) (h : fq_Mn (fun y => S y && decide (nI j < nI y)) 256 r) : fq_Mn (fq_fr S a (j + 1)) 256 r := by
  refine fq_Mn_cg h (fun y hy => ?_)
  unfold fq_fr
  try dsimp only
  rw [fq_dlt hj hy]
  by_cases q : j < y
  · have h1 : a ≤ nI y := by
      rw [Int32.le_iff_toInt_le] at *
      rw [nI_toInt (by omega)] at *
      omega
    have h2 : j + 1 ≤ y := q
    simp [h1, h2, q]
  · have h2 : ¬ j + 1 ≤ y := q
    simp [h2, q]
theorem fq_cnS {S : Nat → Bool} {A : fq_A4} {mi mx ct a b x : Int32} {cur : Nat} (hI : fq_Inv S A mi mx ct) (hv : fq_Mn (fq_fr S a cur) 256 x) (c0 : ¬ x < 0) (c : ¬ b < x) : ∃ j, j < 256 ∧ cur ≤ j ∧ nI (fq_cnt (fq_btw S a b) (j + 1)) = nI (fq_cnt (fq_btw S a b) cur) + 1 ∧ fq_Mn (fq_fr S a (j + 1)) 256 (fq_after A mi mx ct x) := by
  obtain ⟨j, hj, hcj, e, hs, ha, hb, hno, hc⟩ := fq_clS hv c0 c
  refine ⟨j, hj, hcj, hc, ?_⟩
  subst e
  exact fq_clM hj ha (fq_after_spec hI).1
/-! select -/
def fq_SI (S : Nat → Bool) (k : Int32) (i : Nat) (x : Int32) : Prop := (k < 0 → x = -1) ∧ (¬ k < 0 → nI i ≤ k ∧ ((∃ j, j < 256 ∧ S j = true ∧ fq_cnt S j = i ∧ x = nI j) ∨ (x = -1 ∧ fq_cnt S 256 ≤ i)))
theorem fq_sl0 {S : Nat → Bool} {A : fq_A4} {mi mx ct k : Int32} (h : fq_Inv S A mi mx ct) (c : 0 ≤ k) : fq_SI S k 0 mi := by
  refine ⟨fun q => absurd q (fq_0le.mp c), fun _ => ⟨c, ?_⟩⟩
  rcases h.1 with ⟨j, hj, hjt, e, hl⟩ | ⟨e, hl⟩
  · exact Or.inl ⟨j, hj, hjt, by rw [fq_cnt_skip (u := 0) j (by omega) (fun y _ q => hl y q)]; rfl, e⟩
  · exact Or.inr ⟨e, by rw [fq_cnt_skip (u := 0) 256 (by omega) (fun y _ q => hl y q)]; exact Nat.le_refl 0⟩
theorem fq_sl1 {S : Nat → Bool} {k : Int32} (c : ¬ 0 ≤ k) : fq_SI S k 0 (-1) := ⟨fun _ => rfl, fun q => absurd (fq_0le.mpr q) c⟩
theorem fq_cnt_mono {P : Nat → Bool} {u : Nat} : ∀ v, u ≤ v → fq_cnt P u ≤ fq_cnt P v
  | 0, h => by rw [show u = 0 by omega]; exact Nat.le_refl _
  | v + 1, h => by
    by_cases e : u = v + 1
    · rw [e]; exact Nat.le_refl _
    · have h1 := fq_cnt_mono (P := P) v (by omega : u ≤ v)
      have h2 : fq_cnt P (v + 1) = fq_cnt P v + cond (P v) 1 0 := rfl
      omega
theorem fq_cnt_inj {S : Nat → Bool} {i j : Nat} (hi : S i = true) (hj : S j = true) (h : fq_cnt S i = fq_cnt S j) : i = j := by
  rcases Nat.lt_trichotomy i j with q | q | q
  · have h1 := fq_cnt_mono (P := S) j (show i + 1 ≤ j from q)
    rw [fq_cnt_t hi] at h1
    omega
  · exact q
  · have h1 := fq_cnt_mono (P := S) i (show j + 1 ≤ i from q)
    rw [fq_cnt_t hj] at h1
    omega
theorem fq_slE1 {S : Nat → Bool} {k x : Int32} {i : Nat} (hi : i ≤ 256) (hv : fq_SI S k i x) (c : k ≤ nI i) : fq_Sel S k x := by
  by_cases q : k < 0
  · refine Or.inr ⟨hv.1 q, fun j hj _ e => ?_⟩
    rw [← e] at q
    have := fq_cnt_le S j
    exact nI_pos (by omega) q
  · obtain ⟨h1, h2⟩ := hv.2 q
    have e : k = nI i := by
      rw [Int32.le_iff_toInt_le] at h1 c
      exact Int32.toInt_inj.mp (by omega)
    subst e
    rcases h2 with ⟨j, hj, hjt, ej, ex⟩ | ⟨ex, hc⟩
    · exact Or.inl ⟨j, hj, hjt, by rw [ej], ex⟩
    · refine Or.inr ⟨ex, fun j hj hjt e => ?_⟩
      have h3 := fq_cnt_le S j
      have h4 : fq_cnt S j = i := (nI_eq (by omega) (by omega)).mp e
      have h5 := fq_cnt_mono (P := S) 256 (show j + 1 ≤ 256 from hj)
      rw [fq_cnt_t hjt] at h5
      omega
theorem fq_slE2 {S : Nat → Bool} {k x : Int32} {i : Nat} (hi : i ≤ 256) (hv : fq_SI S k i x) (c : ¬ k ≤ nI i) (c2 : x < 0) : fq_Sel S k x := by
  by_cases q : k < 0
  · exfalso
    apply c
    rw [Int32.lt_iff_toInt_lt, Int32.toInt_zero] at q
    rw [Int32.le_iff_toInt_le, nI_toInt (by omega)]
    omega
  · obtain ⟨h1, h2⟩ := hv.2 q
    rcases h2 with ⟨j, hj, hjt, ej, ex⟩ | ⟨ex, hc⟩
    · rw [ex] at c2
      exact absurd c2 (nI_pos (by omega))
    · refine Or.inr ⟨ex, fun j hj hjt e => ?_⟩
      have h3 := fq_cnt_le S j
      have h5 := fq_cnt_mono (P := S) 256 (show j + 1 ≤ 256 from hj)
      rw [fq_cnt_t hjt] at h5
      apply c
      rw [← e]
      exact nI_le (by omega) (by omega)
theorem fq_slS {S : Nat → Bool} {A : fq_A4} {mi mx ct k x : Int32} {i : Nat} (hI : fq_Inv S A mi mx ct) (hi : i ≤ 256) (hv : fq_SI S k i x) (c : ¬ k ≤ nI i) (c2 : ¬ x < 0) : i + 1 ≤ 256 ∧ fq_SI S k (i + 1) (fq_after A mi mx ct x) := by
  by_cases q : k < 0
  · rw [hv.1 q] at c2
    exact absurd fq_nm1 c2
  · obtain ⟨h1, h2⟩ := hv.2 q
    rcases h2 with ⟨j, hj, hjt, ej, ex⟩ | ⟨ex, hc⟩
    · have h3 := fq_cnt_le S j
      have ha := (fq_after_spec (x := x) hI).1
      subst ex
      refine ⟨by omega, fun q2 => absurd q2 q, fun _ => ⟨?_, ?_⟩⟩
      · rw [fq_le_nlt] at c
        have c := Classical.not_not.mp c
        rw [Int32.lt_iff_toInt_lt, nI_toInt (by omega)] at c
        rw [Int32.le_iff_toInt_le, nI_toInt (by omega)]
        omega
      · rcases ha with ⟨g, hg, hgt, eg, hl⟩ | ⟨eg, hl⟩
        · refine Or.inl ⟨g, hg, ?_, ?_, eg⟩
          · simp only [Bool.and_eq_true] at hgt
            exact hgt.1
          · simp only [Bool.and_eq_true, decide_eq_true_eq] at hgt
            have hjg : j < g := (nI_ltI (by omega) (by omega)).mp hgt.2
            rw [fq_cnt_skip (u := j + 1) g hjg (fun y q1 q2 => ?_), fq_cnt_t hjt, ej]
            have h4 : (S y && decide (nI j < nI y)) = false := hl y q2
            have h5 : nI j < nI y := nI_lt (by omega) (by omega)
            simpa [h5] using h4
        · refine Or.inr ⟨eg, ?_⟩
          rw [fq_cnt_skip (u := j + 1) 256 hj (fun y q1 q2 => ?_), fq_cnt_t hjt, ej]
          · exact Nat.le_refl _
          · have h4 : (S y && decide (nI j < nI y)) = false := hl y q2
            have h5 : nI j < nI y := nI_lt (by omega) (by omega)
            simpa [h5] using h4
    · rw [ex] at c2
      exact absurd fq_nm1 c2
/-! gapFrom -/
def fq_GJ (S : Nat → Bool) (a x : Int32) : Prop := (a < 0 → x = 256) ∧ (¬ a < 0 → a ≤ x ∧ ∀ j, j < 256 → a ≤ nI j → nI j < x → S j = true) ∧ ¬ x < 0
theorem fq_gp0a {S : Nat → Bool} {a : Int32} (c : 0 ≤ a) : fq_GJ S a a := ⟨fun q => absurd q (fq_0le.mp c), fun _ => ⟨(fq_gaM0 S a).2.1, (fq_gaM0 S a).2.2⟩, fq_0le.mp c⟩
theorem fq_gp0b {S : Nat → Bool} {a : Int32} (c : ¬ 0 ≤ a) : fq_GJ S a 256 := ⟨fun _ => rfl, fun q => absurd (fq_0le.mpr q) c, by decide⟩
theorem fq_gpE1 {S : Nat → Bool} {a x : Int32} (hv : fq_GJ S a x) (c : (256 : Int32) ≤ x) : fq_Gap S a (-1) := by
  refine ⟨fun _ => rfl, fun q => Or.inr ⟨rfl, fun j hj => ?_⟩⟩
  by_cases h : a ≤ nI j
  · have hs : S j = true := by
      refine (hv.2.1 q).2 j hj h ?_
      rw [Int32.le_iff_toInt_le, show (256 : Int32).toInt = 256 by decide] at c
      rw [Int32.lt_iff_toInt_lt, nI_toInt (by omega)]
      omega
    simp [hs]
  · simp [h]
theorem fq_gpX {S : Nat → Bool} {a x : Int32} (hv : fq_GJ S a x) (c : ¬ (256 : Int32) ≤ x) : ∃ n, n < 256 ∧ x = nI n := by
  rcases fq_cases x with q | q | q
  · exact absurd q hv.2.2
  · exact absurd q c
  · exact q
theorem fq_gpE2 {S : Nat → Bool} {A : fq_A4} {mi mx ct a x : Int32} (hI : fq_Inv S A mi mx ct) (hv : fq_GJ S a x) (c : ¬ (256 : Int32) ≤ x) (c2 : fq_member A mi mx ct x = 0) : fq_Gap S a x := by
  obtain ⟨n, hn, rfl⟩ := fq_gpX hv c
  rw [fq_member_spec hI, fq_memR_n hn] at c2
  have hs : S n = false := by
    cases e : S n
    · rfl
    · rw [e] at c2; exact absurd c2 (by decide)
  refine ⟨fun q => ?_, fun q => ?_⟩
  · exact absurd (by rw [hv.1 q]; decide) c
  · refine Or.inl ⟨n, hn, by simp [hs, (hv.2.1 q).1], rfl, fun j hj => ?_⟩
    by_cases h : a ≤ nI j
    · simp [(hv.2.1 q).2 j (by omega) h (nI_lt hj (by omega))]
    · simp [h]
theorem fq_gp1 {S : Nat → Bool} {a x : Int32} {n : Nat} (hn : fq_gm x = n) (hv : fq_GJ S a x) (c : ¬ (256 : Int32) ≤ x) : fq_gm (x + 1) < n := by
  obtain ⟨k, hk, rfl⟩ := fq_gpX hv c
  exact fq_gaM1 hn (by rw [fq_num_n hk]; decide)
theorem fq_gp2 {S : Nat → Bool} {A : fq_A4} {mi mx ct a x : Int32} (hI : fq_Inv S A mi mx ct) (hv : fq_GJ S a x) (c : ¬ (256 : Int32) ≤ x) (c2 : ¬ fq_member A mi mx ct x = 0) : fq_GJ S a (x + 1) := by
  obtain ⟨k, hk, rfl⟩ := fq_gpX hv c
  rw [fq_member_spec hI, fq_memR_n hk] at c2
  have hs : S k = true := by
    cases e : S k
    · rw [e] at c2; exact absurd rfl c2
    · rfl
  refine ⟨fun q => absurd (by rw [hv.1 q]; decide) c, fun q => ⟨?_, fun j hj q1 q2 => ?_⟩, ?_⟩
  · have h2 := (hv.2.1 q).1
    rw [Int32.le_iff_toInt_le] at *
    rw [fq_x1 hk]
    rw [nI_toInt (by omega)] at h2
    omega
  · by_cases e : j = k
    · subst e
      exact hs
    · refine (hv.2.1 q).2 j hj q1 ?_
      rw [Int32.lt_iff_toInt_lt] at *
      rw [fq_x1 hk, nI_toInt (by omega)] at q2
      rw [nI_toInt (by omega), nI_toInt (by omega)]
      omega
  · rw [nI_1]
    exact nI_pos (by omega)
/-! deleteBetween -/
theorem fq_dlN {S : Nat → Bool} {A : fq_A4} {mi mx ct a b : Int32} {cur : Nat} (hc : cur ≤ 256) (hI : fq_Inv (fq_dbI S a b cur) A mi mx ct) (h : ∀ j, cur ≤ j → j < 256 → S j = true → a ≤ nI j → ¬ nI j ≤ b) : fq_Inv (fq_dbI S a b 256) A mi mx ct := by
  refine fq_Inv_cg hI (fun y hy => ?_)
  unfold fq_dbI
  by_cases q : y < cur
  · simp [q, hy]
  · simp only [q, hy, decide_false, decide_true, Bool.false_and, Bool.true_and, Bool.not_false, Bool.and_true]
    cases hs : S y
    · rfl
    · by_cases q1 : a ≤ nI y
      · have := h y (by omega) hy hs q1
        simp [this]
      · simp [q1]
theorem fq_dlS {S : Nat → Bool} {A : fq_A4} {mi mx ct a b x : Int32} {cur : Nat} (hI : fq_Inv (fq_dbI S a b cur) A mi mx ct) (hv : fq_Mn (fq_fr S a cur) 256 x) (c0 : ¬ x < 0) (c : ¬ b < x) : ∃ j, j < 256 ∧ cur ≤ j ∧ nI (fq_cnt (fq_btw S a b) (j + 1)) = nI (fq_cnt (fq_btw S a b) cur) + 1 ∧ fq_Mn (fq_fr S a (j + 1)) 256 (fq_after (fq_deleteU A mi mx ct x).1 (fq_deleteU A mi mx ct x).2.1 (fq_deleteU A mi mx ct x).2.2.1 (fq_deleteU A mi mx ct x).2.2.2 x) ∧ fq_Inv (fq_dbI S a b (j + 1)) (fq_deleteU A mi mx ct x).1 (fq_deleteU A mi mx ct x).2.1 (fq_deleteU A mi mx ct x).2.2.1 (fq_deleteU A mi mx ct x).2.2.2 := by
  obtain ⟨j, hj, hcj, e, hs, ha, hb, hno, hc⟩ := fq_clS hv c0 c
  have hD := fq_delU_spec (x := x) hI
  subst e
  rw [fq_delS_n hj] at hD
  have hI2 : fq_Inv (fq_dbI S a b (j + 1)) (fq_deleteU A mi mx ct (nI j)).1 (fq_deleteU A mi mx ct (nI j)).2.1 (fq_deleteU A mi mx ct (nI j)).2.2.1 (fq_deleteU A mi mx ct (nI j)).2.2.2 := by
    refine fq_Inv_cg hD (fun y hy => ?_)
    by_cases q : y = j
    · subst q
      rw [fq_wo_s]
      unfold fq_dbI
      simp [ha, hb]
    · rw [fq_wo_n q]
      unfold fq_dbI
      by_cases q1 : y < cur
      · have q2 : y < j + 1 := by omega
        simp [q1, q2]
      · by_cases q2 : y < j + 1
        · cases hsy : S y
          · rfl
          · have := hno y (by omega) (by omega) hsy
            simp [this]
        · simp [q1, q2]
  refine ⟨j, hj, hcj, hc, ?_, hI2⟩
  refine fq_clM hj ha (fq_Mn_cg (fq_after_spec hI2).1 (fun y hy => ?_))
  try dsimp only
  rw [fq_dlt hj hy]
  by_cases q : j < y
  · unfold fq_dbI
    have q2 : ¬ y < j + 1 := by omega
    simp [q2]
  · simp [q]
/-! the constructor's arrays -/
def fq_ini (i : Nat) : Nat → Int32 := fun j => if j < i then -1 else 0
theorem fq_ini_s {i : Nat} (h : i < 17) : upd (fq_ini i) (nI i).toNatClampNeg (vp_nar .byte (-1 : Int32)) = fq_ini (i + 1) := by
  rw [fq_cl (by omega), fq_nbm']
  funext j
  unfold fq_ini
  by_cases e : j = i
  · subst e
    rw [pk_us, if_pos (by omega)]
  · rw [pk_un e]
    by_cases q : j < i
    · rw [if_pos q, if_pos (by omega)]
    · rw [if_neg q, if_neg (by omega)]
theorem fq_ini_0 : fq_ini 0 = fun _ => (0 : Int32) := by
  funext j
  unfold fq_ini
  rw [if_neg (by omega)]
def fq_Ai : fq_A4 := (fq_ini 17, fq_ini 17, fun _ => 0, fun _ => 0)
theorem fq_Inv0 : fq_Inv (fun _ => false) fq_Ai (-1) (-1) 0 := by
  have hcl : ∀ (T : Nat → Bool) (c : Nat), c < 17 → (∀ y, y < 16 → T y = false) → fq_Cl T fq_Ai c := fun T c hc hT => by
    have e : fq_ini 17 c = -1 := by unfold fq_ini; rw [if_pos hc]
    refine ⟨Or.inr ⟨e, hT⟩, Or.inr ⟨e, hT⟩, fun i hi => ?_, ?_⟩
    · show (0 : Int32) = _
      rw [fq_W_0 (fun j hj => by simp [hT (4 * i + j) (by omega)])]
    · show (0 : Int32) = _
      rw [fq_W_0 (fun i hi => fq_q4_all (fun j hj => by simp [hT (4 * i + j) (by omega)]))]
  refine ⟨Or.inr ⟨rfl, fun _ _ => rfl⟩, Or.inr ⟨rfl, fun _ _ => rfl⟩, ?_, fun c hc => hcl _ c (by omega) (fun y hy => rfl), hcl _ 16 (by omega) (fun y hy => fq_q16_all (fun _ _ => rfl))⟩
  rw [fq_cnt_skip (P := fun _ => false) (u := 0) 256 (by omega) (fun _ _ _ => rfl)]
  rfl
end
section
/-! the law's checks: both sides answer alike -/
theorem fq_lw_size {S : Nat → Bool} {A : fq_A4} {mi mx ct : Int32} (h : fq_Inv S A mi mx ct) : fq_size A mi mx ct = nI (fq_cnt (fq_btw S 0 255) 256) := by
  show ct = _
  rw [h.2.2.1, fq_cnt_cg 256 (P := S) (Q := fq_btw S 0 255) (fun j hj => ?_)]
  unfold fq_btw
  have h1 : (0 : Int32) ≤ nI j := nI_pos' (by omega)
  have h2 : nI j ≤ (255 : Int32) := nI_le (a := j) (b := 255) (by omega) (by decide)
  simp [h1, h2]
theorem fq_lw_mn {S : Nat → Bool} {r : Int32} (h : fq_Mn (fun j => S j && decide (-1 < nI j)) 256 r) : fq_Mn S 256 r :=
  fq_Mn_cg h (fun j hj => by
    have h1 : (-1 : Int32) < nI j := by
      rw [Int32.lt_iff_toInt_lt, nI_toInt (by omega), show (-1 : Int32).toInt = -1 by decide]
      omega
    simp [h1])
theorem fq_lw_mx {S : Nat → Bool} {r : Int32} (h : fq_Mx (fun j => S j && decide (nI j < 256)) 256 r) : fq_Mx S 256 r :=
  fq_Mx_cg h (fun j hj => by
    have h1 : nI j < (256 : Int32) := nI_lt (a := j) (b := 256) hj (by decide)
    simp [h1])
theorem fq_lw_tlR {S : Nat → Bool} {A : fq_A4} {mi mx ct : Int32} (h : fq_Inv S A mi mx ct) : fq_takeLeastR A mi mx ct = mi := by
  unfold fq_takeLeastR
  rw [fq_delR_spec h]
  rcases h.1 with ⟨k, hk, hkt, e, -⟩ | ⟨e, -⟩
  · rw [e, fq_memR_n hk, hkt, if_neg (by decide)]
  · rw [e]
    split <;> rfl
theorem fq_lw_tgR {S : Nat → Bool} {A : fq_A4} {mi mx ct : Int32} (h : fq_Inv S A mi mx ct) : fq_takeGreatestR A mi mx ct = mx := by
  unfold fq_takeGreatestR
  rw [fq_delR_spec h]
  rcases h.2.1 with ⟨k, hk, hkt, e, -⟩ | ⟨e, -⟩
  · rw [e, fq_memR_n hk, hkt, if_neg (by decide)]
  · rw [e]
    split <;> rfl
theorem fq_lw_tlU {A : fq_A4} {mi mx ct : Int32} : fq_takeLeastU A mi mx ct = fq_deleteU A mi mx ct mi := by
  unfold fq_takeLeastU
  split <;> rfl
theorem fq_lw_tgU {A : fq_A4} {mi mx ct : Int32} : fq_takeGreatestU A mi mx ct = fq_deleteU A mi mx ct mx := by
  unfold fq_takeGreatestU
  split <;> rfl
theorem fq_Sel_u {S : Nat → Bool} {k r r' : Int32} (h : fq_Sel S k r) (h' : fq_Sel S k r') : r = r' := by
  rcases h with ⟨i, hi, hit, e, er⟩ | ⟨er, hn⟩
  · rcases h' with ⟨j, hj, hjt, e', er'⟩ | ⟨er', hn'⟩
    · have h1 := fq_cnt_le S i
      have h2 := fq_cnt_le S j
      have h3 : fq_cnt S i = fq_cnt S j := (nI_eq (by omega) (by omega)).mp (e.trans e'.symm)
      rw [er, er', fq_cnt_inj hit hjt h3]
    · exact absurd e (hn' i hi hit)
  · rcases h' with ⟨j, hj, hjt, e', er'⟩ | ⟨er', hn'⟩
    · exact absurd e' (hn j hj hjt)
    · rw [er, er']
theorem fq_Gap_u {S : Nat → Bool} {a r r' : Int32} (h : fq_Gap S a r) (h' : fq_Gap S a r') : r = r' := by
  by_cases q : a < 0
  · rw [h.1 q, h'.1 q]
  · exact fq_Mn_u (h.2 q) (h'.2 q)
theorem fq_Near_u {S : Nat → Bool} {a r r' : Int32} (h : fq_Near S a r) (h' : fq_Near S a r') : r = r' := by
  rcases h with ⟨er, hn⟩ | ⟨k, hk, hkt, er, hl⟩
  · rcases h' with ⟨er', hn'⟩ | ⟨j, hj, hjt, er', hl'⟩
    · rw [er, er']
    · exact absurd (hn j hj) (fun e => fq_tf hjt e)
  · rcases h' with ⟨er', hn'⟩ | ⟨j, hj, hjt, er', hl'⟩
    · exact absurd (hn' k hk) (fun e => fq_tf hkt e)
    · have h1 := hl j hj hjt
      have h2 := hl' k hk hkt
      have h3 : k = j := by
        rcases Nat.lt_trichotomy k j with q | q | q
        · have := h2.2 q
          omega
        · exact q
        · have := h1.2 q
          omega
      rw [er, er', h3]
theorem fq_sub_i {x y : Int32} (h1 : -1000 ≤ x.toInt - y.toInt) (h2 : x.toInt - y.toInt ≤ 1000) : (x - y).toInt = x.toInt - y.toInt := by
  rw [Int32.toInt_sub]
  exact Int.bmod_eq_of_le (by omega) (by omega)
/-- the class's nearest, a member itself -/
theorem fq_ne_in {A : fq_A4} {mi mx ct x : Int32} {S : Nat → Bool} (h : fq_Inv S A mi mx ct) {n : Nat} (hn : n < 256) (e : x = nI n) (hs : S n = true) : fq_nearest A mi mx ct x = x := by
  have hu := (fq_after_spec (x := x) h).1
  have hm : ¬ fq_member A mi mx ct x = 0 := by
    rw [fq_member_spec h, e, fq_memR_n hn, hs]
    decide
  unfold fq_nearest
  rw [if_neg hm]
  by_cases c : fq_after A mi mx ct x < 0
  · rw [if_pos c, if_neg (fun q => fq_0le.mp q c)]
  · rw [if_neg c, if_pos (by rw [e]; exact nI_pos' (by omega))]
    obtain ⟨k, hk, hkt, ek, -⟩ := fq_Mn_ge (by decide) hu c
    simp only [Bool.and_eq_true, decide_eq_true_eq] at hkt
    have hnk : n < k := by
      have := hkt.2
      rw [e] at this
      exact (nI_ltI (by omega) (by omega)).mp this
    rw [if_neg]
    rw [ek, e, Int32.lt_iff_toInt_lt, fq_sub_i, fq_sub_i, nI_toInt (by omega), nI_toInt (by omega)]
    · omega
    · omega
    · omega
    · rw [nI_toInt (by omega), nI_toInt (by omega)]; omega
    · rw [nI_toInt (by omega), nI_toInt (by omega)]; omega
theorem fq_ne_spec {A : fq_A4} {mi mx ct x : Int32} {S : Nat → Bool} (h : fq_Inv S A mi mx ct) : fq_Near S x (fq_nearest A mi mx ct x) := by
  by_cases hin : ∃ n, n < 256 ∧ x = nI n ∧ S n = true
  · obtain ⟨n, hn, e, hs⟩ := hin
    rw [fq_ne_in h hn e hs]
    refine Or.inr ⟨n, hn, hs, e, fun j hj hjt => ?_⟩
    have ex : x.toInt = (n : Int) := by rw [e, nI_toInt (by omega)]
    unfold fq_ds
    rw [ex]
    exact ⟨by omega, fun q => by omega⟩
  · have hno : ∀ j, j < 256 → S j = true → (j : Int) ≠ x.toInt := fun j hj hjt q => hin ⟨j, hj, Int32.toInt_inj.mp (by rw [nI_toInt (by omega), q]), hjt⟩
    have hm : fq_member A mi mx ct x = 0 := by
      rw [fq_member_spec h]
      rcases fq_cases x with q | q | ⟨n, hn, e⟩
      · exact fq_memR_o (fq_rng_lt q)
      · exact fq_memR_o (fq_rng_ge q)
      · rw [e, fq_memR_n hn]
        cases hs : S n
        · rfl
        · exact absurd ⟨n, hn, e, hs⟩ hin
    have hu := (fq_after_spec (x := x) h).1
    have hw := fq_before_spec (x := x) h
    unfold fq_nearest
    rw [if_pos hm]
    generalize fq_after A mi mx ct x = u at hu ⊢
    generalize fq_before A mi mx ct x = w at hw ⊢
    have hup : u < 0 → ∀ j, j < 256 → S j = true → (j : Int) < x.toInt := fun c j hj hjt => by
      have h1 : (S j && decide (x < nI j)) = false := (fq_Mn_lt (by decide) hu c).2 j hj
      rw [hjt, Bool.true_and, decide_eq_false_iff_not, Int32.lt_iff_toInt_lt, nI_toInt (by omega)] at h1
      have h2 := hno j hj hjt
      omega
    have hdn : w < 0 → ∀ j, j < 256 → S j = true → x.toInt < (j : Int) := fun c j hj hjt => by
      have h1 : (S j && decide (nI j < x)) = false := (fq_Mx_lt (by decide) hw c).2 j hj
      rw [hjt, Bool.true_and, decide_eq_false_iff_not, Int32.lt_iff_toInt_lt, nI_toInt (by omega)] at h1
      have h2 := hno j hj hjt
      omega
    have hug : ¬ u < 0 → ∃ k, k < 256 ∧ S k = true ∧ u = nI k ∧ x.toInt < (k : Int) ∧ ∀ j, j < 256 → S j = true → x.toInt < (j : Int) → k ≤ j := fun c => by
      obtain ⟨k, hk, hkt, e, hl⟩ := fq_Mn_ge (by decide) hu c
      simp only [Bool.and_eq_true, decide_eq_true_eq] at hkt
      have h3 := hkt.2
      rw [Int32.lt_iff_toInt_lt, nI_toInt (by omega)] at h3
      refine ⟨k, hk, hkt.1, e, h3, fun j hj hjt q => ?_⟩
      rcases Nat.lt_or_ge j k with q2 | q2
      · have h4 : (S j && decide (x < nI j)) = false := hl j q2
        rw [hjt, Bool.true_and, decide_eq_false_iff_not, Int32.lt_iff_toInt_lt, nI_toInt (by omega)] at h4
        omega
      · exact q2
    have hwg : ¬ w < 0 → ∃ k, k < 256 ∧ S k = true ∧ w = nI k ∧ (k : Int) < x.toInt ∧ ∀ j, j < 256 → S j = true → (j : Int) < x.toInt → j ≤ k := fun c => by
      obtain ⟨k, hk, hkt, e, hl⟩ := fq_Mx_ge (by decide) hw c
      simp only [Bool.and_eq_true, decide_eq_true_eq] at hkt
      have h3 := hkt.2
      rw [Int32.lt_iff_toInt_lt, nI_toInt (by omega)] at h3
      refine ⟨k, hk, hkt.1, e, h3, fun j hj hjt q => ?_⟩
      rcases Nat.lt_or_ge k j with q2 | q2
      · have h4 : (S j && decide (nI j < x)) = false := hl j q2 hj
        rw [hjt, Bool.true_and, decide_eq_false_iff_not, Int32.lt_iff_toInt_lt, nI_toInt (by omega)] at h4
        omega
      · exact q2
    by_cases c : u < 0
    · rw [if_pos c, if_neg (fun q => fq_0le.mp q c)]
      by_cases c2 : w < 0
      · refine Or.inl ⟨(fq_Mx_lt (by decide) hw c2).1, fun j hj => ?_⟩
        cases hjt : S j
        · rfl
        · have h1 := hup c j hj hjt
          have h2 := hdn c2 j hj hjt
          omega
      · obtain ⟨k, hk, hkt, e, h3, hl⟩ := hwg c2
        refine Or.inr ⟨k, hk, hkt, e, fun j hj hjt => ?_⟩
        have h1 := hup c j hj hjt
        have h2 := hl j hj hjt h1
        unfold fq_ds
        exact ⟨by omega, fun q => by omega⟩
    · rw [if_neg c]
      obtain ⟨k, hk, hkt, e, h3, hl⟩ := hug c
      by_cases c2 : w < 0
      · rw [if_neg (fun q => fq_0le.mp q c2), if_pos (fq_0le.mpr c)]
        refine Or.inr ⟨k, hk, hkt, e, fun j hj hjt => ?_⟩
        have h1 := hdn c2 j hj hjt
        have h2 := hl j hj hjt h1
        unfold fq_ds
        exact ⟨by omega, fun q => by omega⟩
      · rw [if_pos (fq_0le.mpr c2)]
        obtain ⟨k2, hk2, hkt2, e2, h4, hl2⟩ := hwg c2
        have d1 : (u - x).toInt = (k : Int) - x.toInt := by
          rw [e, fq_sub_i, nI_toInt (by omega)]
          · rw [nI_toInt (by omega)]; omega
          · rw [nI_toInt (by omega)]; omega
        have d2 : (x - w).toInt = x.toInt - (k2 : Int) := by
          rw [e2, fq_sub_i, nI_toInt (by omega)]
          · rw [nI_toInt (by omega)]; omega
          · rw [nI_toInt (by omega)]; omega
        by_cases c3 : u - x < x - w
        · rw [if_pos c3]
          rw [Int32.lt_iff_toInt_lt, d1, d2] at c3
          refine Or.inr ⟨k, hk, hkt, e, fun j hj hjt => ?_⟩
          have h5 := hno j hj hjt
          unfold fq_ds
          rcases Int.lt_or_gt_of_ne h5 with q | q
          · have h6 := hl2 j hj hjt q
            exact ⟨by omega, fun q => by omega⟩
          · have h6 := hl j hj hjt q
            exact ⟨by omega, fun q => by omega⟩
        · rw [if_neg c3]
          rw [Int32.lt_iff_toInt_lt, d1, d2] at c3
          refine Or.inr ⟨k2, hk2, hkt2, e2, fun j hj hjt => ?_⟩
          have h5 := hno j hj hjt
          unfold fq_ds
          rcases Int.lt_or_gt_of_ne h5 with q | q
          · have h6 := hl2 j hj hjt q
            exact ⟨by omega, fun q => by omega⟩
          · have h6 := hl j hj hjt q
            exact ⟨by omega, fun q => by omega⟩
/-! the law's own numbers -/
theorem fq_lw_go {i L : Nat} (hL : L ≤ 192) (hi : i ≤ L) (c : ¬ nI L - (3 : Int32) < nI i) : i + 3 ≤ L := by
  rw [Int32.lt_iff_toInt_lt, fq_sub_i, nI_toInt (by omega), nI_toInt (by omega), show (3 : Int32).toInt = 3 by decide] at c
  · omega
  · rw [nI_toInt (by omega), show (3 : Int32).toInt = 3 by decide]; omega
  · rw [nI_toInt (by omega), show (3 : Int32).toInt = 3 by decide]; omega
theorem fq_lw_i1 {i L : Nat} (hL : L ≤ 192) (hi : i + 3 ≤ L) : vp_in (nI i + (1 : Int32)) L := by
  rw [show nI i + (1 : Int32) = nI (i + 1) from nI_add i 1]
  exact vp_in_nI (by omega) (by omega)
theorem fq_lw_i2 {i L : Nat} (hL : L ≤ 192) (hi : i + 3 ≤ L) : vp_in (nI i + (2 : Int32)) L := by
  rw [show nI i + (2 : Int32) = nI (i + 2) from nI_add i 2]
  exact vp_in_nI (by omega) (by omega)
theorem fq_lw_15 (x : Int32) : ∃ j : Nat, j < 16 ∧ x &&& (15 : Int32) = nI j := vp_in_of (fq_ix5 x) (by decide)
theorem fq_lw_nx (i : Nat) : nI i + Int32.ofInt 3 = nI (i + 3) := nI_add i 3
end
section
set_option maxHeartbeats 4000000 in
set_option maxRecDepth 100000 in
theorem fq_met_countBetween (l : Launch) (dC : Nat → ClassId) (dI : Nat → Nat → Nat) (h0 a1 a2 a3 a4 : Nat) (d : ClassId) (sz : Nat) (A0 : fq_A4) (mi mx ct : Int32) (p1 p2 : Int32) (S : Nat → Bool) (hI : fq_Inv S A0 mi mx ct) : Met l yX0_countBetween (ws_ yX0_countBetween cX0_countBetween 6 (some .int)) ({ frames := 4, cells := 0, slots := 0, locals := 91 }) (va_Pc [.ref h0, .int p1, .int p2] (fq_PQ dC dI sz (fq_wq h0 a1 a2 a3 a4 d A0 mi mx ct) [(d, .byte)])) (va_Qi (fun (r : Int32) (_ : Unit) => r = nI (fq_cnt (fq_btw S p1 p2) 256)) (fun _ => fq_BQ dC dI (va_A (fq_wq h0 a1 a2 a3 a4 d A0 mi mx ct) sz) (fq_wq h0 a1 a2 a3 a4 d A0 mi mx ct) [(d, .byte)]) (va_A (fq_wq h0 a1 a2 a3 a4 d A0 mi mx ct) sz)) 0 0 (va_A (fq_wq h0 a1 a2 a3 a4 d A0 mi mx ct) sz) := by
  refine Met.ofW (cc := cX0_countBetween) (maxL := 6) (ret := (some .int)) (by decide) rfl ?_
  intro p e s m args below meth c s₁ B hml hv
  obtain ⟨rfl, hsz, hP, hK, hD0⟩ := hv
  have hx := B.exec
  have hb := B.bytes
  have hr := B.returns
  have hts := atoms_spec (ws := ws_ yX0_countBetween cX0_countBetween 6 (some .int)) B.pre
  have hts : ∀ w ∈ lw_all, w.before _ s = true := fun w h => hts w (List.mem_cons_of_mem _ h)
  have hown : s.vm.findClass RX0 = some m.cls := findClass_of_methodNamed B.named
  have hlocks := B.notSynchronized
  subst hsz
  have hD := hD0.self (sz := s.heap.size)
  generalize hAe : va_A (fq_wq h0 a1 a2 a3 a4 d A0 mi mx ct) s.heap.size = A at hD ⊢
  have hA : ∀ q : Nat, s.heap.size ≤ q → A q := fun q h => by rw [← hAe]; exact Or.inr h
  have hS : va_S A s.heap s.heap [] := va_S.rf
  have hP : va_P (dC, dI) vwCl (fq_wq h0 a1 a2 a3 a4 d A0 mi mx ct) s.heap := hP
  have hl := lv_entry ([.ref h0, .int p1, .int p2]) (n := 6) (Nat.le_of_ble_eq_true rfl)
  rw [lg_entry_eq]
  generalize (lg_sl ([.ref h0, .int p1, .int p2]) ++ List.replicate (6 - (lg_sl ([.ref h0, .int p1, .int p2])).length) Slot.unset).toArray = ls0 at hl ⊢
  have hl : lv_has ls0 6 [(0, .ref h0), (1, .int p1), (2, .int p2)] := hl
  have key : ∀ (n : Nat) (k cur : Nat) (x : Int32), k ≤ cur → cur ≤ 256 → 257 ≤ cur + n → fq_Mn (fq_fr S p1 cur) 256 x → ∀ (H : Heap) (locs : List Loc), va_P (dC, dI) vwCl (fq_wq h0 a1 a2 a3 a4 d A0 mi mx ct) H → va_D A (fq_wq h0 a1 a2 a3 a4 d A0 mi mx ct) → va_S A s.heap H locs → ∀ ls : Array Slot, lv_has ls 6 [(5, .int (nI k)), (4, .int x), (3, .int (nI (fq_cnt (fq_btw S p1 p2) cur))), (0, .ref h0), (1, .int p1), (2, .int p2)] → W p l e (headSpec (ws_ yX0_countBetween cX0_countBetween 6 (some .int)) ({ frames := 4, cells := 0, slots := 0, locals := 91 })).room s m ([.ref h0, .int p1, .int p2] : List Value).toArray below meth c H locs 0 0 (MQ below (va_Qi (fun (r : Int32) (_ : Unit) => r = nI (fq_cnt (fq_btw S p1 p2) 256)) (fun _ => fq_BQ dC dI A (fq_wq h0 a1 a2 a3 a4 d A0 mi mx ct) [(d, .byte)]) A) ([.ref h0, .int p1, .int p2] : List Value).toArray s 0 0 A) (F0 m 12 ls []) := by
    intro n
    induction n with
    | zero =>
      intro k cur x h0 h1 h2
      exact absurd h2 (by omega)
    | succ n ih =>
      intro k cur x hk hc hn hv H locs hP hD hS ls hl
      refine lv_iload hx hb dX0_countBetween_12 (lv_at hl 0 rfl) ?_
      refine lv_sipush (v := 256) hx hb dX0_countBetween_14 (by decide) ?_
      refine lv_icmp_ge (tgt := 48) hx hb dX0_countBetween_17 (by decide) (fun c_17 => ?_) (fun c_17 => ?_)
      · skip
        refine lv_iload_n hx hb dX0_countBetween_48 rfl (lv_at hl 2 rfl) ?_
        exact W.iret (v := (nI (fq_cnt (fq_btw S p1 p2) cur))) hx hb hr (fun t ht hW => ⟨⟨(nI (fq_cnt (fq_btw S p1 p2) cur)), (), rfl, (by rw [fq_clE1 (S := S) (a := p1) (b := p2) hk hc c_17]), (by rw [ht]; exact hP), va_K.moved hW.alike hK, hD⟩, hS.F ht⟩) hS.2.2 dX0_countBetween_49
      · skip
        refine lv_iload hx hb dX0_countBetween_20 (lv_at hl 1 rfl) ?_
        refine lv_if_lt (tgt := 48) hx hb dX0_countBetween_22 (by decide) (fun c_22 => ?_) (fun c_22 => ?_)
        · skip
          refine lv_iload_n hx hb dX0_countBetween_48 rfl (lv_at hl 2 rfl) ?_
          exact W.iret (v := (nI (fq_cnt (fq_btw S p1 p2) cur))) hx hb hr (fun t ht hW => ⟨⟨(nI (fq_cnt (fq_btw S p1 p2) cur)), (), rfl, (fq_clN hc (fun j q1 q2 q3 q4 => absurd q4 (fq_clE2 hv c_22 j q1 q2 q3))), (by rw [ht]; exact hP), va_K.moved hW.alike hK, hD⟩, hS.F ht⟩) hS.2.2 dX0_countBetween_49
        · skip
          refine lv_iload hx hb dX0_countBetween_25 (lv_at hl 1 rfl) ?_
          refine lv_iload_n hx hb dX0_countBetween_27 rfl (lv_at hl 5 rfl) ?_
          refine lv_icmp_gt (tgt := 48) hx hb dX0_countBetween_28 (by decide) (fun c_28 => ?_) (fun c_28 => ?_)
          · skip
            refine lv_iload_n hx hb dX0_countBetween_48 rfl (lv_at hl 2 rfl) ?_
            exact W.iret (v := (nI (fq_cnt (fq_btw S p1 p2) cur))) hx hb hr (fun t ht hW => ⟨⟨(nI (fq_cnt (fq_btw S p1 p2) cur)), (), rfl, (fq_clN hc (fq_clE3 hv c_22 c_28)), (by rw [ht]; exact hP), va_K.moved hW.alike hK, hD⟩, hS.F ht⟩) hS.2.2 dX0_countBetween_49
          · skip
            refine lv_iinc (v := (nI (fq_cnt (fq_btw S p1 p2) cur)) + (1 : Int32)) (lv' := [(3, .int ((nI (fq_cnt (fq_btw S p1 p2) cur)) + (1 : Int32))), (5, .int (nI k)), (4, .int x), (0, .ref h0), (1, .int p1), (2, .int p2)]) hx hb dX0_countBetween_31 hl (k := 2) rfl rfl (by decide) rfl (fun ls hl => ?_)
            refine lv_aload_n hx hb dX0_countBetween_34 rfl (lv_at hl 3 rfl) ?_
            refine lv_iload hx hb dX0_countBetween_35 (lv_at hl 2 rfl) ?_
            have hFc := va_free (wc := fq_wq h0 a1 a2 a3 a4 d A0 mi mx ct) hD hS hA [0, 1, 2, 3, 4] rfl
            refine va_calli (va_runV (As := [.int x]) (rest := []) ⟨hx, hb, hml, hown, hts⟩ (fq_met_after l dC dI h0 a1 a2 a3 a4 d H.size A0 mi mx ct x S hI) (cwV 1 hts (lw_V q137 q105 q106 q12 q107) rfl rfl rfl (by decide +kernel) ⟨Nat.le_of_ble_eq_true rfl, Nat.le_of_ble_eq_true rfl⟩) ⟨fq_blind, va_recv hK hP (ci := 0) (q0 := 0) rfl rfl, fun U hU hW => ⟨rfl, by rw [hU], by rw [hU]; exact hP, va_K.moved hW.alike hK, hD.weaken (fun _ _ _ _ => trivial)⟩⟩ rfl rfl hl.1 rfl (lv_room (Nat.le_of_ble_eq_true rfl)) dX0_countBetween_37 ⟨Nat.le_of_ble_eq_true rfl, Nat.le_of_ble_eq_true rfl⟩) hS (fun q _ h => hFc q h) hFc (fun r_37 u_37 t H1 locs ht hvm hw hB hz1 hk1 hS => ?_)
            have hw : r_37 = (fq_after A0 mi mx ct x) := hw
            subst hw
            obtain ⟨hP1, hK1, hD1⟩ := hB
            rw [ht] at hP1
            have hP : va_P (dC, dI) vwCl (fq_wq h0 a1 a2 a3 a4 d A0 mi mx ct) H1 := hP1
            have hD : va_D A (fq_wq h0 a1 a2 a3 a4 d A0 mi mx ct) := hD1.weaken (fun _ _ _ h => hFc _ h)
            generalize H1 = H at hP hS ⊢
            refine lv_istore (lv' := [(4, .int (fq_after A0 mi mx ct x)), (3, .int ((nI (fq_cnt (fq_btw S p1 p2) cur)) + (1 : Int32))), (5, .int (nI k)), (0, .ref h0), (1, .int p1), (2, .int p2)]) hx hb dX0_countBetween_40 hl (by decide) rfl (fun ls hl => ?_)
            refine lv_iinc (v := nI (k + 1)) (lv' := [(5, .int (nI (k + 1))), (4, .int (fq_after A0 mi mx ct x)), (3, .int ((nI (fq_cnt (fq_btw S p1 p2) cur)) + (1 : Int32))), (0, .ref h0), (1, .int p1), (2, .int p2)]) hx hb dX0_countBetween_42 hl (k := 2) rfl (nI_1 _) (by decide) rfl (fun ls hl => ?_)
            refine lv_goto (tgt := 12) hx hb dX0_countBetween_45 (by decide) ?_
            obtain ⟨j, hj, hcj, ecn, hm⟩ := fq_cnS hI hv c_22 c_28
            exact ih (k + 1) (j + 1) _ (by omega) hj (by omega) hm H locs hP hD hS ls (by rw [ecn]; exact lv_sub hl [0, 1, 2, 3, 4, 5] rfl)
  refine lv_iconst (v := 0) hx hb dX0_countBetween_0 (by decide) ?_
  refine lv_istore_n (lv' := [(3, .int (0 : Int32)), (0, .ref h0), (1, .int p1), (2, .int p2)]) hx hb dX0_countBetween_1 rfl hl (by decide) rfl (fun ls hl => ?_)
  refine lv_aload_n hx hb dX0_countBetween_2 rfl (lv_at hl 1 rfl) ?_
  refine lv_iload_n hx hb dX0_countBetween_3 rfl (lv_at hl 2 rfl) ?_
  have hFc := va_free (wc := fq_wq h0 a1 a2 a3 a4 d A0 mi mx ct) hD hS hA [0, 1, 2, 3, 4] rfl
  refine va_calli (va_runV (As := [.int p1]) (rest := []) ⟨hx, hb, hml, hown, hts⟩ (fq_met_from l dC dI h0 a1 a2 a3 a4 d s.heap.size A0 mi mx ct p1 S hI) (cwV 1 hts (lw_V q133 q135 qs9 q12 q136) rfl rfl rfl (by decide +kernel) ⟨Nat.le_of_ble_eq_true rfl, Nat.le_of_ble_eq_true rfl⟩) ⟨fq_blind, va_recv hK hP (ci := 0) (q0 := 0) rfl rfl, fun U hU hW => ⟨rfl, by rw [hU], by rw [hU]; exact hP, va_K.moved hW.alike hK, hD.weaken (fun _ _ _ _ => trivial)⟩⟩ rfl rfl hl.1 rfl (lv_room (Nat.le_of_ble_eq_true rfl)) dX0_countBetween_4 ⟨Nat.le_of_ble_eq_true rfl, Nat.le_of_ble_eq_true rfl⟩) hS (fun q _ h => hFc q h) hFc (fun r_4 u_4 t H1 locs ht hvm hw hB hz1 hk1 hS => ?_)
  have hw : r_4 = (fq_from A0 mi mx ct p1) := hw
  subst hw
  obtain ⟨hP1, hK1, hD1⟩ := hB
  rw [ht] at hP1
  have hP : va_P (dC, dI) vwCl (fq_wq h0 a1 a2 a3 a4 d A0 mi mx ct) H1 := hP1
  have hD : va_D A (fq_wq h0 a1 a2 a3 a4 d A0 mi mx ct) := hD1.weaken (fun _ _ _ h => hFc _ h)
  generalize H1 = H at hP hS ⊢
  refine lv_istore (lv' := [(4, .int (fq_from A0 mi mx ct p1)), (3, .int (0 : Int32)), (0, .ref h0), (1, .int p1), (2, .int p2)]) hx hb dX0_countBetween_7 hl (by decide) rfl (fun ls hl => ?_)
  refine lv_iconst (v := 0) hx hb dX0_countBetween_9 (by decide) ?_
  refine lv_istore (lv' := [(5, .int (0 : Int32)), (4, .int (fq_from A0 mi mx ct p1)), (3, .int (0 : Int32)), (0, .ref h0), (1, .int p1), (2, .int p2)]) hx hb dX0_countBetween_10 hl (by decide) rfl (fun ls hl => ?_)
  exact key 257 0 0 _ (by omega) (by omega) (by omega) (fq_from_spec hI) _ _ hP hD hS ls (lv_sub hl [0, 1, 2, 3, 4, 5] rfl)
set_option maxHeartbeats 4000000 in
set_option maxRecDepth 100000 in
theorem fq_met_select (l : Launch) (dC : Nat → ClassId) (dI : Nat → Nat → Nat) (h0 a1 a2 a3 a4 : Nat) (d : ClassId) (sz : Nat) (A0 : fq_A4) (mi mx ct : Int32) (p1 : Int32) (S : Nat → Bool) (hI : fq_Inv S A0 mi mx ct) : Met l yX0_select (ws_ yX0_select cX0_select 4 (some .int)) ({ frames := 3, cells := 0, slots := 0, locals := 70 }) (va_Pc [.ref h0, .int p1] (fq_PQ dC dI sz (fq_wq h0 a1 a2 a3 a4 d A0 mi mx ct) [(d, .byte)])) (va_Qi (fun (r : Int32) (_ : Unit) => fq_Sel S p1 r) (fun _ => fq_BQ dC dI (va_A (fq_wq h0 a1 a2 a3 a4 d A0 mi mx ct) sz) (fq_wq h0 a1 a2 a3 a4 d A0 mi mx ct) [(d, .byte)]) (va_A (fq_wq h0 a1 a2 a3 a4 d A0 mi mx ct) sz)) 0 0 (va_A (fq_wq h0 a1 a2 a3 a4 d A0 mi mx ct) sz) := by
  refine Met.ofW (cc := cX0_select) (maxL := 4) (ret := (some .int)) (by decide) rfl ?_
  intro p e s m args below meth c s₁ B hml hv
  obtain ⟨rfl, hsz, hP, hK, hD0⟩ := hv
  have hx := B.exec
  have hb := B.bytes
  have hr := B.returns
  have hts := atoms_spec (ws := ws_ yX0_select cX0_select 4 (some .int)) B.pre
  have hts : ∀ w ∈ lw_all, w.before _ s = true := fun w h => hts w (List.mem_cons_of_mem _ h)
  have hown : s.vm.findClass RX0 = some m.cls := findClass_of_methodNamed B.named
  have hlocks := B.notSynchronized
  subst hsz
  have hD := hD0.self (sz := s.heap.size)
  generalize hAe : va_A (fq_wq h0 a1 a2 a3 a4 d A0 mi mx ct) s.heap.size = A at hD ⊢
  have hA : ∀ q : Nat, s.heap.size ≤ q → A q := fun q h => by rw [← hAe]; exact Or.inr h
  have hS : va_S A s.heap s.heap [] := va_S.rf
  have hP : va_P (dC, dI) vwCl (fq_wq h0 a1 a2 a3 a4 d A0 mi mx ct) s.heap := hP
  have hl := lv_entry ([.ref h0, .int p1]) (n := 4) (Nat.le_of_ble_eq_true rfl)
  rw [lg_entry_eq]
  generalize (lg_sl ([.ref h0, .int p1]) ++ List.replicate (4 - (lg_sl ([.ref h0, .int p1])).length) Slot.unset).toArray = ls0 at hl ⊢
  have hl : lv_has ls0 4 [(0, .ref h0), (1, .int p1)] := hl
  have key : ∀ (n : Nat) (i : Nat) (x : Int32), i ≤ 256 → 258 ≤ i + n → fq_SI S p1 i x → ∀ (H : Heap) (locs : List Loc), va_P (dC, dI) vwCl (fq_wq h0 a1 a2 a3 a4 d A0 mi mx ct) H → va_D A (fq_wq h0 a1 a2 a3 a4 d A0 mi mx ct) → va_S A s.heap H locs → ∀ ls : Array Slot, lv_has ls 4 [(3, .int (nI i)), (2, .int x), (0, .ref h0), (1, .int p1)] → W p l e (headSpec (ws_ yX0_select cX0_select 4 (some .int)) ({ frames := 3, cells := 0, slots := 0, locals := 70 })).room s m ([.ref h0, .int p1] : List Value).toArray below meth c H locs 0 0 (MQ below (va_Qi (fun (r : Int32) (_ : Unit) => fq_Sel S p1 r) (fun _ => fq_BQ dC dI A (fq_wq h0 a1 a2 a3 a4 d A0 mi mx ct) [(d, .byte)]) A) ([.ref h0, .int p1] : List Value).toArray s 0 0 A) (F0 m 15 ls []) := by
    intro n
    induction n with
    | zero =>
      intro i x h1 h2
      exact absurd h2 (by omega)
    | succ n ih =>
      intro i x hi hn hv H locs hP hD hS ls hl
      refine lv_iload_n hx hb dX0_select_15 rfl (lv_at hl 0 rfl) ?_
      refine lv_iload_n hx hb dX0_select_16 rfl (lv_at hl 3 rfl) ?_
      refine lv_icmp_ge (tgt := 36) hx hb dX0_select_17 (by decide) (fun c_17 => ?_) (fun c_17 => ?_)
      · skip
        refine lv_iload_n hx hb dX0_select_36 rfl (lv_at hl 1 rfl) ?_
        exact W.iret (v := x) hx hb hr (fun t ht hW => ⟨⟨x, (), rfl, (fq_slE1 hi hv c_17), (by rw [ht]; exact hP), va_K.moved hW.alike hK, hD⟩, hS.F ht⟩) hS.2.2 dX0_select_37
      · skip
        refine lv_iload_n hx hb dX0_select_20 rfl (lv_at hl 1 rfl) ?_
        refine lv_if_lt (tgt := 36) hx hb dX0_select_21 (by decide) (fun c_21 => ?_) (fun c_21 => ?_)
        · skip
          refine lv_iload_n hx hb dX0_select_36 rfl (lv_at hl 1 rfl) ?_
          exact W.iret (v := x) hx hb hr (fun t ht hW => ⟨⟨x, (), rfl, (fq_slE2 hi hv c_17 c_21), (by rw [ht]; exact hP), va_K.moved hW.alike hK, hD⟩, hS.F ht⟩) hS.2.2 dX0_select_37
        · skip
          refine lv_aload_n hx hb dX0_select_24 rfl (lv_at hl 2 rfl) ?_
          refine lv_iload_n hx hb dX0_select_25 rfl (lv_at hl 1 rfl) ?_
          have hFc := va_free (wc := fq_wq h0 a1 a2 a3 a4 d A0 mi mx ct) hD hS hA [0, 1, 2, 3, 4] rfl
          refine va_calli (va_runV (As := [.int x]) (rest := []) ⟨hx, hb, hml, hown, hts⟩ (fq_met_after l dC dI h0 a1 a2 a3 a4 d H.size A0 mi mx ct x S hI) (cwV 1 hts (lw_V q137 q105 q106 q12 q107) rfl rfl rfl (by decide +kernel) ⟨Nat.le_of_ble_eq_true rfl, Nat.le_of_ble_eq_true rfl⟩) ⟨fq_blind, va_recv hK hP (ci := 0) (q0 := 0) rfl rfl, fun U hU hW => ⟨rfl, by rw [hU], by rw [hU]; exact hP, va_K.moved hW.alike hK, hD.weaken (fun _ _ _ _ => trivial)⟩⟩ rfl rfl hl.1 rfl (lv_room (Nat.le_of_ble_eq_true rfl)) dX0_select_26 ⟨Nat.le_of_ble_eq_true rfl, Nat.le_of_ble_eq_true rfl⟩) hS (fun q _ h => hFc q h) hFc (fun r_26 u_26 t H1 locs ht hvm hw hB hz1 hk1 hS => ?_)
          have hw : r_26 = (fq_after A0 mi mx ct x) := hw
          subst hw
          obtain ⟨hP1, hK1, hD1⟩ := hB
          rw [ht] at hP1
          have hP : va_P (dC, dI) vwCl (fq_wq h0 a1 a2 a3 a4 d A0 mi mx ct) H1 := hP1
          have hD : va_D A (fq_wq h0 a1 a2 a3 a4 d A0 mi mx ct) := hD1.weaken (fun _ _ _ h => hFc _ h)
          generalize H1 = H at hP hS ⊢
          refine lv_istore_n (lv' := [(2, .int (fq_after A0 mi mx ct x)), (3, .int (nI i)), (0, .ref h0), (1, .int p1)]) hx hb dX0_select_29 rfl hl (by decide) rfl (fun ls hl => ?_)
          refine lv_iinc (v := nI (i + 1)) (lv' := [(3, .int (nI (i + 1))), (2, .int (fq_after A0 mi mx ct x)), (0, .ref h0), (1, .int p1)]) hx hb dX0_select_30 hl (k := 1) rfl (nI_1 _) (by decide) rfl (fun ls hl => ?_)
          refine lv_goto (tgt := 15) hx hb dX0_select_33 (by decide) ?_
          have hq := fq_slS hI hi hv c_17 c_21
          exact ih (i + 1) _ hq.1 (by omega) hq.2 H locs hP hD hS ls (lv_sub hl [0, 1, 2, 3] rfl)
  refine lv_iload_n hx hb dX0_select_0 rfl (lv_at hl 1 rfl) ?_
  refine lv_if_ge (tgt := 8) hx hb dX0_select_1 (by decide) (fun c_1 => ?_) (fun c_1 => ?_)
  · skip
    refine lv_aload_n hx hb dX0_select_8 rfl (lv_at hl 0 rfl) ?_
    refine va_get (D := (dC, dI)) (ci := 0) (v := .int mi) (C := RX0) (T := TX0) (N := 7) hx hb hts in_X0 hown hK hP 0 rfl rfl 4 (by decide) (hts _ q26) (fun _ h9 => h9) rfl dX0_select_9 ?_
    refine lv_istore_n (lv' := [(2, .int mi), (0, .ref h0), (1, .int p1)]) hx hb dX0_select_12 rfl hl (by decide) rfl (fun ls hl => ?_)
    refine lv_iconst (v := 0) hx hb dX0_select_13 (by decide) ?_
    refine lv_istore_n (lv' := [(3, .int (0 : Int32)), (2, .int mi), (0, .ref h0), (1, .int p1)]) hx hb dX0_select_14 rfl hl (by decide) rfl (fun ls hl => ?_)
    exact key 258 0 _ (by omega) (by omega) (fq_sl0 hI c_1) _ _ hP hD hS ls (lv_sub hl [0, 1, 2, 3] rfl)
  · skip
    refine lv_iconst (v := -1) hx hb dX0_select_4 (by decide) ?_
    refine lv_goto (tgt := 12) hx hb dX0_select_5 (by decide) ?_
    refine lv_istore_n (lv' := [(2, .int (-1 : Int32)), (0, .ref h0), (1, .int p1)]) hx hb dX0_select_12 rfl hl (by decide) rfl (fun ls hl => ?_)
    refine lv_iconst (v := 0) hx hb dX0_select_13 (by decide) ?_
    refine lv_istore_n (lv' := [(3, .int (0 : Int32)), (2, .int (-1 : Int32)), (0, .ref h0), (1, .int p1)]) hx hb dX0_select_14 rfl hl (by decide) rfl (fun ls hl => ?_)
    exact key 258 0 _ (by omega) (by omega) (fq_sl1 c_1) _ _ hP hD hS ls (lv_sub hl [0, 1, 2, 3] rfl)
set_option maxHeartbeats 4000000 in
set_option maxRecDepth 100000 in
theorem fq_met_gapFrom (l : Launch) (dC : Nat → ClassId) (dI : Nat → Nat → Nat) (h0 a1 a2 a3 a4 : Nat) (d : ClassId) (sz : Nat) (A0 : fq_A4) (mi mx ct : Int32) (p1 : Int32) (S : Nat → Bool) (hI : fq_Inv S A0 mi mx ct) : Met l yX0_gapFrom (ws_ yX0_gapFrom cX0_gapFrom 3 (some .int)) ({ frames := 2, cells := 0, slots := 0, locals := 43 }) (va_Pc [.ref h0, .int p1] (fq_PQ dC dI sz (fq_wq h0 a1 a2 a3 a4 d A0 mi mx ct) [(d, .byte)])) (va_Qi (fun (r : Int32) (_ : Unit) => fq_Gap S p1 r) (fun _ => fq_BQ dC dI (va_A (fq_wq h0 a1 a2 a3 a4 d A0 mi mx ct) sz) (fq_wq h0 a1 a2 a3 a4 d A0 mi mx ct) [(d, .byte)]) (va_A (fq_wq h0 a1 a2 a3 a4 d A0 mi mx ct) sz)) 0 0 (va_A (fq_wq h0 a1 a2 a3 a4 d A0 mi mx ct) sz) := by
  refine Met.ofW (cc := cX0_gapFrom) (maxL := 3) (ret := (some .int)) (by decide) rfl ?_
  intro p e s m args below meth c s₁ B hml hv
  obtain ⟨rfl, hsz, hP, hK, hD0⟩ := hv
  have hx := B.exec
  have hb := B.bytes
  have hr := B.returns
  have hts := atoms_spec (ws := ws_ yX0_gapFrom cX0_gapFrom 3 (some .int)) B.pre
  have hts : ∀ w ∈ lw_all, w.before _ s = true := fun w h => hts w (List.mem_cons_of_mem _ h)
  have hown : s.vm.findClass RX0 = some m.cls := findClass_of_methodNamed B.named
  have hlocks := B.notSynchronized
  subst hsz
  have hD := hD0.self (sz := s.heap.size)
  generalize hAe : va_A (fq_wq h0 a1 a2 a3 a4 d A0 mi mx ct) s.heap.size = A at hD ⊢
  have hA : ∀ q : Nat, s.heap.size ≤ q → A q := fun q h => by rw [← hAe]; exact Or.inr h
  have hS : va_S A s.heap s.heap [] := va_S.rf
  have hP : va_P (dC, dI) vwCl (fq_wq h0 a1 a2 a3 a4 d A0 mi mx ct) s.heap := hP
  have hl := lv_entry ([.ref h0, .int p1]) (n := 3) (Nat.le_of_ble_eq_true rfl)
  rw [lg_entry_eq]
  generalize (lg_sl ([.ref h0, .int p1]) ++ List.replicate (3 - (lg_sl ([.ref h0, .int p1])).length) Slot.unset).toArray = ls0 at hl ⊢
  have hl : lv_has ls0 3 [(0, .ref h0), (1, .int p1)] := hl
  have key : ∀ (n : Nat) (x : Int32), fq_gm x = n → fq_GJ S p1 x → ∀ (H : Heap) (locs : List Loc), va_P (dC, dI) vwCl (fq_wq h0 a1 a2 a3 a4 d A0 mi mx ct) H → va_D A (fq_wq h0 a1 a2 a3 a4 d A0 mi mx ct) → va_S A s.heap H locs → ∀ ls : Array Slot, lv_has ls 3 [(2, .int x), (0, .ref h0), (1, .int p1)] → W p l e (headSpec (ws_ yX0_gapFrom cX0_gapFrom 3 (some .int)) ({ frames := 2, cells := 0, slots := 0, locals := 43 })).room s m ([.ref h0, .int p1] : List Value).toArray below meth c H locs 0 0 (MQ below (va_Qi (fun (r : Int32) (_ : Unit) => fq_Gap S p1 r) (fun _ => fq_BQ dC dI A (fq_wq h0 a1 a2 a3 a4 d A0 mi mx ct) [(d, .byte)]) A) ([.ref h0, .int p1] : List Value).toArray s 0 0 A) (F0 m 12 ls []) := by
    intro n
    induction n using Nat.strongRecOn with
    | ind n ih =>
      intro x hn hv H locs hP hD hS ls hl
      refine lv_iload_n hx hb dX0_gapFrom_12 rfl (lv_at hl 0 rfl) ?_
      refine lv_sipush (v := 256) hx hb dX0_gapFrom_13 (by decide) ?_
      refine lv_icmp_ge (tgt := 33) hx hb dX0_gapFrom_16 (by decide) (fun c_16 => ?_) (fun c_16 => ?_)
      · skip
        refine lv_iload_n hx hb dX0_gapFrom_33 rfl (lv_at hl 0 rfl) ?_
        refine lv_sipush (v := 256) hx hb dX0_gapFrom_34 (by decide) ?_
        refine lv_icmp_ge (tgt := 44) hx hb dX0_gapFrom_37 (by decide) (fun c_37 => ?_) (fun c_37 => ?_)
        · skip
          refine lv_iconst (v := -1) hx hb dX0_gapFrom_44 (by decide) ?_
          exact W.iret (v := (-1 : Int32)) hx hb hr (fun t ht hW => ⟨⟨(-1 : Int32), (), rfl, (fq_gpE1 hv c_16), (by rw [ht]; exact hP), va_K.moved hW.alike hK, hD⟩, hS.F ht⟩) hS.2.2 dX0_gapFrom_45
        · skip
          exact absurd c_16 c_37
      · skip
        refine lv_aload_n hx hb dX0_gapFrom_19 rfl (lv_at hl 1 rfl) ?_
        refine lv_iload_n hx hb dX0_gapFrom_20 rfl (lv_at hl 0 rfl) ?_
        have hFc := va_free (wc := fq_wq h0 a1 a2 a3 a4 d A0 mi mx ct) hD hS hA [0, 1, 2, 3, 4] rfl
        refine va_calli (va_runV (As := [.int x]) (rest := []) ⟨hx, hb, hml, hown, hts⟩ (fq_met_member l dC dI h0 a1 a2 a3 a4 d H.size A0 mi mx ct x ) (cwV 1 hts (lw_V q49 q50 q51 q12 q52) rfl rfl rfl (by decide +kernel) ⟨Nat.le_of_ble_eq_true rfl, Nat.le_of_ble_eq_true rfl⟩) ⟨fq_blind, va_recv hK hP (ci := 0) (q0 := 0) rfl rfl, fun U hU hW => ⟨rfl, by rw [hU], by rw [hU]; exact hP, va_K.moved hW.alike hK, hD.weaken (fun _ _ _ _ => trivial)⟩⟩ rfl rfl hl.1 rfl (lv_room (Nat.le_of_ble_eq_true rfl)) dX0_gapFrom_21 ⟨Nat.le_of_ble_eq_true rfl, Nat.le_of_ble_eq_true rfl⟩) hS (fun q _ h => hFc q h) hFc (fun r_21 u_21 t H1 locs ht hvm hw hB hz1 hk1 hS => ?_)
        have hw : r_21 = (fq_member A0 mi mx ct x) := hw
        subst hw
        obtain ⟨hP1, hK1, hD1⟩ := hB
        rw [ht] at hP1
        have hP : va_P (dC, dI) vwCl (fq_wq h0 a1 a2 a3 a4 d A0 mi mx ct) H1 := hP1
        have hD : va_D A (fq_wq h0 a1 a2 a3 a4 d A0 mi mx ct) := hD1.weaken (fun _ _ _ h => hFc _ h)
        generalize H1 = H at hP hS ⊢
        refine lv_if_eq (tgt := 33) hx hb dX0_gapFrom_24 (by decide) (fun c_24 => ?_) (fun c_24 => ?_)
        · skip
          refine lv_iload_n hx hb dX0_gapFrom_33 rfl (lv_at hl 0 rfl) ?_
          refine lv_sipush (v := 256) hx hb dX0_gapFrom_34 (by decide) ?_
          refine lv_icmp_ge (tgt := 44) hx hb dX0_gapFrom_37 (by decide) (fun c_37 => ?_) (fun c_37 => ?_)
          · skip
            exact absurd c_37 c_16
          · skip
            refine lv_iload_n hx hb dX0_gapFrom_40 rfl (lv_at hl 0 rfl) ?_
            refine lv_goto (tgt := 45) hx hb dX0_gapFrom_41 (by decide) ?_
            exact W.iret (v := x) hx hb hr (fun t ht hW => ⟨⟨x, (), rfl, (fq_gpE2 hI hv c_16 c_24), (by rw [ht]; exact hP), va_K.moved hW.alike hK, hD⟩, hS.F ht⟩) hS.2.2 dX0_gapFrom_45
        · skip
          refine lv_iinc (v := x + (1 : Int32)) (lv' := [(2, .int (x + (1 : Int32))), (0, .ref h0), (1, .int p1)]) hx hb dX0_gapFrom_27 hl (k := 0) rfl rfl (by decide) rfl (fun ls hl => ?_)
          refine lv_goto (tgt := 12) hx hb dX0_gapFrom_30 (by decide) ?_
          exact ih _ (fq_gp1 hn hv c_16) _ rfl (fq_gp2 hI hv c_16 c_24) H locs hP hD hS ls (lv_sub hl [0, 1, 2] rfl)
  refine lv_iload_n hx hb dX0_gapFrom_0 rfl (lv_at hl 1 rfl) ?_
  refine lv_if_ge (tgt := 10) hx hb dX0_gapFrom_1 (by decide) (fun c_1 => ?_) (fun c_1 => ?_)
  · skip
    refine lv_iload_n hx hb dX0_gapFrom_10 rfl (lv_at hl 1 rfl) ?_
    refine lv_istore_n (lv' := [(2, .int p1), (0, .ref h0), (1, .int p1)]) hx hb dX0_gapFrom_11 rfl hl (by decide) rfl (fun ls hl => ?_)
    exact key _ _ rfl (fq_gp0a c_1) _ _ hP hD hS ls (lv_sub hl [0, 1, 2] rfl)
  · skip
    refine lv_sipush (v := 256) hx hb dX0_gapFrom_4 (by decide) ?_
    refine lv_goto (tgt := 11) hx hb dX0_gapFrom_7 (by decide) ?_
    refine lv_istore_n (lv' := [(2, .int (256 : Int32)), (0, .ref h0), (1, .int p1)]) hx hb dX0_gapFrom_11 rfl hl (by decide) rfl (fun ls hl => ?_)
    exact key _ _ rfl (fq_gp0b c_1) _ _ hP hD hS ls (lv_sub hl [0, 1, 2] rfl)
set_option maxHeartbeats 4000000 in
set_option maxRecDepth 100000 in
theorem fq_met_deleteBetween (l : Launch) (dC : Nat → ClassId) (dI : Nat → Nat → Nat) (h0 a1 a2 a3 a4 : Nat) (d : ClassId) (sz : Nat) (A0 : fq_A4) (mi mx ct : Int32) (p1 p2 : Int32) (S : Nat → Bool) (hI : fq_Inv S A0 mi mx ct) : Met l yX0_deleteBetween (ws_ yX0_deleteBetween cX0_deleteBetween 6 (some .int)) ({ frames := 4, cells := 0, slots := 0, locals := 91 }) (va_Pc [.ref h0, .int p1, .int p2] (fq_PQ dC dI sz (fq_wq h0 a1 a2 a3 a4 d A0 mi mx ct) [(d, .byte)])) (va_Qi (fun (r : Int32) (u : fq_A7) => r = nI (fq_cnt (fq_btw S p1 p2) 256) ∧ fq_Inv (fq_dbI S p1 p2 256) u.1 u.2.1 u.2.2.1 u.2.2.2) (fun u => fq_BQ dC dI (va_A (fq_wq h0 a1 a2 a3 a4 d A0 mi mx ct) sz) (fq_wq h0 a1 a2 a3 a4 d u.1 u.2.1 u.2.2.1 u.2.2.2) [(d, .byte)]) (va_A (fq_wq h0 a1 a2 a3 a4 d A0 mi mx ct) sz)) 0 0 (va_A (fq_wq h0 a1 a2 a3 a4 d A0 mi mx ct) sz) := by
  refine Met.ofW (cc := cX0_deleteBetween) (maxL := 6) (ret := (some .int)) (by decide) rfl ?_
  intro p e s m args below meth c s₁ B hml hv
  obtain ⟨rfl, hsz, hP, hK, hD0⟩ := hv
  have hx := B.exec
  have hb := B.bytes
  have hr := B.returns
  have hts := atoms_spec (ws := ws_ yX0_deleteBetween cX0_deleteBetween 6 (some .int)) B.pre
  have hts : ∀ w ∈ lw_all, w.before _ s = true := fun w h => hts w (List.mem_cons_of_mem _ h)
  have hown : s.vm.findClass RX0 = some m.cls := findClass_of_methodNamed B.named
  have hlocks := B.notSynchronized
  subst hsz
  have hD := hD0.self (sz := s.heap.size)
  generalize hAe : va_A (fq_wq h0 a1 a2 a3 a4 d A0 mi mx ct) s.heap.size = A at hD ⊢
  have hA : ∀ q : Nat, s.heap.size ≤ q → A q := fun q h => by rw [← hAe]; exact Or.inr h
  have hS : va_S A s.heap s.heap [] := va_S.rf
  have hP : va_P (dC, dI) vwCl (fq_wq h0 a1 a2 a3 a4 d A0 mi mx ct) s.heap := hP
  have hl := lv_entry ([.ref h0, .int p1, .int p2]) (n := 6) (Nat.le_of_ble_eq_true rfl)
  rw [lg_entry_eq]
  generalize (lg_sl ([.ref h0, .int p1, .int p2]) ++ List.replicate (6 - (lg_sl ([.ref h0, .int p1, .int p2])).length) Slot.unset).toArray = ls0 at hl ⊢
  have hl : lv_has ls0 6 [(0, .ref h0), (1, .int p1), (2, .int p2)] := hl
  have key : ∀ (n : Nat) (k cur : Nat) (x : Int32) (D : fq_A4) (m1 m2 m3 : Int32), k ≤ cur → cur ≤ 256 → 257 ≤ cur + n → fq_Mn (fq_fr S p1 cur) 256 x → fq_Inv (fq_dbI S p1 p2 cur) D m1 m2 m3 → ∀ (H : Heap) (locs : List Loc), va_P (dC, dI) vwCl (fq_wq h0 a1 a2 a3 a4 d D m1 m2 m3) H → va_D A (fq_wq h0 a1 a2 a3 a4 d D m1 m2 m3) → va_S A s.heap H locs → ∀ ls : Array Slot, lv_has ls 6 [(5, .int (nI k)), (4, .int x), (3, .int (nI (fq_cnt (fq_btw S p1 p2) cur))), (0, .ref h0), (1, .int p1), (2, .int p2)] → W p l e (headSpec (ws_ yX0_deleteBetween cX0_deleteBetween 6 (some .int)) ({ frames := 4, cells := 0, slots := 0, locals := 91 })).room s m ([.ref h0, .int p1, .int p2] : List Value).toArray below meth c H locs 0 0 (MQ below (va_Qi (fun (r : Int32) (u : fq_A7) => r = nI (fq_cnt (fq_btw S p1 p2) 256) ∧ fq_Inv (fq_dbI S p1 p2 256) u.1 u.2.1 u.2.2.1 u.2.2.2) (fun u => fq_BQ dC dI A (fq_wq h0 a1 a2 a3 a4 d u.1 u.2.1 u.2.2.1 u.2.2.2) [(d, .byte)]) A) ([.ref h0, .int p1, .int p2] : List Value).toArray s 0 0 A) (F0 m 12 ls []) := by
    intro n
    induction n with
    | zero =>
      intro k cur x D m1 m2 m3 h0 h1 h2
      exact absurd h2 (by omega)
    | succ n ih =>
      intro k cur x D m1 m2 m3 hk hc hn hv hI H locs hP hD hS ls hl
      refine lv_iload hx hb dX0_deleteBetween_12 (lv_at hl 0 rfl) ?_
      refine lv_sipush (v := 256) hx hb dX0_deleteBetween_14 (by decide) ?_
      refine lv_icmp_ge (tgt := 55) hx hb dX0_deleteBetween_17 (by decide) (fun c_17 => ?_) (fun c_17 => ?_)
      · skip
        refine lv_iload_n hx hb dX0_deleteBetween_55 rfl (lv_at hl 2 rfl) ?_
        have e6 : cur = 256 := fq_clE1 (S := S) (a := p1) (b := p2) hk hc c_17
        exact W.iret (v := (nI (fq_cnt (fq_btw S p1 p2) cur))) hx hb hr (fun t ht hW => ⟨⟨(nI (fq_cnt (fq_btw S p1 p2) cur)), (D, m1, m2, m3), rfl, ⟨(by rw [e6]), (by rw [e6] at hI; exact hI)⟩, (by rw [ht]; exact hP), va_K.moved hW.alike hK, hD⟩, hS.F ht⟩) hS.2.2 dX0_deleteBetween_56
      · skip
        refine lv_iload hx hb dX0_deleteBetween_20 (lv_at hl 1 rfl) ?_
        refine lv_if_lt (tgt := 55) hx hb dX0_deleteBetween_22 (by decide) (fun c_22 => ?_) (fun c_22 => ?_)
        · skip
          refine lv_iload_n hx hb dX0_deleteBetween_55 rfl (lv_at hl 2 rfl) ?_
          exact W.iret (v := (nI (fq_cnt (fq_btw S p1 p2) cur))) hx hb hr (fun t ht hW => ⟨⟨(nI (fq_cnt (fq_btw S p1 p2) cur)), (D, m1, m2, m3), rfl, ⟨fq_clN hc (fun j q1 q2 q3 q4 => absurd q4 (fq_clE2 hv c_22 j q1 q2 q3)), fq_dlN hc hI (fun j q1 q2 q3 q4 => absurd q4 (fq_clE2 hv c_22 j q1 q2 q3))⟩, (by rw [ht]; exact hP), va_K.moved hW.alike hK, hD⟩, hS.F ht⟩) hS.2.2 dX0_deleteBetween_56
        · skip
          refine lv_iload hx hb dX0_deleteBetween_25 (lv_at hl 1 rfl) ?_
          refine lv_iload_n hx hb dX0_deleteBetween_27 rfl (lv_at hl 5 rfl) ?_
          refine lv_icmp_gt (tgt := 55) hx hb dX0_deleteBetween_28 (by decide) (fun c_28 => ?_) (fun c_28 => ?_)
          · skip
            refine lv_iload_n hx hb dX0_deleteBetween_55 rfl (lv_at hl 2 rfl) ?_
            exact W.iret (v := (nI (fq_cnt (fq_btw S p1 p2) cur))) hx hb hr (fun t ht hW => ⟨⟨(nI (fq_cnt (fq_btw S p1 p2) cur)), (D, m1, m2, m3), rfl, ⟨fq_clN hc (fq_clE3 hv c_22 c_28), fq_dlN hc hI (fq_clE3 hv c_22 c_28)⟩, (by rw [ht]; exact hP), va_K.moved hW.alike hK, hD⟩, hS.F ht⟩) hS.2.2 dX0_deleteBetween_56
          · skip
            refine lv_aload_n hx hb dX0_deleteBetween_31 rfl (lv_at hl 3 rfl) ?_
            refine lv_iload hx hb dX0_deleteBetween_32 (lv_at hl 1 rfl) ?_
            have hFc := va_free (wc := fq_wq h0 a1 a2 a3 a4 d D m1 m2 m3) hD hS hA [0, 1, 2, 3, 4] rfl
            refine va_calli (va_runV (As := [.int x]) (rest := []) ⟨hx, hb, hml, hown, hts⟩ (fq_met_delete l dC dI h0 a1 a2 a3 a4 d H.size D m1 m2 m3 x _ hI) (cwV 1 hts (lw_V q124 q66 q67 q12 q68) rfl rfl rfl (by decide +kernel) ⟨Nat.le_of_ble_eq_true rfl, Nat.le_of_ble_eq_true rfl⟩) ⟨fq_blind, va_recv hK hP (ci := 0) (q0 := 0) rfl rfl, fun U hU hW => ⟨rfl, by rw [hU], by rw [hU]; exact hP, va_K.moved hW.alike hK, hD.weaken (fun _ _ _ _ => trivial)⟩⟩ rfl rfl hl.1 rfl (lv_room (Nat.le_of_ble_eq_true rfl)) dX0_deleteBetween_34 ⟨Nat.le_of_ble_eq_true rfl, Nat.le_of_ble_eq_true rfl⟩) hS (fun q _ h => hFc q h) hFc (fun r_34 u_34 t H1 locs ht hvm hw hB hz1 hk1 hS => ?_)
            have hw1 : r_34 = (fq_deleteR D m1 m2 m3 x) := hw.1
            have hw2 : u_34 = (fq_deleteU D m1 m2 m3 x) := hw.2
            subst hw1
            subst hw2
            obtain ⟨hP1, hK1, hD1⟩ := hB
            rw [ht] at hP1
            have hP : va_P (dC, dI) vwCl (fq_wq h0 a1 a2 a3 a4 d ((fq_deleteU D m1 m2 m3 x).1) ((fq_deleteU D m1 m2 m3 x).2.1) ((fq_deleteU D m1 m2 m3 x).2.2.1) ((fq_deleteU D m1 m2 m3 x).2.2.2)) H1 := hP1
            have hD : va_D A (fq_wq h0 a1 a2 a3 a4 d ((fq_deleteU D m1 m2 m3 x).1) ((fq_deleteU D m1 m2 m3 x).2.1) ((fq_deleteU D m1 m2 m3 x).2.2.1) ((fq_deleteU D m1 m2 m3 x).2.2.2)) := hD1.weaken (fun _ _ _ h => hFc _ h)
            generalize H1 = H at hP hS ⊢
            refine lv_pop hx hb dX0_deleteBetween_37 rfl ?_
            refine lv_iinc (v := (nI (fq_cnt (fq_btw S p1 p2) cur)) + (1 : Int32)) (lv' := [(3, .int ((nI (fq_cnt (fq_btw S p1 p2) cur)) + (1 : Int32))), (5, .int (nI k)), (4, .int x), (0, .ref h0), (1, .int p1), (2, .int p2)]) hx hb dX0_deleteBetween_38 hl (k := 2) rfl rfl (by decide) rfl (fun ls hl => ?_)
            refine lv_aload_n hx hb dX0_deleteBetween_41 rfl (lv_at hl 3 rfl) ?_
            refine lv_iload hx hb dX0_deleteBetween_42 (lv_at hl 2 rfl) ?_
            have hFc := va_free (wc := fq_wq h0 a1 a2 a3 a4 d ((fq_deleteU D m1 m2 m3 x).1) ((fq_deleteU D m1 m2 m3 x).2.1) ((fq_deleteU D m1 m2 m3 x).2.2.1) ((fq_deleteU D m1 m2 m3 x).2.2.2)) hD hS hA [0, 1, 2, 3, 4] rfl
            refine va_calli (va_runV (As := [.int x]) (rest := []) ⟨hx, hb, hml, hown, hts⟩ (fq_met_after l dC dI h0 a1 a2 a3 a4 d H.size ((fq_deleteU D m1 m2 m3 x).1) ((fq_deleteU D m1 m2 m3 x).2.1) ((fq_deleteU D m1 m2 m3 x).2.2.1) ((fq_deleteU D m1 m2 m3 x).2.2.2) x _ (fq_delU_spec hI)) (cwV 1 hts (lw_V q137 q105 q106 q12 q107) rfl rfl rfl (by decide +kernel) ⟨Nat.le_of_ble_eq_true rfl, Nat.le_of_ble_eq_true rfl⟩) ⟨fq_blind, va_recv hK hP (ci := 0) (q0 := 0) rfl rfl, fun U hU hW => ⟨rfl, by rw [hU], by rw [hU]; exact hP, va_K.moved hW.alike hK, hD.weaken (fun _ _ _ _ => trivial)⟩⟩ rfl rfl hl.1 rfl (lv_room (Nat.le_of_ble_eq_true rfl)) dX0_deleteBetween_44 ⟨Nat.le_of_ble_eq_true rfl, Nat.le_of_ble_eq_true rfl⟩) hS (fun q _ h => hFc q h) hFc (fun r_44 u_44 t H1 locs ht hvm hw hB hz1 hk1 hS => ?_)
            have hw : r_44 = (fq_after ((fq_deleteU D m1 m2 m3 x).1) ((fq_deleteU D m1 m2 m3 x).2.1) ((fq_deleteU D m1 m2 m3 x).2.2.1) ((fq_deleteU D m1 m2 m3 x).2.2.2) x) := hw
            subst hw
            obtain ⟨hP1, hK1, hD1⟩ := hB
            rw [ht] at hP1
            have hP : va_P (dC, dI) vwCl (fq_wq h0 a1 a2 a3 a4 d ((fq_deleteU D m1 m2 m3 x).1) ((fq_deleteU D m1 m2 m3 x).2.1) ((fq_deleteU D m1 m2 m3 x).2.2.1) ((fq_deleteU D m1 m2 m3 x).2.2.2)) H1 := hP1
            have hD : va_D A (fq_wq h0 a1 a2 a3 a4 d ((fq_deleteU D m1 m2 m3 x).1) ((fq_deleteU D m1 m2 m3 x).2.1) ((fq_deleteU D m1 m2 m3 x).2.2.1) ((fq_deleteU D m1 m2 m3 x).2.2.2)) := hD1.weaken (fun _ _ _ h => hFc _ h)
            generalize H1 = H at hP hS ⊢
            refine lv_istore (lv' := [(4, .int (fq_after ((fq_deleteU D m1 m2 m3 x).1) ((fq_deleteU D m1 m2 m3 x).2.1) ((fq_deleteU D m1 m2 m3 x).2.2.1) ((fq_deleteU D m1 m2 m3 x).2.2.2) x)), (3, .int ((nI (fq_cnt (fq_btw S p1 p2) cur)) + (1 : Int32))), (5, .int (nI k)), (0, .ref h0), (1, .int p1), (2, .int p2)]) hx hb dX0_deleteBetween_47 hl (by decide) rfl (fun ls hl => ?_)
            refine lv_iinc (v := nI (k + 1)) (lv' := [(5, .int (nI (k + 1))), (4, .int (fq_after ((fq_deleteU D m1 m2 m3 x).1) ((fq_deleteU D m1 m2 m3 x).2.1) ((fq_deleteU D m1 m2 m3 x).2.2.1) ((fq_deleteU D m1 m2 m3 x).2.2.2) x)), (3, .int ((nI (fq_cnt (fq_btw S p1 p2) cur)) + (1 : Int32))), (0, .ref h0), (1, .int p1), (2, .int p2)]) hx hb dX0_deleteBetween_49 hl (k := 2) rfl (nI_1 _) (by decide) rfl (fun ls hl => ?_)
            refine lv_goto (tgt := 12) hx hb dX0_deleteBetween_52 (by decide) ?_
            obtain ⟨j, hj, hcj, ecn, hm, hI2⟩ := fq_dlS hI hv c_22 c_28
            exact ih (k + 1) (j + 1) _ _ _ _ _ (by omega) hj (by omega) hm hI2 H locs hP hD hS ls (by rw [ecn]; exact lv_sub hl [0, 1, 2, 3, 4, 5] rfl)
  refine lv_iconst (v := 0) hx hb dX0_deleteBetween_0 (by decide) ?_
  refine lv_istore_n (lv' := [(3, .int (0 : Int32)), (0, .ref h0), (1, .int p1), (2, .int p2)]) hx hb dX0_deleteBetween_1 rfl hl (by decide) rfl (fun ls hl => ?_)
  refine lv_aload_n hx hb dX0_deleteBetween_2 rfl (lv_at hl 1 rfl) ?_
  refine lv_iload_n hx hb dX0_deleteBetween_3 rfl (lv_at hl 2 rfl) ?_
  have hFc := va_free (wc := fq_wq h0 a1 a2 a3 a4 d A0 mi mx ct) hD hS hA [0, 1, 2, 3, 4] rfl
  refine va_calli (va_runV (As := [.int p1]) (rest := []) ⟨hx, hb, hml, hown, hts⟩ (fq_met_from l dC dI h0 a1 a2 a3 a4 d s.heap.size A0 mi mx ct p1 S hI) (cwV 1 hts (lw_V q133 q135 qs9 q12 q136) rfl rfl rfl (by decide +kernel) ⟨Nat.le_of_ble_eq_true rfl, Nat.le_of_ble_eq_true rfl⟩) ⟨fq_blind, va_recv hK hP (ci := 0) (q0 := 0) rfl rfl, fun U hU hW => ⟨rfl, by rw [hU], by rw [hU]; exact hP, va_K.moved hW.alike hK, hD.weaken (fun _ _ _ _ => trivial)⟩⟩ rfl rfl hl.1 rfl (lv_room (Nat.le_of_ble_eq_true rfl)) dX0_deleteBetween_4 ⟨Nat.le_of_ble_eq_true rfl, Nat.le_of_ble_eq_true rfl⟩) hS (fun q _ h => hFc q h) hFc (fun r_4 u_4 t H1 locs ht hvm hw hB hz1 hk1 hS => ?_)
  have hw : r_4 = (fq_from A0 mi mx ct p1) := hw
  subst hw
  obtain ⟨hP1, hK1, hD1⟩ := hB
  rw [ht] at hP1
  have hP : va_P (dC, dI) vwCl (fq_wq h0 a1 a2 a3 a4 d A0 mi mx ct) H1 := hP1
  have hD : va_D A (fq_wq h0 a1 a2 a3 a4 d A0 mi mx ct) := hD1.weaken (fun _ _ _ h => hFc _ h)
  generalize H1 = H at hP hS ⊢
  refine lv_istore (lv' := [(4, .int (fq_from A0 mi mx ct p1)), (3, .int (0 : Int32)), (0, .ref h0), (1, .int p1), (2, .int p2)]) hx hb dX0_deleteBetween_7 hl (by decide) rfl (fun ls hl => ?_)
  refine lv_iconst (v := 0) hx hb dX0_deleteBetween_9 (by decide) ?_
  refine lv_istore (lv' := [(5, .int (0 : Int32)), (4, .int (fq_from A0 mi mx ct p1)), (3, .int (0 : Int32)), (0, .ref h0), (1, .int p1), (2, .int p2)]) hx hb dX0_deleteBetween_10 hl (by decide) rfl (fun ls hl => ?_)
  exact key 257 0 0 _ A0 mi mx ct (by omega) (by omega) (by omega) (fq_from_spec hI) (by rw [fq_dbI0]; exact hI) _ _ hP hD hS ls (lv_sub hl [0, 1, 2, 3, 4, 5] rfl)
end
section
theorem fq_lt17 {i : Nat} (c : ¬ (16 : Int32) < nI i) (h : i ≤ 17) : i < 17 := by
  rcases Nat.lt_or_ge i 17 with q | q
  · exact q
  · have : i = 17 := by omega
    subst this
    exact absurd (by decide) c
theorem fq_eq17 {i : Nat} (c : (16 : Int32) < nI i) (h : i ≤ 17) : i = 17 := by
  rcases Nat.lt_or_ge i 17 with q | q
  · exact absurd c (show ¬ (16 : Int32) < nI i from nI_nlt (a := 16) (b := i) (by omega) (by decide))
  · omega
set_option maxHeartbeats 4000000 in
set_option maxRecDepth 100000 in
theorem fq_met_init (l : Launch) (dC : Nat → ClassId) (dI : Nat → Nat → Nat) (h0 : Nat) (sz : Nat) : Met l yX0_init (ws_ yX0_init cX0_init 2 none) ({ frames := 1, cells := 4, slots := 119, locals := 12 }) (va_Pc [.ref h0] (fq_PQ dC dI sz [(h0, .inr (0, [.null, .null, .null, .null, .int 0, .int 0, .int 0]))] [])) (va_Qv (fun (_ : Nat × Nat × Nat × Nat × ClassId) => True) (fun u => fq_BQ dC dI (va_A [(h0, .inr (0, [.null, .null, .null, .null, .int 0, .int 0, .int 0]))] sz) (fq_wq h0 u.1 u.2.1 u.2.2.1 u.2.2.2.1 u.2.2.2.2 fq_Ai (-1) (-1) 0) [(u.2.2.2.2, .byte)]) (va_A [(h0, .inr (0, [.null, .null, .null, .null, .int 0, .int 0, .int 0]))] sz)) 4 119 (va_A [(h0, .inr (0, [.null, .null, .null, .null, .int 0, .int 0, .int 0]))] sz) := by
  refine Met.ofW (cc := cX0_init) (maxL := 2) (ret := none) (by decide) rfl ?_
  intro p e s m args below meth c s₁ B hml hv
  obtain ⟨rfl, hsz, hP, hK, hD0⟩ := hv
  have hx := B.exec
  have hb := B.bytes
  have hr := B.returns
  have hts := atoms_spec (ws := ws_ yX0_init cX0_init 2 none) B.pre
  have hts : ∀ w ∈ lw_all, w.before _ s = true := fun w h => hts w (List.mem_cons_of_mem _ h)
  have hown : s.vm.findClass RX0 = some m.cls := findClass_of_methodNamed B.named
  have hlocks := B.notSynchronized
  have hin : meth.name = "<init>" := (name_of_methodNamed B.named B.method).1
  subst hsz
  have hD := hD0.self (sz := s.heap.size)
  generalize hAe : va_A ([(h0, .inr (0, [.null, .null, .null, .null, .int 0, .int 0, .int 0]))]) s.heap.size = A at hD ⊢
  have hA : ∀ q : Nat, s.heap.size ≤ q → A q := fun q h => by rw [← hAe]; exact Or.inr h
  have hS : va_S A s.heap s.heap [] := va_S.rf
  have hP : va_P (dC, dI) vwCl ([(h0, .inr (0, [.null, .null, .null, .null, .int 0, .int 0, .int 0]))]) s.heap := hP
  have hl := lv_entry ([.ref h0]) (n := 2) (Nat.le_of_ble_eq_true rfl)
  rw [lg_entry_eq]
  generalize (lg_sl ([.ref h0]) ++ List.replicate (2 - (lg_sl ([.ref h0])).length) Slot.unset).toArray = ls0 at hl ⊢
  have hl : lv_has ls0 2 [(0, .ref h0)] := hl
  refine lv_aload_n hx hb dX0_init_0 rfl (lv_at hl 0 rfl) ?_
  refine W.objInit hx hb hown (hts _ q19) (hts _ q20) (hts _ q21) rfl (by rw [hml]; exact hl.1) rfl dX0_init_1 (Nat.le_of_ble_eq_true rfl) (Nat.le_of_ble_eq_true rfl) ?_
  refine W.eq (g2 := F0 m 4 ls0 []) rfl ?_
  refine lv_aload_n hx hb dX0_init_4 rfl (lv_at hl 0 rfl) ?_
  refine lv_bipush (v := 17) hx hb dX0_init_5 (by decide) ?_
  refine va_newa (atype := .byte) (ty := .byte) (a0 := (17, .inl (fun _ => (0 : Int32)))) (N' := 17) (n := 17) hx hb (hts _ q44) rfl hK hP hD hS hA (fun cA => vp_cell_i cA _ _) (by decide) (by decide) (Nat.le_of_ble_eq_true rfl) (Nat.le_of_ble_eq_true rfl) (Nat.le_of_ble_eq_true rfl) dX0_init_7 (fun a1 d1 H hK hP hD hS => ?_)
  have hP : va_P (dC, dI) vwCl [(h0, .inr (0, [.null, .null, .null, .null, .int 0, .int 0, .int 0])), (a1, .inl (d1, 17, .inl (fun _ => (0 : Int32))))] H := hP
  have hD : va_D A [(h0, .inr (0, [.null, .null, .null, .null, .int 0, .int 0, .int 0])), (a1, .inl (d1, 17, .inl (fun _ => (0 : Int32))))] := hD
  have hK : va_K (dC, dI) vwCl [(d1, .byte)] s := hK
  refine W.widen (k := 1) (n := 17) (by omega) (by omega) ?_
  refine va_putF (D := (dC, dI)) (ci := 0) (v := .ref a1) (ty := .array .byte) (C := RX0) (T := TX0) (N := 7) hx hb hts in_X0 tyX0 tyX0_ok nmX0 hown hK hP hD hS 0 rfl rfl 0 (by decide) (hts _ q22) (fun _ h9 => h9) rfl hin rfl (by decide +kernel) rfl rfl (Nat.le_of_ble_eq_true rfl) dX0_init_9 (fun H locs hP hD hS => ?_)
  have hP : va_P (dC, dI) vwCl [(h0, .inr (0, [.ref a1, .null, .null, .null, .int 0, .int 0, .int 0])), (a1, .inl (d1, 17, .inl (fun _ => (0 : Int32))))] H := hP
  have hD : va_D A [(h0, .inr (0, [.ref a1, .null, .null, .null, .int 0, .int 0, .int 0])), (a1, .inl (d1, 17, .inl (fun _ => (0 : Int32))))] := hD
  refine lv_aload_n hx hb dX0_init_12 rfl (lv_at hl 0 rfl) ?_
  refine lv_bipush (v := 17) hx hb dX0_init_13 (by decide) ?_
  refine va_newa (atype := .byte) (ty := .byte) (a0 := (17, .inl (fun _ => (0 : Int32)))) (N' := 17) (n := 17) hx hb (hts _ q44) rfl hK hP hD hS hA (fun cA => vp_cell_i cA _ _) (by decide) (by decide) (Nat.le_of_ble_eq_true rfl) (Nat.le_of_ble_eq_true rfl) (Nat.le_of_ble_eq_true rfl) dX0_init_15 (fun a2 d2 H hK hP hD hS => ?_)
  have hP : va_P (dC, dI) vwCl [(h0, .inr (0, [.ref a1, .null, .null, .null, .int 0, .int 0, .int 0])), (a1, .inl (d1, 17, .inl (fun _ => (0 : Int32)))), (a2, .inl (d2, 17, .inl (fun _ => (0 : Int32))))] H := hP
  have hD : va_D A [(h0, .inr (0, [.ref a1, .null, .null, .null, .int 0, .int 0, .int 0])), (a1, .inl (d1, 17, .inl (fun _ => (0 : Int32)))), (a2, .inl (d2, 17, .inl (fun _ => (0 : Int32))))] := hD
  have hK : va_K (dC, dI) vwCl [(d1, .byte), (d2, .byte)] s := hK
  refine W.widen (k := 2) (n := 34) (by omega) (by omega) ?_
  refine va_putF (D := (dC, dI)) (ci := 0) (v := .ref a2) (ty := .array .byte) (C := RX0) (T := TX0) (N := 7) hx hb hts in_X0 tyX0 tyX0_ok nmX0 hown hK hP hD hS 0 rfl rfl 1 (by decide) (hts _ q23) (fun _ h9 => h9) rfl hin rfl (by decide +kernel) rfl rfl (Nat.le_of_ble_eq_true rfl) dX0_init_17 (fun H locs hP hD hS => ?_)
  have hP : va_P (dC, dI) vwCl [(h0, .inr (0, [.ref a1, .ref a2, .null, .null, .int 0, .int 0, .int 0])), (a1, .inl (d1, 17, .inl (fun _ => (0 : Int32)))), (a2, .inl (d2, 17, .inl (fun _ => (0 : Int32))))] H := hP
  have hD : va_D A [(h0, .inr (0, [.ref a1, .ref a2, .null, .null, .int 0, .int 0, .int 0])), (a1, .inl (d1, 17, .inl (fun _ => (0 : Int32)))), (a2, .inl (d2, 17, .inl (fun _ => (0 : Int32))))] := hD
  refine lv_aload_n hx hb dX0_init_20 rfl (lv_at hl 0 rfl) ?_
  refine lv_bipush (v := 17) hx hb dX0_init_21 (by decide) ?_
  refine va_newa (atype := .byte) (ty := .byte) (a0 := (17, .inl (fun _ => (0 : Int32)))) (N' := 17) (n := 17) hx hb (hts _ q44) rfl hK hP hD hS hA (fun cA => vp_cell_i cA _ _) (by decide) (by decide) (Nat.le_of_ble_eq_true rfl) (Nat.le_of_ble_eq_true rfl) (Nat.le_of_ble_eq_true rfl) dX0_init_23 (fun a3 d3 H hK hP hD hS => ?_)
  have hP : va_P (dC, dI) vwCl [(h0, .inr (0, [.ref a1, .ref a2, .null, .null, .int 0, .int 0, .int 0])), (a1, .inl (d1, 17, .inl (fun _ => (0 : Int32)))), (a2, .inl (d2, 17, .inl (fun _ => (0 : Int32)))), (a3, .inl (d3, 17, .inl (fun _ => (0 : Int32))))] H := hP
  have hD : va_D A [(h0, .inr (0, [.ref a1, .ref a2, .null, .null, .int 0, .int 0, .int 0])), (a1, .inl (d1, 17, .inl (fun _ => (0 : Int32)))), (a2, .inl (d2, 17, .inl (fun _ => (0 : Int32)))), (a3, .inl (d3, 17, .inl (fun _ => (0 : Int32))))] := hD
  have hK : va_K (dC, dI) vwCl [(d1, .byte), (d2, .byte), (d3, .byte)] s := hK
  refine W.widen (k := 3) (n := 51) (by omega) (by omega) ?_
  refine va_putF (D := (dC, dI)) (ci := 0) (v := .ref a3) (ty := .array .byte) (C := RX0) (T := TX0) (N := 7) hx hb hts in_X0 tyX0 tyX0_ok nmX0 hown hK hP hD hS 0 rfl rfl 2 (by decide) (hts _ q24) (fun _ h9 => h9) rfl hin rfl (by decide +kernel) rfl rfl (Nat.le_of_ble_eq_true rfl) dX0_init_25 (fun H locs hP hD hS => ?_)
  have hP : va_P (dC, dI) vwCl [(h0, .inr (0, [.ref a1, .ref a2, .ref a3, .null, .int 0, .int 0, .int 0])), (a1, .inl (d1, 17, .inl (fun _ => (0 : Int32)))), (a2, .inl (d2, 17, .inl (fun _ => (0 : Int32)))), (a3, .inl (d3, 17, .inl (fun _ => (0 : Int32))))] H := hP
  have hD : va_D A [(h0, .inr (0, [.ref a1, .ref a2, .ref a3, .null, .int 0, .int 0, .int 0])), (a1, .inl (d1, 17, .inl (fun _ => (0 : Int32)))), (a2, .inl (d2, 17, .inl (fun _ => (0 : Int32)))), (a3, .inl (d3, 17, .inl (fun _ => (0 : Int32))))] := hD
  refine lv_aload_n hx hb dX0_init_28 rfl (lv_at hl 0 rfl) ?_
  refine lv_bipush (v := 68) hx hb dX0_init_29 (by decide) ?_
  refine va_newa (atype := .byte) (ty := .byte) (a0 := (68, .inl (fun _ => (0 : Int32)))) (N' := 68) (n := 68) hx hb (hts _ q44) rfl hK hP hD hS hA (fun cA => vp_cell_i cA _ _) (by decide) (by decide) (Nat.le_of_ble_eq_true rfl) (Nat.le_of_ble_eq_true rfl) (Nat.le_of_ble_eq_true rfl) dX0_init_31 (fun a4 d4 H hK hP hD hS => ?_)
  have hP : va_P (dC, dI) vwCl [(h0, .inr (0, [.ref a1, .ref a2, .ref a3, .null, .int 0, .int 0, .int 0])), (a1, .inl (d1, 17, .inl (fun _ => (0 : Int32)))), (a2, .inl (d2, 17, .inl (fun _ => (0 : Int32)))), (a3, .inl (d3, 17, .inl (fun _ => (0 : Int32)))), (a4, .inl (d4, 68, .inl (fun _ => (0 : Int32))))] H := hP
  have hD : va_D A [(h0, .inr (0, [.ref a1, .ref a2, .ref a3, .null, .int 0, .int 0, .int 0])), (a1, .inl (d1, 17, .inl (fun _ => (0 : Int32)))), (a2, .inl (d2, 17, .inl (fun _ => (0 : Int32)))), (a3, .inl (d3, 17, .inl (fun _ => (0 : Int32)))), (a4, .inl (d4, 68, .inl (fun _ => (0 : Int32))))] := hD
  have hK : va_K (dC, dI) vwCl [(d1, .byte), (d2, .byte), (d3, .byte), (d4, .byte)] s := hK
  refine W.widen (k := 4) (n := 119) (by omega) (by omega) ?_
  refine va_putF (D := (dC, dI)) (ci := 0) (v := .ref a4) (ty := .array .byte) (C := RX0) (T := TX0) (N := 7) hx hb hts in_X0 tyX0 tyX0_ok nmX0 hown hK hP hD hS 0 rfl rfl 3 (by decide) (hts _ q25) (fun _ h9 => h9) rfl hin rfl (by decide +kernel) rfl rfl (Nat.le_of_ble_eq_true rfl) dX0_init_33 (fun H locs hP hD hS => ?_)
  have hP : va_P (dC, dI) vwCl [(h0, .inr (0, [.ref a1, .ref a2, .ref a3, .ref a4, .int 0, .int 0, .int 0])), (a1, .inl (d1, 17, .inl (fun _ => (0 : Int32)))), (a2, .inl (d2, 17, .inl (fun _ => (0 : Int32)))), (a3, .inl (d3, 17, .inl (fun _ => (0 : Int32)))), (a4, .inl (d4, 68, .inl (fun _ => (0 : Int32))))] H := hP
  have hD : va_D A [(h0, .inr (0, [.ref a1, .ref a2, .ref a3, .ref a4, .int 0, .int 0, .int 0])), (a1, .inl (d1, 17, .inl (fun _ => (0 : Int32)))), (a2, .inl (d2, 17, .inl (fun _ => (0 : Int32)))), (a3, .inl (d3, 17, .inl (fun _ => (0 : Int32)))), (a4, .inl (d4, 68, .inl (fun _ => (0 : Int32))))] := hD
  have r1 : s.vm.findClass ("[" ++ FieldType.byte.toString) = some d1 := (hK.2 0 (d1, .byte) rfl).2
  have r2 : s.vm.findClass ("[" ++ FieldType.byte.toString) = some d2 := (hK.2 1 (d2, .byte) rfl).2
  obtain rfl : d1 = d2 := Option.some.inj (r1.symm.trans r2)
  have r3 : s.vm.findClass ("[" ++ FieldType.byte.toString) = some d3 := (hK.2 2 (d3, .byte) rfl).2
  obtain rfl : d1 = d3 := Option.some.inj (r1.symm.trans r3)
  have r4 : s.vm.findClass ("[" ++ FieldType.byte.toString) = some d4 := (hK.2 3 (d4, .byte) rfl).2
  obtain rfl : d1 = d4 := Option.some.inj (r1.symm.trans r4)
  have hK : va_K (dC, dI) vwCl [(d1, .byte)] s := hK.sub [0] rfl
  generalize d1 = d at hP hD hK ⊢
  have hP : va_P (dC, dI) vwCl (fq_wq h0 a1 a2 a3 a4 d ((fun _ => (0 : Int32)), (fun _ => (0 : Int32)), (fun _ => (0 : Int32)), (fun _ => (0 : Int32))) (0 : Int32) (0 : Int32) (0 : Int32)) H := hP
  have hD : va_D A (fq_wq h0 a1 a2 a3 a4 d ((fun _ => (0 : Int32)), (fun _ => (0 : Int32)), (fun _ => (0 : Int32)), (fun _ => (0 : Int32))) (0 : Int32) (0 : Int32) (0 : Int32)) := hD
  refine lv_aload_n hx hb dX0_init_36 rfl (lv_at hl 0 rfl) ?_
  refine lv_iconst (v := -1) hx hb dX0_init_37 (by decide) ?_
  refine va_put (D := (dC, dI)) (ci := 0) (v := .int (-1 : Int32)) (ty := .int) (C := RX0) (T := TX0) (N := 7) hx hb hts in_X0 tyX0 tyX0_ok nmX0 hown hK hP hD hS 0 rfl rfl 4 (by decide) (hts _ q26) (fun _ h9 => h9) rfl (by decide +kernel) rfl rfl (Nat.le_of_ble_eq_true rfl) dX0_init_38 (fun H locs hP hD hS => ?_)
  have hP : va_P (dC, dI) vwCl (fq_wq h0 a1 a2 a3 a4 d ((fun _ => (0 : Int32)), (fun _ => (0 : Int32)), (fun _ => (0 : Int32)), (fun _ => (0 : Int32))) (-1 : Int32) (0 : Int32) (0 : Int32)) H := hP
  have hD : va_D A (fq_wq h0 a1 a2 a3 a4 d ((fun _ => (0 : Int32)), (fun _ => (0 : Int32)), (fun _ => (0 : Int32)), (fun _ => (0 : Int32))) (-1 : Int32) (0 : Int32) (0 : Int32)) := hD
  refine lv_aload_n hx hb dX0_init_41 rfl (lv_at hl 0 rfl) ?_
  refine lv_iconst (v := -1) hx hb dX0_init_42 (by decide) ?_
  refine va_put (D := (dC, dI)) (ci := 0) (v := .int (-1 : Int32)) (ty := .int) (C := RX0) (T := TX0) (N := 7) hx hb hts in_X0 tyX0 tyX0_ok nmX0 hown hK hP hD hS 0 rfl rfl 5 (by decide) (hts _ q27) (fun _ h9 => h9) rfl (by decide +kernel) rfl rfl (Nat.le_of_ble_eq_true rfl) dX0_init_43 (fun H locs hP hD hS => ?_)
  have hP : va_P (dC, dI) vwCl (fq_wq h0 a1 a2 a3 a4 d ((fun _ => (0 : Int32)), (fun _ => (0 : Int32)), (fun _ => (0 : Int32)), (fun _ => (0 : Int32))) (-1 : Int32) (-1 : Int32) (0 : Int32)) H := hP
  have hD : va_D A (fq_wq h0 a1 a2 a3 a4 d ((fun _ => (0 : Int32)), (fun _ => (0 : Int32)), (fun _ => (0 : Int32)), (fun _ => (0 : Int32))) (-1 : Int32) (-1 : Int32) (0 : Int32)) := hD
  refine lv_iconst (v := 0) hx hb dX0_init_46 (by decide) ?_
  refine lv_istore_n (lv' := [(1, .int (0 : Int32)), (0, .ref h0)]) hx hb dX0_init_47 rfl hl (by decide) rfl (fun ls hl => ?_)
  have key : ∀ (n i : Nat), i ≤ 17 → 18 ≤ i + n → ∀ (H : Heap) (locs : List Loc), va_P (dC, dI) vwCl (fq_wq h0 a1 a2 a3 a4 d ((fq_ini i), (fq_ini i), (fun _ => (0 : Int32)), (fun _ => (0 : Int32))) (-1 : Int32) (-1 : Int32) (0 : Int32)) H → va_D A (fq_wq h0 a1 a2 a3 a4 d ((fq_ini i), (fq_ini i), (fun _ => (0 : Int32)), (fun _ => (0 : Int32))) (-1 : Int32) (-1 : Int32) (0 : Int32)) → va_S A s.heap H locs → ∀ ls : Array Slot, lv_has ls 2 [(1, .int (nI i)), (0, .ref h0)] → W p l e (headSpec (ws_ yX0_init cX0_init 2 none) ({ frames := 1, cells := 4, slots := 119, locals := 12 })).room s m ([.ref h0] : List Value).toArray below meth c H locs 4 119 (MQ below (va_Qv (fun (_ : Nat × Nat × Nat × Nat × ClassId) => True) (fun u => fq_BQ dC dI A (fq_wq h0 u.1 u.2.1 u.2.2.1 u.2.2.2.1 u.2.2.2.2 fq_Ai (-1) (-1) 0) [(u.2.2.2.2, .byte)]) A) ([.ref h0] : List Value).toArray s 4 119 A) (F0 m 48 ls []) := by
    intro n
    induction n with
    | zero =>
      intro i h1 h2
      exact absurd h2 (by omega)
    | succ n ih =>
      intro i hi hn H locs hP hD hS ls hl
      refine lv_iload_n hx hb dX0_init_48 rfl (lv_at hl 0 rfl) ?_
      refine lv_bipush (v := 16) hx hb dX0_init_49 (by decide) ?_
      refine lv_icmp_gt (tgt := 74) hx hb dX0_init_51 (by decide) (fun c_51 => ?_) (fun c_51 => ?_)
      · skip
        obtain rfl : i = 17 := fq_eq17 c_51 hi
        exact W.vret hx hb hr (fun t ht hW => ⟨⟨(a1, a2, a3, a4, d), rfl, trivial, (by rw [ht]; exact hP), va_K.moved hW.alike hK, hD⟩, hS.F ht⟩) hS.2.2 dX0_init_74
      · skip
        have hlt : i < 17 := fq_lt17 c_51 hi
        refine lv_aload_n hx hb dX0_init_54 rfl (lv_at hl 1 rfl) ?_
        refine va_get (D := (dC, dI)) (ci := 0) (v := .ref a1) (C := RX0) (T := TX0) (N := 7) hx hb hts in_X0 hown hK hP 0 rfl rfl 0 (by decide) (hts _ q22) (fun _ h9 => h9) rfl dX0_init_55 ?_
        refine lv_iload_n hx hb dX0_init_58 rfl (lv_at hl 0 rfl) ?_
        refine lv_iconst (v := -1) hx hb dX0_init_59 (by decide) ?_
        have h_60 : vp_in (nI i) 17 := vp_in_nI hlt (by decide)
        refine va_bast (f := (fq_ini i)) hx hb hK hP hD hS 1 0 rfl rfl h_60 dX0_init_60 (fun H locs hP hD hS => ?_)
        have hP : va_P (dC, dI) vwCl (fq_wq h0 a1 a2 a3 a4 d ((upd (fq_ini i) (nI i).toNatClampNeg (vp_nar .byte (-1 : Int32))), (fq_ini i), (fun _ => (0 : Int32)), (fun _ => (0 : Int32))) (-1 : Int32) (-1 : Int32) (0 : Int32)) H := hP
        have hD : va_D A (fq_wq h0 a1 a2 a3 a4 d ((upd (fq_ini i) (nI i).toNatClampNeg (vp_nar .byte (-1 : Int32))), (fq_ini i), (fun _ => (0 : Int32)), (fun _ => (0 : Int32))) (-1 : Int32) (-1 : Int32) (0 : Int32)) := hD
        refine lv_aload_n hx hb dX0_init_61 rfl (lv_at hl 1 rfl) ?_
        refine va_get (D := (dC, dI)) (ci := 0) (v := .ref a2) (C := RX0) (T := TX0) (N := 7) hx hb hts in_X0 hown hK hP 0 rfl rfl 1 (by decide) (hts _ q23) (fun _ h9 => h9) rfl dX0_init_62 ?_
        refine lv_iload_n hx hb dX0_init_65 rfl (lv_at hl 0 rfl) ?_
        refine lv_iconst (v := -1) hx hb dX0_init_66 (by decide) ?_
        have h_67 : vp_in (nI i) 17 := vp_in_nI hlt (by decide)
        refine va_bast (f := (fq_ini i)) hx hb hK hP hD hS 2 0 rfl rfl h_67 dX0_init_67 (fun H locs hP hD hS => ?_)
        have hP : va_P (dC, dI) vwCl (fq_wq h0 a1 a2 a3 a4 d ((upd (fq_ini i) (nI i).toNatClampNeg (vp_nar .byte (-1 : Int32))), (upd (fq_ini i) (nI i).toNatClampNeg (vp_nar .byte (-1 : Int32))), (fun _ => (0 : Int32)), (fun _ => (0 : Int32))) (-1 : Int32) (-1 : Int32) (0 : Int32)) H := hP
        have hD : va_D A (fq_wq h0 a1 a2 a3 a4 d ((upd (fq_ini i) (nI i).toNatClampNeg (vp_nar .byte (-1 : Int32))), (upd (fq_ini i) (nI i).toNatClampNeg (vp_nar .byte (-1 : Int32))), (fun _ => (0 : Int32)), (fun _ => (0 : Int32))) (-1 : Int32) (-1 : Int32) (0 : Int32)) := hD
        refine lv_iinc (v := nI (i + 1)) (lv' := [(1, .int (nI (i + 1))), (0, .ref h0)]) hx hb dX0_init_68 hl (k := 0) rfl (nI_1 _) (by decide) rfl (fun ls hl => ?_)
        refine lv_goto (tgt := 48) hx hb dX0_init_71 (by decide) ?_
        rw [fq_ini_s hlt] at hP hD
        exact ih (i + 1) hlt (by omega) H locs hP hD hS ls (lv_sub hl [0, 1] rfl)
  exact key 18 0 (by omega) (by omega) _ _ (by rw [fq_ini_0]; exact hP) (by rw [fq_ini_0]; exact hD) hS ls (lv_sub hl [0, 1] rfl)
set_option maxHeartbeats 4000000 in
set_option maxRecDepth 100000 in
theorem fq_metM_init (l : Launch) (dC : Nat → ClassId) (dI : Nat → Nat → Nat) (h0 : Nat) (sz : Nat) : Met l yX1_init (ws_ yX1_init cX1_init 1 none) ({ frames := 1, cells := 1, slots := 256, locals := 12 }) (va_Pc [.ref h0] (fq_PQ dC dI sz [(h0, .inr (1, [.null]))] [])) (va_Qv (fun (_ : Nat × ClassId) => True) (fun u => fq_BQ dC dI (va_A [(h0, .inr (1, [.null]))] sz) (fq_wm h0 u.1 u.2 (fq_bf (fun _ => false))) [(u.2, .boolean)]) (va_A [(h0, .inr (1, [.null]))] sz)) 1 256 (va_A [(h0, .inr (1, [.null]))] sz) := by
  refine Met.ofW (cc := cX1_init) (maxL := 1) (ret := none) (by decide) rfl ?_
  intro p e s m args below meth c s₁ B hml hv
  obtain ⟨rfl, hsz, hP, hK, hD0⟩ := hv
  have hx := B.exec
  have hb := B.bytes
  have hr := B.returns
  have hts := atoms_spec (ws := ws_ yX1_init cX1_init 1 none) B.pre
  have hts : ∀ w ∈ lw_all, w.before _ s = true := fun w h => hts w (List.mem_cons_of_mem _ h)
  have hown : s.vm.findClass RX1 = some m.cls := findClass_of_methodNamed B.named
  have hlocks := B.notSynchronized
  have hin : meth.name = "<init>" := (name_of_methodNamed B.named B.method).1
  subst hsz
  have hD := hD0.self (sz := s.heap.size)
  generalize hAe : va_A ([(h0, .inr (1, [.null]))]) s.heap.size = A at hD ⊢
  have hA : ∀ q : Nat, s.heap.size ≤ q → A q := fun q h => by rw [← hAe]; exact Or.inr h
  have hS : va_S A s.heap s.heap [] := va_S.rf
  have hP : va_P (dC, dI) vwCl ([(h0, .inr (1, [.null]))]) s.heap := hP
  have hl := lv_entry ([.ref h0]) (n := 1) (Nat.le_of_ble_eq_true rfl)
  rw [lg_entry_eq]
  generalize (lg_sl ([.ref h0]) ++ List.replicate (1 - (lg_sl ([.ref h0])).length) Slot.unset).toArray = ls0 at hl ⊢
  have hl : lv_has ls0 1 [(0, .ref h0)] := hl
  refine lv_aload_n hx hb dX1_init_0 rfl (lv_at hl 0 rfl) ?_
  refine W.objInit hx hb hown (hts _ q160) (hts _ q20) (hts _ q21) rfl (by rw [hml]; exact hl.1) rfl dX1_init_1 (Nat.le_of_ble_eq_true rfl) (Nat.le_of_ble_eq_true rfl) ?_
  refine W.eq (g2 := F0 m 4 ls0 []) rfl ?_
  refine lv_aload_n hx hb dX1_init_4 rfl (lv_at hl 0 rfl) ?_
  refine lv_sipush (v := 256) hx hb dX1_init_5 (by decide) ?_
  refine va_newa (atype := .boolean) (ty := .boolean) (a0 := (256, .inl (fun _ => (0 : Int32)))) (N' := 256) (n := 256) hx hb (hts _ q165) rfl hK hP hD hS hA (fun cA => vp_cell_i cA _ _) (by decide) (by decide) (Nat.le_of_ble_eq_true rfl) (Nat.le_of_ble_eq_true rfl) (Nat.le_of_ble_eq_true rfl) dX1_init_8 (fun b1 z H hK hP hD hS => ?_)
  have hP : va_P (dC, dI) vwCl [(h0, .inr (1, [.null])), (b1, .inl (z, 256, .inl (fun _ => (0 : Int32))))] H := hP
  have hD : va_D A [(h0, .inr (1, [.null])), (b1, .inl (z, 256, .inl (fun _ => (0 : Int32))))] := hD
  have hK : va_K (dC, dI) vwCl [(z, .boolean)] s := hK
  refine W.widen (k := 1) (n := 256) (by omega) (by omega) ?_
  refine va_put (D := (dC, dI)) (ci := 1) (v := .ref b1) (ty := .array .boolean) (C := RX1) (T := TX1) (N := 1) hx hb hts in_X1 tyX1 tyX1_ok nmX1 hown hK hP hD hS 0 rfl rfl 0 (by decide) (hts _ q161) (fun _ h9 => h9) rfl (by decide +kernel) rfl rfl (Nat.le_of_ble_eq_true rfl) dX1_init_10 (fun H locs hP hD hS => ?_)
  have hP : va_P (dC, dI) vwCl (fq_wm h0 b1 z (fq_bf (fun _ => false))) H := hP
  have hD : va_D A (fq_wm h0 b1 z (fq_bf (fun _ => false))) := hD
  exact W.vret hx hb hr (fun t ht hW => ⟨⟨(b1, z), rfl, trivial, (by rw [ht]; exact hP), va_K.moved hW.alike hK, hD⟩, hS.F ht⟩) hS.2.2 dX1_init_13
end
section
/-! the law's words (the skeleton's) and its first cases -/
def R_law : String := "FlatQueueLaw"
def lw_P (b : Addr) (xs : List Int32) (args : Array Value) (s : State) : Prop := args = #[.ref b] ∧ s.IntsAt b xs ∧ xs.length ≤ 192 ∧ (Jvm.Cond.and given_1 narrow_1).before args s = true
def lw_Q (_ : Array Value) (s : State) (o : Outcome) (t : State) : Prop := o = .returned (some (.int 1)) ∧ Framed s o t [] 600000 7290000
def lw_Z (below : List Frame) (a : Array Value) (s : State) : State → Prop := fun t => ∃ o, t.status = .running ∧ Ended t below o ∧ lw_Q a s o t
/-- the law's own end, with 1 on the stack, nothing written that was there before, its room as the claim has it -/
theorem lw_ret {p : Program} {l : Launch} {e : Env} {s : State} {m : MethodId} {below : List Frame} {meth : Method} {c : Code} {b : Nat} (hx : p.tables.exec = Jvm.exec) (hb : c.code = code) (hr : meth.sig.returnType = ret) (hlocks : meth.locks = false) {pc : Nat} {H : Heap} {ls : Array Slot} (hdg : decode code pc = .ok (.ireturn, 1)) : W p l e room_1 s m #[Value.ref b] below meth c H [] 600000 7290000 (lw_Z below #[Value.ref b] s) (F0 m pc ls [.int 1]) := by
  intro T hT X
  obtain ⟨fs, hret, hrun, hended, hW, hframe⟩ := X.leave (v := some (.int 1)) (hlocks := hlocks) (fun h => by rw [hr] at h; cases h)
  have hmeth' : T.vm.method? m = some meth := X.method'
  refine ⟨T.setFrames fs, ?_, .returned (some (.int 1)), hrun, hended, rfl, ⟨_, rfl⟩, hW, hframe⟩
  jvm_step X.here [X.here.top, hx, hb, hdg, hmeth', hr, ret, narrow_b1]
  (try refine ⟨rfl, ?_⟩); (try refine ⟨rfl, ?_⟩)
  first | (intro acts; rw [hret _ acts rfl rfl rfl]) | rw [hret _ _ rfl rfl rfl]
  exact Steps.refl _
/-- what holds at the law's entry: the machine, the code, the tables' words (any of lw_tbl by 'hts w (by decide +kernel)'), the script of L ints xs at the cell b, what the Statement gives of the start (any of its parts by flat_of_before) -/
def lw_At (p : Program) (s : State) (m : MethodId) (meth : Method) (c : Code) (b L : Nat) (xs : Nat → Int32) : Prop :=
  p.tables.exec = Jvm.exec ∧ c.code = code ∧ meth.sig.returnType = ret ∧ c.maxLocals = 4 ∧ s.vm.findClass R_law = some m.cls ∧ (∀ w ∈ lw_tbl, w.before #[Value.ref b] s = true) ∧ va_X b L xs s s.heap ∧ b < s.heap.size ∧ meth.locks = false ∧ (Jvm.Cond.and given_1 narrow_1).before #[Value.ref b] s = true
set_option maxHeartbeats 4000000 in
set_option maxRecDepth 100000 in
theorem fq_case_insert {p : Program} {l : Launch} {e : Env} {s : State} {m : MethodId} {below : List Frame} {meth : Method} {c : Code} {dC : Nat → ClassId} {dI : Nat → Nat → Nat} {b L : Nat} {xs : Nat → Int32} (hL : L ≤ 192) (C0 : lw_At p s m meth c b L xs) {h0 a1 a2 a3 a4 g0 b1 : Nat} {d z : ClassId} (hK : va_K (dC, dI) vwCl [(d, .byte), (z, .boolean)] s) {i : Nat} (hi : i + 3 ≤ L) (S : Nat → Bool) (A0 : fq_A4) (mi mx ct : Int32) (H : Heap) (locs : List Loc) (hI : fq_Inv S A0 mi mx ct) (hP : va_P (dC, dI) vwCl (fq_wq h0 a1 a2 a3 a4 d A0 mi mx ct ++ fq_wm g0 b1 z (fq_bf S)) H) (hD : va_D (fun q : Nat => s.heap.size ≤ q) (fq_wq h0 a1 a2 a3 a4 d A0 mi mx ct ++ fq_wm g0 b1 z (fq_bf S))) (hS : va_S (fun q : Nat => s.heap.size ≤ q) s.heap H locs) {ls : Array Slot} (hl : lv_has ls 4 [(3, .int (nI i)), (2, .ref g0), (1, .ref h0), (0, .ref b)]) (K : ∀ (S : Nat → Bool) (A0 : fq_A4) (mi mx ct : Int32) (H : Heap) (locs : List Loc), fq_Inv S A0 mi mx ct → va_P (dC, dI) vwCl (fq_wq h0 a1 a2 a3 a4 d A0 mi mx ct ++ fq_wm g0 b1 z (fq_bf S)) H → va_D (fun q : Nat => s.heap.size ≤ q) (fq_wq h0 a1 a2 a3 a4 d A0 mi mx ct ++ fq_wm g0 b1 z (fq_bf S)) → va_S (fun q : Nat => s.heap.size ≤ q) s.heap H locs → W p l e room_1 s m #[Value.ref b] below meth c H locs 7 383 (lw_Z below #[Value.ref b] s) (F0 m 423 ls [])) : W p l e room_1 s m #[Value.ref b] below meth c H locs 7 383 (lw_Z below #[Value.ref b] s) (F0 m 108 ls []) := by
  obtain ⟨hx, hb, hr, hml, hown, hts0, hX, hbl, hlocks, hgv⟩ := C0
  have hts : ∀ w ∈ lw_all, w.before #[Value.ref b] s = true := fun w h => hts0 w (lw_all_tbl h)
  have hown : s.vm.findClass "FlatQueueLaw" = some m.cls := hown
  have hA : ∀ q : Nat, s.heap.size ≤ q → (fun q : Nat => s.heap.size ≤ q) q := fun _ h => h
  have hbA : ¬ (fun q : Nat => s.heap.size ≤ q) b := Nat.not_le.mpr hbl
  refine lv_aload_n hx hb dL_law_108 rfl (lv_at hl 2 rfl) ?_
  refine lv_aload_n hx hb dL_law_109 rfl (lv_at hl 3 rfl) ?_
  refine lv_iload_n hx hb dL_law_110 rfl (lv_at hl 0 rfl) ?_
  refine lv_iconst (v := 1) hx hb dL_law_111 (by decide) ?_
  refine lv_iadd hx hb dL_law_112 ?_
  refine va_sld hx hb hX hbl hbA hS (fq_lw_i1 hL hi) dL_law_113 ?_
  have hPc := hP.sub (ws' := fq_wq h0 a1 a2 a3 a4 d A0 mi mx ct) [0, 1, 2, 3, 4] rfl
  have hDc := hD.sub (ws' := fq_wq h0 a1 a2 a3 a4 d A0 mi mx ct) [0, 1, 2, 3, 4] (by decide) rfl
  have hKc := hK.sub (tys' := [(d, .byte)]) [0] rfl
  have hFc := va_free (wc := fq_wq h0 a1 a2 a3 a4 d A0 mi mx ct) hD hS hA [0, 1, 2, 3, 4] rfl
  refine va_calli (va_runV (As := [.int (xs (nI i + (1 : Int32)).toNatClampNeg)]) (rest := []) ⟨hx, hb, hml, hown, hts⟩ (fq_met_insert l dC dI h0 a1 a2 a3 a4 d H.size A0 mi mx ct (xs (nI i + (1 : Int32)).toNatClampNeg) S hI) (cwV 1 hts (lw_V q45 q46 q47 q12 q48) rfl rfl rfl (by decide +kernel) ⟨Nat.le_of_ble_eq_true rfl, Nat.le_of_ble_eq_true rfl⟩) ⟨fq_blind, va_recv hKc hPc (ci := 0) (q0 := 0) rfl rfl, fun U hU hW => ⟨rfl, by rw [hU], by rw [hU]; exact hPc, va_K.moved hW.alike hKc, hDc.weaken (fun _ _ _ _ => trivial)⟩⟩ rfl rfl hl.1 rfl (lv_room (Nat.le_of_ble_eq_true rfl)) dL_law_114 ⟨Nat.le_of_ble_eq_true rfl, Nat.le_of_ble_eq_true rfl⟩) hS (fun q _ h => hFc q h) hFc (fun r1 u1 t H1 locs ht hvm hw1 hB hz1 hk1 hS => ?_)
  try dsimp only at hw1
  obtain ⟨hP1, hK1, hD1⟩ := hB
  rw [ht] at hP1
  obtain ⟨hP, hD⟩ := va_join (wr := fq_wm g0 b1 z (fq_bf S)) (w1 := fq_wq h0 a1 a2 a3 a4 d u1.1 u1.2.1 u1.2.2.1 u1.2.2.2) hP hD [0, 1, 2, 3, 4] [5, 6] rfl rfl (by decide) (by decide) hk1 hFc hP1 hD1
  generalize H1 = H at hP hS ⊢
  have hP : va_P (dC, dI) vwCl (fq_wm g0 b1 z (fq_bf S) ++ fq_wq h0 a1 a2 a3 a4 d u1.1 u1.2.1 u1.2.2.1 u1.2.2.2) H := hP
  have hD : va_D (fun q : Nat => s.heap.size ≤ q) (fq_wm g0 b1 z (fq_bf S) ++ fq_wq h0 a1 a2 a3 a4 d u1.1 u1.2.1 u1.2.2.1 u1.2.2.2) := hD
  refine lv_aload_n hx hb dL_law_117 rfl (lv_at hl 1 rfl) ?_
  refine lv_aload_n hx hb dL_law_118 rfl (lv_at hl 3 rfl) ?_
  refine lv_iload_n hx hb dL_law_119 rfl (lv_at hl 0 rfl) ?_
  refine lv_iconst (v := 1) hx hb dL_law_120 (by decide) ?_
  refine lv_iadd hx hb dL_law_121 ?_
  refine va_sld hx hb hX hbl hbA hS (fq_lw_i1 hL hi) dL_law_122 ?_
  have hPc := hP.sub (ws' := fq_wm g0 b1 z (fq_bf S)) [0, 1] rfl
  have hDc := hD.sub (ws' := fq_wm g0 b1 z (fq_bf S)) [0, 1] (by decide) rfl
  have hKc := hK.sub (tys' := [(z, .boolean)]) [1] rfl
  have hFc := va_free (wc := fq_wm g0 b1 z (fq_bf S)) hD hS hA [0, 1] rfl
  refine va_calli (va_runV (As := [.int (xs (nI i + (1 : Int32)).toNatClampNeg)]) (rest := [.int r1]) ⟨hx, hb, hml, hown, hts⟩ (fq_metM_insert l dC dI g0 b1 z H.size S (xs (nI i + (1 : Int32)).toNatClampNeg)) (cwV 1 hts (lw_V q166 q167 q168 q13 q169) rfl rfl rfl (by decide +kernel) ⟨Nat.le_of_ble_eq_true rfl, Nat.le_of_ble_eq_true rfl⟩) ⟨fq_blind, va_recv hKc hPc (ci := 1) (q0 := 0) rfl rfl, fun U hU hW => ⟨rfl, by rw [hU], by rw [hU]; exact hPc, va_K.moved hW.alike hKc, hDc.weaken (fun _ _ _ _ => trivial)⟩⟩ rfl rfl hl.1 rfl (lv_room (Nat.le_of_ble_eq_true rfl)) dL_law_123 ⟨Nat.le_of_ble_eq_true rfl, Nat.le_of_ble_eq_true rfl⟩) hS (fun q _ h => hFc q h) hFc (fun r2 u2 t H1 locs ht hvm hw2 hB hz1 hk1 hS => ?_)
  try dsimp only at hw2
  obtain ⟨hP1, hK1, hD1⟩ := hB
  rw [ht] at hP1
  obtain ⟨hP, hD⟩ := va_join (wr := fq_wq h0 a1 a2 a3 a4 d u1.1 u1.2.1 u1.2.2.1 u1.2.2.2) (w1 := fq_wm g0 b1 z (fq_bf u2)) hP hD [0, 1] [2, 3, 4, 5, 6] rfl rfl (by decide) (by decide) hk1 hFc hP1 hD1
  generalize H1 = H at hP hS ⊢
  have hP : va_P (dC, dI) vwCl (fq_wq h0 a1 a2 a3 a4 d u1.1 u1.2.1 u1.2.2.1 u1.2.2.2 ++ fq_wm g0 b1 z (fq_bf u2)) H := hP
  have hD : va_D (fun q : Nat => s.heap.size ≤ q) (fq_wq h0 a1 a2 a3 a4 d u1.1 u1.2.1 u1.2.2.1 u1.2.2.2 ++ fq_wm g0 b1 z (fq_bf u2)) := hD
  refine lv_icmp_eq (tgt := 423) hx hb dL_law_126 (by decide) (fun ce => ?_) (fun ce => ?_)
  · exact K u2 u1.1 u1.2.1 u1.2.2.1 u1.2.2.2 H locs (by rw [hw1.2, hw2.2]; exact fq_insU_spec hI) hP hD hS
  · exact absurd (hw1.1.trans ((fq_insR_spec hI).trans hw2.1.symm)) ce
set_option maxHeartbeats 4000000 in
set_option maxRecDepth 100000 in
theorem fq_case_delete {p : Program} {l : Launch} {e : Env} {s : State} {m : MethodId} {below : List Frame} {meth : Method} {c : Code} {dC : Nat → ClassId} {dI : Nat → Nat → Nat} {b L : Nat} {xs : Nat → Int32} (hL : L ≤ 192) (C0 : lw_At p s m meth c b L xs) {h0 a1 a2 a3 a4 g0 b1 : Nat} {d z : ClassId} (hK : va_K (dC, dI) vwCl [(d, .byte), (z, .boolean)] s) {i : Nat} (hi : i + 3 ≤ L) (S : Nat → Bool) (A0 : fq_A4) (mi mx ct : Int32) (H : Heap) (locs : List Loc) (hI : fq_Inv S A0 mi mx ct) (hP : va_P (dC, dI) vwCl (fq_wq h0 a1 a2 a3 a4 d A0 mi mx ct ++ fq_wm g0 b1 z (fq_bf S)) H) (hD : va_D (fun q : Nat => s.heap.size ≤ q) (fq_wq h0 a1 a2 a3 a4 d A0 mi mx ct ++ fq_wm g0 b1 z (fq_bf S))) (hS : va_S (fun q : Nat => s.heap.size ≤ q) s.heap H locs) {ls : Array Slot} (hl : lv_has ls 4 [(3, .int (nI i)), (2, .ref g0), (1, .ref h0), (0, .ref b)]) (K : ∀ (S : Nat → Bool) (A0 : fq_A4) (mi mx ct : Int32) (H : Heap) (locs : List Loc), fq_Inv S A0 mi mx ct → va_P (dC, dI) vwCl (fq_wq h0 a1 a2 a3 a4 d A0 mi mx ct ++ fq_wm g0 b1 z (fq_bf S)) H → va_D (fun q : Nat => s.heap.size ≤ q) (fq_wq h0 a1 a2 a3 a4 d A0 mi mx ct ++ fq_wm g0 b1 z (fq_bf S)) → va_S (fun q : Nat => s.heap.size ≤ q) s.heap H locs → W p l e room_1 s m #[Value.ref b] below meth c H locs 7 383 (lw_Z below #[Value.ref b] s) (F0 m 423 ls [])) : W p l e room_1 s m #[Value.ref b] below meth c H locs 7 383 (lw_Z below #[Value.ref b] s) (F0 m 131 ls []) := by
  obtain ⟨hx, hb, hr, hml, hown, hts0, hX, hbl, hlocks, hgv⟩ := C0
  have hts : ∀ w ∈ lw_all, w.before #[Value.ref b] s = true := fun w h => hts0 w (lw_all_tbl h)
  have hown : s.vm.findClass "FlatQueueLaw" = some m.cls := hown
  have hA : ∀ q : Nat, s.heap.size ≤ q → (fun q : Nat => s.heap.size ≤ q) q := fun _ h => h
  have hbA : ¬ (fun q : Nat => s.heap.size ≤ q) b := Nat.not_le.mpr hbl
  refine lv_aload_n hx hb dL_law_131 rfl (lv_at hl 2 rfl) ?_
  refine lv_aload_n hx hb dL_law_132 rfl (lv_at hl 3 rfl) ?_
  refine lv_iload_n hx hb dL_law_133 rfl (lv_at hl 0 rfl) ?_
  refine lv_iconst (v := 1) hx hb dL_law_134 (by decide) ?_
  refine lv_iadd hx hb dL_law_135 ?_
  refine va_sld hx hb hX hbl hbA hS (fq_lw_i1 hL hi) dL_law_136 ?_
  have hPc := hP.sub (ws' := fq_wq h0 a1 a2 a3 a4 d A0 mi mx ct) [0, 1, 2, 3, 4] rfl
  have hDc := hD.sub (ws' := fq_wq h0 a1 a2 a3 a4 d A0 mi mx ct) [0, 1, 2, 3, 4] (by decide) rfl
  have hKc := hK.sub (tys' := [(d, .byte)]) [0] rfl
  have hFc := va_free (wc := fq_wq h0 a1 a2 a3 a4 d A0 mi mx ct) hD hS hA [0, 1, 2, 3, 4] rfl
  refine va_calli (va_runV (As := [.int (xs (nI i + (1 : Int32)).toNatClampNeg)]) (rest := []) ⟨hx, hb, hml, hown, hts⟩ (fq_met_delete l dC dI h0 a1 a2 a3 a4 d H.size A0 mi mx ct (xs (nI i + (1 : Int32)).toNatClampNeg) S hI) (cwV 1 hts (lw_V q65 q66 q67 q12 q68) rfl rfl rfl (by decide +kernel) ⟨Nat.le_of_ble_eq_true rfl, Nat.le_of_ble_eq_true rfl⟩) ⟨fq_blind, va_recv hKc hPc (ci := 0) (q0 := 0) rfl rfl, fun U hU hW => ⟨rfl, by rw [hU], by rw [hU]; exact hPc, va_K.moved hW.alike hKc, hDc.weaken (fun _ _ _ _ => trivial)⟩⟩ rfl rfl hl.1 rfl (lv_room (Nat.le_of_ble_eq_true rfl)) dL_law_137 ⟨Nat.le_of_ble_eq_true rfl, Nat.le_of_ble_eq_true rfl⟩) hS (fun q _ h => hFc q h) hFc (fun r1 u1 t H1 locs ht hvm hw1 hB hz1 hk1 hS => ?_)
  try dsimp only at hw1
  obtain ⟨hP1, hK1, hD1⟩ := hB
  rw [ht] at hP1
  obtain ⟨hP, hD⟩ := va_join (wr := fq_wm g0 b1 z (fq_bf S)) (w1 := fq_wq h0 a1 a2 a3 a4 d u1.1 u1.2.1 u1.2.2.1 u1.2.2.2) hP hD [0, 1, 2, 3, 4] [5, 6] rfl rfl (by decide) (by decide) hk1 hFc hP1 hD1
  generalize H1 = H at hP hS ⊢
  have hP : va_P (dC, dI) vwCl (fq_wm g0 b1 z (fq_bf S) ++ fq_wq h0 a1 a2 a3 a4 d u1.1 u1.2.1 u1.2.2.1 u1.2.2.2) H := hP
  have hD : va_D (fun q : Nat => s.heap.size ≤ q) (fq_wm g0 b1 z (fq_bf S) ++ fq_wq h0 a1 a2 a3 a4 d u1.1 u1.2.1 u1.2.2.1 u1.2.2.2) := hD
  refine lv_aload_n hx hb dL_law_140 rfl (lv_at hl 1 rfl) ?_
  refine lv_aload_n hx hb dL_law_141 rfl (lv_at hl 3 rfl) ?_
  refine lv_iload_n hx hb dL_law_142 rfl (lv_at hl 0 rfl) ?_
  refine lv_iconst (v := 1) hx hb dL_law_143 (by decide) ?_
  refine lv_iadd hx hb dL_law_144 ?_
  refine va_sld hx hb hX hbl hbA hS (fq_lw_i1 hL hi) dL_law_145 ?_
  have hPc := hP.sub (ws' := fq_wm g0 b1 z (fq_bf S)) [0, 1] rfl
  have hDc := hD.sub (ws' := fq_wm g0 b1 z (fq_bf S)) [0, 1] (by decide) rfl
  have hKc := hK.sub (tys' := [(z, .boolean)]) [1] rfl
  have hFc := va_free (wc := fq_wm g0 b1 z (fq_bf S)) hD hS hA [0, 1] rfl
  refine va_calli (va_runV (As := [.int (xs (nI i + (1 : Int32)).toNatClampNeg)]) (rest := [.int r1]) ⟨hx, hb, hml, hown, hts⟩ (fq_metM_delete l dC dI g0 b1 z H.size S (xs (nI i + (1 : Int32)).toNatClampNeg)) (cwV 1 hts (lw_V q174 q175 q176 q13 q177) rfl rfl rfl (by decide +kernel) ⟨Nat.le_of_ble_eq_true rfl, Nat.le_of_ble_eq_true rfl⟩) ⟨fq_blind, va_recv hKc hPc (ci := 1) (q0 := 0) rfl rfl, fun U hU hW => ⟨rfl, by rw [hU], by rw [hU]; exact hPc, va_K.moved hW.alike hKc, hDc.weaken (fun _ _ _ _ => trivial)⟩⟩ rfl rfl hl.1 rfl (lv_room (Nat.le_of_ble_eq_true rfl)) dL_law_146 ⟨Nat.le_of_ble_eq_true rfl, Nat.le_of_ble_eq_true rfl⟩) hS (fun q _ h => hFc q h) hFc (fun r2 u2 t H1 locs ht hvm hw2 hB hz1 hk1 hS => ?_)
  try dsimp only at hw2
  obtain ⟨hP1, hK1, hD1⟩ := hB
  rw [ht] at hP1
  obtain ⟨hP, hD⟩ := va_join (wr := fq_wq h0 a1 a2 a3 a4 d u1.1 u1.2.1 u1.2.2.1 u1.2.2.2) (w1 := fq_wm g0 b1 z (fq_bf u2)) hP hD [0, 1] [2, 3, 4, 5, 6] rfl rfl (by decide) (by decide) hk1 hFc hP1 hD1
  generalize H1 = H at hP hS ⊢
  have hP : va_P (dC, dI) vwCl (fq_wq h0 a1 a2 a3 a4 d u1.1 u1.2.1 u1.2.2.1 u1.2.2.2 ++ fq_wm g0 b1 z (fq_bf u2)) H := hP
  have hD : va_D (fun q : Nat => s.heap.size ≤ q) (fq_wq h0 a1 a2 a3 a4 d u1.1 u1.2.1 u1.2.2.1 u1.2.2.2 ++ fq_wm g0 b1 z (fq_bf u2)) := hD
  refine lv_icmp_eq (tgt := 423) hx hb dL_law_149 (by decide) (fun ce => ?_) (fun ce => ?_)
  · exact K u2 u1.1 u1.2.1 u1.2.2.1 u1.2.2.2 H locs (by rw [hw1.2, hw2.2]; exact fq_delU_spec hI) hP hD hS
  · exact absurd (hw1.1.trans ((fq_delR_spec hI).trans hw2.1.symm)) ce
set_option maxHeartbeats 4000000 in
set_option maxRecDepth 100000 in
theorem fq_case_member {p : Program} {l : Launch} {e : Env} {s : State} {m : MethodId} {below : List Frame} {meth : Method} {c : Code} {dC : Nat → ClassId} {dI : Nat → Nat → Nat} {b L : Nat} {xs : Nat → Int32} (hL : L ≤ 192) (C0 : lw_At p s m meth c b L xs) {h0 a1 a2 a3 a4 g0 b1 : Nat} {d z : ClassId} (hK : va_K (dC, dI) vwCl [(d, .byte), (z, .boolean)] s) {i : Nat} (hi : i + 3 ≤ L) (S : Nat → Bool) (A0 : fq_A4) (mi mx ct : Int32) (H : Heap) (locs : List Loc) (hI : fq_Inv S A0 mi mx ct) (hP : va_P (dC, dI) vwCl (fq_wq h0 a1 a2 a3 a4 d A0 mi mx ct ++ fq_wm g0 b1 z (fq_bf S)) H) (hD : va_D (fun q : Nat => s.heap.size ≤ q) (fq_wq h0 a1 a2 a3 a4 d A0 mi mx ct ++ fq_wm g0 b1 z (fq_bf S))) (hS : va_S (fun q : Nat => s.heap.size ≤ q) s.heap H locs) {ls : Array Slot} (hl : lv_has ls 4 [(3, .int (nI i)), (2, .ref g0), (1, .ref h0), (0, .ref b)]) (K : ∀ (S : Nat → Bool) (A0 : fq_A4) (mi mx ct : Int32) (H : Heap) (locs : List Loc), fq_Inv S A0 mi mx ct → va_P (dC, dI) vwCl (fq_wq h0 a1 a2 a3 a4 d A0 mi mx ct ++ fq_wm g0 b1 z (fq_bf S)) H → va_D (fun q : Nat => s.heap.size ≤ q) (fq_wq h0 a1 a2 a3 a4 d A0 mi mx ct ++ fq_wm g0 b1 z (fq_bf S)) → va_S (fun q : Nat => s.heap.size ≤ q) s.heap H locs → W p l e room_1 s m #[Value.ref b] below meth c H locs 7 383 (lw_Z below #[Value.ref b] s) (F0 m 423 ls [])) : W p l e room_1 s m #[Value.ref b] below meth c H locs 7 383 (lw_Z below #[Value.ref b] s) (F0 m 154 ls []) := by
  obtain ⟨hx, hb, hr, hml, hown, hts0, hX, hbl, hlocks, hgv⟩ := C0
  have hts : ∀ w ∈ lw_all, w.before #[Value.ref b] s = true := fun w h => hts0 w (lw_all_tbl h)
  have hown : s.vm.findClass "FlatQueueLaw" = some m.cls := hown
  have hA : ∀ q : Nat, s.heap.size ≤ q → (fun q : Nat => s.heap.size ≤ q) q := fun _ h => h
  have hbA : ¬ (fun q : Nat => s.heap.size ≤ q) b := Nat.not_le.mpr hbl
  refine lv_aload_n hx hb dL_law_154 rfl (lv_at hl 2 rfl) ?_
  refine lv_aload_n hx hb dL_law_155 rfl (lv_at hl 3 rfl) ?_
  refine lv_iload_n hx hb dL_law_156 rfl (lv_at hl 0 rfl) ?_
  refine lv_iconst (v := 1) hx hb dL_law_157 (by decide) ?_
  refine lv_iadd hx hb dL_law_158 ?_
  refine va_sld hx hb hX hbl hbA hS (fq_lw_i1 hL hi) dL_law_159 ?_
  have hPc := hP.sub (ws' := fq_wq h0 a1 a2 a3 a4 d A0 mi mx ct) [0, 1, 2, 3, 4] rfl
  have hDc := hD.sub (ws' := fq_wq h0 a1 a2 a3 a4 d A0 mi mx ct) [0, 1, 2, 3, 4] (by decide) rfl
  have hKc := hK.sub (tys' := [(d, .byte)]) [0] rfl
  have hFc := va_free (wc := fq_wq h0 a1 a2 a3 a4 d A0 mi mx ct) hD hS hA [0, 1, 2, 3, 4] rfl
  refine va_calli (va_runV (As := [.int (xs (nI i + (1 : Int32)).toNatClampNeg)]) (rest := []) ⟨hx, hb, hml, hown, hts⟩ (fq_met_member l dC dI h0 a1 a2 a3 a4 d H.size A0 mi mx ct (xs (nI i + (1 : Int32)).toNatClampNeg) ) (cwV 1 hts (lw_V q91 q50 q51 q12 q52) rfl rfl rfl (by decide +kernel) ⟨Nat.le_of_ble_eq_true rfl, Nat.le_of_ble_eq_true rfl⟩) ⟨fq_blind, va_recv hKc hPc (ci := 0) (q0 := 0) rfl rfl, fun U hU hW => ⟨rfl, by rw [hU], by rw [hU]; exact hPc, va_K.moved hW.alike hKc, hDc.weaken (fun _ _ _ _ => trivial)⟩⟩ rfl rfl hl.1 rfl (lv_room (Nat.le_of_ble_eq_true rfl)) dL_law_160 ⟨Nat.le_of_ble_eq_true rfl, Nat.le_of_ble_eq_true rfl⟩) hS (fun q _ h => hFc q h) hFc (fun r1 u1 t H1 locs ht hvm hw1 hB hz1 hk1 hS => ?_)
  try dsimp only at hw1
  obtain ⟨hP1, hK1, hD1⟩ := hB
  rw [ht] at hP1
  obtain ⟨hP, hD⟩ := va_join (wr := fq_wm g0 b1 z (fq_bf S)) (w1 := fq_wq h0 a1 a2 a3 a4 d A0 mi mx ct) hP hD [0, 1, 2, 3, 4] [5, 6] rfl rfl (by decide) (by decide) hk1 hFc hP1 hD1
  generalize H1 = H at hP hS ⊢
  have hP : va_P (dC, dI) vwCl (fq_wm g0 b1 z (fq_bf S) ++ fq_wq h0 a1 a2 a3 a4 d A0 mi mx ct) H := hP
  have hD : va_D (fun q : Nat => s.heap.size ≤ q) (fq_wm g0 b1 z (fq_bf S) ++ fq_wq h0 a1 a2 a3 a4 d A0 mi mx ct) := hD
  refine lv_aload_n hx hb dL_law_163 rfl (lv_at hl 1 rfl) ?_
  refine lv_aload_n hx hb dL_law_164 rfl (lv_at hl 3 rfl) ?_
  refine lv_iload_n hx hb dL_law_165 rfl (lv_at hl 0 rfl) ?_
  refine lv_iconst (v := 1) hx hb dL_law_166 (by decide) ?_
  refine lv_iadd hx hb dL_law_167 ?_
  refine va_sld hx hb hX hbl hbA hS (fq_lw_i1 hL hi) dL_law_168 ?_
  have hPc := hP.sub (ws' := fq_wm g0 b1 z (fq_bf S)) [0, 1] rfl
  have hDc := hD.sub (ws' := fq_wm g0 b1 z (fq_bf S)) [0, 1] (by decide) rfl
  have hKc := hK.sub (tys' := [(z, .boolean)]) [1] rfl
  have hFc := va_free (wc := fq_wm g0 b1 z (fq_bf S)) hD hS hA [0, 1] rfl
  refine va_calli (va_runV (As := [.int (xs (nI i + (1 : Int32)).toNatClampNeg)]) (rest := [.int r1]) ⟨hx, hb, hml, hown, hts⟩ (fq_metM_member l dC dI g0 b1 z H.size S (xs (nI i + (1 : Int32)).toNatClampNeg)) (cwV 1 hts (lw_V q178 q179 q180 q13 q181) rfl rfl rfl (by decide +kernel) ⟨Nat.le_of_ble_eq_true rfl, Nat.le_of_ble_eq_true rfl⟩) ⟨fq_blind, va_recv hKc hPc (ci := 1) (q0 := 0) rfl rfl, fun U hU hW => ⟨rfl, by rw [hU], by rw [hU]; exact hPc, va_K.moved hW.alike hKc, hDc.weaken (fun _ _ _ _ => trivial)⟩⟩ rfl rfl hl.1 rfl (lv_room (Nat.le_of_ble_eq_true rfl)) dL_law_169 ⟨Nat.le_of_ble_eq_true rfl, Nat.le_of_ble_eq_true rfl⟩) hS (fun q _ h => hFc q h) hFc (fun r2 u2 t H1 locs ht hvm hw2 hB hz1 hk1 hS => ?_)
  try dsimp only at hw2
  obtain ⟨hP1, hK1, hD1⟩ := hB
  rw [ht] at hP1
  obtain ⟨hP, hD⟩ := va_join (wr := fq_wq h0 a1 a2 a3 a4 d A0 mi mx ct) (w1 := fq_wm g0 b1 z (fq_bf S)) hP hD [0, 1] [2, 3, 4, 5, 6] rfl rfl (by decide) (by decide) hk1 hFc hP1 hD1
  generalize H1 = H at hP hS ⊢
  have hP : va_P (dC, dI) vwCl (fq_wq h0 a1 a2 a3 a4 d A0 mi mx ct ++ fq_wm g0 b1 z (fq_bf S)) H := hP
  have hD : va_D (fun q : Nat => s.heap.size ≤ q) (fq_wq h0 a1 a2 a3 a4 d A0 mi mx ct ++ fq_wm g0 b1 z (fq_bf S)) := hD
  refine lv_icmp_eq (tgt := 423) hx hb dL_law_172 (by decide) (fun ce => ?_) (fun ce => ?_)
  · exact K S A0 mi mx ct H locs (hI) hP hD hS
  · exact absurd (hw1.trans ((fq_member_spec hI).trans hw2.symm)) ce
set_option maxHeartbeats 4000000 in
set_option maxRecDepth 100000 in
theorem fq_case_size {p : Program} {l : Launch} {e : Env} {s : State} {m : MethodId} {below : List Frame} {meth : Method} {c : Code} {dC : Nat → ClassId} {dI : Nat → Nat → Nat} {b L : Nat} {xs : Nat → Int32} (hL : L ≤ 192) (C0 : lw_At p s m meth c b L xs) {h0 a1 a2 a3 a4 g0 b1 : Nat} {d z : ClassId} (hK : va_K (dC, dI) vwCl [(d, .byte), (z, .boolean)] s) {i : Nat} (hi : i + 3 ≤ L) (S : Nat → Bool) (A0 : fq_A4) (mi mx ct : Int32) (H : Heap) (locs : List Loc) (hI : fq_Inv S A0 mi mx ct) (hP : va_P (dC, dI) vwCl (fq_wq h0 a1 a2 a3 a4 d A0 mi mx ct ++ fq_wm g0 b1 z (fq_bf S)) H) (hD : va_D (fun q : Nat => s.heap.size ≤ q) (fq_wq h0 a1 a2 a3 a4 d A0 mi mx ct ++ fq_wm g0 b1 z (fq_bf S))) (hS : va_S (fun q : Nat => s.heap.size ≤ q) s.heap H locs) {ls : Array Slot} (hl : lv_has ls 4 [(3, .int (nI i)), (2, .ref g0), (1, .ref h0), (0, .ref b)]) (K : ∀ (S : Nat → Bool) (A0 : fq_A4) (mi mx ct : Int32) (H : Heap) (locs : List Loc), fq_Inv S A0 mi mx ct → va_P (dC, dI) vwCl (fq_wq h0 a1 a2 a3 a4 d A0 mi mx ct ++ fq_wm g0 b1 z (fq_bf S)) H → va_D (fun q : Nat => s.heap.size ≤ q) (fq_wq h0 a1 a2 a3 a4 d A0 mi mx ct ++ fq_wm g0 b1 z (fq_bf S)) → va_S (fun q : Nat => s.heap.size ≤ q) s.heap H locs → W p l e room_1 s m #[Value.ref b] below meth c H locs 7 383 (lw_Z below #[Value.ref b] s) (F0 m 423 ls [])) : W p l e room_1 s m #[Value.ref b] below meth c H locs 7 383 (lw_Z below #[Value.ref b] s) (F0 m 177 ls []) := by
  obtain ⟨hx, hb, hr, hml, hown, hts0, hX, hbl, hlocks, hgv⟩ := C0
  have hts : ∀ w ∈ lw_all, w.before #[Value.ref b] s = true := fun w h => hts0 w (lw_all_tbl h)
  have hown : s.vm.findClass "FlatQueueLaw" = some m.cls := hown
  have hA : ∀ q : Nat, s.heap.size ≤ q → (fun q : Nat => s.heap.size ≤ q) q := fun _ h => h
  have hbA : ¬ (fun q : Nat => s.heap.size ≤ q) b := Nat.not_le.mpr hbl
  refine lv_aload_n hx hb dL_law_177 rfl (lv_at hl 2 rfl) ?_
  have hPc := hP.sub (ws' := fq_wq h0 a1 a2 a3 a4 d A0 mi mx ct) [0, 1, 2, 3, 4] rfl
  have hDc := hD.sub (ws' := fq_wq h0 a1 a2 a3 a4 d A0 mi mx ct) [0, 1, 2, 3, 4] (by decide) rfl
  have hKc := hK.sub (tys' := [(d, .byte)]) [0] rfl
  have hFc := va_free (wc := fq_wq h0 a1 a2 a3 a4 d A0 mi mx ct) hD hS hA [0, 1, 2, 3, 4] rfl
  refine va_calli (va_runV (As := []) (rest := []) ⟨hx, hb, hml, hown, hts⟩ (fq_met_size l dC dI h0 a1 a2 a3 a4 d H.size A0 mi mx ct  ) (cwV 0 hts (lw_V q92 q93 q94 q12 q95) rfl rfl rfl (by decide +kernel) ⟨Nat.le_of_ble_eq_true rfl, Nat.le_of_ble_eq_true rfl⟩) ⟨fq_blind, va_recv hKc hPc (ci := 0) (q0 := 0) rfl rfl, fun U hU hW => ⟨rfl, by rw [hU], by rw [hU]; exact hPc, va_K.moved hW.alike hKc, hDc.weaken (fun _ _ _ _ => trivial)⟩⟩ rfl rfl hl.1 rfl (lv_room (Nat.le_of_ble_eq_true rfl)) dL_law_178 ⟨Nat.le_of_ble_eq_true rfl, Nat.le_of_ble_eq_true rfl⟩) hS (fun q _ h => hFc q h) hFc (fun r1 u1 t H1 locs ht hvm hw1 hB hz1 hk1 hS => ?_)
  try dsimp only at hw1
  obtain ⟨hP1, hK1, hD1⟩ := hB
  rw [ht] at hP1
  obtain ⟨hP, hD⟩ := va_join (wr := fq_wm g0 b1 z (fq_bf S)) (w1 := fq_wq h0 a1 a2 a3 a4 d A0 mi mx ct) hP hD [0, 1, 2, 3, 4] [5, 6] rfl rfl (by decide) (by decide) hk1 hFc hP1 hD1
  generalize H1 = H at hP hS ⊢
  have hP : va_P (dC, dI) vwCl (fq_wm g0 b1 z (fq_bf S) ++ fq_wq h0 a1 a2 a3 a4 d A0 mi mx ct) H := hP
  have hD : va_D (fun q : Nat => s.heap.size ≤ q) (fq_wm g0 b1 z (fq_bf S) ++ fq_wq h0 a1 a2 a3 a4 d A0 mi mx ct) := hD
  refine lv_aload_n hx hb dL_law_181 rfl (lv_at hl 1 rfl) ?_
  have hPc := hP.sub (ws' := fq_wm g0 b1 z (fq_bf S)) [0, 1] rfl
  have hDc := hD.sub (ws' := fq_wm g0 b1 z (fq_bf S)) [0, 1] (by decide) rfl
  have hKc := hK.sub (tys' := [(z, .boolean)]) [1] rfl
  have hFc := va_free (wc := fq_wm g0 b1 z (fq_bf S)) hD hS hA [0, 1] rfl
  refine va_calli (va_runV (As := []) (rest := [.int r1]) ⟨hx, hb, hml, hown, hts⟩ (fq_metM_size l dC dI g0 b1 z H.size S ) (cwV 0 hts (lw_V q182 q183 q184 q13 q185) rfl rfl rfl (by decide +kernel) ⟨Nat.le_of_ble_eq_true rfl, Nat.le_of_ble_eq_true rfl⟩) ⟨fq_blind, va_recv hKc hPc (ci := 1) (q0 := 0) rfl rfl, fun U hU hW => ⟨rfl, by rw [hU], by rw [hU]; exact hPc, va_K.moved hW.alike hKc, hDc.weaken (fun _ _ _ _ => trivial)⟩⟩ rfl rfl hl.1 rfl (lv_room (Nat.le_of_ble_eq_true rfl)) dL_law_182 ⟨Nat.le_of_ble_eq_true rfl, Nat.le_of_ble_eq_true rfl⟩) hS (fun q _ h => hFc q h) hFc (fun r2 u2 t H1 locs ht hvm hw2 hB hz1 hk1 hS => ?_)
  try dsimp only at hw2
  obtain ⟨hP1, hK1, hD1⟩ := hB
  rw [ht] at hP1
  obtain ⟨hP, hD⟩ := va_join (wr := fq_wq h0 a1 a2 a3 a4 d A0 mi mx ct) (w1 := fq_wm g0 b1 z (fq_bf S)) hP hD [0, 1] [2, 3, 4, 5, 6] rfl rfl (by decide) (by decide) hk1 hFc hP1 hD1
  generalize H1 = H at hP hS ⊢
  have hP : va_P (dC, dI) vwCl (fq_wq h0 a1 a2 a3 a4 d A0 mi mx ct ++ fq_wm g0 b1 z (fq_bf S)) H := hP
  have hD : va_D (fun q : Nat => s.heap.size ≤ q) (fq_wq h0 a1 a2 a3 a4 d A0 mi mx ct ++ fq_wm g0 b1 z (fq_bf S)) := hD
  refine lv_icmp_eq (tgt := 423) hx hb dL_law_185 (by decide) (fun ce => ?_) (fun ce => ?_)
  · exact K S A0 mi mx ct H locs (hI) hP hD hS
  · exact absurd (hw1.trans ((fq_lw_size hI).trans hw2.symm)) ce
set_option maxHeartbeats 4000000 in
set_option maxRecDepth 100000 in
theorem fq_case_least {p : Program} {l : Launch} {e : Env} {s : State} {m : MethodId} {below : List Frame} {meth : Method} {c : Code} {dC : Nat → ClassId} {dI : Nat → Nat → Nat} {b L : Nat} {xs : Nat → Int32} (hL : L ≤ 192) (C0 : lw_At p s m meth c b L xs) {h0 a1 a2 a3 a4 g0 b1 : Nat} {d z : ClassId} (hK : va_K (dC, dI) vwCl [(d, .byte), (z, .boolean)] s) {i : Nat} (hi : i + 3 ≤ L) (S : Nat → Bool) (A0 : fq_A4) (mi mx ct : Int32) (H : Heap) (locs : List Loc) (hI : fq_Inv S A0 mi mx ct) (hP : va_P (dC, dI) vwCl (fq_wq h0 a1 a2 a3 a4 d A0 mi mx ct ++ fq_wm g0 b1 z (fq_bf S)) H) (hD : va_D (fun q : Nat => s.heap.size ≤ q) (fq_wq h0 a1 a2 a3 a4 d A0 mi mx ct ++ fq_wm g0 b1 z (fq_bf S))) (hS : va_S (fun q : Nat => s.heap.size ≤ q) s.heap H locs) {ls : Array Slot} (hl : lv_has ls 4 [(3, .int (nI i)), (2, .ref g0), (1, .ref h0), (0, .ref b)]) (K : ∀ (S : Nat → Bool) (A0 : fq_A4) (mi mx ct : Int32) (H : Heap) (locs : List Loc), fq_Inv S A0 mi mx ct → va_P (dC, dI) vwCl (fq_wq h0 a1 a2 a3 a4 d A0 mi mx ct ++ fq_wm g0 b1 z (fq_bf S)) H → va_D (fun q : Nat => s.heap.size ≤ q) (fq_wq h0 a1 a2 a3 a4 d A0 mi mx ct ++ fq_wm g0 b1 z (fq_bf S)) → va_S (fun q : Nat => s.heap.size ≤ q) s.heap H locs → W p l e room_1 s m #[Value.ref b] below meth c H locs 7 383 (lw_Z below #[Value.ref b] s) (F0 m 423 ls [])) : W p l e room_1 s m #[Value.ref b] below meth c H locs 7 383 (lw_Z below #[Value.ref b] s) (F0 m 190 ls []) := by
  obtain ⟨hx, hb, hr, hml, hown, hts0, hX, hbl, hlocks, hgv⟩ := C0
  have hts : ∀ w ∈ lw_all, w.before #[Value.ref b] s = true := fun w h => hts0 w (lw_all_tbl h)
  have hown : s.vm.findClass "FlatQueueLaw" = some m.cls := hown
  have hA : ∀ q : Nat, s.heap.size ≤ q → (fun q : Nat => s.heap.size ≤ q) q := fun _ h => h
  have hbA : ¬ (fun q : Nat => s.heap.size ≤ q) b := Nat.not_le.mpr hbl
  refine lv_aload_n hx hb dL_law_190 rfl (lv_at hl 2 rfl) ?_
  have hPc := hP.sub (ws' := fq_wq h0 a1 a2 a3 a4 d A0 mi mx ct) [0, 1, 2, 3, 4] rfl
  have hDc := hD.sub (ws' := fq_wq h0 a1 a2 a3 a4 d A0 mi mx ct) [0, 1, 2, 3, 4] (by decide) rfl
  have hKc := hK.sub (tys' := [(d, .byte)]) [0] rfl
  have hFc := va_free (wc := fq_wq h0 a1 a2 a3 a4 d A0 mi mx ct) hD hS hA [0, 1, 2, 3, 4] rfl
  refine va_calli (va_runV (As := []) (rest := []) ⟨hx, hb, hml, hown, hts⟩ (fq_met_least l dC dI h0 a1 a2 a3 a4 d H.size A0 mi mx ct  ) (cwV 0 hts (lw_V q96 q97 q98 q12 q99) rfl rfl rfl (by decide +kernel) ⟨Nat.le_of_ble_eq_true rfl, Nat.le_of_ble_eq_true rfl⟩) ⟨fq_blind, va_recv hKc hPc (ci := 0) (q0 := 0) rfl rfl, fun U hU hW => ⟨rfl, by rw [hU], by rw [hU]; exact hPc, va_K.moved hW.alike hKc, hDc.weaken (fun _ _ _ _ => trivial)⟩⟩ rfl rfl hl.1 rfl (lv_room (Nat.le_of_ble_eq_true rfl)) dL_law_191 ⟨Nat.le_of_ble_eq_true rfl, Nat.le_of_ble_eq_true rfl⟩) hS (fun q _ h => hFc q h) hFc (fun r1 u1 t H1 locs ht hvm hw1 hB hz1 hk1 hS => ?_)
  try dsimp only at hw1
  obtain ⟨hP1, hK1, hD1⟩ := hB
  rw [ht] at hP1
  obtain ⟨hP, hD⟩ := va_join (wr := fq_wm g0 b1 z (fq_bf S)) (w1 := fq_wq h0 a1 a2 a3 a4 d A0 mi mx ct) hP hD [0, 1, 2, 3, 4] [5, 6] rfl rfl (by decide) (by decide) hk1 hFc hP1 hD1
  generalize H1 = H at hP hS ⊢
  have hP : va_P (dC, dI) vwCl (fq_wm g0 b1 z (fq_bf S) ++ fq_wq h0 a1 a2 a3 a4 d A0 mi mx ct) H := hP
  have hD : va_D (fun q : Nat => s.heap.size ≤ q) (fq_wm g0 b1 z (fq_bf S) ++ fq_wq h0 a1 a2 a3 a4 d A0 mi mx ct) := hD
  refine lv_aload_n hx hb dL_law_194 rfl (lv_at hl 1 rfl) ?_
  have hPc := hP.sub (ws' := fq_wm g0 b1 z (fq_bf S)) [0, 1] rfl
  have hDc := hD.sub (ws' := fq_wm g0 b1 z (fq_bf S)) [0, 1] (by decide) rfl
  have hKc := hK.sub (tys' := [(z, .boolean)]) [1] rfl
  have hFc := va_free (wc := fq_wm g0 b1 z (fq_bf S)) hD hS hA [0, 1] rfl
  refine va_calli (va_runV (As := []) (rest := [.int r1]) ⟨hx, hb, hml, hown, hts⟩ (fq_metM_least l dC dI g0 b1 z H.size S ) (cwV 0 hts (lw_V q190 q191 q192 q13 q193) rfl rfl rfl (by decide +kernel) ⟨Nat.le_of_ble_eq_true rfl, Nat.le_of_ble_eq_true rfl⟩) ⟨fq_blind, va_recv hKc hPc (ci := 1) (q0 := 0) rfl rfl, fun U hU hW => ⟨rfl, by rw [hU], by rw [hU]; exact hPc, va_K.moved hW.alike hKc, hDc.weaken (fun _ _ _ _ => trivial)⟩⟩ rfl rfl hl.1 rfl (lv_room (Nat.le_of_ble_eq_true rfl)) dL_law_195 ⟨Nat.le_of_ble_eq_true rfl, Nat.le_of_ble_eq_true rfl⟩) hS (fun q _ h => hFc q h) hFc (fun r2 u2 t H1 locs ht hvm hw2 hB hz1 hk1 hS => ?_)
  try dsimp only at hw2
  obtain ⟨hP1, hK1, hD1⟩ := hB
  rw [ht] at hP1
  obtain ⟨hP, hD⟩ := va_join (wr := fq_wq h0 a1 a2 a3 a4 d A0 mi mx ct) (w1 := fq_wm g0 b1 z (fq_bf S)) hP hD [0, 1] [2, 3, 4, 5, 6] rfl rfl (by decide) (by decide) hk1 hFc hP1 hD1
  generalize H1 = H at hP hS ⊢
  have hP : va_P (dC, dI) vwCl (fq_wq h0 a1 a2 a3 a4 d A0 mi mx ct ++ fq_wm g0 b1 z (fq_bf S)) H := hP
  have hD : va_D (fun q : Nat => s.heap.size ≤ q) (fq_wq h0 a1 a2 a3 a4 d A0 mi mx ct ++ fq_wm g0 b1 z (fq_bf S)) := hD
  refine lv_icmp_eq (tgt := 423) hx hb dL_law_198 (by decide) (fun ce => ?_) (fun ce => ?_)
  · exact K S A0 mi mx ct H locs (hI) hP hD hS
  · exact absurd (hw1.trans (fq_Mn_u hI.1 (fq_lw_mn hw2))) ce
set_option maxHeartbeats 4000000 in
set_option maxRecDepth 100000 in
theorem fq_case_greatest {p : Program} {l : Launch} {e : Env} {s : State} {m : MethodId} {below : List Frame} {meth : Method} {c : Code} {dC : Nat → ClassId} {dI : Nat → Nat → Nat} {b L : Nat} {xs : Nat → Int32} (hL : L ≤ 192) (C0 : lw_At p s m meth c b L xs) {h0 a1 a2 a3 a4 g0 b1 : Nat} {d z : ClassId} (hK : va_K (dC, dI) vwCl [(d, .byte), (z, .boolean)] s) {i : Nat} (hi : i + 3 ≤ L) (S : Nat → Bool) (A0 : fq_A4) (mi mx ct : Int32) (H : Heap) (locs : List Loc) (hI : fq_Inv S A0 mi mx ct) (hP : va_P (dC, dI) vwCl (fq_wq h0 a1 a2 a3 a4 d A0 mi mx ct ++ fq_wm g0 b1 z (fq_bf S)) H) (hD : va_D (fun q : Nat => s.heap.size ≤ q) (fq_wq h0 a1 a2 a3 a4 d A0 mi mx ct ++ fq_wm g0 b1 z (fq_bf S))) (hS : va_S (fun q : Nat => s.heap.size ≤ q) s.heap H locs) {ls : Array Slot} (hl : lv_has ls 4 [(3, .int (nI i)), (2, .ref g0), (1, .ref h0), (0, .ref b)]) (K : ∀ (S : Nat → Bool) (A0 : fq_A4) (mi mx ct : Int32) (H : Heap) (locs : List Loc), fq_Inv S A0 mi mx ct → va_P (dC, dI) vwCl (fq_wq h0 a1 a2 a3 a4 d A0 mi mx ct ++ fq_wm g0 b1 z (fq_bf S)) H → va_D (fun q : Nat => s.heap.size ≤ q) (fq_wq h0 a1 a2 a3 a4 d A0 mi mx ct ++ fq_wm g0 b1 z (fq_bf S)) → va_S (fun q : Nat => s.heap.size ≤ q) s.heap H locs → W p l e room_1 s m #[Value.ref b] below meth c H locs 7 383 (lw_Z below #[Value.ref b] s) (F0 m 423 ls [])) : W p l e room_1 s m #[Value.ref b] below meth c H locs 7 383 (lw_Z below #[Value.ref b] s) (F0 m 203 ls []) := by
  obtain ⟨hx, hb, hr, hml, hown, hts0, hX, hbl, hlocks, hgv⟩ := C0
  have hts : ∀ w ∈ lw_all, w.before #[Value.ref b] s = true := fun w h => hts0 w (lw_all_tbl h)
  have hown : s.vm.findClass "FlatQueueLaw" = some m.cls := hown
  have hA : ∀ q : Nat, s.heap.size ≤ q → (fun q : Nat => s.heap.size ≤ q) q := fun _ h => h
  have hbA : ¬ (fun q : Nat => s.heap.size ≤ q) b := Nat.not_le.mpr hbl
  refine lv_aload_n hx hb dL_law_203 rfl (lv_at hl 2 rfl) ?_
  have hPc := hP.sub (ws' := fq_wq h0 a1 a2 a3 a4 d A0 mi mx ct) [0, 1, 2, 3, 4] rfl
  have hDc := hD.sub (ws' := fq_wq h0 a1 a2 a3 a4 d A0 mi mx ct) [0, 1, 2, 3, 4] (by decide) rfl
  have hKc := hK.sub (tys' := [(d, .byte)]) [0] rfl
  have hFc := va_free (wc := fq_wq h0 a1 a2 a3 a4 d A0 mi mx ct) hD hS hA [0, 1, 2, 3, 4] rfl
  refine va_calli (va_runV (As := []) (rest := []) ⟨hx, hb, hml, hown, hts⟩ (fq_met_greatest l dC dI h0 a1 a2 a3 a4 d H.size A0 mi mx ct  ) (cwV 0 hts (lw_V q100 q101 q102 q12 q103) rfl rfl rfl (by decide +kernel) ⟨Nat.le_of_ble_eq_true rfl, Nat.le_of_ble_eq_true rfl⟩) ⟨fq_blind, va_recv hKc hPc (ci := 0) (q0 := 0) rfl rfl, fun U hU hW => ⟨rfl, by rw [hU], by rw [hU]; exact hPc, va_K.moved hW.alike hKc, hDc.weaken (fun _ _ _ _ => trivial)⟩⟩ rfl rfl hl.1 rfl (lv_room (Nat.le_of_ble_eq_true rfl)) dL_law_204 ⟨Nat.le_of_ble_eq_true rfl, Nat.le_of_ble_eq_true rfl⟩) hS (fun q _ h => hFc q h) hFc (fun r1 u1 t H1 locs ht hvm hw1 hB hz1 hk1 hS => ?_)
  try dsimp only at hw1
  obtain ⟨hP1, hK1, hD1⟩ := hB
  rw [ht] at hP1
  obtain ⟨hP, hD⟩ := va_join (wr := fq_wm g0 b1 z (fq_bf S)) (w1 := fq_wq h0 a1 a2 a3 a4 d A0 mi mx ct) hP hD [0, 1, 2, 3, 4] [5, 6] rfl rfl (by decide) (by decide) hk1 hFc hP1 hD1
  generalize H1 = H at hP hS ⊢
  have hP : va_P (dC, dI) vwCl (fq_wm g0 b1 z (fq_bf S) ++ fq_wq h0 a1 a2 a3 a4 d A0 mi mx ct) H := hP
  have hD : va_D (fun q : Nat => s.heap.size ≤ q) (fq_wm g0 b1 z (fq_bf S) ++ fq_wq h0 a1 a2 a3 a4 d A0 mi mx ct) := hD
  refine lv_aload_n hx hb dL_law_207 rfl (lv_at hl 1 rfl) ?_
  have hPc := hP.sub (ws' := fq_wm g0 b1 z (fq_bf S)) [0, 1] rfl
  have hDc := hD.sub (ws' := fq_wm g0 b1 z (fq_bf S)) [0, 1] (by decide) rfl
  have hKc := hK.sub (tys' := [(z, .boolean)]) [1] rfl
  have hFc := va_free (wc := fq_wm g0 b1 z (fq_bf S)) hD hS hA [0, 1] rfl
  refine va_calli (va_runV (As := []) (rest := [.int r1]) ⟨hx, hb, hml, hown, hts⟩ (fq_metM_greatest l dC dI g0 b1 z H.size S ) (cwV 0 hts (lw_V q198 q199 q200 q13 q201) rfl rfl rfl (by decide +kernel) ⟨Nat.le_of_ble_eq_true rfl, Nat.le_of_ble_eq_true rfl⟩) ⟨fq_blind, va_recv hKc hPc (ci := 1) (q0 := 0) rfl rfl, fun U hU hW => ⟨rfl, by rw [hU], by rw [hU]; exact hPc, va_K.moved hW.alike hKc, hDc.weaken (fun _ _ _ _ => trivial)⟩⟩ rfl rfl hl.1 rfl (lv_room (Nat.le_of_ble_eq_true rfl)) dL_law_208 ⟨Nat.le_of_ble_eq_true rfl, Nat.le_of_ble_eq_true rfl⟩) hS (fun q _ h => hFc q h) hFc (fun r2 u2 t H1 locs ht hvm hw2 hB hz1 hk1 hS => ?_)
  try dsimp only at hw2
  obtain ⟨hP1, hK1, hD1⟩ := hB
  rw [ht] at hP1
  obtain ⟨hP, hD⟩ := va_join (wr := fq_wq h0 a1 a2 a3 a4 d A0 mi mx ct) (w1 := fq_wm g0 b1 z (fq_bf S)) hP hD [0, 1] [2, 3, 4, 5, 6] rfl rfl (by decide) (by decide) hk1 hFc hP1 hD1
  generalize H1 = H at hP hS ⊢
  have hP : va_P (dC, dI) vwCl (fq_wq h0 a1 a2 a3 a4 d A0 mi mx ct ++ fq_wm g0 b1 z (fq_bf S)) H := hP
  have hD : va_D (fun q : Nat => s.heap.size ≤ q) (fq_wq h0 a1 a2 a3 a4 d A0 mi mx ct ++ fq_wm g0 b1 z (fq_bf S)) := hD
  refine lv_icmp_eq (tgt := 423) hx hb dL_law_211 (by decide) (fun ce => ?_) (fun ce => ?_)
  · exact K S A0 mi mx ct H locs (hI) hP hD hS
  · exact absurd (hw1.trans (fq_Mx_u hI.2.1 (fq_lw_mx hw2))) ce
set_option maxHeartbeats 4000000 in
set_option maxRecDepth 100000 in
theorem fq_case_after {p : Program} {l : Launch} {e : Env} {s : State} {m : MethodId} {below : List Frame} {meth : Method} {c : Code} {dC : Nat → ClassId} {dI : Nat → Nat → Nat} {b L : Nat} {xs : Nat → Int32} (hL : L ≤ 192) (C0 : lw_At p s m meth c b L xs) {h0 a1 a2 a3 a4 g0 b1 : Nat} {d z : ClassId} (hK : va_K (dC, dI) vwCl [(d, .byte), (z, .boolean)] s) {i : Nat} (hi : i + 3 ≤ L) (S : Nat → Bool) (A0 : fq_A4) (mi mx ct : Int32) (H : Heap) (locs : List Loc) (hI : fq_Inv S A0 mi mx ct) (hP : va_P (dC, dI) vwCl (fq_wq h0 a1 a2 a3 a4 d A0 mi mx ct ++ fq_wm g0 b1 z (fq_bf S)) H) (hD : va_D (fun q : Nat => s.heap.size ≤ q) (fq_wq h0 a1 a2 a3 a4 d A0 mi mx ct ++ fq_wm g0 b1 z (fq_bf S))) (hS : va_S (fun q : Nat => s.heap.size ≤ q) s.heap H locs) {ls : Array Slot} (hl : lv_has ls 4 [(3, .int (nI i)), (2, .ref g0), (1, .ref h0), (0, .ref b)]) (K : ∀ (S : Nat → Bool) (A0 : fq_A4) (mi mx ct : Int32) (H : Heap) (locs : List Loc), fq_Inv S A0 mi mx ct → va_P (dC, dI) vwCl (fq_wq h0 a1 a2 a3 a4 d A0 mi mx ct ++ fq_wm g0 b1 z (fq_bf S)) H → va_D (fun q : Nat => s.heap.size ≤ q) (fq_wq h0 a1 a2 a3 a4 d A0 mi mx ct ++ fq_wm g0 b1 z (fq_bf S)) → va_S (fun q : Nat => s.heap.size ≤ q) s.heap H locs → W p l e room_1 s m #[Value.ref b] below meth c H locs 7 383 (lw_Z below #[Value.ref b] s) (F0 m 423 ls [])) : W p l e room_1 s m #[Value.ref b] below meth c H locs 7 383 (lw_Z below #[Value.ref b] s) (F0 m 216 ls []) := by
  obtain ⟨hx, hb, hr, hml, hown, hts0, hX, hbl, hlocks, hgv⟩ := C0
  have hts : ∀ w ∈ lw_all, w.before #[Value.ref b] s = true := fun w h => hts0 w (lw_all_tbl h)
  have hown : s.vm.findClass "FlatQueueLaw" = some m.cls := hown
  have hA : ∀ q : Nat, s.heap.size ≤ q → (fun q : Nat => s.heap.size ≤ q) q := fun _ h => h
  have hbA : ¬ (fun q : Nat => s.heap.size ≤ q) b := Nat.not_le.mpr hbl
  refine lv_aload_n hx hb dL_law_216 rfl (lv_at hl 2 rfl) ?_
  refine lv_aload_n hx hb dL_law_217 rfl (lv_at hl 3 rfl) ?_
  refine lv_iload_n hx hb dL_law_218 rfl (lv_at hl 0 rfl) ?_
  refine lv_iconst (v := 1) hx hb dL_law_219 (by decide) ?_
  refine lv_iadd hx hb dL_law_220 ?_
  refine va_sld hx hb hX hbl hbA hS (fq_lw_i1 hL hi) dL_law_221 ?_
  have hPc := hP.sub (ws' := fq_wq h0 a1 a2 a3 a4 d A0 mi mx ct) [0, 1, 2, 3, 4] rfl
  have hDc := hD.sub (ws' := fq_wq h0 a1 a2 a3 a4 d A0 mi mx ct) [0, 1, 2, 3, 4] (by decide) rfl
  have hKc := hK.sub (tys' := [(d, .byte)]) [0] rfl
  have hFc := va_free (wc := fq_wq h0 a1 a2 a3 a4 d A0 mi mx ct) hD hS hA [0, 1, 2, 3, 4] rfl
  refine va_calli (va_runV (As := [.int (xs (nI i + (1 : Int32)).toNatClampNeg)]) (rest := []) ⟨hx, hb, hml, hown, hts⟩ (fq_met_after l dC dI h0 a1 a2 a3 a4 d H.size A0 mi mx ct (xs (nI i + (1 : Int32)).toNatClampNeg) S hI) (cwV 1 hts (lw_V q104 q105 q106 q12 q107) rfl rfl rfl (by decide +kernel) ⟨Nat.le_of_ble_eq_true rfl, Nat.le_of_ble_eq_true rfl⟩) ⟨fq_blind, va_recv hKc hPc (ci := 0) (q0 := 0) rfl rfl, fun U hU hW => ⟨rfl, by rw [hU], by rw [hU]; exact hPc, va_K.moved hW.alike hKc, hDc.weaken (fun _ _ _ _ => trivial)⟩⟩ rfl rfl hl.1 rfl (lv_room (Nat.le_of_ble_eq_true rfl)) dL_law_222 ⟨Nat.le_of_ble_eq_true rfl, Nat.le_of_ble_eq_true rfl⟩) hS (fun q _ h => hFc q h) hFc (fun r1 u1 t H1 locs ht hvm hw1 hB hz1 hk1 hS => ?_)
  try dsimp only at hw1
  obtain ⟨hP1, hK1, hD1⟩ := hB
  rw [ht] at hP1
  obtain ⟨hP, hD⟩ := va_join (wr := fq_wm g0 b1 z (fq_bf S)) (w1 := fq_wq h0 a1 a2 a3 a4 d A0 mi mx ct) hP hD [0, 1, 2, 3, 4] [5, 6] rfl rfl (by decide) (by decide) hk1 hFc hP1 hD1
  generalize H1 = H at hP hS ⊢
  have hP : va_P (dC, dI) vwCl (fq_wm g0 b1 z (fq_bf S) ++ fq_wq h0 a1 a2 a3 a4 d A0 mi mx ct) H := hP
  have hD : va_D (fun q : Nat => s.heap.size ≤ q) (fq_wm g0 b1 z (fq_bf S) ++ fq_wq h0 a1 a2 a3 a4 d A0 mi mx ct) := hD
  refine lv_aload_n hx hb dL_law_225 rfl (lv_at hl 1 rfl) ?_
  refine lv_aload_n hx hb dL_law_226 rfl (lv_at hl 3 rfl) ?_
  refine lv_iload_n hx hb dL_law_227 rfl (lv_at hl 0 rfl) ?_
  refine lv_iconst (v := 1) hx hb dL_law_228 (by decide) ?_
  refine lv_iadd hx hb dL_law_229 ?_
  refine va_sld hx hb hX hbl hbA hS (fq_lw_i1 hL hi) dL_law_230 ?_
  have hPc := hP.sub (ws' := fq_wm g0 b1 z (fq_bf S)) [0, 1] rfl
  have hDc := hD.sub (ws' := fq_wm g0 b1 z (fq_bf S)) [0, 1] (by decide) rfl
  have hKc := hK.sub (tys' := [(z, .boolean)]) [1] rfl
  have hFc := va_free (wc := fq_wm g0 b1 z (fq_bf S)) hD hS hA [0, 1] rfl
  refine va_calli (va_runV (As := [.int (xs (nI i + (1 : Int32)).toNatClampNeg)]) (rest := [.int r1]) ⟨hx, hb, hml, hown, hts⟩ (fq_metM_after l dC dI g0 b1 z H.size S (xs (nI i + (1 : Int32)).toNatClampNeg)) (cwV 1 hts (lw_V q206 q195 q196 q13 q197) rfl rfl rfl (by decide +kernel) ⟨Nat.le_of_ble_eq_true rfl, Nat.le_of_ble_eq_true rfl⟩) ⟨fq_blind, va_recv hKc hPc (ci := 1) (q0 := 0) rfl rfl, fun U hU hW => ⟨rfl, by rw [hU], by rw [hU]; exact hPc, va_K.moved hW.alike hKc, hDc.weaken (fun _ _ _ _ => trivial)⟩⟩ rfl rfl hl.1 rfl (lv_room (Nat.le_of_ble_eq_true rfl)) dL_law_231 ⟨Nat.le_of_ble_eq_true rfl, Nat.le_of_ble_eq_true rfl⟩) hS (fun q _ h => hFc q h) hFc (fun r2 u2 t H1 locs ht hvm hw2 hB hz1 hk1 hS => ?_)
  try dsimp only at hw2
  obtain ⟨hP1, hK1, hD1⟩ := hB
  rw [ht] at hP1
  obtain ⟨hP, hD⟩ := va_join (wr := fq_wq h0 a1 a2 a3 a4 d A0 mi mx ct) (w1 := fq_wm g0 b1 z (fq_bf S)) hP hD [0, 1] [2, 3, 4, 5, 6] rfl rfl (by decide) (by decide) hk1 hFc hP1 hD1
  generalize H1 = H at hP hS ⊢
  have hP : va_P (dC, dI) vwCl (fq_wq h0 a1 a2 a3 a4 d A0 mi mx ct ++ fq_wm g0 b1 z (fq_bf S)) H := hP
  have hD : va_D (fun q : Nat => s.heap.size ≤ q) (fq_wq h0 a1 a2 a3 a4 d A0 mi mx ct ++ fq_wm g0 b1 z (fq_bf S)) := hD
  refine lv_icmp_eq (tgt := 423) hx hb dL_law_234 (by decide) (fun ce => ?_) (fun ce => ?_)
  · exact K S A0 mi mx ct H locs (hI) hP hD hS
  · exact absurd (hw1.trans (fq_Mn_u (fq_after_spec hI).1 hw2)) ce
set_option maxHeartbeats 4000000 in
set_option maxRecDepth 100000 in
theorem fq_case_before {p : Program} {l : Launch} {e : Env} {s : State} {m : MethodId} {below : List Frame} {meth : Method} {c : Code} {dC : Nat → ClassId} {dI : Nat → Nat → Nat} {b L : Nat} {xs : Nat → Int32} (hL : L ≤ 192) (C0 : lw_At p s m meth c b L xs) {h0 a1 a2 a3 a4 g0 b1 : Nat} {d z : ClassId} (hK : va_K (dC, dI) vwCl [(d, .byte), (z, .boolean)] s) {i : Nat} (hi : i + 3 ≤ L) (S : Nat → Bool) (A0 : fq_A4) (mi mx ct : Int32) (H : Heap) (locs : List Loc) (hI : fq_Inv S A0 mi mx ct) (hP : va_P (dC, dI) vwCl (fq_wq h0 a1 a2 a3 a4 d A0 mi mx ct ++ fq_wm g0 b1 z (fq_bf S)) H) (hD : va_D (fun q : Nat => s.heap.size ≤ q) (fq_wq h0 a1 a2 a3 a4 d A0 mi mx ct ++ fq_wm g0 b1 z (fq_bf S))) (hS : va_S (fun q : Nat => s.heap.size ≤ q) s.heap H locs) {ls : Array Slot} (hl : lv_has ls 4 [(3, .int (nI i)), (2, .ref g0), (1, .ref h0), (0, .ref b)]) (K : ∀ (S : Nat → Bool) (A0 : fq_A4) (mi mx ct : Int32) (H : Heap) (locs : List Loc), fq_Inv S A0 mi mx ct → va_P (dC, dI) vwCl (fq_wq h0 a1 a2 a3 a4 d A0 mi mx ct ++ fq_wm g0 b1 z (fq_bf S)) H → va_D (fun q : Nat => s.heap.size ≤ q) (fq_wq h0 a1 a2 a3 a4 d A0 mi mx ct ++ fq_wm g0 b1 z (fq_bf S)) → va_S (fun q : Nat => s.heap.size ≤ q) s.heap H locs → W p l e room_1 s m #[Value.ref b] below meth c H locs 7 383 (lw_Z below #[Value.ref b] s) (F0 m 423 ls [])) : W p l e room_1 s m #[Value.ref b] below meth c H locs 7 383 (lw_Z below #[Value.ref b] s) (F0 m 239 ls []) := by
  obtain ⟨hx, hb, hr, hml, hown, hts0, hX, hbl, hlocks, hgv⟩ := C0
  have hts : ∀ w ∈ lw_all, w.before #[Value.ref b] s = true := fun w h => hts0 w (lw_all_tbl h)
  have hown : s.vm.findClass "FlatQueueLaw" = some m.cls := hown
  have hA : ∀ q : Nat, s.heap.size ≤ q → (fun q : Nat => s.heap.size ≤ q) q := fun _ h => h
  have hbA : ¬ (fun q : Nat => s.heap.size ≤ q) b := Nat.not_le.mpr hbl
  refine lv_aload_n hx hb dL_law_239 rfl (lv_at hl 2 rfl) ?_
  refine lv_aload_n hx hb dL_law_240 rfl (lv_at hl 3 rfl) ?_
  refine lv_iload_n hx hb dL_law_241 rfl (lv_at hl 0 rfl) ?_
  refine lv_iconst (v := 1) hx hb dL_law_242 (by decide) ?_
  refine lv_iadd hx hb dL_law_243 ?_
  refine va_sld hx hb hX hbl hbA hS (fq_lw_i1 hL hi) dL_law_244 ?_
  have hPc := hP.sub (ws' := fq_wq h0 a1 a2 a3 a4 d A0 mi mx ct) [0, 1, 2, 3, 4] rfl
  have hDc := hD.sub (ws' := fq_wq h0 a1 a2 a3 a4 d A0 mi mx ct) [0, 1, 2, 3, 4] (by decide) rfl
  have hKc := hK.sub (tys' := [(d, .byte)]) [0] rfl
  have hFc := va_free (wc := fq_wq h0 a1 a2 a3 a4 d A0 mi mx ct) hD hS hA [0, 1, 2, 3, 4] rfl
  refine va_calli (va_runV (As := [.int (xs (nI i + (1 : Int32)).toNatClampNeg)]) (rest := []) ⟨hx, hb, hml, hown, hts⟩ (fq_met_before l dC dI h0 a1 a2 a3 a4 d H.size A0 mi mx ct (xs (nI i + (1 : Int32)).toNatClampNeg) S hI) (cwV 1 hts (lw_V q112 q113 q114 q12 q115) rfl rfl rfl (by decide +kernel) ⟨Nat.le_of_ble_eq_true rfl, Nat.le_of_ble_eq_true rfl⟩) ⟨fq_blind, va_recv hKc hPc (ci := 0) (q0 := 0) rfl rfl, fun U hU hW => ⟨rfl, by rw [hU], by rw [hU]; exact hPc, va_K.moved hW.alike hKc, hDc.weaken (fun _ _ _ _ => trivial)⟩⟩ rfl rfl hl.1 rfl (lv_room (Nat.le_of_ble_eq_true rfl)) dL_law_245 ⟨Nat.le_of_ble_eq_true rfl, Nat.le_of_ble_eq_true rfl⟩) hS (fun q _ h => hFc q h) hFc (fun r1 u1 t H1 locs ht hvm hw1 hB hz1 hk1 hS => ?_)
  try dsimp only at hw1
  obtain ⟨hP1, hK1, hD1⟩ := hB
  rw [ht] at hP1
  obtain ⟨hP, hD⟩ := va_join (wr := fq_wm g0 b1 z (fq_bf S)) (w1 := fq_wq h0 a1 a2 a3 a4 d A0 mi mx ct) hP hD [0, 1, 2, 3, 4] [5, 6] rfl rfl (by decide) (by decide) hk1 hFc hP1 hD1
  generalize H1 = H at hP hS ⊢
  have hP : va_P (dC, dI) vwCl (fq_wm g0 b1 z (fq_bf S) ++ fq_wq h0 a1 a2 a3 a4 d A0 mi mx ct) H := hP
  have hD : va_D (fun q : Nat => s.heap.size ≤ q) (fq_wm g0 b1 z (fq_bf S) ++ fq_wq h0 a1 a2 a3 a4 d A0 mi mx ct) := hD
  refine lv_aload_n hx hb dL_law_248 rfl (lv_at hl 1 rfl) ?_
  refine lv_aload_n hx hb dL_law_249 rfl (lv_at hl 3 rfl) ?_
  refine lv_iload_n hx hb dL_law_250 rfl (lv_at hl 0 rfl) ?_
  refine lv_iconst (v := 1) hx hb dL_law_251 (by decide) ?_
  refine lv_iadd hx hb dL_law_252 ?_
  refine va_sld hx hb hX hbl hbA hS (fq_lw_i1 hL hi) dL_law_253 ?_
  have hPc := hP.sub (ws' := fq_wm g0 b1 z (fq_bf S)) [0, 1] rfl
  have hDc := hD.sub (ws' := fq_wm g0 b1 z (fq_bf S)) [0, 1] (by decide) rfl
  have hKc := hK.sub (tys' := [(z, .boolean)]) [1] rfl
  have hFc := va_free (wc := fq_wm g0 b1 z (fq_bf S)) hD hS hA [0, 1] rfl
  refine va_calli (va_runV (As := [.int (xs (nI i + (1 : Int32)).toNatClampNeg)]) (rest := [.int r1]) ⟨hx, hb, hml, hown, hts⟩ (fq_metM_before l dC dI g0 b1 z H.size S (xs (nI i + (1 : Int32)).toNatClampNeg)) (cwV 1 hts (lw_V q207 q203 q204 q13 q205) rfl rfl rfl (by decide +kernel) ⟨Nat.le_of_ble_eq_true rfl, Nat.le_of_ble_eq_true rfl⟩) ⟨fq_blind, va_recv hKc hPc (ci := 1) (q0 := 0) rfl rfl, fun U hU hW => ⟨rfl, by rw [hU], by rw [hU]; exact hPc, va_K.moved hW.alike hKc, hDc.weaken (fun _ _ _ _ => trivial)⟩⟩ rfl rfl hl.1 rfl (lv_room (Nat.le_of_ble_eq_true rfl)) dL_law_254 ⟨Nat.le_of_ble_eq_true rfl, Nat.le_of_ble_eq_true rfl⟩) hS (fun q _ h => hFc q h) hFc (fun r2 u2 t H1 locs ht hvm hw2 hB hz1 hk1 hS => ?_)
  try dsimp only at hw2
  obtain ⟨hP1, hK1, hD1⟩ := hB
  rw [ht] at hP1
  obtain ⟨hP, hD⟩ := va_join (wr := fq_wq h0 a1 a2 a3 a4 d A0 mi mx ct) (w1 := fq_wm g0 b1 z (fq_bf S)) hP hD [0, 1] [2, 3, 4, 5, 6] rfl rfl (by decide) (by decide) hk1 hFc hP1 hD1
  generalize H1 = H at hP hS ⊢
  have hP : va_P (dC, dI) vwCl (fq_wq h0 a1 a2 a3 a4 d A0 mi mx ct ++ fq_wm g0 b1 z (fq_bf S)) H := hP
  have hD : va_D (fun q : Nat => s.heap.size ≤ q) (fq_wq h0 a1 a2 a3 a4 d A0 mi mx ct ++ fq_wm g0 b1 z (fq_bf S)) := hD
  refine lv_icmp_eq (tgt := 423) hx hb dL_law_257 (by decide) (fun ce => ?_) (fun ce => ?_)
  · exact K S A0 mi mx ct H locs (hI) hP hD hS
  · exact absurd (hw1.trans (fq_Mx_u (fq_before_spec hI) hw2)) ce
end
section
set_option maxHeartbeats 4000000 in
set_option maxRecDepth 100000 in
theorem fq_case_takeLeast {p : Program} {l : Launch} {e : Env} {s : State} {m : MethodId} {below : List Frame} {meth : Method} {c : Code} {dC : Nat → ClassId} {dI : Nat → Nat → Nat} {b L : Nat} {xs : Nat → Int32} (hL : L ≤ 192) (C0 : lw_At p s m meth c b L xs) {h0 a1 a2 a3 a4 g0 b1 : Nat} {d z : ClassId} (hK : va_K (dC, dI) vwCl [(d, .byte), (z, .boolean)] s) {i : Nat} (hi : i + 3 ≤ L) (S : Nat → Bool) (A0 : fq_A4) (mi mx ct : Int32) (H : Heap) (locs : List Loc) (hI : fq_Inv S A0 mi mx ct) (hP : va_P (dC, dI) vwCl (fq_wq h0 a1 a2 a3 a4 d A0 mi mx ct ++ fq_wm g0 b1 z (fq_bf S)) H) (hD : va_D (fun q : Nat => s.heap.size ≤ q) (fq_wq h0 a1 a2 a3 a4 d A0 mi mx ct ++ fq_wm g0 b1 z (fq_bf S))) (hS : va_S (fun q : Nat => s.heap.size ≤ q) s.heap H locs) {ls : Array Slot} (hl : lv_has ls 4 [(3, .int (nI i)), (2, .ref g0), (1, .ref h0), (0, .ref b)]) (K : ∀ (S : Nat → Bool) (A0 : fq_A4) (mi mx ct : Int32) (H : Heap) (locs : List Loc), fq_Inv S A0 mi mx ct → va_P (dC, dI) vwCl (fq_wq h0 a1 a2 a3 a4 d A0 mi mx ct ++ fq_wm g0 b1 z (fq_bf S)) H → va_D (fun q : Nat => s.heap.size ≤ q) (fq_wq h0 a1 a2 a3 a4 d A0 mi mx ct ++ fq_wm g0 b1 z (fq_bf S)) → va_S (fun q : Nat => s.heap.size ≤ q) s.heap H locs → W p l e room_1 s m #[Value.ref b] below meth c H locs 7 383 (lw_Z below #[Value.ref b] s) (F0 m 423 ls [])) : W p l e room_1 s m #[Value.ref b] below meth c H locs 7 383 (lw_Z below #[Value.ref b] s) (F0 m 262 ls []) := by
  obtain ⟨hx, hb, hr, hml, hown, hts0, hX, hbl, hlocks, hgv⟩ := C0
  have hts : ∀ w ∈ lw_all, w.before #[Value.ref b] s = true := fun w h => hts0 w (lw_all_tbl h)
  have hown : s.vm.findClass "FlatQueueLaw" = some m.cls := hown
  have hA : ∀ q : Nat, s.heap.size ≤ q → (fun q : Nat => s.heap.size ≤ q) q := fun _ h => h
  have hbA : ¬ (fun q : Nat => s.heap.size ≤ q) b := Nat.not_le.mpr hbl
  refine lv_aload_n hx hb dL_law_262 rfl (lv_at hl 2 rfl) ?_
  have hPc := hP.sub (ws' := fq_wq h0 a1 a2 a3 a4 d A0 mi mx ct) [0, 1, 2, 3, 4] rfl
  have hDc := hD.sub (ws' := fq_wq h0 a1 a2 a3 a4 d A0 mi mx ct) [0, 1, 2, 3, 4] (by decide) rfl
  have hKc := hK.sub (tys' := [(d, .byte)]) [0] rfl
  have hFc := va_free (wc := fq_wq h0 a1 a2 a3 a4 d A0 mi mx ct) hD hS hA [0, 1, 2, 3, 4] rfl
  refine va_calli (va_runV (As := []) (rest := []) ⟨hx, hb, hml, hown, hts⟩ (fq_met_takeLeast l dC dI h0 a1 a2 a3 a4 d H.size A0 mi mx ct  S hI) (cwV 0 hts (lw_V q120 q121 q122 q12 q123) rfl rfl rfl (by decide +kernel) ⟨Nat.le_of_ble_eq_true rfl, Nat.le_of_ble_eq_true rfl⟩) ⟨fq_blind, va_recv hKc hPc (ci := 0) (q0 := 0) rfl rfl, fun U hU hW => ⟨rfl, by rw [hU], by rw [hU]; exact hPc, va_K.moved hW.alike hKc, hDc.weaken (fun _ _ _ _ => trivial)⟩⟩ rfl rfl hl.1 rfl (lv_room (Nat.le_of_ble_eq_true rfl)) dL_law_263 ⟨Nat.le_of_ble_eq_true rfl, Nat.le_of_ble_eq_true rfl⟩) hS (fun q _ h => hFc q h) hFc (fun r1 u1 t H1 locs ht hvm hw1 hB hz1 hk1 hS => ?_)
  try dsimp only at hw1
  obtain ⟨hP1, hK1, hD1⟩ := hB
  rw [ht] at hP1
  obtain ⟨hP, hD⟩ := va_join (wr := fq_wm g0 b1 z (fq_bf S)) (w1 := fq_wq h0 a1 a2 a3 a4 d u1.1 u1.2.1 u1.2.2.1 u1.2.2.2) hP hD [0, 1, 2, 3, 4] [5, 6] rfl rfl (by decide) (by decide) hk1 hFc hP1 hD1
  generalize H1 = H at hP hS ⊢
  have hP : va_P (dC, dI) vwCl (fq_wm g0 b1 z (fq_bf S) ++ fq_wq h0 a1 a2 a3 a4 d u1.1 u1.2.1 u1.2.2.1 u1.2.2.2) H := hP
  have hD : va_D (fun q : Nat => s.heap.size ≤ q) (fq_wm g0 b1 z (fq_bf S) ++ fq_wq h0 a1 a2 a3 a4 d u1.1 u1.2.1 u1.2.2.1 u1.2.2.2) := hD
  refine lv_aload_n hx hb dL_law_266 rfl (lv_at hl 1 rfl) ?_
  have hPc := hP.sub (ws' := fq_wm g0 b1 z (fq_bf S)) [0, 1] rfl
  have hDc := hD.sub (ws' := fq_wm g0 b1 z (fq_bf S)) [0, 1] (by decide) rfl
  have hKc := hK.sub (tys' := [(z, .boolean)]) [1] rfl
  have hFc := va_free (wc := fq_wm g0 b1 z (fq_bf S)) hD hS hA [0, 1] rfl
  refine va_calli (va_runV (As := []) (rest := [.int r1]) ⟨hx, hb, hml, hown, hts⟩ (fq_metM_takeLeast l dC dI g0 b1 z H.size S ) (cwV 0 hts (lw_V q208 q209 q210 q13 q211) rfl rfl rfl (by decide +kernel) ⟨Nat.le_of_ble_eq_true rfl, Nat.le_of_ble_eq_true rfl⟩) ⟨fq_blind, va_recv hKc hPc (ci := 1) (q0 := 0) rfl rfl, fun U hU hW => ⟨rfl, by rw [hU], by rw [hU]; exact hPc, va_K.moved hW.alike hKc, hDc.weaken (fun _ _ _ _ => trivial)⟩⟩ rfl rfl hl.1 rfl (lv_room (Nat.le_of_ble_eq_true rfl)) dL_law_267 ⟨Nat.le_of_ble_eq_true rfl, Nat.le_of_ble_eq_true rfl⟩) hS (fun q _ h => hFc q h) hFc (fun r2 u2 t H1 locs ht hvm hw2 hB hz1 hk1 hS => ?_)
  try dsimp only at hw2
  obtain ⟨hP1, hK1, hD1⟩ := hB
  rw [ht] at hP1
  obtain ⟨hP, hD⟩ := va_join (wr := fq_wq h0 a1 a2 a3 a4 d u1.1 u1.2.1 u1.2.2.1 u1.2.2.2) (w1 := fq_wm g0 b1 z (fq_bf u2)) hP hD [0, 1] [2, 3, 4, 5, 6] rfl rfl (by decide) (by decide) hk1 hFc hP1 hD1
  generalize H1 = H at hP hS ⊢
  have hP : va_P (dC, dI) vwCl (fq_wq h0 a1 a2 a3 a4 d u1.1 u1.2.1 u1.2.2.1 u1.2.2.2 ++ fq_wm g0 b1 z (fq_bf u2)) H := hP
  have hD : va_D (fun q : Nat => s.heap.size ≤ q) (fq_wq h0 a1 a2 a3 a4 d u1.1 u1.2.1 u1.2.2.1 u1.2.2.2 ++ fq_wm g0 b1 z (fq_bf u2)) := hD
  refine lv_icmp_eq (tgt := 423) hx hb dL_law_270 (by decide) (fun ce => ?_) (fun ce => ?_)
  · exact K u2 u1.1 u1.2.1 u1.2.2.1 u1.2.2.2 H locs (by rw [hw1.2, hw2.2, fq_lw_tlU, ← fq_Mn_u hI.1 (fq_lw_mn hw2.1)]; exact fq_delU_spec hI) hP hD hS
  · exact absurd (hw1.1.trans ((fq_lw_tlR hI).trans (fq_Mn_u hI.1 (fq_lw_mn hw2.1)))) ce
set_option maxHeartbeats 4000000 in
set_option maxRecDepth 100000 in
theorem fq_case_takeGreatest {p : Program} {l : Launch} {e : Env} {s : State} {m : MethodId} {below : List Frame} {meth : Method} {c : Code} {dC : Nat → ClassId} {dI : Nat → Nat → Nat} {b L : Nat} {xs : Nat → Int32} (hL : L ≤ 192) (C0 : lw_At p s m meth c b L xs) {h0 a1 a2 a3 a4 g0 b1 : Nat} {d z : ClassId} (hK : va_K (dC, dI) vwCl [(d, .byte), (z, .boolean)] s) {i : Nat} (hi : i + 3 ≤ L) (S : Nat → Bool) (A0 : fq_A4) (mi mx ct : Int32) (H : Heap) (locs : List Loc) (hI : fq_Inv S A0 mi mx ct) (hP : va_P (dC, dI) vwCl (fq_wq h0 a1 a2 a3 a4 d A0 mi mx ct ++ fq_wm g0 b1 z (fq_bf S)) H) (hD : va_D (fun q : Nat => s.heap.size ≤ q) (fq_wq h0 a1 a2 a3 a4 d A0 mi mx ct ++ fq_wm g0 b1 z (fq_bf S))) (hS : va_S (fun q : Nat => s.heap.size ≤ q) s.heap H locs) {ls : Array Slot} (hl : lv_has ls 4 [(3, .int (nI i)), (2, .ref g0), (1, .ref h0), (0, .ref b)]) (K : ∀ (S : Nat → Bool) (A0 : fq_A4) (mi mx ct : Int32) (H : Heap) (locs : List Loc), fq_Inv S A0 mi mx ct → va_P (dC, dI) vwCl (fq_wq h0 a1 a2 a3 a4 d A0 mi mx ct ++ fq_wm g0 b1 z (fq_bf S)) H → va_D (fun q : Nat => s.heap.size ≤ q) (fq_wq h0 a1 a2 a3 a4 d A0 mi mx ct ++ fq_wm g0 b1 z (fq_bf S)) → va_S (fun q : Nat => s.heap.size ≤ q) s.heap H locs → W p l e room_1 s m #[Value.ref b] below meth c H locs 7 383 (lw_Z below #[Value.ref b] s) (F0 m 423 ls [])) : W p l e room_1 s m #[Value.ref b] below meth c H locs 7 383 (lw_Z below #[Value.ref b] s) (F0 m 275 ls []) := by
  obtain ⟨hx, hb, hr, hml, hown, hts0, hX, hbl, hlocks, hgv⟩ := C0
  have hts : ∀ w ∈ lw_all, w.before #[Value.ref b] s = true := fun w h => hts0 w (lw_all_tbl h)
  have hown : s.vm.findClass "FlatQueueLaw" = some m.cls := hown
  have hA : ∀ q : Nat, s.heap.size ≤ q → (fun q : Nat => s.heap.size ≤ q) q := fun _ h => h
  have hbA : ¬ (fun q : Nat => s.heap.size ≤ q) b := Nat.not_le.mpr hbl
  refine lv_aload_n hx hb dL_law_275 rfl (lv_at hl 2 rfl) ?_
  have hPc := hP.sub (ws' := fq_wq h0 a1 a2 a3 a4 d A0 mi mx ct) [0, 1, 2, 3, 4] rfl
  have hDc := hD.sub (ws' := fq_wq h0 a1 a2 a3 a4 d A0 mi mx ct) [0, 1, 2, 3, 4] (by decide) rfl
  have hKc := hK.sub (tys' := [(d, .byte)]) [0] rfl
  have hFc := va_free (wc := fq_wq h0 a1 a2 a3 a4 d A0 mi mx ct) hD hS hA [0, 1, 2, 3, 4] rfl
  refine va_calli (va_runV (As := []) (rest := []) ⟨hx, hb, hml, hown, hts⟩ (fq_met_takeGreatest l dC dI h0 a1 a2 a3 a4 d H.size A0 mi mx ct  S hI) (cwV 0 hts (lw_V q125 q126 q127 q12 q128) rfl rfl rfl (by decide +kernel) ⟨Nat.le_of_ble_eq_true rfl, Nat.le_of_ble_eq_true rfl⟩) ⟨fq_blind, va_recv hKc hPc (ci := 0) (q0 := 0) rfl rfl, fun U hU hW => ⟨rfl, by rw [hU], by rw [hU]; exact hPc, va_K.moved hW.alike hKc, hDc.weaken (fun _ _ _ _ => trivial)⟩⟩ rfl rfl hl.1 rfl (lv_room (Nat.le_of_ble_eq_true rfl)) dL_law_276 ⟨Nat.le_of_ble_eq_true rfl, Nat.le_of_ble_eq_true rfl⟩) hS (fun q _ h => hFc q h) hFc (fun r1 u1 t H1 locs ht hvm hw1 hB hz1 hk1 hS => ?_)
  try dsimp only at hw1
  obtain ⟨hP1, hK1, hD1⟩ := hB
  rw [ht] at hP1
  obtain ⟨hP, hD⟩ := va_join (wr := fq_wm g0 b1 z (fq_bf S)) (w1 := fq_wq h0 a1 a2 a3 a4 d u1.1 u1.2.1 u1.2.2.1 u1.2.2.2) hP hD [0, 1, 2, 3, 4] [5, 6] rfl rfl (by decide) (by decide) hk1 hFc hP1 hD1
  generalize H1 = H at hP hS ⊢
  have hP : va_P (dC, dI) vwCl (fq_wm g0 b1 z (fq_bf S) ++ fq_wq h0 a1 a2 a3 a4 d u1.1 u1.2.1 u1.2.2.1 u1.2.2.2) H := hP
  have hD : va_D (fun q : Nat => s.heap.size ≤ q) (fq_wm g0 b1 z (fq_bf S) ++ fq_wq h0 a1 a2 a3 a4 d u1.1 u1.2.1 u1.2.2.1 u1.2.2.2) := hD
  refine lv_aload_n hx hb dL_law_279 rfl (lv_at hl 1 rfl) ?_
  have hPc := hP.sub (ws' := fq_wm g0 b1 z (fq_bf S)) [0, 1] rfl
  have hDc := hD.sub (ws' := fq_wm g0 b1 z (fq_bf S)) [0, 1] (by decide) rfl
  have hKc := hK.sub (tys' := [(z, .boolean)]) [1] rfl
  have hFc := va_free (wc := fq_wm g0 b1 z (fq_bf S)) hD hS hA [0, 1] rfl
  refine va_calli (va_runV (As := []) (rest := [.int r1]) ⟨hx, hb, hml, hown, hts⟩ (fq_metM_takeGreatest l dC dI g0 b1 z H.size S ) (cwV 0 hts (lw_V q214 q215 q216 q13 q217) rfl rfl rfl (by decide +kernel) ⟨Nat.le_of_ble_eq_true rfl, Nat.le_of_ble_eq_true rfl⟩) ⟨fq_blind, va_recv hKc hPc (ci := 1) (q0 := 0) rfl rfl, fun U hU hW => ⟨rfl, by rw [hU], by rw [hU]; exact hPc, va_K.moved hW.alike hKc, hDc.weaken (fun _ _ _ _ => trivial)⟩⟩ rfl rfl hl.1 rfl (lv_room (Nat.le_of_ble_eq_true rfl)) dL_law_280 ⟨Nat.le_of_ble_eq_true rfl, Nat.le_of_ble_eq_true rfl⟩) hS (fun q _ h => hFc q h) hFc (fun r2 u2 t H1 locs ht hvm hw2 hB hz1 hk1 hS => ?_)
  try dsimp only at hw2
  obtain ⟨hP1, hK1, hD1⟩ := hB
  rw [ht] at hP1
  obtain ⟨hP, hD⟩ := va_join (wr := fq_wq h0 a1 a2 a3 a4 d u1.1 u1.2.1 u1.2.2.1 u1.2.2.2) (w1 := fq_wm g0 b1 z (fq_bf u2)) hP hD [0, 1] [2, 3, 4, 5, 6] rfl rfl (by decide) (by decide) hk1 hFc hP1 hD1
  generalize H1 = H at hP hS ⊢
  have hP : va_P (dC, dI) vwCl (fq_wq h0 a1 a2 a3 a4 d u1.1 u1.2.1 u1.2.2.1 u1.2.2.2 ++ fq_wm g0 b1 z (fq_bf u2)) H := hP
  have hD : va_D (fun q : Nat => s.heap.size ≤ q) (fq_wq h0 a1 a2 a3 a4 d u1.1 u1.2.1 u1.2.2.1 u1.2.2.2 ++ fq_wm g0 b1 z (fq_bf u2)) := hD
  refine lv_icmp_eq (tgt := 423) hx hb dL_law_283 (by decide) (fun ce => ?_) (fun ce => ?_)
  · exact K u2 u1.1 u1.2.1 u1.2.2.1 u1.2.2.2 H locs (by rw [hw1.2, hw2.2, fq_lw_tgU, ← fq_Mx_u hI.2.1 (fq_lw_mx hw2.1)]; exact fq_delU_spec hI) hP hD hS
  · exact absurd (hw1.1.trans ((fq_lw_tgR hI).trans (fq_Mx_u hI.2.1 (fq_lw_mx hw2.1)))) ce
set_option maxHeartbeats 4000000 in
set_option maxRecDepth 100000 in
theorem fq_case_countBetween {p : Program} {l : Launch} {e : Env} {s : State} {m : MethodId} {below : List Frame} {meth : Method} {c : Code} {dC : Nat → ClassId} {dI : Nat → Nat → Nat} {b L : Nat} {xs : Nat → Int32} (hL : L ≤ 192) (C0 : lw_At p s m meth c b L xs) {h0 a1 a2 a3 a4 g0 b1 : Nat} {d z : ClassId} (hK : va_K (dC, dI) vwCl [(d, .byte), (z, .boolean)] s) {i : Nat} (hi : i + 3 ≤ L) (S : Nat → Bool) (A0 : fq_A4) (mi mx ct : Int32) (H : Heap) (locs : List Loc) (hI : fq_Inv S A0 mi mx ct) (hP : va_P (dC, dI) vwCl (fq_wq h0 a1 a2 a3 a4 d A0 mi mx ct ++ fq_wm g0 b1 z (fq_bf S)) H) (hD : va_D (fun q : Nat => s.heap.size ≤ q) (fq_wq h0 a1 a2 a3 a4 d A0 mi mx ct ++ fq_wm g0 b1 z (fq_bf S))) (hS : va_S (fun q : Nat => s.heap.size ≤ q) s.heap H locs) {ls : Array Slot} (hl : lv_has ls 4 [(3, .int (nI i)), (2, .ref g0), (1, .ref h0), (0, .ref b)]) (K : ∀ (S : Nat → Bool) (A0 : fq_A4) (mi mx ct : Int32) (H : Heap) (locs : List Loc), fq_Inv S A0 mi mx ct → va_P (dC, dI) vwCl (fq_wq h0 a1 a2 a3 a4 d A0 mi mx ct ++ fq_wm g0 b1 z (fq_bf S)) H → va_D (fun q : Nat => s.heap.size ≤ q) (fq_wq h0 a1 a2 a3 a4 d A0 mi mx ct ++ fq_wm g0 b1 z (fq_bf S)) → va_S (fun q : Nat => s.heap.size ≤ q) s.heap H locs → W p l e room_1 s m #[Value.ref b] below meth c H locs 7 383 (lw_Z below #[Value.ref b] s) (F0 m 423 ls [])) : W p l e room_1 s m #[Value.ref b] below meth c H locs 7 383 (lw_Z below #[Value.ref b] s) (F0 m 288 ls []) := by
  obtain ⟨hx, hb, hr, hml, hown, hts0, hX, hbl, hlocks, hgv⟩ := C0
  have hts : ∀ w ∈ lw_all, w.before #[Value.ref b] s = true := fun w h => hts0 w (lw_all_tbl h)
  have hown : s.vm.findClass "FlatQueueLaw" = some m.cls := hown
  have hA : ∀ q : Nat, s.heap.size ≤ q → (fun q : Nat => s.heap.size ≤ q) q := fun _ h => h
  have hbA : ¬ (fun q : Nat => s.heap.size ≤ q) b := Nat.not_le.mpr hbl
  refine lv_aload_n hx hb dL_law_288 rfl (lv_at hl 2 rfl) ?_
  refine lv_aload_n hx hb dL_law_289 rfl (lv_at hl 3 rfl) ?_
  refine lv_iload_n hx hb dL_law_290 rfl (lv_at hl 0 rfl) ?_
  refine lv_iconst (v := 1) hx hb dL_law_291 (by decide) ?_
  refine lv_iadd hx hb dL_law_292 ?_
  refine va_sld hx hb hX hbl hbA hS (fq_lw_i1 hL hi) dL_law_293 ?_
  refine lv_aload_n hx hb dL_law_294 rfl (lv_at hl 3 rfl) ?_
  refine lv_iload_n hx hb dL_law_295 rfl (lv_at hl 0 rfl) ?_
  refine lv_iconst (v := 2) hx hb dL_law_296 (by decide) ?_
  refine lv_iadd hx hb dL_law_297 ?_
  refine va_sld hx hb hX hbl hbA hS (fq_lw_i2 hL hi) dL_law_298 ?_
  have hPc := hP.sub (ws' := fq_wq h0 a1 a2 a3 a4 d A0 mi mx ct) [0, 1, 2, 3, 4] rfl
  have hDc := hD.sub (ws' := fq_wq h0 a1 a2 a3 a4 d A0 mi mx ct) [0, 1, 2, 3, 4] (by decide) rfl
  have hKc := hK.sub (tys' := [(d, .byte)]) [0] rfl
  have hFc := va_free (wc := fq_wq h0 a1 a2 a3 a4 d A0 mi mx ct) hD hS hA [0, 1, 2, 3, 4] rfl
  refine va_calli (va_runV (As := [.int (xs (nI i + (1 : Int32)).toNatClampNeg), .int (xs (nI i + (2 : Int32)).toNatClampNeg)]) (rest := []) ⟨hx, hb, hml, hown, hts⟩ (fq_met_countBetween l dC dI h0 a1 a2 a3 a4 d H.size A0 mi mx ct (xs (nI i + (1 : Int32)).toNatClampNeg) (xs (nI i + (2 : Int32)).toNatClampNeg) S hI) (cwV 2 hts (lw_V q129 q130 q131 q12 q132) rfl rfl rfl (by decide +kernel) ⟨Nat.le_of_ble_eq_true rfl, Nat.le_of_ble_eq_true rfl⟩) ⟨fq_blind, va_recv hKc hPc (ci := 0) (q0 := 0) rfl rfl, fun U hU hW => ⟨rfl, by rw [hU], by rw [hU]; exact hPc, va_K.moved hW.alike hKc, hDc.weaken (fun _ _ _ _ => trivial)⟩⟩ rfl rfl hl.1 rfl (lv_room (Nat.le_of_ble_eq_true rfl)) dL_law_299 ⟨Nat.le_of_ble_eq_true rfl, Nat.le_of_ble_eq_true rfl⟩) hS (fun q _ h => hFc q h) hFc (fun r1 u1 t H1 locs ht hvm hw1 hB hz1 hk1 hS => ?_)
  try dsimp only at hw1
  obtain ⟨hP1, hK1, hD1⟩ := hB
  rw [ht] at hP1
  obtain ⟨hP, hD⟩ := va_join (wr := fq_wm g0 b1 z (fq_bf S)) (w1 := fq_wq h0 a1 a2 a3 a4 d A0 mi mx ct) hP hD [0, 1, 2, 3, 4] [5, 6] rfl rfl (by decide) (by decide) hk1 hFc hP1 hD1
  generalize H1 = H at hP hS ⊢
  have hP : va_P (dC, dI) vwCl (fq_wm g0 b1 z (fq_bf S) ++ fq_wq h0 a1 a2 a3 a4 d A0 mi mx ct) H := hP
  have hD : va_D (fun q : Nat => s.heap.size ≤ q) (fq_wm g0 b1 z (fq_bf S) ++ fq_wq h0 a1 a2 a3 a4 d A0 mi mx ct) := hD
  refine lv_aload_n hx hb dL_law_302 rfl (lv_at hl 1 rfl) ?_
  refine lv_aload_n hx hb dL_law_303 rfl (lv_at hl 3 rfl) ?_
  refine lv_iload_n hx hb dL_law_304 rfl (lv_at hl 0 rfl) ?_
  refine lv_iconst (v := 1) hx hb dL_law_305 (by decide) ?_
  refine lv_iadd hx hb dL_law_306 ?_
  refine va_sld hx hb hX hbl hbA hS (fq_lw_i1 hL hi) dL_law_307 ?_
  refine lv_aload_n hx hb dL_law_308 rfl (lv_at hl 3 rfl) ?_
  refine lv_iload_n hx hb dL_law_309 rfl (lv_at hl 0 rfl) ?_
  refine lv_iconst (v := 2) hx hb dL_law_310 (by decide) ?_
  refine lv_iadd hx hb dL_law_311 ?_
  refine va_sld hx hb hX hbl hbA hS (fq_lw_i2 hL hi) dL_law_312 ?_
  have hPc := hP.sub (ws' := fq_wm g0 b1 z (fq_bf S)) [0, 1] rfl
  have hDc := hD.sub (ws' := fq_wm g0 b1 z (fq_bf S)) [0, 1] (by decide) rfl
  have hKc := hK.sub (tys' := [(z, .boolean)]) [1] rfl
  have hFc := va_free (wc := fq_wm g0 b1 z (fq_bf S)) hD hS hA [0, 1] rfl
  refine va_calli (va_runV (As := [.int (xs (nI i + (1 : Int32)).toNatClampNeg), .int (xs (nI i + (2 : Int32)).toNatClampNeg)]) (rest := [.int r1]) ⟨hx, hb, hml, hown, hts⟩ (fq_metM_countBetween l dC dI g0 b1 z H.size S (xs (nI i + (1 : Int32)).toNatClampNeg) (xs (nI i + (2 : Int32)).toNatClampNeg)) (cwV 2 hts (lw_V q219 q187 q188 q13 q189) rfl rfl rfl (by decide +kernel) ⟨Nat.le_of_ble_eq_true rfl, Nat.le_of_ble_eq_true rfl⟩) ⟨fq_blind, va_recv hKc hPc (ci := 1) (q0 := 0) rfl rfl, fun U hU hW => ⟨rfl, by rw [hU], by rw [hU]; exact hPc, va_K.moved hW.alike hKc, hDc.weaken (fun _ _ _ _ => trivial)⟩⟩ rfl rfl hl.1 rfl (lv_room (Nat.le_of_ble_eq_true rfl)) dL_law_313 ⟨Nat.le_of_ble_eq_true rfl, Nat.le_of_ble_eq_true rfl⟩) hS (fun q _ h => hFc q h) hFc (fun r2 u2 t H1 locs ht hvm hw2 hB hz1 hk1 hS => ?_)
  try dsimp only at hw2
  obtain ⟨hP1, hK1, hD1⟩ := hB
  rw [ht] at hP1
  obtain ⟨hP, hD⟩ := va_join (wr := fq_wq h0 a1 a2 a3 a4 d A0 mi mx ct) (w1 := fq_wm g0 b1 z (fq_bf S)) hP hD [0, 1] [2, 3, 4, 5, 6] rfl rfl (by decide) (by decide) hk1 hFc hP1 hD1
  generalize H1 = H at hP hS ⊢
  have hP : va_P (dC, dI) vwCl (fq_wq h0 a1 a2 a3 a4 d A0 mi mx ct ++ fq_wm g0 b1 z (fq_bf S)) H := hP
  have hD : va_D (fun q : Nat => s.heap.size ≤ q) (fq_wq h0 a1 a2 a3 a4 d A0 mi mx ct ++ fq_wm g0 b1 z (fq_bf S)) := hD
  refine lv_icmp_eq (tgt := 423) hx hb dL_law_316 (by decide) (fun ce => ?_) (fun ce => ?_)
  · exact K S A0 mi mx ct H locs (hI) hP hD hS
  · exact absurd (hw1.trans hw2.symm) ce
set_option maxHeartbeats 4000000 in
set_option maxRecDepth 100000 in
theorem fq_case_select {p : Program} {l : Launch} {e : Env} {s : State} {m : MethodId} {below : List Frame} {meth : Method} {c : Code} {dC : Nat → ClassId} {dI : Nat → Nat → Nat} {b L : Nat} {xs : Nat → Int32} (hL : L ≤ 192) (C0 : lw_At p s m meth c b L xs) {h0 a1 a2 a3 a4 g0 b1 : Nat} {d z : ClassId} (hK : va_K (dC, dI) vwCl [(d, .byte), (z, .boolean)] s) {i : Nat} (hi : i + 3 ≤ L) (S : Nat → Bool) (A0 : fq_A4) (mi mx ct : Int32) (H : Heap) (locs : List Loc) (hI : fq_Inv S A0 mi mx ct) (hP : va_P (dC, dI) vwCl (fq_wq h0 a1 a2 a3 a4 d A0 mi mx ct ++ fq_wm g0 b1 z (fq_bf S)) H) (hD : va_D (fun q : Nat => s.heap.size ≤ q) (fq_wq h0 a1 a2 a3 a4 d A0 mi mx ct ++ fq_wm g0 b1 z (fq_bf S))) (hS : va_S (fun q : Nat => s.heap.size ≤ q) s.heap H locs) {ls : Array Slot} (hl : lv_has ls 4 [(3, .int (nI i)), (2, .ref g0), (1, .ref h0), (0, .ref b)]) (K : ∀ (S : Nat → Bool) (A0 : fq_A4) (mi mx ct : Int32) (H : Heap) (locs : List Loc), fq_Inv S A0 mi mx ct → va_P (dC, dI) vwCl (fq_wq h0 a1 a2 a3 a4 d A0 mi mx ct ++ fq_wm g0 b1 z (fq_bf S)) H → va_D (fun q : Nat => s.heap.size ≤ q) (fq_wq h0 a1 a2 a3 a4 d A0 mi mx ct ++ fq_wm g0 b1 z (fq_bf S)) → va_S (fun q : Nat => s.heap.size ≤ q) s.heap H locs → W p l e room_1 s m #[Value.ref b] below meth c H locs 7 383 (lw_Z below #[Value.ref b] s) (F0 m 423 ls [])) : W p l e room_1 s m #[Value.ref b] below meth c H locs 7 383 (lw_Z below #[Value.ref b] s) (F0 m 321 ls []) := by
  obtain ⟨hx, hb, hr, hml, hown, hts0, hX, hbl, hlocks, hgv⟩ := C0
  have hts : ∀ w ∈ lw_all, w.before #[Value.ref b] s = true := fun w h => hts0 w (lw_all_tbl h)
  have hown : s.vm.findClass "FlatQueueLaw" = some m.cls := hown
  have hA : ∀ q : Nat, s.heap.size ≤ q → (fun q : Nat => s.heap.size ≤ q) q := fun _ h => h
  have hbA : ¬ (fun q : Nat => s.heap.size ≤ q) b := Nat.not_le.mpr hbl
  refine lv_aload_n hx hb dL_law_321 rfl (lv_at hl 2 rfl) ?_
  refine lv_aload_n hx hb dL_law_322 rfl (lv_at hl 3 rfl) ?_
  refine lv_iload_n hx hb dL_law_323 rfl (lv_at hl 0 rfl) ?_
  refine lv_iconst (v := 1) hx hb dL_law_324 (by decide) ?_
  refine lv_iadd hx hb dL_law_325 ?_
  refine va_sld hx hb hX hbl hbA hS (fq_lw_i1 hL hi) dL_law_326 ?_
  have hPc := hP.sub (ws' := fq_wq h0 a1 a2 a3 a4 d A0 mi mx ct) [0, 1, 2, 3, 4] rfl
  have hDc := hD.sub (ws' := fq_wq h0 a1 a2 a3 a4 d A0 mi mx ct) [0, 1, 2, 3, 4] (by decide) rfl
  have hKc := hK.sub (tys' := [(d, .byte)]) [0] rfl
  have hFc := va_free (wc := fq_wq h0 a1 a2 a3 a4 d A0 mi mx ct) hD hS hA [0, 1, 2, 3, 4] rfl
  refine va_calli (va_runV (As := [.int (xs (nI i + (1 : Int32)).toNatClampNeg)]) (rest := []) ⟨hx, hb, hml, hown, hts⟩ (fq_met_select l dC dI h0 a1 a2 a3 a4 d H.size A0 mi mx ct (xs (nI i + (1 : Int32)).toNatClampNeg) S hI) (cwV 1 hts (lw_V q138 q139 q140 q12 q141) rfl rfl rfl (by decide +kernel) ⟨Nat.le_of_ble_eq_true rfl, Nat.le_of_ble_eq_true rfl⟩) ⟨fq_blind, va_recv hKc hPc (ci := 0) (q0 := 0) rfl rfl, fun U hU hW => ⟨rfl, by rw [hU], by rw [hU]; exact hPc, va_K.moved hW.alike hKc, hDc.weaken (fun _ _ _ _ => trivial)⟩⟩ rfl rfl hl.1 rfl (lv_room (Nat.le_of_ble_eq_true rfl)) dL_law_327 ⟨Nat.le_of_ble_eq_true rfl, Nat.le_of_ble_eq_true rfl⟩) hS (fun q _ h => hFc q h) hFc (fun r1 u1 t H1 locs ht hvm hw1 hB hz1 hk1 hS => ?_)
  try dsimp only at hw1
  obtain ⟨hP1, hK1, hD1⟩ := hB
  rw [ht] at hP1
  obtain ⟨hP, hD⟩ := va_join (wr := fq_wm g0 b1 z (fq_bf S)) (w1 := fq_wq h0 a1 a2 a3 a4 d A0 mi mx ct) hP hD [0, 1, 2, 3, 4] [5, 6] rfl rfl (by decide) (by decide) hk1 hFc hP1 hD1
  generalize H1 = H at hP hS ⊢
  have hP : va_P (dC, dI) vwCl (fq_wm g0 b1 z (fq_bf S) ++ fq_wq h0 a1 a2 a3 a4 d A0 mi mx ct) H := hP
  have hD : va_D (fun q : Nat => s.heap.size ≤ q) (fq_wm g0 b1 z (fq_bf S) ++ fq_wq h0 a1 a2 a3 a4 d A0 mi mx ct) := hD
  refine lv_aload_n hx hb dL_law_330 rfl (lv_at hl 1 rfl) ?_
  refine lv_aload_n hx hb dL_law_331 rfl (lv_at hl 3 rfl) ?_
  refine lv_iload_n hx hb dL_law_332 rfl (lv_at hl 0 rfl) ?_
  refine lv_iconst (v := 1) hx hb dL_law_333 (by decide) ?_
  refine lv_iadd hx hb dL_law_334 ?_
  refine va_sld hx hb hX hbl hbA hS (fq_lw_i1 hL hi) dL_law_335 ?_
  have hPc := hP.sub (ws' := fq_wm g0 b1 z (fq_bf S)) [0, 1] rfl
  have hDc := hD.sub (ws' := fq_wm g0 b1 z (fq_bf S)) [0, 1] (by decide) rfl
  have hKc := hK.sub (tys' := [(z, .boolean)]) [1] rfl
  have hFc := va_free (wc := fq_wm g0 b1 z (fq_bf S)) hD hS hA [0, 1] rfl
  refine va_calli (va_runV (As := [.int (xs (nI i + (1 : Int32)).toNatClampNeg)]) (rest := [.int r1]) ⟨hx, hb, hml, hown, hts⟩ (fq_metM_select l dC dI g0 b1 z H.size S (xs (nI i + (1 : Int32)).toNatClampNeg)) (cwV 1 hts (lw_V q220 q221 q222 q13 q223) rfl rfl rfl (by decide +kernel) ⟨Nat.le_of_ble_eq_true rfl, Nat.le_of_ble_eq_true rfl⟩) ⟨fq_blind, va_recv hKc hPc (ci := 1) (q0 := 0) rfl rfl, fun U hU hW => ⟨rfl, by rw [hU], by rw [hU]; exact hPc, va_K.moved hW.alike hKc, hDc.weaken (fun _ _ _ _ => trivial)⟩⟩ rfl rfl hl.1 rfl (lv_room (Nat.le_of_ble_eq_true rfl)) dL_law_336 ⟨Nat.le_of_ble_eq_true rfl, Nat.le_of_ble_eq_true rfl⟩) hS (fun q _ h => hFc q h) hFc (fun r2 u2 t H1 locs ht hvm hw2 hB hz1 hk1 hS => ?_)
  try dsimp only at hw2
  obtain ⟨hP1, hK1, hD1⟩ := hB
  rw [ht] at hP1
  obtain ⟨hP, hD⟩ := va_join (wr := fq_wq h0 a1 a2 a3 a4 d A0 mi mx ct) (w1 := fq_wm g0 b1 z (fq_bf S)) hP hD [0, 1] [2, 3, 4, 5, 6] rfl rfl (by decide) (by decide) hk1 hFc hP1 hD1
  generalize H1 = H at hP hS ⊢
  have hP : va_P (dC, dI) vwCl (fq_wq h0 a1 a2 a3 a4 d A0 mi mx ct ++ fq_wm g0 b1 z (fq_bf S)) H := hP
  have hD : va_D (fun q : Nat => s.heap.size ≤ q) (fq_wq h0 a1 a2 a3 a4 d A0 mi mx ct ++ fq_wm g0 b1 z (fq_bf S)) := hD
  refine lv_icmp_eq (tgt := 423) hx hb dL_law_339 (by decide) (fun ce => ?_) (fun ce => ?_)
  · exact K S A0 mi mx ct H locs (hI) hP hD hS
  · exact absurd (fq_Sel_u hw1 hw2) ce
set_option maxHeartbeats 4000000 in
set_option maxRecDepth 100000 in
theorem fq_case_gapFrom {p : Program} {l : Launch} {e : Env} {s : State} {m : MethodId} {below : List Frame} {meth : Method} {c : Code} {dC : Nat → ClassId} {dI : Nat → Nat → Nat} {b L : Nat} {xs : Nat → Int32} (hL : L ≤ 192) (C0 : lw_At p s m meth c b L xs) {h0 a1 a2 a3 a4 g0 b1 : Nat} {d z : ClassId} (hK : va_K (dC, dI) vwCl [(d, .byte), (z, .boolean)] s) {i : Nat} (hi : i + 3 ≤ L) (S : Nat → Bool) (A0 : fq_A4) (mi mx ct : Int32) (H : Heap) (locs : List Loc) (hI : fq_Inv S A0 mi mx ct) (hP : va_P (dC, dI) vwCl (fq_wq h0 a1 a2 a3 a4 d A0 mi mx ct ++ fq_wm g0 b1 z (fq_bf S)) H) (hD : va_D (fun q : Nat => s.heap.size ≤ q) (fq_wq h0 a1 a2 a3 a4 d A0 mi mx ct ++ fq_wm g0 b1 z (fq_bf S))) (hS : va_S (fun q : Nat => s.heap.size ≤ q) s.heap H locs) {ls : Array Slot} (hl : lv_has ls 4 [(3, .int (nI i)), (2, .ref g0), (1, .ref h0), (0, .ref b)]) (K : ∀ (S : Nat → Bool) (A0 : fq_A4) (mi mx ct : Int32) (H : Heap) (locs : List Loc), fq_Inv S A0 mi mx ct → va_P (dC, dI) vwCl (fq_wq h0 a1 a2 a3 a4 d A0 mi mx ct ++ fq_wm g0 b1 z (fq_bf S)) H → va_D (fun q : Nat => s.heap.size ≤ q) (fq_wq h0 a1 a2 a3 a4 d A0 mi mx ct ++ fq_wm g0 b1 z (fq_bf S)) → va_S (fun q : Nat => s.heap.size ≤ q) s.heap H locs → W p l e room_1 s m #[Value.ref b] below meth c H locs 7 383 (lw_Z below #[Value.ref b] s) (F0 m 423 ls [])) : W p l e room_1 s m #[Value.ref b] below meth c H locs 7 383 (lw_Z below #[Value.ref b] s) (F0 m 344 ls []) := by
  obtain ⟨hx, hb, hr, hml, hown, hts0, hX, hbl, hlocks, hgv⟩ := C0
  have hts : ∀ w ∈ lw_all, w.before #[Value.ref b] s = true := fun w h => hts0 w (lw_all_tbl h)
  have hown : s.vm.findClass "FlatQueueLaw" = some m.cls := hown
  have hA : ∀ q : Nat, s.heap.size ≤ q → (fun q : Nat => s.heap.size ≤ q) q := fun _ h => h
  have hbA : ¬ (fun q : Nat => s.heap.size ≤ q) b := Nat.not_le.mpr hbl
  refine lv_aload_n hx hb dL_law_344 rfl (lv_at hl 2 rfl) ?_
  refine lv_aload_n hx hb dL_law_345 rfl (lv_at hl 3 rfl) ?_
  refine lv_iload_n hx hb dL_law_346 rfl (lv_at hl 0 rfl) ?_
  refine lv_iconst (v := 1) hx hb dL_law_347 (by decide) ?_
  refine lv_iadd hx hb dL_law_348 ?_
  refine va_sld hx hb hX hbl hbA hS (fq_lw_i1 hL hi) dL_law_349 ?_
  have hPc := hP.sub (ws' := fq_wq h0 a1 a2 a3 a4 d A0 mi mx ct) [0, 1, 2, 3, 4] rfl
  have hDc := hD.sub (ws' := fq_wq h0 a1 a2 a3 a4 d A0 mi mx ct) [0, 1, 2, 3, 4] (by decide) rfl
  have hKc := hK.sub (tys' := [(d, .byte)]) [0] rfl
  have hFc := va_free (wc := fq_wq h0 a1 a2 a3 a4 d A0 mi mx ct) hD hS hA [0, 1, 2, 3, 4] rfl
  refine va_calli (va_runV (As := [.int (xs (nI i + (1 : Int32)).toNatClampNeg)]) (rest := []) ⟨hx, hb, hml, hown, hts⟩ (fq_met_gapFrom l dC dI h0 a1 a2 a3 a4 d H.size A0 mi mx ct (xs (nI i + (1 : Int32)).toNatClampNeg) S hI) (cwV 1 hts (lw_V q142 q143 q144 q12 q145) rfl rfl rfl (by decide +kernel) ⟨Nat.le_of_ble_eq_true rfl, Nat.le_of_ble_eq_true rfl⟩) ⟨fq_blind, va_recv hKc hPc (ci := 0) (q0 := 0) rfl rfl, fun U hU hW => ⟨rfl, by rw [hU], by rw [hU]; exact hPc, va_K.moved hW.alike hKc, hDc.weaken (fun _ _ _ _ => trivial)⟩⟩ rfl rfl hl.1 rfl (lv_room (Nat.le_of_ble_eq_true rfl)) dL_law_350 ⟨Nat.le_of_ble_eq_true rfl, Nat.le_of_ble_eq_true rfl⟩) hS (fun q _ h => hFc q h) hFc (fun r1 u1 t H1 locs ht hvm hw1 hB hz1 hk1 hS => ?_)
  try dsimp only at hw1
  obtain ⟨hP1, hK1, hD1⟩ := hB
  rw [ht] at hP1
  obtain ⟨hP, hD⟩ := va_join (wr := fq_wm g0 b1 z (fq_bf S)) (w1 := fq_wq h0 a1 a2 a3 a4 d A0 mi mx ct) hP hD [0, 1, 2, 3, 4] [5, 6] rfl rfl (by decide) (by decide) hk1 hFc hP1 hD1
  generalize H1 = H at hP hS ⊢
  have hP : va_P (dC, dI) vwCl (fq_wm g0 b1 z (fq_bf S) ++ fq_wq h0 a1 a2 a3 a4 d A0 mi mx ct) H := hP
  have hD : va_D (fun q : Nat => s.heap.size ≤ q) (fq_wm g0 b1 z (fq_bf S) ++ fq_wq h0 a1 a2 a3 a4 d A0 mi mx ct) := hD
  refine lv_aload_n hx hb dL_law_353 rfl (lv_at hl 1 rfl) ?_
  refine lv_aload_n hx hb dL_law_354 rfl (lv_at hl 3 rfl) ?_
  refine lv_iload_n hx hb dL_law_355 rfl (lv_at hl 0 rfl) ?_
  refine lv_iconst (v := 1) hx hb dL_law_356 (by decide) ?_
  refine lv_iadd hx hb dL_law_357 ?_
  refine va_sld hx hb hX hbl hbA hS (fq_lw_i1 hL hi) dL_law_358 ?_
  have hPc := hP.sub (ws' := fq_wm g0 b1 z (fq_bf S)) [0, 1] rfl
  have hDc := hD.sub (ws' := fq_wm g0 b1 z (fq_bf S)) [0, 1] (by decide) rfl
  have hKc := hK.sub (tys' := [(z, .boolean)]) [1] rfl
  have hFc := va_free (wc := fq_wm g0 b1 z (fq_bf S)) hD hS hA [0, 1] rfl
  refine va_calli (va_runV (As := [.int (xs (nI i + (1 : Int32)).toNatClampNeg)]) (rest := [.int r1]) ⟨hx, hb, hml, hown, hts⟩ (fq_metM_gapFrom l dC dI g0 b1 z H.size S (xs (nI i + (1 : Int32)).toNatClampNeg)) (cwV 1 hts (lw_V q224 q225 q226 q13 q227) rfl rfl rfl (by decide +kernel) ⟨Nat.le_of_ble_eq_true rfl, Nat.le_of_ble_eq_true rfl⟩) ⟨fq_blind, va_recv hKc hPc (ci := 1) (q0 := 0) rfl rfl, fun U hU hW => ⟨rfl, by rw [hU], by rw [hU]; exact hPc, va_K.moved hW.alike hKc, hDc.weaken (fun _ _ _ _ => trivial)⟩⟩ rfl rfl hl.1 rfl (lv_room (Nat.le_of_ble_eq_true rfl)) dL_law_359 ⟨Nat.le_of_ble_eq_true rfl, Nat.le_of_ble_eq_true rfl⟩) hS (fun q _ h => hFc q h) hFc (fun r2 u2 t H1 locs ht hvm hw2 hB hz1 hk1 hS => ?_)
  try dsimp only at hw2
  obtain ⟨hP1, hK1, hD1⟩ := hB
  rw [ht] at hP1
  obtain ⟨hP, hD⟩ := va_join (wr := fq_wq h0 a1 a2 a3 a4 d A0 mi mx ct) (w1 := fq_wm g0 b1 z (fq_bf S)) hP hD [0, 1] [2, 3, 4, 5, 6] rfl rfl (by decide) (by decide) hk1 hFc hP1 hD1
  generalize H1 = H at hP hS ⊢
  have hP : va_P (dC, dI) vwCl (fq_wq h0 a1 a2 a3 a4 d A0 mi mx ct ++ fq_wm g0 b1 z (fq_bf S)) H := hP
  have hD : va_D (fun q : Nat => s.heap.size ≤ q) (fq_wq h0 a1 a2 a3 a4 d A0 mi mx ct ++ fq_wm g0 b1 z (fq_bf S)) := hD
  refine lv_icmp_eq (tgt := 423) hx hb dL_law_362 (by decide) (fun ce => ?_) (fun ce => ?_)
  · exact K S A0 mi mx ct H locs (hI) hP hD hS
  · exact absurd (fq_Gap_u hw1 hw2) ce
set_option maxHeartbeats 4000000 in
set_option maxRecDepth 100000 in
theorem fq_case_deleteBetween {p : Program} {l : Launch} {e : Env} {s : State} {m : MethodId} {below : List Frame} {meth : Method} {c : Code} {dC : Nat → ClassId} {dI : Nat → Nat → Nat} {b L : Nat} {xs : Nat → Int32} (hL : L ≤ 192) (C0 : lw_At p s m meth c b L xs) {h0 a1 a2 a3 a4 g0 b1 : Nat} {d z : ClassId} (hK : va_K (dC, dI) vwCl [(d, .byte), (z, .boolean)] s) {i : Nat} (hi : i + 3 ≤ L) (S : Nat → Bool) (A0 : fq_A4) (mi mx ct : Int32) (H : Heap) (locs : List Loc) (hI : fq_Inv S A0 mi mx ct) (hP : va_P (dC, dI) vwCl (fq_wq h0 a1 a2 a3 a4 d A0 mi mx ct ++ fq_wm g0 b1 z (fq_bf S)) H) (hD : va_D (fun q : Nat => s.heap.size ≤ q) (fq_wq h0 a1 a2 a3 a4 d A0 mi mx ct ++ fq_wm g0 b1 z (fq_bf S))) (hS : va_S (fun q : Nat => s.heap.size ≤ q) s.heap H locs) {ls : Array Slot} (hl : lv_has ls 4 [(3, .int (nI i)), (2, .ref g0), (1, .ref h0), (0, .ref b)]) (K : ∀ (S : Nat → Bool) (A0 : fq_A4) (mi mx ct : Int32) (H : Heap) (locs : List Loc), fq_Inv S A0 mi mx ct → va_P (dC, dI) vwCl (fq_wq h0 a1 a2 a3 a4 d A0 mi mx ct ++ fq_wm g0 b1 z (fq_bf S)) H → va_D (fun q : Nat => s.heap.size ≤ q) (fq_wq h0 a1 a2 a3 a4 d A0 mi mx ct ++ fq_wm g0 b1 z (fq_bf S)) → va_S (fun q : Nat => s.heap.size ≤ q) s.heap H locs → W p l e room_1 s m #[Value.ref b] below meth c H locs 7 383 (lw_Z below #[Value.ref b] s) (F0 m 423 ls [])) : W p l e room_1 s m #[Value.ref b] below meth c H locs 7 383 (lw_Z below #[Value.ref b] s) (F0 m 367 ls []) := by
  obtain ⟨hx, hb, hr, hml, hown, hts0, hX, hbl, hlocks, hgv⟩ := C0
  have hts : ∀ w ∈ lw_all, w.before #[Value.ref b] s = true := fun w h => hts0 w (lw_all_tbl h)
  have hown : s.vm.findClass "FlatQueueLaw" = some m.cls := hown
  have hA : ∀ q : Nat, s.heap.size ≤ q → (fun q : Nat => s.heap.size ≤ q) q := fun _ h => h
  have hbA : ¬ (fun q : Nat => s.heap.size ≤ q) b := Nat.not_le.mpr hbl
  refine lv_aload_n hx hb dL_law_367 rfl (lv_at hl 2 rfl) ?_
  refine lv_aload_n hx hb dL_law_368 rfl (lv_at hl 3 rfl) ?_
  refine lv_iload_n hx hb dL_law_369 rfl (lv_at hl 0 rfl) ?_
  refine lv_iconst (v := 1) hx hb dL_law_370 (by decide) ?_
  refine lv_iadd hx hb dL_law_371 ?_
  refine va_sld hx hb hX hbl hbA hS (fq_lw_i1 hL hi) dL_law_372 ?_
  refine lv_aload_n hx hb dL_law_373 rfl (lv_at hl 3 rfl) ?_
  refine lv_iload_n hx hb dL_law_374 rfl (lv_at hl 0 rfl) ?_
  refine lv_iconst (v := 2) hx hb dL_law_375 (by decide) ?_
  refine lv_iadd hx hb dL_law_376 ?_
  refine va_sld hx hb hX hbl hbA hS (fq_lw_i2 hL hi) dL_law_377 ?_
  have hPc := hP.sub (ws' := fq_wq h0 a1 a2 a3 a4 d A0 mi mx ct) [0, 1, 2, 3, 4] rfl
  have hDc := hD.sub (ws' := fq_wq h0 a1 a2 a3 a4 d A0 mi mx ct) [0, 1, 2, 3, 4] (by decide) rfl
  have hKc := hK.sub (tys' := [(d, .byte)]) [0] rfl
  have hFc := va_free (wc := fq_wq h0 a1 a2 a3 a4 d A0 mi mx ct) hD hS hA [0, 1, 2, 3, 4] rfl
  refine va_calli (va_runV (As := [.int (xs (nI i + (1 : Int32)).toNatClampNeg), .int (xs (nI i + (2 : Int32)).toNatClampNeg)]) (rest := []) ⟨hx, hb, hml, hown, hts⟩ (fq_met_deleteBetween l dC dI h0 a1 a2 a3 a4 d H.size A0 mi mx ct (xs (nI i + (1 : Int32)).toNatClampNeg) (xs (nI i + (2 : Int32)).toNatClampNeg) S hI) (cwV 2 hts (lw_V q146 q147 q148 q12 q149) rfl rfl rfl (by decide +kernel) ⟨Nat.le_of_ble_eq_true rfl, Nat.le_of_ble_eq_true rfl⟩) ⟨fq_blind, va_recv hKc hPc (ci := 0) (q0 := 0) rfl rfl, fun U hU hW => ⟨rfl, by rw [hU], by rw [hU]; exact hPc, va_K.moved hW.alike hKc, hDc.weaken (fun _ _ _ _ => trivial)⟩⟩ rfl rfl hl.1 rfl (lv_room (Nat.le_of_ble_eq_true rfl)) dL_law_378 ⟨Nat.le_of_ble_eq_true rfl, Nat.le_of_ble_eq_true rfl⟩) hS (fun q _ h => hFc q h) hFc (fun r1 u1 t H1 locs ht hvm hw1 hB hz1 hk1 hS => ?_)
  try dsimp only at hw1
  obtain ⟨hP1, hK1, hD1⟩ := hB
  rw [ht] at hP1
  obtain ⟨hP, hD⟩ := va_join (wr := fq_wm g0 b1 z (fq_bf S)) (w1 := fq_wq h0 a1 a2 a3 a4 d u1.1 u1.2.1 u1.2.2.1 u1.2.2.2) hP hD [0, 1, 2, 3, 4] [5, 6] rfl rfl (by decide) (by decide) hk1 hFc hP1 hD1
  generalize H1 = H at hP hS ⊢
  have hP : va_P (dC, dI) vwCl (fq_wm g0 b1 z (fq_bf S) ++ fq_wq h0 a1 a2 a3 a4 d u1.1 u1.2.1 u1.2.2.1 u1.2.2.2) H := hP
  have hD : va_D (fun q : Nat => s.heap.size ≤ q) (fq_wm g0 b1 z (fq_bf S) ++ fq_wq h0 a1 a2 a3 a4 d u1.1 u1.2.1 u1.2.2.1 u1.2.2.2) := hD
  refine lv_aload_n hx hb dL_law_381 rfl (lv_at hl 1 rfl) ?_
  refine lv_aload_n hx hb dL_law_382 rfl (lv_at hl 3 rfl) ?_
  refine lv_iload_n hx hb dL_law_383 rfl (lv_at hl 0 rfl) ?_
  refine lv_iconst (v := 1) hx hb dL_law_384 (by decide) ?_
  refine lv_iadd hx hb dL_law_385 ?_
  refine va_sld hx hb hX hbl hbA hS (fq_lw_i1 hL hi) dL_law_386 ?_
  refine lv_aload_n hx hb dL_law_387 rfl (lv_at hl 3 rfl) ?_
  refine lv_iload_n hx hb dL_law_388 rfl (lv_at hl 0 rfl) ?_
  refine lv_iconst (v := 2) hx hb dL_law_389 (by decide) ?_
  refine lv_iadd hx hb dL_law_390 ?_
  refine va_sld hx hb hX hbl hbA hS (fq_lw_i2 hL hi) dL_law_391 ?_
  have hPc := hP.sub (ws' := fq_wm g0 b1 z (fq_bf S)) [0, 1] rfl
  have hDc := hD.sub (ws' := fq_wm g0 b1 z (fq_bf S)) [0, 1] (by decide) rfl
  have hKc := hK.sub (tys' := [(z, .boolean)]) [1] rfl
  have hFc := va_free (wc := fq_wm g0 b1 z (fq_bf S)) hD hS hA [0, 1] rfl
  refine va_calli (va_runV (As := [.int (xs (nI i + (1 : Int32)).toNatClampNeg), .int (xs (nI i + (2 : Int32)).toNatClampNeg)]) (rest := [.int r1]) ⟨hx, hb, hml, hown, hts⟩ (fq_metM_deleteBetween l dC dI g0 b1 z H.size S (xs (nI i + (1 : Int32)).toNatClampNeg) (xs (nI i + (2 : Int32)).toNatClampNeg)) (cwV 2 hts (lw_V q228 q229 q230 q13 q231) rfl rfl rfl (by decide +kernel) ⟨Nat.le_of_ble_eq_true rfl, Nat.le_of_ble_eq_true rfl⟩) ⟨fq_blind, va_recv hKc hPc (ci := 1) (q0 := 0) rfl rfl, fun U hU hW => ⟨rfl, by rw [hU], by rw [hU]; exact hPc, va_K.moved hW.alike hKc, hDc.weaken (fun _ _ _ _ => trivial)⟩⟩ rfl rfl hl.1 rfl (lv_room (Nat.le_of_ble_eq_true rfl)) dL_law_392 ⟨Nat.le_of_ble_eq_true rfl, Nat.le_of_ble_eq_true rfl⟩) hS (fun q _ h => hFc q h) hFc (fun r2 u2 t H1 locs ht hvm hw2 hB hz1 hk1 hS => ?_)
  try dsimp only at hw2
  obtain ⟨hP1, hK1, hD1⟩ := hB
  rw [ht] at hP1
  obtain ⟨hP, hD⟩ := va_join (wr := fq_wq h0 a1 a2 a3 a4 d u1.1 u1.2.1 u1.2.2.1 u1.2.2.2) (w1 := fq_wm g0 b1 z (fq_bf u2)) hP hD [0, 1] [2, 3, 4, 5, 6] rfl rfl (by decide) (by decide) hk1 hFc hP1 hD1
  generalize H1 = H at hP hS ⊢
  have hP : va_P (dC, dI) vwCl (fq_wq h0 a1 a2 a3 a4 d u1.1 u1.2.1 u1.2.2.1 u1.2.2.2 ++ fq_wm g0 b1 z (fq_bf u2)) H := hP
  have hD : va_D (fun q : Nat => s.heap.size ≤ q) (fq_wq h0 a1 a2 a3 a4 d u1.1 u1.2.1 u1.2.2.1 u1.2.2.2 ++ fq_wm g0 b1 z (fq_bf u2)) := hD
  refine lv_icmp_eq (tgt := 423) hx hb dL_law_395 (by decide) (fun ce => ?_) (fun ce => ?_)
  · exact K u2 u1.1 u1.2.1 u1.2.2.1 u1.2.2.2 H locs (by rw [hw2.2]; exact hw1.2) hP hD hS
  · exact absurd (hw1.1.trans hw2.1.symm) ce
set_option maxHeartbeats 4000000 in
set_option maxRecDepth 100000 in
theorem fq_case_nearest {p : Program} {l : Launch} {e : Env} {s : State} {m : MethodId} {below : List Frame} {meth : Method} {c : Code} {dC : Nat → ClassId} {dI : Nat → Nat → Nat} {b L : Nat} {xs : Nat → Int32} (hL : L ≤ 192) (C0 : lw_At p s m meth c b L xs) {h0 a1 a2 a3 a4 g0 b1 : Nat} {d z : ClassId} (hK : va_K (dC, dI) vwCl [(d, .byte), (z, .boolean)] s) {i : Nat} (hi : i + 3 ≤ L) (S : Nat → Bool) (A0 : fq_A4) (mi mx ct : Int32) (H : Heap) (locs : List Loc) (hI : fq_Inv S A0 mi mx ct) (hP : va_P (dC, dI) vwCl (fq_wq h0 a1 a2 a3 a4 d A0 mi mx ct ++ fq_wm g0 b1 z (fq_bf S)) H) (hD : va_D (fun q : Nat => s.heap.size ≤ q) (fq_wq h0 a1 a2 a3 a4 d A0 mi mx ct ++ fq_wm g0 b1 z (fq_bf S))) (hS : va_S (fun q : Nat => s.heap.size ≤ q) s.heap H locs) {ls : Array Slot} (hl : lv_has ls 4 [(3, .int (nI i)), (2, .ref g0), (1, .ref h0), (0, .ref b)]) (K : ∀ (S : Nat → Bool) (A0 : fq_A4) (mi mx ct : Int32) (H : Heap) (locs : List Loc), fq_Inv S A0 mi mx ct → va_P (dC, dI) vwCl (fq_wq h0 a1 a2 a3 a4 d A0 mi mx ct ++ fq_wm g0 b1 z (fq_bf S)) H → va_D (fun q : Nat => s.heap.size ≤ q) (fq_wq h0 a1 a2 a3 a4 d A0 mi mx ct ++ fq_wm g0 b1 z (fq_bf S)) → va_S (fun q : Nat => s.heap.size ≤ q) s.heap H locs → W p l e room_1 s m #[Value.ref b] below meth c H locs 7 383 (lw_Z below #[Value.ref b] s) (F0 m 423 ls [])) : W p l e room_1 s m #[Value.ref b] below meth c H locs 7 383 (lw_Z below #[Value.ref b] s) (F0 m 400 ls []) := by
  obtain ⟨hx, hb, hr, hml, hown, hts0, hX, hbl, hlocks, hgv⟩ := C0
  have hts : ∀ w ∈ lw_all, w.before #[Value.ref b] s = true := fun w h => hts0 w (lw_all_tbl h)
  have hown : s.vm.findClass "FlatQueueLaw" = some m.cls := hown
  have hA : ∀ q : Nat, s.heap.size ≤ q → (fun q : Nat => s.heap.size ≤ q) q := fun _ h => h
  have hbA : ¬ (fun q : Nat => s.heap.size ≤ q) b := Nat.not_le.mpr hbl
  refine lv_aload_n hx hb dL_law_400 rfl (lv_at hl 2 rfl) ?_
  refine lv_aload_n hx hb dL_law_401 rfl (lv_at hl 3 rfl) ?_
  refine lv_iload_n hx hb dL_law_402 rfl (lv_at hl 0 rfl) ?_
  refine lv_iconst (v := 1) hx hb dL_law_403 (by decide) ?_
  refine lv_iadd hx hb dL_law_404 ?_
  refine va_sld hx hb hX hbl hbA hS (fq_lw_i1 hL hi) dL_law_405 ?_
  have hPc := hP.sub (ws' := fq_wq h0 a1 a2 a3 a4 d A0 mi mx ct) [0, 1, 2, 3, 4] rfl
  have hDc := hD.sub (ws' := fq_wq h0 a1 a2 a3 a4 d A0 mi mx ct) [0, 1, 2, 3, 4] (by decide) rfl
  have hKc := hK.sub (tys' := [(d, .byte)]) [0] rfl
  have hFc := va_free (wc := fq_wq h0 a1 a2 a3 a4 d A0 mi mx ct) hD hS hA [0, 1, 2, 3, 4] rfl
  refine va_calli (va_runV (As := [.int (xs (nI i + (1 : Int32)).toNatClampNeg)]) (rest := []) ⟨hx, hb, hml, hown, hts⟩ (fq_met_nearest l dC dI h0 a1 a2 a3 a4 d H.size A0 mi mx ct (xs (nI i + (1 : Int32)).toNatClampNeg) S hI) (cwV 1 hts (lw_V q150 q151 q152 q12 q153) rfl rfl rfl (by decide +kernel) ⟨Nat.le_of_ble_eq_true rfl, Nat.le_of_ble_eq_true rfl⟩) ⟨fq_blind, va_recv hKc hPc (ci := 0) (q0 := 0) rfl rfl, fun U hU hW => ⟨rfl, by rw [hU], by rw [hU]; exact hPc, va_K.moved hW.alike hKc, hDc.weaken (fun _ _ _ _ => trivial)⟩⟩ rfl rfl hl.1 rfl (lv_room (Nat.le_of_ble_eq_true rfl)) dL_law_406 ⟨Nat.le_of_ble_eq_true rfl, Nat.le_of_ble_eq_true rfl⟩) hS (fun q _ h => hFc q h) hFc (fun r1 u1 t H1 locs ht hvm hw1 hB hz1 hk1 hS => ?_)
  try dsimp only at hw1
  obtain ⟨hP1, hK1, hD1⟩ := hB
  rw [ht] at hP1
  obtain ⟨hP, hD⟩ := va_join (wr := fq_wm g0 b1 z (fq_bf S)) (w1 := fq_wq h0 a1 a2 a3 a4 d A0 mi mx ct) hP hD [0, 1, 2, 3, 4] [5, 6] rfl rfl (by decide) (by decide) hk1 hFc hP1 hD1
  generalize H1 = H at hP hS ⊢
  have hP : va_P (dC, dI) vwCl (fq_wm g0 b1 z (fq_bf S) ++ fq_wq h0 a1 a2 a3 a4 d A0 mi mx ct) H := hP
  have hD : va_D (fun q : Nat => s.heap.size ≤ q) (fq_wm g0 b1 z (fq_bf S) ++ fq_wq h0 a1 a2 a3 a4 d A0 mi mx ct) := hD
  refine lv_aload_n hx hb dL_law_409 rfl (lv_at hl 1 rfl) ?_
  refine lv_aload_n hx hb dL_law_410 rfl (lv_at hl 3 rfl) ?_
  refine lv_iload_n hx hb dL_law_411 rfl (lv_at hl 0 rfl) ?_
  refine lv_iconst (v := 1) hx hb dL_law_412 (by decide) ?_
  refine lv_iadd hx hb dL_law_413 ?_
  refine va_sld hx hb hX hbl hbA hS (fq_lw_i1 hL hi) dL_law_414 ?_
  have hPc := hP.sub (ws' := fq_wm g0 b1 z (fq_bf S)) [0, 1] rfl
  have hDc := hD.sub (ws' := fq_wm g0 b1 z (fq_bf S)) [0, 1] (by decide) rfl
  have hKc := hK.sub (tys' := [(z, .boolean)]) [1] rfl
  have hFc := va_free (wc := fq_wm g0 b1 z (fq_bf S)) hD hS hA [0, 1] rfl
  refine va_calli (va_runV (As := [.int (xs (nI i + (1 : Int32)).toNatClampNeg)]) (rest := [.int r1]) ⟨hx, hb, hml, hown, hts⟩ (fq_metM_nearest l dC dI g0 b1 z H.size S (xs (nI i + (1 : Int32)).toNatClampNeg)) (cwV 1 hts (lw_V q232 q233 q234 q13 q235) rfl rfl rfl (by decide +kernel) ⟨Nat.le_of_ble_eq_true rfl, Nat.le_of_ble_eq_true rfl⟩) ⟨fq_blind, va_recv hKc hPc (ci := 1) (q0 := 0) rfl rfl, fun U hU hW => ⟨rfl, by rw [hU], by rw [hU]; exact hPc, va_K.moved hW.alike hKc, hDc.weaken (fun _ _ _ _ => trivial)⟩⟩ rfl rfl hl.1 rfl (lv_room (Nat.le_of_ble_eq_true rfl)) dL_law_415 ⟨Nat.le_of_ble_eq_true rfl, Nat.le_of_ble_eq_true rfl⟩) hS (fun q _ h => hFc q h) hFc (fun r2 u2 t H1 locs ht hvm hw2 hB hz1 hk1 hS => ?_)
  try dsimp only at hw2
  obtain ⟨hP1, hK1, hD1⟩ := hB
  rw [ht] at hP1
  obtain ⟨hP, hD⟩ := va_join (wr := fq_wq h0 a1 a2 a3 a4 d A0 mi mx ct) (w1 := fq_wm g0 b1 z (fq_bf S)) hP hD [0, 1] [2, 3, 4, 5, 6] rfl rfl (by decide) (by decide) hk1 hFc hP1 hD1
  generalize H1 = H at hP hS ⊢
  have hP : va_P (dC, dI) vwCl (fq_wq h0 a1 a2 a3 a4 d A0 mi mx ct ++ fq_wm g0 b1 z (fq_bf S)) H := hP
  have hD : va_D (fun q : Nat => s.heap.size ≤ q) (fq_wq h0 a1 a2 a3 a4 d A0 mi mx ct ++ fq_wm g0 b1 z (fq_bf S)) := hD
  refine lv_icmp_eq (tgt := 423) hx hb dL_law_418 (by decide) (fun ce => ?_) (fun ce => ?_)
  · exact K S A0 mi mx ct H locs (hI) hP hD hS
  · exact absurd (hw1.trans (fq_Near_u (fq_ne_spec hI) hw2)) ce
end
section
set_option maxHeartbeats 4000000 in
set_option maxRecDepth 100000 in
/-- the law's loop at its head: the class and the reference hold one set -/
theorem fq_loop {p : Program} {l : Launch} {e : Env} {s : State} {m : MethodId} {below : List Frame} {meth : Method} {c : Code} {dC : Nat → ClassId} {dI : Nat → Nat → Nat} {b L : Nat} {xs : Nat → Int32} (hL : L ≤ 192) (C0 : lw_At p s m meth c b L xs) {h0 a1 a2 a3 a4 g0 b1 : Nat} {d z : ClassId} (hK : va_K (dC, dI) vwCl [(d, .byte), (z, .boolean)] s) : ∀ (n i : Nat), i ≤ L → L + 1 ≤ i + n → ∀ (S : Nat → Bool) (A0 : fq_A4) (mi mx ct : Int32) (H : Heap) (locs : List Loc), fq_Inv S A0 mi mx ct → va_P (dC, dI) vwCl (fq_wq h0 a1 a2 a3 a4 d A0 mi mx ct ++ fq_wm g0 b1 z (fq_bf S)) H → va_D (fun q : Nat => s.heap.size ≤ q) (fq_wq h0 a1 a2 a3 a4 d A0 mi mx ct ++ fq_wm g0 b1 z (fq_bf S)) → va_S (fun q : Nat => s.heap.size ≤ q) s.heap H locs → ∀ ls : Array Slot, lv_has ls 4 [(3, .int (nI i)), (2, .ref g0), (1, .ref h0), (0, .ref b)] → W p l e room_1 s m #[Value.ref b] below meth c H locs 7 383 (lw_Z below #[Value.ref b] s) (F0 m 18 ls []) := by
  have C1 := C0
  obtain ⟨hx, hb, hr, hml, hown, hts0, hX, hbl, hlocks, hgv⟩ := C0
  have hts : ∀ w ∈ lw_all, w.before #[Value.ref b] s = true := fun w h => hts0 w (lw_all_tbl h)
  have hown : s.vm.findClass "FlatQueueLaw" = some m.cls := hown
  have hA : ∀ q : Nat, s.heap.size ≤ q → (fun q : Nat => s.heap.size ≤ q) q := fun _ h => h
  have hbA : ¬ (fun q : Nat => s.heap.size ≤ q) b := Nat.not_le.mpr hbl
  intro n
  induction n with
  | zero =>
    intro i h1 h2
    exact absurd h2 (by omega)
  | succ n ih =>
    intro i hi hn S A0 mi mx ct H locs hI hP hD hS ls hl
    refine lv_iload_n hx hb dL_law_18 rfl (lv_at hl 0 rfl) ?_
    refine lv_aload_n hx hb dL_law_19 rfl (lv_at hl 3 rfl) ?_
    refine va_slen hx hb hX hbl hbA hS dL_law_20 ?_
    refine lv_iconst (v := 3) hx hb dL_law_21 (by decide) ?_
    refine lv_isub hx hb dL_law_22 ?_
    refine lv_icmp_gt (tgt := 429) hx hb dL_law_23 (by decide) (fun c_23 => ?_) (fun c_23 => ?_)
    · refine lv_iconst (v := 1) hx hb dL_law_429 (by decide) ?_
      refine va_forget (fun q hq => hS.2.2 q hq) ?_
      refine W.widen (k := 600000) (n := 7290000) (Nat.le_of_ble_eq_true rfl) (Nat.le_of_ble_eq_true rfl) ?_
      exact lw_ret hx hb hr hlocks dL_law_430
    · have hlt : i + 3 ≤ L := fq_lw_go hL hi c_23
      have K : ∀ (S : Nat → Bool) (A0 : fq_A4) (mi mx ct : Int32) (H : Heap) (locs : List Loc), fq_Inv S A0 mi mx ct → va_P (dC, dI) vwCl (fq_wq h0 a1 a2 a3 a4 d A0 mi mx ct ++ fq_wm g0 b1 z (fq_bf S)) H → va_D (fun q : Nat => s.heap.size ≤ q) (fq_wq h0 a1 a2 a3 a4 d A0 mi mx ct ++ fq_wm g0 b1 z (fq_bf S)) → va_S (fun q : Nat => s.heap.size ≤ q) s.heap H locs → W p l e room_1 s m #[Value.ref b] below meth c H locs 7 383 (lw_Z below #[Value.ref b] s) (F0 m 423 ls []) := by
        intro S A0 mi mx ct H locs hI hP hD hS
        refine lv_iinc (v := nI (i + 3)) (lv' := [(3, .int (nI (i + 3))), (2, .ref g0), (1, .ref h0), (0, .ref b)]) hx hb dL_law_423 hl (k := 0) rfl (fq_lw_nx i) (by decide) rfl (fun ls hl => ?_)
        refine lv_goto (tgt := 18) hx hb dL_law_426 (by decide) ?_
        exact ih (i + 3) hlt (by omega) S A0 mi mx ct H locs hI hP hD hS ls hl
      refine lv_aload_n hx hb dL_law_26 rfl (lv_at hl 3 rfl) ?_
      refine lv_iload_n hx hb dL_law_27 rfl (lv_at hl 0 rfl) ?_
      refine va_sld hx hb hX hbl hbA hS (vp_in_nI (show i < L by omega) (by omega)) dL_law_28 ?_
      refine lv_bipush (v := 15) hx hb dL_law_29 (by decide) ?_
      refine lv_iand hx hb dL_law_31 ?_
      obtain ⟨j, hj, ej⟩ := fq_lw_15 (xs (nI i).toNatClampNeg)
      rw [ej]
      clear ej
      rcases (show j = 0 ∨ j = 1 ∨ j = 2 ∨ j = 3 ∨ j = 4 ∨ j = 5 ∨ j = 6 ∨ j = 7 ∨ j = 8 ∨ j = 9 ∨ j = 10 ∨ j = 11 ∨ j = 12 ∨ j = 13 ∨ j = 14 ∨ j = 15 by omega) with rfl | rfl | rfl | rfl | rfl | rfl | rfl | rfl | rfl | rfl | rfl | rfl | rfl | rfl | rfl | rfl
      · refine lv_tableIn (tgt := 108) hx hb dL_law_32 (by decide) (by decide) rfl (by decide) ?_
        exact fq_case_insert hL C1 hK hlt S A0 mi mx ct H locs hI hP hD hS hl K
      · refine lv_tableIn (tgt := 131) hx hb dL_law_32 (by decide) (by decide) rfl (by decide) ?_
        exact fq_case_delete hL C1 hK hlt S A0 mi mx ct H locs hI hP hD hS hl K
      · refine lv_tableIn (tgt := 154) hx hb dL_law_32 (by decide) (by decide) rfl (by decide) ?_
        exact fq_case_member hL C1 hK hlt S A0 mi mx ct H locs hI hP hD hS hl K
      · refine lv_tableIn (tgt := 177) hx hb dL_law_32 (by decide) (by decide) rfl (by decide) ?_
        exact fq_case_size hL C1 hK hlt S A0 mi mx ct H locs hI hP hD hS hl K
      · refine lv_tableIn (tgt := 190) hx hb dL_law_32 (by decide) (by decide) rfl (by decide) ?_
        exact fq_case_least hL C1 hK hlt S A0 mi mx ct H locs hI hP hD hS hl K
      · refine lv_tableIn (tgt := 203) hx hb dL_law_32 (by decide) (by decide) rfl (by decide) ?_
        exact fq_case_greatest hL C1 hK hlt S A0 mi mx ct H locs hI hP hD hS hl K
      · refine lv_tableIn (tgt := 216) hx hb dL_law_32 (by decide) (by decide) rfl (by decide) ?_
        exact fq_case_after hL C1 hK hlt S A0 mi mx ct H locs hI hP hD hS hl K
      · refine lv_tableIn (tgt := 239) hx hb dL_law_32 (by decide) (by decide) rfl (by decide) ?_
        exact fq_case_before hL C1 hK hlt S A0 mi mx ct H locs hI hP hD hS hl K
      · refine lv_tableIn (tgt := 262) hx hb dL_law_32 (by decide) (by decide) rfl (by decide) ?_
        exact fq_case_takeLeast hL C1 hK hlt S A0 mi mx ct H locs hI hP hD hS hl K
      · refine lv_tableIn (tgt := 275) hx hb dL_law_32 (by decide) (by decide) rfl (by decide) ?_
        exact fq_case_takeGreatest hL C1 hK hlt S A0 mi mx ct H locs hI hP hD hS hl K
      · refine lv_tableIn (tgt := 288) hx hb dL_law_32 (by decide) (by decide) rfl (by decide) ?_
        exact fq_case_countBetween hL C1 hK hlt S A0 mi mx ct H locs hI hP hD hS hl K
      · refine lv_tableIn (tgt := 321) hx hb dL_law_32 (by decide) (by decide) rfl (by decide) ?_
        exact fq_case_select hL C1 hK hlt S A0 mi mx ct H locs hI hP hD hS hl K
      · refine lv_tableIn (tgt := 344) hx hb dL_law_32 (by decide) (by decide) rfl (by decide) ?_
        exact fq_case_gapFrom hL C1 hK hlt S A0 mi mx ct H locs hI hP hD hS hl K
      · refine lv_tableIn (tgt := 367) hx hb dL_law_32 (by decide) (by decide) rfl (by decide) ?_
        exact fq_case_deleteBetween hL C1 hK hlt S A0 mi mx ct H locs hI hP hD hS hl K
      · refine lv_tableIn (tgt := 400) hx hb dL_law_32 (by decide) (by decide) rfl (by decide) ?_
        exact fq_case_nearest hL C1 hK hlt S A0 mi mx ct H locs hI hP hD hS hl K
      · refine lv_tableOut (tgt := 423) hx hb dL_law_32 (Or.inr (by decide)) (by decide) ?_
        exact K S A0 mi mx ct H locs hI hP hD hS
set_option maxHeartbeats 4000000 in
set_option maxRecDepth 100000 in
theorem whole_start {p : Program} {e : Env} {s : State} {m : MethodId} {below : List Frame} {meth : Method} {c : Code} (l : Launch) {b L : Nat} {xs : Nat → Int32} (hL : L ≤ 192) (C0 : lw_At p s m meth c b L xs) : W p l e room_1 s m #[Value.ref b] below meth c s.heap [] 0 0 (lw_Z below #[Value.ref b] s) (entryFrame m ([Value.ref b] : List Value).toArray 4) := by
  have C1 := C0
  obtain ⟨hx, hb, hr, hml, hown, hts0, hX, hbl, hlocks, hgv⟩ := C0
  have hts : ∀ w ∈ lw_all, w.before #[Value.ref b] s = true := fun w h => hts0 w (lw_all_tbl h)
  have hown : s.vm.findClass "FlatQueueLaw" = some m.cls := hown
  have hA : ∀ q : Nat, s.heap.size ≤ q → (fun q : Nat => s.heap.size ≤ q) q := fun _ h => h
  have hbA : ¬ (fun q : Nat => s.heap.size ≤ q) b := Nat.not_le.mpr hbl
  obtain ⟨c0_, iS0, hKn0⟩ := u_known (C := RX0) (T := TX0) (N := 7) (n := 7) hts0 (fun w h => lw_all_tbl (in_X0 w h)) (hts0 _ (lw_all_tbl q15))
  obtain ⟨c1_, iS1, hKn1⟩ := u_known (C := RX1) (T := TX1) (N := 1) (n := 1) hts0 (fun w h => lw_all_tbl (in_X1 w h)) (hts0 _ (lw_all_tbl q156))
  obtain ⟨dC, dI, hKc⟩ : ∃ (dC : Nat → ClassId) (dI : Nat → Nat → Nat), ∀ (k : Nat) (q : vw_C), vwCl[k]? = some q → u_Kn s q.1 q.2.1 q.2.2 (dC k) (dI k) := by
    refine ⟨fun k => if k = 0 then c0_ else c1_, fun k => if k = 0 then iS0 else iS1, ?_⟩
    intro k q hq
    match k, hq with
    | 0, hq => cases hq; exact hKn0
    | 1, hq => cases hq; exact hKn1
    | k + 2, hq => simp [vwCl] at hq
  have hS : va_S (fun q : Nat => s.heap.size ≤ q) s.heap s.heap [] := va_S.rf
  have hK : va_K (dC, dI) vwCl [] s := ⟨hKc, fun k q h => by simp at h⟩
  have hP : va_P (dC, dI) vwCl [] s.heap := fun k q h => by simp at h
  have hD : va_D (fun q : Nat => s.heap.size ≤ q) [] := ⟨fun i j p q h => by simp at h, fun k q h => by simp at h⟩
  have hl := lv_entry ([.ref b]) (n := 4) (Nat.le_of_ble_eq_true rfl)
  rw [lg_entry_eq]
  generalize (lg_sl ([.ref b]) ++ List.replicate (4 - (lg_sl ([.ref b])).length) Slot.unset).toArray = ls at hl ⊢
  have hl : lv_has ls 4 [(0, .ref b)] := hl
  refine va_new (ci := 0) (fs := [.null, .null, .null, .null, .int 0, .int 0, .int 0]) (C := RX0) (T := TX0) (N := 7) hx hb hts in_X0 tyX0 tyX0_ok hown (hts _ q14) (hts _ q15) (hts _ q12) hK hP hD hS hA rfl (fun j hj => by rcases (show j = 0 ∨ j = 1 ∨ j = 2 ∨ j = 3 ∨ j = 4 ∨ j = 5 ∨ j = 6 by omega) with rfl | rfl | rfl | rfl | rfl | rfl | rfl <;> rfl) (Nat.le_of_ble_eq_true rfl) (Nat.le_of_ble_eq_true rfl) dL_law_0 (fun h0 H hP hD hS => ?_)
  have hP : va_P (dC, dI) vwCl [(h0, .inr (0, [.null, .null, .null, .null, .int 0, .int 0, .int 0]))] H := hP
  have hD : va_D (fun q : Nat => s.heap.size ≤ q) [(h0, .inr (0, [.null, .null, .null, .null, .int 0, .int 0, .int 0]))] := hD
  refine lv_dup hx hb dL_law_3 rfl ?_
  have hPc := hP.sub (ws' := [(h0, .inr (0, [.null, .null, .null, .null, .int 0, .int 0, .int 0]))]) [0] rfl
  have hDc := hD.sub (ws' := [(h0, .inr (0, [.null, .null, .null, .null, .int 0, .int 0, .int 0]))]) [0] (by decide) rfl
  have hKc := hK.sub (tys' := []) [] rfl
  have hFc := va_free (wc := [(h0, .inr (0, [.null, .null, .null, .null, .int 0, .int 0, .int 0]))]) hD hS hA [0] rfl
  refine va_callv (va_runI (As := []) (rest := [.ref h0]) ⟨hx, hb, hml, hown, hts⟩ (fq_met_init l dC dI h0 H.size) (cwI 0 hts (lw_meth q18) rfl rfl rfl (hts _ q12) (hts _ q16) (hts _ q17) rfl (by decide +kernel) ⟨Nat.le_of_ble_eq_true rfl, Nat.le_of_ble_eq_true rfl⟩) ⟨fq_blind, fun U hU hW => ⟨rfl, by rw [hU], by rw [hU]; exact hPc, va_K.moved hW.alike hKc, hDc.weaken (fun _ _ _ _ => trivial)⟩⟩ rfl rfl hl.1 rfl (lv_room (Nat.le_of_ble_eq_true rfl)) dL_law_4 ⟨Nat.le_of_ble_eq_true rfl, Nat.le_of_ble_eq_true rfl⟩) hS (fun q _ h => hFc q h) hFc (fun u t H1 locs ht hvm hw hB hz1 hk1 hS => ?_)
  obtain ⟨a1, a2, a3, a4, d⟩ := u
  obtain ⟨hP1, hK1, hD1⟩ := hB
  rw [ht] at hP1
  have hK1 := va_K.moved hvm.symm hK1
  obtain ⟨hP, hD⟩ := va_join (wr := []) (w1 := fq_wq h0 a1 a2 a3 a4 d fq_Ai (-1) (-1) 0) hP hD [0] [] rfl rfl (by decide) (by decide) hk1 hFc hP1 hD1
  have hK := hK.app hK1
  generalize H1 = H at hP hS ⊢
  have hP : va_P (dC, dI) vwCl (fq_wq h0 a1 a2 a3 a4 d fq_Ai (-1) (-1) 0) H := hP
  have hD : va_D (fun q : Nat => s.heap.size ≤ q) (fq_wq h0 a1 a2 a3 a4 d fq_Ai (-1) (-1) 0) := hD
  have hK : va_K (dC, dI) vwCl [(d, .byte)] s := hK
  refine W.widen (k := 5) (n := 126) (Nat.le_of_ble_eq_true rfl) (Nat.le_of_ble_eq_true rfl) ?_
  refine lv_astore_n (lv' := [(1, .ref h0), (0, .ref b)]) hx hb dL_law_7 rfl hl (by decide) rfl (fun ls hl => ?_)
  refine va_new (ci := 1) (fs := [.null]) (C := RX1) (T := TX1) (N := 1) hx hb hts in_X1 tyX1 tyX1_ok hown (hts _ q155) (hts _ q156) (hts _ q13) hK hP hD hS hA rfl (fun j hj => by rcases (show j = 0 by omega) with rfl <;> rfl) (Nat.le_of_ble_eq_true rfl) (Nat.le_of_ble_eq_true rfl) dL_law_8 (fun g0 H hP hD hS => ?_)
  have hP : va_P (dC, dI) vwCl (fq_wq h0 a1 a2 a3 a4 d fq_Ai (-1) (-1) 0 ++ [(g0, .inr (1, [.null]))]) H := hP
  have hD : va_D (fun q : Nat => s.heap.size ≤ q) (fq_wq h0 a1 a2 a3 a4 d fq_Ai (-1) (-1) 0 ++ [(g0, .inr (1, [.null]))]) := hD
  refine lv_dup hx hb dL_law_11 rfl ?_
  have hPc := hP.sub (ws' := [(g0, .inr (1, [.null]))]) [5] rfl
  have hDc := hD.sub (ws' := [(g0, .inr (1, [.null]))]) [5] (by decide) rfl
  have hKc := hK.sub (tys' := []) [] rfl
  have hFc := va_free (wc := [(g0, .inr (1, [.null]))]) hD hS hA [5] rfl
  refine va_callv (va_runI (As := []) (rest := [.ref g0]) ⟨hx, hb, hml, hown, hts⟩ (fq_metM_init l dC dI g0 H.size) (cwI 0 hts (lw_meth q159) rfl rfl rfl (hts _ q13) (hts _ q157) (hts _ q158) rfl (by decide +kernel) ⟨Nat.le_of_ble_eq_true rfl, Nat.le_of_ble_eq_true rfl⟩) ⟨fq_blind, fun U hU hW => ⟨rfl, by rw [hU], by rw [hU]; exact hPc, va_K.moved hW.alike hKc, hDc.weaken (fun _ _ _ _ => trivial)⟩⟩ rfl rfl hl.1 rfl (lv_room (Nat.le_of_ble_eq_true rfl)) dL_law_12 ⟨Nat.le_of_ble_eq_true rfl, Nat.le_of_ble_eq_true rfl⟩) hS (fun q _ h => hFc q h) hFc (fun u t H1 locs ht hvm hw hB hz1 hk1 hS => ?_)
  obtain ⟨b1, z⟩ := u
  obtain ⟨hP1, hK1, hD1⟩ := hB
  rw [ht] at hP1
  have hK1 := va_K.moved hvm.symm hK1
  obtain ⟨hP, hD⟩ := va_join (wr := fq_wq h0 a1 a2 a3 a4 d fq_Ai (-1) (-1) 0) (w1 := fq_wm g0 b1 z (fq_bf (fun _ => false))) hP hD [5] [0, 1, 2, 3, 4] rfl rfl (by decide) (by decide) hk1 hFc hP1 hD1
  have hK := hK.app hK1
  generalize H1 = H at hP hS ⊢
  have hP : va_P (dC, dI) vwCl (fq_wq h0 a1 a2 a3 a4 d fq_Ai (-1) (-1) 0 ++ fq_wm g0 b1 z (fq_bf (fun _ => false))) H := hP
  have hD : va_D (fun q : Nat => s.heap.size ≤ q) (fq_wq h0 a1 a2 a3 a4 d fq_Ai (-1) (-1) 0 ++ fq_wm g0 b1 z (fq_bf (fun _ => false))) := hD
  have hK : va_K (dC, dI) vwCl [(d, .byte), (z, .boolean)] s := hK
  refine W.widen (k := 7) (n := 383) (Nat.le_of_ble_eq_true rfl) (Nat.le_of_ble_eq_true rfl) ?_
  refine lv_astore_n (lv' := [(2, .ref g0), (1, .ref h0), (0, .ref b)]) hx hb dL_law_15 rfl hl (by decide) rfl (fun ls hl => ?_)
  refine lv_iconst (v := 0) hx hb dL_law_16 (by decide) ?_
  refine lv_istore_n (lv' := [(3, .int 0), (2, .ref g0), (1, .ref h0), (0, .ref b)]) hx hb dL_law_17 rfl hl (by decide) rfl (fun ls hl => ?_)
  rw [← nI_0] at hl
  exact fq_loop hL C1 hK (L + 1) 0 (Nat.zero_le L) (by omega) (fun _ => false) fq_Ai (-1) (-1) 0 H _ fq_Inv0 hP hD hS ls hl
end
section
set_option maxHeartbeats 4000000 in
theorem lw_walk (l : Launch) (b : Addr) (xs : List Int32) : MetFree l x (headSpec (Jvm.Cond.code x code maxLocals ret :: tables_1) room_1) (lw_P b xs) (fun _ _ _ _ _ => True) lw_Q := by
  refine MetFree.of_bodyS (code := code) (maxLocals := maxLocals) (ret := ret) (by decide) ?_ ?_
  · intro args s m h hn
    obtain ⟨meth, c, h1, h2, h3, h4, h5, h6, -, -⟩ := Cond.code_spec hn (atoms_spec (ws := Jvm.Cond.code x code maxLocals ret :: tables_1) h _ List.mem_cons_self)
    exact ⟨meth, c, h1, h2, h3, h4, h5, h6⟩
  · intro p e s m args below meth c s₁ B hml0 hP _
    obtain ⟨rfl, hx, hbd, hgv⟩ := hP
    obtain ⟨scr, harrAt, hlist, hof, hsmall⟩ := hx
    obtain ⟨hcb, hkn, -, -⟩ := State.arrayAt?_spec harrAt
    have hown : s.vm.findClass R_law = some m.cls := findClass_of_methodNamed B.named
    have hts0 : ∀ c ∈ (Jvm.Cond.code x code maxLocals ret :: tables_1), c.before #[Value.ref b] s = true := atoms_spec (ws := Jvm.Cond.code x code maxLocals ret :: tables_1) B.pre
    have hts : ∀ w ∈ lw_tbl, w.before #[Value.ref b] s = true := k2_hts_sels lw_privs (fun w hw => hts0 w (List.mem_cons_of_mem _ hw)) lw_privs_ok
    have hml : c.maxLocals = 4 := B.maxLocals_eq (hts0 _ List.mem_cons_self)
    have X₀ : Stand p l e room_1 s m #[Value.ref b] below meth c s₁ [] 0 0 := Stand.of_body B
    have hh0 : s₁.heap = s.heap := by rw [B.state]; rfl
    have hsz : scr.slots.size = xs.length := by rw [← Array.length_toList, hlist, List.length_map]
    have hval : ∀ j : Nat, j < xs.length → scr.slots[j]? = some (.int (xs.getD j 0)) := fun j hj => by
      rw [← Array.getElem?_toList, hlist]
      simp [hj]
    have hbl : b < s.heap.size := (Array.getElem?_eq_some_iff.mp hcb).1
    have hX : va_X b xs.length (fun j => xs.getD j 0) s s.heap := ⟨scr, hcb, hof, hkn, hsz, hval⟩
    have K : W p l e room_1 s m #[Value.ref b] below meth c s₁.heap [] 0 0 (lw_Z below #[Value.ref b] s) (entryFrame m ([Value.ref b] : List Value).toArray 4) := by
      rw [hh0]
      exact whole_start l hbd ⟨B.exec, B.bytes, B.returns, hml, hown, hts, hX, hbl, B.notSynchronized, hgv⟩
    obtain ⟨t, a1, o, b1, b2, b3⟩ := K s₁ rfl X₀
    exact ⟨t, o, a1, b1, b2, b3⟩
theorem lw_pre_spec {args : Array Value} {s : State} (h : (Jvm.Cond.and given_1 narrow_1).before args s = true) (hr : rest_1_c.before args s = true) : ∃ (b : Addr) (xs : List Int32), lw_P b xs args s := by
  have hs := flat_of_before _ h
  have hq := flat_of_before _ hr
  have hc : (Cond.count 1).before args s = true := hs _ (by decide +kernel)
  have harr : (Cond.arrayOf (.arg 0) .int).before args s = true := hs _ (by decide +kernel)
  have hle : (Cond.le (.length (.arg 0)) (.int 192)).before args s = true := hs _ (by decide +kernel)
  have hlen : (Cond.isInt (.length (.arg 0))).before args s = true := hq _ (by decide +kernel)
  have hall : (Cond.all (.arg 0) (.isInt (.elem (.arg 0) (.index 0)))).before args s = true := hq _ (by decide +kernel)
  obtain ⟨b, xs, hb, hx⟩ := State.ints_of_pre rfl harr hlen hall
  have hsm : xs.length < 2 ^ 31 := hx.choose_spec.2.2.2
  have hev : (Term.length (.arg 0)).eval args s none [] s = some (.int xs.length.toInt32) := hx.length_eval hb
  have hv := Cond.le_ints hev (show (Term.int 192).eval args s none [] s = some (.int 192) from rfl)
  have hd : xs.length.toInt32 ≤ 192 := by
    simpa [Cond.before, Cond.holds, hv] using hle
  have hN : xs.length ≤ 192 := (Int32.ofNat_le_ofNat hsm (by decide)).mp (show Int32.ofNat xs.length ≤ Int32.ofNat 192 from hd)
  exact ⟨b, xs, Cond.one_arg hc (show args[0]? = some (.ref b) from hb), hx, hN, h⟩
theorem lw_comes (l : Launch) : Comes l x (Jvm.Cond.code x code maxLocals ret :: tables_1) room_1 (fun tb e args s => Calls_1 tb e args s ∧ rest_1 tb e args s ∧ Pre_1 tb e args s)
    (fun _ _ args s o t => lw_Q args s o t) := by
  intro p e ha hc hk s m args below hf hfit hheap happ hpre
  obtain ⟨b, xs, hP⟩ := lw_pre_spec hpre.2.2 hpre.2.1
  obtain ⟨k, o, h1, h2, h3, hQ⟩ := lw_walk l b xs p e ha hc hk s m args below hf ((Spec.applies_iff_loose hf).mp happ).1 hP trivial
  exact ⟨k, o, h1, h2, h3, hQ⟩
theorem lw_frame {s t : State} {o : Outcome} {args : Array Value} (h : Framed s o t [] 600000 7290000) :
    Framed s o t (fieldLocs frame_1_writes args s ++ arrayLocs frame_1_arrays args s ++ staticLocs frame_1_statics s) 600000 7290000 := h
theorem lw_limb (L : Cond) (hL : ∀ (args : Array Value) (s t : State), L.after args s (.returned (some (.int 1))) t = true) :
    ArmFor flags0 classFile x code maxLocals ret World_1 tables_1 room_1 Calls_1 rest_1 Pre_1
      (fun tb e a s o t => postC L tb e a s o t ∧ Framed s o t (fieldLocs frame_1_writes a s ++ arrayLocs frame_1_arrays a s ++ staticLocs frame_1_statics s) 600000 7290000) := by
  intro l _ _ _ p e ha hc hk s m args below hf hfit hheap happ hpre
  obtain ⟨k, o, h1, h2, h3, rfl, hF⟩ := lw_comes l p e ha hc hk s m args below hf hfit hheap happ hpre
  exact ⟨k, _, h1, h2, h3, hL args s _, lw_frame hF⟩
theorem i_vc : Claimed_1_1 ∧ Claimed_1_2 := ⟨lw_limb limb_1_1 (fun args s t => by simp [limb_1_1, Cond.after, Cond.holds, Cond.value]), lw_limb limb_1_2 (fun args s t => Cond.after_iff.mpr (by
  first | (rw [show limb_1_2 = Cond.eq .result (.int 1) from rfl, Cond.eq_ints (x := 1) (y := 1) rfl rfl]; simp; done) | (simp [limb_1_2, Cond.value, Term.eval]; done)))⟩
end
