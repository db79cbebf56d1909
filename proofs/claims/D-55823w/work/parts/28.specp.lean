set_option maxRecDepth 100000
/-- order k of the row od is done -/
noncomputable def zdo (f : zF) (od : Int → Int) (k : Int) : zO :=
  if od (5 * k) = 100 then zdoDrop f (od (5 * k + 1)) (od (5 * k + 2)) else
  if od (5 * k) = 101 then zdoEnter f (od (5 * k + 1)) (od (5 * k + 2)) (od (5 * k + 3)) (od (5 * k + 4)) else
  if od (5 * k) = 102 then zdoFarm f (od (5 * k + 1)) (od (5 * k + 2)) (od (5 * k + 3)) else
  if od (5 * k) = 104 then zdoHour f (od (5 * k + 1)) else
  if od (5 * k) = 108 then zdoSeal f (od (5 * k + 1)) (od (5 * k + 2)) else
  if od (5 * k) = 115 then zdoSpire f (od (5 * k + 1)) (od (5 * k + 2)) (od (5 * k + 3)) else
  if od (5 * k) = 116 then zdoTrade f (od (5 * k + 1)) (od (5 * k + 2)) (od (5 * k + 3)) else
  if od (5 * k) = 118 then zdoVent f (od (5 * k + 1)) (od (5 * k + 2)) else
  if od (5 * k) = 119 then zdoWind f (od (5 * k + 1)) (od (5 * k + 2)) else
  zdoRetire f (od (5 * k + 1))
