set_option maxRecDepth 100000
/-- a given text is skipped -/
noncomputable def zsk (tx : Int → Int) (len : Int) (s : String) (p : zP) : zP := zskp tx len (zcl s.toList) p s.length
theorem zsk_ok {tx : Int → Int} {len : Int} {s : String} {p : zP} (h : zpok len p) : zpok len (zsk tx len s p) := zskp_ok h _
/-- a digit -/
noncomputable def zdp (tx : Int → Int) (len : Int) (p : zP) : zP := zsg tx len 48 57 p
noncomputable def zdv (tx : Int → Int) (len : Int) (p : zP) : Int := zsv tx len 48 57 p
theorem zdp_ok {tx : Int → Int} {len : Int} {p : zP} (h : zpok len p) : zpok len (zdp tx len p) := zsg_ok h
/-- one of the signs of a text -/
noncomputable def zsp1 (tx : Int → Int) (len : Int) (s : String) (p : zP) : zP := zsdp tx len (zcl s.toList) s.length p
def zsv1 (tx : Int → Int) (len : Int) (s : String) (p : zP) : Int := zsdv tx len (zcl s.toList) s.length p
theorem zsp1_ok {tx : Int → Int} {len : Int} {s : String} {p : zP} (h : zpok len p) : zpok len (zsp1 tx len s p) := zsdp_ok h
theorem zcl_asc (s : String) (h : ∀ c ∈ s.toList, c.toNat < 128) : zasc s.length (zcl s.toList) := fun j _ _ => zcl_r _ h j
/-- a point and a blank -/
noncomputable def zptp (tx : Int → Int) (len : Int) (p : zP) : zP := zsk tx len " " (zdp tx len (zdp tx len p))
noncomputable def zpto (tx : Int → Int) (len : Int) (p : zP) (od : Int → Int) (to : Int) : Int → Int := js_uz (js_uz od (to + 1) (zdv tx len p)) (to + 2) (zdv tx len (zdp tx len p))
/-- one, two, three digits with blanks between -/
noncomputable def zd2 (tx : Int → Int) (len : Int) (p : zP) : zP := zsk tx len " " (zdp tx len p)
noncomputable def zdgp (tx : Int → Int) (len : Int) (p : zP) (m : Int) : zP := if m = 1 then zdp tx len p else if m = 2 then zdp tx len (zd2 tx len p) else zdp tx len (zd2 tx len (zd2 tx len p))
noncomputable def zdgo (tx : Int → Int) (len : Int) (p : zP) (od : Int → Int) (to m : Int) : Int → Int := if m = 1 then js_uz od (to + 1 + 0) (zdv tx len p) else if m = 2 then js_uz (js_uz od (to + 1 + 0) (zdv tx len p)) (to + 1 + 1) (zdv tx len (zd2 tx len p)) else js_uz (js_uz (js_uz od (to + 1 + 0) (zdv tx len p)) (to + 1 + 1) (zdv tx len (zd2 tx len p))) (to + 1 + 2) (zdv tx len (zd2 tx len (zd2 tx len p)))
theorem zdgp_ok {tx : Int → Int} {len : Int} {p : zP} (m : Int) (h : zpok len p) : zpok len (zdgp tx len p m) := by
  unfold zdgp zd2
  (repeat' split)
  · exact zdp_ok h
  · exact zdp_ok (zsk_ok (zdp_ok h))
  · exact zdp_ok (zsk_ok (zdp_ok (zsk_ok (zdp_ok h))))
theorem zptp_ok {tx : Int → Int} {len : Int} {p : zP} (h : zpok len p) : zpok len (zptp tx len p) := zsk_ok (zdp_ok (zdp_ok h))
/-- "spire .." or "seal .." -/
noncomputable def zssp (tx : Int → Int) (len : Int) (p : zP) : zP := @ite zP (zis tx len 112 112 (zsk tx len "s" p)) (Classical.propDecidable _) (zsp1 tx len "nesw" (zptp tx len (zsk tx len "pire " (zsk tx len "s" p)))) (zdgp tx len (zsk tx len "eal " (zsk tx len "s" p)) 2)
noncomputable def zsso (tx : Int → Int) (len : Int) (p : zP) (od : Int → Int) (to : Int) : Int → Int := @ite (Int → Int) (zis tx len 112 112 (zsk tx len "s" p)) (Classical.propDecidable _)
  (js_uz (zpto tx len (zsk tx len "pire " (zsk tx len "s" p)) od to) (to + 3) (zsv1 tx len "nesw" (zptp tx len (zsk tx len "pire " (zsk tx len "s" p))) + 1)) (zdgo tx len (zsk tx len "eal " (zsk tx len "s" p)) (js_uz od to 108) to 2)
theorem zssp_ok {tx : Int → Int} {len : Int} {p : zP} (h : zpok len p) : zpok len (zssp tx len p) := by
  unfold zssp
  split
  · exact zsp1_ok (zptp_ok (zsk_ok (zsk_ok h)))
  · exact zdgp_ok 2 (zsk_ok (zsk_ok h))
/-- the sign at the place, 0 behind the end -/
def zhere (tx : Int → Int) (len : Int) (p : zP) : Int := if p.1 < len then tx p.1 else 0
/-- an order -/
noncomputable def zrop (tx : Int → Int) (len : Int) (p : zP) : zP :=
  if zhere tx len p = 100 then zdgp tx len (zsk tx len "drop " p) 2 else
  if zhere tx len p = 101 then znp tx len (zsk tx len " " (znp tx len (zptp tx len (zsk tx len "enter " p)))) else
  if zhere tx len p = 102 then zdp tx len (zptp tx len (zsk tx len "farm " p)) else
  if zhere tx len p = 104 then znp tx len (zsk tx len "hour " p) else
  if zhere tx len p = 115 then zssp tx len p else
  if zhere tx len p = 116 then zdgp tx len (zsk tx len "trade " p) 3 else
  if zhere tx len p = 118 then zdgp tx len (zsk tx len "vent " p) 2 else
  if zhere tx len p = 119 then zsp1 tx len "-nesw" (zdp tx len (zsk tx len "wind " p)) else
  zdgp tx len (zsk tx len "retire " p) 1
noncomputable def zroo (tx : Int → Int) (len : Int) (p : zP) (od : Int → Int) (to : Int) : Int → Int :=
  if zhere tx len p = 100 then zdgo tx len (zsk tx len "drop " p) (js_uz od to (zhere tx len p)) to 2 else
  if zhere tx len p = 101 then js_uz (js_uz (zpto tx len (zsk tx len "enter " p) (js_uz od to (zhere tx len p)) to) (to + 3) (znv tx len (zptp tx len (zsk tx len "enter " p)))) (to + 4) (znv tx len (zsk tx len " " (znp tx len (zptp tx len (zsk tx len "enter " p))))) else
  if zhere tx len p = 102 then js_uz (zpto tx len (zsk tx len "farm " p) (js_uz od to (zhere tx len p)) to) (to + 3) (zdv tx len (zptp tx len (zsk tx len "farm " p))) else
  if zhere tx len p = 104 then js_uz (js_uz od to (zhere tx len p)) (to + 1) (znv tx len (zsk tx len "hour " p)) else
  if zhere tx len p = 115 then zsso tx len p (js_uz od to (zhere tx len p)) to else
  if zhere tx len p = 116 then zdgo tx len (zsk tx len "trade " p) (js_uz od to (zhere tx len p)) to 3 else
  if zhere tx len p = 118 then zdgo tx len (zsk tx len "vent " p) (js_uz od to (zhere tx len p)) to 2 else
  if zhere tx len p = 119 then js_uz (js_uz (js_uz od to (zhere tx len p)) (to + 1) (zdv tx len (zsk tx len "wind " p))) (to + 2) (zsv1 tx len "-nesw" (zdp tx len (zsk tx len "wind " p))) else
  zdgo tx len (zsk tx len "retire " p) (js_uz od to (zhere tx len p)) to 1
theorem zrop_ok {tx : Int → Int} {len : Int} {p : zP} (h : zpok len p) : zpok len (zrop tx len p) := by
  unfold zrop
  (repeat' split)
  · exact zdgp_ok _ (zsk_ok h)
  · exact znp_ok (zsk_ok (znp_ok (zptp_ok (zsk_ok h))))
  · exact zdp_ok (zptp_ok (zsk_ok h))
  · exact znp_ok (zsk_ok h)
  · exact zssp_ok h
  · exact zdgp_ok _ (zsk_ok h)
  · exact zdgp_ok _ (zsk_ok h)
  · exact zsp1_ok (zdp_ok (zsk_ok h))
  · exact zdgp_ok _ (zsk_ok h)
