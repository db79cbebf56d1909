set_option maxRecDepth 100000
/-! reading goes on -/
def zmon (p q : zP) : Prop := p.1 ≤ q.1
def zadv (p q : zP) : Prop := p.1 ≤ q.1 ∧ (q.2 = 0 → p.1 + 1 ≤ q.1)
theorem zmon.trans {p q r : zP} (h : zmon p q) (k : zmon q r) : zmon p r := Int.le_trans h k
theorem zmon.adv {p q r : zP} (h : zmon p q) (k : zadv q r) : zadv p r := by
  unfold zmon at h
  exact ⟨by have := k.1; omega, fun z => by have := k.2 z; omega⟩
theorem zadv.mon {p q : zP} (h : zadv p q) : zmon p q := h.1
theorem zsg_adv (tx : Int → Int) (len lo hi : Int) (p : zP) : zadv p (zsg tx len lo hi p) := by
  unfold zsg
  split
  · exact ⟨by show p.1 ≤ p.1 + 1; omega, fun _ => Int.le_refl _⟩
  · exact ⟨Int.le_refl _, fun z => by cases z⟩
theorem zskp_mon (tx : Int → Int) (len : Int) (g : Int → Int) (p : zP) (k : Nat) : zmon p (zskp tx len g p k) := by
  induction k with
  | zero => exact Int.le_refl _
  | succ k ih =>
    show zmon p (if (zskp tx len g p k).2 = 0 then zsg tx len (g k) (g k) (zskp tx len g p k) else zskp tx len g p k)
    split
    · exact ih.trans (zsg_adv _ _ _ _ _).mon
    · exact ih
theorem zsk_mon (tx : Int → Int) (len : Int) (s : String) (p : zP) : zmon p (zsk tx len s p) := zskp_mon _ _ _ _ _
theorem zdp_adv (tx : Int → Int) (len : Int) (p : zP) : zadv p (zdp tx len p) := zsg_adv _ _ _ _ _
theorem znp_adv (tx : Int → Int) (len : Int) (p : zP) : zadv p (znp tx len p) := by
  unfold znp
  split
  · exact (zsg_adv _ _ _ _ _).mon.adv (zsg_adv _ _ _ _ _)
  · exact zsg_adv _ _ _ _ _
theorem zsdp_adv (tx : Int → Int) (len : Int) (g : Int → Int) (n : Nat) (p : zP) : zadv p (zsdp tx len g n p) := by
  unfold zsdp
  split
  · exact ⟨by show p.1 ≤ p.1 + 1; omega, fun _ => Int.le_refl _⟩
  · exact ⟨Int.le_refl _, fun z => by cases z⟩
theorem zptp_mon (tx : Int → Int) (len : Int) (p : zP) : zmon p (zptp tx len p) := ((zdp_adv _ _ _).mon.trans (zdp_adv _ _ _).mon).trans (zsk_mon _ _ _ _)
theorem zdgp_adv (tx : Int → Int) (len : Int) (p : zP) (m : Int) : zadv p (zdgp tx len p m) := by
  have h2 : ∀ q : zP, zmon q (zd2 tx len q) := fun q => (zdp_adv _ _ _).mon.trans (zsk_mon _ _ _ _)
  unfold zdgp
  (repeat' split)
  · exact zdp_adv _ _ _
  · exact (h2 _).adv (zdp_adv _ _ _)
  · exact ((h2 _).trans (h2 _)).adv (zdp_adv _ _ _)
theorem zrop_adv (tx : Int → Int) (len : Int) (p : zP) : zadv p (zrop tx len p) := by
  unfold zrop zssp
  (repeat' split)
  · exact (zsk_mon _ _ _ _).adv (zdgp_adv _ _ _ _)
  · exact (((zsk_mon _ _ _ _).trans (zptp_mon _ _ _)).trans ((znp_adv _ _ _).mon.trans (zsk_mon _ _ _ _))).adv (znp_adv _ _ _)
  · exact ((zsk_mon _ _ _ _).trans (zptp_mon _ _ _)).adv (zdp_adv _ _ _)
  · exact (zsk_mon _ _ _ _).adv (znp_adv _ _ _)
  · exact ((zsk_mon _ _ _ _).trans ((zsk_mon _ _ _ _).trans (zptp_mon _ _ _))).adv (zsdp_adv _ _ _ _ _)
  · exact ((zsk_mon _ _ _ _).trans (zsk_mon _ _ _ _)).adv (zdgp_adv _ _ _ _)
  · exact (zsk_mon _ _ _ _).adv (zdgp_adv _ _ _ _)
  · exact (zsk_mon _ _ _ _).adv (zdgp_adv _ _ _ _)
  · exact ((zsk_mon _ _ _ _).trans (zdp_adv _ _ _).mon).adv (zsdp_adv _ _ _ _ _)
  · exact (zsk_mon _ _ _ _).adv (zdgp_adv _ _ _ _)
/-- where order j ends; the row with the orders up to it -/
noncomputable def zrp (tx : Int → Int) (len : Int) : Nat → zP
  | 0 => zrop tx len (0, 0)
  | j + 1 => zrop tx len ((zrp tx len j).1 + 1, (zrp tx len j).2)
noncomputable def zrq (tx : Int → Int) (len : Int) (od : Int → Int) : Nat → Int → Int
  | 0 => zroo tx len (0, 0) od (5 * 0)
  | j + 1 => zroo tx len ((zrp tx len j).1 + 1, (zrp tx len j).2) (zrq tx len od j) (5 * ((j : Int) + 1))
theorem zrp_ok {tx : Int → Int} {len : Int} (hl : 0 ≤ len) (j : Nat) (h : ∀ i : Nat, i < j → zis tx len 59 59 (zrp tx len i)) : zpok len (zrp tx len j) ∧ 2 * (j : Int) ≤ (zrp tx len j).1 ∧ ((zrp tx len j).2 = 0 → 2 * (j : Int) + 1 ≤ (zrp tx len j).1) := by
  induction j with
  | zero =>
    have a := zrop_adv tx len (0, 0)
    have a1 : (0 : Int) ≤ (zrop tx len (0, 0)).1 := a.1
    have a2 : (zrop tx len (0, 0)).2 = 0 → (0 : Int) + 1 ≤ (zrop tx len (0, 0)).1 := a.2
    exact ⟨zrop_ok ⟨⟨Int.le_refl 0, hl⟩, Or.inl rfl⟩, by show 2 * ((0 : Nat) : Int) ≤ (zrop tx len (0, 0)).1; omega, fun z => by have := a2 z; show 2 * ((0 : Nat) : Int) + 1 ≤ (zrop tx len (0, 0)).1; omega⟩
  | succ j ih =>
    obtain ⟨j1, j2, j3⟩ := ih (fun i a => h i (by omega))
    have c := h j (by omega)
    have c0 := c.1
    have c1 := c.2.1
    have j4 := j3 c0
    have k1 := j1.1
    have a := zrop_adv tx len ((zrp tx len j).1 + 1, (zrp tx len j).2)
    have a1 : (zrp tx len j).1 + 1 ≤ (zrp tx len (j + 1)).1 := a.1
    have a2 : (zrp tx len (j + 1)).2 = 0 → (zrp tx len j).1 + 1 + 1 ≤ (zrp tx len (j + 1)).1 := a.2
    exact ⟨zrop_ok ⟨⟨by show 0 ≤ (zrp tx len j).1 + 1; omega, by show (zrp tx len j).1 + 1 ≤ len; omega⟩, j1.2⟩, by omega, fun z => by have := a2 z; omega⟩
noncomputable def zpn (tx : Int → Int) (len : Int) : Nat := zfst (fun j : Nat => zis tx len 59 59 (zrp tx len j)) 60 0
/-- where reading ends; whether that is a fault -/
noncomputable def zpe (tx : Int → Int) (len : Int) : zP := zrp tx len (zpn tx len)
def zbad (tx : Int → Int) (len : Int) : Prop := (zpe tx len).2 ≠ 0 ∨ (zpe tx len).1 < len
/-- the first k orders are done -/
noncomputable def zex (f : zF) (o : Int → Int) : Nat → zF
  | 0 => f
  | k + 1 => match zdo (zex f o k) o k with
    | .inl _ => zex f o k
    | .inr z => z.2
/-- numbers of 32 bits all through -/
def zr32 (g : Int → Int) : Prop := ∀ j : Int, -2147483648 ≤ g j ∧ g j < 2147483648
theorem zr32_uz {g : Int → Int} {k v : Int} (h : zr32 g) (hv : -2147483648 ≤ v ∧ v < 2147483648) : zr32 (js_uz g k v) := by
  intro j
  unfold js_uz
  split
  · exact hv
  · exact h j
theorem zdv_r (tx : Int → Int) (len : Int) (p : zP) : 0 ≤ zdv tx len p ∧ zdv tx len p ≤ 9 := by
  have := zsv_r (tx := tx) (len := len) (lo := 48) (hi := 57) (p := p) (by decide)
  unfold zdv
  omega
theorem znv_r (tx : Int → Int) (len : Int) (p : zP) : 0 ≤ znv tx len p ∧ znv tx len p ≤ 99 := by
  have a := zsv_r (tx := tx) (len := len) (lo := 48) (hi := 57) (p := p) (by decide)
  have b := zsv_r (tx := tx) (len := len) (lo := 48) (hi := 57) (p := zsg tx len 48 57 p) (by decide)
  unfold znv
  split <;> omega
theorem zsv1_r (tx : Int → Int) (len : Int) (s : String) (p : zP) (h : s.length < 1000) : -1 ≤ zsv1 tx len s p ∧ zsv1 tx len s p < 1000 := by
  have := zidx_r (zcl s.toList) (tx p.1) s.length 0
  unfold zsv1 zsdv
  split <;> omega
theorem zpto_r {tx : Int → Int} {len : Int} {p : zP} {od : Int → Int} {to : Int} (h : zr32 od) : zr32 (zpto tx len p od to) := by
  have a := zdv_r tx len p
  have b := zdv_r tx len (zdp tx len p)
  exact zr32_uz (zr32_uz h (by omega)) (by omega)
theorem zdgo_r {tx : Int → Int} {len : Int} {p : zP} {od : Int → Int} {to m : Int} (h : zr32 od) : zr32 (zdgo tx len p od to m) := by
  have a := zdv_r tx len p
  have b := zdv_r tx len (zd2 tx len p)
  have c := zdv_r tx len (zd2 tx len (zd2 tx len p))
  unfold zdgo
  (repeat' split)
  · exact zr32_uz h (by omega)
  · exact zr32_uz (zr32_uz h (by omega)) (by omega)
  · exact zr32_uz (zr32_uz (zr32_uz h (by omega)) (by omega)) (by omega)
theorem zroo_r {tx : Int → Int} {len : Int} {p : zP} {od : Int → Int} {to : Int} (h : zr32 od) (hh : 0 ≤ zhere tx len p ∧ zhere tx len p < 128) : zr32 (zroo tx len p od to) := by
  have h1 : zr32 (js_uz od to (zhere tx len p)) := zr32_uz h (by omega)
  have n1 := znv_r tx len (zptp tx len (zsk tx len "enter " p))
  have n2 := znv_r tx len (zsk tx len " " (znp tx len (zptp tx len (zsk tx len "enter " p))))
  have n3 := zdv_r tx len (zptp tx len (zsk tx len "farm " p))
  have n4 := znv_r tx len (zsk tx len "hour " p)
  have n5 := zdv_r tx len (zsk tx len "wind " p)
  have n6 := zsv1_r tx len "-nesw" (zdp tx len (zsk tx len "wind " p)) (by decide)
  have n7 := zsv1_r tx len "nesw" (zptp tx len (zsk tx len "pire " (zsk tx len "s" p))) (by decide)
  unfold zroo zsso
  (repeat' split)
  · exact zdgo_r h1
  · exact zr32_uz (zr32_uz (zpto_r h1) (by omega)) (by omega)
  · exact zr32_uz (zpto_r h1) (by omega)
  · exact zr32_uz h1 (by omega)
  · exact zr32_uz (zpto_r h1) (by omega)
  · exact zdgo_r (zr32_uz h1 (by omega))
  · exact zdgo_r h1
  · exact zdgo_r h1
  · exact zr32_uz (zr32_uz h1 (by omega)) (by omega)
  · exact zdgo_r h1
theorem zhere_r {tx : Int → Int} {len : Int} {p : zP} (hp : zpok len p) (hl : len ≤ 60) (ht : ∀ j : Int, 0 ≤ j → j < 60 → 0 ≤ tx j ∧ tx j < 128) : 0 ≤ zhere tx len p ∧ zhere tx len p < 128 := by
  have h1 := hp.1
  unfold zhere
  split
  · exact ht p.1 (by omega) (by omega)
  · exact ⟨by decide, by decide⟩
theorem zrq_r {tx : Int → Int} {len : Int} {od : Int → Int} (hl : 0 ≤ len ∧ len ≤ 60) (ht : ∀ j : Int, 0 ≤ j → j < 60 → 0 ≤ tx j ∧ tx j < 128) (ho : zr32 od) (j : Nat) (h : ∀ i : Nat, i < j → zis tx len 59 59 (zrp tx len i)) : zr32 (zrq tx len od j) := by
  induction j with
  | zero => exact zroo_r ho (zhere_r ⟨⟨Int.le_refl 0, hl.1⟩, Or.inl rfl⟩ hl.2 ht)
  | succ j ih =>
    have c := (h j (by omega)).2.1
    obtain ⟨j1, -, -⟩ := zrp_ok (tx := tx) hl.1 j (fun i a => h i (by omega))
    have j2 := j1.1
    exact zroo_r (ih (fun i a => h i (by omega))) (zhere_r ⟨⟨by show 0 ≤ (zrp tx len j).1 + 1; omega, by show (zrp tx len j).1 + 1 ≤ len; omega⟩, j1.2⟩ hl.2 ht)
/-- what run gives: a fault's place; or the order that is refused, with its reason; or how many orders, and the new row -/
abbrev zRu : Type := Int ⊕ ((Int × Int × Int) ⊕ (Int × zF))
def zok1 (f : zF) (o : Int → Int) (k : Nat) : Prop := ∃ z : Int × zF, zdo (zex f o k) o k = .inr z
noncomputable def zxn (f : zF) (o : Int → Int) (n : Nat) : Nat := zfst (zok1 f o) n 0
noncomputable def zruns (f : zF) (o : Int → Int) (n : Nat) : zRu := if zxn f o n = n then .inr (.inr ((n : Int), zex f o n)) else match zdo (zex f o (zxn f o n)) o (zxn f o n) with
  | .inl z => .inr (.inl ((zxn f o n : Int), z.1, z.2))
  | .inr _ => .inl 0
noncomputable def zrun (f : zF) (tx : Int → Int) (len : Int) (od : Int → Int) : zRu := @ite zRu (zbad tx len) (Classical.propDecidable _) (.inl (zpe tx len).1) (zruns f (zrq tx len od (zpn tx len)) (zpn tx len + 1))
/-- what run leaves of the whole object -/
def zruQ (A : Nat → Nat) (f svd pas rf tx ln : Int → Int) (isS pm lm : Int) (h : js_H) (u : zRu) : js_Q := match u with
  | .inl a => zPost A (.int (jI 0)) f svd pas rf tx ln isS pm 1 0 a lm h
  | .inr (.inl z) => zPost A (.int (jI 0)) f svd pas (js_uz (js_uz (zrf rf 12 z.1) 2 z.2.1) 3 z.2.2) tx ln isS pm 2 0 (-1) lm h
  | .inr (.inr z) => zPost A (.int (jI z.1)) z.2 svd (zpas f pas pm) rf tx ln isS (zpm pm) 0 0 (-1) lm h
