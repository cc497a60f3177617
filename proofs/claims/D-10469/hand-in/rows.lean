section
/-- how many of the first N places of f hold x -/
def sn_ct (f : Nat → Int32) (x : Int32) : Nat → Nat
  | 0 => 0
  | N + 1 => sn_ct f x N + (if f N = x then 1 else 0)
theorem sn_ct_out {f : Nat → Int32} {x y : Int32} {j N : Nat} (h : N ≤ j) : sn_ct (upd f j y) x N = sn_ct f x N := by
  induction N with
  | zero => rfl
  | succ N ih =>
    show sn_ct (upd f j y) x N + (if upd f j y N = x then 1 else 0) = sn_ct f x N + (if f N = x then 1 else 0)
    rw [ih (by omega), pk_un (by omega)]
theorem sn_ct_upd {f : Nat → Int32} {x y : Int32} {j N : Nat} (h : j < N) : sn_ct (upd f j y) x N + (if f j = x then 1 else 0) = sn_ct f x N + (if y = x then 1 else 0) := by
  induction N with
  | zero => omega
  | succ N ih =>
    show sn_ct (upd f j y) x N + (if upd f j y N = x then 1 else 0) + (if f j = x then 1 else 0) = sn_ct f x N + (if f N = x then 1 else 0) + (if y = x then 1 else 0)
    by_cases e : j = N
    · subst e
      rw [sn_ct_out (Nat.le_refl j), pk_us]
      omega
    · have t := ih (by omega)
      rw [pk_un (show N ≠ j by omega)]
      omega
theorem sn_ct_pos {f : Nat → Int32} {x : Int32} {j N : Nat} (h : j < N) (e : f j = x) : 1 ≤ sn_ct f x N := by
  induction N with
  | zero => omega
  | succ N ih =>
    show 1 ≤ sn_ct f x N + (if f N = x then 1 else 0)
    by_cases g : j = N
    · subst g
      rw [if_pos e]
      omega
    · have t := ih (by omega)
      omega
theorem sn_ct_two {f : Nat → Int32} {x : Int32} {i j N : Nat} (hi : i < N) (hj : j < N) (ne : i ≠ j) (ei : f i = x) (ej : f j = x) : 2 ≤ sn_ct f x N := by
  induction N with
  | zero => omega
  | succ N ih =>
    show 2 ≤ sn_ct f x N + (if f N = x then 1 else 0)
    by_cases g : i = N
    · subst g
      rw [if_pos ei]
      have t := sn_ct_pos (N := i) (show j < i by omega) ej
      omega
    · by_cases g2 : j = N
      · subst g2
        rw [if_pos ej]
        have t := sn_ct_pos (N := j) (show i < j by omega) ei
        omega
      · have t := ih (by omega) (by omega)
        omega
theorem sn_ct_none {f : Nat → Int32} {x : Int32} {N : Nat} (h : ∀ j, j < N → f j ≠ x) : sn_ct f x N = 0 := by
  induction N with
  | zero => rfl
  | succ N ih =>
    show sn_ct f x N + (if f N = x then 1 else 0) = 0
    rw [ih (fun j hj => h j (by omega)), if_neg (h N (by omega))]
/-! indices -/
theorem sn_ix (n t : Nat) : (4 : Int32) * nI n + nI t = nI (4 * n + t) := by
  rw [show (4 : Int32) = nI 4 from rfl, pk_mul, nI_add]
theorem sn_cl {n t : Nat} (hn : n < 400) (ht : t < 4) : ((4 : Int32) * nI n + nI t).toNatClampNeg = 4 * n + t := by
  rw [sn_ix]
  exact nI_clamp (by omega)
theorem sn_in {n t : Nat} (hn : n < 400) (ht : t < 4) : vp_in ((4 : Int32) * nI n + nI t) 1600 := by
  rw [sn_ix]
  exact vp_in_nI (by omega) (by omega)
/-- the turn -/
def sn_tn (key lv : Int32) : Int32 := ((key.toUInt32 >>> ((6 - (2 * lv)).toUInt32 &&& Int32.toUInt32 31)).toInt32) &&& 3
theorem sn_tnE (key lv : Int32) : ∃ t : Nat, t < 4 ∧ sn_tn key lv = nI t := pk_andE _ 2 (by decide)
theorem sn_kbE (key : Int32) : ∃ t : Nat, t < 4 ∧ key &&& 3 = nI t := pk_andE _ 2 (by decide)
theorem sn_m1lt : (-1 : Int32) < 0 := by decide
theorem sn_nneg {n : Nat} (h : n < 400) : ¬ nI n < 0 := nI_pos (by omega)
theorem sn_ge {x : Int32} (h : ¬ x < 0) : 0 ≤ x := Int32.not_lt.mp h
theorem sn_nge {x : Int32} (h : x < 0) : ¬ 0 ≤ x := fun g => absurd h (Int32.not_lt.mpr g)
theorem sn_m1n {n : Nat} (h : n < 400) : nI n ≠ -1 := fun e => absurd (e ▸ sn_m1lt : nI n < 0) (sn_nneg h)
theorem sn_inj {a b : Nat} (ha : a < 400) (hb : b < 400) (e : nI a = nI b) : a = b := (nI_eq (by omega) (by omega)).mp e
/-- one step down from a node (-1: no node) -/
def sn_sd (a1 : Nat → Int32) (key lv x : Int32) : Int32 := if x < 0 then -1 else a1 ((4 * x) + sn_tn key lv).toNatClampNeg
theorem sn_sd_m1 (a1 : Nat → Int32) (key lv : Int32) : sn_sd a1 key lv (-1) = -1 := if_pos sn_m1lt
theorem sn_sd_nI (a1 : Nat → Int32) (key lv : Int32) {n t : Nat} (hn : n < 400) (ht : t < 4) (e : sn_tn key lv = nI t) : sn_sd a1 key lv (nI n) = a1 (4 * n + t) := by
  unfold sn_sd
  rw [if_neg (sn_nneg hn), e, sn_cl hn ht]
/-- x is no node, or a node of level l in W -/
def sn_ok (W : Nat → Nat → Prop) (l : Nat) (x : Int32) : Prop := x = -1 ∨ ∃ n : Nat, n < 400 ∧ x = nI n ∧ W l n
/-- ways out of W's inner nodes lead to W -/
def sn_tr (a1 : Nat → Int32) (W : Nat → Nat → Prop) : Prop := ∀ l n w : Nat, W l n → l < 3 → n < 400 → w < 4 → sn_ok W (l + 1) (a1 (4 * n + w))
/-- the two trees agree over W -/
def sn_ag (a1 a2 b1 b2 : Nat → Int32) (W : Nat → Nat → Prop) : Prop := ∀ l n : Nat, W l n → n < 400 → b2 n = a2 n ∧ ∀ w : Nat, w < 4 → b1 (4 * n + w) = a1 (4 * n + w)
theorem sn_ok_sd {a1 : Nat → Int32} {W : Nat → Nat → Prop} {l : Nat} {x : Int32} (key lv : Int32) (tr : sn_tr a1 W) (hl : l < 3) (h : sn_ok W l x) : sn_ok W (l + 1) (sn_sd a1 key lv x) := by
  rcases h with rfl | ⟨n, hn, rfl, hW⟩
  · exact Or.inl (sn_sd_m1 _ _ _)
  · obtain ⟨t, ht, e⟩ := sn_tnE key lv
    rw [sn_sd_nI a1 key lv hn ht e]
    exact tr l n t hW hl hn ht
theorem sn_sd_ag {a1 a2 b1 b2 : Nat → Int32} {W : Nat → Nat → Prop} {l : Nat} {x : Int32} (key lv : Int32) (ag : sn_ag a1 a2 b1 b2 W) (h : sn_ok W l x) : sn_sd b1 key lv x = sn_sd a1 key lv x := by
  rcases h with rfl | ⟨n, hn, rfl, hW⟩
  · rw [sn_sd_m1, sn_sd_m1]
  · obtain ⟨t, ht, e⟩ := sn_tnE key lv
    rw [sn_sd_nI a1 key lv hn ht e, sn_sd_nI b1 key lv hn ht e]
    exact (ag l n hW hn).2 t ht
def sn_n1 (a1 : Nat → Int32) (key r : Int32) : Int32 := sn_sd a1 key (nI 0) r
def sn_n2 (a1 : Nat → Int32) (key r : Int32) : Int32 := sn_sd a1 key (nI 1) (sn_n1 a1 key r)
def sn_n3 (a1 : Nat → Int32) (key r : Int32) : Int32 := sn_sd a1 key (nI 2) (sn_n2 a1 key r)
theorem sn_ok1 {a1 : Nat → Int32} {W : Nat → Nat → Prop} {r : Int32} (key : Int32) (tr : sn_tr a1 W) (h : sn_ok W 0 r) : sn_ok W 1 (sn_n1 a1 key r) := sn_ok_sd key _ tr (by omega) h
theorem sn_ok2 {a1 : Nat → Int32} {W : Nat → Nat → Prop} {r : Int32} (key : Int32) (tr : sn_tr a1 W) (h : sn_ok W 0 r) : sn_ok W 2 (sn_n2 a1 key r) := sn_ok_sd key _ tr (by omega) (sn_ok1 key tr h)
theorem sn_ok3 {a1 : Nat → Int32} {W : Nat → Nat → Prop} {r : Int32} (key : Int32) (tr : sn_tr a1 W) (h : sn_ok W 0 r) : sn_ok W 3 (sn_n3 a1 key r) := sn_ok_sd key _ tr (by omega) (sn_ok2 key tr h)
theorem sn_ag1 {a1 a2 b1 b2 : Nat → Int32} {W : Nat → Nat → Prop} {r : Int32} (key : Int32) (ag : sn_ag a1 a2 b1 b2 W) (h : sn_ok W 0 r) : sn_n1 b1 key r = sn_n1 a1 key r := sn_sd_ag key _ ag h
theorem sn_ag2 {a1 a2 b1 b2 : Nat → Int32} {W : Nat → Nat → Prop} {r : Int32} (key : Int32) (tr : sn_tr a1 W) (ag : sn_ag a1 a2 b1 b2 W) (h : sn_ok W 0 r) : sn_n2 b1 key r = sn_n2 a1 key r := by
  unfold sn_n2
  rw [sn_ag1 key ag h]
  exact sn_sd_ag key _ ag (sn_ok1 key tr h)
theorem sn_ag3 {a1 a2 b1 b2 : Nat → Int32} {W : Nat → Nat → Prop} {r : Int32} (key : Int32) (tr : sn_tr a1 W) (ag : sn_ag a1 a2 b1 b2 W) (h : sn_ok W 0 r) : sn_n3 b1 key r = sn_n3 a1 key r := by
  unfold sn_n3
  rw [sn_ag2 key tr ag h]
  exact sn_sd_ag key _ ag (sn_ok2 key tr h)
/-- the bit of the key in a leaf (-1: no leaf) -/
def sn_bt (a2 : Nat → Int32) (key x : Int32) : Int32 := if x < 0 then 0 else if ((((a2 x.toNatClampNeg).toUInt32 >>> ((key &&& 3).toUInt32 &&& Int32.toUInt32 31)).toInt32) &&& 1) = 0 then 0 else 1
theorem sn_bt_01 (a2 : Nat → Int32) (key x : Int32) : sn_bt a2 key x = 0 ∨ sn_bt a2 key x = 1 := by
  unfold sn_bt
  split
  · exact Or.inl rfl
  · split
    · exact Or.inl rfl
    · exact Or.inr rfl
theorem sn_bt_ag {a1 a2 b1 b2 : Nat → Int32} {W : Nat → Nat → Prop} {l : Nat} {x : Int32} (key : Int32) (ag : sn_ag a1 a2 b1 b2 W) (h : sn_ok W l x) : sn_bt b2 key x = sn_bt a2 key x := by
  rcases h with rfl | ⟨n, hn, rfl, hW⟩
  · unfold sn_bt
    rw [if_pos sn_m1lt, if_pos sn_m1lt]
  · unfold sn_bt
    rw [nI_clamp (by omega), (ag l n hW hn).1]
/-- the value that a leaf holds for the key -/
def sn_vl (a1 : Nat → Int32) (key x : Int32) : Int32 := a1 ((4 * x) + (key &&& 3)).toNatClampNeg
theorem sn_vl_ag {a1 a2 b1 b2 : Nat → Int32} {W : Nat → Nat → Prop} {l : Nat} {x : Int32} (key : Int32) (ag : sn_ag a1 a2 b1 b2 W) (h : sn_ok W l x) (hx : ¬ x < 0) : sn_vl b1 key x = sn_vl a1 key x := by
  rcases h with rfl | ⟨n, hn, rfl, hW⟩
  · exact absurd sn_m1lt hx
  · obtain ⟨t, ht, e⟩ := sn_kbE key
    unfold sn_vl
    rw [e, sn_cl hn ht]
    exact (ag l n hW hn).2 t ht
theorem sn_bt_pos {a2 : Nat → Int32} {key x : Int32} (h : ¬ sn_bt a2 key x = 0) : ¬ x < 0 := fun g => h (if_pos g)
/-- get's answer below the questions of range -/
def sn_gt (a1 a2 : Nat → Int32) (key r : Int32) : Int32 := if sn_bt a2 key (sn_n3 a1 key r) = 0 then 0 else sn_vl a1 key (sn_n3 a1 key r)
theorem sn_gt_ag {a1 a2 b1 b2 : Nat → Int32} {W : Nat → Nat → Prop} {r : Int32} (key : Int32) (tr : sn_tr a1 W) (ag : sn_ag a1 a2 b1 b2 W) (h : sn_ok W 0 r) : sn_gt b1 b2 key r = sn_gt a1 a2 key r := by
  unfold sn_gt
  rw [sn_ag3 key tr ag h, sn_bt_ag key ag (sn_ok3 key tr h)]
  split
  · rfl
  · next g => exact sn_vl_ag key ag (sn_ok3 key tr h) (sn_bt_pos g)
/-- missingLevel -/
def sn_ml (a1 a2 : Nat → Int32) (key r : Int32) : Int32 :=
  if r < 0 then nI 0 else if sn_n1 a1 key r < 0 then nI 1 else if sn_n2 a1 key r < 0 then nI 2 else if sn_n3 a1 key r < 0 then 3 else if sn_bt a2 key (sn_n3 a1 key r) = 0 then 4 else 5
theorem sn_ml_ag {a1 a2 b1 b2 : Nat → Int32} {W : Nat → Nat → Prop} {r : Int32} (key : Int32) (tr : sn_tr a1 W) (ag : sn_ag a1 a2 b1 b2 W) (h : sn_ok W 0 r) : sn_ml b1 b2 key r = sn_ml a1 a2 key r := by
  unfold sn_ml
  rw [sn_ag1 key ag h, sn_ag2 key tr ag h, sn_ag3 key tr ag h, sn_bt_ag key ag (sn_ok3 key tr h)]
def sn_bh (key lv : Int32) : Int32 := (key &&& ((((256 : Int32).toUInt32 >>> ((2 * lv).toUInt32 &&& Int32.toUInt32 31)).toInt32 - 1) ^^^ (-1))) + ((256 : Int32).toUInt32 >>> ((2 * lv).toUInt32 &&& Int32.toUInt32 31)).toInt32
/-- next's loop, with so many steps left -/
def sn_nx (a1 a2 : Nat → Int32) (r : Int32) : Nat → Int32 → Int32
  | 0, _ => 256
  | n + 1, key => if 256 ≤ key then 256 else if sn_ml a1 a2 key r ≤ 4 then sn_nx a1 a2 r n (sn_bh key (sn_ml a1 a2 key r)) else key
theorem sn_nx_ag {a1 a2 b1 b2 : Nat → Int32} {W : Nat → Nat → Prop} {r : Int32} (tr : sn_tr a1 W) (ag : sn_ag a1 a2 b1 b2 W) (h : sn_ok W 0 r) : ∀ (n : Nat) (key : Int32), sn_nx b1 b2 r n key = sn_nx a1 a2 r n key
  | 0, _ => rfl
  | n + 1, key => by
    unfold sn_nx
    rw [sn_ml_ag key tr ag h, sn_nx_ag tr ag h n]
theorem sn_ite_sym (x y : Int32) (p q q' : Int32) (h : q = q') : (if x = y then p else q) = (if y = x then p else q') := by
  subst h
  by_cases e : x = y
  · rw [if_pos e, if_pos e.symm]
  · rw [if_neg e, if_neg (fun z => e z.symm)]
/-- sharedLevel's end: two different leaves -/
def sn_fn (a1 a2 : Nat → Int32) (key x y : Int32) : Int32 := if sn_bt a2 key x = sn_bt a2 key y then (if sn_bt a2 key x = 0 then 4 else if sn_vl a1 key x = sn_vl a1 key y then 4 else 5) else 5
theorem sn_fn_sym (a1 a2 : Nat → Int32) (key x y : Int32) : sn_fn a1 a2 key x y = sn_fn a1 a2 key y x := by
  unfold sn_fn
  by_cases e : sn_bt a2 key x = sn_bt a2 key y
  · rw [if_pos e, if_pos e.symm, e]
    rw [sn_ite_sym (sn_vl a1 key x) (sn_vl a1 key y) 4 5 5 rfl]
  · rw [if_neg e, if_neg (fun z => e z.symm)]
def sn_sl (a1 a2 : Nat → Int32) (key x y : Int32) : Int32 :=
  if x = y then nI 0 else if sn_n1 a1 key x = sn_n1 a1 key y then nI 1 else if sn_n2 a1 key x = sn_n2 a1 key y then nI 2 else if sn_n3 a1 key x = sn_n3 a1 key y then 3 else sn_fn a1 a2 key (sn_n3 a1 key x) (sn_n3 a1 key y)
theorem sn_sl_sym (a1 a2 : Nat → Int32) (key x y : Int32) : sn_sl a1 a2 key x y = sn_sl a1 a2 key y x :=
  sn_ite_sym _ _ _ _ _ (sn_ite_sym _ _ _ _ _ (sn_ite_sym _ _ _ _ _ (sn_ite_sym _ _ _ _ _ (sn_fn_sym a1 a2 key _ _))))
def sn_nc (a1 a2 : Nat → Int32) (x y : Int32) : Nat → Int32 → Int32
  | 0, _ => 256
  | n + 1, key => if 256 ≤ key then 256 else if sn_sl a1 a2 key x y ≤ 4 then sn_nc a1 a2 x y n (sn_bh key (sn_sl a1 a2 key x y)) else key
theorem sn_nc_sym (a1 a2 : Nat → Int32) (x y : Int32) : ∀ (n : Nat) (key : Int32), sn_nc a1 a2 x y n key = sn_nc a1 a2 y x n key
  | 0, _ => rfl
  | n + 1, key => by
    unfold sn_nc
    rw [sn_sl_sym a1 a2 key x y, sn_nc_sym a1 a2 x y n]
theorem sn_nc_le (a1 a2 : Nat → Int32) (x y : Int32) : ∀ (n : Nat) (key : Int32), 256 ≤ sn_nc a1 a2 x y n key → sn_nc a1 a2 x y n key = 256
  | 0, _ => fun _ => rfl
  | n + 1, key => by
    unfold sn_nc
    split
    · exact fun _ => rfl
    · next g =>
      split
      · exact sn_nc_le a1 a2 x y n _
      · exact fun z => absurd z g
/-- nextChange's answer below the questions of range -/
def sn_nf (a1 a2 : Nat → Int32) (x y fr : Int32) : Int32 := sn_nc a1 a2 x y 256 (if 0 ≤ fr then fr else 0)
theorem sn_nf_sym (a1 a2 : Nat → Int32) (x y fr : Int32) : sn_nf a1 a2 x y fr = sn_nf a1 a2 y x fr := sn_nc_sym a1 a2 x y 256 _
def sn_cg (a1 a2 : Nat → Int32) (x y : Int32) : Nat → Int32 → Int32 → Int32
  | 0, c, _ => c
  | n + 1, c, key => if 256 ≤ key then c else sn_cg a1 a2 x y n (c + 1) (sn_nf a1 a2 x y (key + 1))
theorem sn_cg_sym (a1 a2 : Nat → Int32) (x y : Int32) : ∀ (n : Nat) (c key : Int32), sn_cg a1 a2 x y n c key = sn_cg a1 a2 y x n c key
  | 0, _, _ => rfl
  | n + 1, c, key => by
    unfold sn_cg
    rw [sn_nf_sym a1 a2 x y, sn_cg_sym a1 a2 x y n]
theorem sn_cg_ge (a1 a2 : Nat → Int32) (x y : Int32) : ∀ (n c : Nat) (key : Int32), ∃ d : Nat, c ≤ d ∧ d ≤ c + n ∧ sn_cg a1 a2 x y n (nI c) key = nI d
  | 0, c, _ => ⟨c, by omega, by omega, rfl⟩
  | n + 1, c, key => by
    unfold sn_cg
    split
    · exact ⟨c, by omega, by omega, rfl⟩
    · obtain ⟨d, h1, h2, h3⟩ := sn_cg_ge a1 a2 x y n (c + 1) (sn_nf a1 a2 x y (key + 1))
      exact ⟨d, by omega, by omega, by rw [nI_1]; exact h3⟩
def sn_ch (a1 a2 : Nat → Int32) (x y : Int32) : Int32 := sn_cg a1 a2 x y 256 (nI 0) (sn_nf a1 a2 x y 0)
theorem sn_ch_sym (a1 a2 : Nat → Int32) (x y : Int32) : sn_ch a1 a2 x y = sn_ch a1 a2 y x := by
  unfold sn_ch
  rw [sn_nf_sym a1 a2 x y, sn_cg_sym a1 a2 x y]
theorem sn_ch_m1 (a1 a2 : Nat → Int32) (x y : Int32) : ¬ sn_ch a1 a2 x y = -1 := by
  obtain ⟨d, _, h2, h3⟩ := sn_cg_ge a1 a2 x y 256 0 (sn_nf a1 a2 x y 0)
  unfold sn_ch
  rw [h3]
  exact fun e => absurd (e ▸ sn_m1lt : nI d < 0) (nI_pos (by omega))
/-- no change is counted exactly when none is found -/
theorem sn_ch_0 (a1 a2 : Nat → Int32) (x y : Int32) : sn_ch a1 a2 x y = 0 ↔ sn_nf a1 a2 x y 0 = 256 := by
  constructor
  · intro h
    by_cases g : 256 ≤ sn_nf a1 a2 x y 0
    · exact sn_nc_le a1 a2 x y 256 _ g
    · obtain ⟨d, h1, h2, h3⟩ := sn_cg_ge a1 a2 x y 255 (0 + 1) (sn_nf a1 a2 x y (sn_nf a1 a2 x y 0 + 1))
      have e : sn_ch a1 a2 x y = nI d := by
        unfold sn_ch
        rw [show (256 : Nat) = 255 + 1 from rfl]
        unfold sn_cg
        rw [if_neg g, nI_1]
        exact h3
      rw [e] at h
      exact absurd h (nI_ne0 (by omega) (by omega))
  · intro h
    unfold sn_ch
    rw [show (256 : Nat) = 255 + 1 from rfl]
    unfold sn_cg
    rw [if_pos (by rw [h]; decide)]
    rfl
/-- one root: no change -/
theorem sn_ch_same (a1 a2 : Nat → Int32) (x : Int32) : sn_ch a1 a2 x x = 0 := by
  refine (sn_ch_0 a1 a2 x x).mpr ?_
  unfold sn_nf
  rw [if_pos (by decide), show (256 : Nat) = 254 + 1 + 1 from rfl]
  have e : sn_sl a1 a2 0 x x = nI 0 := if_pos rfl
  have e2 : sn_bh 0 (nI 0) = 256 := by decide
  unfold sn_nc
  rw [if_neg (by decide), e, if_pos (by decide), e2]
  unfold sn_nc
  rw [if_pos (by decide)]
end
section
/-! ===== the questions ===== -/
section
variable {a1 a2 a3 a4 a5 a6 a7 a8 : Nat → Int32} {W : Nat → Nat → Prop} {key : Int32}
theorem sn_turn {post : Int32 → Prop} {lw : Int32} (h : ∀ t : Nat, t < 4 → sn_tn key lw = nI t → post (nI t)) : wpX_turn post () key lw := by
  obtain ⟨t, ht, e⟩ := sn_tnE key lw
  have g := h t ht e
  rw [← e] at g
  exact g
theorem sn_lfs {post : Int32 → Prop} {n l : Nat} {x : Int32} (hl : l < 3) (hx : sn_ok W l x) (h0 : x = -1 → post (-1)) (h1 : wX_leafFor_10 post key a1 a2 a3 a4 a5 a6 a7 a8 n (sn_sd a1 key (nI l) x) (nI (l + 1))) :
    wX_leafFor_10 post key a1 a2 a3 a4 a5 a6 a7 a8 (n + 1) x (nI l) := by
  refine br_f (c := 3 ≤ nI l) (nI_ge (b := 3) hl (by decide)) ?_
  rcases hx with rfl | ⟨k, hk, rfl, _⟩
  · exact br_t sn_m1lt (h0 rfl)
  · refine br_f (sn_nneg hk) (sn_turn (fun t ht e => ?_))
    rw [sn_sd_nI a1 key _ hk ht e] at h1
    exact ⟨sn_in hk ht, nm_r (by rw [sn_cl hk ht]) (nm_r (nI_1 l) h1)⟩
theorem sn_leafFor {post : Int32 → Prop} {M : Nat} (hM : M < 8) (tr : sn_tr a1 W) (hr : sn_ok W 0 (a5 M)) (hp : post (sn_n3 a1 key (a5 M))) :
    wpX_leafFor post (a1, a2, a3, a4, a5, a6, a7, a8) (nI M) key := by
  refine ⟨pk_in M 8 hM, nm_r (by rw [nI_clamp (by omega)]) ⟨4, ?_⟩⟩
  have o1 := sn_ok1 key tr hr
  have o2 := sn_ok2 key tr hr
  refine sn_lfs (l := 0) (by omega) hr (fun e => ?_) (sn_lfs (l := 1) (by omega) o1 (fun e => ?_) (sn_lfs (l := 2) (by omega) o2 (fun e => ?_) (br_t (by decide) hp)))
  · rw [sn_n3, sn_n2, sn_n1, e, sn_sd_m1, sn_sd_m1, sn_sd_m1] at hp
    exact hp
  · have e' : sn_n1 a1 key (a5 M) = -1 := e
    rw [sn_n3, sn_n2, e', sn_sd_m1, sn_sd_m1] at hp
    exact hp
  · have e' : sn_n2 a1 key (a5 M) = -1 := e
    rw [sn_n3, e', sn_sd_m1] at hp
    exact hp
/-- the bit is asked -/
theorem sn_bit {post : Int32 → Prop} {x : Int32} (hx : sn_ok W 3 x) (hp : post (sn_bt a2 key x)) :
    ((x < 0 → (post 0)) ∧ (¬ x < 0 → (vp_in x 400 ∧ (((((((a2 x.toNatClampNeg).toUInt32 >>> ((key &&& 3).toUInt32 &&& Int32.toUInt32 31)).toInt32) &&& 1) = 0 → (post 0)) ∧ (¬ ((((a2 x.toNatClampNeg).toUInt32 >>> ((key &&& 3).toUInt32 &&& Int32.toUInt32 31)).toInt32) &&& 1) = 0 → (post 1))))))) := by
  rcases hx with rfl | ⟨k, hk, rfl, _⟩
  · exact br_t sn_m1lt (by unfold sn_bt at hp; rw [if_pos sn_m1lt] at hp; exact hp)
  · refine br_f (sn_nneg hk) ⟨vp_in_nI hk (by omega), ?_⟩
    unfold sn_bt at hp
    rw [if_neg (sn_nneg hk)] at hp
    refine br_c (fun g => ?_) (fun g => ?_)
    · rw [if_pos g] at hp
      exact hp
    · rw [if_neg g] at hp
      exact hp
theorem sn_holds {post : Int32 → Prop} {M : Nat} (hM : M < 8) (tr : sn_tr a1 W) (hr : sn_ok W 0 (a5 M)) (hp : post (sn_bt a2 key (sn_n3 a1 key (a5 M)))) :
    wpX_holds post (a1, a2, a3, a4, a5, a6, a7, a8) (nI M) key :=
  sn_leafFor (W := W) hM tr hr (sn_bit (sn_ok3 key tr hr) hp)
/-- a map's number as it is asked for: one less than its place -/
def sn_mp (M : Nat) : Int32 := nI M - 1
theorem sn_mp1 : ∀ M, M < 9 → sn_mp M + 1 = nI M ∧ ¬ sn_mp M < -1 ∧ (6 < sn_mp M ↔ M = 8) := by decide +kernel
/-- the map is there -/
def sn_im (a4 : Nat → Int32) (M : Nat) : Prop := M < 8 ∧ ¬ a4 M = 0
theorem sn_isMap {post : Int32 → Prop} {M : Nat} (hM : M < 9) (h1 : sn_im a4 M → post 1) (h0 : ¬ sn_im a4 M → post 0) :
    wpX_isMap post (a1, a2, a3, a4, a5, a6, a7, a8) (sn_mp M) := by
  obtain ⟨e1, e2, e3⟩ := sn_mp1 M hM
  refine br_f e2 ?_
  by_cases g : M = 8
  · exact br_t (e3.mpr g) (h0 (fun z => absurd z.1 (by omega)))
  · refine br_f (fun z => g (e3.mp z)) ?_
    rw [e1, nI_clamp (by omega)]
    refine ⟨vp_in_nI (by omega) (by omega), br_c (fun z => h0 (fun t => t.2 z)) (fun z => h1 ⟨by omega, z⟩)⟩
theorem sn_10 : ¬ (1 : Int32) = 0 := by decide
theorem sn_get {post : Int32 → Prop} {M : Nat} (hM : M < 9) (tr : sn_tr a1 W) (hr : ∀ m, m < 8 → sn_ok W 0 (a5 m)) (hk0 : ¬ key < 0) (hk1 : key ≤ 255) (h1 : sn_im a4 M → post (sn_gt a1 a2 key (a5 M))) (h0 : ¬ sn_im a4 M → post 0) :
    wpX_get post (a1, a2, a3, a4, a5, a6, a7, a8) (sn_mp M) key := by
  unfold wpX_get
  refine sn_isMap hM (fun z => br_f sn_10 (br_f hk0 (br_t hk1 ?_))) (fun z => br_t rfl (h0 z))
  rw [(sn_mp1 M hM).1]
  refine sn_leafFor z.1 tr (hr M z.1) ?_
  have hp := h1 z
  unfold sn_gt at hp
  have o3 := sn_ok3 key tr (hr M z.1)
  revert hp o3
  generalize sn_n3 a1 key (a5 M) = x
  intro hp o3
  rcases o3 with rfl | ⟨k, hk, rfl, _⟩
  · exact br_t sn_m1lt (by unfold sn_bt at hp; rw [if_pos sn_m1lt, if_pos rfl] at hp; exact hp)
  · obtain ⟨t, ht, e⟩ := sn_kbE key
    unfold sn_bt at hp
    rw [if_neg (sn_nneg hk)] at hp
    refine br_f (sn_nneg hk) ⟨vp_in_nI hk (by omega), br_c (fun g => ?_) (fun g => ⟨?_, ?_⟩)⟩
    · rw [if_pos g, if_pos rfl] at hp
      exact hp
    · rw [e]
      exact sn_in hk ht
    · rw [if_neg g, if_neg sn_10] at hp
      exact hp
theorem sn_has {post : Int32 → Prop} {M : Nat} (hM : M < 9) (tr : sn_tr a1 W) (hr : ∀ m, m < 8 → sn_ok W 0 (a5 m)) (hk0 : ¬ key < 0) (hk1 : key ≤ 255) (h1 : sn_im a4 M → post (sn_bt a2 key (sn_n3 a1 key (a5 M)))) (h0 : ¬ sn_im a4 M → post (-1)) :
    wpX_has post (a1, a2, a3, a4, a5, a6, a7, a8) (sn_mp M) key := by
  unfold wpX_has
  refine sn_isMap hM (fun z => br_f sn_10 (br_f hk0 (br_f (Int32.not_lt.mpr hk1) ?_))) (fun z => br_t rfl (h0 z))
  rw [(sn_mp1 M hM).1]
  refine sn_holds z.1 tr (hr M z.1) ?_
  have hp := h1 z
  rcases sn_bt_01 a2 key (sn_n3 a1 key (a5 M)) with e | e
  · rw [e] at hp ⊢
    exact br_t rfl hp
  · rw [e] at hp ⊢
    exact br_f sn_10 hp
theorem sn_size {post : Int32 → Prop} {M : Nat} (hM : M < 9) (h1 : sn_im a4 M → post (a6 M)) (h0 : ¬ sn_im a4 M → post (-1)) :
    wpX_size post (a1, a2, a3, a4, a5, a6, a7, a8) (sn_mp M) := by
  unfold wpX_size
  refine sn_isMap hM (fun z => br_f sn_10 ?_) (fun z => br_t rfl (h0 z))
  have := z.1
  rw [(sn_mp1 M hM).1, nI_clamp (by omega)]
  exact ⟨vp_in_nI z.1 (by omega), h1 z⟩
theorem sn_mls {post : Int32 → Prop} {n l : Nat} {x : Int32} (hl : l < 3) (hx : sn_ok W l x) (h0 : x < 0 → post (nI l)) (h1 : ¬ x < 0 → wX_missingLevel_10 post key a1 a2 a3 a4 a5 a6 a7 a8 n (sn_sd a1 key (nI l) x) (nI (l + 1))) :
    wX_missingLevel_10 post key a1 a2 a3 a4 a5 a6 a7 a8 (n + 1) x (nI l) := by
  refine br_f (c := 3 ≤ nI l) (nI_ge (b := 3) hl (by decide)) ?_
  rcases hx with rfl | ⟨k, hk, rfl, _⟩
  · exact br_f (sn_nge sn_m1lt) (h0 sn_m1lt)
  · refine br_t (sn_ge (sn_nneg hk)) (sn_turn (fun t ht e => ?_))
    have h1 := h1 (sn_nneg hk)
    rw [sn_sd_nI a1 key _ hk ht e] at h1
    exact ⟨sn_in hk ht, nm_r (by rw [sn_cl hk ht]) (nm_r (nI_1 l) h1)⟩
theorem sn_mle {post : Int32 → Prop} {x : Int32} (hx : sn_ok W 3 x) (hp : post (if x < 0 then 3 else if sn_bt a2 key x = 0 then 4 else 5)) :
    ((0 ≤ x → (vp_in x 400 ∧ (((((((a2 x.toNatClampNeg).toUInt32 >>> ((key &&& 3).toUInt32 &&& Int32.toUInt32 31)).toInt32) &&& 1) = 0 → (post 4)) ∧ (¬ ((((a2 x.toNatClampNeg).toUInt32 >>> ((key &&& 3).toUInt32 &&& Int32.toUInt32 31)).toInt32) &&& 1) = 0 → (post 5)))))) ∧ (¬ 0 ≤ x → (post 3))) := by
  rcases hx with rfl | ⟨k, hk, rfl, _⟩
  · rw [if_pos sn_m1lt] at hp
    exact br_f (sn_nge sn_m1lt) hp
  · unfold sn_bt at hp
    rw [if_neg (sn_nneg hk), if_neg (sn_nneg hk)] at hp
    refine br_t (sn_ge (sn_nneg hk)) ⟨vp_in_nI hk (by omega), br_c (fun g => ?_) (fun g => ?_)⟩
    · rw [if_pos g, if_pos rfl] at hp
      exact hp
    · rw [if_neg g, if_neg sn_10] at hp
      exact hp
theorem sn_missing {post : Int32 → Prop} {M : Nat} (hM : M < 8) (tr : sn_tr a1 W) (hr : sn_ok W 0 (a5 M)) (hp : post (sn_ml a1 a2 key (a5 M))) :
    wpX_missingLevel post (a1, a2, a3, a4, a5, a6, a7, a8) (nI M) key := by
  refine ⟨pk_in M 8 hM, nm_r (by rw [nI_clamp (by omega)]) ⟨4, ?_⟩⟩
  have o1 := sn_ok1 key tr hr
  have o2 := sn_ok2 key tr hr
  have o3 := sn_ok3 key tr hr
  unfold sn_ml at hp
  refine sn_mls (l := 0) (by omega) hr (fun e => ?_) (fun g0 => sn_mls (l := 1) (by omega) o1 (fun e => ?_) (fun g1 => sn_mls (l := 2) (by omega) o2 (fun e => ?_) (fun g2 => br_t (by decide) ?_)))
  · rw [if_pos e] at hp
    exact hp
  · have e' : sn_n1 a1 key (a5 M) < 0 := e
    rw [if_neg g0, if_pos e'] at hp
    exact hp
  · have g1' : ¬ sn_n1 a1 key (a5 M) < 0 := g1
    have e' : sn_n2 a1 key (a5 M) < 0 := e
    rw [if_neg g0, if_neg g1', if_pos e'] at hp
    exact hp
  · have g1' : ¬ sn_n1 a1 key (a5 M) < 0 := g1
    have g2' : ¬ sn_n2 a1 key (a5 M) < 0 := g2
    rw [if_neg g0, if_neg g1', if_neg g2'] at hp
    exact sn_mle o3 hp
theorem sn_nxl {post : Int32 → Prop} {M : Nat} (hM : M < 8) (tr : sn_tr a1 W) (hr : sn_ok W 0 (a5 M)) : ∀ (c i : Nat) (key : Int32), i + c = 256 → post (sn_nx a1 a2 (a5 M) c key) →
    wX_next_23 post (sn_mp M) a1 a2 a3 a4 a5 a6 a7 a8 (c + 1) key (nI i)
  | 0, i, key, hi, hp => pk_le 256 i (fun _ => hp) (fun z => absurd z (by omega))
  | c + 1, i, key, hi, hp => by
    unfold sn_nx at hp
    refine pk_le 256 i (fun z => absurd z (by omega)) (fun _ => br_c (fun g => ?_) (fun g => ?_))
    · rw [if_pos g] at hp
      exact hp
    · rw [if_neg g] at hp
      rw [(sn_mp1 M (by omega)).1]
      refine sn_missing hM tr hr (br_c (fun g2 => ?_) (fun g2 => ?_))
      · rw [if_pos g2] at hp
        exact nm_e (nm_r (nI_1 i) (sn_nxl hM tr hr c (i + 1) _ (by omega) hp))
      · rw [if_neg g2] at hp
        exact hp
theorem sn_next {post : Int32 → Prop} {M : Nat} (hM : M < 9) (tr : sn_tr a1 W) (hr : ∀ m, m < 8 → sn_ok W 0 (a5 m)) (hk0 : ¬ key < 0) (h1 : sn_im a4 M → post (sn_nx a1 a2 (a5 M) 256 key)) (h0 : ¬ sn_im a4 M → post (-1)) :
    wpX_next post (a1, a2, a3, a4, a5, a6, a7, a8) (sn_mp M) key := by
  unfold wpX_next
  exact sn_isMap hM (fun z => br_f sn_10 (br_t (sn_ge hk0) ⟨257, sn_nxl z.1 tr (hr M z.1) 256 0 key (by omega) (h1 z)⟩)) (fun z => br_t rfl (h0 z))
end
end
section
/-! ===== comparing two maps ===== -/
section
variable {a1 a2 a3 a4 a5 a6 a7 a8 : Nat → Int32} {W : Nat → Nat → Prop} {key : Int32}
theorem sn_s60 {post : Int32 → Prop} {J : Int32 → Int32 → Int32 → Prop} {l : Nat} {y z0 : Int32} (hy : sn_ok W l y) (h : J z0 (sn_sd a1 key (nI l) y) (nI (l + 1))) :
    wX_sharedLevel_60 post J key y (nI l) z0 a1 a2 a3 a4 a5 a6 a7 a8 := by
  rcases hy with rfl | ⟨k, hk, rfl, _⟩
  · rw [sn_sd_m1] at h
    exact br_f (sn_nge sn_m1lt) (nm_r (nI_1 l) h)
  · refine br_t (sn_ge (sn_nneg hk)) (sn_turn (fun t ht e => ?_))
    rw [sn_sd_nI a1 key _ hk ht e] at h
    exact ⟨sn_in hk ht, nm_r (by rw [sn_cl hk ht]) (nm_r (nI_1 l) h)⟩
theorem sn_sls {post : Int32 → Prop} {n l : Nat} {x y : Int32} (hl : l < 3) (hx : sn_ok W l x) (hy : sn_ok W l y) (h0 : x = y → post (nI l)) (h1 : ¬ x = y → wX_sharedLevel_19 post key a1 a2 a3 a4 a5 a6 a7 a8 n (sn_sd a1 key (nI l) x) (sn_sd a1 key (nI l) y) (nI (l + 1))) :
    wX_sharedLevel_19 post key a1 a2 a3 a4 a5 a6 a7 a8 (n + 1) x y (nI l) := by
  refine br_f (c := 3 ≤ nI l) (nI_ge (b := 3) hl (by decide)) (br_c h0 (fun g => ?_))
  have h1 := h1 g
  rcases hx with rfl | ⟨k, hk, rfl, _⟩
  · rw [sn_sd_m1] at h1
    exact br_f (sn_nge sn_m1lt) (sn_s60 hy h1)
  · refine br_t (sn_ge (sn_nneg hk)) (sn_turn (fun t ht e => ?_))
    rw [sn_sd_nI a1 key _ hk ht e] at h1
    rw [sn_cl hk ht]
    exact ⟨sn_in hk ht, sn_s60 hy h1⟩
theorem sn_s158 {post : Int32 → Prop} {x y : Int32} (hx : sn_ok W 3 x) (hy : sn_ok W 3 y) (hp : post (sn_fn a1 a2 key x y)) :
    wX_sharedLevel_158 post key x y (sn_bt a2 key x) (sn_bt a2 key y) a1 a2 a3 a4 a5 a6 a7 a8 := by
  unfold sn_fn at hp
  refine br_c (fun g => ?_) (fun g => ?_)
  · rw [if_pos g] at hp
    refine br_c (fun g2 => ?_) (fun g2 => ?_)
    · rw [if_pos g2] at hp
      exact hp
    · rw [if_neg g2] at hp
      have gy : ¬ sn_bt a2 key y = 0 := by rw [← g]; exact g2
      have px := sn_bt_pos g2
      have py := sn_bt_pos gy
      obtain ⟨t, ht, e⟩ := sn_kbE key
      unfold sn_vl at hp
      refine ⟨?_, ?_, br_c (fun g3 => ?_) (fun g3 => ?_)⟩
      · rcases hx with rfl | ⟨k, hk, rfl, _⟩
        · exact absurd sn_m1lt px
        · rw [e]
          exact sn_in hk ht
      · rcases hy with rfl | ⟨k, hk, rfl, _⟩
        · exact absurd sn_m1lt py
        · rw [e]
          exact sn_in hk ht
      · rw [if_pos g3] at hp
        exact hp
      · rw [if_neg g3] at hp
        exact hp
  · rw [if_neg g] at hp
    exact hp
theorem sn_shared {post : Int32 → Prop} {M N : Nat} (hM : M < 8) (hN : N < 8) (tr : sn_tr a1 W) (hr : ∀ m, m < 8 → sn_ok W 0 (a5 m)) (hp : post (sn_sl a1 a2 key (a5 M) (a5 N))) :
    wpX_sharedLevel post (a1, a2, a3, a4, a5, a6, a7, a8) (nI M) (nI N) key := by
  refine ⟨pk_in M 8 hM, nm_r (by rw [nI_clamp (by omega)]) ⟨pk_in N 8 hN, nm_r (by rw [nI_clamp (by omega)]) ⟨4, ?_⟩⟩⟩
  have x0 := hr M hM
  have y0 := hr N hN
  have x3 := sn_ok3 key tr x0
  have y3 := sn_ok3 key tr y0
  unfold sn_sl at hp
  refine sn_sls (l := 0) (by omega) x0 y0 (fun e => ?_) (fun g0 => sn_sls (l := 1) (by omega) (sn_ok1 key tr x0) (sn_ok1 key tr y0) (fun e => ?_) (fun g1 => sn_sls (l := 2) (by omega) (sn_ok2 key tr x0) (sn_ok2 key tr y0) (fun e => ?_) (fun g2 => br_t (by decide) (br_c (fun e => ?_) (fun g3 => ?_)))))
  · rw [if_pos e] at hp
    exact hp
  · have e' : sn_n1 a1 key (a5 M) = sn_n1 a1 key (a5 N) := e
    rw [if_neg g0, if_pos e'] at hp
    exact hp
  · have g1' : ¬ sn_n1 a1 key (a5 M) = sn_n1 a1 key (a5 N) := g1
    have e' : sn_n2 a1 key (a5 M) = sn_n2 a1 key (a5 N) := e
    rw [if_neg g0, if_neg g1', if_pos e'] at hp
    exact hp
  · have g1' : ¬ sn_n1 a1 key (a5 M) = sn_n1 a1 key (a5 N) := g1
    have g2' : ¬ sn_n2 a1 key (a5 M) = sn_n2 a1 key (a5 N) := g2
    have e' : sn_n3 a1 key (a5 M) = sn_n3 a1 key (a5 N) := e
    rw [if_neg g0, if_neg g1', if_neg g2', if_pos e'] at hp
    exact hp
  · have g1' : ¬ sn_n1 a1 key (a5 M) = sn_n1 a1 key (a5 N) := g1
    have g2' : ¬ sn_n2 a1 key (a5 M) = sn_n2 a1 key (a5 N) := g2
    have g3' : ¬ sn_n3 a1 key (a5 M) = sn_n3 a1 key (a5 N) := g3
    rw [if_neg g0, if_neg g1', if_neg g2', if_neg g3'] at hp
    exact sn_bit (post := fun z => wX_sharedLevel_130 post key (sn_n3 a1 key (a5 M)) (sn_n3 a1 key (a5 N)) z a1 a2 a3 a4 a5 a6 a7 a8) x3
      (sn_bit (post := fun z => wX_sharedLevel_158 post key (sn_n3 a1 key (a5 M)) (sn_n3 a1 key (a5 N)) (sn_bt a2 key (sn_n3 a1 key (a5 M))) z a1 a2 a3 a4 a5 a6 a7 a8) y3 (sn_s158 x3 y3 hp))
theorem sn_ncl {post : Int32 → Prop} {M N : Nat} (hM : M < 8) (hN : N < 8) (tr : sn_tr a1 W) (hr : ∀ m, m < 8 → sn_ok W 0 (a5 m)) : ∀ (c i : Nat) (key : Int32), i + c = 256 → post (sn_nc a1 a2 (a5 M) (a5 N) c key) →
    wX_nextChange_32 post (sn_mp M) (sn_mp N) a1 a2 a3 a4 a5 a6 a7 a8 (c + 1) key (nI i)
  | 0, i, key, hi, hp => pk_le 256 i (fun _ => hp) (fun z => absurd z (by omega))
  | c + 1, i, key, hi, hp => by
    unfold sn_nc at hp
    refine pk_le 256 i (fun z => absurd z (by omega)) (fun _ => br_c (fun g => ?_) (fun g => ?_))
    · rw [if_pos g] at hp
      exact hp
    · rw [if_neg g] at hp
      rw [(sn_mp1 M (by omega)).1, (sn_mp1 N (by omega)).1]
      refine sn_shared hM hN tr hr (br_c (fun g2 => ?_) (fun g2 => ?_))
      · rw [if_pos g2] at hp
        exact nm_e (nm_r (nI_1 i) (sn_ncl hM hN tr hr c (i + 1) _ (by omega) hp))
      · rw [if_neg g2] at hp
        exact hp
theorem sn_nextChange {post : Int32 → Prop} {M N : Nat} {fr : Int32} (hM : M < 9) (hN : N < 9) (tr : sn_tr a1 W) (hr : ∀ m, m < 8 → sn_ok W 0 (a5 m)) (h1 : sn_im a4 M ∧ sn_im a4 N → post (sn_nf a1 a2 (a5 M) (a5 N) fr)) (h0 : ¬ (sn_im a4 M ∧ sn_im a4 N) → post (-1)) :
    wpX_nextChange post (a1, a2, a3, a4, a5, a6, a7, a8) (sn_mp M) (sn_mp N) fr := by
  unfold wpX_nextChange
  refine sn_isMap hM (fun z => br_f sn_10 (sn_isMap hN (fun y => br_f sn_10 ?_) (fun y => br_t rfl (h0 (fun t => y t.2))))) (fun z => br_t rfl (h0 (fun t => z t.1)))
  have hp := h1 ⟨z, y⟩
  unfold sn_nf at hp
  refine br_c (fun g => ?_) (fun g => ?_)
  · rw [if_pos g] at hp
    exact ⟨257, sn_ncl z.1 y.1 tr hr 256 0 fr (by omega) hp⟩
  · rw [if_neg g] at hp
    exact ⟨257, sn_ncl z.1 y.1 tr hr 256 0 0 (by omega) hp⟩
theorem sn_cgl {post : Int32 → Prop} {M N : Nat} (hM : M < 9) (hN : N < 9) (tr : sn_tr a1 W) (hr : ∀ m, m < 8 → sn_ok W 0 (a5 m)) (z : sn_im a4 M ∧ sn_im a4 N) : ∀ (c i : Nat) (k key : Int32), i + c = 256 → post (sn_cg a1 a2 (a5 M) (a5 N) c k key) →
    wX_changes_32 post (sn_mp M) (sn_mp N) a1 a2 a3 a4 a5 a6 a7 a8 (c + 1) k key (nI i)
  | 0, i, k, key, hi, hp => pk_le 256 i (fun _ => hp) (fun z => absurd z (by omega))
  | c + 1, i, k, key, hi, hp => by
    unfold sn_cg at hp
    refine pk_le 256 i (fun z => absurd z (by omega)) (fun _ => br_c (fun g => ?_) (fun g => nm_e ?_))
    · rw [if_pos g] at hp
      exact hp
    · rw [if_neg g] at hp
      exact sn_nextChange hM hN tr hr (fun _ => nm_r (nI_1 i) (sn_cgl hM hN tr hr z c (i + 1) _ _ (by omega) hp)) (fun y => absurd z y)
theorem sn_changes {post : Int32 → Prop} {M N : Nat} (hM : M < 9) (hN : N < 9) (tr : sn_tr a1 W) (hr : ∀ m, m < 8 → sn_ok W 0 (a5 m)) (h1 : sn_im a4 M ∧ sn_im a4 N → post (sn_ch a1 a2 (a5 M) (a5 N))) (h0 : ¬ (sn_im a4 M ∧ sn_im a4 N) → post (-1)) :
    wpX_changes post (a1, a2, a3, a4, a5, a6, a7, a8) (sn_mp M) (sn_mp N) := by
  unfold wpX_changes
  refine sn_isMap hM (fun z => br_f sn_10 (sn_isMap hN (fun y => br_f sn_10 ?_) (fun y => br_t rfl (h0 (fun t => y t.2))))) (fun z => br_t rfl (h0 (fun t => z t.1)))
  exact sn_nextChange hM hN tr hr (fun q => ⟨257, sn_cgl hM hN tr hr q 256 0 (nI 0) _ (by omega) (h1 q)⟩) (fun q => absurd ⟨z, y⟩ q)
theorem sn_compared {post : Int32 → Prop} {M N : Nat} (hM : M < 9) (hN : N < 9) (tr : sn_tr a1 W) (hr : ∀ m, m < 8 → sn_ok W 0 (a5 m)) (hp : post 1) :
    wpL_compared post (a1, a2, a3, a4, a5, a6, a7, a8) (sn_mp M) (sn_mp N) := by
  unfold wpL_compared
  by_cases h : sn_im a4 M ∧ sn_im a4 N
  · have h' : sn_im a4 N ∧ sn_im a4 M := ⟨h.2, h.1⟩
    refine sn_changes hM hN tr hr (fun _ => ?_) (fun z => absurd h z)
    refine sn_changes hN hM tr hr (fun _ => br_t (sn_ch_sym a1 a2 _ _) ?_) (fun z => absurd h' z)
    refine sn_nextChange hM hN tr hr (fun _ => ?_) (fun z => absurd h z)
    refine sn_nextChange hN hM tr hr (fun _ => br_t (sn_nf_sym a1 a2 _ _ _) (br_f (sn_ch_m1 a1 a2 _ _) ?_)) (fun z => absurd h' z)
    refine br_c (fun g => ?_) (fun g => ?_)
    · exact sn_nextChange hM hN tr hr (fun _ => br_t ((sn_ch_0 a1 a2 _ _).mp g) (br_t rfl hp)) (fun z => absurd h z)
    · exact sn_nextChange hM hN tr hr (fun _ => br_f (fun z => g ((sn_ch_0 a1 a2 _ _).mpr z)) (br_t rfl hp)) (fun z => absurd h z)
  · have h' : ¬ (sn_im a4 N ∧ sn_im a4 M) := fun z => h ⟨z.2, z.1⟩
    refine sn_changes hM hN tr hr (fun z => absurd z h) (fun _ => ?_)
    refine sn_changes hN hM tr hr (fun z => absurd z h') (fun _ => br_t rfl ?_)
    refine sn_nextChange hM hN tr hr (fun z => absurd z h) (fun _ => ?_)
    refine sn_nextChange hN hM tr hr (fun z => absurd z h') (fun _ => br_t rfl (br_t rfl ?_))
    exact sn_nextChange hM hN tr hr (fun z => absurd z h) (fun _ => br_t rfl hp)
end
end
section
/-! ===== the picture of the nodes: users, levels, slots ===== -/
def sn_st (f : Nat → Nat) (k v : Nat) : Nat → Nat := fun j => if j = k then v else f j
theorem sn_ss {f : Nat → Nat} {k v : Nat} : sn_st f k v k = v := if_pos rfl
theorem sn_sn {f : Nat → Nat} {k v j : Nat} (h : j ≠ k) : sn_st f k v j = f j := if_neg h
/-- 1 if y is the node x -/
def sn_e (y : Int32) (x : Nat) : Nat := if y = nI x then 1 else 0
theorem sn_e_m1 {x : Nat} (h : x < 400) : sn_e (-1) x = 0 := if_neg (fun e => sn_m1n h e.symm)
theorem sn_e_s (x : Nat) : sn_e (nI x) x = 1 := if_pos rfl
theorem sn_e_n {a x : Nat} (ha : a < 400) (hx : x < 400) (h : x ≠ a) : sn_e (nI a) x = 0 := if_neg (fun e => h (sn_inj ha hx e).symm)
theorem sn_e_le (y : Int32) (x : Nat) : sn_e y x ≤ 1 := by
  unfold sn_e
  split <;> omega
def sn_inc (us : Nat → Nat) (y : Int32) : Nat → Nat := fun x => us x + sn_e y x
def sn_dec (us : Nat → Nat) (y : Int32) : Nat → Nat := fun x => us x - sn_e y x
/-- a slot's value: none, or a node of the level that the slot asks for -/
def sn_at (lv : Nat → Nat) (i : Nat) (y : Int32) : Prop :=
  y = -1 ∨ ∃ n : Nat, n < 400 ∧ y = nI n ∧ (i < 1600 → lv n = lv (i / 4) + 1) ∧ (1600 ≤ i → i < 1608 → lv n = 0) ∧ (1608 ≤ i → i ≤ 1608 + 3 * lv n)
def sn_G (K U : Nat) (us lv : Nat → Nat) (rf : Nat → Int32) : Prop :=
  (∀ n, n < 400 → sn_ct rf (nI n) 1624 ≤ us n) ∧ (∀ i, i < 1624 → sn_at lv i (rf i)) ∧ (∀ n, n < 400 → lv n ≤ 3) ∧ (∀ n, n < 400 → us n ≤ U) ∧ (∀ n, K ≤ n → n < 400 → us n = 0)
def sn_g3 (us lv : Nat → Nat) (rf : Nat → Int32) : Prop := ∀ n w, n < 400 → w < 4 → (us n = 0 ∨ 3 ≤ lv n) → rf (4 * n + w) = -1
def sn_T1 (us : Nat → Nat) (a3 : Nat → Int32) : Prop := ∀ n, n < 400 → a3 n = nI (us n)
def sn_T2 (us lv : Nat → Nat) (rf a1 : Nat → Int32) (j : Nat) : Prop := ∀ n w, n < 400 → w < 4 → 0 < us n → lv n < 3 → 4 * n + w ≠ j → a1 (4 * n + w) = rf (4 * n + w)
def sn_T3 (us lv : Nat → Nat) (a2 : Nat → Int32) : Prop := ∀ n, n < 400 → 0 < us n → (a2 n &&& 256 = 0 ↔ lv n < 3)
def sn_R (rf a5 : Nat → Int32) (j : Nat) : Prop := ∀ m, m < 8 → 1600 + m ≠ j → a5 m = rf (1600 + m)
def sn_S (rf : Nat → Int32) : Prop := ∀ d, d < 16 → rf (1608 + d) = -1
/-- the picture of a state between two calls -/
def sn_I (K U : Nat) (a1 a2 a3 a5 : Nat → Int32) : Prop := ∃ (us lv : Nat → Nat) (rf : Nat → Int32), sn_G K U us lv rf ∧ sn_g3 us lv rf ∧ sn_S rf ∧ sn_T1 us a3 ∧ sn_T2 us lv rf a1 1624 ∧ sn_T3 us lv a2 ∧ sn_R rf a5 1624
theorem sn_G_mono {K U K' U' : Nat} {us lv : Nat → Nat} {rf : Nat → Int32} (h : sn_G K U us lv rf) (hK : K ≤ K') (hU : U ≤ U') : sn_G K' U' us lv rf :=
  ⟨h.1, h.2.1, h.2.2.1, fun n hn => Nat.le_trans (h.2.2.2.1 n hn) hU, fun n h1 h2 => h.2.2.2.2 n (by omega) h2⟩
theorem sn_I_mono {K U K' U' : Nat} {a1 a2 a3 a5 : Nat → Int32} (h : sn_I K U a1 a2 a3 a5) (hK : K ≤ K') (hU : U ≤ U') : sn_I K' U' a1 a2 a3 a5 := by
  obtain ⟨us, lv, rf, g, r⟩ := h
  exact ⟨us, lv, rf, sn_G_mono g hK hU, r⟩
/-- a node that a slot leads to is in use -/
theorem sn_G_ref {K U : Nat} {us lv : Nat → Nat} {rf : Nat → Int32} (h : sn_G K U us lv rf) {i n : Nat} (hi : i < 1624) (hn : n < 400) (e : rf i = nI n) : 0 < us n := by
  have h1 := sn_ct_pos hi e
  have h2 := h.1 n hn
  omega
theorem sn_G_free {K U : Nat} {us lv : Nat → Nat} {rf : Nat → Int32} (h : sn_G K U us lv rf) {n : Nat} (hn : n < 400) (e : us n = 0) : ∀ i, i < 1624 → rf i ≠ nI n := by
  intro i hi g
  have := sn_G_ref h hi hn g
  omega
/-- two slots lead to one node: two users -/
theorem sn_G_two {K U : Nat} {us lv : Nat → Nat} {rf : Nat → Int32} (h : sn_G K U us lv rf) {i j n : Nat} (hi : i < 1624) (hj : j < 1624) (hn : n < 400) (ne : i ≠ j) (ei : rf i = nI n) (ej : rf j = nI n) : 2 ≤ us n := by
  have h1 := sn_ct_two hi hj ne ei ej
  have h2 := h.1 n hn
  omega
theorem sn_ct_e {f : Nat → Int32} {y : Int32} {j N x : Nat} (h : j < N) : sn_ct (upd f j y) (nI x) N + sn_e (f j) x = sn_ct f (nI x) N + sn_e y x := sn_ct_upd h
/-- one slot is written; the users follow -/
theorem sn_G_upc {K U K' U' : Nat} {us us' lv : Nat → Nat} {rf : Nat → Int32} {i : Nat} {y : Int32} (h : sn_G K U us lv rf) (hi : i < 1624) (hy : sn_at lv i y)
    (hu : ∀ x, x < 400 → sn_ct rf (nI x) 1624 + sn_e y x ≤ us' x + sn_e (rf i) x) (hU : ∀ x, x < 400 → us' x ≤ U') (hK : ∀ x, K' ≤ x → x < 400 → us' x = 0) : sn_G K' U' us' lv (upd rf i y) := by
  refine ⟨fun n hn => ?_, fun k hk => ?_, h.2.2.1, hU, hK⟩
  · have h1 := sn_ct_e (f := rf) (y := y) (x := n) hi
    have h2 := hu n hn
    omega
  · by_cases e : k = i
    · rw [e, pk_us]
      exact hy
    · rw [pk_un e]
      exact h.2.1 k hk
theorem sn_G_upd {K U K' U' : Nat} {us us' lv : Nat → Nat} {rf : Nat → Int32} {i : Nat} {y : Int32} (h : sn_G K U us lv rf) (hi : i < 1624) (hy : sn_at lv i y)
    (hu : ∀ x, x < 400 → us x + sn_e y x ≤ us' x + sn_e (rf i) x) (hU : ∀ x, x < 400 → us' x ≤ U') (hK : ∀ x, K' ≤ x → x < 400 → us' x = 0) : sn_G K' U' us' lv (upd rf i y) := by
  refine sn_G_upc h hi hy (fun x hx => ?_) hU hK
  have h2 := hu x hx
  have h3 := h.1 x hx
  omega
/-- a free node is taken -/
theorem sn_G_new {K U K' U' n l : Nat} {us lv : Nat → Nat} {rf : Nat → Int32} (h : sn_G K U us lv rf) (g3 : sn_g3 us lv rf) (hn : n < 400) (h0 : us n = 0) (hl : l ≤ 3) (hK : K ≤ K') (hnK : n < K') (hU : U < U') :
    sn_G K' U' (sn_st us n 1) (sn_st lv n l) rf := by
  have fr := sn_G_free h hn h0
  refine ⟨fun x hx => ?_, fun i hi => ?_, fun x hx => ?_, fun x hx => ?_, fun x h1 h2 => ?_⟩
  · by_cases e : x = n
    · subst e
      have := h.1 x hx
      rw [sn_ss]
      omega
    · rw [sn_sn e]
      exact h.1 x hx
  · rcases h.2.1 i hi with e | ⟨c, hc, e, z1, z2, z3⟩
    · exact Or.inl e
    · have hcn : c ≠ n := fun t => fr i hi (t ▸ e)
      refine Or.inr ⟨c, hc, e, fun t => ?_, fun t t2 => ?_, fun t => ?_⟩
      · have hin : i / 4 ≠ n := by
          intro t2
          have h4 := g3 n (i % 4) hn (by omega) (Or.inl h0)
          rw [show 4 * n + i % 4 = i by omega, e] at h4
          exact sn_m1n hc h4
        rw [sn_sn hcn, sn_sn hin]
        exact z1 t
      · rw [sn_sn hcn]
        exact z2 t t2
      · rw [sn_sn hcn]
        exact z3 t
  · by_cases e : x = n
    · rw [e, sn_ss]
      exact hl
    · rw [sn_sn e]
      exact h.2.2.1 x hx
  · by_cases e : x = n
    · rw [e, sn_ss]
      omega
    · rw [sn_sn e]
      have := h.2.2.2.1 x hx
      omega
  · rw [sn_sn (by omega)]
    exact h.2.2.2.2 x (by omega) h2
theorem sn_g3_new {n l : Nat} {us lv : Nat → Nat} {rf : Nat → Int32} (g3 : sn_g3 us lv rf) (h0 : us n = 0) : sn_g3 (sn_st us n 1) (sn_st lv n l) rf := by
  intro x w hx hw hc
  by_cases e : x = n
  · subst e
    exact g3 x w hx hw (Or.inl h0)
  · rw [sn_sn e, sn_sn e] at hc
    exact g3 x w hx hw hc
theorem sn_T1_st {n v : Nat} {us : Nat → Nat} {a3 : Nat → Int32} (h : sn_T1 us a3) : sn_T1 (sn_st us n v) (upd a3 n (nI v)) := by
  intro x hx
  by_cases e : x = n
  · rw [e, sn_ss, pk_us]
  · rw [sn_sn e, pk_un e]
    exact h x hx
theorem sn_T1_inc {c : Nat} {us : Nat → Nat} {a3 : Nat → Int32} (hc : c < 400) (h : sn_T1 us a3) : sn_T1 (sn_inc us (nI c)) (upd a3 c (a3 c + 1)) := by
  intro x hx
  unfold sn_inc
  by_cases e : x = c
  · rw [e, sn_e_s, pk_us, h c hc, nI_1]
  · rw [sn_e_n hc hx e, pk_un e]
    exact h x hx
theorem sn_T1_dec {c : Nat} {us : Nat → Nat} {a3 : Nat → Int32} (hc : c < 400) (h1 : 1 ≤ us c) (h : sn_T1 us a3) : sn_T1 (sn_dec us (nI c)) (upd a3 c (a3 c - 1)) := by
  intro x hx
  unfold sn_dec
  by_cases e : x = c
  · rw [e, sn_e_s, pk_us, h c hc]
    obtain ⟨k, hk⟩ : ∃ k, us c = k + 1 := ⟨us c - 1, by omega⟩
    rw [hk]
    exact nI_pred k
  · rw [sn_e_n hc hx e, pk_un e]
    exact h x hx
theorem sn_T1_m1 {us : Nat → Nat} {a3 : Nat → Int32} (h : sn_T1 us a3) : sn_T1 (sn_dec us (-1)) a3 := by
  intro x hx
  unfold sn_dec
  rw [sn_e_m1 hx]
  exact h x hx
/-- the questions' own picture -/
theorem sn_I_wf {K U : Nat} {a1 a2 a3 a5 : Nat → Int32} (h : sn_I K U a1 a2 a3 a5) : ∃ W : Nat → Nat → Prop, sn_tr a1 W ∧ ∀ m, m < 8 → sn_ok W 0 (a5 m) := by
  obtain ⟨us, lv, rf, G, g3, S, T1, T2, T3, R⟩ := h
  refine ⟨fun l n => 0 < us n ∧ lv n = l, fun l n w hW hl hn hw => ?_, fun m hm => ?_⟩
  · rw [T2 n w hn hw hW.1 (by omega) (by omega)]
    rcases G.2.1 (4 * n + w) (by omega) with e | ⟨c, hc, e, z, _, _⟩
    · exact Or.inl e
    · have z := z (by omega)
      rw [show (4 * n + w) / 4 = n by omega] at z
      exact Or.inr ⟨c, hc, e, sn_G_ref G (by omega) hc e, by omega⟩
  · rw [R m hm (by omega)]
    rcases G.2.1 (1600 + m) (by omega) with e | ⟨c, hc, e, _, z, _⟩
    · exact Or.inl e
    · exact Or.inr ⟨c, hc, e, sn_G_ref G (by omega) hc e, z (by omega) (by omega)⟩
/-! ===== ownNode: the loop that copies the ways ===== -/
def sn_L (K U l n : Nat) (us lv : Nat → Nat) (rf a1 : Nat → Int32) (w : Nat) (b1 b3 : Nat → Int32) : Prop := ∃ (us1 : Nat → Nat) (rf1 : Nat → Int32),
  sn_G K (U + w) us1 (sn_st lv n l) rf1 ∧ sn_g3 us1 (sn_st lv n l) rf1 ∧ sn_T1 us1 b3 ∧ us1 n = 1 ∧ (∀ i, i < 1624 → rf1 i ≠ nI n) ∧
  (∀ i, i < 1624 → ¬ (4 * n ≤ i ∧ i < 4 * n + 4) → rf1 i = rf i) ∧ (∀ i, i < 1600 → ¬ (4 * n ≤ i ∧ i < 4 * n + 4) → b1 i = a1 i) ∧
  (l < 3 → ∀ v, v < w → b1 (4 * n + v) = rf1 (4 * n + v)) ∧ (∀ v, w ≤ v → v < 4 → rf1 (4 * n + v) = -1) ∧
  (∀ x, x < 400 → x ≠ n → us x ≤ us1 x ∧ (us x = 0 → us1 x = 0) ∧ (lv x ≤ l → us1 x = us x))
theorem sn_L_0 {K U K' U' n l : Nat} {us lv : Nat → Nat} {rf a1 a3 : Nat → Int32} (G : sn_G K U us lv rf) (g3 : sn_g3 us lv rf) (T1 : sn_T1 us a3) (hn : n < 400) (h0 : us n = 0) (hl : l ≤ 3) (hK : K ≤ K') (hnK : n < K') (hU : U < U') :
    sn_L K' U' l n us lv rf a1 0 a1 (upd a3 n 1) :=
  ⟨sn_st us n 1, rf, sn_G_new G g3 hn h0 hl hK hnK hU, sn_g3_new g3 h0, sn_T1_st T1, sn_ss, sn_G_free G hn h0, fun _ _ _ => rfl, fun _ _ _ => rfl, fun _ v hv => absurd hv (by omega), fun v _ hv => g3 n v hn hv (Or.inl h0),
    fun x _ hx => ⟨Nat.le_of_eq (sn_sn hx).symm, fun e => (sn_sn hx).trans e, fun _ => sn_sn hx⟩⟩
theorem sn_L_skip {K U n l w : Nat} {us lv : Nat → Nat} {rf a1 b1 b3 : Nat → Int32} {v : Int32} (L : sn_L K U l n us lv rf a1 w b1 b3) (hw : w < 4) (hv : l < 3 → v = -1) : sn_L K U l n us lv rf a1 (w + 1) (upd b1 (4 * n + w) v) b3 := by
  obtain ⟨us1, rf1, G, g3, T1, h1, h2, h3, h4, h5, h6, h7⟩ := L
  refine ⟨us1, rf1, sn_G_mono G (Nat.le_refl _) (by omega), g3, T1, h1, h2, h3, fun i hi hc => ?_, fun hl u hu => ?_, fun u hu hu2 => h6 u (by omega) hu2, h7⟩
  · rw [pk_un (by omega)]
    exact h4 i hi hc
  · by_cases e : u = w
    · rw [e, pk_us, hv hl, h6 w (Nat.le_refl _) hw]
    · rw [pk_un (by omega)]
      exact h5 hl u (by omega)
theorem sn_L_add {K U n l w c : Nat} {us lv : Nat → Nat} {rf a1 b1 b3 : Nat → Int32} (L : sn_L K U l n us lv rf a1 w b1 b3) (hw : w < 4) (hn : n < 400) (hc : c < 400) (hcn : c ≠ n) (hl : l < 3) (hlc : lv c = l + 1) (huc : 0 < us c) (hcK : c < K) :
    sn_L K U l n us lv rf a1 (w + 1) (upd b1 (4 * n + w) (nI c)) (upd b3 c (b3 c + 1)) := by
  obtain ⟨us1, rf1, G, g3, T1, h1, h2, h3, h4, h5, h6, h7⟩ := L
  have en : sn_e (nI c) n = 0 := sn_e_n hc hn (fun t => hcn t.symm)
  refine ⟨sn_inc us1 (nI c), upd rf1 (4 * n + w) (nI c), ?_, ?_, sn_T1_inc hc T1, ?_, fun i hi => ?_, fun i hi hq => ?_, fun i hi hq => ?_, fun _ u hu => ?_, fun u hu hu2 => ?_, fun x hx hxn => ?_⟩
  · refine sn_G_upd G (by omega) (Or.inr ⟨c, hc, rfl, fun _ => ?_, fun t => absurd t (by omega), fun t => absurd t (by omega)⟩) (fun x hx => ?_) (fun x hx => ?_) (fun x hx1 hx2 => ?_)
    · rw [show (4 * n + w) / 4 = n by omega, sn_ss, sn_sn hcn, hlc]
    · unfold sn_inc
      omega
    · unfold sn_inc
      have := G.2.2.2.1 x hx
      have := sn_e_le (nI c) x
      omega
    · unfold sn_inc
      rw [G.2.2.2.2 x hx1 hx2, sn_e_n hc hx2 (by omega)]
  · intro x u hx hu hq
    by_cases e : 4 * x + u = 4 * n + w
    · have ex : x = n := by omega
      rw [ex, sn_ss] at hq
      unfold sn_inc at hq
      omega
    · rw [pk_un e]
      refine g3 x u hx hu ?_
      rcases hq with q | q
      · unfold sn_inc at q
        exact Or.inl (by omega)
      · exact Or.inr q
  · unfold sn_inc
    rw [h1, en]
  · by_cases e : i = 4 * n + w
    · rw [e, pk_us]
      exact fun t => hcn (sn_inj hc hn t)
    · rw [pk_un e]
      exact h2 i hi
  · rw [pk_un (by omega)]
    exact h3 i hi hq
  · rw [pk_un (by omega)]
    exact h4 i hi hq
  · by_cases e : u = w
    · rw [e, pk_us, pk_us]
    · rw [pk_un (by omega), pk_un (by omega)]
      exact h5 hl u (by omega)
  · rw [pk_un (by omega)]
    exact h6 u (by omega) hu2
  · obtain ⟨p1, p2, p3⟩ := h7 x hx hxn
    unfold sn_inc
    by_cases e : x = c
    · subst e
      exact ⟨by omega, fun t => absurd t (by omega), fun t => absurd t (by omega)⟩
    · rw [sn_e_n hc hx e]
      exact ⟨by omega, p2, p3⟩
/-- the slot that leads to a node of level l -/
def sn_J (us lv : Nat → Nat) (l j : Nat) : Prop := (j = 1600 ∧ l = 0) ∨ ∃ q t : Nat, q < 400 ∧ t < 4 ∧ j = 4 * q + t ∧ 0 < us q ∧ lv q + 1 = l
/-- what ownNode leaves -/
def sn_N (K U l j n : Nat) (us lv : Nat → Nat) (rf a1 a2 : Nat → Int32) (us' lv' : Nat → Nat) (rf' b1 b2 b3 : Nat → Int32) : Prop :=
  n < 400 ∧ sn_G K U us' lv' rf' ∧ sn_g3 us' lv' rf' ∧ sn_T1 us' b3 ∧ sn_T2 us' lv' rf' b1 j ∧ sn_T3 us' lv' b2 ∧ us' n = 1 ∧ lv' n = l ∧ rf' j = nI n ∧
  (∀ i, i < 1624 → i ≠ j → ¬ (4 * n ≤ i ∧ i < 4 * n + 4) → rf' i = rf i) ∧
  (∀ x, x < 400 → 0 < us x → x ≠ n → b2 x = a2 x ∧ (∀ w, w < 4 → b1 (4 * x + w) = a1 (4 * x + w)) ∧ 0 < us' x ∧ lv' x = lv x ∧ (lv x < l → us' x = us x)) ∧
  (us n = 0 ∨ us n = 1 ∧ rf j = nI n ∧ lv n = l)
theorem sn_L_end {K U n l j : Nat} {us lv : Nat → Nat} {rf a1 a2 b1 b2 b3 b3' : Nat → Int32} {x1 : Int32} (L : sn_L K U l n us lv rf a1 4 b1 b3) (hn : n < 400) (h0 : us n = 0) (hl : l ≤ 3)
    (T2 : sn_T2 us lv rf a1 1624) (T3 : sn_T3 us lv a2) (hj : sn_J us lv l j) (hx : rf j = x1) (hx1 : x1 = -1 ∨ ∃ p, p < 400 ∧ x1 = nI p) (hx2 : ∀ p, p < 400 → x1 = nI p → 2 ≤ us p ∧ lv p = l)
    (hb : ∀ x, x < 400 → x ≠ n → b2 x = a2 x) (hbn : b2 n &&& 256 = 0 ↔ l < 3) (h3' : ∀ us1 : Nat → Nat, sn_T1 us1 b3 → (∀ p, p < 400 → x1 = nI p → 1 ≤ us1 p) → sn_T1 (sn_dec us1 x1) b3') :
    ∃ (us' lv' : Nat → Nat) (rf' : Nat → Int32), sn_N K (U + 4) l j n us lv rf a1 a2 us' lv' rf' b1 b2 b3' := by
  obtain ⟨us1, rf1, G, g3, T1, h1, h2, h3, h4, h5, h6, h7⟩ := L
  have hjn : ¬ (4 * n ≤ j ∧ j < 4 * n + 4) := by
    rcases hj with ⟨e, _⟩ | ⟨q, t, hq, ht, e, hu, _⟩
    · omega
    · intro z
      have : q = n := by omega
      rw [this] at hu
      omega
  have hj' : j < 1624 := by
    rcases hj with ⟨e, _⟩ | ⟨q, t, hq, ht, e, hu, _⟩ <;> omega
  have ej : rf1 j = x1 := (h3 j hj' hjn).trans hx
  have hne : ∀ p, p < 400 → x1 = nI p → p ≠ n := fun p hp e t => by
    have := (hx2 p hp e).1
    rw [t] at this
    omega
  have hen : sn_e x1 n = 0 := by
    rcases hx1 with e | ⟨p, hp, e⟩
    · rw [e]
      exact sn_e_m1 hn
    · rw [e]
      exact sn_e_n hp hn (fun t => hne p hp e t.symm)
  have hge : ∀ x, x < 400 → sn_e x1 x = 1 → 2 ≤ us1 x ∧ x ≠ n := by
    intro x hx' hq
    rcases hx1 with e | ⟨p, hp, e⟩
    · rw [e, sn_e_m1 hx'] at hq
      omega
    · by_cases z : x = p
      · have hz := hx2 p hp e
        have hz2 := hne p hp e
        have hz3 := (h7 p hp hz2).1
        rw [z]
        omega
      · rw [e, sn_e_n hp hx' z] at hq
        omega
  have hpos : ∀ x, x < 400 → 0 < us1 x → 0 < sn_dec us1 x1 x := by
    intro x hx' hq
    unfold sn_dec
    have := sn_e_le x1 x
    by_cases z : sn_e x1 x = 1
    · have := hge x hx' z
      omega
    · omega
  refine ⟨sn_dec us1 x1, sn_st lv n l, upd rf1 j (nI n), hn, ?_, ?_, ?_, ?_, ?_, ?_, sn_ss, pk_us, ?_, ?_, Or.inl h0⟩
  · refine sn_G_upc G hj' (Or.inr ⟨n, hn, rfl, fun t => ?_, fun t t2 => ?_, fun t => ?_⟩) (fun x hx' => ?_) (fun x hx' => ?_) (fun x k1 k2 => ?_)
    · rcases hj with ⟨e, _⟩ | ⟨q, t, hq, ht, e, hu, e2⟩
      · omega
      · have hqn : q ≠ n := fun z => by rw [z] at hu; omega
        rw [show j / 4 = q by omega, sn_ss, sn_sn hqn]
        omega
    · rcases hj with ⟨e, e2⟩ | ⟨q, t, hq, ht, e, hu, e2⟩
      · rw [sn_ss, e2]
      · omega
    · rcases hj with ⟨e, e2⟩ | ⟨q, t, hq, ht, e, hu, e2⟩ <;> omega
    · rw [ej]
      unfold sn_dec
      by_cases z : x = n
      · rw [z, sn_e_s, hen, h1]
        have hc : sn_ct rf1 (nI n) 1624 = 0 := sn_ct_none h2
        omega
      · rw [sn_e_n hn hx' z]
        have := G.1 x hx'
        omega
    · unfold sn_dec
      have := G.2.2.2.1 x hx'
      omega
    · unfold sn_dec
      rw [G.2.2.2.2 x k1 k2]
      omega
  · intro x u hx' hu hq
    by_cases e : 4 * x + u = j
    · exfalso
      rcases hj with ⟨e1, _⟩ | ⟨q, t, hq1, ht, e1, hu1, e2⟩
      · omega
      · have ex : x = q := by omega
        have hqn : q ≠ n := fun z => by rw [z] at hu1; omega
        rw [ex, sn_sn hqn] at hq
        have h8 := (h7 q hq1 hqn).1
        have h9 := hpos q hq1 (by omega)
        omega
    · rw [pk_un e]
      refine g3 x u hx' hu ?_
      rcases hq with q | q
      · refine Or.inl ?_
        rcases Nat.eq_zero_or_pos (us1 x) with z | z
        · exact z
        · have := hpos x hx' z
          omega
      · exact Or.inr q
  · exact h3' us1 T1 (fun p hp e => by
      have := hge p hp (by rw [e]; exact sn_e_s p)
      omega)
  · intro x u hx' hu hq1 hq2 hq3
    rw [pk_un hq3]
    by_cases e : x = n
    · subst e
      rw [sn_ss] at hq2
      exact h5 hq2 u hu
    · rw [sn_sn e] at hq2
      have hp : 0 < us x := by
        rcases Nat.eq_zero_or_pos (us x) with z | z
        · have := (h7 x hx' e).2.1 z
          unfold sn_dec at hq1
          omega
        · exact z
      rw [h4 (4 * x + u) (by omega) (by omega), h3 (4 * x + u) (by omega) (by omega)]
      exact T2 x u hx' hu hp hq2 (by omega)
  · intro x hx' hq1
    by_cases e : x = n
    · subst e
      rw [sn_ss]
      exact hbn
    · have hp : 0 < us x := by
        rcases Nat.eq_zero_or_pos (us x) with z | z
        · have := (h7 x hx' e).2.1 z
          unfold sn_dec at hq1
          omega
        · exact z
      rw [sn_sn e, hb x hx' e]
      exact T3 x hx' hp
  · unfold sn_dec
    rw [h1, hen]
  · intro i hi hij hq
    rw [pk_un hij]
    exact h3 i hi hq
  · intro x hx' hu hxn
    obtain ⟨p1, p2, p3⟩ := h7 x hx' hxn
    refine ⟨hb x hx' hxn, fun w hw => h4 (4 * x + w) (by omega) (by omega), hpos x hx' (by omega), sn_sn hxn, fun hlt => ?_⟩
    have p3 := p3 (by omega)
    have he : sn_e x1 x = 0 := by
      rcases hx1 with e | ⟨p, hp, e⟩
      · rw [e]
        exact sn_e_m1 hx'
      · rw [e]
        refine sn_e_n hp hx' (fun t => ?_)
        have := (hx2 p hp e).2
        rw [t] at hlt
        omega
    unfold sn_dec
    omega
end
section
/-! ===== freeNode, ownNode (printed by gen05.py: ownNode stands twice) ===== -/
theorem sn_b256 (y : Int32) : ¬ (y ||| 256) &&& 256 = 0 := by
  intro h
  have t := congrArg (fun z : Int32 => z.toBitVec.getLsbD 8) h
  simp only [Int32.toBitVec_and, Int32.toBitVec_or, BitVec.getLsbD_and, BitVec.getLsbD_or] at t
  have e : (256 : Int32).toBitVec.getLsbD 8 = true := by decide
  have e0 : (0 : Int32).toBitVec.getLsbD 8 = false := by decide
  rw [e, e0] at t
  simp at t
section
variable {a1 a2 a3 a4 a5 a6 a7 a8 : Nat → Int32} {us lv : Nat → Nat} {rf : Nat → Int32}
theorem sn_freeNode {post : Int32 → Prop} {K U : Nat} (G : sn_G K U us lv rf) (T1 : sn_T1 us a3) (hK : K < 400) (hU : U < 1000000) (H : ∀ n, n ≤ K → us n = 0 → post (nI n)) :
    wpX_freeNode post (a1, a2, a3, a4, a5, a6, a7, a8) := by
  unfold wpX_freeNode
  refine pk_loop (σ := Unit) (fun f i _ => wX_freeNode_2 post a1 a2 a3 a4 a5 a6 a7 a8 f (nI i)) (fun _ _ => True) K 0 () (by omega) trivial (fun f _ _ => ?_) (fun f i _ hi _ hw => ?_)
  · refine pk_le 400 K (fun z => absurd z (by omega)) (fun _ => ⟨pk_in K 400 (by omega), ?_⟩)
    rw [nI_clamp (by omega), T1 K hK, G.2.2.2.2 K (Nat.le_refl K) hK]
    exact br_t rfl (H K (Nat.le_refl K) (G.2.2.2.2 K (Nat.le_refl K) hK))
  · refine pk_le 400 i (fun z => absurd z (by omega)) (fun _ => ⟨pk_in i 400 (by omega), ?_⟩)
    have hu := G.2.2.2.1 i (by omega)
    rw [nI_clamp (by omega), T1 i (by omega)]
    rcases Nat.eq_zero_or_pos (us i) with z | z
    · rw [z]
      exact br_t rfl (H i (by omega) z)
    · exact br_f (nI_ne0 z (by omega)) (nm_r (nI_1 i) (hw () trivial))
theorem sn_mark {post : St1 → Prop} {l n : Nat} (hn : n < 400) (hl : l ≤ 3) (H : ∀ v : Int32, (v &&& 256 = 0 ↔ l < 3) → post (a1, upd a2 n v, a3, a4, a5, a6, a7, a8)) :
    wpX_levelMark post (a1, a2, a3, a4, a5, a6, a7, a8) (nI n) (nI l) := by
  refine pk_eq l 3 (fun e => ⟨pk_in n 400 hn, pk_in n 400 hn, nm_r (by rw [nI_clamp (by omega)]) (H _ ⟨fun z => absurd z (sn_b256 _), fun z => absurd z (by omega)⟩)⟩) (fun e => ⟨pk_in n 400 hn, nm_r (by rw [nI_clamp (by omega)]) (H _ ⟨fun _ => by omega, fun _ => by decide⟩)⟩)
theorem sn_o140 {post : Int32 → St1 → Prop} {x1 z0 : Int32} {l n : Nat} (hn : n < 400) (hl : l ≤ 3)
    (H : ∀ (b2 b3 : Nat → Int32), (∀ x, x < 400 → x ≠ n → b2 x = a2 x) → (b2 n &&& 256 = 0 ↔ l < 3) → (x1 = -1 → b3 = a3) → (∀ p, p < 400 → x1 = nI p → b3 = upd a3 p (a3 p - 1)) → post (nI n) (a1, b2, b3, a4, a5, a6, a7, a8)) (hx1 : x1 = -1 ∨ ∃ p, p < 400 ∧ x1 = nI p) :
    wX_ownNode_140 post x1 (nI l) (nI n) z0 (nI n) a1 a2 a3 a4 a5 a6 a7 a8 := by
  refine ⟨pk_in n 400 hn, nm_r (by rw [nI_clamp (by omega)]) (sn_mark hn hl (fun v hv => ?_))⟩
  have hb : ∀ x, x < 400 → x ≠ n → upd (upd a2 n z0) n v x = a2 x := fun x _ hx => by rw [pk_un hx, pk_un hx]
  have hbn : upd (upd a2 n z0) n v n &&& 256 = 0 ↔ l < 3 := by rw [pk_us]; exact hv
  rcases hx1 with e | ⟨p, hp, e⟩
  · exact br_t (by rw [e]; exact sn_m1lt) (H _ _ hb hbn (fun _ => rfl) (fun p hp e2 => absurd (e2.symm.trans e) (sn_m1n hp)))
  · refine br_f (by rw [e]; exact sn_nneg hp) ⟨by rw [e]; exact vp_in_nI hp (by omega), by rw [e]; exact vp_in_nI hp (by omega), nm_e (H _ _ hb hbn (fun e2 => absurd (e.symm.trans e2) (sn_m1n hp)) (fun p' hp' e2 => ?_))⟩
    rw [e2, nI_clamp (by omega)]
theorem sn_o75 {post : Int32 → St1 → Prop} {J : Int32 → (Nat → Int32) → (Nat → Int32) → (Nat → Int32) → (Nat → Int32) → (Nat → Int32) → (Nat → Int32) → (Nat → Int32) → (Nat → Int32) → Prop} {x1 z0 : Int32} {l n w : Nat} (hn : n < 400) (hw : w < 4) (hl : l ≤ 3)
    (hz : l < 3 → z0 = -1 ∨ ∃ c, c < 400 ∧ z0 = nI c) (Hs : (l < 3 → z0 = -1) → J (nI (w + 1)) (upd a1 (4 * n + w) z0) a2 a3 a4 a5 a6 a7 a8) (Ha : l < 3 → ∀ c, c < 400 → z0 = nI c → J (nI (w + 1)) (upd a1 (4 * n + w) (nI c)) a2 (upd a3 c (a3 c + 1)) a4 a5 a6 a7 a8) :
    wX_ownNode_75 post J x1 (nI l) (nI n) (nI w) z0 (4 * nI n + nI w) a1 a2 a3 a4 a5 a6 a7 a8 := by
  unfold wX_ownNode_75
  rw [sn_cl hn hw]
  refine ⟨sn_in hn hw, nm_e (pk_le 3 l (fun z => nm_r (nI_1 w) (Hs (fun t => absurd t (by omega)))) (fun z => ⟨sn_in hn hw, ?_⟩))⟩
  rw [pk_us]
  rcases hz z with e | ⟨c, hc, e⟩
  · exact br_t (by rw [e]; exact sn_m1lt) (nm_r (nI_1 w) (Hs (fun _ => e)))
  · refine br_f (by rw [e]; exact sn_nneg hc) ⟨sn_in hn hw, by rw [e]; exact vp_in_nI hc (by omega), by rw [e]; exact vp_in_nI hc (by omega), ?_⟩
    have hh := Ha z c hc e
    rw [e, nI_clamp (show c < 2 ^ 31 by omega)]
    exact nm_e (nm_r (nI_1 w) hh)
theorem sn_ownNode {post : Int32 → St1 → Prop} {K U l j : Nat} {x1 : Int32} (hl : l ≤ 3) (hK : K < 400) (hU : U < 1000000) (G : sn_G K U us lv rf) (g3 : sn_g3 us lv rf) (T1 : sn_T1 us a3) (T2 : sn_T2 us lv rf a1 1624) (T3 : sn_T3 us lv a2)
    (hj : sn_J us lv l j) (hx : rf j = x1)
    (H : ∀ (n : Nat) (us' lv' : Nat → Nat) (rf' b1 b2 b3 : Nat → Int32), sn_N (K + 1) (U + 5) l j n us lv rf a1 a2 us' lv' rf' b1 b2 b3 → post (nI n) (b1, b2, b3, a4, a5, a6, a7, a8)) :
    wpX_ownNode post (a1, a2, a3, a4, a5, a6, a7, a8) x1 (nI l) := by
  have hj' : j < 1608 := by
    rcases hj with ⟨e, _⟩ | ⟨q, t, hq, ht, e, hu, _⟩ <;> omega
  have hx1 : x1 = -1 ∨ ∃ p, p < 400 ∧ x1 = nI p ∧ lv p = l ∧ 0 < us p := by
    rcases G.2.1 j (by omega) with e | ⟨p, hp, e, z1, z2, _⟩
    · exact Or.inl (hx.symm.trans e)
    · refine Or.inr ⟨p, hp, hx.symm.trans e, ?_, sn_G_ref G (by omega) hp e⟩
      rcases hj with ⟨e1, e2⟩ | ⟨q, t, hq, ht, e1, hu, e2⟩
      · have := z2 (by omega) (by omega)
        omega
      · have := z1 (by omega)
        rw [show j / 4 = q by omega] at this
        omega
  have hxw : x1 = -1 ∨ ∃ p, p < 400 ∧ x1 = nI p := by
    rcases hx1 with e | ⟨p, hp, e, _⟩
    · exact Or.inl e
    · exact Or.inr ⟨p, hp, e⟩
  have main : (∀ p, p < 400 → x1 = nI p → 2 ≤ us p) → wX_ownNode_16 post x1 (nI l) a1 a2 a3 a4 a5 a6 a7 a8 := by
    intro h2
    have hx2 : ∀ p, p < 400 → x1 = nI p → 2 ≤ us p ∧ lv p = l := by
      intro p hp e
      refine ⟨h2 p hp e, ?_⟩
      rcases hx1 with e' | ⟨p', hp', e', hl', _⟩
      · exact absurd (e.symm.trans e') (sn_m1n hp)
      · have : p = p' := sn_inj hp hp' (e.symm.trans e')
        rw [this]
        exact hl'
    refine sn_freeNode G T1 hK hU (fun n hnK hn0 => ⟨pk_in n 400 (by omega), ?_⟩)
    rw [nI_clamp (show n < 2 ^ 31 by omega)]
    refine nm_e ?_
    have hn : n < 400 := by omega
    have L0 : sn_L (K + 1) (U + 1) l n us lv rf a1 0 a1 (upd a3 n 1) := sn_L_0 G g3 T1 hn hn0 hl (by omega) (by omega) (by omega)
    refine pk_loop (σ := (Nat → Int32) × (Nat → Int32)) (fun f w s => wX_ownNode_31 post x1 (nI l) (nI n) f (nI w) s.1 a2 s.2 a4 a5 a6 a7 a8) (fun w s => sn_L (K + 1) (U + 1) l n us lv rf a1 w s.1 s.2) 4 0 (a1, upd a3 n 1) (by omega) L0 (fun f s L => ?_) (fun f w s hw L hh => ?_)
    · obtain ⟨b1, b3⟩ := s
      have fin : ∀ z0 : Int32, wX_ownNode_140 post x1 (nI l) (nI n) z0 (nI n) b1 a2 b3 a4 a5 a6 a7 a8 := by
        intro z0
        refine sn_o140 hn hl (fun b2 b3' hb hbn e0 e1 => ?_) hxw
        obtain ⟨us', lv', rf', hN⟩ := sn_L_end (b3' := b3') L hn hn0 hl T2 T3 hj hx hxw hx2 hb hbn (fun us1 t1 hp => by
          rcases hxw with e | ⟨p, hp', e⟩
          · rw [e0 e, e]
            exact sn_T1_m1 t1
          · rw [e1 p hp' e, e]
            exact sn_T1_dec hp' (hp p hp' e) t1)
        exact H n us' lv' rf' b1 b2 b3' hN
      refine br_t (by decide) ?_
      rcases hxw with e | ⟨p, hp, e⟩
      · exact br_f (by rw [e]; exact sn_nge sn_m1lt) (fin _)
      · exact br_t (by rw [e]; exact sn_ge (sn_nneg hp)) ⟨by rw [e]; exact vp_in_nI hp (by omega), fin _⟩
    · obtain ⟨b1, b3⟩ := s
      have hhs : ∀ v : Int32, (l < 3 → v = -1) → wX_ownNode_31 post x1 (nI l) (nI n) f (nI (w + 1)) (upd b1 (4 * n + w) v) a2 b3 a4 a5 a6 a7 a8 := fun v hv => hh (_, _) (sn_L_skip L hw hv)
      refine br_f (c := 4 ≤ nI w) (nI_ge (b := 4) hw (by decide)) ?_
      rcases hx1 with e | ⟨p, hp, e, hlp, hup⟩
      · refine br_f (by rw [e]; exact sn_nge sn_m1lt) (pk_le 3 l (fun z => ?_) (fun z => ?_))
        · exact sn_o75 hn hw hl (fun t => absurd t (by omega)) (hhs _) (fun t => absurd t (by omega))
        · exact sn_o75 hn hw hl (fun _ => Or.inl rfl) (hhs _) (fun _ c hc e2 => absurd e2.symm (sn_m1n hc))
      · have hpn : p ≠ n := fun t => by rw [t] at hup; omega
        subst e
        refine br_t (sn_ge (sn_nneg hp)) ⟨sn_in hp hw, ?_⟩
        have ev : b1 (4 * p + w) = a1 (4 * p + w) := by
          obtain ⟨us1, rf1, _, _, _, _, _, _, h4, _⟩ := L
          exact h4 _ (by omega) (by omega)
        show wX_ownNode_75 post (wX_ownNode_31 post (nI p) (nI l) (nI n) f) (nI p) (nI l) (nI n) (nI w) (b1 ((4 * nI p) + nI w).toNatClampNeg) ((4 * nI n) + nI w) b1 a2 b3 a4 a5 a6 a7 a8
        rw [sn_cl hp hw, ev]
        have tv : l < 3 → a1 (4 * p + w) = rf (4 * p + w) := fun hl3 => T2 p w hp hw hup (by omega) (by omega)
        refine sn_o75 hn hw hl (fun hl3 => ?_) (hhs _) (fun hl3 c hc e2 => ?_)
        · rw [tv hl3]
          rcases G.2.1 (4 * p + w) (by omega) with e3 | ⟨c, hc, e3, _⟩
          · exact Or.inl e3
          · exact Or.inr ⟨c, hc, e3⟩
        · rw [tv hl3] at e2
          have huc := sn_G_ref G (i := 4 * p + w) (by omega) hc e2
          have hlc : lv c = l + 1 := by
            rcases G.2.1 (4 * p + w) (by omega) with e3 | ⟨c', hc', e3, z, _⟩
            · exact absurd (e2.symm.trans e3) (sn_m1n hc)
            · have ec : c = c' := sn_inj hc hc' (e2.symm.trans e3)
              have z := z (by omega)
              rw [show (4 * p + w) / 4 = p by omega] at z
              rw [ec]
              omega
          have hcK : c < K + 1 := by
            rcases Nat.lt_or_ge c K with t | t
            · omega
            · have := G.2.2.2.2 c t hc
              omega
          exact hh (_, _) (sn_L_add L hw hn hc (fun t => by rw [t] at huc; omega) hl3 hlc huc hcK)
  rcases hx1 with e | ⟨p, hp, e, hlp, hup⟩
  · exact br_t (by rw [e]; exact sn_m1lt) (main (fun p hp e2 => absurd (e2.symm.trans e) (sn_m1n hp)))
  · refine br_f (by rw [e]; exact sn_nneg hp) ⟨by rw [e]; exact vp_in_nI hp (by omega), ?_⟩
    have hU1 := G.2.2.2.1 p hp
    have ea : a3 x1.toNatClampNeg = nI (us p) := by rw [e, nI_clamp (by omega), T1 p hp]
    rw [ea]
    refine pk_eq (us p) 1 (fun e1 => ?_) (fun e1 => main (fun p' hp' e2 => ?_))
    · have hN : sn_N (K + 1) (U + 5) l j p us lv rf a1 a2 us lv rf a1 a2 a3 :=
        ⟨hp, sn_G_mono G (by omega) (by omega), g3, T1, fun n w hn hw h1 h2 _ => T2 n w hn hw h1 h2 (by omega), T3, e1, hlp, hx.trans e, fun _ _ _ _ => rfl, fun x _ hu _ => ⟨rfl, fun _ _ => rfl, hu, rfl, fun _ => rfl⟩, Or.inr ⟨e1, hx.trans e, hlp⟩⟩
      have := H p us lv rf a1 a2 a3 hN
      rw [← e] at this
      exact this
    · have : p' = p := sn_inj hp' hp (e2.symm.trans e)
      rw [this]
      omega
theorem sn_mark_2 {post : St1 → Prop} {l n : Nat} (hn : n < 400) (hl : l ≤ 3) (H : ∀ v : Int32, (v &&& 256 = 0 ↔ l < 3) → post (a1, upd a2 n v, a3, a4, a5, a6, a7, a8)) :
    wpX_levelMark_2 post (a1, a2, a3, a4, a5, a6, a7, a8) (nI n) (nI l) := by
  refine pk_eq l 3 (fun e => ⟨pk_in n 400 hn, pk_in n 400 hn, nm_r (by rw [nI_clamp (by omega)]) (H _ ⟨fun z => absurd z (sn_b256 _), fun z => absurd z (by omega)⟩)⟩) (fun e => ⟨pk_in n 400 hn, nm_r (by rw [nI_clamp (by omega)]) (H _ ⟨fun _ => by omega, fun _ => by decide⟩)⟩)
theorem sn_o140_2 {post : Int32 → St1 → Prop} {x1 z0 : Int32} {l n : Nat} (hn : n < 400) (hl : l ≤ 3)
    (H : ∀ (b2 b3 : Nat → Int32), (∀ x, x < 400 → x ≠ n → b2 x = a2 x) → (b2 n &&& 256 = 0 ↔ l < 3) → (x1 = -1 → b3 = a3) → (∀ p, p < 400 → x1 = nI p → b3 = upd a3 p (a3 p - 1)) → post (nI n) (a1, b2, b3, a4, a5, a6, a7, a8)) (hx1 : x1 = -1 ∨ ∃ p, p < 400 ∧ x1 = nI p) :
    wX_ownNode_2_140 post x1 (nI l) (nI n) z0 (nI n) a1 a2 a3 a4 a5 a6 a7 a8 := by
  refine ⟨pk_in n 400 hn, nm_r (by rw [nI_clamp (by omega)]) (sn_mark_2 hn hl (fun v hv => ?_))⟩
  have hb : ∀ x, x < 400 → x ≠ n → upd (upd a2 n z0) n v x = a2 x := fun x _ hx => by rw [pk_un hx, pk_un hx]
  have hbn : upd (upd a2 n z0) n v n &&& 256 = 0 ↔ l < 3 := by rw [pk_us]; exact hv
  rcases hx1 with e | ⟨p, hp, e⟩
  · exact br_t (by rw [e]; exact sn_m1lt) (H _ _ hb hbn (fun _ => rfl) (fun p hp e2 => absurd (e2.symm.trans e) (sn_m1n hp)))
  · refine br_f (by rw [e]; exact sn_nneg hp) ⟨by rw [e]; exact vp_in_nI hp (by omega), by rw [e]; exact vp_in_nI hp (by omega), nm_e (H _ _ hb hbn (fun e2 => absurd (e.symm.trans e2) (sn_m1n hp)) (fun p' hp' e2 => ?_))⟩
    rw [e2, nI_clamp (by omega)]
theorem sn_o75_2 {post : Int32 → St1 → Prop} {J : Int32 → (Nat → Int32) → (Nat → Int32) → (Nat → Int32) → (Nat → Int32) → (Nat → Int32) → (Nat → Int32) → (Nat → Int32) → (Nat → Int32) → Prop} {x1 z0 : Int32} {l n w : Nat} (hn : n < 400) (hw : w < 4) (hl : l ≤ 3)
    (hz : l < 3 → z0 = -1 ∨ ∃ c, c < 400 ∧ z0 = nI c) (Hs : (l < 3 → z0 = -1) → J (nI (w + 1)) (upd a1 (4 * n + w) z0) a2 a3 a4 a5 a6 a7 a8) (Ha : l < 3 → ∀ c, c < 400 → z0 = nI c → J (nI (w + 1)) (upd a1 (4 * n + w) (nI c)) a2 (upd a3 c (a3 c + 1)) a4 a5 a6 a7 a8) :
    wX_ownNode_2_75 post J x1 (nI l) (nI n) (nI w) z0 (4 * nI n + nI w) a1 a2 a3 a4 a5 a6 a7 a8 := by
  unfold wX_ownNode_2_75
  rw [sn_cl hn hw]
  refine ⟨sn_in hn hw, nm_e (pk_le 3 l (fun z => nm_r (nI_1 w) (Hs (fun t => absurd t (by omega)))) (fun z => ⟨sn_in hn hw, ?_⟩))⟩
  rw [pk_us]
  rcases hz z with e | ⟨c, hc, e⟩
  · exact br_t (by rw [e]; exact sn_m1lt) (nm_r (nI_1 w) (Hs (fun _ => e)))
  · refine br_f (by rw [e]; exact sn_nneg hc) ⟨sn_in hn hw, by rw [e]; exact vp_in_nI hc (by omega), by rw [e]; exact vp_in_nI hc (by omega), ?_⟩
    have hh := Ha z c hc e
    rw [e, nI_clamp (show c < 2 ^ 31 by omega)]
    exact nm_e (nm_r (nI_1 w) hh)
theorem sn_ownNode_2 {post : Int32 → St1 → Prop} {K U l j : Nat} {x1 : Int32} (hl : l ≤ 3) (hK : K < 400) (hU : U < 1000000) (G : sn_G K U us lv rf) (g3 : sn_g3 us lv rf) (T1 : sn_T1 us a3) (T2 : sn_T2 us lv rf a1 1624) (T3 : sn_T3 us lv a2)
    (hj : sn_J us lv l j) (hx : rf j = x1)
    (H : ∀ (n : Nat) (us' lv' : Nat → Nat) (rf' b1 b2 b3 : Nat → Int32), sn_N (K + 1) (U + 5) l j n us lv rf a1 a2 us' lv' rf' b1 b2 b3 → post (nI n) (b1, b2, b3, a4, a5, a6, a7, a8)) :
    wpX_ownNode_2 post (a1, a2, a3, a4, a5, a6, a7, a8) x1 (nI l) := by
  have hj' : j < 1608 := by
    rcases hj with ⟨e, _⟩ | ⟨q, t, hq, ht, e, hu, _⟩ <;> omega
  have hx1 : x1 = -1 ∨ ∃ p, p < 400 ∧ x1 = nI p ∧ lv p = l ∧ 0 < us p := by
    rcases G.2.1 j (by omega) with e | ⟨p, hp, e, z1, z2, _⟩
    · exact Or.inl (hx.symm.trans e)
    · refine Or.inr ⟨p, hp, hx.symm.trans e, ?_, sn_G_ref G (by omega) hp e⟩
      rcases hj with ⟨e1, e2⟩ | ⟨q, t, hq, ht, e1, hu, e2⟩
      · have := z2 (by omega) (by omega)
        omega
      · have := z1 (by omega)
        rw [show j / 4 = q by omega] at this
        omega
  have hxw : x1 = -1 ∨ ∃ p, p < 400 ∧ x1 = nI p := by
    rcases hx1 with e | ⟨p, hp, e, _⟩
    · exact Or.inl e
    · exact Or.inr ⟨p, hp, e⟩
  have main : (∀ p, p < 400 → x1 = nI p → 2 ≤ us p) → wX_ownNode_2_16 post x1 (nI l) a1 a2 a3 a4 a5 a6 a7 a8 := by
    intro h2
    have hx2 : ∀ p, p < 400 → x1 = nI p → 2 ≤ us p ∧ lv p = l := by
      intro p hp e
      refine ⟨h2 p hp e, ?_⟩
      rcases hx1 with e' | ⟨p', hp', e', hl', _⟩
      · exact absurd (e.symm.trans e') (sn_m1n hp)
      · have : p = p' := sn_inj hp hp' (e.symm.trans e')
        rw [this]
        exact hl'
    refine sn_freeNode G T1 hK hU (fun n hnK hn0 => ⟨pk_in n 400 (by omega), ?_⟩)
    rw [nI_clamp (show n < 2 ^ 31 by omega)]
    refine nm_e ?_
    have hn : n < 400 := by omega
    have L0 : sn_L (K + 1) (U + 1) l n us lv rf a1 0 a1 (upd a3 n 1) := sn_L_0 G g3 T1 hn hn0 hl (by omega) (by omega) (by omega)
    refine pk_loop (σ := (Nat → Int32) × (Nat → Int32)) (fun f w s => wX_ownNode_2_31 post x1 (nI l) (nI n) f (nI w) s.1 a2 s.2 a4 a5 a6 a7 a8) (fun w s => sn_L (K + 1) (U + 1) l n us lv rf a1 w s.1 s.2) 4 0 (a1, upd a3 n 1) (by omega) L0 (fun f s L => ?_) (fun f w s hw L hh => ?_)
    · obtain ⟨b1, b3⟩ := s
      have fin : ∀ z0 : Int32, wX_ownNode_2_140 post x1 (nI l) (nI n) z0 (nI n) b1 a2 b3 a4 a5 a6 a7 a8 := by
        intro z0
        refine sn_o140_2 hn hl (fun b2 b3' hb hbn e0 e1 => ?_) hxw
        obtain ⟨us', lv', rf', hN⟩ := sn_L_end (b3' := b3') L hn hn0 hl T2 T3 hj hx hxw hx2 hb hbn (fun us1 t1 hp => by
          rcases hxw with e | ⟨p, hp', e⟩
          · rw [e0 e, e]
            exact sn_T1_m1 t1
          · rw [e1 p hp' e, e]
            exact sn_T1_dec hp' (hp p hp' e) t1)
        exact H n us' lv' rf' b1 b2 b3' hN
      refine br_t (by decide) ?_
      rcases hxw with e | ⟨p, hp, e⟩
      · exact br_f (by rw [e]; exact sn_nge sn_m1lt) (fin _)
      · exact br_t (by rw [e]; exact sn_ge (sn_nneg hp)) ⟨by rw [e]; exact vp_in_nI hp (by omega), fin _⟩
    · obtain ⟨b1, b3⟩ := s
      have hhs : ∀ v : Int32, (l < 3 → v = -1) → wX_ownNode_2_31 post x1 (nI l) (nI n) f (nI (w + 1)) (upd b1 (4 * n + w) v) a2 b3 a4 a5 a6 a7 a8 := fun v hv => hh (_, _) (sn_L_skip L hw hv)
      refine br_f (c := 4 ≤ nI w) (nI_ge (b := 4) hw (by decide)) ?_
      rcases hx1 with e | ⟨p, hp, e, hlp, hup⟩
      · refine br_f (by rw [e]; exact sn_nge sn_m1lt) (pk_le 3 l (fun z => ?_) (fun z => ?_))
        · exact sn_o75_2 hn hw hl (fun t => absurd t (by omega)) (hhs _) (fun t => absurd t (by omega))
        · exact sn_o75_2 hn hw hl (fun _ => Or.inl rfl) (hhs _) (fun _ c hc e2 => absurd e2.symm (sn_m1n hc))
      · have hpn : p ≠ n := fun t => by rw [t] at hup; omega
        subst e
        refine br_t (sn_ge (sn_nneg hp)) ⟨sn_in hp hw, ?_⟩
        have ev : b1 (4 * p + w) = a1 (4 * p + w) := by
          obtain ⟨us1, rf1, _, _, _, _, _, _, h4, _⟩ := L
          exact h4 _ (by omega) (by omega)
        show wX_ownNode_2_75 post (wX_ownNode_2_31 post (nI p) (nI l) (nI n) f) (nI p) (nI l) (nI n) (nI w) (b1 ((4 * nI p) + nI w).toNatClampNeg) ((4 * nI n) + nI w) b1 a2 b3 a4 a5 a6 a7 a8
        rw [sn_cl hp hw, ev]
        have tv : l < 3 → a1 (4 * p + w) = rf (4 * p + w) := fun hl3 => T2 p w hp hw hup (by omega) (by omega)
        refine sn_o75_2 hn hw hl (fun hl3 => ?_) (hhs _) (fun hl3 c hc e2 => ?_)
        · rw [tv hl3]
          rcases G.2.1 (4 * p + w) (by omega) with e3 | ⟨c, hc, e3, _⟩
          · exact Or.inl e3
          · exact Or.inr ⟨c, hc, e3⟩
        · rw [tv hl3] at e2
          have huc := sn_G_ref G (i := 4 * p + w) (by omega) hc e2
          have hlc : lv c = l + 1 := by
            rcases G.2.1 (4 * p + w) (by omega) with e3 | ⟨c', hc', e3, z, _⟩
            · exact absurd (e2.symm.trans e3) (sn_m1n hc)
            · have ec : c = c' := sn_inj hc hc' (e2.symm.trans e3)
              have z := z (by omega)
              rw [show (4 * p + w) / 4 = p by omega] at z
              rw [ec]
              omega
          have hcK : c < K + 1 := by
            rcases Nat.lt_or_ge c K with t | t
            · omega
            · have := G.2.2.2.2 c t hc
              omega
          exact hh (_, _) (sn_L_add L hw hn hc (fun t => by rw [t] at huc; omega) hl3 hlc huc hcK)
  rcases hx1 with e | ⟨p, hp, e, hlp, hup⟩
  · exact br_t (by rw [e]; exact sn_m1lt) (main (fun p hp e2 => absurd (e2.symm.trans e) (sn_m1n hp)))
  · refine br_f (by rw [e]; exact sn_nneg hp) ⟨by rw [e]; exact vp_in_nI hp (by omega), ?_⟩
    have hU1 := G.2.2.2.1 p hp
    have ea : a3 x1.toNatClampNeg = nI (us p) := by rw [e, nI_clamp (by omega), T1 p hp]
    rw [ea]
    refine pk_eq (us p) 1 (fun e1 => ?_) (fun e1 => main (fun p' hp' e2 => ?_))
    · have hN : sn_N (K + 1) (U + 5) l j p us lv rf a1 a2 us lv rf a1 a2 a3 :=
        ⟨hp, sn_G_mono G (by omega) (by omega), g3, T1, fun n w hn hw h1 h2 _ => T2 n w hn hw h1 h2 (by omega), T3, e1, hlp, hx.trans e, fun _ _ _ _ => rfl, fun x _ hu _ => ⟨rfl, fun _ _ => rfl, hu, rfl, fun _ => rfl⟩, Or.inr ⟨e1, hx.trans e, hlp⟩⟩
      have := H p us lv rf a1 a2 a3 hN
      rw [← e] at this
      exact this
    · have : p' = p := sn_inj hp' hp (e2.symm.trans e)
      rw [this]
      omega
end
end
section
/-! ===== what the snapshots reach; ownPath ===== -/
def sn_rc (rf : Nat → Int32) : Nat → Nat → Prop
  | 0, x => x < 400 ∧ ∃ m, 1 ≤ m ∧ m < 8 ∧ rf (1600 + m) = nI x
  | l + 1, x => x < 400 ∧ ∃ y w, w < 4 ∧ sn_rc rf l y ∧ rf (4 * y + w) = nI x
theorem sn_at_way {lv : Nat → Nat} {y w c : Nat} {x : Int32} (h : sn_at lv (4 * y + w) x) (hy : y < 400) (hw : w < 4) (hc : c < 400) (e : x = nI c) : lv c = lv y + 1 := by
  rcases h with e2 | ⟨n, hn, e2, z, _, _⟩
  · exact absurd (e.symm.trans e2) (sn_m1n hc)
  · have ec : c = n := sn_inj hc hn (e.symm.trans e2)
    have z := z (by omega)
    rw [show (4 * y + w) / 4 = y by omega] at z
    rw [ec]
    exact z
theorem sn_at_root {lv : Nat → Nat} {m c : Nat} {x : Int32} (h : sn_at lv (1600 + m) x) (hm : m < 8) (hc : c < 400) (e : x = nI c) : lv c = 0 := by
  rcases h with e2 | ⟨n, hn, e2, _, z, _⟩
  · exact absurd (e.symm.trans e2) (sn_m1n hc)
  · have ec : c = n := sn_inj hc hn (e.symm.trans e2)
    rw [ec]
    exact z (by omega) (by omega)
theorem sn_rc_in {K U : Nat} {us lv : Nat → Nat} {rf : Nat → Int32} (G : sn_G K U us lv rf) : ∀ (l x : Nat), sn_rc rf l x → x < 400 ∧ 0 < us x ∧ lv x = l
  | 0, x, ⟨hx, m, _, h2, e⟩ => ⟨hx, sn_G_ref G (by omega) hx e, sn_at_root (G.2.1 _ (by omega)) h2 hx e⟩
  | l + 1, x, ⟨hx, y, w, hw, hy, e⟩ => by
    obtain ⟨hy1, _, hy3⟩ := sn_rc_in G l y hy
    refine ⟨hx, sn_G_ref G (i := 4 * y + w) (by omega) hx e, ?_⟩
    rw [sn_at_way (G.2.1 _ (by omega)) hy1 hw hx e, hy3]
/-- W is kept: in use, unchanged, and led to out of W or the snapshots' roots -/
def sn_F (W : Nat → Nat → Prop) (a1 a2 : Nat → Int32) (us : Nat → Nat) (rf b1 b2 : Nat → Int32) : Prop := ∀ l x, W l x → x < 400 ∧ 0 < us x ∧ b2 x = a2 x ∧ (∀ w, w < 4 → b1 (4 * x + w) = a1 (4 * x + w)) ∧
  ((∃ m, 1 ≤ m ∧ m < 8 ∧ rf (1600 + m) = nI x) ∨ ∃ k y w, W k y ∧ w < 4 ∧ rf (4 * y + w) = nI x)
theorem sn_F_0 {K U : Nat} {us lv : Nat → Nat} {rf a1 a2 : Nat → Int32} (G : sn_G K U us lv rf) : sn_F (sn_rc rf) a1 a2 us rf a1 a2 := by
  intro l x h
  obtain ⟨h1, h2, _⟩ := sn_rc_in G l x h
  refine ⟨h1, h2, rfl, fun _ _ => rfl, ?_⟩
  cases l with
  | zero =>
    obtain ⟨_, m, m1, m2, e⟩ := h
    exact Or.inl ⟨m, m1, m2, e⟩
  | succ l =>
    obtain ⟨_, y, w, hw, hy, e⟩ := h
    exact Or.inr ⟨l, y, w, hy, hw, e⟩
theorem sn_rc_tr {K U : Nat} {us lv : Nat → Nat} {rf a1 : Nat → Int32} (G : sn_G K U us lv rf) (T2 : sn_T2 us lv rf a1 1624) : sn_tr a1 (sn_rc rf) := by
  intro l n w hW hl hn hw
  obtain ⟨_, h2, h3⟩ := sn_rc_in G l n hW
  have e := T2 n w hn hw h2 (by omega) (by omega)
  rcases G.2.1 (4 * n + w) (by omega) with e2 | ⟨c, hc, e2, _⟩
  · exact Or.inl (e.trans e2)
  · exact Or.inr ⟨c, hc, e.trans e2, hc, n, w, hw, hW, e2⟩
theorem sn_rc_ok {K U : Nat} {us lv : Nat → Nat} {rf a5 : Nat → Int32} (G : sn_G K U us lv rf) (R : sn_R rf a5 1624) : ∀ m, 1 ≤ m → m < 8 → sn_ok (sn_rc rf) 0 (a5 m) := by
  intro m h1 h2
  have e := R m h2 (by omega)
  rcases G.2.1 (1600 + m) (by omega) with e2 | ⟨c, hc, e2, _⟩
  · exact Or.inl (e.trans e2)
  · exact Or.inr ⟨c, hc, e.trans e2, hc, m, h1, h2, e2⟩
theorem sn_F_ag {W : Nat → Nat → Prop} {a1 a2 b1 b2 : Nat → Int32} {us : Nat → Nat} {rf : Nat → Int32} (F : sn_F W a1 a2 us rf b1 b2) : sn_ag a1 a2 b1 b2 W := fun l n h _ => ⟨(F l n h).2.2.1, (F l n h).2.2.2.1⟩
/-- the turns as naturals, the slots of the own path -/
def sn_tt (key : Int32) (i : Nat) : Nat := (sn_tn key (nI i)).toNatClampNeg
theorem sn_ttE (key : Int32) (i : Nat) : sn_tt key i < 4 ∧ sn_tn key (nI i) = nI (sn_tt key i) := by
  obtain ⟨t, ht, e⟩ := sn_tnE key (nI i)
  unfold sn_tt
  rw [e, nI_clamp (by omega)]
  exact ⟨ht, rfl⟩
def sn_pj (key : Int32) (q : Nat → Nat) : Nat → Nat
  | 0 => 1600
  | i + 1 => 4 * q i + sn_tt key i
def sn_Q (W : Nat → Nat → Prop) (key : Int32) (us lv : Nat → Nat) (rf b7 : Nat → Int32) (q : Nat → Nat) (c : Nat) : Prop :=
  ∀ i, i < c → q i < 400 ∧ us (q i) = 1 ∧ lv (q i) = i ∧ b7 i = nI (q i) ∧ rf (sn_pj key q i) = nI (q i) ∧ ∀ k, ¬ W k (q i)
def sn_V (K U : Nat) (W : Nat → Nat → Prop) (key : Int32) (a1 a2 a5 : Nat → Int32) (c : Nat) (us lv : Nat → Nat) (rf : Nat → Int32) (q : Nat → Nat) (b1 b2 b3 b5 b7 : Nat → Int32) : Prop :=
  sn_G K U us lv rf ∧ sn_g3 us lv rf ∧ sn_S rf ∧ sn_T1 us b3 ∧ sn_T2 us lv rf b1 1624 ∧ sn_T3 us lv b2 ∧ sn_R rf b5 1624 ∧ sn_F W a1 a2 us rf b1 b2 ∧ (∀ m, 1 ≤ m → m < 8 → b5 m = a5 m) ∧ sn_Q W key us lv rf b7 q c
/-- the path's slots are slots, of their own levels -/
theorem sn_Q_J {W : Nat → Nat → Prop} {key : Int32} {us lv : Nat → Nat} {rf b7 : Nat → Int32} {q : Nat → Nat} {c : Nat} (Q : sn_Q W key us lv rf b7 q c) : ∀ i, i ≤ c → sn_J us lv i (sn_pj key q i)
  | 0, _ => Or.inl ⟨rfl, rfl⟩
  | i + 1, h => by
    obtain ⟨h1, h2, h3, _⟩ := Q i (by omega)
    exact Or.inr ⟨q i, sn_tt key i, h1, (sn_ttE key i).1, rfl, by omega, by omega⟩
theorem sn_J_ne {us lv : Nat → Nat} {i k j j' : Nat} (h : sn_J us lv i j) (h' : sn_J us lv k j') (hne : i ≠ k) : j ≠ j' := by
  intro e
  rcases h with ⟨e1, e2⟩ | ⟨q, t, hq, ht, e1, _, e2⟩
  · rcases h' with ⟨f1, f2⟩ | ⟨q', t', hq', ht', f1, _, f2⟩
    · omega
    · omega
  · rcases h' with ⟨f1, f2⟩ | ⟨q', t', hq', ht', f1, _, f2⟩
    · omega
    · have : q = q' := by omega
      rw [this] at e2
      omega
theorem sn_pj_st {key : Int32} {q : Nat → Nat} {c n : Nat} : ∀ i, i ≤ c → sn_pj key (sn_st q c n) i = sn_pj key q i
  | 0, _ => rfl
  | i + 1, h => by
    show 4 * sn_st q c n i + sn_tt key i = 4 * q i + sn_tt key i
    rw [sn_sn (by omega)]
/-- one more node of the path is the working map's own -/
theorem sn_Q_step {K U c n : Nat} {W : Nat → Nat → Prop} {key : Int32} {us lv us' lv' : Nat → Nat} {rf rf' a1 a2 b1 b2 b7 c1 c2 c3 : Nat → Int32} {q : Nat → Nat}
    {K0 U0 : Nat} (G : sn_G K0 U0 us lv rf) (F : sn_F W a1 a2 us rf b1 b2) (Q : sn_Q W key us lv rf b7 q c) (N : sn_N K U c (sn_pj key q c) n us lv rf b1 b2 us' lv' rf' c1 c2 c3) :
    sn_F W a1 a2 us' rf' c1 c2 ∧ sn_Q W key us' lv' rf' (upd b7 c (nI n)) (sn_st q c n) (c + 1) := by
  obtain ⟨hn, _, _, _, _, _, n1, n2, n3, n4, n5, n6⟩ := N
  have J := sn_Q_J Q
  have hj : sn_pj key q c < 1608 := by
    rcases J c (Nat.le_refl c) with ⟨e, _⟩ | ⟨y, t, hy, ht, e, _, _⟩ <;> omega
  -- slots of W are not the slot
  have sl : ∀ k y w, W k y → w < 4 → 4 * y + w ≠ sn_pj key q c := by
    intro k y w hW hw e
    have hy := (F k y hW).1
    cases c with
    | zero =>
      have : sn_pj key q 0 = 1600 := rfl
      omega
    | succ c =>
      have e2 : sn_pj key q (c + 1) = 4 * q c + sn_tt key c := rfl
      have e3 := (sn_ttE key c).1
      have e4 : y = q c := by omega
      exact (Q c (by omega)).2.2.2.2.2 k (e4 ▸ hW)
  have sr : ∀ m, 1 ≤ m → m < 8 → 1600 + m ≠ sn_pj key q c := by
    intro m h1 h2 e
    rcases J c (Nat.le_refl c) with ⟨e2, _⟩ | ⟨y, t, hy, ht, e2, _, _⟩ <;> omega
  have hWn : ∀ k, ¬ W k n := by
    intro k hW
    obtain ⟨_, f2, _, _, f5⟩ := F k n hW
    rcases n6 with e | ⟨e, e2, _⟩
    · omega
    · rcases f5 with ⟨m, m1, m2, e3⟩ | ⟨k', y, w, hy, hw, e3⟩
      · have := sn_G_two G (by omega) (by omega) hn (sr m m1 m2) e3 e2
        omega
      · have hy1 := (F k' y hy).1
        have := sn_G_two G (by omega) (by omega) hn (sl k' y w hy hw) e3 e2
        omega
  refine ⟨fun l x hx => ?_, fun i hi => ?_⟩
  · obtain ⟨f1, f2, f3, f4, f5⟩ := F l x hx
    have hxn : x ≠ n := fun t => hWn l (t ▸ hx)
    obtain ⟨p1, p2, p3, p4, _⟩ := n5 x f1 f2 hxn
    refine ⟨f1, p3, p1.trans f3, fun w hw => (p2 w hw).trans (f4 w hw), ?_⟩
    rcases f5 with ⟨m, m1, m2, e3⟩ | ⟨k', y, w, hy, hw, e3⟩
    · exact Or.inl ⟨m, m1, m2, (n4 _ (by omega) (sr m m1 m2) (by omega)).trans e3⟩
    · have hy1 := (F k' y hy).1
      have hyn : y ≠ n := fun t => hWn k' (t ▸ hy)
      exact Or.inr ⟨k', y, w, hy, hw, (n4 _ (by omega) (sl k' y w hy hw) (by omega)).trans e3⟩
  · by_cases e : i = c
    · subst e
      rw [sn_pj_st i (Nat.le_refl i), sn_ss]
      exact ⟨hn, n1, n2, pk_us, n3, hWn⟩
    · have hic : i < c := by omega
      rw [sn_pj_st i (by omega), sn_sn e, pk_un e]
      obtain ⟨q1, q2, q3, q4, q5, q6⟩ := Q i hic
      have hqn : ∀ k, k < c → q k ≠ n := by
        intro k hk t
        obtain ⟨_, r2, r3, _⟩ := Q k hk
        rw [t] at r2 r3
        rcases n6 with e1 | ⟨_, _, e1⟩ <;> omega
      obtain ⟨_, _, p3, p4, p5⟩ := n5 (q i) q1 (by omega) (hqn i hic)
      refine ⟨q1, (p5 (by omega)).trans q2, p4.trans q3, q4, ?_, q6⟩
      have J1 := J i (by omega)
      have hne := sn_J_ne J1 (J c (Nat.le_refl c)) e
      refine (n4 _ ?_ hne ?_).trans q5
      · rcases J1 with ⟨e1, _⟩ | ⟨y, t, hy, ht, e1, _, _⟩ <;> omega
      · cases i with
        | zero =>
          have : sn_pj key q 0 = 1600 := rfl
          omega
        | succ i =>
          have e2 : sn_pj key q (i + 1) = 4 * q i + sn_tt key i := rfl
          have e3 := (sn_ttE key i).1
          have := hqn i (by omega)
          omega
theorem sn_V_0 {K U n : Nat} {key : Int32} {us lv us' lv' : Nat → Nat} {rf rf' a1 a2 a5 a7 c1 c2 c3 : Nat → Int32} {K0 U0 : Nat} (G : sn_G K0 U0 us lv rf) (S : sn_S rf) (R : sn_R rf a5 1624) (N : sn_N K U 0 1600 n us lv rf a1 a2 us' lv' rf' c1 c2 c3) :
    sn_V K U (sn_rc rf) key a1 a2 a5 1 us' lv' rf' (sn_st (fun _ => 0) 0 n) c1 c2 c3 (upd a5 0 (nI n)) (upd a7 0 (nI n)) := by
  obtain ⟨F', Q'⟩ := sn_Q_step (b7 := a7) (q := fun _ => 0) (c := 0) (key := key) G (sn_F_0 (a1 := a1) (a2 := a2) G) (fun i hi => absurd hi (by omega)) N
  obtain ⟨hn, G', g3, T1, T2, T3, n1, n2, n3, n4, n5, n6⟩ := N
  refine ⟨G', g3, fun d hd => ?_, T1, fun x w hx hw h1 h2 _ => T2 x w hx hw h1 h2 (by omega), T3, fun m hm _ => ?_, F', fun m h1 h2 => pk_un (by omega), Q'⟩
  · rw [n4 _ (by omega) (by omega) (by omega)]
    exact S d hd
  · by_cases e : m = 0
    · subst e
      rw [pk_us]
      exact n3.symm
    · rw [pk_un e, n4 _ (by omega) (by omega) (by omega)]
      exact R m hm (by omega)
theorem sn_V_s {K U n i : Nat} {W : Nat → Nat → Prop} {key : Int32} {us lv us' lv' : Nat → Nat} {rf rf' a1 a2 a5 b1 b2 b3 b5 b7 c1 c2 c3 : Nat → Int32} {q : Nat → Nat} {K0 U0 : Nat} (V : sn_V K0 U0 W key a1 a2 a5 (i + 1) us lv rf q b1 b2 b3 b5 b7)
    (N : sn_N K U (i + 1) (4 * q i + sn_tt key i) n us lv rf b1 b2 us' lv' rf' c1 c2 c3) :
    sn_V K U W key a1 a2 a5 (i + 2) us' lv' rf' (sn_st q (i + 1) n) (upd c1 (4 * q i + sn_tt key i) (nI n)) c2 c3 b5 (upd b7 (i + 1) (nI n)) := by
  obtain ⟨G, g3, S, T1, T2, T3, R, F, B, Q⟩ := V
  obtain ⟨F', Q'⟩ := sn_Q_step G F Q N
  obtain ⟨hn, G', g3', T1', T2', T3', n1, n2, n3, n4, n5, n6⟩ := N
  obtain ⟨q1, q2, q3, q4, q5, q6⟩ := Q i (by omega)
  have ht := (sn_ttE key i).1
  refine ⟨G', g3', fun d hd => ?_, T1', fun x w hx hw h1 h2 _ => ?_, T3', fun m hm _ => ?_, fun l x hx => ?_, B, Q'⟩
  · rw [n4 _ (by omega) (by omega) (by omega)]
    exact S d hd
  · by_cases e : 4 * x + w = 4 * q i + sn_tt key i
    · rw [e, pk_us]
      exact n3.symm
    · rw [pk_un e]
      exact T2' x w hx hw h1 h2 e
  · rw [n4 _ (by omega) (by omega) (by omega)]
    exact R m hm (by omega)
  · obtain ⟨f1, f2, f3, f4, f5⟩ := F' l x hx
    refine ⟨f1, f2, f3, fun w hw => ?_, f5⟩
    have hxq : x ≠ q i := fun t => q6 l (t ▸ hx)
    rw [pk_un (by omega)]
    exact f4 w hw
section
variable {a1 a2 a3 a4 a5 a6 a7 a8 : Nat → Int32} {key : Int32}
theorem sn_opl {post : Int32 → St1 → Prop} {W : Nat → Nat → Prop} {K' U' : Nat}
    (H : ∀ (us lv : Nat → Nat) (rf : Nat → Int32) (q : Nat → Nat) (b1 b2 b3 b5 b7 : Nat → Int32), sn_V K' U' W key a1 a2 a5 4 us lv rf q b1 b2 b3 b5 b7 → post (nI (q 3)) (b1, b2, b3, a4, b5, a6, b7, a8)) (hK' : K' ≤ 400) (hU' : U' < 1000000) :
    ∀ (r i K U : Nat), i + r = 3 → K + r = K' → U + 5 * r = U' → ∀ (us lv : Nat → Nat) (rf : Nat → Int32) (q : Nat → Nat) (b1 b2 b3 b5 b7 : Nat → Int32), sn_V K U W key a1 a2 a5 (i + 1) us lv rf q b1 b2 b3 b5 b7 →
    wX_ownPath_31 post key (r + 1) (nI i) b1 b2 b3 a4 b5 a6 b7 a8
  | 0, i, K, U, hi, hK, hU => by
    intro us lv rf q b1 b2 b3 b5 b7 V
    have ei : i = 3 := by omega
    subst ei
    have eK : K = K' := by omega
    have eU : U = U' := by omega
    subst eK eU
    refine br_t (by decide) ?_
    have e7 := (V.2.2.2.2.2.2.2.2.2 3 (by omega)).2.2.2.1
    rw [e7]
    exact H us lv rf q b1 b2 b3 b5 b7 V
  | r + 1, i, K, U, hi, hK, hU => by
    intro us lv rf q b1 b2 b3 b5 b7 V
    have V0 := V
    obtain ⟨G, g3, S, T1, T2, T3, R, F, B, Q⟩ := V
    obtain ⟨q1, q2, q3, q4, q5, q6⟩ := Q i (by omega)
    have J := sn_Q_J Q (i + 1) (Nat.le_refl _)
    refine br_f (c := 3 ≤ nI i) (nI_ge (b := 3) (by omega) (by decide)) ⟨pk_in i 4 (by omega), sn_turn (fun t ht e => ?_)⟩
    have et : t = sn_tt key i := sn_inj (by omega) (by have := (sn_ttE key i).1; omega) (e.symm.trans (sn_ttE key i).2)
    subst et
    rw [nI_clamp (show i < 2 ^ 31 by omega), q4, nI_1]
    refine nm_r (sn_ix _ _) ?_
    rw [nI_clamp (show 4 * q i + sn_tt key i < 2 ^ 31 by omega)]
    refine ⟨vp_in_nI (by omega) (by omega), ?_⟩
    have ex : rf (4 * q i + sn_tt key i) = b1 (4 * q i + sn_tt key i) := (T2 (q i) (sn_tt key i) q1 ht (by omega) (by omega) (by omega)).symm
    refine sn_ownNode_2 (l := i + 1) (j := 4 * q i + sn_tt key i) (by omega) (by omega) (by omega) G g3 T1 T2 T3 J ex (fun n us' lv' rf' c1 c2 c3 N => ?_)
    refine ⟨vp_in_nI (by omega) (by omega), nm_e ⟨vp_in_nI (by omega) (by omega), pk_in (i + 1) 4 (by omega), nm_r (e' := upd b7 (i + 1) (nI n)) (by rw [pk_us, nI_clamp (by omega)]) (nm_e ?_)⟩⟩
    exact sn_opl H hK' hU' r (i + 1) (K + 1) (U + 5) (by omega) (by omega) (by omega) us' lv' rf' _ _ c2 c3 b5 _ (sn_V_s V0 N)
theorem sn_ownPath {post : Int32 → St1 → Prop} {K U : Nat} {us lv : Nat → Nat} {rf : Nat → Int32} (hK : K + 4 ≤ 400) (hU : U + 20 < 1000000) (G : sn_G K U us lv rf) (g3 : sn_g3 us lv rf) (S : sn_S rf) (T1 : sn_T1 us a3) (T2 : sn_T2 us lv rf a1 1624) (T3 : sn_T3 us lv a2) (R : sn_R rf a5 1624)
    (H : ∀ (us' lv' : Nat → Nat) (rf' : Nat → Int32) (q : Nat → Nat) (b1 b2 b3 b5 b7 : Nat → Int32), sn_V (K + 4) (U + 20) (sn_rc rf) key a1 a2 a5 4 us' lv' rf' q b1 b2 b3 b5 b7 → post (nI (q 3)) (b1, b2, b3, a4, b5, a6, b7, a8)) :
    wpX_ownPath post (a1, a2, a3, a4, a5, a6, a7, a8) key := by
  unfold wpX_ownPath
  refine sn_ownNode (l := 0) (j := 1600) (by omega) (by omega) (by omega) G g3 T1 T2 T3 (Or.inl ⟨rfl, rfl⟩) (R 0 (by omega) (by omega)).symm (fun n us' lv' rf' c1 c2 c3 N => ?_)
  refine nm_e (nm_r (e' := upd a7 0 (nI n)) (by rw [pk_us]) ⟨4, ?_⟩)
  exact sn_opl H (by omega) (by omega) 3 0 (K + 1) (U + 5) (by omega) (by omega) (by omega) us' lv' rf' _ c1 c2 c3 _ _ (sn_V_0 G S R N)
end
end
section
/-! ===== put, remove ===== -/
/-- the snapshots' trees are as they were -/
def sn_same (a1 a2 b1 b2 a5 : Nat → Int32) : Prop := ∃ W : Nat → Nat → Prop, sn_tr a1 W ∧ sn_ag a1 a2 b1 b2 W ∧ ∀ m, 1 ≤ m → m < 8 → sn_ok W 0 (a5 m)
theorem sn_same_r {K U : Nat} {a1 a2 a3 a5 : Nat → Int32} (h : sn_I K U a1 a2 a3 a5) : sn_same a1 a2 a1 a2 a5 := by
  obtain ⟨W, h1, h2⟩ := sn_I_wf h
  exact ⟨W, h1, fun _ _ _ _ => ⟨rfl, fun _ _ => rfl⟩, fun m _ hm => h2 m hm⟩
theorem sn_V_fin {K U K0 U0 : Nat} {key : Int32} {us0 lv0 us lv : Nat → Nat} {rf0 rf a1 a2 a5 b1 b2 b3 b5 b7 : Nat → Int32} {q : Nat → Nat} {c : Nat} (G : sn_G K0 U0 us0 lv0 rf0) (T2 : sn_T2 us0 lv0 rf0 a1 1624) (R : sn_R rf0 a5 1624)
    (V : sn_V K U (sn_rc rf0) key a1 a2 a5 c us lv rf q b1 b2 b3 b5 b7) : sn_I K U b1 b2 b3 b5 ∧ sn_same a1 a2 b1 b2 a5 ∧ ∀ m, 1 ≤ m → m < 8 → b5 m = a5 m := by
  obtain ⟨G', g3, S, T1, T2', T3, R', F, B, Q⟩ := V
  exact ⟨⟨us, lv, rf, G', g3, S, T1, T2', T3, R'⟩, ⟨sn_rc rf0, sn_rc_tr G T2, sn_F_ag F, sn_rc_ok G R⟩, B⟩
/-- the own leaf is written -/
theorem sn_V_leaf {K U : Nat} {W : Nat → Nat → Prop} {key : Int32} {us lv : Nat → Nat} {rf a1 a2 a5 b1 b2 b3 b5 b7 c1 c2 : Nat → Int32} {q : Nat → Nat} (V : sn_V K U W key a1 a2 a5 4 us lv rf q b1 b2 b3 b5 b7)
    (h1 : ∀ i, ¬ (4 * q 3 ≤ i ∧ i < 4 * q 3 + 4) → c1 i = b1 i) (h2 : ∀ x, x ≠ q 3 → c2 x = b2 x) (h3 : c2 (q 3) &&& 256 = 0 ↔ b2 (q 3) &&& 256 = 0) : sn_V K U W key a1 a2 a5 4 us lv rf q c1 c2 b3 b5 b7 := by
  obtain ⟨G, g3, S, T1, T2, T3, R, F, B, Q⟩ := V
  obtain ⟨q1, q2, q3, q4, q5, q6⟩ := Q 3 (by omega)
  refine ⟨G, g3, S, T1, fun x w hx hw p1 p2 p3 => ?_, fun x hx p1 => ?_, R, fun l x hx => ?_, B, Q⟩
  · have hne : x ≠ q 3 := fun t => by rw [t] at p2; omega
    rw [h1 _ (by omega)]
    exact T2 x w hx hw p1 p2 p3
  · by_cases e : x = q 3
    · subst e
      exact h3.trans (T3 _ hx p1)
    · rw [h2 x e]
      exact T3 x hx p1
  · obtain ⟨f1, f2, f3, f4, f5⟩ := F l x hx
    have hne : x ≠ q 3 := fun t => q6 l (t ▸ hx)
    exact ⟨f1, f2, (h2 x hne).trans f3, fun w hw => (h1 _ (by omega)).trans (f4 w hw), f5⟩
theorem sn_bor (y : Int32) {t : Nat} (ht : t < 4) : (y ||| ((1 : Int32) <<< (nI t &&& 31))) &&& 256 = y &&& 256 := by
  have e : ((1 : Int32) <<< (nI t &&& 31)) &&& 256 = 0 := (by decide +kernel : ∀ t, t < 4 → ((1 : Int32) <<< (nI t &&& 31)) &&& 256 = 0) t ht
  have d : (y ||| ((1 : Int32) <<< (nI t &&& 31))) &&& 256 = (y &&& 256) ||| (((1 : Int32) <<< (nI t &&& 31)) &&& 256) := Int32.toBitVec_inj.1 BitVec.and_or_distrib_right
  rw [d, e]
  exact Int32.or_zero
theorem sn_band (y : Int32) {t : Nat} (ht : t < 4) : (y &&& (((1 : Int32) <<< (nI t &&& 31)) ^^^ (-1))) &&& 256 = y &&& 256 := by
  have e : (((1 : Int32) <<< (nI t &&& 31)) ^^^ (-1)) &&& 256 = 256 := (by decide +kernel : ∀ t, t < 4 → (((1 : Int32) <<< (nI t &&& 31)) ^^^ (-1)) &&& 256 = 256) t ht
  rw [Int32.and_assoc, e]
/-! prune -/
/-- a path's last node has gone; the slot that led to it is still to be written -/
def sn_Pr (K U : Nat) (W : Nat → Nat → Prop) (key : Int32) (a1 a2 a5 : Nat → Int32) (c : Nat) (us lv : Nat → Nat) (rf : Nat → Int32) (q : Nat → Nat) (b1 b2 b3 b5 b7 : Nat → Int32) : Prop :=
  sn_G K U us lv rf ∧ sn_g3 us lv rf ∧ sn_S rf ∧ sn_T1 us b3 ∧ sn_T2 us lv rf b1 (sn_pj key q c) ∧ sn_T3 us lv b2 ∧ sn_R rf b5 (sn_pj key q c) ∧ sn_F W a1 a2 us rf b1 b2 ∧ (∀ m, 1 ≤ m → m < 8 → b5 m = a5 m) ∧ sn_Q W key us lv rf b7 q c ∧ rf (sn_pj key q c) = -1
theorem sn_Pr_in {K U c : Nat} {W : Nat → Nat → Prop} {key : Int32} {us lv : Nat → Nat} {rf a1 a2 a5 b1 b2 b3 b5 b7 : Nat → Int32} {q : Nat → Nat} (V : sn_V K U W key a1 a2 a5 (c + 1) us lv rf q b1 b2 b3 b5 b7) (hw : ∀ w, w < 4 → rf (4 * q c + w) = -1) :
    sn_Pr K U W key a1 a2 a5 c (sn_st us (q c) 0) lv (upd rf (sn_pj key q c) (-1)) q b1 b2 (upd b3 (q c) 0) b5 b7 := by
  obtain ⟨G, g3, S, T1, T2, T3, R, F, B, Q⟩ := V
  obtain ⟨q1, q2, q3, q4, q5, q6⟩ := Q c (by omega)
  have J := sn_Q_J Q
  have Jc := J c (by omega)
  have hj : sn_pj key q c < 1601 := by
    rcases Jc with ⟨e, _⟩ | ⟨y, t, hy, ht, e, _, _⟩ <;> omega
  have pos : ∀ x, 0 < sn_st us (q c) 0 x → x ≠ q c ∧ 0 < us x := by
    intro x hx
    by_cases e : x = q c
    · rw [e, sn_ss] at hx
      omega
    · rw [sn_sn e] at hx
      exact ⟨e, hx⟩
  have sl : ∀ k y w, W k y → w < 4 → 4 * y + w ≠ sn_pj key q c := by
    intro k y w hW hw e
    have hy := (F k y hW).1
    cases c with
    | zero =>
      have : sn_pj key q 0 = 1600 := rfl
      omega
    | succ c =>
      have e2 : sn_pj key q (c + 1) = 4 * q c + sn_tt key c := rfl
      have e3 := (sn_ttE key c).1
      have e4 : y = q c := by omega
      exact (Q c (by omega)).2.2.2.2.2 k (e4 ▸ hW)
  refine ⟨?_, fun x w hx hw' hc => ?_, fun d hd => ?_, sn_T1_st (v := 0) T1, fun x w hx hw' h1 h2 h3 => ?_, fun x hx h1 => T3 x hx (pos x h1).2, fun m hm h1 => ?_, fun l x hx => ?_, B, fun i hi => ?_, pk_us⟩
  · refine sn_G_upd G (by omega) (Or.inl rfl) (fun x hx => ?_) (fun x hx => ?_) (fun x h1 h2 => ?_)
    · rw [q5, sn_e_m1 hx]
      by_cases e : x = q c
      · rw [e, sn_ss, sn_e_s]
        omega
      · rw [sn_sn e]
        omega
    · have := G.2.2.2.1 x hx
      by_cases e : x = q c
      · rw [e, sn_ss]
        omega
      · rw [sn_sn e]
        exact this
    · have := G.2.2.2.2 x h1 h2
      by_cases e : x = q c
      · rw [e, sn_ss]
      · rw [sn_sn e]
        exact this
  · by_cases e : 4 * x + w = sn_pj key q c
    · rw [e, pk_us]
    · rw [pk_un e]
      by_cases e2 : x = q c
      · rw [e2]
        exact hw w hw'
      · rw [sn_sn e2] at hc
        exact g3 x w hx hw' hc
  · rw [pk_un (by omega)]
    exact S d hd
  · rw [pk_un h3]
    exact T2 x w hx hw' (pos x h1).2 h2 (by omega)
  · rw [pk_un h1]
    exact R m hm (by omega)
  · obtain ⟨f1, f2, f3, f4, f5⟩ := F l x hx
    have hne : x ≠ q c := fun t => q6 l (t ▸ hx)
    refine ⟨f1, by rw [sn_sn hne]; exact f2, f3, f4, ?_⟩
    rcases f5 with ⟨m, m1, m2, e3⟩ | ⟨k', y, w, hy, hw', e3⟩
    · exact Or.inl ⟨m, m1, m2, by rw [pk_un (by omega)]; exact e3⟩
    · exact Or.inr ⟨k', y, w, hy, hw', by rw [pk_un (sl k' y w hy hw')]; exact e3⟩
  · obtain ⟨r1, r2, r3, r4, r5, r6⟩ := Q i (by omega)
    have hne : q i ≠ q c := fun t => by rw [t] at r3; omega
    refine ⟨r1, by rw [sn_sn hne]; exact r2, r3, r4, ?_, r6⟩
    rw [pk_un (sn_J_ne (J i (by omega)) Jc (by omega))]
    exact r5
/-- the slot is written -/
theorem sn_Pr_out {K U c : Nat} {W : Nat → Nat → Prop} {key : Int32} {us lv : Nat → Nat} {rf a1 a2 a5 b1 b2 b3 b5 b7 : Nat → Int32} {q : Nat → Nat} (P : sn_Pr K U W key a1 a2 a5 (c + 1) us lv rf q b1 b2 b3 b5 b7) :
    sn_V K U W key a1 a2 a5 (c + 1) us lv rf q (upd b1 (4 * q c + sn_tt key c) (-1)) b2 b3 b5 b7 := by
  obtain ⟨G, g3, S, T1, T2, T3, R, F, B, Q, Z⟩ := P
  have ej : sn_pj key q (c + 1) = 4 * q c + sn_tt key c := rfl
  rw [ej] at T2 R Z
  obtain ⟨q1, q2, q3, q4, q5, q6⟩ := Q c (by omega)
  have ht := (sn_ttE key c).1
  refine ⟨G, g3, S, T1, fun x w hx hw h1 h2 _ => ?_, T3, fun m hm _ => R m hm (by omega), fun l x hx => ?_, B, Q⟩
  · by_cases e : 4 * x + w = 4 * q c + sn_tt key c
    · rw [e, pk_us, Z]
    · rw [pk_un e]
      exact T2 x w hx hw h1 h2 e
  · obtain ⟨f1, f2, f3, f4, f5⟩ := F l x hx
    have hne : x ≠ q c := fun t => q6 l (t ▸ hx)
    refine ⟨f1, f2, f3, fun w hw => ?_, f5⟩
    rw [pk_un (by omega)]
    exact f4 w hw
theorem sn_V_w {K U c : Nat} {W : Nat → Nat → Prop} {key : Int32} {us lv : Nat → Nat} {rf a1 a2 a5 b1 b2 b3 b5 b7 : Nat → Int32} {q : Nat → Nat} (V : sn_V K U W key a1 a2 a5 c us lv rf q b1 b2 b3 b5 b7) : sn_V K U W key a1 a2 a5 0 us lv rf q b1 b2 b3 b5 b7 := by
  obtain ⟨G, g3, S, T1, T2, T3, R, F, B, Q⟩ := V
  exact ⟨G, g3, S, T1, T2, T3, R, F, B, fun i hi => absurd hi (by omega)⟩
section
variable {a1 a2 a3 a4 a5 a6 a7 a8 : Nat → Int32} {key : Int32}
theorem sn_leadsOn {post : Int32 → Prop} {n : Nat} (hn : n < 400) (H0 : (∀ w, w < 4 → a1 (4 * n + w) < 0) → post 0) (H1 : post 1) : wpX_leadsOn post (a1, a2, a3, a4, a5, a6, a7, a8) (nI n) := by
  unfold wpX_leadsOn
  refine pk_loop (σ := Unit) (fun f w _ => wX_leadsOn_2 post (nI n) a1 a2 a3 a4 a5 a6 a7 a8 f (nI w)) (fun w _ => ∀ v, v < w → a1 (4 * n + v) < 0) 4 0 () (by omega) (fun v hv => absurd hv (by omega)) (fun f _ h => br_t (by decide) (H0 h)) (fun f w _ hw h hh => ?_)
  refine br_f (c := 4 ≤ nI w) (nI_ge (b := 4) hw (by decide)) ⟨sn_in hn hw, ?_⟩
  rw [sn_cl hn hw]
  exact br_c (fun g => nm_r (nI_1 w) (hh () (lt_s h g))) (fun _ => H1)
theorem sn_prl {post : St1 → Prop} {W : Nat → Nat → Prop} {K U : Nat} {c1 c2 c5 : Nat → Int32} {b2 b7 : Nat → Int32} {q : Nat → Nat}
    (H : ∀ (us lv : Nat → Nat) (rf b1 b3 b5 : Nat → Int32), sn_V K U W key c1 c2 c5 0 us lv rf q b1 b2 b3 b5 b7 → post (b1, b2, b3, a4, b5, a6, b7, a8)) :
    ∀ (c : Nat), c ≤ 3 → ∀ (us lv : Nat → Nat) (rf b1 b3 b5 : Nat → Int32), sn_Pr K U W key c1 c2 c5 c us lv rf q b1 b2 b3 b5 b7 → wX_prune_32 post key (c + 1) (nI c + (-1)) b1 b2 b3 a4 b5 a6 b7 a8
  | 0, _ => by
    intro us lv rf b1 b3 b5 P
    refine br_t (by decide) (nm_e (H us lv rf b1 b3 _ ?_))
    obtain ⟨G, g3, S, T1, T2, T3, R, F, B, Q, Z⟩ := P
    refine ⟨G, g3, S, T1, fun x w hx hw h1 h2 _ => T2 x w hx hw h1 h2 (show _ ≠ 1600 by omega), T3, fun m hm _ => ?_, F, fun m h1 h2 => by rw [pk_un (by omega)]; exact B m h1 h2, fun i hi => absurd hi (by omega)⟩
    by_cases e : m = 0
    · subst e
      rw [pk_us]
      exact Z.symm
    · rw [pk_un e]
      exact R m hm (show _ ≠ 1600 by omega)
  | c + 1, hc => by
    intro us lv rf b1 b3 b5 P
    have V := sn_Pr_out P
    obtain ⟨G, g3, S, T1, T2, T3, R, F, B, Q⟩ := V
    obtain ⟨q1, q2, q3, q4, q5, q6⟩ := Q c (by omega)
    rw [pk_m1]
    refine br_f (nI_pos (by omega)) ⟨pk_in c 4 (by omega), sn_turn (fun t ht e => ?_)⟩
    have et : t = sn_tt key c := sn_inj (by omega) (by have := (sn_ttE key c).1; omega) (e.symm.trans (sn_ttE key c).2)
    subst et
    rw [nI_clamp (show c < 2 ^ 31 by omega), q4, sn_cl q1 ht]
    refine ⟨sn_in q1 ht, nm_e ⟨pk_in c 4 (by omega), sn_leadsOn q1 (fun hneg => br_t rfl ⟨pk_in c 4 (by omega), vp_in_nI q1 (by omega), ?_⟩) (br_f sn_10 (H us lv rf _ b3 b5 (sn_V_w (sn_Pr_out P))))⟩⟩
    rw [nI_clamp (show q c < 2 ^ 31 by omega)]
    refine nm_e (nm_e ?_)
    have hw : ∀ w, w < 4 → rf (4 * q c + w) = -1 := by
      intro w hw
      have e1 := T2 (q c) w q1 hw (by omega) (by omega) (by omega)
      have e2 := hneg w hw
      rw [e1] at e2
      rcases G.2.1 (4 * q c + w) (by omega) with e3 | ⟨n, hn, e3, _⟩
      · exact e3
      · rw [e3] at e2
        exact absurd e2 (sn_nneg hn)
    exact sn_prl H c (by omega) _ lv _ _ _ b5 (sn_Pr_in (sn_Pr_out P) hw)
theorem sn_prune {post : St1 → Prop} {W : Nat → Nat → Prop} {K U : Nat} {c1 c2 c5 : Nat → Int32} {us lv : Nat → Nat} {rf b1 b2 b3 b5 b7 : Nat → Int32} {q : Nat → Nat} (V : sn_V K U W key c1 c2 c5 4 us lv rf q b1 b2 b3 b5 b7)
    (H : ∀ (us lv : Nat → Nat) (rf b1 b3 b5 : Nat → Int32), sn_V K U W key c1 c2 c5 0 us lv rf q b1 b2 b3 b5 b7 → post (b1, b2, b3, a4, b5, a6, b7, a8)) :
    wpX_prune post (b1, b2, b3, a4, b5, a6, b7, a8) key := by
  have Q := V.2.2.2.2.2.2.2.2.2
  obtain ⟨q1, q2, q3, q4, q5, q6⟩ := Q 3 (by omega)
  unfold wpX_prune
  dsimp only
  rw [q4, nI_clamp (show q 3 < 2 ^ 31 by omega)]
  refine ⟨vp_in_nI q1 (by omega), br_c (fun _ => ⟨vp_in_nI q1 (by omega), nm_e ⟨4, ?_⟩⟩) (fun _ => H us lv rf b1 b3 b5 (sn_V_w V))⟩
  exact sn_prl H 3 (by omega) _ lv _ b1 _ b5 (sn_Pr_in V (fun w hw => V.2.1 (q 3) w q1 hw (Or.inr (by omega))))
/-- the post of a call that changes the working map alone -/
theorem sn_put {post : Int32 → St1 → Prop} {K U k : Nat} {v : Int32} (hk : k < 256) (hK : K + 4 ≤ 400) (hU : U + 20 < 1000000) (I : sn_I K U a1 a2 a3 a5)
    (H : ∀ (r : Int32) (b1 b2 b3 b5 b6 b7 : Nat → Int32), sn_I (K + 4) (U + 20) b1 b2 b3 b5 → sn_same a1 a2 b1 b2 a5 → (∀ m, 1 ≤ m → m < 8 → b5 m = a5 m ∧ b6 m = a6 m) → post r (b1, b2, b3, a4, b5, b6, b7, a8)) :
    wpX_put post (a1, a2, a3, a4, a5, a6, a7, a8) (nI k) v := by
  have stay : ∀ r, post r (a1, a2, a3, a4, a5, a6, a7, a8) := fun r => H r a1 a2 a3 a5 a6 a7 (sn_I_mono I (by omega) (by omega)) (sn_same_r I) (fun _ _ _ => ⟨rfl, rfl⟩)
  obtain ⟨W, tr, hr⟩ := sn_I_wf I
  obtain ⟨us, lv, rf, G, g3, S, T1, T2, T3, R⟩ := I
  have main : ∀ x3 : Int32, wX_put_37 post (nI k) v x3 a1 a2 a3 a4 a5 a6 a7 a8 := by
    intro x3
    unfold wX_put_37
    refine sn_ownPath hK hU G g3 S T1 T2 T3 R (fun us' lv' rf' q b1 b2 b3 b5 b7 V => ?_)
    have Q := V.2.2.2.2.2.2.2.2.2
    obtain ⟨q1, q2, q3, q4, q5, q6⟩ := Q 3 (by omega)
    obtain ⟨t, ht, et⟩ := sn_kbE (nI k)
    dsimp only
    rw [et, sn_cl q1 ht, nI_clamp (show q 3 < 2 ^ 31 by omega)]
    refine ⟨sn_in q1 ht, nm_e ⟨vp_in_nI q1 (by omega), vp_in_nI q1 (by omega), nm_e ?_⟩⟩
    have V' := sn_V_leaf (c1 := upd b1 (4 * q 3 + t) v) (c2 := upd b2 (q 3) (b2 (q 3) ||| ((1 : Int32) <<< (nI t &&& 31)))) V (fun i hi => pk_un (by omega)) (fun x hx => pk_un hx) (by rw [pk_us, sn_bor _ ht])
    obtain ⟨f1, f2, f3⟩ := sn_V_fin G T2 R V'
    exact br_c (fun _ => nm_e (H _ _ _ _ _ _ _ f1 f2 (fun m m1 m2 => ⟨f3 m m1 m2, pk_un (by omega)⟩))) (fun _ => nm_e (H _ _ _ _ _ _ _ f1 f2 (fun m m1 m2 => ⟨f3 m m1 m2, pk_un (by omega)⟩)))
  unfold wpX_put
  refine br_f (nI_pos (by omega)) (br_t (nI_le (b := 255) (by omega) (by decide)) ?_)
  exact sn_holds (M := 0) (by omega) tr (hr 0 (by omega)) (br_c (fun _ => br_c (fun _ => main _) (fun _ => stay _)) (fun _ => main _))
theorem sn_remove {post : Int32 → St1 → Prop} {K U k : Nat} (hk : k < 256) (hK : K + 4 ≤ 400) (hU : U + 20 < 1000000) (I : sn_I K U a1 a2 a3 a5)
    (H : ∀ (r : Int32) (b1 b2 b3 b5 b6 b7 : Nat → Int32), sn_I (K + 4) (U + 20) b1 b2 b3 b5 → sn_same a1 a2 b1 b2 a5 → (∀ m, 1 ≤ m → m < 8 → b5 m = a5 m ∧ b6 m = a6 m) → post r (b1, b2, b3, a4, b5, b6, b7, a8)) :
    wpX_remove post (a1, a2, a3, a4, a5, a6, a7, a8) (nI k) := by
  have stay : ∀ r, post r (a1, a2, a3, a4, a5, a6, a7, a8) := fun r => H r a1 a2 a3 a5 a6 a7 (sn_I_mono I (by omega) (by omega)) (sn_same_r I) (fun _ _ _ => ⟨rfl, rfl⟩)
  obtain ⟨W, tr, hr⟩ := sn_I_wf I
  obtain ⟨us, lv, rf, G, g3, S, T1, T2, T3, R⟩ := I
  unfold wpX_remove
  refine br_f (nI_pos (by omega)) (br_f (nI_nlt (a := 255) (b := k) (by omega) (by decide)) ?_)
  refine sn_holds (M := 0) (by omega) tr (hr 0 (by omega)) (br_c (fun _ => stay _) (fun _ => ?_))
  refine sn_ownPath hK hU G g3 S T1 T2 T3 R (fun us' lv' rf' q b1 b2 b3 b5 b7 V => ?_)
  have Q := V.2.2.2.2.2.2.2.2.2
  obtain ⟨q1, q2, q3, q4, q5, q6⟩ := Q 3 (by omega)
  obtain ⟨t, ht, et⟩ := sn_kbE (nI k)
  dsimp only
  rw [et, nI_clamp (show q 3 < 2 ^ 31 by omega)]
  refine ⟨vp_in_nI q1 (by omega), vp_in_nI q1 (by omega), nm_e ?_⟩
  have V' := sn_V_leaf (c1 := b1) (c2 := upd b2 (q 3) (b2 (q 3) &&& (((1 : Int32) <<< (nI t &&& 31)) ^^^ (-1)))) V (fun i hi => rfl) (fun x hx => pk_un hx) (by rw [pk_us, sn_band _ ht])
  refine sn_prune V' (fun us2 lv2 rf2 d1 d3 d5 V2 => ?_)
  obtain ⟨f1, f2, f3⟩ := sn_V_fin G T2 R V2
  exact nm_e (H _ _ _ _ _ _ _ f1 f2 (fun m m1 m2 => ⟨f3 m m1 m2, pk_un (by omega)⟩))
end
end
section
/-! ===== share, giveBack, commit, restore, drop ===== -/
theorem sn_ct_le {f g : Nat → Int32} {x : Int32} {N : Nat} (h : ∀ j, j < N → g j = x → f j = x) : sn_ct g x N ≤ sn_ct f x N := by
  induction N with
  | zero => exact Nat.le_refl 0
  | succ N ih =>
    show sn_ct g x N + (if g N = x then 1 else 0) ≤ sn_ct f x N + (if f N = x then 1 else 0)
    have t := ih (fun j hj => h j (by omega))
    by_cases e : g N = x
    · rw [if_pos e, if_pos (h N (by omega) e)]
      omega
    · rw [if_neg e]
      omega
/-- giveBack between two steps: d nodes on the stack -/
def sn_B (K U : Nat) (r0 a1 a2 : Nat → Int32) (d : Nat) (us lv : Nat → Nat) (rf b3 b8 : Nat → Int32) : Prop :=
  sn_G K U us lv rf ∧ sn_g3 us lv rf ∧ sn_T1 us b3 ∧ sn_T2 us lv rf a1 1624 ∧ sn_T3 us lv a2 ∧ (∀ p, p < d → b8 p = rf (1608 + p) ∧ rf (1608 + p) ≠ -1) ∧ (∀ p, d ≤ p → p < 16 → rf (1608 + p) = -1) ∧ d ≤ 16 ∧ (∀ m, m < 8 → rf (1600 + m) = r0 m)
/-- giveBack while the ways of a node that has gone are put on the stack -/
def sn_C (K U : Nat) (r0 a1 : Nat → Int32) (n p w d : Nat) (us lv : Nat → Nat) (rf b8 : Nat → Int32) : Prop :=
  sn_G K U us lv rf ∧ (∀ x u, x < 400 → u < 4 → x ≠ n → (us x = 0 ∨ 3 ≤ lv x) → rf (4 * x + u) = -1) ∧ (∀ u, u < w → rf (4 * n + u) = -1) ∧ (∀ u, w ≤ u → u < 4 → rf (4 * n + u) = a1 (4 * n + u)) ∧ sn_T2 us lv rf a1 1624 ∧
  (∀ i, i < d → b8 i = rf (1608 + i) ∧ rf (1608 + i) ≠ -1) ∧ (∀ i, d ≤ i → i < 16 → rf (1608 + i) = -1) ∧ d ≤ p + w ∧ (∀ m, m < 8 → rf (1600 + m) = r0 m)
theorem sn_B_top {K U : Nat} {r0 a1 a2 : Nat → Int32} {p : Nat} {us lv : Nat → Nat} {rf b3 b8 : Nat → Int32} (B : sn_B K U r0 a1 a2 (p + 1) us lv rf b3 b8) : ∃ n, n < 400 ∧ b8 p = nI n ∧ rf (1608 + p) = nI n ∧ p ≤ 3 * lv n ∧ 0 < us n := by
  obtain ⟨G, g3, T1, T2, T3, h1, h2, h3, h4⟩ := B
  obtain ⟨e1, e2⟩ := h1 p (by omega)
  rcases G.2.1 (1608 + p) (by omega) with e | ⟨n, hn, e, _, _, z⟩
  · exact absurd e e2
  · have z := z (by omega)
    exact ⟨n, hn, e1.trans e, e, by omega, sn_G_ref G (by omega) hn e⟩
theorem sn_G_pop {K U : Nat} {us lv : Nat → Nat} {rf : Nat → Int32} {p n : Nat} (G : sn_G K U us lv rf) (hp : p < 16) (e : rf (1608 + p) = nI n) : sn_G K U (sn_dec us (nI n)) lv (upd rf (1608 + p) (-1)) := by
  refine sn_G_upd G (by omega) (Or.inl rfl) (fun x hx => ?_) (fun x hx => ?_) (fun x h1 h2 => ?_)
  · rw [e, sn_e_m1 hx]
    unfold sn_dec
    omega
  · have := G.2.2.2.1 x hx
    unfold sn_dec
    omega
  · have := G.2.2.2.2 x h1 h2
    unfold sn_dec
    omega
/-- one user less -/
theorem sn_B_pop {K U : Nat} {r0 a1 a2 : Nat → Int32} {p n : Nat} {us lv : Nat → Nat} {rf b3 b8 : Nat → Int32} (B : sn_B K U r0 a1 a2 (p + 1) us lv rf b3 b8) (hn : n < 400) (e : rf (1608 + p) = nI n) (hz : sn_dec us (nI n) n = 0 → 3 ≤ lv n) :
    sn_B K U r0 a1 a2 p (sn_dec us (nI n)) lv (upd rf (1608 + p) (-1)) (upd b3 n (b3 n - 1)) b8 := by
  obtain ⟨G, g3, T1, T2, T3, h1, h2, h3, h4⟩ := B
  have hu := sn_G_ref G (i := 1608 + p) (by omega) hn e
  have dp : ∀ x, 0 < sn_dec us (nI n) x → 0 < us x := by
    intro x hx
    unfold sn_dec at hx
    omega
  refine ⟨sn_G_pop G (by omega) e, fun x w hx hw hc => ?_, sn_T1_dec hn hu T1, fun x w hx hw p1 p2 p3 => ?_, fun x hx p1 => T3 x hx (dp x p1), fun i hi => ?_, fun i hi hi2 => ?_, by omega, fun m hm => ?_⟩
  · rw [pk_un (by omega)]
    refine g3 x w hx hw ?_
    rcases hc with q | q
    · by_cases ex : x = n
      · subst ex
        exact Or.inr (hz q)
      · refine Or.inl ?_
        unfold sn_dec at q
        rw [sn_e_n hn hx ex] at q
        exact q
    · exact Or.inr q
  · rw [pk_un (by omega)]
    exact T2 x w hx hw (dp x p1) p2 p3
  · rw [pk_un (by omega)]
    exact h1 i (by omega)
  · by_cases ei : i = p
    · rw [ei, pk_us]
    · rw [pk_un (by omega)]
      exact h2 i (by omega) hi2
  · rw [pk_un (by omega)]
    exact h4 m hm
theorem sn_C_in {K U : Nat} {r0 a1 a2 : Nat → Int32} {p n : Nat} {us lv : Nat → Nat} {rf b3 b8 : Nat → Int32} (B : sn_B K U r0 a1 a2 (p + 1) us lv rf b3 b8) (hn : n < 400) (e : rf (1608 + p) = nI n) (hl : lv n < 3) :
    sn_C K U r0 a1 n p 0 p (sn_dec us (nI n)) lv (upd rf (1608 + p) (-1)) b8 := by
  obtain ⟨G, g3, T1, T2, T3, h1, h2, h3, h4⟩ := B
  have hu := sn_G_ref G (i := 1608 + p) (by omega) hn e
  have dp : ∀ x, 0 < sn_dec us (nI n) x → 0 < us x := by
    intro x hx
    unfold sn_dec at hx
    omega
  refine ⟨sn_G_pop G (by omega) e, fun x w hx hw ex hc => ?_, fun u hu => absurd hu (by omega), fun u _ hu2 => ?_, fun x w hx hw p1 p2 p3 => ?_, fun i hi => ?_, fun i hi hi2 => ?_, by omega, fun m hm => ?_⟩
  · rw [pk_un (by omega)]
    refine g3 x w hx hw ?_
    rcases hc with q | q
    · refine Or.inl ?_
      unfold sn_dec at q
      rw [sn_e_n hn hx ex] at q
      exact q
    · exact Or.inr q
  · rw [pk_un (by omega)]
    exact (T2 n u hn hu2 hu hl (by omega)).symm
  · rw [pk_un (by omega)]
    exact T2 x w hx hw (dp x p1) p2 p3
  · rw [pk_un (by omega)]
    exact h1 i (by omega)
  · by_cases ei : i = p
    · rw [ei, pk_us]
    · rw [pk_un (by omega)]
      exact h2 i (by omega) hi2
  · rw [pk_un (by omega)]
    exact h4 m hm
theorem sn_C_skip {K U : Nat} {r0 a1 : Nat → Int32} {n p w d : Nat} {us lv : Nat → Nat} {rf b8 : Nat → Int32} (C : sn_C K U r0 a1 n p w d us lv rf b8) (hw : w < 4) (hv : a1 (4 * n + w) = -1) : sn_C K U r0 a1 n p (w + 1) d us lv rf b8 := by
  obtain ⟨G, g3, h1, h2, T2, h3, h4, h5, h6⟩ := C
  refine ⟨G, g3, fun u hu => ?_, fun u hu hu2 => h2 u (by omega) hu2, T2, h3, h4, by omega, h6⟩
  by_cases e : u = w
  · rw [e, h2 w (Nat.le_refl w) hw, hv]
  · exact h1 u (by omega)
theorem sn_C_push {K U : Nat} {r0 a1 : Nat → Int32} {n p w d c : Nat} {us lv : Nat → Nat} {rf b8 : Nat → Int32} (C : sn_C K U r0 a1 n p w d us lv rf b8) (hw : w < 4) (hn : n < 400) (hun : us n = 0) (hp : p ≤ 3 * lv n) (hl : lv n < 3) (hc : c < 400) (hv : a1 (4 * n + w) = nI c) :
    sn_C K U r0 a1 n p (w + 1) (d + 1) us lv (upd (upd rf (4 * n + w) (-1)) (1608 + d) (nI c)) (upd b8 d (nI c)) := by
  obtain ⟨G, g3, h1, h2, T2, h3, h4, h5, h6⟩ := C
  have er : rf (4 * n + w) = nI c := (h2 w (Nat.le_refl w) hw).trans hv
  have hlc := sn_at_way (G.2.1 (4 * n + w) (by omega)) hn hw hc er
  have huc := sn_G_ref G (i := 4 * n + w) (by omega) hc er
  have hd : d < 16 := by omega
  have ed : upd rf (4 * n + w) (-1) (1608 + d) = -1 := by
    rw [pk_un (by omega)]
    exact h4 d (Nat.le_refl d) hd
  have G1 : sn_G K U (sn_dec us (nI c)) lv (upd rf (4 * n + w) (-1)) := by
    refine sn_G_upd G (by omega) (Or.inl rfl) (fun x hx => ?_) (fun x hx => ?_) (fun x k1 k2 => ?_)
    · rw [er, sn_e_m1 hx]
      unfold sn_dec
      omega
    · have := G.2.2.2.1 x hx
      unfold sn_dec
      omega
    · have := G.2.2.2.2 x k1 k2
      unfold sn_dec
      omega
  refine ⟨?_, fun x u hx hu ex hq => ?_, fun u hu => ?_, fun u hu hu2 => ?_, fun x u hx hu p1 p2 p3 => ?_, fun i hi => ?_, fun i hi hi2 => ?_, by omega, fun m hm => ?_⟩
  · refine sn_G_upd G1 (by omega) (Or.inr ⟨c, hc, rfl, fun t => absurd t (by omega), fun t t2 => absurd t2 (by omega), fun _ => by omega⟩) (fun x hx => ?_) G.2.2.2.1 G.2.2.2.2
    rw [ed, sn_e_m1 hx]
    unfold sn_dec
    by_cases ex : x = c
    · rw [ex, sn_e_s]
      omega
    · rw [sn_e_n hc hx ex]
      omega
  · rw [pk_un (by omega), pk_un (by omega)]
    exact g3 x u hx hu ex hq
  · rw [pk_un (by omega)]
    by_cases e : u = w
    · rw [e, pk_us]
    · rw [pk_un (by omega)]
      exact h1 u (by omega)
  · rw [pk_un (by omega), pk_un (by omega)]
    exact h2 u (by omega) hu2
  · have ex : x ≠ n := fun t => by rw [t] at p1; omega
    rw [pk_un (by omega), pk_un (by omega)]
    exact T2 x u hx hu p1 p2 p3
  · by_cases ei : i = d
    · rw [ei, pk_us, pk_us]
      exact ⟨rfl, sn_m1n hc⟩
    · rw [pk_un ei, pk_un (by omega), pk_un (by omega)]
      exact h3 i (by omega)
  · rw [pk_un (by omega), pk_un (by omega)]
    exact h4 i (by omega) hi2
  · rw [pk_un (by omega), pk_un (by omega)]
    exact h6 m hm
theorem sn_C_out {K U : Nat} {r0 a1 a2 : Nat → Int32} {n p d : Nat} {us lv : Nat → Nat} {rf b3 b8 : Nat → Int32} (C : sn_C K U r0 a1 n p 4 d us lv rf b8) (hp : p + 4 ≤ 16) (T1 : sn_T1 us b3) (T3 : sn_T3 us lv a2) : sn_B K U r0 a1 a2 d us lv rf b3 b8 := by
  obtain ⟨G, g3, h1, h2, T2, h3, h4, h5, h6⟩ := C
  refine ⟨G, fun x w hx hw hc => ?_, T1, T2, T3, h3, h4, by omega, h6⟩
  by_cases e : x = n
  · rw [e]
    exact h1 w hw
  · exact g3 x w hx hw e hc
section
variable {a1 a2 a3 a4 a5 a6 a7 a8 : Nat → Int32} {lv : Nat → Nat} {K U : Nat} {r0 : Nat → Int32}
theorem sn_gb_exit {post : St1 → Prop} {d : Nat} {us : Nat → Nat} {rf b3 b8 : Nat → Int32}
    (H : ∀ (us : Nat → Nat) (rf b3 b8 : Nat → Int32), sn_G K U us lv rf → sn_g3 us lv rf → sn_S rf → sn_T1 us b3 → sn_T2 us lv rf a1 1624 → sn_T3 us lv a2 → (∀ m, m < 8 → rf (1600 + m) = r0 m) → post (a1, a2, b3, a4, a5, a6, a7, b8))
    (B : sn_B K U r0 a1 a2 d us lv rf b3 b8) : post (a1, a2, b3, a4, a5, a6, a7, b8) := by
  obtain ⟨G, g3, T1, T2, T3, h1, h2, h3, h4⟩ := B
  have lo : ∀ i, i < 1608 → (fun i => if i < 1608 then rf i else (-1 : Int32)) i = rf i := fun i hi => if_pos hi
  have hi' : ∀ i, ¬ i < 1608 → (fun i => if i < 1608 then rf i else (-1 : Int32)) i = -1 := fun i hi => if_neg hi
  refine H us (fun i => if i < 1608 then rf i else (-1 : Int32)) b3 b8 ⟨fun n hn => ?_, fun i hi => ?_, G.2.2.1, G.2.2.2.1, G.2.2.2.2⟩ (fun x w hx hw hc => (lo _ (by omega)).trans (g3 x w hx hw hc)) (fun d hd => hi' _ (by omega)) T1
    (fun x w hx hw p1 p2 p3 => (T2 x w hx hw p1 p2 p3).trans (lo _ (by omega)).symm) T3 (fun m hm => (lo _ (by omega)).trans (h4 m hm))
  · refine Nat.le_trans (sn_ct_le (fun j hj e => ?_)) (G.1 n hn)
    by_cases g : j < 1608
    · rw [if_pos g] at e
      exact e
    · rw [if_neg g] at e
      exact absurd e.symm (sn_m1n hn)
  · by_cases g : i < 1608
    · rw [lo i g]
      exact G.2.1 i hi
    · exact Or.inl (hi' i g)
theorem sn_gb76 {post : St1 → Prop} {J : Int32 → Int32 → (Nat → Int32) → (Nat → Int32) → (Nat → Int32) → (Nat → Int32) → (Nat → Int32) → (Nat → Int32) → (Nat → Int32) → (Nat → Int32) → Prop} {s n p : Nat} {us : Nat → Nat} {rf b3 b8 : Nat → Int32}
    (hn : n < 400) (hun : us n = 0) (hp : p ≤ 3 * lv n) (hl : lv n < 3) (C : sn_C K U r0 a1 n p 0 p us lv rf b8) (T1 : sn_T1 us b3) (T3 : sn_T3 us lv a2)
    (hJ : ∀ (d : Nat) (rf b8 : Nat → Int32), sn_B K U r0 a1 a2 d us lv rf b3 b8 → J (nI d) (nI (s + 1)) a1 a2 b3 a4 a5 a6 a7 b8) :
    ∃ f, wX_giveBack_76 post J (nI s) (nI n) f (nI p) (nI 0) a1 a2 b3 a4 a5 a6 a7 b8 := by
  refine pk_loop (σ := Nat × (Nat → Int32)) (fun f w t => wX_giveBack_76 post J (nI s) (nI n) f (nI t.1) (nI w) a1 a2 b3 a4 a5 a6 a7 t.2) (fun w t => ∃ rf, sn_C K U r0 a1 n p w t.1 us lv rf t.2) 4 0 (p, b8) (by omega) ⟨rf, C⟩ (fun f t h => ?_) (fun f w t hw h hh => ?_)
  · obtain ⟨d, c8⟩ := t
    obtain ⟨rf', C'⟩ := h
    exact br_t (by decide) (nm_r (nI_1 s) (hJ d rf' c8 (sn_C_out C' (by omega) T1 T3)))
  · obtain ⟨d, c8⟩ := t
    obtain ⟨rf', C'⟩ := h
    have C0 := C'
    obtain ⟨G, g3, h1, h2, T2, h3, h4, h5, h6⟩ := C'
    have h5 : d ≤ p + w := h5
    refine br_f (c := 4 ≤ nI w) (nI_ge (b := 4) hw (by decide)) ⟨sn_in hn hw, ?_⟩
    rw [sn_cl hn hw]
    have er := h2 w (Nat.le_refl w) hw
    rcases G.2.1 (4 * n + w) (by omega) with e | ⟨c, hc, e, _⟩
    · have ev : a1 (4 * n + w) = -1 := er.symm.trans e
      exact br_t (by rw [ev]; exact sn_m1lt) (nm_r (nI_1 w) (hh (d, c8) ⟨rf', sn_C_skip C0 hw ev⟩))
    · have ev : a1 (4 * n + w) = nI c := er.symm.trans e
      refine br_f (by rw [ev]; exact sn_nneg hc) ⟨sn_in hn hw, pk_in d 16 (by omega), ?_⟩
      refine nm_r (e' := upd c8 d (nI c)) (by rw [ev, nI_clamp (show d < 2 ^ 31 by omega)]) (nm_r (nI_1 d) (nm_r (nI_1 w) ?_))
      exact hh (d + 1, upd c8 d (nI c)) ⟨_, sn_C_push C0 hw hn hun hp hl hc ev⟩
theorem sn_gbl {post : St1 → Prop}
    (H : ∀ (us : Nat → Nat) (rf b3 b8 : Nat → Int32), sn_G K U us lv rf → sn_g3 us lv rf → sn_S rf → sn_T1 us b3 → sn_T2 us lv rf a1 1624 → sn_T3 us lv a2 → (∀ m, m < 8 → rf (1600 + m) = r0 m) → post (a1, a2, b3, a4, a5, a6, a7, b8)) (hU : U < 1000000) :
    ∀ (c s d : Nat) (us : Nat → Nat) (rf b3 b8 : Nat → Int32), s + c = 400 → sn_B K U r0 a1 a2 d us lv rf b3 b8 → wX_giveBack_16 post (c + 1) (nI d) (nI s) a1 a2 b3 a4 a5 a6 a7 b8
  | 0, s, d => by
    intro us rf b3 b8 hs B
    exact pk_le 400 s (fun _ => sn_gb_exit H B) (fun z => absurd z (by omega))
  | c + 1, s, d => by
    intro us rf b3 b8 hs B
    have hd : d ≤ 16 := B.2.2.2.2.2.2.2.1
    refine pk_le 400 s (fun z => absurd z (by omega)) (fun _ => pk_le d 0 (fun _ => sn_gb_exit H B) (fun z => ?_))
    obtain ⟨p, rfl⟩ : ∃ p, d = p + 1 := ⟨d - 1, by omega⟩
    obtain ⟨n, hn, e8, er, hp, hu⟩ := sn_B_top B
    have B0 := B
    obtain ⟨G, g3, T1, T2, T3, h1, h2, h3, h4⟩ := B0
    refine nm_r (pk_m1 p) ⟨pk_in p 16 (by omega), nm_r (e' := nI n) (by rw [nI_clamp (by omega)]; exact e8) ⟨vp_in_nI hn (by omega), vp_in_nI hn (by omega), ?_⟩⟩
    rw [nI_clamp (show n < 2 ^ 31 by omega)]
    refine nm_e ⟨vp_in_nI hn (by omega), ?_⟩
    have T1' := sn_T1_dec hn hu T1
    have hU1 := G.2.2.2.1 n hn
    have ev : upd b3 n (b3 n - 1) n = nI (us n - 1) := by
      have := T1' n hn
      unfold sn_dec at this
      rw [sn_e_s] at this
      exact this
    rw [ev]
    have dn : sn_dec us (nI n) n = us n - 1 := by
      unfold sn_dec
      rw [sn_e_s]
    rcases Nat.eq_zero_or_pos (us n - 1) with z0 | z0
    · rw [z0]
      refine br_t rfl ⟨vp_in_nI hn (by omega), br_c (fun g => ?_) (fun g => ?_)⟩
      · have hl := (T3 n hn hu).mp g
        have T3' : sn_T3 (sn_dec us (nI n)) lv a2 := fun x hx p1 => T3 x hx (by unfold sn_dec at p1; omega)
        exact sn_gb76 hn (dn.trans z0) hp hl (sn_C_in B hn er hl) T1' T3' (fun d' rf' c8 B' => sn_gbl H hU c (s + 1) d' _ rf' _ c8 (by omega) B')
      · have hl : 3 ≤ lv n := by
          rcases Nat.lt_or_ge (lv n) 3 with t | t
          · exact absurd ((T3 n hn hu).mpr t) g
          · exact t
        exact nm_r (nI_1 s) (sn_gbl H hU c (s + 1) p _ _ _ b8 (by omega) (sn_B_pop B hn er (fun _ => hl)))
    · exact br_f (nI_ne0 z0 (by omega)) (nm_r (nI_1 s) (sn_gbl H hU c (s + 1) p _ _ _ b8 (by omega) (sn_B_pop B hn er (fun t => absurd t (by omega)))))
theorem sn_giveBack {post : St1 → Prop} {us : Nat → Nat} {rf : Nat → Int32} {x : Int32}
    (H : ∀ (us : Nat → Nat) (rf b3 b8 : Nat → Int32), sn_G K U us lv rf → sn_g3 us lv rf → sn_S rf → sn_T1 us b3 → sn_T2 us lv rf a1 1624 → sn_T3 us lv a2 → (∀ m, m < 8 → rf (1600 + m) = r0 m) → post (a1, a2, b3, a4, a5, a6, a7, b8)) (hU : U < 1000000)
    (G : sn_G K U us lv rf) (g3 : sn_g3 us lv rf) (T1 : sn_T1 us a3) (T2 : sn_T2 us lv rf a1 1624) (T3 : sn_T3 us lv a2) (hx : rf 1608 = x) (hs : ∀ d, 1 ≤ d → d < 16 → rf (1608 + d) = -1) (hr : ∀ m, m < 8 → rf (1600 + m) = r0 m) :
    wpX_giveBack post (a1, a2, a3, a4, a5, a6, a7, a8) x := by
  rcases G.2.1 1608 (by omega) with e | ⟨n, hn, e, _⟩
  · refine br_f (by rw [← hx, e]; exact sn_nge sn_m1lt) (H us rf a3 a8 G g3 (fun d hd => ?_) T1 T2 T3 hr)
    by_cases e0 : d = 0
    · rw [e0]
      exact e
    · exact hs d (by omega) hd
  · have ex : x = nI n := hx.symm.trans e
    refine br_t (by rw [ex]; exact sn_ge (sn_nneg hn)) (nm_e ⟨401, sn_gbl H hU 400 0 1 us rf a3 _ (by omega) ⟨G, g3, T1, T2, T3, fun p hp => ?_, fun p hp hp2 => hs p hp hp2, by omega, hr⟩⟩)
    have ep : p = 0 := by omega
    subst ep
    rw [pk_us]
    exact ⟨hx.symm, by rw [hx, ex]; exact sn_m1n hn⟩
theorem sn_share {post : St1 → Prop} {A B : Nat} (hA : A < 8) (hB : B < 8) (hx : a5 A = -1 ∨ ∃ n, n < 400 ∧ a5 A = nI n) (h0 : a5 A = -1 → post (a1, a2, a3, a4, upd a5 B (a5 A), upd a6 B (a6 A), a7, a8))
    (h1 : ∀ n, n < 400 → a5 A = nI n → post (a1, a2, upd a3 n (a3 n + 1), a4, upd a5 B (a5 A), upd a6 B (a6 A), a7, a8)) : wpX_share post (a1, a2, a3, a4, a5, a6, a7, a8) (nI A) (nI B) := by
  unfold wpX_share
  dsimp only
  rw [nI_clamp (show A < 2 ^ 31 by omega), nI_clamp (show B < 2 ^ 31 by omega)]
  refine ⟨vp_in_nI hA (by omega), vp_in_nI hB (by omega), nm_e ⟨vp_in_nI hA (by omega), vp_in_nI hB (by omega), nm_e ⟨vp_in_nI hB (by omega), ?_⟩⟩⟩
  rw [pk_us]
  rcases hx with e | ⟨n, hn, e⟩
  · exact br_t (by rw [e]; exact sn_m1lt) (h0 e)
  · refine br_f (by rw [e]; exact sn_nneg hn) ⟨vp_in_nI hB (by omega), by rw [e]; exact vp_in_nI hn (by omega), by rw [e]; exact vp_in_nI hn (by omega), ?_⟩
    have hh := h1 n hn e
    have ec : (a5 A).toNatClampNeg = n := by rw [e, nI_clamp (by omega)]
    rw [ec]
    exact nm_e hh
end
end
section
/-! ===== commit, restore, drop ===== -/
section
variable {a1 a2 a3 a4 a5 a6 a7 a8 : Nat → Int32} {K U : Nat}
theorem sn_root_at {us lv : Nat → Nat} {rf : Nat → Int32} (G : sn_G K U us lv rf) {A i : Nat} (hA : A < 8) (hi : 1600 ≤ i) (hi2 : i ≤ 1608) : sn_at lv i (rf (1600 + A)) := by
  rcases G.2.1 (1600 + A) (by omega) with e | ⟨n, hn, e, _, z, _⟩
  · exact Or.inl e
  · exact Or.inr ⟨n, hn, e, fun t => absurd t (by omega), fun _ _ => z (by omega) (by omega), fun _ => by omega⟩
theorem sn_inc_0 {us lv : Nat → Nat} {rf : Nat → Int32} (G : sn_G K U us lv rf) {i x : Nat} (hi : i < 1624) (hx : x < 400) (h : us x = 0) : sn_inc us (rf i) x = 0 := by
  unfold sn_inc
  have : sn_e (rf i) x = 0 := if_neg (sn_G_free G hx h i hi)
  omega
theorem sn_G_share {us lv : Nat → Nat} {rf : Nat → Int32} (G : sn_G K U us lv rf) {A B : Nat} (hA : A < 8) (hB : B < 8) : sn_G K (U + 1) (sn_inc us (rf (1600 + A))) lv (upd rf (1600 + B) (rf (1600 + A))) := by
  refine sn_G_upd G (by omega) (sn_root_at G hA (by omega) (by omega)) (fun x hx => ?_) (fun x hx => ?_) (fun x h1 h2 => sn_inc_0 G (by omega) h2 (G.2.2.2.2 x h1 h2))
  · unfold sn_inc
    omega
  · have := G.2.2.2.1 x hx
    have := sn_e_le (rf (1600 + A)) x
    unfold sn_inc
    omega
/-- what share leaves of the other rows -/
theorem sn_sh_rest {us lv : Nat → Nat} {rf rf' : Nat → Int32} (G : sn_G K U us lv rf) (g3 : sn_g3 us lv rf) (T2 : sn_T2 us lv rf a1 1624) (T3 : sn_T3 us lv a2) {A : Nat} (hA : A < 8) (hr : ∀ i, i < 1600 → rf' i = rf i) :
    sn_g3 (sn_inc us (rf (1600 + A))) lv rf' ∧ sn_T2 (sn_inc us (rf (1600 + A))) lv rf' a1 1624 ∧ sn_T3 (sn_inc us (rf (1600 + A))) lv a2 := by
  have pos : ∀ x, x < 400 → 0 < sn_inc us (rf (1600 + A)) x → 0 < us x := by
    intro x hx h
    rcases Nat.eq_zero_or_pos (us x) with z | z
    · rw [sn_inc_0 G (by omega) hx z] at h
      omega
    · exact z
  refine ⟨fun x w hx hw hc => ?_, fun x w hx hw h1 h2 h3 => ?_, fun x hx h1 => T3 x hx (pos x hx h1)⟩
  · rw [hr _ (by omega)]
    refine g3 x w hx hw ?_
    rcases hc with q | q
    · unfold sn_inc at q
      exact Or.inl (by omega)
    · exact Or.inr q
  · rw [hr _ (by omega)]
    exact T2 x w hx hw (pos x hx h1) h2 h3
theorem sn_root_or {us lv : Nat → Nat} {rf : Nat → Int32} (G : sn_G K U us lv rf) (R : sn_R rf a5 1624) {A : Nat} (hA : A < 8) : a5 A = -1 ∨ ∃ n, n < 400 ∧ a5 A = nI n := by
  have e := R A hA (by omega)
  rcases G.2.1 (1600 + A) (by omega) with e2 | ⟨n, hn, e2, _⟩
  · exact Or.inl (e.trans e2)
  · exact Or.inr ⟨n, hn, e.trans e2⟩
theorem sn_T1_sh0 {us : Nat → Nat} {x : Int32} (T1 : sn_T1 us a3) (e : x = -1) : sn_T1 (sn_inc us x) a3 := by
  intro y hy
  unfold sn_inc
  rw [e, sn_e_m1 hy]
  exact T1 y hy
theorem sn_I_share {us lv : Nat → Nat} {rf b3 : Nat → Int32} (G : sn_G K U us lv rf) (g3 : sn_g3 us lv rf) (S : sn_S rf) (T2 : sn_T2 us lv rf a1 1624) (T3 : sn_T3 us lv a2) (R : sn_R rf a5 1624) {A B : Nat} (hA : A < 8) (hB : B < 8) (T1' : sn_T1 (sn_inc us (a5 A)) b3) : sn_I K (U + 1) a1 a2 b3 (upd a5 B (a5 A)) := by
  have eA := R A hA (by omega)
  rw [eA] at T1' ⊢
  obtain ⟨g3', T2', T3'⟩ := sn_sh_rest (rf' := upd rf (1600 + B) (rf (1600 + A))) G g3 T2 T3 hA (fun i hi => pk_un (by omega))
  refine ⟨_, lv, _, sn_G_share G hA hB, g3', fun d hd => ?_, T1', T2', T3', fun m hm _ => ?_⟩
  · rw [pk_un (by omega)]
    exact S d hd
  · by_cases e : m = B
    · rw [e, pk_us, pk_us]
    · rw [pk_un e, pk_un (by omega)]
      exact R m hm (by omega)
theorem sn_commit {post : Int32 → St1 → Prop} (I : sn_I K U a1 a2 a3 a5) (H0 : post (-1) (a1, a2, a3, a4, a5, a6, a7, a8))
    (H1 : ∀ (s : Nat) (b3 : Nat → Int32), 1 ≤ s → s < 8 → a4 s = 0 → sn_I K (U + 1) a1 a2 b3 (upd a5 s (a5 0)) → post (sn_mp s) (a1, a2, b3, upd a4 s 1, upd a5 s (a5 0), upd a6 s (a6 0), a7, a8)) :
    wpX_commit post (a1, a2, a3, a4, a5, a6, a7, a8) := by
  obtain ⟨us, lv, rf, G, g3, S, T1, T2, T3, R⟩ := I
  unfold wpX_commit
  refine pk_loop (σ := Unit) (fun f i _ => wX_commit_2 post a1 a2 a3 a4 a5 a6 a7 a8 f (nI i)) (fun i _ => 1 ≤ i) 8 1 () (by omega) (Nat.le_refl 1) (fun f _ _ => br_t (by decide) H0) (fun f i _ hi h1 hh => ?_)
  refine pk_le 8 i (fun z => absurd z (by omega)) (fun _ => ⟨pk_in i 8 hi, ?_⟩)
  rw [nI_clamp (show i < 2 ^ 31 by omega)]
  refine br_c (fun g => ⟨pk_in i 8 hi, nm_e ?_⟩) (fun g => nm_r (nI_1 i) (hh () (by omega)))
  refine sn_share (A := 0) (B := i) (by omega) hi (sn_root_or G R (by omega)) (fun e => ?_) (fun n hn e => ?_)
  · exact H1 i a3 h1 hi g (sn_I_share G g3 S T2 T3 R (by omega) hi (sn_T1_sh0 T1 e))
  · exact H1 i _ h1 hi g (sn_I_share G g3 S T2 T3 R (by omega) hi (by rw [e]; exact sn_T1_inc hn T1))
theorem sn_restore {post : Int32 → St1 → Prop} {s : Nat} (hs : s < 8) (hU : U + 1 < 1000000) (I : sn_I K U a1 a2 a3 a5) (H0 : post (-1) (a1, a2, a3, a4, a5, a6, a7, a8))
    (H1 : ∀ (b3 b8 : Nat → Int32), s < 7 → ¬ a4 (s + 1) = 0 → sn_I K (U + 1) a1 a2 b3 (upd a5 0 (a5 (s + 1))) → post (a6 (s + 1)) (a1, a2, b3, a4, upd a5 0 (a5 (s + 1)), upd a6 0 (a6 (s + 1)), a7, b8)) :
    wpX_restore post (a1, a2, a3, a4, a5, a6, a7, a8) (nI s) := by
  obtain ⟨us, lv, rf, G, g3, S, T1, T2, T3, R⟩ := I
  unfold wpX_restore
  dsimp only
  rw [nI_1, nI_clamp (show s + 1 < 2 ^ 31 by omega)]
  refine br_f (nI_pos (by omega)) (pk_lt 6 s (fun _ => H0) (fun h6 => ⟨pk_in (s + 1) 8 (by omega), br_c (fun _ => H0) (fun g => nm_e ?_)⟩))
  have e0 := R 0 (by omega) (by omega)
  have eA := R (s + 1) (by omega) (by omega)
  -- the old root's use moves to the stack
  have Gs := sn_G_share G (A := s + 1) (B := 0) (by omega) (by omega)
  have c8 : upd rf (1600 + 0) (rf (1600 + (s + 1))) 1608 = -1 := by
    rw [pk_un (by omega)]
    exact S 0 (by omega)
  have G2 : sn_G K (U + 1) (sn_inc us (rf (1600 + (s + 1)))) lv (upd (upd rf (1600 + 0) (rf (1600 + (s + 1)))) 1608 (rf (1600 + 0))) := by
    refine sn_G_upc Gs (by omega) (sn_root_at G (by omega) (by omega) (by omega)) (fun x hx => ?_) Gs.2.2.2.1 Gs.2.2.2.2
    rw [c8, sn_e_m1 hx]
    have h1 := sn_ct_e (f := rf) (y := rf (1600 + (s + 1))) (x := x) (show 1600 + 0 < 1624 by omega)
    have h2 := G.1 x hx
    unfold sn_inc
    omega
  obtain ⟨g3', T2', T3'⟩ := sn_sh_rest (rf' := upd (upd rf (1600 + 0) (rf (1600 + (s + 1)))) 1608 (rf (1600 + 0))) G g3 T2 T3 (A := s + 1) (by omega) (fun i hi => by rw [pk_un (by omega), pk_un (by omega)])
  have rest : ∀ b3 : Nat → Int32, sn_T1 (sn_inc us (a5 (s + 1))) b3 → wpX_giveBack (fun u => match u with | (c1, c2, c3, c4, c5, c6, c7, c8) => post (c6 0) (c1, c2, c3, c4, c5, c6, c7, c8)) (a1, a2, b3, a4, upd a5 0 (a5 (s + 1)), upd a6 0 (a6 (s + 1)), a7, a8) (a5 0) := by
    intro b3 T1'
    rw [eA] at T1'
    refine sn_giveBack (r0 := upd a5 0 (a5 (s + 1))) (fun us' rf' d3 d8 k1 k2 k3 k4 k5 k6 k7 => ?_) hU G2 g3' T1' T2' T3' ?_ (fun d h1 h2 => ?_) (fun m hm => ?_)
    · have := H1 d3 d8 (by omega) g ⟨us', lv, rf', k1, k2, k3, k4, k5, k6, fun m hm _ => (k7 m hm).symm⟩
      show post (upd a6 0 (a6 (s + 1)) 0) _
      rw [pk_us]
      exact this
    · rw [pk_us]
      exact e0.symm
    · rw [pk_un (by omega), pk_un (by omega)]
      exact S d h2
    · rw [pk_un (by omega)]
      by_cases e : m = 0
      · rw [e, pk_us, pk_us]
        exact eA.symm
      · rw [pk_un (by omega), pk_un e]
        exact (R m hm (by omega)).symm
  exact sn_share (A := s + 1) (B := 0) (by omega) (by omega) (sn_root_or G R (by omega)) (fun e => rest _ (sn_T1_sh0 T1 e)) (fun n hn e => rest _ (by rw [e]; exact sn_T1_inc hn T1))
theorem sn_drop {post : Int32 → St1 → Prop} {s : Nat} (hs : s < 8) (hU : U < 1000000) (I : sn_I K U a1 a2 a3 a5) (H0 : post (-1) (a1, a2, a3, a4, a5, a6, a7, a8))
    (H1 : ∀ (b3 b8 : Nat → Int32), s < 7 → ¬ a4 (s + 1) = 0 → sn_I K U a1 a2 b3 (upd a5 (s + 1) (-1)) → post 0 (a1, a2, b3, upd a4 (s + 1) 0, upd a5 (s + 1) (-1), upd a6 (s + 1) 0, a7, b8)) :
    wpX_drop post (a1, a2, a3, a4, a5, a6, a7, a8) (nI s) := by
  obtain ⟨us, lv, rf, G, g3, S, T1, T2, T3, R⟩ := I
  unfold wpX_drop
  dsimp only
  rw [nI_1, nI_clamp (show s + 1 < 2 ^ 31 by omega)]
  refine br_f (nI_pos (by omega)) (pk_lt 6 s (fun _ => H0) (fun h6 => ⟨pk_in (s + 1) 8 (by omega), br_c (fun _ => H0) (fun g => ⟨pk_in (s + 1) 8 (by omega), nm_e ⟨pk_in (s + 1) 8 (by omega), ?_⟩⟩)⟩))
  have eA := R (s + 1) (by omega) (by omega)
  have c8 : upd rf (1600 + (s + 1)) (-1) 1608 = -1 := by
    rw [pk_un (by omega)]
    exact S 0 (by omega)
  have G1 : sn_G K U us lv (upd rf (1600 + (s + 1)) (-1)) := by
    refine sn_G_upd G (by omega) (Or.inl rfl) (fun x hx => ?_) G.2.2.2.1 G.2.2.2.2
    rw [sn_e_m1 hx]
    omega
  have G2 : sn_G K U us lv (upd (upd rf (1600 + (s + 1)) (-1)) 1608 (rf (1600 + (s + 1)))) := by
    refine sn_G_upc G1 (by omega) (sn_root_at G (by omega) (by omega) (by omega)) (fun x hx => ?_) G.2.2.2.1 G.2.2.2.2
    rw [c8, sn_e_m1 hx]
    have h1 := sn_ct_e (f := rf) (y := (-1)) (x := x) (show 1600 + (s + 1) < 1624 by omega)
    rw [sn_e_m1 hx] at h1
    have h2 := G.1 x hx
    omega
  refine sn_giveBack (r0 := upd a5 (s + 1) (-1)) (fun us' rf' d3 d8 k1 k2 k3 k4 k5 k6 k7 => ?_) hU G2 (fun x w hx hw hc => ?_) T1 (fun x w hx hw h1 h2 h3 => ?_) T3 ?_ (fun d h1 h2 => ?_) (fun m hm => ?_)
  · exact ⟨pk_in (s + 1) 8 (by omega), nm_e ⟨pk_in (s + 1) 8 (by omega), nm_e (H1 d3 d8 (by omega) g ⟨us', lv, rf', k1, k2, k3, k4, k5, k6, fun m hm _ => (k7 m hm).symm⟩)⟩⟩
  · rw [pk_un (by omega), pk_un (by omega)]
    exact g3 x w hx hw hc
  · rw [pk_un (by omega), pk_un (by omega)]
    exact T2 x w hx hw h1 h2 h3
  · rw [pk_us]
    exact eA.symm
  · rw [pk_un (by omega), pk_un (by omega)]
    exact S d h2
  · rw [pk_un (by omega)]
    by_cases e : m = s + 1
    · rw [e, pk_us, pk_us]
    · rw [pk_un (by omega), pk_un e]
      exact (R m hm (by omega)).symm
end
end
section
/-! ===== the law ===== -/
section
variable {a1 a2 a3 a4 a5 a6 a7 a8 b1 b2 b3 b4 b5 b6 b7 b8 : Nat → Int32}
theorem sn_changesE {post : Int32 → Prop} {K U M N : Nat} {p q : Int32} (hp : p = sn_mp M) (hq : q = sn_mp N) (hM : M < 9) (hN : N < 9) (I : sn_I K U a1 a2 a3 a5) (i1 : sn_im a4 M) (i2 : sn_im a4 N) (e : a5 M = a5 N) (h : post 0) : wpX_changes post (a1, a2, a3, a4, a5, a6, a7, a8) p q := by
  subst hp hq
  obtain ⟨W, tr, hr⟩ := sn_I_wf I
  refine sn_changes hM hN tr hr (fun _ => ?_) (fun z => absurd ⟨i1, i2⟩ z)
  rw [e, sn_ch_same]
  exact h
theorem sn_sizeE {post : Int32 → Prop} {M : Nat} {p : Int32} (hp : p = sn_mp M) (hM : M < 9) (i1 : sn_im a4 M) (h : post (a6 M)) : wpX_size post (a1, a2, a3, a4, a5, a6, a7, a8) p := by
  subst hp
  exact sn_size hM (fun _ => h) (fun z => absurd i1 z)
theorem sn_mp_0 : (-1 : Int32) = sn_mp 0 := by decide
theorem sn_mp_s (s : Nat) : nI s = sn_mp (s + 1) := (nI_pred s).symm
theorem sn_mp_inj {M N : Nat} (hM : M < 9) (hN : N < 9) (e : sn_mp M = sn_mp N) : M = N := by
  have e1 := (sn_mp1 M hM).1
  have e2 := (sn_mp1 N hN).1
  rw [e, e2] at e1
  exact (sn_inj (by omega) (by omega) e1).symm
/-- what was seen of the watched map -/
def sn_O (M : Nat) (key : Int32) (a1 a2 a4 a5 a6 : Nat → Int32) (x8 x9 x10 x11 x12 : Int32) : Prop :=
  sn_im a4 M ∧ x8 = sn_gt a1 a2 key (a5 M) ∧ x9 = sn_bt a2 key (sn_n3 a1 key (a5 M)) ∧ x10 = a6 M ∧ x11 = sn_nx a1 a2 (a5 M) 256 key ∧ x12 = sn_nx a1 a2 (a5 M) 256 0
theorem sn_O_keep {M : Nat} {key x8 x9 x10 x11 x12 : Int32} (hM : 1 ≤ M) (O : sn_O M key a1 a2 a4 a5 a6 x8 x9 x10 x11 x12) (S : sn_same a1 a2 b1 b2 a5) (e4 : b4 M = a4 M) (e5 : b5 M = a5 M) (e6 : b6 M = a6 M) : sn_O M key b1 b2 b4 b5 b6 x8 x9 x10 x11 x12 := by
  obtain ⟨i1, h1, h2, h3, h4, h5⟩ := O
  obtain ⟨W, tr, ag, ok⟩ := S
  have ok := ok M hM i1.1
  unfold sn_O sn_im
  rw [e4, e5, e6, sn_gt_ag key tr ag ok, sn_ag3 key tr ag ok, sn_bt_ag key ag (sn_ok3 key tr ok), sn_nx_ag tr ag ok, sn_nx_ag tr ag ok]
  exact ⟨i1, h1, h2, h3, h4, h5⟩
end
section
variable {post : Int32 → Prop} {L : Nat} {xs : Nat → Int32} {J : Int32 → (Nat → Int32) → (Nat → Int32) → (Nat → Int32) → (Nat → Int32) → (Nat → Int32) → (Nat → Int32) → (Nat → Int32) → (Nat → Int32) → Prop}
variable {a1 a2 a3 a4 a5 a6 a7 a8 : Nat → Int32} {M k K U kc ks : Nat} {x4 x7 x8 x9 x10 x11 x12 : Int32}
theorem sn_406 (hM : M < 9) (I : sn_I K U a1 a2 a3 a5) (hJ : J (x4 + 3) a1 a2 a3 a4 a5 a6 a7 a8) : wL_law_406 post L xs J (sn_mp M) (nI k) x4 x7 kc ks a1 a2 a3 a4 a5 a6 a7 a8 := by
  obtain ⟨W, tr, hr⟩ := sn_I_wf I
  obtain ⟨b, hb, eb⟩ := pk_andE x7 (m := 7) 3 (by decide)
  obtain ⟨c, hc, ec⟩ := pk_andE (x7 >>> ((3 : Int32) &&& 31)) (m := 7) 3 (by decide)
  unfold wL_law_406
  rw [eb, ec, sn_mp_0]
  refine sn_compared (M := b) (N := c) (by omega) (by omega) tr hr (br_f sn_10 ?_)
  exact sn_compared (M := 0) (N := M) (by omega) hM tr hr (br_f sn_10 (nm_e hJ))
theorem sn_377 {x13 : Int32} (hk : k < 256) (hM : M < 9) (I : sn_I K U a1 a2 a3 a5) (hJ : J (x4 + 3) a1 a2 a3 a4 a5 a6 a7 a8) (hO : x13 = 0 ∨ sn_O M (nI k) a1 a2 a4 a5 a6 x8 x9 x10 x11 x12) :
    wL_law_377 post L xs J (sn_mp M) (nI k) x4 x7 x11 x12 x13 kc ks a1 a2 a3 a4 a5 a6 a7 a8 := by
  have fin : wL_law_406 post L xs J (sn_mp M) (nI k) x4 x7 kc ks a1 a2 a3 a4 a5 a6 a7 a8 := sn_406 hM I hJ
  obtain ⟨W, tr, hr⟩ := sn_I_wf I
  refine br_c (fun _ => fin) (fun g => ?_)
  rcases hO with e | ⟨i1, h1, h2, h3, h4, h5⟩
  · exact absurd e g
  · refine sn_next hM tr hr (nI_pos (by omega)) (fun _ => br_t h4.symm ?_) (fun z => absurd i1 z)
    exact sn_next hM tr hr (by decide) (fun _ => br_t h5.symm fin) (fun z => absurd i1 z)
theorem sn_338 {x13 : Int32} (hk : k < 256) (hM : M < 9) (I : sn_I K U a1 a2 a3 a5) (hJ : J (x4 + 3) a1 a2 a3 a4 a5 a6 a7 a8) (hO : x13 = 0 ∨ sn_O M (nI k) a1 a2 a4 a5 a6 x8 x9 x10 x11 x12) :
    wL_law_338 post L xs J (sn_mp M) (nI k) x4 x7 x8 x9 x10 x11 x12 x13 kc ks a1 a2 a3 a4 a5 a6 a7 a8 := by
  have fin : wL_law_377 post L xs J (sn_mp M) (nI k) x4 x7 x11 x12 x13 kc ks a1 a2 a3 a4 a5 a6 a7 a8 := sn_377 hk hM I hJ hO
  obtain ⟨W, tr, hr⟩ := sn_I_wf I
  refine br_c (fun _ => fin) (fun g => ?_)
  rcases hO with e | ⟨i1, h1, h2, h3, h4, h5⟩
  · exact absurd e g
  · have k0 : ¬ nI k < 0 := nI_pos (by omega)
    have k1 : nI k ≤ 255 := nI_le (b := 255) (by omega) (by decide)
    refine sn_get hM tr hr k0 k1 (fun _ => br_t h1.symm ?_) (fun z => absurd i1 z)
    refine sn_has hM tr hr k0 k1 (fun _ => br_t h2.symm ?_) (fun z => absurd i1 z)
    exact sn_size hM (fun _ => br_t h3.symm fin) (fun z => absurd i1 z)
theorem sn_141 {x5 z0 : Int32} {v : Nat} (hv : v < 256) (hk : k < 256) (hM : M < 9) (hM1 : 1 ≤ M) (hK : K + 4 ≤ 400) (hU : U + 20 < 1000000) (I : sn_I K U a1 a2 a3 a5) (h40 : ¬ a4 0 = 0)
    (hJ : ∀ b1 b2 b3 b4 b5 b6 b7 b8 : Nat → Int32, sn_I (K + 4) (U + 20) b1 b2 b3 b5 → ¬ b4 0 = 0 → J (x4 + 3) b1 b2 b3 b4 b5 b6 b7 b8) (hO : z0 = 0 ∨ sn_O M (nI k) a1 a2 a4 a5 a6 x8 x9 x10 x11 x12) :
    wL_law_141 post L xs J (sn_mp M) (nI k) x4 x5 (nI v) x7 x8 x9 x10 x11 x12 z0 kc ks a1 a2 a3 a4 a5 a6 a7 a8 := by
  have same := sn_same_r I
  have I' : sn_I (K + 4) (U + 20) a1 a2 a3 a5 := sn_I_mono I (by omega) (by omega)
  have keep : ∀ b1 b2 b4 b5 b6 : Nat → Int32, sn_same a1 a2 b1 b2 a5 → (¬ z0 = 0 → sn_im a4 M → b4 M = a4 M ∧ b5 M = a5 M ∧ b6 M = a6 M) → (z0 = 0 ∨ sn_O M (nI k) b1 b2 b4 b5 b6 x8 x9 x10 x11 x12) := by
    intro b1 b2 b4 b5 b6 hs he
    rcases hO with e | O
    · exact Or.inl e
    · by_cases g : z0 = 0
      · exact Or.inl g
      · obtain ⟨e4, e5, e6⟩ := he g O.1
        exact Or.inr (sn_O_keep hM1 O hs e4 e5 e6)
  have put : ∀ w : Int32, wL_law_170 post L xs J (sn_mp M) (nI k) x4 x7 x8 x9 x10 x11 x12 z0 w (nI v) kc ks a1 a2 a3 a4 a5 a6 a7 a8 := by
    intro w
    unfold wL_law_170
    exact sn_put hv hK hU I (fun r b1 b2 b3 b5 b6 b7 J1 S1 E1 => sn_338 hk hM J1 (hJ _ _ _ _ _ _ _ _ J1 h40) (keep _ _ _ _ _ S1 (fun _ i1 => ⟨rfl, (E1 M hM1 i1.1).1, (E1 M hM1 i1.1).2⟩)))
  unfold wL_law_141
  refine br_c (fun _ => br_c (fun _ => br_c (fun _ => br_c (fun _ => br_c (fun _ => ?_) (fun _ => ?_)) (fun _ => ?_)) (fun _ => ?_)) (fun _ => ?_)) (fun _ => br_c (fun _ => put _) (fun _ => put _))
  · -- drop
    obtain ⟨s, hs, es⟩ := pk_andE x7 (m := 7) 3 (by decide)
    rw [es]
    refine sn_drop hs (by omega) I ?_ (fun b3 b8 h7 h4 J1 => ?_)
    · exact br_f (by decide) (sn_338 hk hM I' (hJ _ _ _ _ _ _ _ _ I' h40) hO)
    · have J2 := sn_I_mono J1 (show K ≤ K + 4 by omega) (show U ≤ U + 20 by omega)
      have J3 := hJ a1 a2 b3 (upd a4 (s + 1) 0) (upd a5 (s + 1) (-1)) (upd a6 (s + 1) 0) a7 b8 J2 (by rw [pk_un (by omega)]; exact h40)
      refine br_t rfl (br_c (fun _ => sn_338 hk hM J2 J3 (Or.inl rfl)) (fun g => sn_338 hk hM J2 J3 (keep _ _ _ _ _ same (fun _ _ => ?_))))
      have ne : M ≠ s + 1 := fun t => g (by rw [t]; exact sn_mp_s s)
      exact ⟨pk_un ne, pk_un ne, pk_un ne⟩
  · exact sn_338 hk hM I' (hJ _ _ _ _ _ _ _ _ I' h40) hO
  · -- restore
    obtain ⟨s, hs, es⟩ := pk_andE (nI v) (m := 7) 3 (by decide)
    rw [es]
    refine sn_restore hs (by omega) I ?_ (fun b3 b8 h7 h4 J1 => ?_)
    · exact br_t sn_m1lt (sn_338 hk hM I' (hJ _ _ _ _ _ _ _ _ I' h40) hO)
    · have J2 := sn_I_mono J1 (show K ≤ K + 4 by omega) (show U + 1 ≤ U + 20 by omega)
      have J3 := hJ a1 a2 b3 a4 (upd a5 0 (a5 (s + 1))) (upd a6 0 (a6 (s + 1))) a7 b8 J2 h40
      have fin : wL_law_338 post L xs J (sn_mp M) (nI k) x4 x7 x8 x9 x10 x11 x12 z0 kc ks a1 a2 b3 a4 (upd a5 0 (a5 (s + 1))) (upd a6 0 (a6 (s + 1))) a7 b8 :=
        sn_338 hk hM J2 J3 (keep _ _ _ _ _ same (fun _ _ => ⟨rfl, pk_un (by omega), pk_un (by omega)⟩))
      refine br_c (fun _ => fin) (fun _ => ?_)
      refine sn_changesE (M := 0) (N := s + 1) sn_mp_0 (sn_mp_s s) (by omega) (by omega) J1 ⟨by omega, h40⟩ ⟨by omega, h4⟩ (by rw [pk_us, pk_un (by omega)]) (br_t rfl ?_)
      exact sn_sizeE (M := s + 1) (sn_mp_s s) (by omega) ⟨by omega, h4⟩ (br_t (by rw [pk_un (by omega)]) fin)
  · -- commit
    refine sn_commit I ?_ (fun s b3 h1 h8 h4 J1 => ?_)
    · exact br_t sn_m1lt (sn_338 hk hM I' (hJ _ _ _ _ _ _ _ _ I' h40) hO)
    · have J2 := sn_I_mono J1 (show K ≤ K + 4 by omega) (show U + 1 ≤ U + 20 by omega)
      have h40' : ¬ upd a4 s 1 0 = 0 := by rw [pk_un (by omega)]; exact h40
      have J3 := hJ a1 a2 b3 (upd a4 s 1) (upd a5 s (a5 0)) (upd a6 s (a6 0)) a7 a8 J2 h40'
      have fin : wL_law_338 post L xs J (sn_mp M) (nI k) x4 x7 x8 x9 x10 x11 x12 z0 kc ks a1 a2 b3 (upd a4 s 1) (upd a5 s (a5 0)) (upd a6 s (a6 0)) a7 a8 := by
        refine sn_338 hk hM J2 J3 (keep _ _ _ _ _ same (fun _ i1 => ?_))
        have ne : M ≠ s := fun t => i1.2 (by rw [t]; exact h4)
        exact ⟨pk_un ne, pk_un ne, pk_un ne⟩
      have hs : sn_im (upd a4 s 1) s := ⟨h8, by rw [pk_us]; exact sn_10⟩
      have hz : sn_im (upd a4 s 1) 0 := ⟨by omega, h40'⟩
      refine br_c (fun _ => fin) (fun _ => ?_)
      refine sn_changesE (M := 0) (N := s) sn_mp_0 rfl (by omega) (by omega) J1 hz hs (by rw [pk_us, pk_un (by omega)]) (br_t rfl ?_)
      refine sn_sizeE (M := s) rfl (by omega) hs (sn_sizeE (M := 0) sn_mp_0 (by omega) hz ?_)
      refine br_t (by rw [pk_us, pk_un (by omega)]) (br_c (fun g => br_c (fun _ => fin) (fun g2 => ?_)) (fun _ => fin))
      have e : s = M := sn_mp_inj (by omega) hM g
      rcases hO with t | O
      · exact absurd t g2
      · exact absurd (by rw [← e]; exact h4) O.1.2
  · -- remove
    exact sn_remove hv hK hU I (fun r b1 b2 b3 b5 b6 b7 J1 S1 E1 => sn_338 hk hM J1 (hJ _ _ _ _ _ _ _ _ J1 h40) (keep _ _ _ _ _ S1 (fun _ i1 => ⟨rfl, (E1 M hM1 i1.1).1, (E1 M hM1 i1.1).2⟩)))
theorem sn_82 {x5 : Int32} {v i : Nat} (hv : v < 256) (hk : k < 256) (hM : M < 9) (hM1 : 1 ≤ M) (hK : K + 4 ≤ 400) (hU : U + 20 < 1000000) (I : sn_I K U a1 a2 a3 a5) (h40 : ¬ a4 0 = 0) (hi : i + 2 < L) (hL : L ≤ 260)
    (hJ : ∀ b1 b2 b3 b4 b5 b6 b7 b8 : Nat → Int32, sn_I (K + 4) (U + 20) b1 b2 b3 b5 → ¬ b4 0 = 0 → J (nI i + 3) b1 b2 b3 b4 b5 b6 b7 b8) :
    wL_law_82 post L xs J (sn_mp M) (nI k) (nI i) x5 (nI v) kc ks a1 a2 a3 a4 a5 a6 a7 a8 := by
  obtain ⟨W, tr, hr⟩ := sn_I_wf I
  have k0 : ¬ nI k < 0 := nI_pos (by omega)
  have k1 : nI k ≤ 255 := nI_le (b := 255) (by omega) (by decide)
  refine ⟨pk_in (i + 2) L hi (nI_add i 2) (by omega), nm_e ?_⟩
  by_cases im : sn_im a4 M
  · refine sn_get hM tr hr k0 k1 (fun _ => ?_) (fun z => absurd im z)
    refine sn_has hM tr hr k0 k1 (fun _ => ?_) (fun z => absurd im z)
    refine sn_size hM (fun _ => ?_) (fun z => absurd im z)
    refine sn_next hM tr hr k0 (fun _ => ?_) (fun z => absurd im z)
    refine sn_next hM tr hr (by decide) (fun _ => ?_) (fun z => absurd im z)
    exact br_c (fun _ => sn_141 hv hk hM hM1 hK hU I h40 hJ (Or.inl rfl)) (fun _ => sn_141 hv hk hM hM1 hK hU I h40 hJ (Or.inr ⟨im, rfl, rfl, rfl, rfl, rfl⟩))
  · refine sn_get hM tr hr k0 k1 (fun z => absurd z im) (fun _ => ?_)
    refine sn_has hM tr hr k0 k1 (fun z => absurd z im) (fun _ => ?_)
    refine sn_size hM (fun z => absurd z im) (fun _ => ?_)
    refine sn_next hM tr hr k0 (fun z => absurd z im) (fun _ => ?_)
    refine sn_next hM tr hr (by decide) (fun z => absurd z im) (fun _ => ?_)
    exact br_t sn_m1lt (sn_141 hv hk hM hM1 hK hU I h40 hJ (Or.inl rfl))
end
theorem sn_loop {L : Nat} {xs : Nat → Int32} {M k kc ks : Nat} (hL : L ≤ 260) (hk : k < 256) (hM : M < 9) (hM1 : 1 ≤ M) : ∀ (f t : Nat), 100 ≤ t + f → t ≤ 87 → ∀ a1 a2 a3 a4 a5 a6 a7 a8 : Nat → Int32, sn_I (4 * t) (20 * t) a1 a2 a3 a5 → ¬ a4 0 = 0 →
    wL_law_30 (fun r => r = 1) L xs (sn_mp M) (nI k) kc ks f (nI (2 + 3 * t)) a1 a2 a3 a4 a5 a6 a7 a8
  | 0, t, h1, h2 => absurd h1 (by omega)
  | f + 1, t, h1, h2 => by
    intro a1 a2 a3 a4 a5 a6 a7 a8 I h40
    refine pk_lt L (2 + 3 * t + 3) (fun _ => rfl) (fun hi => ?_) rfl (nI_add _ 3)
    have go : ∀ (v : Nat) (x5 : Int32), v < 256 → wL_law_82 (fun r => r = 1) L xs (wL_law_30 (fun r => r = 1) L xs (sn_mp M) (nI k) kc ks f) (sn_mp M) (nI k) (nI (2 + 3 * t)) x5 (nI v) kc ks a1 a2 a3 a4 a5 a6 a7 a8 := by
      intro v x5 hv
      refine sn_82 hv hk hM hM1 (by omega) (by omega) I h40 (by omega) hL (fun b1 b2 b3 b4 b5 b6 b7 b8 J1 g => ?_)
      have := sn_loop (xs := xs) (kc := kc) (ks := ks) hL hk hM hM1 f (t + 1) (by omega) (by omega) b1 b2 b3 b4 b5 b6 b7 b8 J1 g
      rw [show nI (2 + 3 * t) + 3 = nI (2 + 3 * (t + 1)) from nI_add _ 3]
      exact this
    refine ⟨pk_in (2 + 3 * t) L (by omega) rfl (by omega), nm_e ⟨pk_in (2 + 3 * t + 1) L (by omega) (nI_1 _) (by omega), ?_⟩⟩
    refine br_c (fun _ => ⟨pk_in (2 + 3 * t + 1) L (by omega) (nI_1 _) (by omega), ?_⟩) (fun _ => ⟨pk_in (2 + 3 * t + 1) L (by omega) (nI_1 _) (by omega), ?_⟩)
    · obtain ⟨v, hv, ev⟩ := pk_andE (xs (nI (2 + 3 * t) + 1).toNatClampNeg) (m := 7) 3 (by decide)
      rw [ev]
      exact go v _ (by omega)
    · obtain ⟨v, hv, ev⟩ := pk_andE (xs (nI (2 + 3 * t) + 1).toNatClampNeg) (m := 255) 8 (by decide)
      rw [ev]
      exact go v _ (by omega)
theorem sn_I_0 {a5 : Nat → Int32} (h : ∀ m, m < 8 → a5 m = -1) : sn_I 0 0 (fun _ => 0) (fun _ => 0) (fun _ => 0) a5 := by
  refine ⟨fun _ => 0, fun _ => 0, fun _ => -1, ⟨fun n hn => ?_, fun i hi => Or.inl rfl, fun _ _ => Nat.zero_le 3, fun _ _ => Nat.le_refl 0, fun _ _ _ => rfl⟩, fun _ _ _ _ _ => rfl, fun _ _ => rfl, fun _ _ => rfl, fun n w hn hw h1 => absurd h1 (Nat.lt_irrefl 0), fun n hn h1 => absurd h1 (Nat.lt_irrefl 0), fun m hm _ => h m hm⟩
  rw [sn_ct_none (fun j hj e => sn_m1n hn e.symm)]
  exact Nat.le_refl 0
theorem sn_init {post : St1 → Prop} (H : ∀ a5 : Nat → Int32, (∀ m, m < 8 → a5 m = -1) → post ((fun _ => 0), (fun _ => 0), (fun _ => 0), upd (fun _ => 0) 0 1, a5, (fun _ => 0), (fun _ => 0), (fun _ => 0))) : wpX_init post 8 2444 () := by
  refine ⟨by omega, by omega, by omega, by omega, by omega, by omega, by omega, by omega, by omega, by omega, by omega, by omega, by omega, by omega, by omega, by omega, nm_e ?_⟩
  refine pk_loop (σ := Nat → Int32) (fun f i s => wX_init_79 post 8 2444 8 2444 f (nI i) (fun _ => 0) (fun _ => 0) (fun _ => 0) (upd (fun _ => 0) 0 1) s (fun _ => 0) (fun _ => 0) (fun _ => 0)) (fun i s => ∀ m, m < i → s m = -1) 8 0 (fun _ => 0) (by omega) (fun m hm => absurd hm (by omega)) (fun f s h => br_t (by decide) (H s h)) (fun f i s hi h hh => ?_)
  refine pk_le 8 i (fun z => absurd z (by omega)) (fun _ => ⟨pk_in i 8 hi, nm_e (nm_r (nI_1 i) (hh _ (fun m hm => ?_)))⟩)
  rw [nI_clamp (by omega)]
  by_cases e : m = i
  · rw [e, pk_us]
  · rw [pk_un e]
    exact h m (by omega)
theorem sn_cell {post : Int32 → Prop} {L : Nat} {xs : Nat → Int32} (hL : L ≤ 260) (c : Nat) (hc : c < 1000) (h : ∀ r : Int32, post r) : wpL_cell post L xs () (nI c) :=
  pk_le L c (fun _ => h _) (fun z => ⟨pk_in c L z rfl (by omega), h _⟩)
theorem i_vc (xs : Nat → Int32) (L : Nat) (hL : L ≤ 260) : wpL_law (fun r => r = 1) L xs := by
  refine ⟨8, 2444, by omega, by omega, sn_init (fun a5 h5 => ?_)⟩
  refine sn_cell hL 0 (by omega) (fun r => nm_e ?_)
  refine sn_cell hL 1 (by omega) (fun r' => nm_e ?_)
  obtain ⟨s, hs, es⟩ := pk_andE r (m := 7) 3 (by decide)
  obtain ⟨k, hk, ek⟩ := pk_andE r' (m := 255) 8 (by decide)
  rw [es, ek, sn_mp_s s]
  exact ⟨100, sn_loop hL (by omega) (by omega) (by omega) 100 0 (by omega) (by omega) _ _ _ _ a5 _ _ _ (sn_I_0 h5) (by rw [pk_us]; exact sn_10)⟩
end
