section
theorem pk_us {f : Nat → Int32} {k : Nat} {x : Int32} : upd f k x k = x := if_pos rfl
theorem pk_un {f : Nat → Int32} {k j : Nat} {x : Int32} (h : j ≠ k) : upd f k x j = f j := if_neg h
theorem pk_sub {a b : Nat} (h : b ≤ a) : nI a - nI b = nI (a - b) := by
  obtain ⟨c, rfl⟩ : ∃ c, a = c + b := ⟨a - b, by omega⟩
  rw [← nI_add, Int32.add_sub_cancel, Nat.add_sub_cancel]
theorem pk_m1 (n : Nat) : nI (n + 1) + (-1) = nI n := by
  rw [← nI_1, Int32.add_assoc, show (1 : Int32) + (-1) = 0 from rfl, Int32.add_zero]
theorem pk_mul (a b : Nat) : nI a * nI b = nI (a * b) := (Int32.ofNat_mul a b).symm
theorem pk_div {a d : Nat} (ha : a < 2 ^ 31) (h0 : 0 < d) (hd : d < 2 ^ 31) : nI a / nI d = nI (a / d) := by
  apply Int32.toInt_inj.mp
  rw [lg_idiv_nonneg (by rw [nI_toInt ha]; omega) (by rw [nI_toInt hd]; omega), nI_toInt ha, nI_toInt hd, nI_toInt (Nat.lt_of_le_of_lt (Nat.div_le_self a d) ha)]
  first | rfl | exact (Int.natCast_ediv _ _).symm
theorem pk_ix (x : Int32) {n : Nat} (hn : n < 2 ^ 31) : x < 0 ∨ nI n ≤ x ∨ ∃ j : Nat, j < n ∧ x = nI j := by
  by_cases h : x < 0
  · exact Or.inl h
  · obtain ⟨j, hj, rfl⟩ := nI_of h
    by_cases h2 : j < n
    · exact Or.inr (Or.inr ⟨j, h2, rfl⟩)
    · exact Or.inr (Or.inl (nI_le (by omega) hj))
theorem pk_le {x y : Int32} {A B : Prop} (a b : Nat) (f : a ≤ b → A) (g : b < a → B) (hx : x = nI a := by rfl) (hy : y = nI b := by rfl) (ha : a < 2 ^ 31 := by omega) (hb : b < 2 ^ 31 := by omega) : (x ≤ y → A) ∧ (¬ x ≤ y → B) := by
  subst hx hy
  rw [nI_leI ha hb]
  exact ⟨f, fun z => g (by omega)⟩
theorem pk_lt {x y : Int32} {A B : Prop} (a b : Nat) (f : a < b → A) (g : b ≤ a → B) (hx : x = nI a := by rfl) (hy : y = nI b := by rfl) (ha : a < 2 ^ 31 := by omega) (hb : b < 2 ^ 31 := by omega) : (x < y → A) ∧ (¬ x < y → B) := by
  subst hx hy
  rw [nI_ltI ha hb]
  exact ⟨f, fun z => g (by omega)⟩
theorem pk_eq {x y : Int32} {A B : Prop} (a b : Nat) (f : a = b → A) (g : a ≠ b → B) (hx : x = nI a := by rfl) (hy : y = nI b := by rfl) (ha : a < 2 ^ 31 := by omega) (hb : b < 2 ^ 31 := by omega) : (x = y → A) ∧ (¬ x = y → B) := by
  subst hx hy
  rw [nI_eq ha hb]
  exact ⟨f, g⟩
theorem pk_in {x : Int32} (n N : Nat) (h : n < N) (hx : x = nI n := by rfl) (hN : N < 2 ^ 31 := by omega) : vp_in x N := by
  subst hx
  exact vp_in_nI h hN
theorem pk_cl {x : Int32} (n : Nat) (hx : x = nI n := by rfl) (h : n < 2 ^ 31 := by omega) : x.toNatClampNeg = n := by
  subst hx
  exact nI_clamp h
-- own rows: numbers
theorem nt_b : ∀ j, j < 128 → (nI j).toInt8.toInt32 = nI j := by decide +kernel
theorem nt_nb {j : Nat} (h : j < 128) : vp_nar .byte (nI j).toInt8.toInt32 = nI j := by rw [vp_nar_byte, nt_b j h, nt_b j h]
theorem nt_nb1 {j : Nat} (h : j < 128) : vp_nar .byte (nI j) = nI j := by rw [vp_nar_byte, nt_b j h]
theorem nt_nz {x : Int32} (h : vp_in x 24) : vp_nar .byte x = x := by
  obtain ⟨j, hj, rfl⟩ := vp_in_of h (by decide)
  exact nt_nb1 (by omega)
theorem nt_nz8 {x : Int32} (h : vp_in x 24) : vp_nar .byte x.toInt8.toInt32 = x := by
  obtain ⟨j, hj, rfl⟩ := vp_in_of h (by decide)
  exact nt_nb (by omega)
theorem nt_cl {x : Int32} (h : vp_in x 24) : x = nI x.toNatClampNeg ∧ x.toNatClampNeg < 24 := by
  obtain ⟨j, hj, rfl⟩ := vp_in_of h (by decide)
  rw [nI_clamp (by omega)]
  exact ⟨rfl, hj⟩
theorem nt_b0 : vp_nar .boolean 0 = 0 := rfl
theorem nt_b1 : vp_nar .boolean 1 = 1 := rfl
theorem nt_10 : ¬ (1 : Int32) = 0 := by decide
theorem nt_2 : ¬ (2 : Int32) = 0 := by decide
/-- the range of an int -/
def nt_rg (x : Int32) (m : Int) : Prop := -m ≤ x.toInt ∧ x.toInt ≤ m
theorem nt_rg_mono {x : Int32} {m n : Int} (h : nt_rg x m) (hm : m ≤ n) : nt_rg x n := ⟨by have := h.1; omega, by have := h.2; omega⟩
theorem nt_rg0 {m : Int} (h : 0 ≤ m) : nt_rg 0 m := by
  have e : (0 : Int32).toInt = 0 := by decide
  unfold nt_rg; rw [e]; omega
theorem nt_sub {x y : Int32} (hx : nt_rg x 200) (hy : nt_rg y 200) : (x - y).toInt = x.toInt - y.toInt := by
  obtain ⟨a, b⟩ := hx
  obtain ⟨c, d⟩ := hy
  rw [Int32.toInt_sub]
  exact Int.bmod_eq_of_le (by omega) (by omega)
theorem nt_sqb {a : Int} (h : -400 ≤ a) (h2 : a ≤ 400) : 0 ≤ a * a ∧ a * a ≤ 160000 := by
  have e : a * a = ((a.natAbs * a.natAbs : Nat) : Int) := Int.natAbs_mul_self.symm
  have h3 : a.natAbs ≤ 400 := by omega
  have h4 := Nat.mul_le_mul h3 h3
  rw [e]
  omega
theorem nt_sqm {a b : Int} (h : a.natAbs ≤ b.natAbs) : a * a ≤ b * b := by
  have e : a * a = ((a.natAbs * a.natAbs : Nat) : Int) := Int.natAbs_mul_self.symm
  have e2 : b * b = ((b.natAbs * b.natAbs : Nat) : Int) := Int.natAbs_mul_self.symm
  have h4 := Nat.mul_le_mul h h
  rw [e, e2]
  omega
theorem nt_sq {a b : Int32} (ha : nt_rg a 400) (hb : nt_rg b 400) : (a * a + b * b).toInt = a.toInt * a.toInt + b.toInt * b.toInt := by
  have h1 := nt_sqb ha.1 ha.2
  have h2 := nt_sqb hb.1 hb.2
  have e1 : (a * a).toInt = a.toInt * a.toInt := by
    rw [Int32.toInt_mul]; exact Int.bmod_eq_of_le (by omega) (by omega)
  have e2 : (b * b).toInt = b.toInt * b.toInt := by
    rw [Int32.toInt_mul]; exact Int.bmod_eq_of_le (by omega) (by omega)
  rw [Int32.toInt_add, e1, e2]
  exact Int.bmod_eq_of_le (by omega) (by omega)
/-- the distance of point p from a spot -/
def nt_ds (px py : Nat → Int32) (p : Nat) (x y : Int32) : Int32 := ((px p - x) * (px p - x)) + ((py p - y) * (py p - y))
theorem nt_subr {x y : Int32} (hx : nt_rg x 200) (hy : nt_rg y 200) : nt_rg (x - y) 400 := by
  unfold nt_rg
  rw [nt_sub hx hy]
  have := hx.1; have := hx.2; have := hy.1; have := hy.2
  omega
theorem nt_ds_int {px py : Nat → Int32} {p : Nat} {x y : Int32} (hx : nt_rg (px p) 100) (hy : nt_rg (py p) 100) (h1 : nt_rg x 200) (h2 : nt_rg y 200) :
    (nt_ds px py p x y).toInt = ((px p).toInt - x.toInt) * ((px p).toInt - x.toInt) + ((py p).toInt - y.toInt) * ((py p).toInt - y.toInt) := by
  have a := nt_rg_mono hx (n := 200) (by omega)
  have b := nt_rg_mono hy (n := 200) (by omega)
  unfold nt_ds
  rw [nt_sq (nt_subr a h1) (nt_subr b h2), nt_sub a h1, nt_sub b h2]
theorem nt_ds_comm (px py : Nat → Int32) (p q : Nat) : nt_ds px py p (px q) (py q) = nt_ds px py q (px p) (py p) := by
  unfold nt_ds
  grind
theorem nt_ds_rg {px py : Nat → Int32} {p q : Nat} (hp : nt_rg (px p) 100 ∧ nt_rg (py p) 100) (hq : nt_rg (px q) 100 ∧ nt_rg (py q) 100) :
    0 ≤ (nt_ds px py p (px q) (py q)).toInt ∧ (nt_ds px py p (px q) (py q)).toInt ≤ 80000 := by
  rw [nt_ds_int hp.1 hp.2 (nt_rg_mono hq.1 (by omega)) (nt_rg_mono hq.2 (by omega))]
  have a : ∀ u v : Int, -100 ≤ u → u ≤ 100 → -100 ≤ v → v ≤ 100 → 0 ≤ (u - v) * (u - v) ∧ (u - v) * (u - v) ≤ 40000 := by
    intro u v h1 h2 h3 h4
    have e : (u - v) * (u - v) = (((u - v).natAbs * (u - v).natAbs : Nat) : Int) := Int.natAbs_mul_self.symm
    have h5 : (u - v).natAbs ≤ 200 := by omega
    have h6 := Nat.mul_le_mul h5 h5
    rw [e]
    omega
  have b := a _ _ hp.1.1 hp.1.2 hq.1.1 hq.1.2
  have c := a _ _ hp.2.1 hp.2.2 hq.2.1 hq.2.2
  omega
/-- how far a spot is outside a span -/
def nt_gap (lo hi x : Int32) : Int32 := if lo ≤ x then (if x ≤ hi then 0 else x - hi) else lo - x
theorem nt_gap_r {lo hi x : Int32} (h1 : nt_rg lo 100) (h2 : nt_rg hi 100) (h3 : nt_rg x 200) : nt_rg (nt_gap lo hi x) 400 := by
  have a := nt_rg_mono h1 (n := 200) (by omega)
  have b := nt_rg_mono h2 (n := 200) (by omega)
  unfold nt_gap
  split
  · split
    · exact nt_rg0 (by omega)
    · exact nt_subr h3 b
  · exact nt_subr a h3
theorem nt_gap_le {lo hi x c : Int32} (h1 : nt_rg lo 100) (h2 : nt_rg hi 100) (h3 : nt_rg x 200) (hl : lo ≤ c) (hh : c ≤ hi) :
    (nt_gap lo hi x).toInt * (nt_gap lo hi x).toInt ≤ (c.toInt - x.toInt) * (c.toInt - x.toInt) := by
  have a := nt_rg_mono h1 (n := 200) (by omega)
  have b := nt_rg_mono h2 (n := 200) (by omega)
  have e0 : (0 : Int32).toInt = 0 := by decide
  rw [Int32.le_iff_toInt_le] at hl hh
  apply nt_sqm
  unfold nt_gap
  split
  · split
    · rw [e0]; omega
    · next z1 z2 =>
      rw [Int32.le_iff_toInt_le] at z1 z2
      rw [nt_sub h3 b]; omega
  · next z1 =>
    rw [Int32.le_iff_toInt_le] at z1
    rw [nt_sub a h3]; omega
/-- the distance of a spot from the box at m -/
def nt_bd (bl br bb bt : Nat → Int32) (m : Nat) (x y : Int32) : Int32 :=
  (nt_gap (bl m) (br m) x * nt_gap (bl m) (br m) x) + (nt_gap (bb m) (bt m) y * nt_gap (bb m) (bt m) y)
theorem nt_bd_le {bl br bb bt px py : Nat → Int32} {m p : Nat} {x y : Int32} (h1 : nt_rg (bl m) 100) (h2 : nt_rg (br m) 100) (h3 : nt_rg (bb m) 100) (h4 : nt_rg (bt m) 100)
    (hx : nt_rg x 200) (hy : nt_rg y 200) (hp : nt_rg (px p) 100) (hq : nt_rg (py p) 100) (a1 : bl m ≤ px p) (a2 : px p ≤ br m) (a3 : bb m ≤ py p) (a4 : py p ≤ bt m) :
    nt_bd bl br bb bt m x y ≤ nt_ds px py p x y := by
  rw [Int32.le_iff_toInt_le, nt_ds_int hp hq hx hy]
  unfold nt_bd
  rw [nt_sq (nt_gap_r h1 h2 hx) (nt_gap_r h3 h4 hy)]
  have u := nt_gap_le h1 h2 hx a1 a2
  have v := nt_gap_le h3 h4 hy a3 a4
  omega
theorem nt_half {a b : Nat} (h : a < b) (hb : b ≤ 24) : (nI a + (nI b - 1)) / 2 = nI ((a + b - 1) / 2) := by
  have e : nI b - 1 = nI (b - 1) := by
    obtain ⟨c, rfl⟩ : ∃ c, b = c + 1 := ⟨b - 1, by omega⟩
    exact nI_pred c
  have e2 : (2 : Int32) = nI 2 := rfl
  rw [e, nI_add, e2, pk_div (by omega) (by omega) (by omega)]
  exact congrArg nI (by omega)
theorem nt_m1 {b : Nat} (h : 0 < b) : nI b - 1 = nI (b - 1) := by
  obtain ⟨c, rfl⟩ : ∃ c, b = c + 1 := ⟨b - 1, by omega⟩
  exact nI_pred c
theorem nt_lem1 {a b : Nat} (ha : a < 1000) (hb : b < 1000) : nI a ≤ nI b - 1 ↔ a < b := by
  by_cases h : b = 0
  · subst h
    have e : (nI 0 - 1).toInt = -1 := by decide
    rw [Int32.le_iff_toInt_le, e, nI_toInt (by omega)]
    omega
  · rw [nt_m1 (by omega), nI_leI (by omega) (by omega)]
    omega
end
section
-- the used points, parts of the tree, the stack of parts
def ls_U (us : Nat → Int32) (p : Nat) : Bool := decide (¬ us p = 0)
def ls_all (us : Nat → Int32) : List Nat := (List.range' 0 24).filter (ls_U us)
theorem ls_mem {us : Nat → Int32} {p : Nat} : p ∈ ls_all us ↔ p < 24 ∧ ¬ us p = 0 := by
  unfold ls_all ls_U
  rw [List.mem_filter, List.mem_range'_1, decide_eq_true_iff]
  constructor
  · intro h; exact ⟨by omega, h.2⟩
  · intro h; exact ⟨by omega, h.2⟩
theorem ls_nodup (us : Nat → Int32) : (ls_all us).Nodup := List.Nodup.sublist List.filter_sublist List.nodup_range'
theorem ls_len (us : Nat → Int32) : (ls_all us).length ≤ 24 := by
  have h := List.length_filter_le (ls_U us) (List.range' 0 24)
  rw [List.length_range'] at h
  exact h
theorem ls_count (us : Nat → Int32) (Q : Nat → Bool) : (ls_all us).countP Q = (List.range' 0 24).countP (fun p => Q p && ls_U us p) := List.countP_filter
/-- the root of the part [a, b) -/
def ls_rt (a b : Nat) : Nat := (a + b - 1) / 2
theorem ls_rt_in {a b : Nat} (h : a < b) : a ≤ ls_rt a b ∧ ls_rt a b < b := by unfold ls_rt; omega
/-- the values of the array in [a, b) -/
def ls_sv (tr : Nat → Int32) (a b : Nat) : List Int32 := (List.range' a (b - a)).map tr
def ls_sg (tr : Nat → Int32) (a b : Nat) : List Nat := (ls_sv tr a b).map Int32.toNatClampNeg
theorem ls_sv_mem {tr : Nat → Int32} {a b : Nat} {v : Int32} : v ∈ ls_sv tr a b ↔ ∃ i, a ≤ i ∧ i < b ∧ tr i = v := by
  unfold ls_sv
  rw [List.mem_map]
  constructor
  · rintro ⟨i, hi, e⟩
    rw [List.mem_range'_1] at hi
    exact ⟨i, hi.1, by omega, e⟩
  · rintro ⟨i, h1, h2, e⟩
    exact ⟨i, List.mem_range'_1.mpr ⟨h1, by omega⟩, e⟩
theorem ls_sg_mem {tr : Nat → Int32} {a b q : Nat} : q ∈ ls_sg tr a b ↔ ∃ i, a ≤ i ∧ i < b ∧ (tr i).toNatClampNeg = q := by
  unfold ls_sg
  rw [List.mem_map]
  constructor
  · rintro ⟨v, hv, e⟩
    obtain ⟨i, h1, h2, h3⟩ := ls_sv_mem.mp hv
    exact ⟨i, h1, h2, by rw [h3]; exact e⟩
  · rintro ⟨i, h1, h2, e⟩
    exact ⟨tr i, ls_sv_mem.mpr ⟨i, h1, h2, rfl⟩, e⟩
theorem ls_sv_nil {tr : Nat → Int32} {a b : Nat} (h : b ≤ a) : ls_sv tr a b = [] := by
  unfold ls_sv
  rw [show b - a = 0 by omega]
  rfl
theorem ls_sg_nil {tr : Nat → Int32} {a b : Nat} (h : b ≤ a) : ls_sg tr a b = [] := by
  unfold ls_sg
  rw [ls_sv_nil h]
  rfl
theorem ls_sv_congr {tr tr' : Nat → Int32} {a b : Nat} (h : ∀ i, a ≤ i → i < b → tr' i = tr i) : ls_sv tr' a b = ls_sv tr a b := by
  unfold ls_sv
  apply List.map_congr_left
  intro i hi
  rw [List.mem_range'_1] at hi
  exact h i hi.1 (by omega)
theorem ls_sv_app {tr : Nat → Int32} {a m b : Nat} (h1 : a ≤ m) (h2 : m ≤ b) : ls_sv tr a b = ls_sv tr a m ++ ls_sv tr m b := by
  unfold ls_sv
  rw [← List.map_append]
  have e := @List.range'_append_1 a (m - a) (b - m)
  rw [show a + (m - a) = m by omega, show (m - a) + (b - m) = b - a by omega] at e
  rw [e]
theorem ls_sv_one {tr : Nat → Int32} {m : Nat} : ls_sv tr m (m + 1) = [tr m] := by
  unfold ls_sv
  rw [show m + 1 - m = 1 by omega]
  rfl
theorem ls_sv_split {tr : Nat → Int32} {a m b : Nat} (h1 : a ≤ m) (h2 : m < b) : ls_sv tr a b = ls_sv tr a m ++ (tr m :: ls_sv tr (m + 1) b) := by
  rw [ls_sv_app h1 (Nat.le_of_lt h2), ls_sv_app (show m ≤ m + 1 by omega) (show m + 1 ≤ b by omega), ls_sv_one]
  rfl
theorem ls_sg_split {tr : Nat → Int32} {a m b : Nat} (h1 : a ≤ m) (h2 : m < b) :
    (ls_sg tr a b).Perm ((tr m).toNatClampNeg :: (ls_sg tr (m + 1) b ++ ls_sg tr a m)) := by
  unfold ls_sg
  rw [ls_sv_split h1 h2, List.map_append, List.map_cons]
  exact List.perm_middle.trans (List.Perm.cons _ List.perm_append_comm)
/-- the swap of two neighbours -/
theorem ls_swap {f g : Nat → Int32} {a b j : Nat} (h1 : a ≤ j) (h2 : j + 1 < b) (e1 : g j = f (j + 1)) (e2 : g (j + 1) = f j) (e : ∀ i, i ≠ j → i ≠ j + 1 → g i = f i) :
    (ls_sv g a b).Perm (ls_sv f a b) := by
  rw [ls_sv_split h1 (show j < b by omega), ls_sv_split (tr := g) (show j + 1 ≤ j + 1 by omega) h2, ls_sv_split (tr := f) h1 (show j < b by omega), ls_sv_split (tr := f) (show j + 1 ≤ j + 1 by omega) h2]
  rw [ls_sv_nil (show j + 1 ≤ j + 1 by omega), ls_sv_nil (show j + 1 ≤ j + 1 by omega), e1, e2]
  rw [ls_sv_congr (tr := f) (tr' := g) (a := a) (b := j) (fun i _ hi => e i (by omega) (by omega)), ls_sv_congr (tr := f) (tr' := g) (a := j + 1 + 1) (b := b) (fun i hi _ => e i (by omega) (by omega))]
  exact List.Perm.append_left _ (List.Perm.swap _ _ _)
theorem ls_local {tr tr' : Nat → Int32} {a b c d : Nat} (hc : c ≤ a) (hab : a ≤ b) (hd : b ≤ d) (h : (ls_sv tr' a b).Perm (ls_sv tr a b)) (e : ∀ i, ¬ (a ≤ i ∧ i < b) → tr' i = tr i) :
    (ls_sv tr' c d).Perm (ls_sv tr c d) := by
  rw [ls_sv_app hc (show a ≤ d by omega), ls_sv_app hab hd, ls_sv_app (tr := tr) hc (show a ≤ d by omega), ls_sv_app (tr := tr) hab hd]
  rw [ls_sv_congr (tr := tr) (tr' := tr') (a := c) (b := a) (fun i _ hi => e i (by omega)), ls_sv_congr (tr := tr) (tr' := tr') (a := b) (b := d) (fun i hi _ => e i (by omega))]
  exact List.Perm.append_left _ (List.Perm.append_right _ h)
/-! the boxes -/
section
variable {px py tr bl br bb bt : Nat → Int32}
/-- the box at m holds the points in q, and its borders are within -/
def bx_B (px py tr bl br bb bt : Nat → Int32) (a b : Nat) : Prop :=
  (nt_rg (bl (ls_rt a b)) 100 ∧ nt_rg (br (ls_rt a b)) 100 ∧ nt_rg (bb (ls_rt a b)) 100 ∧ nt_rg (bt (ls_rt a b)) 100) ∧
  ∀ q, q ∈ ls_sg tr a b → bl (ls_rt a b) ≤ px q ∧ px q ≤ br (ls_rt a b) ∧ bb (ls_rt a b) ≤ py q ∧ py q ≤ bt (ls_rt a b)
/-- (c, d) is a part that comes of (a, b) -/
def bx_D (a b c d : Nat) : Prop := ∀ S : Nat → Nat → Prop, S a b → (∀ c d, S c d → c < d → S c (ls_rt c d) ∧ S (ls_rt c d + 1) d) → S c d
def bx (px py tr bl br bb bt : Nat → Int32) (a b : Nat) : Prop := ∀ c d, bx_D a b c d → c < d → bx_B px py tr bl br bb bt c d
theorem bx_D_rf (a b : Nat) : bx_D a b a b := fun _ h _ => h
theorem bx_D_l {a b c d : Nat} (h : bx_D a b c d) (z : c < d) : bx_D a b c (ls_rt c d) := fun S h0 hc => (hc _ _ (h S h0 hc) z).1
theorem bx_D_r {a b c d : Nat} (h : bx_D a b c d) (z : c < d) : bx_D a b (ls_rt c d + 1) d := fun S h0 hc => (hc _ _ (h S h0 hc) z).2
theorem bx_D_tr {a b c d e f : Nat} (h : bx_D a b c d) (h2 : bx_D c d e f) : bx_D a b e f := fun S h0 hc => h2 S (h S h0 hc) hc
theorem bx_D_in {a b c d : Nat} (h : bx_D a b c d) : a ≤ c ∧ d ≤ b := by
  refine h (fun c d => a ≤ c ∧ d ≤ b) ⟨Nat.le_refl _, Nat.le_refl _⟩ ?_
  intro c d h z
  have := ls_rt_in z
  omega
theorem bx_top {a b : Nat} (h : bx px py tr bl br bb bt a b) (z : a < b) : bx_B px py tr bl br bb bt a b := h _ _ (bx_D_rf _ _) z
theorem bx_l {a b : Nat} (h : bx px py tr bl br bb bt a b) (z : a < b) : bx px py tr bl br bb bt a (ls_rt a b) := fun c d g y => h c d (bx_D_tr (bx_D_l (bx_D_rf _ _) z) g) y
theorem bx_r {a b : Nat} (h : bx px py tr bl br bb bt a b) (z : a < b) : bx px py tr bl br bb bt (ls_rt a b + 1) b := fun c d g y => h c d (bx_D_tr (bx_D_r (bx_D_rf _ _) z) g) y
theorem bx_nil {a b : Nat} (h : b ≤ a) : bx px py tr bl br bb bt a b := by
  intro c d g z
  have := g (fun c d => d ≤ c) h (fun c d h z => by omega)
  omega
theorem bx_mk {a b : Nat} (h : bx_B px py tr bl br bb bt a b) (hl : bx px py tr bl br bb bt a (ls_rt a b)) (hr : bx px py tr bl br bb bt (ls_rt a b + 1) b) : bx px py tr bl br bb bt a b := by
  intro c d g z
  have k := g (fun c d => (c = a ∧ d = b) ∨ bx_D a (ls_rt a b) c d ∨ bx_D (ls_rt a b + 1) b c d) (Or.inl ⟨rfl, rfl⟩) (by
    intro c d h z
    rcases h with ⟨rfl, rfl⟩ | h | h
    · exact ⟨Or.inr (Or.inl (bx_D_rf _ _)), Or.inr (Or.inr (bx_D_rf _ _))⟩
    · exact ⟨Or.inr (Or.inl (bx_D_l h z)), Or.inr (Or.inl (bx_D_r h z))⟩
    · exact ⟨Or.inr (Or.inr (bx_D_l h z)), Or.inr (Or.inr (bx_D_r h z))⟩)
  rcases k with ⟨rfl, rfl⟩ | k | k
  · exact h
  · exact hl c d k z
  · exact hr c d k z
theorem bx_congr {tr' bl' br' bb' bt' : Nat → Int32} {a b : Nat} (e : ∀ i, a ≤ i → i < b → tr' i = tr i ∧ bl' i = bl i ∧ br' i = br i ∧ bb' i = bb i ∧ bt' i = bt i)
    (h : bx px py tr bl br bb bt a b) : bx px py tr' bl' br' bb' bt' a b := by
  intro c d g z
  have k := bx_D_in g
  have r := ls_rt_in z
  obtain ⟨_, e1, e2, e3, e4⟩ := e (ls_rt c d) (by omega) (by omega)
  have hh := h c d g z
  unfold bx_B ls_sg at *
  rw [e1, e2, e3, e4, ls_sv_congr (tr := tr) (tr' := tr') (fun i h1 h2 => (e i (by omega) (by omega)).1)]
  exact hh
theorem bx_B_perm {tr' bl' br' bb' bt' : Nat → Int32} {a b : Nat} (p : (ls_sv tr' a b).Perm (ls_sv tr a b)) (e : bl' (ls_rt a b) = bl (ls_rt a b) ∧ br' (ls_rt a b) = br (ls_rt a b) ∧ bb' (ls_rt a b) = bb (ls_rt a b) ∧ bt' (ls_rt a b) = bt (ls_rt a b))
    (h : bx_B px py tr bl br bb bt a b) : bx_B px py tr' bl' br' bb' bt' a b := by
  obtain ⟨e1, e2, e3, e4⟩ := e
  unfold bx_B at *
  rw [e1, e2, e3, e4]
  refine ⟨h.1, fun q hq => h.2 q ?_⟩
  exact (List.Perm.mem_iff (List.Perm.map _ p)).mp hq
end
/-! the stack -/
def sk_ok : List (Nat × Nat) → (Nat → Int32) → (Nat → Int32) → Prop
  | [], _, _ => True
  | (a, b) :: r, pf, pt => pf r.length = nI a ∧ pt r.length = nI b - 1 ∧ a < b ∧ b ≤ 24 ∧ sk_ok r pf pt
theorem sk_put {pf pt pf' pt' : Nat → Int32} : ∀ {r : List (Nat × Nat)}, (∀ j, j < r.length → pf' j = pf j ∧ pt' j = pt j) → sk_ok r pf pt → sk_ok r pf' pt' := by
  intro r
  induction r with
  | nil => intro _ _; trivial
  | cons q r ih =>
    obtain ⟨a, b⟩ := q
    intro e h
    have z := e r.length (by simp)
    refine ⟨by rw [z.1]; exact h.1, by rw [z.2]; exact h.2.1, h.2.2.1, h.2.2.2.1, ih (fun j hj => e j (by simp; omega)) h.2.2.2.2⟩
theorem sk_push {pf pt : Nat → Int32} {r : List (Nat × Nat)} {a b : Nat} (h : sk_ok r pf pt) (z : a < b) (hb : b ≤ 24) : sk_ok ((a, b) :: r) (upd pf r.length (nI a)) (upd pt r.length (nI b - 1)) :=
  ⟨pk_us, pk_us, z, hb, sk_put (fun j hj => ⟨pk_un (by omega), pk_un (by omega)⟩) h⟩
def sk_ad (a b : Nat) (r : List (Nat × Nat)) : List (Nat × Nat) := if a < b then (a, b) :: r else r
def sk_sz : List (Nat × Nat) → Nat
  | [] => 0
  | (a, b) :: r => (b - a) + sk_sz r
theorem sk_len {pf pt : Nat → Int32} : ∀ {r : List (Nat × Nat)}, sk_ok r pf pt → r.length ≤ sk_sz r := by
  intro r
  induction r with
  | nil => intro _; exact Nat.le_refl _
  | cons q r ih =>
    obtain ⟨a, b⟩ := q
    intro h
    have z := ih h.2.2.2.2
    have y := h.2.2.1
    show r.length + 1 ≤ (b - a) + sk_sz r
    omega
def sk_pts (tr : Nat → Int32) : List (Nat × Nat) → List Nat
  | [] => []
  | (a, b) :: r => ls_sg tr a b ++ sk_pts tr r
theorem sk_pts_ad {tr : Nat → Int32} {a b : Nat} {r : List (Nat × Nat)} : sk_pts tr (sk_ad a b r) = ls_sg tr a b ++ sk_pts tr r := by
  unfold sk_ad
  split
  · rfl
  · rw [ls_sg_nil (by omega)]; rfl
theorem sk_sz_ad {a b : Nat} {r : List (Nat × Nat)} : sk_sz (sk_ad a b r) = (b - a) + sk_sz r := by
  unfold sk_ad
  split
  · rfl
  · omega
theorem sk_len_ad {a b : Nat} {r : List (Nat × Nat)} : (sk_ad a b r).length ≤ r.length + (b - a) ∧ (sk_ad a b r).length ≤ r.length + 1 := by
  unfold sk_ad
  split
  · rw [List.length_cons]; omega
  · omega
theorem sk_mem_ad {a b : Nat} {r : List (Nat × Nat)} {q : Nat × Nat} (h : q ∈ sk_ad a b r) : q = (a, b) ∨ q ∈ r := by
  unfold sk_ad at h
  split at h
  · exact List.mem_cons.mp h
  · exact Or.inr h
/-- the stack after a visit of the part (a, b) -/
def sk_hv (a b : Nat) (r : List (Nat × Nat)) : List (Nat × Nat) := sk_ad (ls_rt a b + 1) b (sk_ad a (ls_rt a b) r)
theorem sk_pts_hv {tr : Nat → Int32} {a b : Nat} {r : List (Nat × Nat)} (z : a < b) : (sk_pts tr ((a, b) :: r)).Perm ((tr (ls_rt a b)).toNatClampNeg :: sk_pts tr (sk_hv a b r)) := by
  have h := ls_rt_in z
  unfold sk_hv
  rw [sk_pts_ad, sk_pts_ad, ← List.append_assoc]
  exact List.Perm.append_right _ (ls_sg_split h.1 h.2)
theorem sk_sz_hv {a b : Nat} {r : List (Nat × Nat)} (z : a < b) : sk_sz (sk_hv a b r) + 1 = sk_sz ((a, b) :: r) := by
  have h := ls_rt_in z
  unfold sk_hv
  rw [sk_sz_ad, sk_sz_ad]
  show _ = (b - a) + sk_sz r
  omega
end
section
-- the small methods
def sp_ok (x y f : Int32) : Prop := ¬ x < (-f) ∧ ¬ f < x ∧ ¬ y < (-f) ∧ ¬ f < y
theorem sp_100 {x y : Int32} (h : sp_ok x y 100) : nt_rg x 100 ∧ nt_rg y 100 := by
  obtain ⟨a, b, c, d⟩ := h
  have e : (-100 : Int32).toInt = -100 := by decide
  have e2 : (100 : Int32).toInt = 100 := by decide
  rw [Int32.lt_iff_toInt_lt] at a b c d
  unfold nt_rg
  omega
theorem sp_200 {x y : Int32} (h : sp_ok x y 200) : nt_rg x 200 ∧ nt_rg y 200 := by
  obtain ⟨a, b, c, d⟩ := h
  have e : (-200 : Int32).toInt = -200 := by decide
  have e2 : (200 : Int32).toInt = 200 := by decide
  rw [Int32.lt_iff_toInt_lt] at a b c d
  unfold nt_rg
  omega
def pt_ok (us : Nat → Int32) (p : Int32) : Prop := ∃ j, j < 24 ∧ p = nI j ∧ ¬ us j = 0
theorem pt_neg {us : Nat → Int32} {p : Int32} (h : p < 0) : ¬ pt_ok us p := by
  rintro ⟨j, hj, rfl, _⟩
  exact nI_pos (by omega) h
theorem pt_big {us : Nat → Int32} {p : Int32} (h : nI 24 ≤ p) : ¬ pt_ok us p := by
  rintro ⟨j, hj, rfl, _⟩
  exact nI_ge hj (by omega) h
theorem pt_zero {us : Nat → Int32} {j : Nat} (hj : j < 24) (h : us j = 0) : ¬ pt_ok us (nI j) := by
  rintro ⟨i, hi, e, z⟩
  rw [nI_eq (by omega) (by omega)] at e
  subst e
  exact z h
section
variable {pc bu k fc wa : Int32} {us px py tr bl br bb bt pf pt pd fo fd de le : Nat → Int32}
theorem xs_spot {post : Int32 → Prop} {x y f : Int32} (h1 : sp_ok x y f → post 1) (h0 : ¬ sp_ok x y f → post 0) : wpX_isSpot post (pc, bu, k, fc, wa, us, px, py, tr, bl, br, bb, bt, pf, pt, pd, fo, fd, de, le) x y f :=
  br_c (fun a => h0 (fun z => z.1 a)) (fun a => br_c (fun b => h0 (fun z => z.2.1 b)) (fun b => br_c (fun c => h0 (fun z => z.2.2.1 c)) (fun c => br_c (fun d => h0 (fun z => z.2.2.2 d)) (fun d => h1 ⟨a, b, c, d⟩))))
theorem xs_pt {post : Int32 → Prop} {p : Int32} (h1 : pt_ok us p → post 1) (h0 : ¬ pt_ok us p → post 0) : wpX_isPoint post (pc, bu, k, fc, wa, us, px, py, tr, bl, br, bb, bt, pf, pt, pd, fo, fd, de, le) p := by
  rcases pk_ix p (n := 24) (by decide) with h | h | ⟨j, hj, rfl⟩
  · exact br_t h (h0 (pt_neg h))
  · refine br_f (fun z => ?_) (br_t h (h0 (pt_big h)))
    have h2 : (0 : Int32) ≤ p := Int32.le_trans (by decide) h
    exact Int32.not_lt.mpr h2 z
  · refine br_f (nI_pos (by omega)) (br_f (nI_ge (b := 24) hj (by decide)) (And.intro (vp_in_nI hj (by decide)) ?_))
    rw [nI_clamp (by omega)]
    exact br_c (fun z => h0 (pt_zero hj z)) (fun z => h1 ⟨j, hj, rfl, z⟩)
theorem xs_push {post : SX → Prop} {a b : Nat} {x y d : Int32} {St : List (Nat × Nat)} (hs : sk_ok St pf pt) (hl : St.length < 32) (ha : a ≤ 24) (hb : b ≤ 24) (hx : x = nI a) (hy : y = nI b - 1)
    (K : ∀ pf' pt' pd', sk_ok (sk_ad a b St) pf' pt' → post (pc, bu, nI (sk_ad a b St).length, fc, wa, us, px, py, tr, bl, br, bb, bt, pf', pt', pd', fo, fd, de, le)) : wpX_pushPart post (pc, bu, nI St.length, fc, wa, us, px, py, tr, bl, br, bb, bt, pf, pt, pd, fo, fd, de, le) x y d := by
  subst hx hy
  by_cases z : a < b
  · have e : sk_ad a b St = (a, b) :: St := if_pos z
    rw [e] at K
    have v : vp_in (nI St.length) 32 := vp_in_nI hl (by decide)
    refine br_t ((nt_lem1 (by omega) (by omega)).mpr z) ?_
    refine And.intro v (nm_r (e' := upd pf St.length (nI a)) ?_ (And.intro v (nm_r (e' := upd pt St.length (nI b - 1)) ?_ (And.intro v (nm_e (nm_r (nI_1 _) (K _ _ _ (sk_push hs z hb))))))))
    · rw [nI_clamp (by omega), nt_nb (by omega)]
    · rw [nI_clamp (by omega), nt_m1 (by omega), nt_nb (by omega)]
  · have e : sk_ad a b St = St := if_neg z
    rw [e] at K
    exact br_f (fun h => z ((nt_lem1 (by omega) (by omega)).mp h)) (K _ _ _ hs)
theorem xs_pop {post : Int32 → SX → Prop} {a b : Nat} {r : List (Nat × Nat)} (hs : sk_ok ((a, b) :: r) pf pt) (hl : r.length < 32) (K : post (nI (ls_rt a b)) (pc, bu, nI r.length, fc, wa, us, px, py, tr, bl, br, bb, bt, pf, pt, pd, fo, fd, de, le)) : wpX_popPart post (pc, bu, nI (r.length + 1), fc, wa, us, px, py, tr, bl, br, bb, bt, pf, pt, pd, fo, fd, de, le) := by
  have v : vp_in (nI r.length) 32 := vp_in_nI hl (by decide)
  refine nm_r (nI_pred _) (And.intro v (And.intro v (And.intro nt_2 ?_)))
  rw [nI_clamp (by omega), hs.1, hs.2.1, nt_half hs.2.2.1 hs.2.2.2.1]
  exact K
theorem xs_ph {post : SX → Prop} {a b : Nat} {r : List (Nat × Nat)} (hs : sk_ok ((a, b) :: r) pf pt) (hl : r.length + 1 < 32)
    (K : ∀ pf' pt' pd', sk_ok (sk_hv a b r) pf' pt' → post (pc, bu, nI (sk_hv a b r).length, fc, wa, us, px, py, tr, bl, br, bb, bt, pf', pt', pd', fo, fd, de, le)) : wpX_pushHalves post (pc, bu, nI r.length, fc, wa, us, px, py, tr, bl, br, bb, bt, pf, pt, pd, fo, fd, de, le) (nI (ls_rt a b)) := by
  have v : vp_in (nI r.length) 32 := vp_in_nI (by omega) (by decide)
  have hi := ls_rt_in hs.2.2.1
  have h24 := hs.2.2.2.1
  have e : (nI r.length).toNatClampNeg = r.length := nI_clamp (by omega)
  have hl2 := sk_len_ad (a := a) (b := ls_rt a b) (r := r)
  refine And.intro v (nm_r (e' := nI a) (by rw [e]; exact hs.1) (And.intro v (nm_r (e' := nI b - 1) (by rw [e]; exact hs.2.1) ?_)))
  refine xs_push (St := r) (a := a) (b := ls_rt a b) hs.2.2.2.2 (by omega) (by omega) (by omega) rfl rfl (fun pf' pt' pd' h => ?_)
  exact xs_push (St := sk_ad a (ls_rt a b) r) (a := ls_rt a b + 1) (b := b) h (by omega) (by omega) (by omega) (nI_1 _) rfl (fun pf2 pt2 pd2 h2 => K pf2 pt2 pd2 h2)
theorem xs_start {post : SX → Prop} {n : Nat} (hn : n ≤ 24) (K : ∀ pf' pt' pd', sk_ok (sk_ad 0 n []) pf' pt' → post (nI n, bu, nI (sk_ad 0 n []).length, fc, wa, us, px, py, tr, bl, br, bb, bt, pf', pt', pd', fo, fd, de, le)) : wpX_startParts post (nI n, bu, k, fc, wa, us, px, py, tr, bl, br, bb, bt, pf, pt, pd, fo, fd, de, le) :=
  xs_push (St := []) (a := 0) (b := n) trivial (by decide) (by omega) hn rfl rfl (fun pf' pt' pd' h => K pf' pt' pd' h)
theorem xs_dt {post : Int32 → Prop} {p x y : Int32} (hp : vp_in p 24) (K : post (nt_ds px py p.toNatClampNeg x y)) : wpX_distanceTo post (pc, bu, k, fc, wa, us, px, py, tr, bl, br, bb, bt, pf, pt, pd, fo, fd, de, le) p x y :=
  And.intro hp (nm_e (And.intro hp (nm_e K)))
theorem xs_dob43 {post : Int32 → Prop} {m : Nat} {y z : Int32} (hm : m < 24) (K : post ((z * z) + (nt_gap (bb m) (bt m) y * nt_gap (bb m) (bt m) y))) : wX_distanceOfBox_43 post (nI m) y z pc bu k fc wa us px py tr bl br bb bt pf pt pd fo fd de le := by
  have e : (nI m).toNatClampNeg = m := nI_clamp (by omega)
  have v : vp_in (nI m) 24 := vp_in_nI hm (by decide)
  unfold wX_distanceOfBox_43 wX_distanceOfBox_88
  rw [e]
  unfold nt_gap at K
  refine And.intro v (br_c (fun h => And.intro v (br_c (fun h2 => ?_) (fun h2 => And.intro v ?_))) (fun h => And.intro v ?_))
  · rw [if_pos h, if_pos h2] at K; exact K
  · rw [if_pos h, if_neg h2] at K; exact K
  · rw [if_neg h] at K; exact K
theorem xs_dob {post : Int32 → Prop} {m : Nat} {x y : Int32} (hm : m < 24) (K : post (nt_bd bl br bb bt m x y)) : wpX_distanceOfBox post (pc, bu, k, fc, wa, us, px, py, tr, bl, br, bb, bt, pf, pt, pd, fo, fd, de, le) (nI m) x y := by
  have e : (nI m).toNatClampNeg = m := nI_clamp (by omega)
  have v : vp_in (nI m) 24 := vp_in_nI hm (by decide)
  unfold wpX_distanceOfBox
  dsimp only
  rw [e]
  unfold nt_bd at K
  have g : ∀ z : Int32, nt_gap (bl m) (br m) x = z → wX_distanceOfBox_43 post (nI m) y z pc bu k fc wa us px py tr bl br bb bt pf pt pd fo fd de le := by
    intro z ez
    rw [ez] at K
    exact xs_dob43 hm K
  unfold nt_gap at g
  refine And.intro v (br_c (fun h => And.intro v (br_c (fun h2 => ?_) (fun h2 => And.intro v ?_))) (fun h => And.intro v ?_))
  · exact g _ (by rw [if_pos h, if_pos h2])
  · exact g _ (by rw [if_pos h, if_neg h2])
  · exact g _ (by rw [if_neg h])
theorem xs_coord {post : Int32 → Prop} {p d : Int32} (hp : vp_in p 24) (K : ∀ r, post r) : wpX_coordinate post (pc, bu, k, fc, wa, us, px, py, tr, bl, br, bb, bt, pf, pt, pd, fo, fd, de, le) p d :=
  br_c (fun _ => And.intro hp (K _)) (fun _ => And.intro hp (K _))
end
section
variable {us px py dn gr : Nat → Int32}
theorem ys_spot {post : Int32 → Prop} {x y f : Int32} (h1 : sp_ok x y f → post 1) (h0 : ¬ sp_ok x y f → post 0) : wpY_isSpot post (us, px, py, dn, gr) x y f :=
  br_c (fun a => h0 (fun z => z.1 a)) (fun a => br_c (fun b => h0 (fun z => z.2.1 b)) (fun b => br_c (fun c => h0 (fun z => z.2.2.1 c)) (fun c => br_c (fun d => h0 (fun z => z.2.2.2 d)) (fun d => h1 ⟨a, b, c, d⟩))))
theorem ys_pt {post : Int32 → Prop} {p : Int32} (h1 : pt_ok us p → post 1) (h0 : ¬ pt_ok us p → post 0) : wpY_isPoint post (us, px, py, dn, gr) p := by
  rcases pk_ix p (n := 24) (by decide) with h | h | ⟨j, hj, rfl⟩
  · exact br_t h (h0 (pt_neg h))
  · refine br_f (fun z => ?_) (br_t (Int32.not_le.mp (fun z => ?_)) (h0 (pt_big h)))
    · have h2 : (0 : Int32) ≤ p := Int32.le_trans (by decide) h
      exact Int32.not_lt.mpr h2 z
    · have h2 : nI 24 ≤ (23 : Int32) := Int32.le_trans h z
      exact absurd h2 (by decide)
  · refine br_f (nI_pos (by omega)) (br_f (fun z => absurd (nI_le (a := j) (b := 23) (by omega) (by decide)) (Int32.not_le.mpr z)) (And.intro (vp_in_nI hj (by decide)) ?_))
    rw [nI_clamp (by omega)]
    exact br_c (fun z => h0 (pt_zero hj z)) (fun z => h1 ⟨j, hj, rfl, z⟩)
theorem ys_dist {post : Int32 → Prop} {j : Nat} {x y : Int32} (hj : j < 24) (K : post (nt_ds px py j x y)) : wpY_distance post (us, px, py, dn, gr) (nI j) x y := by
  have v : vp_in (nI j) 24 := vp_in_nI hj (by decide)
  have e : (nI j).toNatClampNeg = j := nI_clamp (by omega)
  unfold wpY_distance
  dsimp only
  rw [e]
  exact And.intro v (And.intro v (And.intro v (And.intro v K)))
end
end
section
-- sortPart, boxPart, build
theorem nt_ltm1 {b i : Nat} (hb : b < 1000) (hi : i < 1000) : nI b - 1 < nI i ↔ b ≤ i := by
  rw [← Int32.not_le, nt_lem1 hi hb]
  omega
section
variable {pc bu k fc wa : Int32} {us px py tr bl br bb bt pf pt pd fo fd de le : Nat → Int32}
theorem xs_sort33 {post : SX → Prop} {J5 : Int32 → (Nat → Int32) → (Nat → Int32) → (Nat → Int32) → (Nat → Int32) → (Nat → Int32) → (Nat → Int32) → (Nat → Int32) → (Nat → Int32) → (Nat → Int32) → (Nat → Int32) → (Nat → Int32) → (Nat → Int32) → (Nat → Int32) → (Nat → Int32) → (Nat → Int32) → Prop}
    {a b : Nat} {x2 x3 x4 p x6 : Int32} (hb : b ≤ 24) (hp : vp_in p 24) : ∀ (n t : Nat) (tr : Nat → Int32), a ≤ t → t < b → t - a < n → (∀ i, a ≤ i → i < b → vp_in (tr i) 24) →
    (∀ tr', (ls_sv tr' a b).Perm (ls_sv (upd tr t p) a b) → (∀ i, ¬ (a ≤ i ∧ i < b) → tr' i = tr i) → J5 (x4 + 1) us px py tr' bl br bb bt pf pt pd fo fd de le) →
    wX_sortPart_33 post J5 (nI a) x2 x3 x4 p x6 pc bu k fc wa n (nI t) us px py tr bl br bb bt pf pt pd fo fd de le := by
  intro n
  induction n with
  | zero => intro t tr _ _ h; omega
  | succ n ih =>
    intro t tr h1 h2 h3 hv K
    have e : (nI t).toNatClampNeg = t := nI_clamp (by omega)
    have v : vp_in (nI t) 24 := vp_in_nI (by omega) (by decide)
    have fin : ∀ T : Nat → Int32, T = upd tr (nI t).toNatClampNeg (vp_nar .byte p) → ∀ X : Int32, X = x4 + 1 → J5 X us px py T bl br bb bt pf pt pd fo fd de le := by
      intro T eT X eX
      rw [eT, eX, e, nt_nz hp]
      exact K _ (List.Perm.refl _) (fun i hi => pk_un (by intro z; subst z; exact hi ⟨h1, h2⟩))
    by_cases z : t ≤ a
    · exact br_t (nI_le z (by omega)) (And.intro v (fun T eT X eX => fin T eT X eX))
    · obtain ⟨s, rfl⟩ : ∃ s, t = s + 1 := ⟨t - 1, by omega⟩
      have es : (nI (s + 1) - 1).toNatClampNeg = s := by rw [nI_pred]; exact nI_clamp (by omega)
      have vs : vp_in (nI (s + 1) - 1) 24 := by rw [nI_pred]; exact vp_in_nI (by omega) (by decide)
      have hs : vp_in (tr s) 24 := hv s (by omega) (by omega)
      refine br_f (nI_ge (by omega) (by omega)) (And.intro vs ?_)
      rw [es]
      refine xs_coord hs (fun r => br_c (fun _ => And.intro v (fun T eT X eX => fin T eT X eX)) (fun _ => And.intro vs (And.intro v (nm_r (e' := upd tr (s + 1) (tr s)) ?_ (nm_r (pk_m1 s) ?_)))))
      · rw [e, nt_nz hs]
      · refine ih s (upd tr (s + 1) (tr s)) (by omega) (by omega) (by omega) ?_ ?_
        · intro i hi hi2
          by_cases w : i = s + 1
          · subst w; rw [pk_us]; exact hs
          · rw [pk_un w]; exact hv i hi hi2
        · intro tr' hp' ho
          refine K tr' (hp'.trans ?_) ?_
          · refine ls_swap (j := s) (by omega) (by omega) ?_ ?_ ?_
            · rw [pk_us, pk_us]
            · rw [pk_un (by omega), pk_us, pk_un (by omega)]
            · intro i hi hi2
              rw [pk_un hi, pk_un hi2, pk_un hi2]
          · intro i hi
            rw [ho i hi, pk_un (by omega)]
theorem xs_sort5 {post : SX → Prop} {a b : Nat} {x3 : Int32} (hb : b ≤ 24) : ∀ (n i : Nat) (tr : Nat → Int32), a < i → i ≤ b → b - i < n → (∀ i, a ≤ i → i < b → vp_in (tr i) 24) →
    (∀ tr', (ls_sv tr' a b).Perm (ls_sv tr a b) → (∀ i, ¬ (a ≤ i ∧ i < b) → tr' i = tr i) → post (pc, bu, k, fc, wa, us, px, py, tr', bl, br, bb, bt, pf, pt, pd, fo, fd, de, le)) →
    wX_sortPart_5 post (nI a) (nI b - 1) x3 pc bu k fc wa n (nI i) us px py tr bl br bb bt pf pt pd fo fd de le := by
  intro n
  induction n with
  | zero => intro i tr _ _ h; omega
  | succ n ih =>
    intro i tr h1 h2 h3 hv K
    by_cases z : i < b
    · have e : (nI i).toNatClampNeg = i := nI_clamp (by omega)
      have v : vp_in (nI i) 24 := vp_in_nI (by omega) (by decide)
      have hi : vp_in (tr i) 24 := hv i (by omega) z
      refine br_f (fun w => by have := (nt_ltm1 (by omega) (by omega)).mp w; omega) (And.intro v (nm_r (e' := tr i) (by rw [e]) ?_))
      refine xs_coord hi (fun r => Exists.intro (i + 1) ?_)
      refine xs_sort33 (b := b) hb hi (i + 1) i tr (by omega) z (by omega) hv ?_
      intro tr' hp ho
      have hp2 : (ls_sv tr' a b).Perm (ls_sv tr a b) := by
        rw [ls_sv_congr (tr := tr) (tr' := upd tr i (tr i))] at hp
        · exact hp
        · intro j _ _
          by_cases w : j = i
          · subst w; rw [pk_us]
          · rw [pk_un w]
      rw [nI_1]
      refine ih (i + 1) tr' (by omega) (by omega) (by omega) ?_ ?_
      · intro j hj hj2
        obtain ⟨j', h1', h2', e'⟩ := ls_sv_mem.mp ((List.Perm.mem_iff hp2).mp (ls_sv_mem.mpr ⟨j, hj, hj2, rfl⟩))
        rw [← e']
        exact hv j' h1' h2'
      · intro tr2 hp3 ho3
        exact K tr2 (hp3.trans hp2) (fun j hj => (ho3 j hj).trans (ho j hj))
    · exact br_t ((nt_ltm1 (by omega) (by omega)).mpr (by omega)) (K tr (List.Perm.refl _) (fun _ _ => rfl))
theorem xs_sort {post : SX → Prop} {a b : Nat} {d : Int32} (h : a < b) (hb : b ≤ 24) (hv : ∀ i, a ≤ i → i < b → vp_in (tr i) 24)
    (K : ∀ tr', (ls_sv tr' a b).Perm (ls_sv tr a b) → (∀ i, ¬ (a ≤ i ∧ i < b) → tr' i = tr i) → post (pc, bu, k, fc, wa, us, px, py, tr', bl, br, bb, bt, pf, pt, pd, fo, fd, de, le)) : wpX_sortPart post (pc, bu, k, fc, wa, us, px, py, tr, bl, br, bb, bt, pf, pt, pd, fo, fd, de, le) (nI a) (nI b - 1) d :=
  nm_r (nI_1 a) (Exists.intro (b + 1) (xs_sort5 hb (b + 1) (a + 1) tr (by omega) (by omega) (by omega) hv K))
theorem xs_box132 {post : SX → Prop} {J41 : Int32 → (Nat → Int32) → (Nat → Int32) → (Nat → Int32) → (Nat → Int32) → (Nat → Int32) → (Nat → Int32) → (Nat → Int32) → (Nat → Int32) → (Nat → Int32) → (Nat → Int32) → (Nat → Int32) → (Nat → Int32) → (Nat → Int32) → (Nat → Int32) → (Nat → Int32) → Prop}
    {m : Nat} {x2 x4 y : Int32} (hm : m < 24) (hy : nt_rg y 100) (hr : nt_rg (bt m) 100)
    (K : ∀ bt', nt_rg (bt' m) 100 → y ≤ bt' m → bt m ≤ bt' m → (∀ i, i ≠ m → bt' i = bt i) → J41 (x4 + 1) us px py tr bl br bb bt' pf pt pd fo fd de le) : wX_boxPart_132 post J41 x2 (nI m) x4 y pc bu k fc wa us px py tr bl br bb bt pf pt pd fo fd de le := by
  have e : (nI m).toNatClampNeg = m := nI_clamp (by omega)
  have v : vp_in (nI m) 24 := vp_in_nI hm (by decide)
  unfold wX_boxPart_132
  rw [e]
  refine And.intro v (br_c (fun h => nm_e (K bt hr h (Int32.le_refl _) (fun _ _ => rfl))) (fun h => And.intro v (nm_e (nm_e (K _ ?_ ?_ ?_ (fun i hi => pk_un hi))))))
  · rw [pk_us]; exact hy
  · rw [pk_us]; exact Int32.le_refl _
  · rw [pk_us]; exact (Int32.le_total _ _).resolve_left h
theorem xs_box113 {post : SX → Prop} {J41 : Int32 → (Nat → Int32) → (Nat → Int32) → (Nat → Int32) → (Nat → Int32) → (Nat → Int32) → (Nat → Int32) → (Nat → Int32) → (Nat → Int32) → (Nat → Int32) → (Nat → Int32) → (Nat → Int32) → (Nat → Int32) → (Nat → Int32) → (Nat → Int32) → (Nat → Int32) → Prop}
    {m : Nat} {x2 x4 y : Int32} (hm : m < 24) (hy : nt_rg y 100) (hr : nt_rg (bb m) 100)
    (K : ∀ bb', nt_rg (bb' m) 100 → bb' m ≤ y → bb' m ≤ bb m → (∀ i, i ≠ m → bb' i = bb i) → wX_boxPart_132 post J41 x2 (nI m) x4 y pc bu k fc wa us px py tr bl br bb' bt pf pt pd fo fd de le) : wX_boxPart_113 post J41 x2 (nI m) x4 y pc bu k fc wa us px py tr bl br bb bt pf pt pd fo fd de le := by
  have e : (nI m).toNatClampNeg = m := nI_clamp (by omega)
  have v : vp_in (nI m) 24 := vp_in_nI hm (by decide)
  unfold wX_boxPart_113
  rw [e]
  refine And.intro v (br_c (fun h => (K bb hr h (Int32.le_refl _) (fun _ _ => rfl))) (fun h => And.intro v (nm_e (K _ ?_ ?_ ?_ (fun i hi => pk_un hi)))))
  · rw [pk_us]; exact hy
  · rw [pk_us]; exact Int32.le_refl _
  · rw [pk_us]; exact (Int32.le_total _ _).resolve_left h
theorem xs_box94 {post : SX → Prop} {J41 : Int32 → (Nat → Int32) → (Nat → Int32) → (Nat → Int32) → (Nat → Int32) → (Nat → Int32) → (Nat → Int32) → (Nat → Int32) → (Nat → Int32) → (Nat → Int32) → (Nat → Int32) → (Nat → Int32) → (Nat → Int32) → (Nat → Int32) → (Nat → Int32) → (Nat → Int32) → Prop}
    {m : Nat} {x2 x4 x y : Int32} (hm : m < 24) (hy : nt_rg x 100) (hr : nt_rg (br m) 100)
    (K : ∀ br', nt_rg (br' m) 100 → x ≤ br' m → br m ≤ br' m → (∀ i, i ≠ m → br' i = br i) → wX_boxPart_113 post J41 x2 (nI m) x4 y pc bu k fc wa us px py tr bl br' bb bt pf pt pd fo fd de le) : wX_boxPart_94 post J41 x2 (nI m) x4 x y pc bu k fc wa us px py tr bl br bb bt pf pt pd fo fd de le := by
  have e : (nI m).toNatClampNeg = m := nI_clamp (by omega)
  have v : vp_in (nI m) 24 := vp_in_nI hm (by decide)
  unfold wX_boxPart_94
  rw [e]
  refine And.intro v (br_c (fun h => (K br hr h (Int32.le_refl _) (fun _ _ => rfl))) (fun h => And.intro v (nm_e (K _ ?_ ?_ ?_ (fun i hi => pk_un hi)))))
  · rw [pk_us]; exact hy
  · rw [pk_us]; exact Int32.le_refl _
  · rw [pk_us]; exact (Int32.le_total _ _).resolve_left h
/-- what holds of a box at m for the point q -/
def bx_q (px py bl br bb bt : Nat → Int32) (m q : Nat) : Prop := bl m ≤ px q ∧ px q ≤ br m ∧ bb m ≤ py q ∧ py q ≤ bt m
def bx_r4 (bl br bb bt : Nat → Int32) (m : Nat) : Prop := nt_rg (bl m) 100 ∧ nt_rg (br m) 100 ∧ nt_rg (bb m) 100 ∧ nt_rg (bt m) 100
def bx_o (bl br bb bt bl' br' bb' bt' : Nat → Int32) (m : Nat) : Prop := ∀ i, i ≠ m → bl' i = bl i ∧ br' i = br i ∧ bb' i = bb i ∧ bt' i = bt i
theorem xs_box41 {post : SX → Prop} {a b m : Nat} (hb : b ≤ 24) (hm : m < 24) (hv : ∀ i, a ≤ i → i < b → vp_in (tr i) 24) (rg : ∀ p, p < 24 → nt_rg (px p) 100 ∧ nt_rg (py p) 100) :
    ∀ (n i : Nat) (bl br bb bt : Nat → Int32), a ≤ i → i ≤ b → b - i < n → bx_r4 bl br bb bt m → (∀ j, a ≤ j → j < i → bx_q px py bl br bb bt m (tr j).toNatClampNeg) →
    (∀ bl' br' bb' bt', bx_r4 bl' br' bb' bt' m → (∀ j, a ≤ j → j < b → bx_q px py bl' br' bb' bt' m (tr j).toNatClampNeg) → bx_o bl br bb bt bl' br' bb' bt' m → post (pc, bu, k, fc, wa, us, px, py, tr, bl', br', bb', bt', pf, pt, pd, fo, fd, de, le)) →
    wX_boxPart_41 post (nI b - 1) (nI m) pc bu k fc wa n (nI i) us px py tr bl br bb bt pf pt pd fo fd de le := by
  intro n
  induction n with
  | zero => intro i _ _ _ _ _ _ h; omega
  | succ n ih =>
    intro i bl br bb bt h1 h2 h3 hr hq K
    by_cases z : i < b
    · have e : (nI i).toNatClampNeg = i := nI_clamp (by omega)
      have v : vp_in (nI i) 24 := vp_in_nI (by omega) (by decide)
      have em : (nI m).toNatClampNeg = m := nI_clamp (by omega)
      have vm : vp_in (nI m) 24 := vp_in_nI hm (by decide)
      have hi : vp_in (tr i) 24 := hv i h1 z
      have hc := (nt_cl hi).2
      obtain ⟨r1, r2, r3, r4⟩ := hr
      have rx := rg _ hc
      refine br_f (fun w => by have := (nt_ltm1 (by omega) (by omega)).mp w; omega) ?_
      rw [e, em]
      refine And.intro v (And.intro hi (nm_e (And.intro v (And.intro hi (nm_e (And.intro vm ?_))))))
      have go : ∀ bl1 : Nat → Int32, nt_rg (bl1 m) 100 → bl1 m ≤ px (tr i).toNatClampNeg → bl1 m ≤ bl m → (∀ i, i ≠ m → bl1 i = bl i) →
          wX_boxPart_94 post (wX_boxPart_41 post (nI b - 1) (nI m) pc bu k fc wa n) (nI b - 1) (nI m) (nI i) (px (tr i).toNatClampNeg) (py (tr i).toNatClampNeg) pc bu k fc wa us px py tr bl1 br bb bt pf pt pd fo fd de le := by
        intro bl1 a1 a2 a3 a4
        refine xs_box94 hm rx.1 r2 (fun br1 b1 b2 b3 b4 => ?_)
        refine xs_box113 hm rx.2 r3 (fun bb1 c1 c2 c3 c4 => ?_)
        refine xs_box132 hm rx.2 r4 (fun bt1 d1 d2 d3 d4 => ?_)
        rw [nI_1]
        refine ih (i + 1) bl1 br1 bb1 bt1 (by omega) (by omega) (by omega) ⟨a1, b1, c1, d1⟩ ?_ ?_
        · intro j hj hj2
          by_cases w : j = i
          · subst w; exact ⟨a2, b2, c2, d2⟩
          · have q := hq j hj (by omega)
            exact ⟨Int32.le_trans a3 q.1, Int32.le_trans q.2.1 b3, Int32.le_trans c3 q.2.2.1, Int32.le_trans q.2.2.2 d3⟩
        · intro bl' br' bb' bt' k1 k2 k3
          refine K bl' br' bb' bt' k1 k2 (fun j hj => ?_)
          have q := k3 j hj
          exact ⟨q.1.trans (a4 j hj), q.2.1.trans (b4 j hj), q.2.2.1.trans (c4 j hj), q.2.2.2.trans (d4 j hj)⟩
      refine br_c (fun h => go bl r1 h (Int32.le_refl _) (fun _ _ => rfl)) (fun h => And.intro vm (nm_e (go _ ?_ ?_ ?_ (fun i hi => pk_un hi))))
      · rw [pk_us]; exact rx.1
      · rw [pk_us]; exact Int32.le_refl _
      · rw [pk_us]; exact (Int32.le_total _ _).resolve_left h
    · refine br_t ((nt_ltm1 (by omega) (by omega)).mpr (by omega)) (K bl br bb bt hr (fun j hj hj2 => hq j hj (by omega)) (fun _ _ => ⟨rfl, rfl, rfl, rfl⟩))
theorem nt_rg100 : nt_rg 100 100 ∧ nt_rg (-100) 100 := by
  have e : (100 : Int32).toInt = 100 := by decide
  have e2 : (-100 : Int32).toInt = -100 := by decide
  unfold nt_rg
  rw [e, e2]
  omega
theorem xs_box {post : SX → Prop} {a b : Nat} (h : a < b) (hb : b ≤ 24) (hv : ∀ i, a ≤ i → i < b → vp_in (tr i) 24) (rg : ∀ p, p < 24 → nt_rg (px p) 100 ∧ nt_rg (py p) 100)
    (K : ∀ bl' br' bb' bt', bx_B px py tr bl' br' bb' bt' a b → bx_o bl br bb bt bl' br' bb' bt' (ls_rt a b) → post (pc, bu, k, fc, wa, us, px, py, tr, bl', br', bb', bt', pf, pt, pd, fo, fd, de, le)) : wpX_boxPart post (pc, bu, k, fc, wa, us, px, py, tr, bl, br, bb, bt, pf, pt, pd, fo, fd, de, le) (nI a) (nI b - 1) := by
  have hi := ls_rt_in h
  have e : (nI (ls_rt a b)).toNatClampNeg = ls_rt a b := nI_clamp (by omega)
  have v : vp_in (nI (ls_rt a b)) 24 := vp_in_nI (by omega) (by decide)
  refine And.intro nt_2 (nm_r (e' := nI (ls_rt a b)) (nt_half h hb) ?_)
  rw [e]
  refine And.intro v (nm_e (And.intro v (nm_e (And.intro v (nm_e (And.intro v (nm_e (Exists.intro (b + 1) ?_))))))))
  refine xs_box41 (a := a) hb (by omega) hv rg (b + 1) a _ _ _ _ (by omega) (by omega) (by omega) ?_ (fun j hj hj2 => by omega) ?_
  · unfold bx_r4
    rw [pk_us, pk_us, pk_us, pk_us]
    exact ⟨nt_rg100.1, nt_rg100.2, nt_rg100.1, nt_rg100.2⟩
  · intro bl' br' bb' bt' k1 k2 k3
    refine K bl' br' bb' bt' ⟨k1, fun q hq => ?_⟩ (fun j hj => ?_)
    · obtain ⟨i, hi1, hi2, rfl⟩ := ls_sg_mem.mp hq
      exact k2 i hi1 hi2
    · have q := k3 j hj
      rw [pk_un hj, pk_un hj, pk_un hj, pk_un hj] at q
      exact q
end
end
section
-- build: the parts from the stack; the whole
theorem ls_vp {tr tr' : Nat → Int32} {a b : Nat} (p : (ls_sv tr' a b).Perm (ls_sv tr a b)) (hv : ∀ i, a ≤ i → i < b → vp_in (tr i) 24) : ∀ i, a ≤ i → i < b → vp_in (tr' i) 24 := by
  intro j hj hj2
  obtain ⟨j', h1', h2', e'⟩ := ls_sv_mem.mp ((List.Perm.mem_iff p).mp (ls_sv_mem.mpr ⟨j, hj, hj2, rfl⟩))
  rw [← e']
  exact hv j' h1' h2'
def bx_out (a b : Nat) (tr bl br bb bt tr' bl' br' bb' bt' : Nat → Int32) : Prop := ∀ i, ¬ (a ≤ i ∧ i < b) → tr' i = tr i ∧ bl' i = bl i ∧ br' i = br i ∧ bb' i = bb i ∧ bt' i = bt i
theorem bd_pure {px py tr bl br bb bt tr1 bl1 br1 bb1 bt1 tr2 bl2 br2 bb2 bt2 tr3 bl3 br3 bb3 bt3 : Nat → Int32} {a b : Nat} (z : a < b)
    (hp1 : (ls_sv tr1 a b).Perm (ls_sv tr a b)) (ho1 : ∀ i, ¬ (a ≤ i ∧ i < b) → tr1 i = tr i) (hB : bx_B px py tr1 bl1 br1 bb1 bt1 a b) (hob : bx_o bl br bb bt bl1 br1 bb1 bt1 (ls_rt a b))
    (hp2 : (ls_sv tr2 (ls_rt a b + 1) b).Perm (ls_sv tr1 (ls_rt a b + 1) b)) (ho2 : bx_out (ls_rt a b + 1) b tr1 bl1 br1 bb1 bt1 tr2 bl2 br2 bb2 bt2) (h2 : bx px py tr2 bl2 br2 bb2 bt2 (ls_rt a b + 1) b)
    (hp3 : (ls_sv tr3 a (ls_rt a b)).Perm (ls_sv tr2 a (ls_rt a b))) (ho3 : bx_out a (ls_rt a b) tr2 bl2 br2 bb2 bt2 tr3 bl3 br3 bb3 bt3) (h3 : bx px py tr3 bl3 br3 bb3 bt3 a (ls_rt a b)) :
    (ls_sv tr3 a b).Perm (ls_sv tr a b) ∧ bx_out a b tr bl br bb bt tr3 bl3 br3 bb3 bt3 ∧ bx px py tr3 bl3 br3 bb3 bt3 a b := by
  have hi := ls_rt_in z
  have q3 : (ls_sv tr3 a b).Perm (ls_sv tr2 a b) := ls_local (Nat.le_refl _) hi.1 (by omega) hp3 (fun i h => (ho3 i h).1)
  have q2 : (ls_sv tr2 a b).Perm (ls_sv tr1 a b) := ls_local (by omega) (by omega) (Nat.le_refl _) hp2 (fun i h => (ho2 i h).1)
  refine ⟨(q3.trans q2).trans hp1, ?_, ?_⟩
  · intro i h
    obtain ⟨a1, a2, a3, a4, a5⟩ := ho3 i (by omega)
    obtain ⟨b1, b2, b3, b4, b5⟩ := ho2 i (by omega)
    obtain ⟨c2, c3, c4, c5⟩ := hob i (by omega)
    exact ⟨(a1.trans b1).trans (ho1 i h), (a2.trans b2).trans c2, (a3.trans b3).trans c3, (a4.trans b4).trans c4, (a5.trans b5).trans c5⟩
  · refine bx_mk (bx_B_perm (q3.trans q2) ?_ hB) h3 (bx_congr (fun i h1 h4 => ho3 i (by omega)) h2)
    obtain ⟨_, a2, a3, a4, a5⟩ := ho3 (ls_rt a b) (by omega)
    obtain ⟨_, b2, b3, b4, b5⟩ := ho2 (ls_rt a b) (by omega)
    exact ⟨a2.trans b2, a3.trans b3, a4.trans b4, a5.trans b5⟩
section
variable {pc bu k fc wa : Int32} {us px py tr bl br bb bt pf pt pd fo fd de le : Nat → Int32}
theorem bd_rec {post : SX → Prop} (rg : ∀ p, p < 24 → nt_rg (px p) 100 ∧ nt_rg (py p) 100) : ∀ (s a b : Nat), b - a ≤ s → b ≤ 24 →
    ∀ (n : Nat) (rest : List (Nat × Nat)) (tr bl br bb bt pf pt pd : Nat → Int32), sk_ok (sk_ad a b rest) pf pt → rest.length + (b - a) ≤ 24 → (∀ i, a ≤ i → i < b → vp_in (tr i) 24) →
    (∀ tr' bl' br' bb' bt' pf' pt' pd' : Nat → Int32, (ls_sv tr' a b).Perm (ls_sv tr a b) → bx_out a b tr bl br bb bt tr' bl' br' bb' bt' → bx px py tr' bl' br' bb' bt' a b → sk_ok rest pf' pt' →
      wX_build_66 post n pc bu (nI rest.length) fc wa us px py tr' bl' br' bb' bt' pf' pt' pd' fo fd de le) →
    wX_build_66 post (n + (b - a)) pc bu (nI (sk_ad a b rest).length) fc wa us px py tr bl br bb bt pf pt pd fo fd de le := by
  intro s
  induction s with
  | zero =>
    intro a b hs hb n rest tr bl br bb bt pf pt pd hk hl hv K
    have e : sk_ad a b rest = rest := if_neg (by omega)
    rw [e] at hk ⊢
    rw [show n + (b - a) = n by omega]
    exact K tr bl br bb bt pf pt pd (List.Perm.refl _) (fun _ _ => ⟨rfl, rfl, rfl, rfl, rfl⟩) (bx_nil (by omega)) hk
  | succ s ih =>
    intro a b hs hb n rest tr bl br bb bt pf pt pd hk hl hv K
    by_cases z : a < b
    · have hi := ls_rt_in z
      have e : sk_ad a b rest = (a, b) :: rest := if_pos z
      rw [e] at hk ⊢
      have en : n + (b - a) = ((n + (ls_rt a b - a)) + (b - (ls_rt a b + 1))) + 1 := by omega
      rw [en]
      have v : vp_in (nI rest.length) 32 := vp_in_nI (by omega) (by decide)
      have ec : (nI rest.length).toNatClampNeg = rest.length := nI_clamp (by omega)
      have hl2 := sk_len_ad (a := a) (b := ls_rt a b) (r := rest)
      refine br_f (nI_nle (n := rest.length + 1) (by omega) (by omega)) (nm_r (nI_pred rest.length) (And.intro v (nm_r (e' := nI a) (by rw [ec]; exact hk.1) (And.intro v (nm_r (e' := nI b - 1) (by rw [ec]; exact hk.2.1) (And.intro v (nm_e ?_)))))))
      refine xs_sort z hb hv (fun tr1 hp1 ho1 => ?_)
      have hv1 := ls_vp hp1 hv
      refine xs_box z hb hv1 rg (fun bl1 br1 bb1 bt1 hB hob => And.intro nt_2 (nm_r (e' := nI (ls_rt a b)) (nt_half z hb) ?_))
      refine xs_push (St := rest) (a := a) (b := ls_rt a b) hk.2.2.2.2 (by omega) (by omega) (by omega) rfl rfl (fun pf1 pt1 pd1 hs1 => ?_)
      refine xs_push (St := sk_ad a (ls_rt a b) rest) (a := ls_rt a b + 1) (b := b) hs1 (by omega) (by omega) hb (nI_1 _) rfl (fun pf2 pt2 pd2 hs2 => ?_)
      refine ih (ls_rt a b + 1) b (by omega) hb (n + (ls_rt a b - a)) (sk_ad a (ls_rt a b) rest) tr1 bl1 br1 bb1 bt1 pf2 pt2 pd2 hs2 (by omega) (fun i h1 h2 => hv1 i (by omega) h2) ?_
      intro tr2 bl2 br2 bb2 bt2 pf3 pt3 pd3 hp2 ho2 hx2 hs3
      refine ih a (ls_rt a b) (by omega) (by omega) n rest tr2 bl2 br2 bb2 bt2 pf3 pt3 pd3 hs3 (by omega) (fun i h1 h2 => by rw [(ho2 i (by omega)).1]; exact hv1 i h1 (by omega)) ?_
      intro tr3 bl3 br3 bb3 bt3 pf4 pt4 pd4 hp3 ho3 hx3 hs4
      obtain ⟨g1, g2, g3⟩ := bd_pure z hp1 ho1 hB hob hp2 ho2 hx2 hp3 ho3 hx3
      exact K tr3 bl3 br3 bb3 bt3 pf4 pt4 pd4 g1 g2 g3 hs4
    · have e : sk_ad a b rest = rest := if_neg z
      rw [e] at hk ⊢
      rw [show n + (b - a) = n by omega]
      exact K tr bl br bb bt pf pt pd (List.Perm.refl _) (fun _ _ => ⟨rfl, rfl, rfl, rfl, rfl⟩) (bx_nil (by omega)) hk
end
/-- the tree stands: it holds the used points, and its boxes are right -/
def tk (us px py tr bl br bb bt : Nat → Int32) : Prop := (ls_sv tr 0 (ls_all us).length).Perm ((ls_all us).map nI) ∧ bx px py tr bl br bb bt 0 (ls_all us).length
theorem tk_vp {us px py tr bl br bb bt : Nat → Int32} (h : tk us px py tr bl br bb bt) : ∀ i, i < (ls_all us).length → vp_in (tr i) 24 := by
  intro i hi
  have m := (List.Perm.mem_iff h.1).mp (ls_sv_mem.mpr ⟨i, Nat.zero_le _, hi, rfl⟩)
  obtain ⟨p, hp, e⟩ := List.mem_map.mp m
  rw [← e]
  exact vp_in_nI (ls_mem.mp hp).1 (by decide)
theorem tk_pts {us px py tr bl br bb bt : Nat → Int32} (h : tk us px py tr bl br bb bt) : (ls_sg tr 0 (ls_all us).length).Perm (ls_all us) := by
  have k := List.Perm.map Int32.toNatClampNeg h.1
  rw [List.map_map] at k
  have e : (ls_all us).map (Int32.toNatClampNeg ∘ nI) = ls_all us := by
    have e2 : (ls_all us).map (Int32.toNatClampNeg ∘ nI) = (ls_all us).map id := by
      apply List.map_congr_left
      intro p hp
      have := (ls_mem.mp hp).1
      exact nI_clamp (by omega)
    rw [e2, List.map_id]
  rw [e] at k
  exact k
theorem ls_fl (us : Nat → Int32) (i : Nat) : (List.range' 0 (i + 1)).filter (ls_U us) = (List.range' 0 i).filter (ls_U us) ++ (if us i = 0 then [] else [i]) := by
  rw [List.range'_1_concat, List.filter_append, Nat.zero_add]
  congr 1
  unfold ls_U
  by_cases h : us i = 0
  · rw [if_pos h]; simp [h]
  · rw [if_neg h]; simp [h]
section
variable {pc bu k fc wa : Int32} {us px py tr bl br bb bt pf pt pd fo fd de le : Nat → Int32}
theorem bd_17 {post : SX → Prop} (rg : ∀ p, p < 24 → nt_rg (px p) 100 ∧ nt_rg (py p) 100)
    (K : ∀ (k' : Int32) (tr' bl' br' bb' bt' pf' pt' pd' : Nat → Int32), tk us px py tr' bl' br' bb' bt' → post (pc, bu, k', fc, wa, us, px, py, tr', bl', br', bb', bt', pf', pt', pd', fo, fd, de, le)) :
    ∀ (n i c : Nat) (tr : Nat → Int32), i ≤ 24 → 24 - i < n → c = ((List.range' 0 i).filter (ls_U us)).length → ls_sv tr 0 c = ((List.range' 0 i).filter (ls_U us)).map nI →
    wX_build_17 post pc bu k fc wa n (nI c) (nI i) us px py tr bl br bb bt pf pt pd fo fd de le := by
  intro n
  induction n with
  | zero => intro i c tr _ h; omega
  | succ n ih =>
    intro i c tr h1 h2 hc hs
    by_cases z : i < 24
    · have e : (nI i).toNatClampNeg = i := nI_clamp (by omega)
      have v : vp_in (nI i) 24 := vp_in_nI (by omega) (by decide)
      have hl : ((List.range' 0 i).filter (ls_U us)).length ≤ i := by
        have h := List.length_filter_le (ls_U us) (List.range' 0 i)
        rw [List.length_range'] at h
        exact h
      refine br_f (nI_ge (b := 24) z (by decide)) (And.intro v ?_)
      rw [e]
      have f := ls_fl us i
      refine br_c (fun u => nm_r (nI_1 i) ?_) (fun u => And.intro (vp_in_nI (by omega) (by decide)) (nm_r (e' := upd tr c (nI i)) ?_ (nm_r (nI_1 c) (nm_r (nI_1 i) ?_))))
      · rw [if_pos u, List.append_nil] at f
        exact ih (i + 1) c tr (by omega) (by omega) (by rw [f]; exact hc) (by rw [f]; exact hs)
      · rw [nI_clamp (by omega), nt_nb (by omega)]
      · rw [if_neg u] at f
        refine ih (i + 1) (c + 1) (upd tr c (nI i)) (by omega) (by omega) (by rw [f, List.length_append, ← hc]; rfl) ?_
        rw [f, List.map_append, ← hs, ls_sv_app (Nat.zero_le c) (Nat.le_succ c), ls_sv_one, pk_us]
        rw [ls_sv_congr (tr := tr) (tr' := upd tr c (nI i)) (fun j _ hj => pk_un (by omega))]
        rfl
    · have e24 : i = 24 := by omega
      subst e24
      have hN : c = (ls_all us).length := hc
      have hS : ls_sv tr 0 c = (ls_all us).map nI := hs
      have hL := ls_len us
      refine br_t (Int32.le_refl _) ?_
      refine xs_push (St := []) (a := 0) (b := c) trivial (by decide) (by omega) (by omega) rfl rfl (fun pf' pt' pd' hk => ?_)
      refine Exists.intro (1 + (c - 0)) (bd_rec rg c 0 c (by omega) (by omega) 1 [] tr bl br bb bt pf' pt' pd' hk (by simp; omega) ?_ ?_)
      · intro j _ hj
        have m : tr j ∈ ls_sv tr 0 c := ls_sv_mem.mpr ⟨j, Nat.zero_le _, hj, rfl⟩
        rw [hS] at m
        obtain ⟨p, hp, e⟩ := List.mem_map.mp m
        rw [← e]
        exact vp_in_nI (ls_mem.mp hp).1 (by decide)
      · intro tr1 bl1 br1 bb1 bt1 pf1 pt1 pd1 hp1 ho1 hx1 _
        refine br_t (by decide) (K _ tr1 bl1 br1 bb1 bt1 pf1 pt1 pd1 ⟨?_, ?_⟩)
        · rw [hS, hN] at hp1
          exact hp1
        · rw [hN] at hx1
          exact hx1
theorem xs_build {post : SX → Prop} (hb : bu = 0 ∨ tk us px py tr bl br bb bt) (rg : ∀ p, p < 24 → nt_rg (px p) 100 ∧ nt_rg (py p) 100)
    (K : ∀ (bu' k' : Int32) (tr' bl' br' bb' bt' pf' pt' pd' : Nat → Int32), tk us px py tr' bl' br' bb' bt' → post (pc, bu', k', fc, wa, us, px, py, tr', bl', br', bb', bt', pf', pt', pd', fo, fd, de, le)) : wpX_build post (pc, bu, k, fc, wa, us, px, py, tr, bl, br, bb, bt, pf, pt, pd, fo, fd, de, le) := by
  by_cases z : bu = 0
  · exact br_t z (Exists.intro 25 (bd_17 rg (fun k' tr' bl' br' bb' bt' pf' pt' pd' h => K 1 k' tr' bl' br' bb' bt' pf' pt' pd' h) 25 0 0 tr (by decide) (by decide) rfl rfl))
  · exact br_f z (K bu k tr bl br bb bt pf pt pd (hb.resolve_left z))
end
end
section
-- the law of a walk over the tree; countWithin, inBox
theorem tv_law {σ : Type} {N : Nat} {px py tr bl br bb bt : Nat → Int32} (W : Nat → Int32 → (Nat → Int32) → (Nat → Int32) → (Nat → Int32) → σ → Prop) (I : σ → List Nat → Prop)
    (hv : ∀ i, i < N → vp_in (tr i) 24)
    (hperm : ∀ (s : σ) (R R' : List Nat), R.Perm R' → I s R → I s R')
    (hend : ∀ (n : Nat) (pf pt pd : Nat → Int32) (s : σ), I s [] → W (n + 1) (nI 0) pf pt pd s)
    (hstep : ∀ (n a b : Nat) (r : List (Nat × Nat)) (pf pt pd : Nat → Int32) (s : σ) (R R' : List Nat), r.length < 24 → sk_ok ((a, b) :: r) pf pt → bx_B px py tr bl br bb bt a b →
      vp_in (tr (ls_rt a b)) 24 → (∀ q, q ∈ ls_sg tr a b → q < 24) → I s (ls_sg tr a b ++ R) → I s ((tr (ls_rt a b)).toNatClampNeg :: R') →
      (I s R → W n (nI r.length) pf pt pd s) →
      (∀ (s' : σ) (pf' pt' pd' : Nat → Int32), I s' R' → sk_ok (sk_hv a b r) pf' pt' → W n (nI (sk_hv a b r).length) pf' pt' pd' s') → W (n + 1) (nI (r.length + 1)) pf pt pd s) :
    ∀ (n : Nat) (St : List (Nat × Nat)) (pf pt pd : Nat → Int32) (s : σ), sk_sz St < n → sk_sz St ≤ 24 → sk_ok St pf pt →
      (∀ q, q ∈ St → bx px py tr bl br bb bt q.1 q.2 ∧ q.2 ≤ N) → I s (sk_pts tr St) → W n (nI St.length) pf pt pd s := by
  intro n
  induction n with
  | zero => intro St _ _ _ _ h; omega
  | succ n ih =>
    intro St pf pt pd s h1 h2 hk hx hI
    cases St with
    | nil => exact hend n pf pt pd s hI
    | cons q r =>
      obtain ⟨a, b⟩ := q
      have z := hk.2.2.1
      have hi := ls_rt_in z
      have hq := hx (a, b) (List.mem_cons_self)
      have hbN : b ≤ N := hq.2
      have hsz : sk_sz ((a, b) :: r) = (b - a) + sk_sz r := rfl
      have hsz2 := sk_sz_hv (r := r) z
      have hl := sk_len hk.2.2.2.2
      refine hstep n a b r pf pt pd s (sk_pts tr r) (sk_pts tr (sk_hv a b r)) (by omega) hk (bx_top hq.1 z) (hv _ (by omega)) ?_ hI (hperm s _ _ (sk_pts_hv z) hI) ?_ ?_
      · intro p hp
        obtain ⟨i, i1, i2, rfl⟩ := ls_sg_mem.mp hp
        exact (nt_cl (hv i (by omega))).2
      · intro hI2
        exact ih r pf pt pd s (by omega) (by omega) hk.2.2.2.2 (fun q hq => hx q (List.mem_cons_of_mem _ hq)) hI2
      · intro s' pf' pt' pd' hI2 hk2
        refine ih (sk_hv a b r) pf' pt' pd' s' (by omega) (by omega) hk2 ?_ hI2
        intro q hm
        rcases sk_mem_ad hm with rfl | hm
        · exact ⟨bx_r hq.1 z, hbN⟩
        · rcases sk_mem_ad hm with rfl | hm
          · exact ⟨bx_l hq.1 z, by show ls_rt a b ≤ N; omega⟩
          · exact hx q (List.mem_cons_of_mem _ hm)
theorem tv_go {σ : Type} {us px py tr bl br bb bt : Nat → Int32} (W : Nat → Int32 → (Nat → Int32) → (Nat → Int32) → (Nat → Int32) → σ → Prop) (I : σ → List Nat → Prop)
    (hT : tk us px py tr bl br bb bt)
    (hperm : ∀ (s : σ) (R R' : List Nat), R.Perm R' → I s R → I s R')
    (hend : ∀ (n : Nat) (pf pt pd : Nat → Int32) (s : σ), I s [] → W (n + 1) (nI 0) pf pt pd s)
    (hstep : ∀ (n a b : Nat) (r : List (Nat × Nat)) (pf pt pd : Nat → Int32) (s : σ) (R R' : List Nat), r.length < 24 → sk_ok ((a, b) :: r) pf pt → bx_B px py tr bl br bb bt a b →
      vp_in (tr (ls_rt a b)) 24 → (∀ q, q ∈ ls_sg tr a b → q < 24) → I s (ls_sg tr a b ++ R) → I s ((tr (ls_rt a b)).toNatClampNeg :: R') →
      (I s R → W n (nI r.length) pf pt pd s) →
      (∀ (s' : σ) (pf' pt' pd' : Nat → Int32), I s' R' → sk_ok (sk_hv a b r) pf' pt' → W n (nI (sk_hv a b r).length) pf' pt' pd' s') → W (n + 1) (nI (r.length + 1)) pf pt pd s)
    (pf pt pd : Nat → Int32) (s : σ) (hk : sk_ok (sk_ad 0 (ls_all us).length []) pf pt) (hI : I s (ls_all us)) : W 25 (nI (sk_ad 0 (ls_all us).length []).length) pf pt pd s := by
  have hL := ls_len us
  have hz : sk_sz (sk_ad 0 (ls_all us).length []) = (ls_all us).length - 0 + 0 := sk_sz_ad
  refine tv_law (N := (ls_all us).length) W I (tk_vp hT) hperm hend hstep 25 _ pf pt pd s (by omega) (by omega) hk ?_ ?_
  · intro q hq
    rcases sk_mem_ad hq with rfl | hq
    · exact ⟨hT.2, Nat.le_refl _⟩
    · exact absurd hq List.not_mem_nil
  · rw [sk_pts_ad]
    refine hperm s _ _ ?_ hI
    show (ls_all us).Perm (ls_sg tr 0 (ls_all us).length ++ [])
    rw [List.append_nil]
    exact (tk_pts hT).symm
theorem tv_prune {px py tr bl br bb bt : Nat → Int32} {a b q : Nat} {x y : Int32} (hB : bx_B px py tr bl br bb bt a b) (rg : ∀ p, p < 24 → nt_rg (px p) 100 ∧ nt_rg (py p) 100)
    (hx : nt_rg x 200) (hy : nt_rg y 200) (hq : q ∈ ls_sg tr a b) (h24 : q < 24) : nt_bd bl br bb bt (ls_rt a b) x y ≤ nt_ds px py q x y := by
  obtain ⟨⟨r1, r2, r3, r4⟩, h⟩ := hB
  obtain ⟨b1, b2, b3, b4⟩ := h q hq
  exact nt_bd_le r1 r2 r3 r4 hx hy (rg q h24).1 (rg q h24).2 b1 b2 b3 b4
theorem tv_rt {a b : Nat} {r : List (Nat × Nat)} {pf pt : Nat → Int32} (hk : sk_ok ((a, b) :: r) pf pt) : ls_rt a b < 24 := by
  have h := ls_rt_in hk.2.2.1
  have h2 := hk.2.2.2.1
  omega
theorem tv_c0 {Q : Nat → Bool} {c t : Nat} {B R : List Nat} (h : c + (B ++ R).countP Q = t) (hB : ∀ q, q ∈ B → Q q = false) : c + R.countP Q = t := by
  rw [List.countP_append] at h
  have e : B.countP Q = 0 := List.countP_eq_zero.mpr (fun q hq => by rw [hB q hq]; exact Bool.false_ne_true)
  omega
theorem tv_c1 {Q : Nat → Bool} {c t p : Nat} {R : List Nat} (h : c + (p :: R).countP Q = t) (hp : Q p = true) : c + 1 + R.countP Q = t := by
  rw [List.countP_cons_of_pos hp] at h
  omega
theorem tv_c2 {Q : Nat → Bool} {c t p : Nat} {R : List Nat} (h : c + (p :: R).countP Q = t) (hp : Q p = false) : c + R.countP Q = t := by
  rw [List.countP_cons_of_neg (by rw [hp]; exact Bool.false_ne_true)] at h
  exact h
section
variable {pc bu k fc wa : Int32} {us px py tr bl br bb bt pf pt pd fo fd de le : Nat → Int32}
def cw_Q (px py : Nat → Int32) (x y r : Int32) (p : Nat) : Bool := decide (nt_ds px py p x y ≤ r)
theorem xs_cw {post : Int32 → SX → Prop} {x y r : Int32} (hb : bu = 0 ∨ tk us px py tr bl br bb bt) (rg : ∀ p, p < 24 → nt_rg (px p) 100 ∧ nt_rg (py p) 100) (hx : nt_rg x 200) (hy : nt_rg y 200)
    (K : ∀ (bu' k' : Int32) (tr' bl' br' bb' bt' pf' pt' pd' : Nat → Int32), tk us px py tr' bl' br' bb' bt' →
      post (nI ((ls_all us).countP (cw_Q px py x y r))) (nI (ls_all us).length, bu', k', fc, wa, us, px, py, tr', bl', br', bb', bt', pf', pt', pd', fo, fd, de, le)) :
    wpX_countWithin post (nI (ls_all us).length, bu, k, fc, wa, us, px, py, tr, bl, br, bb, bt, pf, pt, pd, fo, fd, de, le) x y r := by
  refine xs_build hb rg (fun bu1 k1 tr1 bl1 br1 bb1 bt1 pf1 pt1 pd1 hT => ?_)
  refine xs_start (ls_len us) (fun pf2 pt2 pd2 hk => Exists.intro 25 ?_)
  refine tv_go (fun n k pf pt pd (c : Nat) => wX_countWithin_11 post x y r n (nI c) (nI (ls_all us).length) bu1 k fc wa us px py tr1 bl1 br1 bb1 bt1 pf pt pd fo fd de le)
    (fun c R => c + R.countP (cw_Q px py x y r) = (ls_all us).countP (cw_Q px py x y r)) hT ?_ ?_ ?_ pf2 pt2 pd2 0 hk (Nat.zero_add _)
  · intro c R R' hp h
    rw [← List.Perm.countP_eq _ hp]
    exact h
  · intro n pf pt pd c h
    have e : c = (ls_all us).countP (cw_Q px py x y r) := h
    subst e
    exact br_t (by decide) (K _ _ _ _ _ _ _ _ _ _ hT)
  · intro n a b rr pf pt pd c R R' hl hk hB hvm hq i1 i2 kp kv
    have hm := tv_rt hk
    have e : (nI (ls_rt a b)).toNatClampNeg = ls_rt a b := nI_clamp (by omega)
    refine br_f (nI_nle (by omega) (by omega)) (xs_pop hk (by omega) (xs_dob hm ?_))
    refine br_c (fun h => And.intro (vp_in_nI hm (by decide)) ?_) (fun h => kp (tv_c0 i1 (fun q hq2 => decide_eq_false (fun z => h (Int32.le_trans (tv_prune hB rg hx hy hq2 (hq q hq2)) z)))))
    rw [e]
    refine xs_dt hvm (br_c (fun h2 => ?_) (fun h2 => nm_r (nI_1 c) ?_))
    · exact xs_ph hk (by omega) (fun pf' pt' pd' h3 => kv c pf' pt' pd' (tv_c2 i2 (decide_eq_false (Int32.not_le.mpr h2))) h3)
    · exact xs_ph hk (by omega) (fun pf' pt' pd' h3 => kv (c + 1) pf' pt' pd' (tv_c1 i2 (decide_eq_true (Int32.not_lt.mp h2))) h3)
def ib_Q (px py : Nat → Int32) (x1 x2 x3 x4 : Int32) (p : Nat) : Bool := decide (¬ px p < x1 ∧ ¬ x2 < px p ∧ ¬ py p < x3 ∧ ¬ x4 < py p)
theorem xs_ib {post : Int32 → SX → Prop} {x1 x2 x3 x4 : Int32} (hb : bu = 0 ∨ tk us px py tr bl br bb bt) (rg : ∀ p, p < 24 → nt_rg (px p) 100 ∧ nt_rg (py p) 100)
    (K : ∀ (bu' k' : Int32) (tr' bl' br' bb' bt' pf' pt' pd' : Nat → Int32), tk us px py tr' bl' br' bb' bt' →
      post (nI ((ls_all us).countP (ib_Q px py x1 x2 x3 x4))) (nI (ls_all us).length, bu', k', fc, wa, us, px, py, tr', bl', br', bb', bt', pf', pt', pd', fo, fd, de, le)) :
    wpX_inBox post (nI (ls_all us).length, bu, k, fc, wa, us, px, py, tr, bl, br, bb, bt, pf, pt, pd, fo, fd, de, le) x1 x2 x3 x4 := by
  refine xs_build hb rg (fun bu1 k1 tr1 bl1 br1 bb1 bt1 pf1 pt1 pd1 hT => ?_)
  refine xs_start (ls_len us) (fun pf2 pt2 pd2 hk => Exists.intro 25 ?_)
  refine tv_go (fun n k pf pt pd (c : Nat) => wX_inBox_11 post x1 x2 x3 x4 n (nI c) (nI (ls_all us).length) bu1 k fc wa us px py tr1 bl1 br1 bb1 bt1 pf pt pd fo fd de le)
    (fun c R => c + R.countP (ib_Q px py x1 x2 x3 x4) = (ls_all us).countP (ib_Q px py x1 x2 x3 x4)) hT ?_ ?_ ?_ pf2 pt2 pd2 0 hk (Nat.zero_add _)
  · intro c R R' hp h
    rw [← List.Perm.countP_eq _ hp]
    exact h
  · intro n pf pt pd c h
    have e : c = (ls_all us).countP (ib_Q px py x1 x2 x3 x4) := h
    subst e
    exact br_t (by decide) (K _ _ _ _ _ _ _ _ _ _ hT)
  · intro n a b rr pf pt pd c R R' hl hk hB hvm hq i1 i2 kp kv
    have hm := tv_rt hk
    have v : vp_in (nI (ls_rt a b)) 24 := vp_in_nI hm (by decide)
    have e : (nI (ls_rt a b)).toNatClampNeg = ls_rt a b := nI_clamp (by omega)
    have out : ib_Q px py x1 x2 x3 x4 (tr1 (ls_rt a b)).toNatClampNeg = false → wX_inBox_129 post (wX_inBox_11 post x1 x2 x3 x4 n) x1 x2 x3 x4 (nI c) (nI (ls_rt a b)) (nI (ls_all us).length) bu1 (nI rr.length) fc wa us px py tr1 bl1 br1 bb1 bt1 pf pt pd fo fd de le :=
      fun z => xs_ph hk (by omega) (fun pf' pt' pd' h3 => kv c pf' pt' pd' (tv_c2 i2 z) h3)
    have pr : (∀ q, q ∈ ls_sg tr1 a b → ib_Q px py x1 x2 x3 x4 q = false) → wX_inBox_11 post x1 x2 x3 x4 n (nI c) (nI (ls_all us).length) bu1 (nI rr.length) fc wa us px py tr1 bl1 br1 bb1 bt1 pf pt pd fo fd de le :=
      fun z => kp (tv_c0 i1 z)
    refine br_f (nI_nle (by omega) (by omega)) (xs_pop hk (by omega) ?_)
    dsimp only
    rw [e]
    refine And.intro v (br_c (fun h => pr (fun q hq2 => decide_eq_false (fun z => z.2.1 (Int32.lt_of_lt_of_le h (hB.2 q hq2).1)))) (fun _ => ?_))
    refine And.intro v (br_c (fun h => pr (fun q hq2 => decide_eq_false (fun z => z.1 (Int32.lt_of_le_of_lt (hB.2 q hq2).2.1 h)))) (fun _ => ?_))
    refine And.intro v (br_c (fun h => pr (fun q hq2 => decide_eq_false (fun z => z.2.2.2 (Int32.lt_of_lt_of_le h (hB.2 q hq2).2.2.1)))) (fun _ => ?_))
    refine And.intro v (br_c (fun _ => ?_) (fun h => pr (fun q hq2 => decide_eq_false (fun z => z.2.2.1 (Int32.lt_of_le_of_lt (hB.2 q hq2).2.2.2 (Int32.not_le.mp h))))))
    refine And.intro v (nm_e (And.intro hvm ?_))
    refine br_c (fun h => out (decide_eq_false (fun z => z.1 h))) (fun h1 => And.intro hvm ?_)
    refine br_c (fun h => out (decide_eq_false (fun z => z.2.1 h))) (fun h2 => And.intro hvm ?_)
    refine br_c (fun h => out (decide_eq_false (fun z => z.2.2.1 h))) (fun h3 => And.intro hvm ?_)
    refine br_c (fun h => out (decide_eq_false (fun z => z.2.2.2 h))) (fun h4 => nm_r (nI_1 c) ?_)
    exact xs_ph hk (by omega) (fun pf' pt' pd' h5 => kv (c + 1) pf' pt' pd' (tv_c1 i2 (decide_eq_true ⟨h1, h2, h3, h4⟩)) h5)
end
end
section
-- offer and search
def of_lt (D : Nat → Int32) (p q : Nat) : Prop := D p < D q ∨ (D p = D q ∧ p < q)
theorem of_tr {D : Nat → Int32} {p q r : Nat} (h : of_lt D p q) (h2 : of_lt D q r) : of_lt D p r := by
  unfold of_lt at *
  rw [Int32.lt_iff_toInt_lt, ← Int32.toInt_inj] at *
  omega
theorem of_ir {D : Nat → Int32} {p : Nat} (h : of_lt D p p) : False := by
  unfold of_lt at h
  rw [Int32.lt_iff_toInt_lt] at h
  omega
theorem of_tot {D : Nat → Int32} {p q : Nat} (h : p ≠ q) : of_lt D p q ∨ of_lt D q p := by
  unfold of_lt
  rw [Int32.lt_iff_toInt_lt, ← Int32.toInt_inj, Int32.lt_iff_toInt_lt, ← Int32.toInt_inj]
  omega
def of_in (D : Nat → Int32) (w fc : Nat) (g : Nat → Nat) (fo fd : Nat → Int32) : Prop :=
  fc ≤ w ∧ (∀ j, j < fc → g j < 24 ∧ fo j = nI (g j) ∧ fd j = D (g j)) ∧ ∀ i j, i < j → j < fc → of_lt D (g i) (g j)
/-- what an offer of p makes of the found ones -/
def of_sp (D : Nat → Int32) (w fc p : Nat) (g : Nat → Nat) (fc' : Nat) (g' : Nat → Nat) : Prop :=
  (∀ j, j < fc' → g' j = p ∨ ∃ i, i < fc ∧ g' j = g i) ∧
  ((∃ j, j < fc' ∧ g' j = p) ∨ (fc' = w ∧ of_lt D (g' (w - 1)) p)) ∧
  (∀ i, i < fc → (∃ j, j < fc' ∧ g' j = g i) ∨ (fc' = w ∧ of_lt D (g' (w - 1)) (g i))) ∧
  (fc = w → fc' = w ∧ ∀ q, of_lt D (g (w - 1)) q → of_lt D (g' (w - 1)) q)
def of_s (f : Nat → Int32) (t i : Nat) : Nat → Int32 := fun j => if t < j ∧ j ≤ i then f (j - 1) else f j
theorem of_s0 (f : Nat → Int32) (t : Nat) : of_s f t t = f := by
  funext j
  unfold of_s
  rw [if_neg (by omega)]
theorem of_s1 (f : Nat → Int32) {t s : Nat} (h : t ≤ s) : of_s (upd f (s + 1) (f s)) t s = of_s f t (s + 1) := by
  funext j
  unfold of_s
  by_cases a : t < j ∧ j ≤ s
  · rw [if_pos a, if_pos (by omega), pk_un (by omega)]
  · rw [if_neg a]
    by_cases b : j = s + 1
    · subst b
      rw [pk_us, if_pos (by omega)]
      rfl
    · rw [pk_un b, if_neg (by omega)]
def of_g (g : Nat → Nat) (t p : Nat) : Nat → Nat := fun j => if j < t then g j else if j = t then p else g (j - 1)
theorem of_glt {g : Nat → Nat} {t p j : Nat} (h : j < t) : of_g g t p j = g j := if_pos h
theorem of_geq {g : Nat → Nat} {t p : Nat} : of_g g t p t = p := by unfold of_g; rw [if_neg (by omega), if_pos rfl]
theorem of_ggt {g : Nat → Nat} {t p j : Nat} (h : t < j) : of_g g t p j = g (j - 1) := by unfold of_g; rw [if_neg (by omega), if_neg (by omega)]
theorem of_srt {D : Nat → Int32} {fc t p : Nat} {g : Nat → Nat} (ht : t ≤ fc) (hs : ∀ i j, i < j → j < fc → of_lt D (g i) (g j)) (h1 : ∀ j, t ≤ j → j < fc → of_lt D p (g j)) (h2 : ∀ j, j < t → of_lt D (g j) p) :
    ∀ i j, i < j → j < fc + 1 → of_lt D (of_g g t p i) (of_g g t p j) := by
  intro i j hij hj
  by_cases a : j < t
  · rw [of_glt a, of_glt (by omega)]; exact hs i j hij (by omega)
  · by_cases b : j = t
    · subst b
      rw [of_geq, of_glt hij]; exact h2 i hij
    · rw [of_ggt (j := j) (by omega)]
      by_cases c : i < t
      · rw [of_glt c]; exact hs i (j - 1) (by omega) (by omega)
      · by_cases d : i = t
        · subst d
          rw [of_geq]; exact h1 (j - 1) (by omega) (by omega)
        · rw [of_ggt (j := i) (by omega)]; exact hs (i - 1) (j - 1) (by omega) (by omega)
theorem of_ins {D : Nat → Int32} {w fc t p fc' : Nat} {g : Nat → Nat} {fo fd : Nat → Int32} (h : of_in D w fc g fo fd) (ht : t ≤ fc) (hp : p < 24) (h1 : ∀ j, t ≤ j → j < fc → of_lt D p (g j)) (h2 : ∀ j, j < t → of_lt D (g j) p)
    (hc : (fc < w ∧ fc' = fc + 1) ∨ (fc = w ∧ fc' = w ∧ t < w)) :
    of_in D w fc' (of_g g t p) (upd (of_s fo t (fc' - 1)) t (nI p)) (upd (of_s fd t (fc' - 1)) t (D p)) ∧ of_sp D w fc p g fc' (of_g g t p) := by
  obtain ⟨a1, a2, a3⟩ := h
  have srt := of_srt ht a3 h1 h2
  have htc : t < fc' := by omega
  refine ⟨⟨by omega, ?_, fun i j hij hj => srt i j hij (by omega)⟩, ?_, ?_, ?_, ?_⟩
  · intro j hj
    by_cases a : j < t
    · rw [of_glt a, pk_un (by omega), pk_un (by omega)]
      unfold of_s
      rw [if_neg (by omega), if_neg (by omega)]
      exact a2 j (by omega)
    · by_cases b : j = t
      · subst b
        rw [of_geq, pk_us, pk_us]
        exact ⟨hp, rfl, rfl⟩
      · rw [of_ggt (by omega), pk_un (by omega), pk_un (by omega)]
        unfold of_s
        rw [if_pos (by omega), if_pos (by omega)]
        exact a2 (j - 1) (by omega)
  · intro j hj
    by_cases a : j < t
    · exact Or.inr ⟨j, by omega, of_glt a⟩
    · by_cases b : j = t
      · subst b; exact Or.inl of_geq
      · exact Or.inr ⟨j - 1, by omega, of_ggt (by omega)⟩
  · exact Or.inl ⟨t, htc, of_geq⟩
  · intro i hi
    by_cases a : i < t
    · exact Or.inl ⟨i, by omega, of_glt a⟩
    · by_cases b : i + 1 < fc'
      · exact Or.inl ⟨i + 1, b, by rw [of_ggt (by omega)]; rfl⟩
      · refine Or.inr ⟨by omega, ?_⟩
        have k := srt (w - 1) (i + 1) (by omega) (by omega)
        rw [of_ggt (j := i + 1) (by omega)] at k
        exact k
  · intro e
    refine ⟨by omega, fun q hq => ?_⟩
    have k := srt (w - 1) w (by omega) (by omega)
    rw [of_ggt (j := w) (by omega)] at k
    exact of_tr k hq
section
variable {pc bu k fc wa : Int32} {us px py tr bl br bb bt pf pt pd fo fd de le : Nat → Int32}
theorem xs_of89 {post : SX → Prop} {p t : Nat} {d : Int32} (hp : p < 24) : ∀ (n i : Nat) (fo fd : Nat → Int32), t ≤ i → i < 24 → i - t < n → (∀ j, j < i → vp_in (fo j) 24) →
    post (pc, bu, k, fc, wa, us, px, py, tr, bl, br, bb, bt, pf, pt, pd, upd (of_s fo t i) t (nI p), upd (of_s fd t i) t d, de, le) → wX_offer_89 post (nI p) d (nI t) pc bu k fc wa n (nI i) us px py tr bl br bb bt pf pt pd fo fd de le := by
  intro n
  induction n with
  | zero => intro i _ _ _ _ h; omega
  | succ n ih =>
    intro i fo fd h1 h2 h3 hv K
    have et : (nI t).toNatClampNeg = t := nI_clamp (by omega)
    have vt : vp_in (nI t) 24 := vp_in_nI (by omega) (by decide)
    by_cases z : i ≤ t
    · have e : i = t := by omega
      subst e
      rw [of_s0, of_s0] at K
      refine br_t (Int32.le_refl _) (And.intro vt (nm_r (e' := upd fo i (nI p)) ?_ (And.intro vt (nm_r (e' := upd fd i d) ?_ K))))
      · rw [et, nt_nb (by omega)]
      · rw [et]
    · obtain ⟨s, rfl⟩ : ∃ s, i = s + 1 := ⟨i - 1, by omega⟩
      have es : (nI (s + 1) - 1).toNatClampNeg = s := by rw [nI_pred]; exact nI_clamp (by omega)
      have vs : vp_in (nI (s + 1) - 1) 24 := by rw [nI_pred]; exact vp_in_nI (by omega) (by decide)
      have e1 : (nI (s + 1)).toNatClampNeg = s + 1 := nI_clamp (by omega)
      have v1 : vp_in (nI (s + 1)) 24 := vp_in_nI (by omega) (by decide)
      refine br_f (nI_ge (by omega) (by omega)) (And.intro vs (And.intro v1 (nm_r (e' := upd fo (s + 1) (fo s)) ?_ (And.intro vs (And.intro v1 (nm_r (e' := upd fd (s + 1) (fd s)) ?_ (nm_r (pk_m1 s) ?_)))))))
      · rw [e1, es, nt_nz (hv s (by omega))]
      · rw [e1, es]
      · refine ih s _ _ (by omega) (by omega) (by omega) (fun j hj => by rw [pk_un (by omega)]; exact hv j (by omega)) ?_
        rw [of_s1 fo (by omega), of_s1 fd (by omega)]
        exact K
theorem xs_of51 {post : SX → Prop} {D : Nat → Int32} {w fc p t : Nat} {g : Nat → Nat} (w0 : 0 < w) (hw : w ≤ 24) (h : of_in D w fc g fo fd) (hp : p < 24) (ht : t ≤ fc) (h1 : ∀ j, t ≤ j → j < fc → of_lt D p (g j)) (h2 : ∀ j, j < t → of_lt D (g j) p)
    (K : ∀ (fc' : Nat) (fo' fd' : Nat → Int32) (g' : Nat → Nat), of_in D w fc' g' fo' fd' → of_sp D w fc p g fc' g' → post (pc, bu, k, nI fc', nI w, us, px, py, tr, bl, br, bb, bt, pf, pt, pd, fo', fd', de, le)) :
    wX_offer_51 post (nI p) (D p) (nI t) pc bu k (nI fc) (nI w) us px py tr bl br bb bt pf pt pd fo fd de le := by
  have hfw := h.1
  have hv : ∀ j, j < fc → vp_in (fo j) 24 := fun j hj => by rw [(h.2.1 j hj).2.1]; exact vp_in_nI (h.2.1 j hj).1 (by decide)
  by_cases z : t = w
  · refine br_t ((nI_eq (by omega) (by omega)).mpr z) (K fc fo fd g h ⟨fun j hj => Or.inr ⟨j, hj, rfl⟩, ?_, fun i hi => Or.inl ⟨i, hi, rfl⟩, fun e => ⟨e, fun q hq => hq⟩⟩)
    exact Or.inr ⟨by omega, h2 (w - 1) (by omega)⟩
  · refine br_f (fun e => z ((nI_eq (by omega) (by omega)).mp e)) ?_
    by_cases y : w ≤ fc
    · have ef : fc = w := by omega
      subst ef
      obtain ⟨q1, q2⟩ := of_ins (fc' := fc) h ht hp h1 h2 (Or.inr ⟨rfl, rfl, by omega⟩)
      refine br_t (Int32.le_refl _) (nm_r (nt_m1 (by omega)) (Exists.intro 25 ?_))
      exact xs_of89 hp 25 (fc - 1) fo fd (by omega) (by omega) (by omega) (fun j hj => hv j (by omega)) (K _ _ _ _ q1 q2)
    · obtain ⟨q1, q2⟩ := of_ins (fc' := fc + 1) h ht hp h1 h2 (Or.inl ⟨by omega, rfl⟩)
      refine br_f (nI_ge (by omega) (by omega)) (nm_r (nI_1 fc) (nm_r (nI_pred fc) (Exists.intro 25 ?_)))
      exact xs_of89 hp 25 fc fo fd (by omega) (by omega) (by omega) (fun j hj => hv j (by omega)) (K _ _ _ _ q1 q2)
theorem xs_of5 {post : SX → Prop} {D : Nat → Int32} {w fc p : Nat} {g : Nat → Nat} (w0 : 0 < w) (hw : w ≤ 24) (h : of_in D w fc g fo fd) (hp : p < 24) (hn : ∀ j, j < fc → g j ≠ p)
    (K : ∀ t, t ≤ fc → (∀ j, t ≤ j → j < fc → of_lt D p (g j)) → (∀ j, j < t → of_lt D (g j) p) → wX_offer_51 post (nI p) (D p) (nI t) pc bu k (nI fc) (nI w) us px py tr bl br bb bt pf pt pd fo fd de le) :
    ∀ n t, t ≤ fc → t < n → (∀ j, t ≤ j → j < fc → of_lt D p (g j)) → wX_offer_5 post (nI p) (D p) pc bu k (nI fc) (nI w) us px py tr bl br bb bt pf pt pd fo fd de le n (nI t) := by
  have hfw := h.1
  intro n
  induction n with
  | zero => intro t _ h; omega
  | succ n ih =>
    intro t h1 h2 h3
    cases t with
    | zero => exact br_t (by decide) (K 0 h1 h3 (fun j hj => by omega))
    | succ s =>
      have es : (nI (s + 1) - 1).toNatClampNeg = s := by rw [nI_pred]; exact nI_clamp (by omega)
      have vs : vp_in (nI (s + 1) - 1) 24 := by rw [nI_pred]; exact vp_in_nI (by omega) (by decide)
      obtain ⟨g1, g2, g3⟩ := h.2.1 s (by omega)
      have go : of_lt D p (g s) → wX_offer_5 post (nI p) (D p) pc bu k (nI fc) (nI w) us px py tr bl br bb bt pf pt pd fo fd de le n (nI s) := by
        intro hh
        refine ih s (by omega) (by omega) ?_
        intro j hj hj2
        by_cases e : j = s
        · subst e; exact hh
        · exact h3 j (by omega) hj2
      have st : of_lt D (g s) p → wX_offer_51 post (nI p) (D p) (nI (s + 1)) pc bu k (nI fc) (nI w) us px py tr bl br bb bt pf pt pd fo fd de le := by
        intro hh
        refine K (s + 1) h1 h3 ?_
        intro j hj
        by_cases e : j = s
        · subst e; exact hh
        · exact of_tr (h.2.2 j s (by omega) (by omega)) hh
      refine br_f (nI_nle (by omega) (by omega)) ?_
      rw [es, g2, g3]
      refine And.intro vs (br_c (fun a => nm_r (pk_m1 s) (go (Or.inl a))) (fun a => And.intro vs (br_c (fun b => And.intro vs ?_) (fun b => st ?_))))
      · refine pk_le (g s) p (fun c => st (Or.inr ⟨b, ?_⟩)) (fun c => nm_r (pk_m1 s) (go (Or.inr ⟨b.symm, c⟩)))
        have := hn s (by omega)
        omega
      · refine Or.inl ?_
        rw [Int32.lt_iff_toInt_lt] at a ⊢
        rw [← Int32.toInt_inj] at b
        omega
theorem xs_offer {post : SX → Prop} {D : Nat → Int32} {w fc p : Nat} {g : Nat → Nat} (w0 : 0 < w) (hw : w ≤ 24) (h : of_in D w fc g fo fd) (hp : p < 24) (hn : ∀ j, j < fc → g j ≠ p)
    (K : ∀ (fc' : Nat) (fo' fd' : Nat → Int32) (g' : Nat → Nat), of_in D w fc' g' fo' fd' → of_sp D w fc p g fc' g' → post (pc, bu, k, nI fc', nI w, us, px, py, tr, bl, br, bb, bt, pf, pt, pd, fo', fd', de, le)) :
    wpX_offer post (pc, bu, k, nI fc, nI w, us, px, py, tr, bl, br, bb, bt, pf, pt, pd, fo, fd, de, le) (nI p) (D p) :=
  Exists.intro (fc + 1) (xs_of5 w0 hw h hp hn (fun t h1 h2 h3 => xs_of51 w0 hw h hp h1 h2 h3 K) (fc + 1) fc (Nat.le_refl _) (by omega) (fun j hj hj2 => by omega))
end
end
section
-- search
def se_I (us : Nat → Int32) (D : Nat → Int32) (w : Nat) (ex : Int32) (s : Nat × (Nat → Int32) × (Nat → Int32) × (Nat → Nat)) (R : List Nat) : Prop :=
  of_in D w s.1 s.2.2.2 s.2.1 s.2.2.1 ∧ R.Nodup ∧ (∀ q, q ∈ R → q ∈ ls_all us) ∧ (∀ j, j < s.1 → ¬ s.2.2.2 j ∈ R ∧ s.2.2.2 j ∈ ls_all us ∧ ¬ nI (s.2.2.2 j) = ex) ∧
  ∀ q, q ∈ ls_all us → q ∈ R ∨ (∃ j, j < s.1 ∧ s.2.2.2 j = q) ∨ nI q = ex ∨ (s.1 = w ∧ of_lt D (s.2.2.2 (w - 1)) q)
theorem se_perm {us D : Nat → Int32} {w : Nat} {ex : Int32} (s : Nat × (Nat → Int32) × (Nat → Int32) × (Nat → Nat)) (R R' : List Nat) (p : R.Perm R') (h : se_I us D w ex s R) : se_I us D w ex s R' := by
  obtain ⟨h1, h2, h3, h4, h5⟩ := h
  refine ⟨h1, List.Nodup.perm h2 p, fun q hq => h3 q ((List.Perm.mem_iff p).mpr hq), fun j hj => ⟨fun z => (h4 j hj).1 ((List.Perm.mem_iff p).mpr z), (h4 j hj).2⟩, fun q hq => ?_⟩
  rcases h5 q hq with z | z
  · exact Or.inl ((List.Perm.mem_iff p).mp z)
  · exact Or.inr z
theorem se_prune {us D : Nat → Int32} {w : Nat} {ex : Int32} {s : Nat × (Nat → Int32) × (Nat → Int32) × (Nat → Nat)} {B R : List Nat} (h : se_I us D w ex s (B ++ R)) (e : s.1 = w) (hB : ∀ q, q ∈ B → of_lt D (s.2.2.2 (w - 1)) q) :
    se_I us D w ex s R := by
  obtain ⟨h1, h2, h3, h4, h5⟩ := h
  refine ⟨h1, (List.nodup_append.mp h2).2.1, fun q hq => h3 q (List.mem_append_right _ hq), fun j hj => ⟨fun z => (h4 j hj).1 (List.mem_append_right _ z), (h4 j hj).2⟩, fun q hq => ?_⟩
  rcases h5 q hq with z | z
  · rcases List.mem_append.mp z with z | z
    · exact Or.inr (Or.inr (Or.inr ⟨e, hB q z⟩))
    · exact Or.inl z
  · exact Or.inr z
theorem se_skip {us D : Nat → Int32} {w p : Nat} {ex : Int32} {s : Nat × (Nat → Int32) × (Nat → Int32) × (Nat → Nat)} {R : List Nat} (h : se_I us D w ex s (p :: R)) (e : nI p = ex) : se_I us D w ex s R := by
  obtain ⟨h1, h2, h3, h4, h5⟩ := h
  refine ⟨h1, (List.nodup_cons.mp h2).2, fun q hq => h3 q (List.mem_cons_of_mem _ hq), fun j hj => ⟨fun z => (h4 j hj).1 (List.mem_cons_of_mem _ z), (h4 j hj).2⟩, fun q hq => ?_⟩
  rcases h5 q hq with z | z
  · rcases List.mem_cons.mp z with z | z
    · exact Or.inr (Or.inr (Or.inl (by rw [z]; exact e)))
    · exact Or.inl z
  · exact Or.inr z
theorem se_take {us D : Nat → Int32} {w p fc fc' : Nat} {ex : Int32} {fo fd fo' fd' : Nat → Int32} {g g' : Nat → Nat} {R : List Nat} (h : se_I us D w ex (fc, fo, fd, g) (p :: R)) (e : ¬ nI p = ex)
    (hi : of_in D w fc' g' fo' fd') (hs : of_sp D w fc p g fc' g') : se_I us D w ex (fc', fo', fd', g') R := by
  obtain ⟨h1, h2, h3, h4, h5⟩ := h
  obtain ⟨s1, s2, s3, s4⟩ := hs
  have hd := List.nodup_cons.mp h2
  refine ⟨hi, hd.2, fun q hq => h3 q (List.mem_cons_of_mem _ hq), ?_, ?_⟩
  · intro j hj
    show ¬ g' j ∈ R ∧ g' j ∈ ls_all us ∧ ¬ nI (g' j) = ex
    rcases s1 j hj with z | ⟨i, hi, z⟩
    · rw [z]
      exact ⟨hd.1, h3 p List.mem_cons_self, e⟩
    · rw [z]
      exact ⟨fun y => (h4 i hi).1 (List.mem_cons_of_mem _ y), (h4 i hi).2⟩
  · intro q hq
    rcases h5 q hq with z | ⟨i, hi, z⟩ | z | ⟨z, y⟩
    · rcases List.mem_cons.mp z with z | z
      · subst z
        rcases s2 with z | z
        · exact Or.inr (Or.inl z)
        · exact Or.inr (Or.inr (Or.inr z))
      · exact Or.inl z
    · have z2 : g i = q := z
      rcases s3 i hi with y | y
      · rw [z2] at y; exact Or.inr (Or.inl y)
      · rw [z2] at y; exact Or.inr (Or.inr (Or.inr y))
    · exact Or.inr (Or.inr (Or.inl z))
    · obtain ⟨a, b⟩ := s4 z
      exact Or.inr (Or.inr (Or.inr ⟨a, b q y⟩))
section
variable {pc bu k fc wa : Int32} {us px py tr bl br bb bt pf pt pd fo fd de le : Nat → Int32}
theorem xs_search {post : SX → Prop} {x y ex : Int32} {w : Nat} (w0 : 0 < w) (hw : w ≤ 24) (hb : bu = 0 ∨ tk us px py tr bl br bb bt) (rg : ∀ p, p < 24 → nt_rg (px p) 100 ∧ nt_rg (py p) 100) (hx : nt_rg x 200) (hy : nt_rg y 200)
    (K : ∀ (bu' k' : Int32) (fc' : Nat) (tr' bl' br' bb' bt' pf' pt' pd' fo' fd' : Nat → Int32) (g : Nat → Nat), tk us px py tr' bl' br' bb' bt' → of_in (fun p => nt_ds px py p x y) w fc' g fo' fd' →
      (∀ j, j < fc' → g j ∈ ls_all us ∧ ¬ nI (g j) = ex) → (∀ q, q ∈ ls_all us → (∃ j, j < fc' ∧ g j = q) ∨ nI q = ex ∨ (fc' = w ∧ of_lt (fun p => nt_ds px py p x y) (g (w - 1)) q)) →
      post (nI (ls_all us).length, bu', k', nI fc', nI w, us, px, py, tr', bl', br', bb', bt', pf', pt', pd', fo', fd', de, le)) :
    wpX_search post (nI (ls_all us).length, bu, k, fc, wa, us, px, py, tr, bl, br, bb, bt, pf, pt, pd, fo, fd, de, le) x y (nI w) ex := by
  refine xs_build hb rg (fun bu1 k1 tr1 bl1 br1 bb1 bt1 pf1 pt1 pd1 hT => ?_)
  refine xs_start (fc := 0) (wa := nI w) (ls_len us) (fun pf2 pt2 pd2 hk => Exists.intro 25 ?_)
  refine tv_go (fun n k pf pt pd (s : Nat × (Nat → Int32) × (Nat → Int32) × (Nat → Nat)) => wX_search_18 post x y ex n (nI (ls_all us).length) bu1 k (nI s.1) (nI w) us px py tr1 bl1 br1 bb1 bt1 pf pt pd s.2.1 s.2.2.1 de le)
    (se_I us (fun p => nt_ds px py p x y) w ex) hT se_perm ?_ ?_ pf2 pt2 pd2 (0, fo, fd, fun _ => 0) hk ?_
  · intro n pf pt pd s h
    obtain ⟨fc1, fo1, fd1, g1⟩ := s
    obtain ⟨h1, h2, h3, h4, h5⟩ := h
    refine br_t (by decide) (K bu1 _ fc1 tr1 bl1 br1 bb1 bt1 pf pt pd fo1 fd1 g1 hT h1 (fun j hj => (h4 j hj).2) (fun q hq => ?_))
    exact (h5 q hq).resolve_left List.not_mem_nil
  · intro n a b rr pf pt pd s R R' hl hk hB hvm hq i1 i2 kp kv
    obtain ⟨fc1, fo1, fd1, g1⟩ := s
    have hm := tv_rt hk
    have v : vp_in (nI (ls_rt a b)) 24 := vp_in_nI hm (by decide)
    have e : (nI (ls_rt a b)).toNatClampNeg = ls_rt a b := nI_clamp (by omega)
    have ep := nt_cl hvm
    have hin : of_in (fun p => nt_ds px py p x y) w fc1 g1 fo1 fd1 := i1.1
    have hfw := hin.1
    have visit : wX_search_71 post (wX_search_18 post x y ex n) x y ex (nI (ls_rt a b)) (nI (ls_all us).length) bu1 (nI rr.length) (nI fc1) (nI w) us px py tr1 bl1 br1 bb1 bt1 pf pt pd fo1 fd1 de le := by
      generalize (tr1 (ls_rt a b)).toNatClampNeg = p at ep i2
      have e2 : (nI p).toNatClampNeg = p := nI_clamp (by omega)
      refine And.intro v (nm_r (e' := nI p) (by rw [e]; exact ep.1) (xs_dt (vp_in_nI ep.2 (by decide)) ?_))
      rw [e2]
      refine br_c (fun h => ?_) (fun h => ?_)
      · exact xs_ph hk (by omega) (fun pf' pt' pd' h3 => kv (fc1, fo1, fd1, g1) pf' pt' pd' (se_skip i2 h) h3)
      · refine xs_offer (D := fun p => nt_ds px py p x y) w0 hw hin ep.2 ?_ ?_
        · intro j hj z
          exact (i2.2.2.2.1 j hj).1 (by show g1 j ∈ p :: R'; rw [z]; exact List.mem_cons_self)
        · intro fc2 fo2 fd2 g2 k1 k2
          exact xs_ph hk (by omega) (fun pf' pt' pd' h3 => kv (fc2, fo2, fd2, g2) pf' pt' pd' (se_take i2 h k1 k2) h3)
    refine br_f (nI_nle (by omega) (by omega)) (xs_pop hk (by omega) (xs_dob hm ?_))
    refine pk_eq fc1 w (fun ef => ?_) (fun _ => visit)
    have ew : (nI w - 1).toNatClampNeg = w - 1 := by rw [nt_m1 w0]; exact nI_clamp (by omega)
    have vw : vp_in (nI w - 1) 24 := by rw [nt_m1 w0]; exact vp_in_nI (by omega) (by decide)
    refine And.intro vw (br_c (fun _ => visit) (fun h => kp (se_prune i1 ef (fun q hq2 => Or.inl ?_))))
    rw [ew] at h
    have h6 : fd1 (w - 1) = nt_ds px py (g1 (w - 1)) x y := (hin.2.1 (w - 1) (by omega)).2.2
    have h7 : fd1 (w - 1) < nt_ds px py q x y := Int32.lt_of_lt_of_le (Int32.not_le.mp h) (tv_prune hB rg hx hy hq2 (hq q hq2))
    rw [h6] at h7
    exact h7
  · refine ⟨⟨Nat.zero_le _, fun j hj => absurd hj (Nat.not_lt_zero _), fun i j _ hj => absurd hj (Nat.not_lt_zero _)⟩, ls_nodup us, fun q hq => hq, fun j hj => absurd hj (Nat.not_lt_zero _), fun q hq => Or.inl hq⟩
end
/-! ranks -/
theorem of_dt {D : Nat → Int32} {p q : Nat} (h : decide (D p < D q ∨ (D p = D q ∧ p < q)) = true) : of_lt D p q := by
  unfold of_lt
  exact of_decide_eq_true h
def rk (us : Nat → Int32) (D : Nat → Int32) (p : Nat) : Nat := (ls_all us).countP (fun q => decide (D q < D p ∨ (D q = D p ∧ q < p)))
theorem rk_lt {us D : Nat → Int32} {p q : Nat} (hp : p ∈ ls_all us) (h : of_lt D p q) : rk us D p < rk us D q := by
  unfold rk
  rw [List.countP_eq_length_filter, List.countP_eq_length_filter]
  have k : (p :: (ls_all us).filter (fun q => decide (D q < D p ∨ (D q = D p ∧ q < p)))).length ≤ ((ls_all us).filter (fun r => decide (D r < D q ∨ (D r = D q ∧ r < q)))).length := by
    apply List.Nodup.length_le_of_subset
    · rw [List.nodup_cons]
      refine ⟨fun z => ?_, List.Nodup.sublist List.filter_sublist (ls_nodup us)⟩
      exact of_ir (D := D) (p := p) (of_dt (List.mem_filter.mp z).2)
    · intro r hr
      rcases List.mem_cons.mp hr with e | hr
      · subst e
        exact List.mem_filter.mpr ⟨hp, decide_eq_true h⟩
      · obtain ⟨a, b⟩ := List.mem_filter.mp hr
        exact List.mem_filter.mpr ⟨a, decide_eq_true (of_tr (of_dt b) h)⟩
  exact k
theorem rk_inj {us D : Nat → Int32} {p q : Nat} (hp : p ∈ ls_all us) (hq : q ∈ ls_all us) (h : rk us D p = rk us D q) : p = q := by
  apply Decidable.byContradiction
  intro z
  rcases of_tot (D := D) z with k | k
  · have := rk_lt hp k; omega
  · have := rk_lt hq k; omega
theorem rk_len {us D : Nat → Int32} {p : Nat} (hp : p ∈ ls_all us) : rk us D p < (ls_all us).length := by
  unfold rk
  rw [List.countP_eq_length_filter]
  have k : (p :: (ls_all us).filter (fun q => decide (D q < D p ∨ (D q = D p ∧ q < p)))).length ≤ (ls_all us).length := by
    apply List.Nodup.length_le_of_subset
    · rw [List.nodup_cons]
      refine ⟨fun z => ?_, List.Nodup.sublist List.filter_sublist (ls_nodup us)⟩
      exact of_ir (D := D) (p := p) (of_dt (List.mem_filter.mp z).2)
    · intro r hr
      rcases List.mem_cons.mp hr with e | hr
      · subst e; exact hp
      · exact (List.mem_filter.mp hr).1
  exact k
theorem of_nd {D : Nat → Int32} {n : Nat} {g : Nat → Nat} (h : ∀ i j, i < j → j < n → of_lt D (g i) (g j)) : ((List.range' 0 n).map g).Nodup := by
  rw [List.nodup_iff_pairwise_ne, List.pairwise_map]
  refine List.Pairwise.imp_of_mem ?_ (List.pairwise_lt_range' (s := 0) (n := n))
  intro i j _ hj hij z
  rw [List.mem_range'_1] at hj
  have k := h i j hij (by omega)
  rw [z] at k
  exact of_ir k
/-- what the search gives for k + 1 wanted ones: the point of rank k -/
theorem rk_found {us D : Nat → Int32} {k fc : Nat} {ex : Int32} {g : Nat → Nat} {fo fd : Nat → Int32} (hk : k < (ls_all us).length) (hex : ∀ q, q < 24 → ¬ nI q = ex) (h : of_in D (k + 1) fc g fo fd)
    (hg : ∀ j, j < fc → g j ∈ ls_all us ∧ ¬ nI (g j) = ex) (hc : ∀ q, q ∈ ls_all us → (∃ j, j < fc ∧ g j = q) ∨ nI q = ex ∨ (fc = k + 1 ∧ of_lt D (g (k + 1 - 1)) q)) :
    fc = k + 1 ∧ rk us D (g k) = k := by
  have e : fc = k + 1 := by
    apply Decidable.byContradiction
    intro z
    have l : (ls_all us).length ≤ ((List.range' 0 fc).map g).length := by
      apply List.Nodup.length_le_of_subset (ls_nodup us)
      intro q hq
      rcases hc q hq with ⟨j, hj, e⟩ | y | ⟨y, _⟩
      · exact List.mem_map.mpr ⟨j, List.mem_range'_1.mpr ⟨Nat.zero_le _, by omega⟩, e⟩
      · exact absurd y (hex q (ls_mem.mp hq).1)
      · exact absurd y z
    rw [List.length_map, List.length_range'] at l
    have := h.1
    omega
  subst e
  refine ⟨rfl, ?_⟩
  unfold rk
  rw [List.countP_eq_length_filter]
  have p : ((ls_all us).filter (fun q => decide (D q < D (g k) ∨ (D q = D (g k) ∧ q < g k)))).Perm ((List.range' 0 k).map g) := by
    rw [List.perm_ext_iff_of_nodup (List.Nodup.sublist List.filter_sublist (ls_nodup us)) (of_nd (fun i j hij hj => h.2.2 i j hij (by omega)))]
    intro q
    rw [List.mem_filter, List.mem_map]
    constructor
    · rintro ⟨a, b⟩
      have b2 : of_lt D q (g k) := of_dt b
      rcases hc q a with ⟨j, hj, e⟩ | y | ⟨_, y⟩
      · refine ⟨j, List.mem_range'_1.mpr ⟨Nat.zero_le _, ?_⟩, e⟩
        have : j ≠ k := by
          intro z
          subst z
          rw [e] at b2
          exact of_ir b2
        omega
      · exact absurd y (hex q (ls_mem.mp a).1)
      · exact absurd (of_tr b2 y) of_ir
    · rintro ⟨j, hj, e⟩
      rw [List.mem_range'_1] at hj
      subst e
      exact ⟨(hg j (by omega)).1, decide_eq_true (h.2.2 j k (by omega) (by omega))⟩
  have l := List.Perm.length_eq p
  rw [List.length_map, List.length_range'] at l
  exact l
end
section
-- the reference's counts
theorem yc_law (W : Nat → Int32 → Int32 → Prop) (post : Int32 → Prop) (Q : Nat → Bool)
    (h1 : ∀ n c : Nat, post (nI c) → W (n + 1) (nI c) (nI 24))
    (h2 : ∀ n c i : Nat, i < 24 → Q i = true → W n (nI (c + 1)) (nI (i + 1)) → W (n + 1) (nI c) (nI i))
    (h3 : ∀ n c i : Nat, i < 24 → Q i = false → W n (nI c) (nI (i + 1)) → W (n + 1) (nI c) (nI i)) :
    ∀ d i c : Nat, i + d = 24 → post (nI (c + (List.range' i d).countP Q)) → W (d + 1) (nI c) (nI i) := by
  intro d
  induction d with
  | zero =>
    intro i c e h
    have e2 : i = 24 := by omega
    subst e2
    exact h1 0 c h
  | succ d ih =>
    intro i c e h
    rw [List.range'_succ] at h
    by_cases z : Q i = true
    · rw [List.countP_cons_of_pos z, show c + ((List.range' (i + 1) d).countP Q + 1) = c + 1 + (List.range' (i + 1) d).countP Q by omega] at h
      exact h2 (d + 1) c i (by omega) z (ih (i + 1) (c + 1) (by omega) h)
    · rw [List.countP_cons_of_neg z] at h
      exact h3 (d + 1) c i (by omega) (by simpa using z) (ih (i + 1) c (by omega) h)
theorem yc_and {a b : Bool} (h : (a && b) = true) : a = true ∧ b = true := by simpa using h
theorem yc_nand {a b : Bool} (h : (a && b) = false) (hb : b = true) : a = false := by
  subst hb
  simpa using h
theorem ls_Ut {us : Nat → Int32} {p : Nat} (h : ls_U us p = true) : ¬ us p = 0 := of_decide_eq_true h
theorem ls_Uf {us : Nat → Int32} {p : Nat} (h : ls_U us p = false) : us p = 0 := Decidable.not_not.mp (of_decide_eq_false h)
theorem ls_Ui {us : Nat → Int32} {p : Nat} (h : ¬ us p = 0) : ls_U us p = true := decide_eq_true h
section
variable {us px py dn gr : Nat → Int32}
theorem ys_size {post : Int32 → Prop} (K : post (nI (ls_all us).length)) : wpY_size post (us, px, py, dn, gr) := by
  refine Exists.intro 25 (yc_law (fun n c i => wY_size_4 post us px py dn gr n c i) post (ls_U us) ?_ ?_ ?_ 24 0 0 rfl ?_)
  · intro n c h; exact br_t (Int32.le_refl _) h
  · intro n c i hi hq h
    have e : (nI i).toNatClampNeg = i := nI_clamp (by omega)
    refine br_f (nI_ge (b := 24) hi (by decide)) (And.intro (vp_in_nI hi (by decide)) ?_)
    rw [e]
    exact br_f (ls_Ut hq) (nm_r (nI_1 c) (nm_r (nI_1 i) h))
  · intro n c i hi hq h
    have e : (nI i).toNatClampNeg = i := nI_clamp (by omega)
    refine br_f (nI_ge (b := 24) hi (by decide)) (And.intro (vp_in_nI hi (by decide)) ?_)
    rw [e]
    exact br_t (ls_Uf hq) (nm_r (nI_1 i) h)
  · rw [Nat.zero_add, List.countP_eq_length_filter]
    exact K
theorem ys_near {post : Int32 → Prop} {x y r : Int32} (K : post (nI ((ls_all us).countP (cw_Q px py x y r)))) : wpY_near post (us, px, py, dn, gr) x y r := by
  refine Exists.intro 25 (yc_law (fun n c i => wY_near_6 post x y r us px py dn gr n c i) post (fun p => cw_Q px py x y r p && ls_U us p) ?_ ?_ ?_ 24 0 0 rfl ?_)
  · intro n c h; exact br_t (Int32.le_refl _) h
  · intro n c i hi hq h
    have e : (nI i).toNatClampNeg = i := nI_clamp (by omega)
    obtain ⟨a, b⟩ := yc_and hq
    refine br_f (nI_ge (b := 24) hi (by decide)) (And.intro (vp_in_nI hi (by decide)) ?_)
    rw [e]
    exact br_f (ls_Ut b) (ys_dist hi (br_f (Int32.not_lt.mpr (of_decide_eq_true a)) (nm_r (nI_1 c) (nm_r (nI_1 i) h))))
  · intro n c i hi hq h
    have e : (nI i).toNatClampNeg = i := nI_clamp (by omega)
    refine br_f (nI_ge (b := 24) hi (by decide)) (And.intro (vp_in_nI hi (by decide)) ?_)
    rw [e]
    refine br_c (fun _ => nm_r (nI_1 i) h) (fun z => ys_dist hi (br_t (Int32.not_le.mp (of_decide_eq_false (yc_nand hq (ls_Ui z)))) (nm_r (nI_1 i) h)))
  · rw [Nat.zero_add, ← ls_count]
    exact K
theorem ys_ib {post : Int32 → Prop} {x1 x2 x3 x4 : Int32} (K : post (nI ((ls_all us).countP (ib_Q px py x1 x2 x3 x4)))) : wpY_inBox post (us, px, py, dn, gr) x1 x2 x3 x4 := by
  refine Exists.intro 25 (yc_law (fun n c i => wY_inBox_6 post x1 x2 x3 x4 us px py dn gr n c i) post (fun p => ib_Q px py x1 x2 x3 x4 p && ls_U us p) ?_ ?_ ?_ 24 0 0 rfl ?_)
  · intro n c h; exact br_t (Int32.le_refl _) h
  · intro n c i hi hq h
    have e : (nI i).toNatClampNeg = i := nI_clamp (by omega)
    have v : vp_in (nI i) 24 := vp_in_nI hi (by decide)
    obtain ⟨a, b⟩ := yc_and hq
    obtain ⟨a1, a2, a3, a4⟩ := of_decide_eq_true a
    refine br_f (nI_ge (b := 24) hi (by decide)) (And.intro v ?_)
    rw [e]
    exact br_f (ls_Ut b) (And.intro v (br_f a1 (And.intro v (br_f a2 (And.intro v (br_f a3 (And.intro v (br_f a4 (nm_r (nI_1 c) (nm_r (nI_1 i) h))))))))))
  · intro n c i hi hq h
    have e : (nI i).toNatClampNeg = i := nI_clamp (by omega)
    have v : vp_in (nI i) 24 := vp_in_nI hi (by decide)
    refine br_f (nI_ge (b := 24) hi (by decide)) (And.intro v ?_)
    rw [e]
    refine br_c (fun _ => nm_r (nI_1 i) h) (fun z => ?_)
    have q := of_decide_eq_false (yc_nand hq (ls_Ui z))
    exact And.intro v (br_c (fun _ => nm_r (nI_1 i) h) (fun b1 => And.intro v (br_c (fun _ => nm_r (nI_1 i) h) (fun b2 => And.intro v (br_c (fun _ => nm_r (nI_1 i) h) (fun b3 => And.intro v (br_c (fun _ => nm_r (nI_1 i) h) (fun b4 => absurd ⟨b1, b2, b3, b4⟩ q))))))))
  · rw [Nat.zero_add, ← ls_count]
    exact K
theorem ys_rank {post : Int32 → Prop} {x y : Int32} {p : Nat} (hp : p < 24) (K : post (nI (rk us (fun p => nt_ds px py p x y) p))) : wpY_rank post (us, px, py, dn, gr) (nI p) x y := by
  unfold wpY_rank
  dsimp only
  refine ys_dist hp ?_
  refine Exists.intro 25 (yc_law (fun n c i => wY_rank_15 post (nI p) x y (nt_ds px py p x y) us px py dn gr n c i) post (fun q => decide (nt_ds px py q x y < nt_ds px py p x y ∨ (nt_ds px py q x y = nt_ds px py p x y ∧ q < p)) && ls_U us q) ?_ ?_ ?_ 24 0 0 rfl ?_)
  · intro n c h; exact br_t (Int32.le_refl _) h
  · intro n c i hi hq h
    have e : (nI i).toNatClampNeg = i := nI_clamp (by omega)
    obtain ⟨a, b⟩ := yc_and hq
    have a2 := of_decide_eq_true a
    refine br_f (nI_ge (b := 24) hi (by decide)) (ys_dist hi (And.intro (vp_in_nI hi (by decide)) ?_))
    rw [e]
    refine br_f (ls_Ut b) (br_c (fun _ => nm_r (nI_1 c) (nm_r (nI_1 i) h)) (fun z => ?_))
    have a3 := a2.resolve_left z
    exact br_t a3.1 (br_f (nI_ge a3.2 (by omega)) (nm_r (nI_1 c) (nm_r (nI_1 i) h)))
  · intro n c i hi hq h
    have e : (nI i).toNatClampNeg = i := nI_clamp (by omega)
    refine br_f (nI_ge (b := 24) hi (by decide)) (ys_dist hi (And.intro (vp_in_nI hi (by decide)) ?_))
    rw [e]
    refine br_c (fun _ => nm_r (nI_1 i) h) (fun z => ?_)
    have q := of_decide_eq_false (yc_nand hq (ls_Ui z))
    refine br_c (fun a => absurd (Or.inl a) q) (fun a => br_c (fun b => br_c (fun _ => nm_r (nI_1 i) h) (fun d => absurd (Or.inr ⟨b, ?_⟩) q)) (fun _ => nm_r (nI_1 i) h))
    rw [nI_leI (by omega) (by omega)] at d
    omega
  · rw [Nat.zero_add]
    have k := ls_count us (fun q => decide (nt_ds px py q x y < nt_ds px py p x y ∨ (nt_ds px py q x y = nt_ds px py p x y ∧ q < p)))
    rw [← k]
    exact K
theorem ys_nearest {post : Int32 → Prop} {x y r : Int32} (hf : ∀ p, p ∈ ls_all us → nI (rk us (fun p => nt_ds px py p x y) p) = r → post (nI p))
    (hn : (∀ p, p ∈ ls_all us → ¬ nI (rk us (fun p => nt_ds px py p x y) p) = r) → post (-3)) :
    ∀ n i, i ≤ 24 → 24 - i < n → (∀ p, p ∈ ls_all us → p < i → ¬ nI (rk us (fun p => nt_ds px py p x y) p) = r) → wY_nearest_17 post x y r us px py dn gr n (nI i) := by
  intro n
  induction n with
  | zero => intro i _ h; omega
  | succ n ih =>
    intro i h1 h2 h3
    by_cases z : i < 24
    · have e : (nI i).toNatClampNeg = i := nI_clamp (by omega)
      have step : (i ∈ ls_all us → ¬ nI (rk us (fun p => nt_ds px py p x y) i) = r) → wY_nearest_17 post x y r us px py dn gr n (nI (i + 1)) := by
        intro hh
        refine ih (i + 1) (by omega) (by omega) ?_
        intro p hp hi
        by_cases ei : p = i
        · subst ei; exact hh hp
        · exact h3 p hp (by omega)
      refine br_f (nI_ge (b := 24) z (by decide)) (And.intro (vp_in_nI z (by decide)) ?_)
      rw [e]
      refine br_c (fun u => nm_r (nI_1 i) (step (fun hm => absurd u (ls_mem.mp hm).2))) (fun u => ys_rank z (br_c (fun q => hf i (ls_mem.mpr ⟨z, u⟩) q) (fun q => nm_r (nI_1 i) (step (fun _ => q)))))
    · have e24 : i = 24 := by omega
      subst e24
      exact br_t (Int32.le_refl _) (hn (fun p hp => h3 p hp (ls_mem.mp hp).1))
end
end
section
-- closest
def cl_cd (px py : Nat → Int32) (p q : Nat) : Int32 := nt_ds px py q (px p) (py p)
theorem cl_sym (px py : Nat → Int32) (p q : Nat) : cl_cd px py p q = cl_cd px py q p := nt_ds_comm px py q p
theorem cl_rg {us px py : Nat → Int32} {p q : Nat} (rg : ∀ p, p < 24 → nt_rg (px p) 100 ∧ nt_rg (py p) 100) (hp : p ∈ ls_all us) (hq : q ∈ ls_all us) : 0 ≤ (cl_cd px py p q).toInt ∧ (cl_cd px py p q).toInt ≤ 80000 :=
  nt_ds_rg (rg q (ls_mem.mp hq).1) (rg p (ls_mem.mp hp).1)
def cl_x (us px py : Nat → Int32) (i : Nat) (b : Int32) : Prop :=
  (∀ p q, p ∈ ls_all us → q ∈ ls_all us → p < i → q ≠ p → b ≤ cl_cd px py p q) ∧ (b = 100000 ∨ ∃ p q, p ∈ ls_all us ∧ q ∈ ls_all us ∧ q ≠ p ∧ b = cl_cd px py p q)
def cl_min (us px py : Nat → Int32) (r : Int32) : Prop :=
  (∃ p q, p ∈ ls_all us ∧ q ∈ ls_all us ∧ q ≠ p ∧ r = cl_cd px py p q) ∧ ∀ p q, p ∈ ls_all us → q ∈ ls_all us → q ≠ p → r ≤ cl_cd px py p q
theorem cl_uniq {us px py : Nat → Int32} {r s : Int32} (h : cl_min us px py r) (h2 : cl_min us px py s) : r = s := by
  obtain ⟨⟨p, q, a1, a2, a3, a4⟩, a5⟩ := h
  obtain ⟨⟨p', q', b1, b2, b3, b4⟩, b5⟩ := h2
  have c1 := a5 p' q' b1 b2 b3
  have c2 := b5 p q a1 a2 a3
  rw [← b4] at c1
  rw [← a4] at c2
  exact Int32.le_antisymm c1 c2
theorem ls_two {us : Nat → Int32} (h : 2 ≤ (ls_all us).length) (p : Nat) : ∃ q, q ∈ ls_all us ∧ q ≠ p := by
  apply Classical.byContradiction
  intro z
  have k : (ls_all us).length ≤ [p].length := by
    apply List.Nodup.length_le_of_subset (ls_nodup us)
    intro q hq
    by_cases e : q = p
    · rw [e]; exact List.mem_cons_self
    · exact absurd ⟨q, hq, e⟩ z
  have : [p].length = 1 := rfl
  omega
theorem ls_one {us : Nat → Int32} (h : (ls_all us).length < 2) {p q : Nat} (hp : p ∈ ls_all us) (hq : q ∈ ls_all us) : p = q := by
  apply Decidable.byContradiction
  intro z
  have k : [p, q].length ≤ (ls_all us).length := by
    apply List.Nodup.length_le_of_subset
    · rw [List.nodup_cons]
      refine ⟨fun y => z (List.mem_singleton.mp y), ?_⟩
      rw [List.nodup_cons]
      exact ⟨List.not_mem_nil, List.nodup_nil⟩
    · intro r hr
      rcases List.mem_cons.mp hr with e | hr
      · rw [e]; exact hp
      · rw [List.mem_singleton.mp hr]; exact hq
  have : [p, q].length = 2 := rfl
  omega
theorem cl_xmin {us px py : Nat → Int32} {b : Int32} (rg : ∀ p, p < 24 → nt_rg (px p) 100 ∧ nt_rg (py p) 100) (h2 : 2 ≤ (ls_all us).length) (h : cl_x us px py 24 b) : cl_min us px py b := by
  obtain ⟨a, c⟩ := h
  refine ⟨?_, fun p q hp hq hn => a p q hp hq (ls_mem.mp hp).1 hn⟩
  rcases c with c | c
  · obtain ⟨p, hp, _⟩ := ls_two h2 0
    obtain ⟨q, hq, hn⟩ := ls_two h2 p
    have k := a p q hp hq (ls_mem.mp hp).1 hn
    have r := cl_rg rg hp hq
    rw [c, Int32.le_iff_toInt_le, show (100000 : Int32).toInt = 100000 by decide] at k
    omega
  · exact c
section
variable {pc bu k fc wa : Int32} {us px py tr bl br bb bt pf pt pd fo fd de le : Nat → Int32}
theorem xs_cl16 {post : Int32 → SX → Prop} (h2 : 2 ≤ (ls_all us).length) (rg : ∀ p, p < 24 → nt_rg (px p) 100 ∧ nt_rg (py p) 100)
    (K : ∀ (b bu k fc wa : Int32) (tr bl br bb bt pf pt pd fo fd : Nat → Int32), (bu = 0 ∨ tk us px py tr bl br bb bt) → cl_x us px py 24 b → post b (nI (ls_all us).length, bu, k, fc, wa, us, px, py, tr, bl, br, bb, bt, pf, pt, pd, fo, fd, de, le)) :
    ∀ (n i : Nat) (b bu k fc wa : Int32) (tr bl br bb bt pf pt pd fo fd : Nat → Int32), i ≤ 24 → 24 - i < n → (bu = 0 ∨ tk us px py tr bl br bb bt) → cl_x us px py i b →
      wX_closest_16 post n b (nI i) (nI (ls_all us).length) bu k fc wa us px py tr bl br bb bt pf pt pd fo fd de le := by
  intro n
  induction n with
  | zero => intro i _ _ _ _ _ _ _ _ _ _ _ _ _ _ _ _ h; omega
  | succ n ih =>
    intro i b bu k fc wa tr bl br bb bt pf pt pd fo fd h1 h3 hb hI
    by_cases z : i < 24
    · have e : (nI i).toNatClampNeg = i := nI_clamp (by omega)
      have v : vp_in (nI i) 24 := vp_in_nI z (by decide)
      refine br_f (nI_ge (b := 24) z (by decide)) (And.intro v ?_)
      rw [e]
      refine br_c (fun u => nm_r (nI_1 i) (ih (i + 1) b bu k fc wa tr bl br bb bt pf pt pd fo fd (by omega) (by omega) hb ⟨?_, hI.2⟩)) (fun u => And.intro v (And.intro v ?_))
      · intro p q hp hq hi hn
        by_cases ei : p = i
        · subst ei; exact absurd u (ls_mem.mp hp).2
        · exact hI.1 p q hp hq (by omega) hn
      · have hi : i ∈ ls_all us := ls_mem.mpr ⟨z, u⟩
        refine xs_search (w := 1) (by decide) (by decide) hb rg (nt_rg_mono (rg i z).1 (by decide)) (nt_rg_mono (rg i z).2 (by decide)) ?_
        intro bu' k' fc' tr' bl' br' bb' bt' pf' pt' pd' fo' fd' g hT hin hg hc
        have f1 : fc' = 1 := by
          obtain ⟨q, hq, hn⟩ := ls_two h2 i
          have := hin.1
          rcases hc q hq with ⟨j, hj, _⟩ | y | ⟨y, _⟩
          · omega
          · rw [nI_eq (by have := (ls_mem.mp hq).1; omega) (by omega)] at y
            exact absurd y hn
          · exact y
        subst f1
        obtain ⟨g1, g2⟩ := hg 0 (by decide)
        have gn : g 0 ≠ i := fun y => g2 (by rw [y])
        have f0 : fd' 0 = cl_cd px py i (g 0) := (hin.2.1 0 (by decide)).2.2
        have hle : ∀ q, q ∈ ls_all us → q ≠ i → fd' 0 ≤ cl_cd px py i q := by
          intro q hq hn
          rw [f0]
          rcases hc q hq with ⟨j, hj, y⟩ | y | ⟨_, y⟩
          · have : j = 0 := by omega
            subst this
            rw [y]
            exact Int32.le_refl _
          · rw [nI_eq (by have := (ls_mem.mp hq).1; omega) (by omega)] at y
            exact absurd y hn
          · rcases y with y | y
            · exact Int32.le_of_lt y
            · show nt_ds px py (g 0) (px i) (py i) ≤ nt_ds px py q (px i) (py i)
              have y1 : nt_ds px py (g 0) (px i) (py i) = nt_ds px py q (px i) (py i) := y.1
              rw [y1]
              exact Int32.le_refl _
        refine br_c (fun w => nm_r (nI_1 i) (ih (i + 1) b bu' k' _ _ tr' bl' br' bb' bt' pf' pt' pd' fo' fd' (by omega) (by omega) (Or.inr hT) ⟨?_, hI.2⟩))
          (fun w => nm_e (nm_r (nI_1 i) (ih (i + 1) _ bu' k' _ _ tr' bl' br' bb' bt' pf' pt' pd' fo' fd' (by omega) (by omega) (Or.inr hT) ⟨?_, Or.inr ⟨i, g 0, hi, g1, gn, f0⟩⟩)))
        · intro p q hp hq hpi hn
          by_cases ei : p = i
          · subst ei; exact Int32.le_trans w (hle q hq hn)
          · exact hI.1 p q hp hq (by omega) hn
        · intro p q hp hq hpi hn
          by_cases ei : p = i
          · subst ei; exact hle q hq hn
          · exact Int32.le_trans ((Int32.le_total _ _).resolve_left w) (hI.1 p q hp hq (by omega) hn)
    · have e24 : i = 24 := by omega
      subst e24
      exact br_t (Int32.le_refl _) (K b bu k fc wa tr bl br bb bt pf pt pd fo fd hb hI)
theorem xs_closest {post : Int32 → SX → Prop} (rg : ∀ p, p < 24 → nt_rg (px p) 100 ∧ nt_rg (py p) 100) (hb : bu = 0 ∨ tk us px py tr bl br bb bt)
    (K0 : (ls_all us).length < 2 → post (-3) (nI (ls_all us).length, bu, k, fc, wa, us, px, py, tr, bl, br, bb, bt, pf, pt, pd, fo, fd, de, le))
    (K : ∀ (b bu k fc wa : Int32) (tr bl br bb bt pf pt pd fo fd : Nat → Int32), (bu = 0 ∨ tk us px py tr bl br bb bt) → 2 ≤ (ls_all us).length → cl_min us px py b → post b (nI (ls_all us).length, bu, k, fc, wa, us, px, py, tr, bl, br, bb, bt, pf, pt, pd, fo, fd, de, le)) :
    wpX_closest post (nI (ls_all us).length, bu, k, fc, wa, us, px, py, tr, bl, br, bb, bt, pf, pt, pd, fo, fd, de, le) := by
  have hL := ls_len us
  refine pk_le 2 (ls_all us).length (fun h2 => ?_) (fun h2 => K0 h2)
  refine Exists.intro 25 (xs_cl16 h2 rg ?_ 25 0 100000 bu k fc wa tr bl br bb bt pf pt pd fo fd (by decide) (by decide) hb ⟨fun p q _ _ h _ => absurd h (Nat.not_lt_zero _), Or.inl rfl⟩)
  intro b bu k fc wa tr bl br bb bt pf pt pd fo fd hb hx
  exact K b bu k fc wa tr bl br bb bt pf pt pd fo fd hb h2 (cl_xmin rg h2 hx)
end
def cl_y (us px py : Nat → Int32) (P Q : Nat) (l : Int32) : Prop :=
  (l = -3 ∧ ∀ p q, p ∈ ls_all us → q ∈ ls_all us → q < p → ¬ (p < P ∨ (p = P ∧ q < Q))) ∨
  ((∃ p q, p ∈ ls_all us ∧ q ∈ ls_all us ∧ q < p ∧ l = cl_cd px py q p) ∧ ∀ p q, p ∈ ls_all us → q ∈ ls_all us → q < p → (p < P ∨ (p = P ∧ q < Q)) → l ≤ cl_cd px py q p)
theorem cl_y0 {us px py : Nat → Int32} : cl_y us px py 0 0 (-3) := Or.inl ⟨rfl, fun p q _ _ _ h => by omega⟩
theorem cl_ysk {us px py : Nat → Int32} {P Q : Nat} {l : Int32} (h : cl_y us px py P Q l) (hn : ¬ (P ∈ ls_all us ∧ Q ∈ ls_all us)) : cl_y us px py P (Q + 1) l := by
  have k : ∀ p q, p ∈ ls_all us → q ∈ ls_all us → (p < P ∨ (p = P ∧ q < Q + 1)) → (p < P ∨ (p = P ∧ q < Q)) := by
    intro p q hp hq c
    rcases c with c | ⟨c, d⟩
    · exact Or.inl c
    · subst c
      refine Or.inr ⟨rfl, ?_⟩
      have : q ≠ Q := fun e => hn ⟨hp, by rw [← e]; exact hq⟩
      omega
  rcases h with ⟨a, b⟩ | ⟨a, b⟩
  · exact Or.inl ⟨a, fun p q hp hq hqp c => b p q hp hq hqp (k p q hp hq c)⟩
  · exact Or.inr ⟨a, fun p q hp hq hqp c => b p q hp hq hqp (k p q hp hq c)⟩
theorem cl_ytn {us px py : Nat → Int32} {P : Nat} {l : Int32} (h : cl_y us px py P P l) : cl_y us px py (P + 1) 0 l := by
  rcases h with ⟨a, b⟩ | ⟨a, b⟩
  · exact Or.inl ⟨a, fun p q hp hq hqp c => b p q hp hq hqp (by omega)⟩
  · exact Or.inr ⟨a, fun p q hp hq hqp c => b p q hp hq hqp (by omega)⟩
theorem cl_m3 : (-3 : Int32).toInt = -3 := by decide
theorem cl_yn {us px py : Nat → Int32} {P Q : Nat} {l : Int32} (hP : P ∈ ls_all us) (hQ : Q ∈ ls_all us) (hQP : Q < P) (hl : ∀ p q, p ∈ ls_all us → q ∈ ls_all us → q < p → (p < P ∨ (p = P ∧ q < Q)) → cl_cd px py Q P ≤ cl_cd px py q p) :
    cl_y us px py P (Q + 1) (cl_cd px py Q P) := by
  refine Or.inr ⟨⟨P, Q, hP, hQ, hQP, rfl⟩, ?_⟩
  intro p q hp hq hqp c
  by_cases e : p = P ∧ q = Q
  · obtain ⟨rfl, rfl⟩ := e
    exact Int32.le_refl _
  · exact hl p q hp hq hqp (by omega)
theorem cl_y1 {us px py : Nat → Int32} {P Q : Nat} {l : Int32} (rg : ∀ p, p < 24 → nt_rg (px p) 100 ∧ nt_rg (py p) 100) (h : cl_y us px py P Q l) (hP : P ∈ ls_all us) (hQ : Q ∈ ls_all us) (hQP : Q < P) (e : l = -3) : cl_y us px py P (Q + 1) (cl_cd px py Q P) := by
  rcases h with ⟨a, b⟩ | ⟨⟨p, q, hp, hq, hqp, el⟩, b⟩
  · exact cl_yn (l := l) hP hQ hQP (fun p q hp hq hqp c => absurd c (b p q hp hq hqp))
  · have r := cl_rg rg hq hp
    rw [← el, e, cl_m3] at r
    omega
theorem cl_y2 {us px py : Nat → Int32} {P Q : Nat} {l : Int32} (h : cl_y us px py P Q l) (e : ¬ l = -3) (d : l ≤ cl_cd px py Q P) : cl_y us px py P (Q + 1) l := by
  rcases h with ⟨a, b⟩ | ⟨a, b⟩
  · exact absurd a e
  · refine Or.inr ⟨a, fun p q hp hq hqp c => ?_⟩
    by_cases y : p = P ∧ q = Q
    · obtain ⟨rfl, rfl⟩ := y
      exact d
    · exact b p q hp hq hqp (by omega)
theorem cl_y3 {us px py : Nat → Int32} {P Q : Nat} {l : Int32} (h : cl_y us px py P Q l) (hP : P ∈ ls_all us) (hQ : Q ∈ ls_all us) (hQP : Q < P) (e : ¬ l = -3) (d : ¬ l ≤ cl_cd px py Q P) : cl_y us px py P (Q + 1) (cl_cd px py Q P) := by
  rcases h with ⟨a, b⟩ | ⟨a, b⟩
  · exact absurd a e
  · exact cl_yn (l := l) hP hQ hQP (fun p q hp hq hqp c => Int32.le_trans ((Int32.le_total _ _).resolve_left d) (b p q hp hq hqp c))
theorem cl_fin {us px py : Nat → Int32} {l : Int32} (h : cl_y us px py 24 0 l) (h2 : 2 ≤ (ls_all us).length) : cl_min us px py l := by
  rcases h with ⟨a, b⟩ | ⟨⟨p, q, hp, hq, hqp, el⟩, b⟩
  · obtain ⟨p, hp, _⟩ := ls_two h2 0
    obtain ⟨q, hq, hn⟩ := ls_two h2 p
    by_cases c : q < p
    · exact absurd (Or.inl (ls_mem.mp hp).1) (b p q hp hq c)
    · exact absurd (Or.inl (ls_mem.mp hq).1) (b q p hq hp (by omega))
  · refine ⟨⟨q, p, hq, hp, by omega, el⟩, fun a c ha hc hn => ?_⟩
    by_cases d : c < a
    · rw [cl_sym]
      exact b a c ha hc d (Or.inl (ls_mem.mp ha).1)
    · exact b c a hc ha (by omega) (Or.inl (ls_mem.mp hc).1)
theorem cl_fin0 {us px py : Nat → Int32} {l : Int32} (h : cl_y us px py 24 0 l) (h2 : (ls_all us).length < 2) : l = -3 := by
  rcases h with ⟨a, b⟩ | ⟨⟨p, q, hp, hq, hqp, el⟩, b⟩
  · exact a
  · have := ls_one h2 hp hq
    omega
section
variable {us px py dn gr : Nat → Int32}
theorem ys_cl13 {post : Int32 → Prop} {J5 : Int32 → Int32 → Prop} {P : Nat} (rg : ∀ p, p < 24 → nt_rg (px p) 100 ∧ nt_rg (py p) 100) (hP : P < 24) (K : ∀ l, cl_y us px py (P + 1) 0 l → J5 l (nI (P + 1))) :
    ∀ (n q : Nat) (l : Int32), q ≤ P → P - q < n → cl_y us px py P q l → wY_closest_13 post J5 (nI P) us px py dn gr n l (nI q) := by
  intro n
  induction n with
  | zero => intro q l _ h; omega
  | succ n ih =>
    intro q l h1 h2 hI
    by_cases z : q < P
    · have e : (nI q).toNatClampNeg = q := nI_clamp (by omega)
      have eP : (nI P).toNatClampNeg = P := nI_clamp (by omega)
      have v : vp_in (nI q) 24 := vp_in_nI (by omega) (by decide)
      have vP : vp_in (nI P) 24 := vp_in_nI hP (by decide)
      refine br_f (nI_ge z (by omega)) ?_
      rw [e, eP]
      refine And.intro v (And.intro v (ys_dist hP (And.intro vP ?_)))
      have nx : ∀ l', cl_y us px py P (q + 1) l' → ∀ X : Int32, X = nI q + 1 → wY_closest_13 post J5 (nI P) us px py dn gr n l' X := by
        intro l' h X eX
        rw [eX, nI_1]
        exact ih (q + 1) l' (by omega) (by omega) h
      refine br_c (fun u => nx l (cl_ysk hI (fun y => (ls_mem.mp y.1).2 u))) (fun u => And.intro v (br_c (fun w => nx l (cl_ysk hI (fun y => (ls_mem.mp y.2).2 w))) (fun w => ?_)))
      have mP : P ∈ ls_all us := ls_mem.mpr ⟨hP, u⟩
      have mq : q ∈ ls_all us := ls_mem.mpr ⟨by omega, w⟩
      exact br_c (fun a => nx _ (cl_y1 rg hI mP mq z a)) (fun a => br_c (fun b => nx l (cl_y2 hI a b)) (fun b => nx _ (cl_y3 hI mP mq z a b)))
    · have eq : q = P := by omega
      subst eq
      exact br_t (Int32.le_refl _) (nm_r (nI_1 q) (K l (cl_ytn hI)))
theorem ys_cl5 {post : Int32 → Prop} (rg : ∀ p, p < 24 → nt_rg (px p) 100 ∧ nt_rg (py p) 100) (K : ∀ l, cl_y us px py 24 0 l → post l) :
    ∀ (n P : Nat) (l : Int32), P ≤ 24 → 24 - P < n → cl_y us px py P 0 l → wY_closest_5 post us px py dn gr n l (nI P) := by
  intro n
  induction n with
  | zero => intro q l _ h; omega
  | succ n ih =>
    intro P l h1 h2 hI
    by_cases z : P < 24
    · refine br_f (nI_ge (b := 24) z (by decide)) (Exists.intro 25 ?_)
      exact ys_cl13 rg z (fun l' h => ih (P + 1) l' (by omega) (by omega) h) 25 0 l (by omega) (by omega) hI
    · have e24 : P = 24 := by omega
      subst e24
      exact br_t (Int32.le_refl _) (K l hI)
theorem ys_closest {post : Int32 → Prop} (rg : ∀ p, p < 24 → nt_rg (px p) 100 ∧ nt_rg (py p) 100) (K : ∀ l, cl_y us px py 24 0 l → post l) : wpY_closest post (us, px, py, dn, gr) :=
  Exists.intro 25 (ys_cl5 rg K 25 0 (-3) (by decide) (by decide) cl_y0)
end
end
section
-- clusters: connection, leaders, rounds
def cu_C (E : Nat → Nat → Prop) (p q : Nat) : Prop := ∀ S : Nat → Prop, (∀ a b, E a b → S a → S b) → S p → S q
theorem cu_rf (E : Nat → Nat → Prop) (p : Nat) : cu_C E p p := fun _ _ h => h
theorem cu_tr {E : Nat → Nat → Prop} {p q r : Nat} (h : cu_C E p q) (h2 : cu_C E q r) : cu_C E p r := fun S hc h0 => h2 S hc (h S hc h0)
theorem cu_ed {E : Nat → Nat → Prop} {p q : Nat} (h : E p q) : cu_C E p q := fun _ hc h0 => hc p q h h0
theorem cu_sy {E : Nat → Nat → Prop} (sy : ∀ a b, E a b → E b a) {p q : Nat} (h : cu_C E p q) : cu_C E q p :=
  h (fun x => cu_C E x p) (fun a b e k => cu_tr (cu_ed (sy a b e)) k) (cu_rf E p)
/-- the smallest place of a cluster -/
def cu_min (E : Nat → Nat → Prop) (p c : Nat) : Prop := cu_C E p c ∧ ∀ q, cu_C E p q → c ≤ q
theorem cu_uniq {E : Nat → Nat → Prop} {p c d : Nat} (h : cu_min E p c) (h2 : cu_min E p d) : c = d := Nat.le_antisymm (h.2 d h2.1) (h2.2 c h.1)
def cu_rt (l : Nat → Nat) : Nat → Nat → Nat
  | 0, p => p
  | n + 1, p => if l p = p then p else cu_rt l n (l p)
def cu_r (l : Nat → Nat) (p : Nat) : Nat := cu_rt l p p
def cu_dn (l : Nat → Nat) : Prop := ∀ p, p < 24 → l p ≤ p
theorem cu_fu {l : Nat → Nat} (hd : cu_dn l) : ∀ n p, p ≤ n → p < 24 → cu_rt l n p = cu_rt l (n + 1) p := by
  intro n
  induction n with
  | zero =>
    intro p h1 h2
    have e : p = 0 := by omega
    subst e
    have e2 : l 0 = 0 := by have := hd 0 (by omega); omega
    show 0 = if l 0 = 0 then 0 else _
    rw [if_pos e2]
  | succ n ih =>
    intro p h1 h2
    show (if l p = p then p else cu_rt l n (l p)) = (if l p = p then p else cu_rt l (n + 1) (l p))
    by_cases e : l p = p
    · rw [if_pos e, if_pos e]
    · rw [if_neg e, if_neg e]
      have := hd p h2
      exact ih (l p) (by omega) (by omega)
theorem cu_fu2 {l : Nat → Nat} (hd : cu_dn l) {p : Nat} (hp : p < 24) : ∀ n, p ≤ n → cu_rt l n p = cu_r l p := by
  intro n
  induction n with
  | zero =>
    intro h
    have e : p = 0 := by omega
    subst e
    rfl
  | succ n ih =>
    intro h
    by_cases e : p = n + 1
    · subst e; rfl
    · rw [← cu_fu hd n p (by omega) hp]
      exact ih (by omega)
theorem cu_r0 {l : Nat → Nat} (hd : cu_dn l) {p : Nat} (hp : p < 24) (h : l p = p) : cu_r l p = p := by
  rw [← cu_fu2 hd hp (p + 1) (by omega)]
  show (if l p = p then p else _) = p
  rw [if_pos h]
theorem cu_r1 {l : Nat → Nat} (hd : cu_dn l) {p : Nat} (hp : p < 24) (h : ¬ l p = p) : cu_r l p = cu_r l (l p) := by
  have hl := hd p hp
  rw [← cu_fu2 hd hp (p + 1) (by omega), ← cu_fu2 hd (show l p < 24 by omega) p hl]
  show (if l p = p then p else cu_rt l p (l p)) = _
  rw [if_neg h]
/-- induction down the leaders -/
theorem cu_ind {l : Nat → Nat} (hd : cu_dn l) (P : Nat → Prop) (h0 : ∀ p, p < 24 → l p = p → P p) (h1 : ∀ p, p < 24 → ¬ l p = p → P (l p) → P p) : ∀ p, p < 24 → P p := by
  have k : ∀ n p, p < n → p < 24 → P p := by
    intro n
    induction n with
    | zero => intro p h; omega
    | succ n ih =>
      intro p h hp
      by_cases e : l p = p
      · exact h0 p hp e
      · have := hd p hp
        exact h1 p hp e (ih (l p) (by omega) (by omega))
  exact fun p hp => k (p + 1) p (by omega) hp
theorem cu_rfix {l : Nat → Nat} (hd : cu_dn l) : ∀ p, p < 24 → l (cu_r l p) = cu_r l p ∧ cu_r l p ≤ p := by
  apply cu_ind hd
  · intro p hp e
    rw [cu_r0 hd hp e]
    exact ⟨e, Nat.le_refl _⟩
  · intro p hp e h
    rw [cu_r1 hd hp e]
    have := hd p hp
    exact ⟨h.1, by omega⟩
theorem cu_rC {E : Nat → Nat → Prop} {l : Nat → Nat} (hd : cu_dn l) (hC : ∀ p, p < 24 → cu_C E p (l p)) : ∀ p, p < 24 → cu_C E p (cu_r l p) := by
  apply cu_ind hd
  · intro p hp e
    rw [cu_r0 hd hp e]
    exact cu_rf E p
  · intro p hp e h
    rw [cu_r1 hd hp e]
    exact cu_tr (hC p hp) h
theorem cu_rself {l : Nat → Nat} (hd : cu_dn l) {p : Nat} (hp : p < 24) : l p = p ↔ cu_r l p = p := by
  constructor
  · exact cu_r0 hd hp
  · intro h
    have k := (cu_rfix hd p hp).1
    rw [h] at k
    exact k
def cu_up (l : Nat → Nat) (b a : Nat) : Nat → Nat := fun j => if j = b then a else l j
theorem cu_up_dn {l : Nat → Nat} {a b : Nat} (hd : cu_dn l) (h : a ≤ b) : cu_dn (cu_up l b a) := by
  intro p hp
  unfold cu_up
  by_cases e : p = b
  · rw [if_pos e]; omega
  · rw [if_neg e]; exact hd p hp
theorem cu_up_r {l : Nat → Nat} {a b : Nat} (hd : cu_dn l) (h : a ≤ b) (hb : b < 24) (ha : l a = a) (hbb : l b = b) : ∀ p, p < 24 → cu_r (cu_up l b a) p = if cu_r l p = b then a else cu_r l p := by
  have hd2 := cu_up_dn hd h
  have ea : cu_r (cu_up l b a) a = a := cu_r0 hd2 (by omega) (by
    unfold cu_up
    by_cases e : a = b
    · rw [if_pos e]
    · rw [if_neg e]; exact ha)
  apply cu_ind hd
  · intro p hp e
    rw [cu_r0 hd hp e]
    by_cases z : p = b
    · rw [if_pos z]
      subst z
      by_cases y : a = p
      · subst y; exact ea
      · have e2 : cu_up l p a p = a := if_pos rfl
        rw [cu_r1 hd2 hp (by rw [e2]; exact y), e2]
        exact ea
    · rw [if_neg z]
      exact cu_r0 hd2 hp (by unfold cu_up; rw [if_neg z]; exact e)
  · intro p hp e ih
    have z : p ≠ b := fun y => e (by rw [y]; exact hbb)
    have e2 : cu_up l b a p = l p := if_neg z
    rw [cu_r1 hd hp e, cu_r1 hd2 hp (by rw [e2]; exact e), e2]
    exact ih
/-- the leaders: each leads to a place that is not greater and connected -/
def cu_L (E : Nat → Nat → Prop) (le : Nat → Int32) (l : Nat → Nat) : Prop := ∀ p, p < 24 → le p = nI (l p) ∧ l p ≤ p ∧ cu_C E p (l p)
theorem cu_L_dn {E : Nat → Nat → Prop} {le : Nat → Int32} {l : Nat → Nat} (h : cu_L E le l) : cu_dn l := fun p hp => (h p hp).2.1
def cu_mono (l l' : Nat → Nat) : Prop := ∀ x y, x < 24 → y < 24 → cu_r l x = cu_r l y → cu_r l' x = cu_r l' y
theorem cu_un {E : Nat → Nat → Prop} {le : Nat → Int32} {l : Nat → Nat} {p q a b : Nat} (hL : cu_L E le l) (hp : p < 24) (hq : q < 24) (h : a ≤ b) (hb : b < 24) (ha : l a = a) (hbb : l b = b) (hC : cu_C E b a)
    (hr : (cu_r l p = a ∧ cu_r l q = b) ∨ (cu_r l p = b ∧ cu_r l q = a)) :
    cu_L E (upd le b (nI a)) (cu_up l b a) ∧ cu_r (cu_up l b a) p = cu_r (cu_up l b a) q ∧ cu_mono l (cu_up l b a) := by
  have hd := cu_L_dn hL
  have k := cu_up_r hd h hb ha hbb
  refine ⟨?_, ?_, ?_⟩
  · intro j hj
    by_cases e : j = b
    · subst e
      rw [pk_us, show cu_up l j a j = a from if_pos rfl]
      exact ⟨rfl, h, hC⟩
    · rw [pk_un e, show cu_up l b a j = l j from if_neg e]
      exact hL j hj
  · rw [k p hp, k q hq]
    rcases hr with ⟨e1, e2⟩ | ⟨e1, e2⟩
    · rw [e1, e2, if_pos rfl]
      by_cases z : a = b
      · rw [if_pos z]
      · rw [if_neg z]
    · rw [e1, e2, if_pos rfl]
      by_cases z : a = b
      · rw [if_pos z]
      · rw [if_neg z]
  · intro x y hx hy e
    rw [k x hx, k y hy, e]
theorem cu_Lmin {E : Nat → Nat → Prop} {le : Nat → Int32} {l : Nat → Nat} (hE : ∀ a b, E a b → a < 24 ∧ b < 24) (hL : cu_L E le l) (h : ∀ a b, E a b → cu_r l a = cu_r l b) : ∀ p, p < 24 → cu_min E p (cu_r l p) := by
  intro p hp
  have hd := cu_L_dn hL
  refine ⟨cu_rC hd (fun q hq => (hL q hq).2.2) p hp, fun q hq => ?_⟩
  have k := hq (fun x => x < 24 ∧ cu_r l x = cu_r l p) (fun a b e z => ⟨(hE a b e).2, by rw [← h a b e]; exact z.2⟩) ⟨hp, rfl⟩
  rw [← k.2]
  exact (cu_rfix hd q k.1).2
/-! the rounds of the reference -/
def cu_G (E : Nat → Nat → Prop) (gp : Nat → Nat) : Prop := ∀ p, p < 24 → gp p ≤ p ∧ cu_C E p (gp p)
def cu_n (c gp : Nat → Nat) : Nat := ((List.range' 0 24).filter (fun p => decide (gp p = c p))).length
/-- what a round gives -/
def cu_rd (E : Nat → Nat → Prop) (gp gp' : Nat → Nat) : Prop := (∀ p, p < 24 → gp' p ≤ gp p) ∧ ∀ a b, E a b → gp' a ≤ gp b
theorem cu_c {E : Nat → Nat → Prop} {c : Nat → Nat} (sy : ∀ a b, E a b → E b a) (hc : ∀ p, p < 24 → cu_min E p (c p)) {p q : Nat} (hp : p < 24) (hq : q < 24) (h : cu_C E p q) : c p = c q := by
  apply Nat.le_antisymm
  · exact (hc p hp).2 _ (cu_tr h (hc q hq).1)
  · exact (hc q hq).2 _ (cu_tr (cu_sy sy h) (hc p hp).1)
theorem cu_step {E : Nat → Nat → Prop} {c gp gp' : Nat → Nat} (hE : ∀ a b, E a b → a < 24 ∧ b < 24) (sy : ∀ a b, E a b → E b a) (hc : ∀ p, p < 24 → cu_min E p (c p)) (h : cu_G E gp) (h' : cu_G E gp') (hr : cu_rd E gp gp') :
    (∀ p, p < 24 → gp' p = c p) ∨ cu_n c gp < cu_n c gp' := by
  have lo : ∀ g : Nat → Nat, cu_G E g → ∀ p, p < 24 → c p ≤ g p := fun g hg p hp => (hc p hp).2 _ (hg p hp).2
  have keep : ∀ p, p < 24 → gp p = c p → gp' p = c p := by
    intro p hp e
    have a := lo gp' h' p hp
    have b := hr.1 p hp
    omega
  by_cases z : ∃ p q, E p q ∧ gp q = c q ∧ ¬ gp p = c p
  · right
    obtain ⟨p, q, e, s, u⟩ := z
    obtain ⟨hp, hq⟩ := hE p q e
    have sp : gp' p = c p := by
      have a := lo gp' h' p hp
      have b := hr.2 p q e
      have d := cu_c sy hc hp hq (cu_ed e)
      omega
    have k : (p :: (List.range' 0 24).filter (fun p => decide (gp p = c p))).length ≤ ((List.range' 0 24).filter (fun p => decide (gp' p = c p))).length := by
      apply List.Nodup.length_le_of_subset
      · rw [List.nodup_cons]
        exact ⟨fun m => u (of_decide_eq_true (List.mem_filter.mp m).2), List.Nodup.sublist List.filter_sublist List.nodup_range'⟩
      · intro r hm
        rcases List.mem_cons.mp hm with e | hm
        · subst e
          exact List.mem_filter.mpr ⟨List.mem_range'_1.mpr ⟨Nat.zero_le _, by omega⟩, decide_eq_true sp⟩
        · obtain ⟨a, b⟩ := List.mem_filter.mp hm
          have a2 := List.mem_range'_1.mp a
          exact List.mem_filter.mpr ⟨a, decide_eq_true (keep r (by omega) (of_decide_eq_true b))⟩
    exact k
  · left
    intro p hp
    apply keep p hp
    have cp := (hc p hp).1
    have c24 : c p < 24 := by
      have := (hc p hp).2 p (cu_rf E p)
      omega
    have e1 : c p = c (c p) := cu_c sy hc hp c24 cp
    have s0 : gp (c p) = c (c p) := by
      have a := lo gp h (c p) c24
      have b := (h (c p) c24).1
      omega
    exact (cu_sy sy cp) (fun x => gp x = c x) (fun a b e s => by
      apply Decidable.byContradiction
      intro y
      exact z ⟨b, a, sy a b e, s, y⟩) s0
theorem cu_n24 {c gp : Nat → Nat} (h : 24 ≤ cu_n c gp) : ∀ p, p < 24 → gp p = c p := by
  intro p hp
  apply Decidable.byContradiction
  intro z
  have k : (p :: (List.range' 0 24).filter (fun p => decide (gp p = c p))).length ≤ (List.range' 0 24).length := by
    apply List.Nodup.length_le_of_subset
    · rw [List.nodup_cons]
      exact ⟨fun m => z (of_decide_eq_true (List.mem_filter.mp m).2), List.Nodup.sublist List.filter_sublist List.nodup_range'⟩
    · intro r hm
      rcases List.mem_cons.mp hm with e | hm
      · subst e; exact List.mem_range'_1.mpr ⟨Nat.zero_le _, by omega⟩
      · exact (List.mem_filter.mp hm).1
  rw [List.length_cons, List.length_range'] at k
  unfold cu_n at h
  omega
end
section
-- clusters: the component
def cu_k (us px py : Nat → Int32) (r : Int32) (p : Nat) : Nat := (ls_all us).countP (cw_Q px py (px p) (py p) r)
def cu_d (us px py : Nat → Int32) (r m : Int32) (p : Nat) : Bool := ls_U us p && decide (¬ nI (cu_k us px py r p) < m)
def cu_v (b : Bool) : Int32 := if b = true then 1 else 0
theorem cu_vf {b : Bool} (h : cu_v b = 0) : b = false := by
  cases b
  · rfl
  · exact absurd h (by decide)
theorem cu_vt {b : Bool} (h : ¬ cu_v b = 0) : b = true := by
  cases b
  · exact absurd rfl h
  · rfl
def cu_E (us px py : Nat → Int32) (r m : Int32) (p q : Nat) : Prop := p < 24 ∧ q < 24 ∧ cu_d us px py r m p = true ∧ cu_d us px py r m q = true ∧ nt_ds px py p (px q) (py q) ≤ r
theorem cu_Esy {us px py : Nat → Int32} {r m : Int32} (a b : Nat) (h : cu_E us px py r m a b) : cu_E us px py r m b a := by
  obtain ⟨h1, h2, h3, h4, h5⟩ := h
  exact ⟨h2, h1, h4, h3, by rw [nt_ds_comm]; exact h5⟩
theorem cu_E24 {us px py : Nat → Int32} {r m : Int32} (a b : Nat) (h : cu_E us px py r m a b) : a < 24 ∧ b < 24 := ⟨h.1, h.2.1⟩
theorem cu_dU {us px py : Nat → Int32} {r m : Int32} {p : Nat} (h : cu_d us px py r m p = true) : ¬ us p = 0 := ls_Ut (yc_and h).1
def cu_D (us px py : Nat → Int32) (r m : Int32) (de : Nat → Int32) : Prop := ∀ j, j < 24 → de j = cu_v (cu_d us px py r m j)
section
variable {pc bu k fc wa : Int32} {us px py tr bl br bb bt pf pt pd fo fd de le : Nat → Int32}
theorem xs_lead2 {post : Int32 → Prop} {E : Nat → Nat → Prop} {l : Nat → Nat} (hL : cu_L E le l) : ∀ n p, p < n → p < 24 → post (nI (cu_r l p)) → wX_leaderOf_2 post pc bu k fc wa us px py tr bl br bb bt pf pt pd fo fd de le n (nI p) := by
  have hd := cu_L_dn hL
  intro n
  induction n with
  | zero => intro p h; omega
  | succ n ih =>
    intro p h hp K
    have e : (nI p).toNatClampNeg = p := nI_clamp (by omega)
    have v : vp_in (nI p) 24 := vp_in_nI hp (by decide)
    have hl := hd p hp
    refine And.intro v ?_
    rw [e, (hL p hp).1]
    refine pk_eq (l p) p (fun z => ?_) (fun z => And.intro v (nm_e (ih (l p) (by omega) (by omega) ?_)))
    · rw [cu_r0 hd hp z] at K
      exact K
    · rw [cu_r1 hd hp z] at K
      exact K
theorem xs_lead {post : Int32 → Prop} {E : Nat → Nat → Prop} {l : Nat → Nat} {p : Nat} (hL : cu_L E le l) (hp : p < 24) (K : post (nI (cu_r l p))) : wpX_leaderOf post (pc, bu, k, fc, wa, us, px, py, tr, bl, br, bb, bt, pf, pt, pd, fo, fd, de, le) (nI p) :=
  Exists.intro (p + 1) (xs_lead2 hL (p + 1) p (by omega) hp K)
theorem xs_unite {post : SX → Prop} {E : Nat → Nat → Prop} {l : Nat → Nat} {p q : Nat} (sy : ∀ a b, E a b → E b a) (hL : cu_L E le l) (hp : p < 24) (hq : q < 24) (hpq : cu_C E p q)
    (K : ∀ (le' : Nat → Int32) (l' : Nat → Nat), cu_L E le' l' → cu_r l' p = cu_r l' q → cu_mono l l' → post (pc, bu, k, fc, wa, us, px, py, tr, bl, br, bb, bt, pf, pt, pd, fo, fd, de, le')) : wpX_unite post (pc, bu, k, fc, wa, us, px, py, tr, bl, br, bb, bt, pf, pt, pd, fo, fd, de, le) (nI p) (nI q) := by
  have hd := cu_L_dn hL
  have fp := cu_rfix hd p hp
  have fq := cu_rfix hd q hq
  have cp := cu_rC hd (fun q hq => (hL q hq).2.2) p hp
  have cq := cu_rC hd (fun q hq => (hL q hq).2.2) q hq
  refine xs_lead hL hp (xs_lead hL hq ?_)
  refine pk_le (cu_r l q) (cu_r l p) (fun h => And.intro (vp_in_nI (by omega) (by decide)) (nm_r (e' := upd le (cu_r l p) (nI (cu_r l q))) ?_ ?_)) (fun h => And.intro (vp_in_nI (by omega) (by decide)) (nm_r (e' := upd le (cu_r l q) (nI (cu_r l p))) ?_ ?_))
  · rw [nI_clamp (by omega), nt_nb (by omega)]
  · obtain ⟨a, b, c⟩ := cu_un hL hp hq h (by omega) fq.1 fp.1 (cu_tr (cu_sy sy cp) (cu_tr hpq cq)) (Or.inr ⟨rfl, rfl⟩)
    exact K _ _ a b c
  · rw [nI_clamp (by omega), nt_nb (by omega)]
  · obtain ⟨a, b, c⟩ := cu_un hL hp hq (Nat.le_of_lt h) (by omega) fp.1 fq.1 (cu_tr (cu_sy sy cq) (cu_tr (cu_sy sy hpq) cp)) (Or.inl ⟨rfl, rfl⟩)
    exact K _ _ a b c
theorem xs_join {post : SX → Prop} {r m : Int32} {l : Nat → Nat} {p : Nat} (rg : ∀ p, p < 24 → nt_rg (px p) 100 ∧ nt_rg (py p) 100) (hp : p < 24) (hdp : cu_d us px py r m p = true) (hT : tk us px py tr bl br bb bt) (hD : cu_D us px py r m de) (hL : cu_L (cu_E us px py r m) le l)
    (K : ∀ (k : Int32) (pf pt pd le' : Nat → Int32) (l' : Nat → Nat), cu_L (cu_E us px py r m) le' l' → cu_mono l l' → (∀ q, cu_E us px py r m p q → cu_r l' p = cu_r l' q) → post (nI (ls_all us).length, bu, k, fc, wa, us, px, py, tr, bl, br, bb, bt, pf, pt, pd, fo, fd, de, le')) :
    wpX_joinNear post (nI (ls_all us).length, bu, k, fc, wa, us, px, py, tr, bl, br, bb, bt, pf, pt, pd, fo, fd, de, le) (nI p) r := by
  have vp : vp_in (nI p) 24 := vp_in_nI hp (by decide)
  have e1 : (nI p).toNatClampNeg = p := nI_clamp (by omega)
  unfold wpX_joinNear
  dsimp only
  refine xs_start (ls_len us) (fun pf2 pt2 pd2 hk => Exists.intro 25 ?_)
  refine tv_go (fun n k pf pt pd (s : (Nat → Int32) × (Nat → Nat)) => wX_joinNear_4 post (nI p) r n (nI (ls_all us).length) bu k fc wa us px py tr bl br bb bt pf pt pd fo fd de s.1)
    (fun s R => cu_L (cu_E us px py r m) s.1 s.2 ∧ cu_mono l s.2 ∧ ∀ q, q ∈ ls_all us → q ∈ R ∨ (cu_E us px py r m p q → cu_r s.2 p = cu_r s.2 q)) hT ?_ ?_ ?_ pf2 pt2 pd2 (le, l) hk ⟨hL, fun _ _ _ _ h => h, fun q hq => Or.inl hq⟩
  · rintro s R R' hp ⟨h1, h2, h3⟩
    refine ⟨h1, h2, fun q hq => ?_⟩
    rcases h3 q hq with z | z
    · exact Or.inl ((List.Perm.mem_iff hp).mp z)
    · exact Or.inr z
  · intro n pf pt pd s h
    obtain ⟨le1, l1⟩ := s
    obtain ⟨h1, h2, h3⟩ := h
    refine br_t (by decide) (K _ pf pt pd le1 l1 h1 h2 (fun q hq => ?_))
    exact (h3 q (ls_mem.mpr ⟨hq.2.1, cu_dU hq.2.2.2.1⟩)).resolve_left List.not_mem_nil hq
  · intro n a b rr pf pt pd s R R' hl hk hB hvm hq i1 i2 kp kv
    obtain ⟨le1, l1⟩ := s
    have hm := tv_rt hk
    have v : vp_in (nI (ls_rt a b)) 24 := vp_in_nI hm (by decide)
    have e : (nI (ls_rt a b)).toNatClampNeg = ls_rt a b := nI_clamp (by omega)
    have eq := nt_cl hvm
    generalize (tr (ls_rt a b)).toNatClampNeg = q at eq i2
    have e2 : (nI q).toNatClampNeg = q := nI_clamp (by omega)
    have vq : vp_in (nI q) 24 := vp_in_nI eq.2 (by decide)
    obtain ⟨j1, j2, j3⟩ := i2
    have skip : ¬ cu_E us px py r m p q → wX_joinNear_95 post (wX_joinNear_4 post (nI p) r n) (nI p) r (nI (ls_rt a b)) (nI (ls_all us).length) bu (nI rr.length) fc wa us px py tr bl br bb bt pf pt pd fo fd de le1 := by
      intro hn
      refine xs_ph hk (by omega) (fun pf' pt' pd' h3 => kv (le1, l1) pf' pt' pd' ⟨j1, j2, fun q' hq' => ?_⟩ h3)
      rcases j3 q' hq' with z | z
      · rcases List.mem_cons.mp z with z | z
        · subst z; exact Or.inr (fun y => absurd y hn)
        · exact Or.inl z
      · exact Or.inr z
    refine br_f (nI_nle (by omega) (by omega)) (xs_pop hk (by omega) ?_)
    dsimp only
    rw [e1]
    refine And.intro vp (And.intro vp (xs_dob hm (br_c (fun h => And.intro v (nm_r (e' := nI q) (by rw [e]; exact eq.1) (And.intro vp (And.intro vp (xs_dt vq ?_))))) (fun h => kp ⟨i1.1, i1.2.1, fun q' hq' => ?_⟩))))
    · rw [e2]
      refine And.intro vq ?_
      rw [hD q eq.2]
      refine br_c (fun z => skip (fun y => ?_)) (fun z => br_c (fun y => skip (fun w => ?_)) (fun y => ?_))
      · have z2 := cu_vf z
        rw [y.2.2.2.1] at z2
        exact Bool.noConfusion z2
      · have w2 := w.2.2.2.2
        rw [nt_ds_comm] at w2
        exact Int32.not_le.mpr y w2
      · have hE : cu_E us px py r m p q := ⟨hp, eq.2, hdp, cu_vt z, by rw [nt_ds_comm]; exact Int32.not_lt.mp y⟩
        refine xs_unite cu_Esy j1 hp eq.2 (cu_ed hE) (fun le2 l2 k1 k2 k3 => ?_)
        refine xs_ph hk (by omega) (fun pf' pt' pd' h3 => kv (le2, l2) pf' pt' pd' ⟨k1, fun x y hx hy he => k3 x y hx hy (j2 x y hx hy he), fun q' hq' => ?_⟩ h3)
        rcases j3 q' hq' with z | z
        · rcases List.mem_cons.mp z with z | z
          · subst z; exact Or.inr (fun _ => k2)
          · exact Or.inl z
        · exact Or.inr (fun w => k3 p q' hp (ls_mem.mp hq').1 (z w))
    · rcases i1.2.2 q' hq' with z | z
      · rcases List.mem_append.mp z with z | z
        · refine Or.inr (fun w => ?_)
          have w2 := w.2.2.2.2
          rw [nt_ds_comm] at w2
          have rp := rg p hp
          exact absurd (Int32.le_trans (tv_prune hB rg (nt_rg_mono rp.1 (by decide)) (nt_rg_mono rp.2 (by decide)) z (hq q' z)) w2) h
        · exact Or.inl z
      · exact Or.inr z
theorem xs_f79 {post : SX → Prop} {r m : Int32} (rg : ∀ p, p < 24 → nt_rg (px p) 100 ∧ nt_rg (py p) 100) (hT : ∀ p, p ∈ ls_all us → tk us px py tr bl br bb bt) (hD : cu_D us px py r m de)
    (K : ∀ (k : Int32) (pf pt pd le : Nat → Int32) (l : Nat → Nat), cu_L (cu_E us px py r m) le l → (∀ a b, cu_E us px py r m a b → cu_r l a = cu_r l b) → post (nI (ls_all us).length, bu, k, fc, wa, us, px, py, tr, bl, br, bb, bt, pf, pt, pd, fo, fd, de, le)) :
    ∀ (n i : Nat) (k : Int32) (pf pt pd le : Nat → Int32) (l : Nat → Nat), i ≤ 24 → 24 - i < n → cu_L (cu_E us px py r m) le l → (∀ a b, cu_E us px py r m a b → a < i → cu_r l a = cu_r l b) →
      wX_formClusters_79 post r n (nI i) (nI (ls_all us).length) bu k fc wa us px py tr bl br bb bt pf pt pd fo fd de le := by
  intro n
  induction n with
  | zero => intro i _ _ _ _ _ _ _ h; omega
  | succ n ih =>
    intro i k pf pt pd le l h1 h2 hL hr
    by_cases z : i < 24
    · have e : (nI i).toNatClampNeg = i := nI_clamp (by omega)
      refine br_f (nI_ge (b := 24) z (by decide)) (And.intro (vp_in_nI z (by decide)) ?_)
      rw [e, hD i z]
      refine br_c (fun u => nm_r (nI_1 i) (ih (i + 1) k pf pt pd le l (by omega) (by omega) hL ?_)) (fun u => ?_)
      · intro a b hE ha
        by_cases ei : a = i
        · subst ei
          have u2 := cu_vf u
          rw [hE.2.2.1] at u2
          exact Bool.noConfusion u2
        · exact hr a b hE (by omega)
      · have du := cu_vt u
        refine xs_join rg z du (hT i (ls_mem.mpr ⟨z, cu_dU du⟩)) hD hL (fun k' pf' pt' pd' le' l' k1 k2 k3 => nm_r (nI_1 i) (ih (i + 1) k' pf' pt' pd' le' l' (by omega) (by omega) k1 ?_))
        intro a b hE ha
        by_cases ei : a = i
        · subst ei; exact k3 b hE
        · exact k2 a b hE.1 hE.2.1 (hr a b hE (by omega))
    · have e24 : i = 24 := by omega
      subst e24
      exact br_t (Int32.le_refl _) (K k pf pt pd le l hL (fun a b hE => hr a b hE hE.1))
theorem xs_f2 {post : SX → Prop} {r m : Int32} (rg : ∀ p, p < 24 → nt_rg (px p) 100 ∧ nt_rg (py p) 100)
    (K : ∀ (bu k : Int32) (tr bl br bb bt pf pt pd de le : Nat → Int32) (l : Nat → Nat), (bu = 0 ∨ tk us px py tr bl br bb bt) → (∀ p, p ∈ ls_all us → tk us px py tr bl br bb bt) → cu_D us px py r m de →
      cu_L (cu_E us px py r m) le l → (∀ a b, cu_E us px py r m a b → cu_r l a = cu_r l b) → post (nI (ls_all us).length, bu, k, fc, wa, us, px, py, tr, bl, br, bb, bt, pf, pt, pd, fo, fd, de, le)) :
    ∀ (n i : Nat) (bu k : Int32) (tr bl br bb bt pf pt pd de le : Nat → Int32), i ≤ 24 → 24 - i < n → (bu = 0 ∨ tk us px py tr bl br bb bt) → (∀ p, p ∈ ls_all us → p < i → tk us px py tr bl br bb bt) →
      (∀ j, j < i → de j = cu_v (cu_d us px py r m j) ∧ le j = nI j) → wX_formClusters_2 post r m n (nI i) (nI (ls_all us).length) bu k fc wa us px py tr bl br bb bt pf pt pd fo fd de le := by
  intro n
  induction n with
  | zero => intro i _ _ _ _ _ _ _ _ _ _ _ _ _ h; omega
  | succ n ih =>
    intro i bu k tr bl br bb bt pf pt pd de le h1 h2 hb hT hI
    by_cases z : i < 24
    · have e : (nI i).toNatClampNeg = i := nI_clamp (by omega)
      have v : vp_in (nI i) 24 := vp_in_nI z (by decide)
      have rp := rg i z
      refine br_f (nI_ge (b := 24) z (by decide)) ?_
      rw [e]
      refine And.intro v (nm_r (e' := upd le i (nI i)) (by rw [nt_nb (by omega)]) (And.intro v (nm_r (e' := upd de i 0) rfl (And.intro v ?_))))
      have old : ∀ (x : Int32), x = cu_v (cu_d us px py r m i) → ∀ (f : Nat → Int32), (∀ j, j ≠ i → f j = de j) → f i = x → ∀ j, j < i + 1 → f j = cu_v (cu_d us px py r m j) ∧ upd le i (nI i) j = nI j := by
        intro x ex f hf hfi j hj
        by_cases ej : j = i
        · subst ej; rw [hfi, pk_us]; exact ⟨ex, rfl⟩
        · rw [hf j ej, pk_un ej]; exact hI j (by omega)
      refine br_c (fun u => nm_r (nI_1 i) (ih (i + 1) bu k tr bl br bb bt pf pt pd _ _ (by omega) (by omega) hb ?_ (old 0 ?_ _ (fun j hj => pk_un hj) pk_us))) (fun u => And.intro v (And.intro v ?_))
      · intro p hp hpi
        by_cases ei : p = i
        · subst ei; exact absurd u (ls_mem.mp hp).2
        · exact hT p hp (by omega)
      · have d0 : cu_d us px py r m i = false := by
          unfold cu_d ls_U
          rw [decide_eq_false (fun y => y u)]
          rfl
        rw [d0]
        rfl
      · refine xs_cw hb rg (nt_rg_mono rp.1 (by decide)) (nt_rg_mono rp.2 (by decide)) ?_
        intro bu' k' tr' bl' br' bb' bt' pf' pt' pd' hT'
        have ed : cu_d us px py r m i = decide (¬ nI ((ls_all us).countP (cw_Q px py (px i) (py i) r)) < m) := by
          unfold cu_d cu_k
          rw [ls_Ui u]
          rfl
        refine br_c (fun w => And.intro v (nm_r (e' := upd (upd de i 0) i 0) rfl (nm_r (nI_1 i) (ih (i + 1) bu' k' tr' bl' br' bb' bt' pf' pt' pd' _ _ (by omega) (by omega) (Or.inr hT') (fun _ _ _ => hT') (old 0 ?_ _ (fun j hj => by rw [pk_un hj, pk_un hj]) pk_us)))))
          (fun w => And.intro v (nm_r (e' := upd (upd de i 0) i 1) rfl (nm_r (nI_1 i) (ih (i + 1) bu' k' tr' bl' br' bb' bt' pf' pt' pd' _ _ (by omega) (by omega) (Or.inr hT') (fun _ _ _ => hT') (old 1 ?_ _ (fun j hj => by rw [pk_un hj, pk_un hj]) pk_us)))))
        · rw [ed, decide_eq_false (fun y => y w)]
          rfl
        · rw [ed, decide_eq_true w]
          rfl
    · have e24 : i = 24 := by omega
      subst e24
      have hT2 : ∀ p, p ∈ ls_all us → tk us px py tr bl br bb bt := fun p hp => hT p hp (ls_mem.mp hp).1
      refine br_t (Int32.le_refl _) (Exists.intro 25 (xs_f79 rg hT2 (fun j hj => (hI j hj).1) ?_ 25 0 k pf pt pd le (fun j => j) (by decide) (by decide) ?_ (fun a b _ h => absurd h (Nat.not_lt_zero _))))
      · intro k' pf' pt' pd' le' l' g1 g2
        exact K bu k' tr bl br bb bt pf' pt' pd' de le' l' hb hT2 (fun j hj => (hI j hj).1) g1 g2
      · intro j hj
        exact ⟨(hI j hj).2, Nat.le_refl _, cu_rf _ _⟩
theorem xs_form {post : SX → Prop} {r m : Int32} (rg : ∀ p, p < 24 → nt_rg (px p) 100 ∧ nt_rg (py p) 100) (hb : bu = 0 ∨ tk us px py tr bl br bb bt)
    (K : ∀ (bu k : Int32) (tr bl br bb bt pf pt pd de le : Nat → Int32) (l : Nat → Nat), (bu = 0 ∨ tk us px py tr bl br bb bt) → (∀ p, p ∈ ls_all us → tk us px py tr bl br bb bt) → cu_D us px py r m de →
      cu_L (cu_E us px py r m) le l → (∀ a b, cu_E us px py r m a b → cu_r l a = cu_r l b) → post (nI (ls_all us).length, bu, k, fc, wa, us, px, py, tr, bl, br, bb, bt, pf, pt, pd, fo, fd, de, le)) : wpX_formClusters post (nI (ls_all us).length, bu, k, fc, wa, us, px, py, tr, bl, br, bb, bt, pf, pt, pd, fo, fd, de, le) r m :=
  Exists.intro 25 (xs_f2 rg K 25 0 bu k tr bl br bb bt pf pt pd de le (by decide) (by decide) hb (fun _ _ h => absurd h (Nat.not_lt_zero _)) (fun _ h => absurd h (Nat.not_lt_zero _)))
end
end
section
-- clusters: the reference; counts and answers of both
def cu_g (gr : Nat → Int32) (gp : Nat → Nat) : Prop := ∀ p, p < 24 → gr p = nI (gp p)
def cu_ri (E : Nat → Nat → Prop) (gp0 : Nat → Nat) (P Q : Nat) (gp : Nat → Nat) : Prop := cu_G E gp ∧ (∀ p, p < 24 → gp p ≤ gp0 p) ∧ ∀ a b, E a b → (a < P ∨ (a = P ∧ b < Q)) → gp a ≤ gp0 b
theorem cu_rin {E : Nat → Nat → Prop} {gp0 gp : Nat → Nat} {P Q : Nat} (h : cu_ri E gp0 P Q gp) (hn : ¬ E P Q) : cu_ri E gp0 P (Q + 1) gp := by
  refine ⟨h.1, h.2.1, fun a b e c => h.2.2 a b e ?_⟩
  rcases c with c | ⟨c, d⟩
  · exact Or.inl c
  · subst c
    have : b ≠ Q := fun y => hn (by rw [← y]; exact e)
    exact Or.inr ⟨rfl, by omega⟩
theorem cu_rik {E : Nat → Nat → Prop} {gp0 gp : Nat → Nat} {P Q : Nat} (hQ : Q < 24) (h : cu_ri E gp0 P Q gp) (hl : gp P ≤ gp Q) : cu_ri E gp0 P (Q + 1) gp := by
  refine ⟨h.1, h.2.1, fun a b e c => ?_⟩
  by_cases y : a = P ∧ b = Q
  · obtain ⟨rfl, rfl⟩ := y
    exact Nat.le_trans hl (h.2.1 b hQ)
  · exact h.2.2 a b e (by omega)
theorem cu_riu {E : Nat → Nat → Prop} {gp0 gp : Nat → Nat} {P Q : Nat} (hP : P < 24) (hQ : Q < 24) (h : cu_ri E gp0 P Q gp) (hE : E P Q) (hl : gp Q < gp P) : cu_ri E gp0 P (Q + 1) (cu_up gp P (gp Q)) := by
  obtain ⟨h1, h2, h3⟩ := h
  have eP : cu_up gp P (gp Q) P = gp Q := if_pos rfl
  have en : ∀ j, j ≠ P → cu_up gp P (gp Q) j = gp j := fun j hj => if_neg hj
  have gP := h1 P hP
  have dn : ∀ j, cu_up gp P (gp Q) j ≤ gp j := by
    intro j
    by_cases e : j = P
    · subst e; rw [eP]; omega
    · rw [en j e]; exact Nat.le_refl _
  refine ⟨?_, fun p hp => Nat.le_trans (dn p) (h2 p hp), ?_⟩
  · intro p hp
    by_cases e : p = P
    · subst e
      rw [eP]
      exact ⟨by omega, cu_tr (cu_ed hE) (h1 Q hQ).2⟩
    · rw [en p e]; exact h1 p hp
  · intro a b e c
    by_cases y : a = P ∧ b = Q
    · obtain ⟨rfl, rfl⟩ := y
      rw [eP]
      exact h2 b hQ
    · exact Nat.le_trans (dn a) (h3 a b e (by omega))
theorem cu_g_up {gr : Nat → Int32} {gp : Nat → Nat} {P Q : Nat} (h : cu_g gr gp) (hQ : Q < 24) : cu_g (upd gr P (gr Q)) (cu_up gp P (gp Q)) := by
  intro j hj
  by_cases e : j = P
  · subst e
    rw [pk_us, h Q hQ]
    exact congrArg nI (if_pos rfl).symm
  · rw [pk_un e, h j hj]
    exact congrArg nI (if_neg e).symm
section
variable {us px py dn gr : Nat → Int32}
theorem ys_83 {post : SY → Prop} {J64 J73 : Int32 → (Nat → Int32) → (Nat → Int32) → (Nat → Int32) → (Nat → Int32) → (Nat → Int32) → Prop} {r m x3 : Int32} {P : Nat} {gp0 : Nat → Nat} (hP : P < 24) (hD : cu_D us px py r m dn)
    (K : ∀ (gr : Nat → Int32) (gp : Nat → Nat), cu_g gr gp → cu_ri (cu_E us px py r m) gp0 (P + 1) 0 gp → J73 (nI (P + 1)) us px py dn gr) :
    ∀ (n q : Nat) (gr : Nat → Int32) (gp : Nat → Nat), q ≤ 24 → 24 - q < n → cu_g gr gp → cu_ri (cu_E us px py r m) gp0 P q gp → wY_findGroups_83 post J64 J73 r x3 (nI P) n (nI q) us px py dn gr := by
  intro n
  induction n with
  | zero => intro q _ _ _ h; omega
  | succ n ih =>
    intro q gr gp h1 h2 hg hI
    by_cases z : q < 24
    · have e : (nI q).toNatClampNeg = q := nI_clamp (by omega)
      have eP : (nI P).toNatClampNeg = P := nI_clamp (by omega)
      have v : vp_in (nI q) 24 := vp_in_nI (by omega) (by decide)
      have vP : vp_in (nI P) 24 := vp_in_nI hP (by decide)
      have b24 : ∀ j, j < 24 → gp j < 24 := fun j hj => by have := (hI.1 j hj).1; omega
      have sk : cu_ri (cu_E us px py r m) gp0 P (q + 1) gp → ∀ X : Int32, X = nI q + 1 → wY_findGroups_83 post J64 J73 r x3 (nI P) n X us px py dn gr := by
        intro h X eX
        rw [eX, nI_1]
        exact ih (q + 1) gr gp (by omega) (by omega) hg h
      refine br_f (nI_ge (b := 24) z (by decide)) ?_
      rw [e, eP, hD P hP, hD q z]
      refine And.intro vP (br_c (fun u => sk (cu_rin hI (fun y => ?_))) (fun u => And.intro v (br_c (fun w => sk (cu_rin hI (fun y => ?_))) (fun w => And.intro v (And.intro vP ?_)))))
      · have u2 := cu_vf u
        rw [y.2.2.1] at u2
        exact Bool.noConfusion u2
      · have u2 := cu_vf w
        rw [y.2.2.2.1] at u2
        exact Bool.noConfusion u2
      · refine pk_le (gp P) (gp q) (fun a => sk (cu_rik z hI a)) (fun a => And.intro v (And.intro v (ys_dist hP ?_))) (hg P hP) (hg q z) (by have := b24 P hP; omega) (by have := b24 q z; omega)
        refine br_c (fun c => sk (cu_rin hI (fun y => Int32.not_le.mpr c y.2.2.2.2))) (fun c => And.intro v (And.intro vP (nm_e (nm_r (nI_1 q) ?_))))
        have hE : cu_E us px py r m P q := ⟨hP, z, cu_vt u, cu_vt w, Int32.not_lt.mp c⟩
        exact ih (q + 1) _ _ (by omega) (by omega) (cu_g_up hg z) (cu_riu hP z hI hE a)
    · have eq : q = 24 := by omega
      subst eq
      refine br_t (Int32.le_refl _) (nm_r (nI_1 P) (K gr gp hg ⟨hI.1, hI.2.1, fun a b e c => hI.2.2 a b e ?_⟩))
      have := e.2.1
      omega
theorem ys_73 {post : SY → Prop} {J64 : Int32 → (Nat → Int32) → (Nat → Int32) → (Nat → Int32) → (Nat → Int32) → (Nat → Int32) → Prop} {r m x3 : Int32} {gp0 : Nat → Nat} (hD : cu_D us px py r m dn)
    (K : ∀ (gr : Nat → Int32) (gp : Nat → Nat), cu_g gr gp → cu_ri (cu_E us px py r m) gp0 24 0 gp → J64 (x3 + 1) us px py dn gr) :
    ∀ (n P : Nat) (gr : Nat → Int32) (gp : Nat → Nat), P ≤ 24 → 24 - P < n → cu_g gr gp → cu_ri (cu_E us px py r m) gp0 P 0 gp → wY_findGroups_73 post J64 r x3 n (nI P) us px py dn gr := by
  intro n
  induction n with
  | zero => intro q _ _ _ h; omega
  | succ n ih =>
    intro P gr gp h1 h2 hg hI
    by_cases z : P < 24
    · refine br_f (nI_ge (b := 24) z (by decide)) (Exists.intro 25 ?_)
      exact ys_83 z hD (fun gr' gp' g1 g2 => ih (P + 1) gr' gp' (by omega) (by omega) g1 g2) 25 0 gr gp (by decide) (by decide) hg hI
    · have e : P = 24 := by omega
      subst e
      exact br_t (Int32.le_refl _) (nm_e (K gr gp hg hI))
theorem ys_64 {post : SY → Prop} {r m : Int32} {c : Nat → Nat} (hc : ∀ p, p < 24 → cu_min (cu_E us px py r m) p (c p)) (hD : cu_D us px py r m dn) (K : ∀ gr : Nat → Int32, cu_g gr c → post (us, px, py, dn, gr)) :
    ∀ (n i : Nat) (gr : Nat → Int32) (gp : Nat → Nat), i ≤ 24 → 24 - i < n → cu_g gr gp → cu_G (cu_E us px py r m) gp → ((∀ p, p < 24 → gp p = c p) ∨ i ≤ cu_n c gp) → wY_findGroups_64 post r n (nI i) us px py dn gr := by
  intro n
  induction n with
  | zero => intro q _ _ _ h; omega
  | succ n ih =>
    intro i gr gp h1 h2 hg hG hS
    by_cases z : i < 24
    · refine br_f (nI_ge (b := 24) z (by decide)) (Exists.intro 25 ?_)
      refine ys_73 hD (gp0 := gp) ?_ 25 0 gr gp (by decide) (by decide) hg ⟨hG, fun _ _ => Nat.le_refl _, fun a b _ h => by omega⟩
      intro gr' gp' g1 g2
      rw [nI_1]
      refine ih (i + 1) gr' gp' (by omega) (by omega) g1 g2.1 ?_
      rcases hS with hS | hS
      · left
        intro p hp
        have a := g2.2.1 p hp
        have b := (hc p hp).2 _ (g2.1 p hp).2
        have d := hS p hp
        omega
      · rcases cu_step cu_E24 cu_Esy hc hG g2.1 ⟨g2.2.1, fun a b e => g2.2.2 a b e (Or.inl e.1)⟩ with k | k
        · exact Or.inl k
        · exact Or.inr (by omega)
    · have e : i = 24 := by omega
      subst e
      have all : ∀ p, p < 24 → gp p = c p := by
        rcases hS with hS | hS
        · exact hS
        · exact cu_n24 hS
      exact br_t (Int32.le_refl _) (K gr (fun p hp => by rw [hg p hp, all p hp]))
theorem ys_2 {post : SY → Prop} {r m : Int32} {c : Nat → Nat} (hc : ∀ p, p < 24 → cu_min (cu_E us px py r m) p (c p)) (K : ∀ dn gr : Nat → Int32, cu_D us px py r m dn → cu_g gr c → post (us, px, py, dn, gr)) :
    ∀ (n i : Nat) (dn gr : Nat → Int32), i ≤ 24 → 24 - i < n → (∀ j, j < i → dn j = cu_v (cu_d us px py r m j) ∧ gr j = nI j) → wY_findGroups_2 post r m n (nI i) us px py dn gr := by
  intro n
  induction n with
  | zero => intro q _ _ _ h; omega
  | succ n ih =>
    intro i dn gr h1 h2 hI
    by_cases z : i < 24
    · have e : (nI i).toNatClampNeg = i := nI_clamp (by omega)
      have v : vp_in (nI i) 24 := vp_in_nI z (by decide)
      have go : ∀ b : Bool, cu_d us px py r m i = b → wY_findGroups_48 post (wY_findGroups_2 post r m n) r m (nI i) (cu_v b) (nI i) us px py dn gr := by
        intro b eb
        have ev : vp_nar .boolean (cu_v b) = cu_v b := by cases b <;> rfl
        refine And.intro v (nm_r (e' := upd dn i (cu_v b)) (by rw [e, ev]) (And.intro v (nm_r (e' := upd gr i (nI i)) (by rw [e]) (nm_r (nI_1 i) (ih (i + 1) _ _ (by omega) (by omega) ?_)))))
        intro j hj
        by_cases ej : j = i
        · subst ej; rw [pk_us, pk_us, eb]; exact ⟨rfl, rfl⟩
        · rw [pk_un ej, pk_un ej]; exact hI j (by omega)
      refine br_f (nI_ge (b := 24) z (by decide)) (And.intro v ?_)
      rw [e]
      refine br_c (fun u => go false ?_) (fun u => And.intro v (And.intro v (ys_near (br_c (fun w => go false ?_) (fun w => go true ?_)))))
      · unfold cu_d ls_U
        rw [decide_eq_false (fun y => y u)]
        rfl
      · unfold cu_d cu_k
        rw [ls_Ui u, decide_eq_false (fun y => y w)]
        rfl
      · unfold cu_d cu_k
        rw [ls_Ui u, decide_eq_true w]
        rfl
    · have e24 : i = 24 := by omega
      subst e24
      have hD : cu_D us px py r m dn := fun j hj => (hI j hj).1
      refine br_t (Int32.le_refl _) (Exists.intro 25 (ys_64 hc hD (fun gr' g => K dn gr' hD g) 25 0 gr (fun j => j) (by decide) (by decide) (fun j hj => (hI j hj).2) (fun j _ => ⟨Nat.le_refl _, cu_rf _ _⟩) (Or.inr (Nat.zero_le _))))
theorem ys_form {post : SY → Prop} {r m : Int32} {c : Nat → Nat} (hc : ∀ p, p < 24 → cu_min (cu_E us px py r m) p (c p)) (K : ∀ dn gr : Nat → Int32, cu_D us px py r m dn → cu_g gr c → post (us, px, py, dn, gr)) : wpY_findGroups post (us, px, py, dn, gr) r m :=
  Exists.intro 25 (ys_2 hc K 25 0 dn gr (by decide) (by decide) (fun _ h => absurd h (Nat.not_lt_zero _)))
def cu_cQ (us px py : Nat → Int32) (r m : Int32) (c : Nat → Nat) (p : Nat) : Bool := decide (c p = p) && cu_d us px py r m p
theorem ys_clus {post : Int32 → SY → Prop} {r m : Int32} {c : Nat → Nat} (hc24 : ∀ p, p < 24 → c p < 24) (hD : cu_D us px py r m dn) (hg : cu_g gr c) (K : post (nI ((List.range' 0 24).countP (cu_cQ us px py r m c))) (us, px, py, dn, gr)) : wY_clusters_11 post us px py dn gr 25 0 0 := by
  refine yc_law (fun n c i => wY_clusters_11 post us px py dn gr n c i) (fun x => post x (us, px, py, dn, gr)) (cu_cQ us px py r m c) ?_ ?_ ?_ 24 0 0 rfl ?_
  · intro n c h; exact br_t (Int32.le_refl _) h
  · intro n cc i hi hq h
    have e : (nI i).toNatClampNeg = i := nI_clamp (by omega)
    have v : vp_in (nI i) 24 := vp_in_nI hi (by decide)
    obtain ⟨a, b⟩ := yc_and hq
    refine br_f (nI_ge (b := 24) hi (by decide)) (And.intro v ?_)
    rw [e, hD i hi, hg i hi, b]
    refine br_f (by decide) (And.intro v (br_t (congrArg nI (of_decide_eq_true a)) (nm_r (nI_1 cc) (nm_r (nI_1 i) h))))
  · intro n cc i hi hq h
    have e : (nI i).toNatClampNeg = i := nI_clamp (by omega)
    have v : vp_in (nI i) 24 := vp_in_nI hi (by decide)
    have h24 := hc24 i hi
    refine br_f (nI_ge (b := 24) hi (by decide)) (And.intro v ?_)
    rw [e, hD i hi, hg i hi]
    refine br_c (fun _ => nm_r (nI_1 i) h) (fun u => And.intro v (br_f (fun w => ?_) (nm_r (nI_1 i) h)))
    rw [nI_eq (by omega) (by omega)] at w
    exact of_decide_eq_false (yc_nand hq (cu_vt u)) w
  · rw [Nat.zero_add]
    exact K
end
section
variable {pc bu k fc wa : Int32} {us px py tr bl br bb bt pf pt pd fo fd de le : Nat → Int32}
theorem xs_clus {post : Int32 → SX → Prop} {r m : Int32} {E : Nat → Nat → Prop} {l : Nat → Nat} (hD : cu_D us px py r m de) (hL : cu_L E le l) (K : post (nI ((List.range' 0 24).countP (cu_cQ us px py r m (cu_r l)))) (pc, bu, k, fc, wa, us, px, py, tr, bl, br, bb, bt, pf, pt, pd, fo, fd, de, le)) : wX_clusters_11 post pc bu k fc wa us px py tr bl br bb bt pf pt pd fo fd de le 25 0 0 := by
  have hd := cu_L_dn hL
  refine yc_law (fun n c i => wX_clusters_11 post pc bu k fc wa us px py tr bl br bb bt pf pt pd fo fd de le n c i) (fun x => post x (pc, bu, k, fc, wa, us, px, py, tr, bl, br, bb, bt, pf, pt, pd, fo, fd, de, le)) (cu_cQ us px py r m (cu_r l)) ?_ ?_ ?_ 24 0 0 rfl ?_
  · intro n c h; exact br_t (Int32.le_refl _) h
  · intro n cc i hi hq h
    have e : (nI i).toNatClampNeg = i := nI_clamp (by omega)
    have v : vp_in (nI i) 24 := vp_in_nI hi (by decide)
    obtain ⟨a, b⟩ := yc_and hq
    refine br_f (nI_ge (b := 24) hi (by decide)) (And.intro v ?_)
    rw [e, hD i hi, (hL i hi).1, b]
    refine br_f (cu_dU b) (And.intro v (br_f (by decide) (And.intro v (br_t (congrArg nI ((cu_rself hd hi).mpr (of_decide_eq_true a))) (nm_r (nI_1 cc) (nm_r (nI_1 i) h))))))
  · intro n cc i hi hq h
    have e : (nI i).toNatClampNeg = i := nI_clamp (by omega)
    have v : vp_in (nI i) 24 := vp_in_nI hi (by decide)
    have h24 := (hL i hi).2.1
    refine br_f (nI_ge (b := 24) hi (by decide)) (And.intro v ?_)
    rw [e, hD i hi, (hL i hi).1]
    refine br_c (fun _ => nm_r (nI_1 i) h) (fun _ => And.intro v (br_c (fun _ => nm_r (nI_1 i) h) (fun u => And.intro v (br_f (fun w => ?_) (nm_r (nI_1 i) h)))))
    rw [nI_eq (by omega) (by omega)] at w
    exact of_decide_eq_false (yc_nand hq (cu_vt u)) ((cu_rself hd hi).mp w)
  · rw [Nat.zero_add]
    exact K
end
end
section
-- noise
def cu_Z (us px py : Nat → Int32) (r m : Int32) (p q : Nat) : Bool := decide (nt_ds px py q (px p) (py p) ≤ r) && cu_d us px py r m q
def cu_nz (us px py : Nat → Int32) (r m : Int32) (p : Nat) : Bool := (ls_all us).any (cu_Z us px py r m p)
theorem cu_nz1 {us px py : Nat → Int32} {r m : Int32} {p q : Nat} (hq : q ∈ ls_all us) (h : cu_Z us px py r m p q = true) : cu_nz us px py r m p = true := List.any_eq_true.mpr ⟨q, hq, h⟩
theorem cu_nz0 {us px py : Nat → Int32} {r m : Int32} {p : Nat} (h : ∀ q, q ∈ ls_all us → cu_Z us px py r m p q = true → False) : cu_nz us px py r m p = false := by
  apply Bool.eq_false_iff.mpr
  intro z
  obtain ⟨q, hq, e⟩ := List.any_eq_true.mp z
  exact h q hq e
section
variable {pc bu k fc wa : Int32} {us px py tr bl br bb bt pf pt pd fo fd de le : Nat → Int32}
theorem xs_hd {post : Int32 → SX → Prop} {r m : Int32} {p : Nat} (rg : ∀ p, p < 24 → nt_rg (px p) 100 ∧ nt_rg (py p) 100) (hp : p < 24) (hT : tk us px py tr bl br bb bt) (hD : cu_D us px py r m de)
    (K : ∀ (k : Int32) (pf pt pd : Nat → Int32), post (cu_v (cu_nz us px py r m p)) (nI (ls_all us).length, bu, k, fc, wa, us, px, py, tr, bl, br, bb, bt, pf, pt, pd, fo, fd, de, le)) : wpX_hasDenseNear post (nI (ls_all us).length, bu, k, fc, wa, us, px, py, tr, bl, br, bb, bt, pf, pt, pd, fo, fd, de, le) (nI p) r := by
  have vp : vp_in (nI p) 24 := vp_in_nI hp (by decide)
  have e1 : (nI p).toNatClampNeg = p := nI_clamp (by omega)
  unfold wpX_hasDenseNear
  dsimp only
  refine xs_start (ls_len us) (fun pf2 pt2 pd2 hk => Exists.intro 25 ?_)
  refine tv_go (fun n k pf pt pd (s : Unit) => wX_hasDenseNear_4 post (nI p) r n (nI (ls_all us).length) bu k fc wa us px py tr bl br bb bt pf pt pd fo fd de le)
    (fun _ R => (∀ q, q ∈ R → q ∈ ls_all us) ∧ ∀ q, q ∈ ls_all us → cu_Z us px py r m p q = true → q ∈ R) hT ?_ ?_ ?_ pf2 pt2 pd2 () hk ⟨fun q hq => hq, fun q hq _ => hq⟩
  · rintro s R R' hp ⟨h1, h2⟩
    exact ⟨fun q hq => h1 q ((List.Perm.mem_iff hp).mpr hq), fun q hq hz => (List.Perm.mem_iff hp).mp (h2 q hq hz)⟩
  · intro n pf pt pd s h
    have e0 : cu_nz us px py r m p = false := cu_nz0 (fun q hq hz => List.not_mem_nil (h.2 q hq hz))
    have K2 := K (nI 0) pf pt pd
    rw [e0] at K2
    exact br_t (by decide) K2
  · intro n a b rr pf pt pd s R R' hl hk hB hvm hq i1 i2 kp kv
    have hm := tv_rt hk
    have v : vp_in (nI (ls_rt a b)) 24 := vp_in_nI hm (by decide)
    have e : (nI (ls_rt a b)).toNatClampNeg = ls_rt a b := nI_clamp (by omega)
    have eq := nt_cl hvm
    generalize (tr (ls_rt a b)).toNatClampNeg = q at eq i2
    have e2 : (nI q).toNatClampNeg = q := nI_clamp (by omega)
    have vq : vp_in (nI q) 24 := vp_in_nI eq.2 (by decide)
    obtain ⟨j1, j2⟩ := i2
    have skip : ¬ cu_Z us px py r m p q = true → wX_hasDenseNear_90 post (wX_hasDenseNear_4 post (nI p) r n) (nI p) r (nI (ls_rt a b)) (nI (ls_all us).length) bu (nI rr.length) fc wa us px py tr bl br bb bt pf pt pd fo fd de le := by
      intro hn
      refine xs_ph hk (by omega) (fun pf' pt' pd' h3 => kv () pf' pt' pd' ⟨fun q' hq' => j1 q' (List.mem_cons_of_mem _ hq'), fun q' hq' hz => ?_⟩ h3)
      rcases List.mem_cons.mp (j2 q' hq' hz) with z | z
      · subst z; exact absurd hz hn
      · exact z
    refine br_f (nI_nle (by omega) (by omega)) (xs_pop hk (by omega) ?_)
    dsimp only
    rw [e1]
    refine And.intro vp (And.intro vp (xs_dob hm (br_c (fun h => And.intro v (nm_r (e' := nI q) (by rw [e]; exact eq.1) (And.intro vp (And.intro vp (xs_dt vq ?_))))) (fun h => kp ⟨fun q' hq' => i1.1 q' (List.mem_append_right _ hq'), fun q' hq' hz => ?_⟩))))
    · rw [e2]
      refine And.intro vq ?_
      rw [hD q eq.2]
      refine br_c (fun z => skip (fun y => ?_)) (fun z => br_c (fun y => skip (fun w => ?_)) (fun y => ?_))
      · have z2 := cu_vf z
        rw [(yc_and y).2] at z2
        exact Bool.noConfusion z2
      · exact Int32.not_le.mpr y (of_decide_eq_true (yc_and w).1)
      · have hZ : cu_Z us px py r m p q = true := by
          unfold cu_Z
          rw [decide_eq_true (Int32.not_lt.mp y), cu_vt z]
          rfl
        have K2 := K (nI rr.length) pf pt pd
        rw [cu_nz1 (j1 q List.mem_cons_self) hZ] at K2
        exact K2
    · rcases List.mem_append.mp (i1.2 q' hq' hz) with z | z
      · have rp := rg p hp
        exact absurd (Int32.le_trans (tv_prune hB rg (nt_rg_mono rp.1 (by decide)) (nt_rg_mono rp.2 (by decide)) z (hq q' z)) (of_decide_eq_true (yc_and hz).1)) h
      · exact z
def cu_nQ (us px py : Nat → Int32) (r m : Int32) (p : Nat) : Bool := (!cu_nz us px py r m p && !cu_d us px py r m p) && ls_U us p
theorem xs_noise {post : Int32 → SX → Prop} {r m : Int32} (rg : ∀ p, p < 24 → nt_rg (px p) 100 ∧ nt_rg (py p) 100) (hT : ∀ p, p ∈ ls_all us → tk us px py tr bl br bb bt) (hD : cu_D us px py r m de) :
    ∀ (d i c : Nat) (k : Int32) (pf pt pd : Nat → Int32), i + d = 24 → (∀ (k : Int32) (pf pt pd : Nat → Int32), post (nI (c + (List.range' i d).countP (cu_nQ us px py r m))) (nI (ls_all us).length, bu, k, fc, wa, us, px, py, tr, bl, br, bb, bt, pf, pt, pd, fo, fd, de, le)) →
      wX_noise_11 post r (d + 1) (nI c) (nI i) (nI (ls_all us).length) bu k fc wa us px py tr bl br bb bt pf pt pd fo fd de le := by
  intro d
  induction d with
  | zero =>
    intro i c k pf pt pd e K
    have e2 : i = 24 := by omega
    subst e2
    exact br_t (Int32.le_refl _) (K k pf pt pd)
  | succ d ih =>
    intro i c k pf pt pd e24 K
    have hi : i < 24 := by omega
    have e : (nI i).toNatClampNeg = i := nI_clamp (by omega)
    have v : vp_in (nI i) 24 := vp_in_nI hi (by decide)
    rw [List.range'_succ] at K
    have no : cu_nQ us px py r m i = false → ∀ (k : Int32) (pf pt pd : Nat → Int32), wX_noise_11 post r (d + 1) (nI c) (nI (i + 1)) (nI (ls_all us).length) bu k fc wa us px py tr bl br bb bt pf pt pd fo fd de le := by
      intro hn k pf pt pd
      refine ih (i + 1) c k pf pt pd (by omega) ?_
      rw [List.countP_cons_of_neg (by rw [hn]; exact Bool.false_ne_true)] at K
      exact K
    have ye : cu_nQ us px py r m i = true → ∀ (k : Int32) (pf pt pd : Nat → Int32), wX_noise_11 post r (d + 1) (nI (c + 1)) (nI (i + 1)) (nI (ls_all us).length) bu k fc wa us px py tr bl br bb bt pf pt pd fo fd de le := by
      intro hn k pf pt pd
      refine ih (i + 1) (c + 1) k pf pt pd (by omega) ?_
      rw [List.countP_cons_of_pos hn, show ∀ t : Nat, c + (t + 1) = c + 1 + t from fun t => by omega] at K
      exact K
    refine br_f (nI_ge (b := 24) hi (by decide)) (And.intro v ?_)
    rw [e, hD i hi]
    refine br_c (fun u => nm_r (nI_1 i) (no ?_ k pf pt pd)) (fun u => And.intro v (br_c (fun w => ?_) (fun w => nm_r (nI_1 i) (no ?_ k pf pt pd))))
    · unfold cu_nQ ls_U
      rw [decide_eq_false (fun y => y u), Bool.and_false]
    · have hm : i ∈ ls_all us := ls_mem.mpr ⟨hi, u⟩
      have dw := cu_vf w
      refine xs_hd rg hi (hT i hm) hD (fun k' pf' pt' pd' => br_c (fun y => nm_r (nI_1 c) (nm_r (nI_1 i) (ye ?_ k' pf' pt' pd'))) (fun y => nm_r (nI_1 i) (no ?_ k' pf' pt' pd')))
      · unfold cu_nQ
        rw [cu_vf y, dw, ls_Ui u]
        rfl
      · unfold cu_nQ
        rw [cu_vt y]
        rfl
    · unfold cu_nQ
      rw [cu_vt w]
      simp
end
section
variable {us px py dn gr : Nat → Int32}
theorem ys_bd {post : Int32 → Prop} {r m : Int32} {p : Nat} (hp : p < 24) (hD : cu_D us px py r m dn) (K : post (cu_v (cu_nz us px py r m p))) :
    ∀ n i, i ≤ 24 → 24 - i < n → (∀ q, q < i → ¬ cu_Z us px py r m p q = true) → wY_besideDense_2 post (nI p) r us px py dn gr n (nI i) := by
  intro n
  induction n with
  | zero => intro i _ h; omega
  | succ n ih =>
    intro i h1 h2 hI
    by_cases z : i < 24
    · have e : (nI i).toNatClampNeg = i := nI_clamp (by omega)
      have v : vp_in (nI i) 24 := vp_in_nI z (by decide)
      have nx : ¬ cu_Z us px py r m p i = true → ∀ X : Int32, X = nI i + 1 → wY_besideDense_2 post (nI p) r us px py dn gr n X := by
        intro hn X eX
        rw [eX, nI_1]
        refine ih (i + 1) (by omega) (by omega) (fun q hq => ?_)
        by_cases eq : q = i
        · subst eq; exact hn
        · exact hI q (by omega)
      refine br_f (nI_ge (b := 24) z (by decide)) (And.intro v ?_)
      rw [e, hD i z]
      refine br_c (fun u => nx (fun y => ?_)) (fun u => And.intro v (And.intro v (ys_dist hp (br_c (fun w => nx (fun y => ?_)) (fun w => ?_)))))
      · have z2 := cu_vf u
        rw [(yc_and y).2] at z2
        exact Bool.noConfusion z2
      · have w2 := of_decide_eq_true (yc_and y).1
        rw [nt_ds_comm] at w2
        exact Int32.not_le.mpr w w2
      · have hZ : cu_Z us px py r m p i = true := by
          have w2 := Int32.not_lt.mp w
          rw [nt_ds_comm] at w2
          unfold cu_Z
          rw [decide_eq_true w2, cu_vt u]
          rfl
        rw [cu_nz1 (ls_mem.mpr ⟨z, cu_dU (cu_vt u)⟩) hZ] at K
        exact K
    · have e24 : i = 24 := by omega
      subst e24
      rw [cu_nz0 (fun q hq hz => hI q (ls_mem.mp hq).1 hz)] at K
      exact br_t (Int32.le_refl _) K
theorem ys_noise {post : Int32 → SY → Prop} {r m : Int32} (hD : cu_D us px py r m dn) (K : post (nI ((List.range' 0 24).countP (cu_nQ us px py r m))) (us, px, py, dn, gr)) : wY_noise_11 post r us px py dn gr 25 0 0 := by
  refine yc_law (fun n c i => wY_noise_11 post r us px py dn gr n c i) (fun x => post x (us, px, py, dn, gr)) (cu_nQ us px py r m) ?_ ?_ ?_ 24 0 0 rfl ?_
  · intro n c h; exact br_t (Int32.le_refl _) h
  · intro n cc i hi hq h
    have e : (nI i).toNatClampNeg = i := nI_clamp (by omega)
    have v : vp_in (nI i) 24 := vp_in_nI hi (by decide)
    obtain ⟨a, b⟩ := yc_and hq
    obtain ⟨a1, a2⟩ := yc_and a
    refine br_f (nI_ge (b := 24) hi (by decide)) (And.intro v ?_)
    rw [e, hD i hi]
    have d0 : cu_d us px py r m i = false := by simpa using a2
    have n0 : cu_nz us px py r m i = false := by simpa using a1
    refine br_f (ls_Ut b) (And.intro v (br_t (by rw [d0]; rfl) (Exists.intro 25 (ys_bd hi hD ?_ 25 0 (by decide) (by decide) (fun q hq => absurd hq (Nat.not_lt_zero _))))))
    rw [n0]
    exact br_t rfl (nm_r (nI_1 cc) (nm_r (nI_1 i) h))
  · intro n cc i hi hq h
    have e : (nI i).toNatClampNeg = i := nI_clamp (by omega)
    have v : vp_in (nI i) 24 := vp_in_nI hi (by decide)
    refine br_f (nI_ge (b := 24) hi (by decide)) (And.intro v ?_)
    rw [e, hD i hi]
    refine br_c (fun _ => nm_r (nI_1 i) h) (fun u => And.intro v (br_c (fun w => (Exists.intro 25 (ys_bd hi hD ?_ 25 0 (by decide) (by decide) (fun q hq => absurd hq (Nat.not_lt_zero _))))) (fun w => nm_r (nI_1 i) h)))
    have a := yc_nand hq (ls_Ui u)
    have n1 : cu_nz us px py r m i = true := by
      rw [cu_vf w] at a
      simpa using a
    rw [n1]
    exact br_f (by decide) (nm_r (nI_1 i) h)
  · rw [Nat.zero_add]
    exact K
end
end
section
-- the relation; add, remove
def i_Rel (_ : Nat) (u : SX) (v : SY) : Prop := match u with
  | (pc, bu, k, fc, wa, us, px, py, tr, bl, br, bb, bt, pf, pt, pd, fo, fd, de, le) => match v with
    | (us', px', py', dn, gr) => us' = us ∧ px' = px ∧ py' = py ∧ pc = nI (ls_all us).length ∧ (∀ p, p < 24 → nt_rg (px p) 100 ∧ nt_rg (py p) 100) ∧ (bu = 0 ∨ tk us px py tr bl br bb bt)
theorem zz_el {n : Nat} {u : SX} {v : SY} {P : SX → SY → Prop} (I : i_Rel n u v)
    (h : ∀ (bu k fc wa : Int32) (us px py tr bl br bb bt pf pt pd fo fd de le dn gr : Nat → Int32), (∀ p, p < 24 → nt_rg (px p) 100 ∧ nt_rg (py p) 100) → (bu = 0 ∨ tk us px py tr bl br bb bt) → P (nI (ls_all us).length, bu, k, fc, wa, us, px, py, tr, bl, br, bb, bt, pf, pt, pd, fo, fd, de, le) (us, px, py, dn, gr)) : P u v := by
  obtain ⟨pc, bu, k, fc, wa, us, px, py, tr, bl, br, bb, bt, pf, pt, pd, fo, fd, de, le⟩ := u
  obtain ⟨us', px', py', dn, gr⟩ := v
  obtain ⟨e1, e2, e3, e4, h1, h2⟩ := I
  subst e1 e2 e3 e4
  exact h bu k fc wa _ _ _ tr bl br bb bt pf pt pd fo fd de le dn gr h1 h2
section
variable {pc bu k fc wa : Int32} {us px py tr bl br bb bt pf pt pd fo fd de le : Nat → Int32}
theorem zz_in {n : Nat} {dn gr : Nat → Int32} (h1 : ∀ p, p < 24 → nt_rg (px p) 100 ∧ nt_rg (py p) 100) (h2 : bu = 0 ∨ tk us px py tr bl br bb bt) (h3 : pc = nI (ls_all us).length) : i_Rel n (pc, bu, k, fc, wa, us, px, py, tr, bl, br, bb, bt, pf, pt, pd, fo, fd, de, le) (us, px, py, dn, gr) := ⟨rfl, rfl, rfl, h3, h1, h2⟩
end
/-! a free place; the number of the used ones -/
theorem ad_free {us : Nat → Int32} (h : (ls_all us).length < 24) : ∃ f, f < 24 ∧ us f = 0 ∧ ∀ j, j < f → ¬ us j = 0 := by
  have k : ∃ f, f < 24 ∧ us f = 0 := by
    apply Classical.byContradiction
    intro z
    have l : (List.range' 0 24).length ≤ (ls_all us).length := by
      apply List.Nodup.length_le_of_subset List.nodup_range'
      intro p hp
      have := List.mem_range'_1.mp hp
      exact ls_mem.mpr ⟨by omega, fun y => z ⟨p, by omega, y⟩⟩
    rw [List.length_range'] at l
    omega
  obtain ⟨f, hf, hz⟩ := k
  have g : ∀ n, (∀ j, j < n → ¬ us j = 0) ∨ ∃ f, f < n ∧ us f = 0 ∧ ∀ j, j < f → ¬ us j = 0 := by
    intro n
    induction n with
    | zero => exact Or.inl (fun j hj => by omega)
    | succ n ih =>
      rcases ih with a | ⟨f, a, b, c⟩
      · by_cases y : us n = 0
        · exact Or.inr ⟨n, by omega, y, a⟩
        · refine Or.inl (fun j hj => ?_)
          by_cases e : j = n
          · rw [e]; exact y
          · exact a j (by omega)
      · exact Or.inr ⟨f, by omega, b, c⟩
  rcases g 24 with a | a
  · exact absurd hz (a f hf)
  · exact a
theorem ad_full {us : Nat → Int32} (h : ¬ (ls_all us).length < 24) : ∀ j, j < 24 → ¬ us j = 0 := by
  intro j hj z
  have l : (j :: ls_all us).length ≤ (List.range' 0 24).length := by
    apply List.Nodup.length_le_of_subset
    · rw [List.nodup_cons]
      exact ⟨fun y => (ls_mem.mp y).2 z, ls_nodup us⟩
    · intro p hp
      rcases List.mem_cons.mp hp with e | hp
      · rw [e]; exact List.mem_range'_1.mpr ⟨Nat.zero_le _, by omega⟩
      · exact List.mem_range'_1.mpr ⟨Nat.zero_le _, by have := (ls_mem.mp hp).1; omega⟩
  rw [List.length_cons, List.length_range'] at l
  omega
theorem ad_len {us us' : Nat → Int32} {f : Nat} (hf : f < 24) (h0 : us f = 0) (h1 : ¬ us' f = 0) (h : ∀ j, j ≠ f → us' j = us j) : (ls_all us').length = (ls_all us).length + 1 := by
  have p : (ls_all us').Perm (f :: ls_all us) := by
    rw [List.perm_ext_iff_of_nodup (ls_nodup us') (List.nodup_cons.mpr ⟨fun y => (ls_mem.mp y).2 h0, ls_nodup us⟩)]
    intro j
    rw [List.mem_cons, ls_mem, ls_mem]
    by_cases e : j = f
    · subst e
      exact ⟨fun _ => Or.inl rfl, fun _ => ⟨hf, h1⟩⟩
    · rw [h j e]
      exact ⟨fun y => Or.inr y, fun y => y.resolve_left e⟩
  exact List.Perm.length_eq p
section
variable {pc bu k fc wa : Int32} {us px py tr bl br bb bt pf pt pd fo fd de le : Nat → Int32}
theorem xs_ad27 {post : Int32 → SX → Prop} {x y : Int32} {f : Nat} (hf : f < 24) (h0 : us f = 0) (hl : ∀ j, j < f → ¬ us j = 0) (K : wX_add_48 post x y (nI f) pc bu k fc wa us px py tr bl br bb bt pf pt pd fo fd de le) :
    ∀ n i, i ≤ f → f - i < n → wX_add_27 post x y pc bu k fc wa us px py tr bl br bb bt pf pt pd fo fd de le n (nI i) := by
  intro n
  induction n with
  | zero => intro i _ h; omega
  | succ n ih =>
    intro i h1 h2
    by_cases z : i = f
    · subst z
      refine br_c (fun _ => K) (fun _ => And.intro (vp_in_nI hf (by decide)) ?_)
      rw [nI_clamp (by omega)]
      exact br_t h0 K
    · refine br_f (nI_ge (b := 23) (by omega) (by decide)) (And.intro (vp_in_nI (by omega) (by decide)) ?_)
      rw [nI_clamp (by omega)]
      exact br_f (hl i (by omega)) (nm_r (nI_1 i) (ih (i + 1) (by omega) (by omega)))
theorem xs_add1 {post : Int32 → SX → Prop} {x y : Int32} {f : Nat} (hN : (ls_all us).length < 24) (ok : sp_ok x y 100) (hf : f < 24) (h0 : us f = 0) (hl : ∀ j, j < f → ¬ us j = 0)
    (K : post (nI f) (nI ((ls_all us).length + 1), 0, k, fc, wa, upd us f 1, upd px f x, upd py f y, tr, bl, br, bb, bt, pf, pt, pd, fo, fd, de, le)) : wpX_add post (nI (ls_all us).length, bu, k, fc, wa, us, px, py, tr, bl, br, bb, bt, pf, pt, pd, fo, fd, de, le) x y := by
  have v : vp_in (nI f) 24 := vp_in_nI hf (by decide)
  have e : (nI f).toNatClampNeg = f := nI_clamp (by omega)
  refine br_t (nI_lt (b := 24) hN (by decide)) (xs_spot (fun _ => br_f nt_10 (Exists.intro 25 (xs_ad27 hf h0 hl ?_ 25 0 (by omega) (by omega)))) (fun n => absurd ok n))
  unfold wX_add_48
  rw [e]
  exact And.intro v (nm_e (And.intro v (nm_e (And.intro v (nm_e (nm_r (nI_1 _) K))))))
theorem xs_add2 {post : Int32 → SX → Prop} {x y : Int32} (hN : (ls_all us).length < 24) (ok : ¬ sp_ok x y 100) (K : post (-1) (nI (ls_all us).length, bu, k, fc, wa, us, px, py, tr, bl, br, bb, bt, pf, pt, pd, fo, fd, de, le)) : wpX_add post (nI (ls_all us).length, bu, k, fc, wa, us, px, py, tr, bl, br, bb, bt, pf, pt, pd, fo, fd, de, le) x y :=
  br_t (nI_lt (b := 24) hN (by decide)) (xs_spot (fun n => absurd n ok) (fun _ => br_t rfl K))
theorem xs_add3 {post : Int32 → SX → Prop} {x y : Int32} (hN : ¬ (ls_all us).length < 24) (K : post (-2) (nI (ls_all us).length, bu, k, fc, wa, us, px, py, tr, bl, br, bb, bt, pf, pt, pd, fo, fd, de, le)) : wpX_add post (nI (ls_all us).length, bu, k, fc, wa, us, px, py, tr, bl, br, bb, bt, pf, pt, pd, fo, fd, de, le) x y :=
  br_f (nI_nlt (b := 24) (by omega) (by have := ls_len us; omega)) K
end
section
variable {us px py dn gr : Nat → Int32}
theorem ys_ad2 {post : Int32 → SY → Prop} {x y : Int32} {f : Nat} (hf : f ≤ 24) (hl : ∀ j, j < f → ¬ us j = 0) (K : ∀ n, wY_add_2 post x y us px py dn gr (n + 1) (nI f)) :
    ∀ n i, i ≤ f → f - i < n → wY_add_2 post x y us px py dn gr n (nI i) := by
  intro n
  induction n with
  | zero => intro i _ h; omega
  | succ n ih =>
    intro i h1 h2
    by_cases z : i = f
    · subst z
      exact K n
    · refine br_f (nI_ge (b := 24) (by omega) (by decide)) (And.intro (vp_in_nI (by omega) (by decide)) ?_)
      rw [nI_clamp (by omega)]
      exact br_f (hl i (by omega)) (nm_r (nI_1 i) (ih (i + 1) (by omega) (by omega)))
theorem ys_add1 {post : Int32 → SY → Prop} {x y : Int32} {f : Nat} (ok : sp_ok x y 100) (hf : f < 24) (h0 : us f = 0) (hl : ∀ j, j < f → ¬ us j = 0)
    (K : post (nI f) (upd us f 1, upd px f x, upd py f y, dn, gr)) : wpY_add post (us, px, py, dn, gr) x y := by
  have v : vp_in (nI f) 24 := vp_in_nI hf (by decide)
  have e : (nI f).toNatClampNeg = f := nI_clamp (by omega)
  refine Exists.intro 25 (ys_ad2 (by omega) hl (fun n => ?_) 25 0 (by omega) (by omega))
  refine br_f (nI_ge (b := 24) hf (by decide)) (And.intro v ?_)
  rw [e]
  exact br_t h0 (ys_spot (fun _ => br_f nt_10 (And.intro v (nm_e (And.intro v (nm_e (And.intro v (nm_e K))))))) (fun n => absurd ok n))
theorem ys_add2 {post : Int32 → SY → Prop} {x y : Int32} {f : Nat} (ok : ¬ sp_ok x y 100) (hf : f < 24) (h0 : us f = 0) (hl : ∀ j, j < f → ¬ us j = 0) (K : post (-1) (us, px, py, dn, gr)) : wpY_add post (us, px, py, dn, gr) x y := by
  have v : vp_in (nI f) 24 := vp_in_nI hf (by decide)
  have e : (nI f).toNatClampNeg = f := nI_clamp (by omega)
  refine Exists.intro 25 (ys_ad2 (by omega) hl (fun n => ?_) 25 0 (by omega) (by omega))
  refine br_f (nI_ge (b := 24) hf (by decide)) (And.intro v ?_)
  rw [e]
  exact br_t h0 (ys_spot (fun n => absurd n ok) (fun _ => br_t rfl K))
theorem ys_add3 {post : Int32 → SY → Prop} {x y : Int32} (hl : ∀ j, j < 24 → ¬ us j = 0) (K : post (-2) (us, px, py, dn, gr)) : wpY_add post (us, px, py, dn, gr) x y :=
  Exists.intro 25 (ys_ad2 (Nat.le_refl _) hl (fun n => br_t (Int32.le_refl _) K) 25 0 (by omega) (by omega))
end
theorem rg_upd {px py : Nat → Int32} {f : Nat} {x y : Int32} (h : ∀ p, p < 24 → nt_rg (px p) 100 ∧ nt_rg (py p) 100) (hx : nt_rg x 100 ∧ nt_rg y 100) : ∀ p, p < 24 → nt_rg (upd px f x p) 100 ∧ nt_rg (upd py f y p) 100 := by
  intro p hp
  by_cases e : p = f
  · subst e; rw [pk_us, pk_us]; exact hx
  · rw [pk_un e, pk_un e]; exact h p hp
end
section
-- what is owed
theorem i_up {k : Nat} {u : SX} {v : SY} (h : i_Rel k u v) : i_Rel (k + 5) u v := h
theorem i_vc0 : wpX_init (fun u => wpY_init (fun v => i_Rel 0 u v)) := by
  have e : (ls_all (fun _ => (0 : Int32))).length = 0 := by decide
  unfold wpX_init wpY_init
  exact zz_in (fun p _ => ⟨nt_rg0 (by decide), nt_rg0 (by decide)⟩) (Or.inl rfl) (by rw [e]; rfl)
theorem i_vc_add {k : Nat} {u : SX} {v : SY} (I : i_Rel k u v) (hk : k + 5 ≤ 2560) (v1 : Int32) (v2 : Int32) : wpX_add (fun r u' => wpY_add (fun r' v' => r' = r ∧ i_Rel (k + 5) u' v') v v1 v2) u v1 v2 := by
  refine zz_el (P := fun u v => wpX_add (fun r u' => wpY_add (fun r' v' => r' = r ∧ i_Rel (k + 5) u' v') v v1 v2) u v1 v2) I ?_
  intro bu k0 fc wa us px py tr bl br bb bt pf pt pd fo fd de le dn gr rg hb
  by_cases hN : (ls_all us).length < 24
  · obtain ⟨f, hf, h0, hl⟩ := ad_free hN
    by_cases ok : sp_ok v1 v2 100
    · refine xs_add1 hN ok hf h0 hl (ys_add1 ok hf h0 hl ⟨rfl, zz_in (rg_upd rg (sp_100 ok)) (Or.inl rfl) ?_⟩)
      rw [ad_len (us := us) (us' := upd us f 1) hf h0 (by rw [pk_us]; decide) (fun j hj => pk_un hj)]
    · exact xs_add2 hN ok (ys_add2 ok hf h0 hl ⟨rfl, zz_in rg hb rfl⟩)
  · exact xs_add3 hN (ys_add3 (ad_full hN) ⟨rfl, zz_in rg hb rfl⟩)
theorem i_vc_remove {k : Nat} {u : SX} {v : SY} (I : i_Rel k u v) (hk : k + 5 ≤ 2560) (v1 : Int32) : wpX_remove (fun r u' => wpY_remove (fun r' v' => r' = r ∧ i_Rel (k + 5) u' v') v v1) u v1 := by
  refine zz_el (P := fun u v => wpX_remove (fun r u' => wpY_remove (fun r' v' => r' = r ∧ i_Rel (k + 5) u' v') v v1) u v1) I ?_
  intro bu k0 fc wa us px py tr bl br bb bt pf pt pd fo fd de le dn gr rg hb
  unfold wpX_remove wpY_remove
  dsimp only
  refine xs_pt (fun ok => br_f nt_10 ?_) (fun no => br_t rfl (ys_pt (fun ok => absurd ok no) (fun _ => br_t rfl ⟨rfl, zz_in rg hb rfl⟩)))
  obtain ⟨p, hp, rfl, hu⟩ := id ok
  have v : vp_in (nI p) 24 := vp_in_nI hp (by decide)
  have e : (nI p).toNatClampNeg = p := nI_clamp (by omega)
  have l := ad_len (us' := us) (us := upd us p 0) hp pk_us hu (fun j hj => (pk_un hj).symm)
  have l2 : nI (ls_all us).length - 1 = nI (ls_all (upd us p 0)).length := by rw [l]; exact nI_pred _
  rw [e]
  refine And.intro v (nm_e (nm_r l2 ?_))
  refine ys_pt (fun _ => br_f nt_10 (And.intro v (nm_e (ys_size ⟨rfl, zz_in rg (Or.inl rfl) rfl⟩)))) (fun no => absurd ok no)
theorem i_vc_move {k : Nat} {u : SX} {v : SY} (I : i_Rel k u v) (hk : k + 5 ≤ 2560) (v1 : Int32) (v2 : Int32) (v3 : Int32) : wpX_move (fun r u' => wpY_move (fun r' v' => r' = r ∧ i_Rel (k + 5) u' v') v v1 v2 v3) u v1 v2 v3 := by
  refine zz_el (P := fun u v => wpX_move (fun r u' => wpY_move (fun r' v' => r' = r ∧ i_Rel (k + 5) u' v') v v1 v2 v3) u v1 v2 v3) I ?_
  intro bu k0 fc wa us px py tr bl br bb bt pf pt pd fo fd de le dn gr rg hb
  unfold wpX_move wpY_move
  dsimp only
  refine xs_pt (fun ok => br_f nt_10 ?_) (fun no => br_t rfl (ys_pt (fun ok => absurd ok no) (fun _ => br_t rfl ⟨rfl, zz_in rg hb rfl⟩)))
  refine xs_spot (fun sp => br_f nt_10 ?_) (fun ns => br_t rfl (ys_pt (fun _ => br_f nt_10 (ys_spot (fun sp => absurd sp ns) (fun _ => br_t rfl ⟨rfl, zz_in rg hb rfl⟩))) (fun no => absurd ok no)))
  obtain ⟨p, hp, rfl, hu⟩ := id ok
  have v : vp_in (nI p) 24 := vp_in_nI hp (by decide)
  have e : (nI p).toNatClampNeg = p := nI_clamp (by omega)
  refine xs_dt v ?_
  rw [e]
  refine And.intro v (nm_e (And.intro v (nm_e ?_)))
  exact ys_pt (fun _ => br_f nt_10 (ys_spot (fun _ => br_f nt_10 (ys_dist hp (And.intro v (nm_e (And.intro v (nm_e ⟨rfl, zz_in (rg_upd rg (sp_100 sp)) (Or.inl rfl) rfl⟩)))))) (fun ns => absurd sp ns))) (fun no => absurd ok no)
theorem i_vc_size {k : Nat} {u : SX} {v : SY} (I : i_Rel k u v) (hk : k + 5 ≤ 2560) : wpX_size (fun r => wpY_size (fun r' => r' = r ∧ i_Rel (k + 5) u v) v) u := by
  refine zz_el (P := fun u v => wpX_size (fun r => wpY_size (fun r' => r' = r ∧ i_Rel (k + 5) u v) v) u) I ?_
  intro bu k0 fc wa us px py tr bl br bb bt pf pt pd fo fd de le dn gr rg hb
  unfold wpX_size
  dsimp only
  exact ys_size ⟨rfl, zz_in rg hb rfl⟩
theorem i_vc_nearest {k : Nat} {u : SX} {v : SY} (I : i_Rel k u v) (hk : k + 5 ≤ 2560) (v1 : Int32) (v2 : Int32) (v3 : Int32) : wpX_nearest (fun r u' => wpY_nearest (fun r' => r' = r ∧ i_Rel (k + 5) u' v) v v1 v2 v3) u v1 v2 v3 := by
  refine zz_el (P := fun u v => wpX_nearest (fun r u' => wpY_nearest (fun r' => r' = r ∧ i_Rel (k + 5) u' v) v v1 v2 v3) u v1 v2 v3) I ?_
  intro bu k0 fc wa us px py tr bl br bb bt pf pt pd fo fd de le dn gr rg hb
  have hN := ls_len us
  unfold wpX_nearest wpY_nearest
  dsimp only
  refine xs_spot (fun sp => br_f nt_10 ?_) (fun ns => br_t rfl (ys_spot (fun sp => absurd sp ns) (fun _ => br_t rfl ⟨rfl, zz_in rg hb rfl⟩)))
  obtain ⟨hx, hy⟩ := sp_200 sp
  have none : (∀ p, p ∈ ls_all us → ¬ nI (rk us (fun p => nt_ds px py p v1 v2) p) = v3) →
      wpY_isSpot (fun r_1 => ((r_1 = 0 → ((-1 : Int32) = -3 ∧ i_Rel (k + 5) (nI (ls_all us).length, bu, k0, fc, wa, us, px, py, tr, bl, br, bb, bt, pf, pt, pd, fo, fd, de, le) (us, px, py, dn, gr))) ∧ (¬ r_1 = 0 → ∃ n17 : Nat, wY_nearest_17 (fun r' => r' = -3 ∧ i_Rel (k + 5) (nI (ls_all us).length, bu, k0, fc, wa, us, px, py, tr, bl, br, bb, bt, pf, pt, pd, fo, fd, de, le) (us, px, py, dn, gr)) v1 v2 v3 us px py dn gr n17 0))) (us, px, py, dn, gr) v1 v2 200 := by
    intro hn
    exact ys_spot (fun _ => br_f nt_10 (Exists.intro 25 (ys_nearest (fun p hp e => absurd e (hn p hp)) (fun _ => ⟨rfl, zz_in rg hb rfl⟩) 25 0 (by decide) (by decide) (fun p _ h => absurd h (Nat.not_lt_zero _))))) (fun ns => absurd sp ns)
  refine br_c (fun h => none (fun p hp e => ?_)) (fun h => ?_)
  · rw [← e] at h
    exact nI_pos (by have := rk_len (D := fun p => nt_ds px py p v1 v2) hp; omega) h
  · obtain ⟨j, hj, rfl⟩ := nI_of h
    refine pk_lt j (ls_all us).length (fun hlt => ?_) (fun hge => none (fun p hp e => ?_))
    · have v : vp_in (nI j) 24 := vp_in_nI (by omega) (by decide)
      have e : (nI j).toNatClampNeg = j := nI_clamp (by omega)
      rw [nI_1, e]
      refine xs_search (w := j + 1) (by omega) (by omega) hb rg hx hy ?_
      intro bu' k' fc' tr' bl' br' bb' bt' pf' pt' pd' fo' fd' g hT hin hg hc
      obtain ⟨ef, er⟩ := rk_found hlt (fun q hq z => nI_pos (n := q) (by omega) (by rw [z]; decide)) hin hg hc
      subst ef
      have eg : fo' j = nI (g j) := (hin.2.1 j (by omega)).2.1
      have gm := (hg j (by omega)).1
      refine And.intro v ?_
      dsimp only
      rw [eg]
      refine ys_spot (fun _ => br_f nt_10 (Exists.intro 25 (ys_nearest (fun p hp e => ⟨?_, zz_in rg (Or.inr hT) rfl⟩) (fun hn => absurd (congrArg nI er) (hn (g j) gm)) 25 0 (by decide) (by decide) (fun p _ h => absurd h (Nat.not_lt_zero _))))) (fun ns => absurd sp ns)
      have l := rk_len (D := fun p => nt_ds px py p v1 v2) hp
      rw [nI_eq (by omega) (by omega)] at e
      rw [rk_inj hp gm (e.trans er.symm)]
    · have l := rk_len (D := fun p => nt_ds px py p v1 v2) hp
      rw [nI_eq (by omega) (by omega)] at e
      omega
theorem i_vc_within {k : Nat} {u : SX} {v : SY} (I : i_Rel k u v) (hk : k + 5 ≤ 2560) (v1 : Int32) (v2 : Int32) (v3 : Int32) : wpX_within (fun r u' => wpY_within (fun r' => r' = r ∧ i_Rel (k + 5) u' v) v v1 v2 v3) u v1 v2 v3 := by
  refine zz_el (P := fun u v => wpX_within (fun r u' => wpY_within (fun r' => r' = r ∧ i_Rel (k + 5) u' v) v v1 v2 v3) u v1 v2 v3) I ?_
  intro bu k0 fc wa us px py tr bl br bb bt pf pt pd fo fd de le dn gr rg hb
  unfold wpX_within wpY_within
  dsimp only
  refine xs_spot (fun sp => br_f nt_10 ?_) (fun ns => br_t rfl (ys_spot (fun sp => absurd sp ns) (fun _ => br_t rfl ⟨rfl, zz_in rg hb rfl⟩)))
  obtain ⟨hx, hy⟩ := sp_200 sp
  refine xs_cw hb rg hx hy (fun bu' k' tr' bl' br' bb' bt' pf' pt' pd' hT => ?_)
  exact ys_spot (fun _ => br_f nt_10 (ys_near ⟨rfl, zz_in rg (Or.inr hT) rfl⟩)) (fun ns => absurd sp ns)
theorem i_vc_inBox {k : Nat} {u : SX} {v : SY} (I : i_Rel k u v) (hk : k + 5 ≤ 2560) (v1 : Int32) (v2 : Int32) (v3 : Int32) (v4 : Int32) : wpX_inBox (fun r u' => wpY_inBox (fun r' => r' = r ∧ i_Rel (k + 5) u' v) v v1 v2 v3 v4) u v1 v2 v3 v4 := by
  refine zz_el (P := fun u v => wpX_inBox (fun r u' => wpY_inBox (fun r' => r' = r ∧ i_Rel (k + 5) u' v) v v1 v2 v3 v4) u v1 v2 v3 v4) I ?_
  intro bu k0 fc wa us px py tr bl br bb bt pf pt pd fo fd de le dn gr rg hb
  exact xs_ib hb rg (fun bu' k' tr' bl' br' bb' bt' pf' pt' pd' hT => ys_ib ⟨rfl, zz_in rg (Or.inr hT) rfl⟩)
theorem i_vc_closest {k : Nat} {u : SX} {v : SY} (I : i_Rel k u v) (hk : k + 5 ≤ 2560) : wpX_closest (fun r u' => wpY_closest (fun r' => r' = r ∧ i_Rel (k + 5) u' v) v) u := by
  refine zz_el (P := fun u v => wpX_closest (fun r u' => wpY_closest (fun r' => r' = r ∧ i_Rel (k + 5) u' v) v) u) I ?_
  intro bu k0 fc wa us px py tr bl br bb bt pf pt pd fo fd de le dn gr rg hb
  refine xs_closest rg hb (fun h2 => ys_closest rg (fun l hl => ⟨cl_fin0 hl h2, zz_in rg hb rfl⟩)) ?_
  intro b bu1 k1 fc1 wa1 tr1 bl1 br1 bb1 bt1 pf1 pt1 pd1 fo1 fd1 hb1 h2 hm
  exact ys_closest rg (fun l hl => ⟨cl_uniq (cl_fin hl h2) hm, zz_in rg hb1 rfl⟩)
theorem i_vc_clusters {k : Nat} {u : SX} {v : SY} (I : i_Rel k u v) (hk : k + 5 ≤ 2560) (v1 : Int32) (v2 : Int32) : wpX_clusters (fun r u' => wpY_clusters (fun r' v' => r' = r ∧ i_Rel (k + 5) u' v') v v1 v2) u v1 v2 := by
  refine zz_el (P := fun u v => wpX_clusters (fun r u' => wpY_clusters (fun r' v' => r' = r ∧ i_Rel (k + 5) u' v') v v1 v2) u v1 v2) I ?_
  intro bu k0 fc wa us px py tr bl br bb bt pf pt pd fo fd de le dn gr rg hb
  unfold wpX_clusters wpY_clusters
  dsimp only
  refine xs_form rg hb ?_
  intro bu1 k1 tr1 bl1 br1 bb1 bt1 pf1 pt1 pd1 de1 le1 l hb1 _ hD hL hE
  refine Exists.intro 25 (xs_clus hD hL ?_)
  have hc := cu_Lmin cu_E24 hL hE
  refine ys_form hc (fun dn1 gr1 hD1 hg1 => Exists.intro 25 (ys_clus (fun p hp => ?_) hD1 hg1 ⟨rfl, zz_in rg hb1 rfl⟩))
  have := (cu_rfix (cu_L_dn hL) p hp).2
  omega
theorem i_vc_clusterOf {k : Nat} {u : SX} {v : SY} (I : i_Rel k u v) (hk : k + 5 ≤ 2560) (v1 : Int32) (v2 : Int32) (v3 : Int32) : wpX_clusterOf (fun r u' => wpY_clusterOf (fun r' v' => r' = r ∧ i_Rel (k + 5) u' v') v v1 v2 v3) u v1 v2 v3 := by
  refine zz_el (P := fun u v => wpX_clusterOf (fun r u' => wpY_clusterOf (fun r' v' => r' = r ∧ i_Rel (k + 5) u' v') v v1 v2 v3) u v1 v2 v3) I ?_
  intro bu k0 fc wa us px py tr bl br bb bt pf pt pd fo fd de le dn gr rg hb
  unfold wpX_clusterOf wpY_clusterOf
  dsimp only
  refine xs_pt (fun ok => br_f nt_10 ?_) (fun no => br_t rfl (ys_pt (fun ok => absurd ok no) (fun _ => br_t rfl ⟨rfl, zz_in rg hb rfl⟩)))
  obtain ⟨p, hp, rfl, hu⟩ := id ok
  have v : vp_in (nI p) 24 := vp_in_nI hp (by decide)
  have e : (nI p).toNatClampNeg = p := nI_clamp (by omega)
  refine xs_form rg hb ?_
  intro bu1 k1 tr1 bl1 br1 bb1 bt1 pf1 pt1 pd1 de1 le1 l hb1 _ hD hL hE
  have hc := cu_Lmin cu_E24 hL hE
  dsimp only
  rw [e, hD p hp]
  refine And.intro v (br_c (fun z => ?_) (fun z => xs_lead hL hp ?_))
  · refine ys_pt (fun _ => br_f nt_10 (ys_form hc (fun dn1 gr1 hD1 hg1 => ?_))) (fun no => absurd ok no)
    dsimp only
    rw [hD1 p hp]
    exact And.intro v (br_t z ⟨rfl, zz_in rg hb1 rfl⟩)
  · refine ys_pt (fun _ => br_f nt_10 (ys_form hc (fun dn1 gr1 hD1 hg1 => ?_))) (fun no => absurd ok no)
    dsimp only
    rw [hD1 p hp, hg1 p hp]
    exact And.intro v (br_f z (And.intro v ⟨rfl, zz_in rg hb1 rfl⟩))
theorem i_vc_noise {k : Nat} {u : SX} {v : SY} (I : i_Rel k u v) (hk : k + 5 ≤ 2560) (v1 : Int32) (v2 : Int32) : wpX_noise (fun r u' => wpY_noise (fun r' v' => r' = r ∧ i_Rel (k + 5) u' v') v v1 v2) u v1 v2 := by
  refine zz_el (P := fun u v => wpX_noise (fun r u' => wpY_noise (fun r' v' => r' = r ∧ i_Rel (k + 5) u' v') v v1 v2) u v1 v2) I ?_
  intro bu k0 fc wa us px py tr bl br bb bt pf pt pd fo fd de le dn gr rg hb
  unfold wpX_noise wpY_noise
  dsimp only
  refine xs_form rg hb ?_
  intro bu1 k1 tr1 bl1 br1 bb1 bt1 pf1 pt1 pd1 de1 le1 l hb1 hT1 hD hL hE
  have hc := cu_Lmin cu_E24 hL hE
  refine Exists.intro 25 (xs_noise rg hT1 hD 24 0 0 k1 pf1 pt1 pd1 rfl ?_)
  intro k2 pf2 pt2 pd2
  rw [Nat.zero_add]
  exact ys_form hc (fun dn1 gr1 hD1 hg1 => Exists.intro 25 (ys_noise hD1 ⟨rfl, zz_in rg hb1 rfl⟩))
end
