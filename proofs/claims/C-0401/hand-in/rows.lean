section
theorem pk_us {f : Nat → Int32} {k : Nat} {x : Int32} : upd f k x k = x := if_pos rfl
theorem pk_un {f : Nat → Int32} {k j : Nat} {x : Int32} (h : j ≠ k) : upd f k x j = f j := if_neg h
theorem pk_sub {a b : Nat} (h : b ≤ a) : nI a - nI b = nI (a - b) := by
  obtain ⟨c, rfl⟩ : ∃ c, a = c + b := ⟨a - b, by omega⟩
  rw [← nI_add, Int32.add_sub_cancel, Nat.add_sub_cancel]
theorem pk_m1 (n : Nat) : nI (n + 1) + (-1) = nI n := by
  rw [← nI_1, Int32.add_assoc, show (1 : Int32) + (-1) = 0 from rfl, Int32.add_zero]
theorem pk_mul (a b : Nat) : nI a * nI b = nI (a * b) := (Int32.ofNat_mul a b).symm
theorem pk_div {a d : Nat} (ha : a < 2 ^ 31) (h0 : 0 < d) (hd : d < 2 ^ 31) : nI a / nI d = nI (a / d) := by
  apply Int32.toInt_inj.mp
  rw [lg_idiv_nonneg (by rw [nI_toInt ha]; omega) (by rw [nI_toInt hd]; omega), nI_toInt ha, nI_toInt hd, nI_toInt (Nat.lt_of_le_of_lt (Nat.div_le_self a d) ha)]
  first | rfl | exact (Int.natCast_ediv _ _).symm
theorem pk_sub_toInt {a b : Nat} (ha : a < 2 ^ 30) (hb : b < 2 ^ 30) : (nI a - nI b).toInt = (a : Int) - b := by
  rw [Int32.toInt_sub, nI_toInt (by omega), nI_toInt (by omega)]
  exact Int.bmod_eq_of_le (by omega) (by omega)
theorem pk_ix (x : Int32) {n : Nat} (hn : n < 2 ^ 31) : x < 0 ∨ nI n ≤ x ∨ ∃ j : Nat, j < n ∧ x = nI j := by
  by_cases h : x < 0
  · exact Or.inl h
  · obtain ⟨j, hj, rfl⟩ := nI_of h
    by_cases h2 : j < n
    · exact Or.inr (Or.inr ⟨j, h2, rfl⟩)
    · exact Or.inr (Or.inl (nI_le (by omega) hj))
theorem pk_le {x y : Int32} {A B : Prop} (a b : Nat) (f : a ≤ b → A) (g : b < a → B) (hx : x = nI a := by rfl) (hy : y = nI b := by rfl) (ha : a < 2 ^ 31 := by omega) (hb : b < 2 ^ 31 := by omega) : (x ≤ y → A) ∧ (¬ x ≤ y → B) := by
  subst hx hy
  rw [nI_leI ha hb]
  exact ⟨f, fun z => g (by omega)⟩
theorem pk_lt {x y : Int32} {A B : Prop} (a b : Nat) (f : a < b → A) (g : b ≤ a → B) (hx : x = nI a := by rfl) (hy : y = nI b := by rfl) (ha : a < 2 ^ 31 := by omega) (hb : b < 2 ^ 31 := by omega) : (x < y → A) ∧ (¬ x < y → B) := by
  subst hx hy
  rw [nI_ltI ha hb]
  exact ⟨f, fun z => g (by omega)⟩
theorem pk_eq {x y : Int32} {A B : Prop} (a b : Nat) (f : a = b → A) (g : a ≠ b → B) (hx : x = nI a := by rfl) (hy : y = nI b := by rfl) (ha : a < 2 ^ 31 := by omega) (hb : b < 2 ^ 31 := by omega) : (x = y → A) ∧ (¬ x = y → B) := by
  subst hx hy
  rw [nI_eq ha hb]
  exact ⟨f, g⟩
theorem pk_in {x : Int32} (n N : Nat) (h : n < N) (hx : x = nI n := by rfl) (hN : N < 2 ^ 31 := by omega) : vp_in x N := by
  subst hx
  exact vp_in_nI h hN
theorem pk_cl {x : Int32} (n : Nat) (hx : x = nI n := by rfl) (h : n < 2 ^ 31 := by omega) : x.toNatClampNeg = n := by
  subst hx
  exact nI_clamp h
theorem pk_tn {n : Nat} (h : n < 2 ^ 32) : (nI n).toBitVec.toNat = n := Nat.mod_eq_of_lt h
theorem pk_and (x : Int32) {m : Int32} (k : Nat) (hm : m.toBitVec.toNat = 2 ^ k - 1) : x &&& m = nI (x.toBitVec.toNat % 2 ^ k) := by
  apply Int32.toBitVec_inj.mp
  apply BitVec.eq_of_toNat_eq
  rw [Int32.toBitVec_and, BitVec.toNat_and, hm, Nat.and_two_pow_sub_one_eq_mod]
  show _ = (BitVec.ofNat 32 _).toNat
  rw [BitVec.toNat_ofNat]
  exact (Nat.mod_eq_of_lt (Nat.lt_of_le_of_lt (Nat.mod_le _ _) x.toBitVec.isLt)).symm
theorem pk_andE (x : Int32) {m : Int32} (k : Nat) (hm : m.toBitVec.toNat = 2 ^ k - 1) : ∃ j : Nat, j < 2 ^ k ∧ x &&& m = nI j := ⟨_, Nat.mod_lt _ (Nat.two_pow_pos k), pk_and x k hm⟩
theorem pk_andIn (x : Int32) {m : Int32} (k : Nat) (hm : m.toBitVec.toNat = 2 ^ k - 1) (hk : k ≤ 30) : vp_in (x &&& m) (2 ^ k) := by
  obtain ⟨j, hj, e⟩ := pk_andE x k hm
  rw [e]
  exact vp_in_nI hj (Nat.lt_of_le_of_lt (Nat.pow_le_pow_right (by decide) hk) (by decide))
end
section
/-! ghosts, sums, rings -/
abbrev sk_V : Type := (Nat → Nat) × (Nat → Int32) × (Nat → Int32)
abbrev sk_Y : Type := (Nat → Int32) × (Nat → Int32) × Int32 × Int32 × Int32 × Int32
def sk_u (f : Nat → Nat) (k x : Nat) : Nat → Nat := fun j => if j = k then x else f j
theorem sk_us {f : Nat → Nat} {k x : Nat} : sk_u f k x k = x := if_pos rfl
theorem sk_un {f : Nat → Nat} {k j x : Nat} (h : j ≠ k) : sk_u f k x j = f j := if_neg h
def sk_m (h k : Nat) : Nat := if h + k < 12 then h + k else h + k - 12
def sk_s (hd : Nat → Nat) (t k : Nat) : Nat := t * 12 + sk_m (hd t) k
theorem sk_m_lt {h k : Nat} (hh : h < 12) (hk : k ≤ 12) : sk_m h k < 12 := by
  unfold sk_m; split <;> omega
theorem sk_m_inj {h k k' : Nat} (hk : k < 12) (hk' : k' < 12) (e : sk_m h k = sk_m h k') : k = k' := by
  unfold sk_m at e
  by_cases a : h + k < 12
  · by_cases b : h + k' < 12
    · rw [if_pos a, if_pos b] at e; omega
    · rw [if_pos a, if_neg b] at e; omega
  · by_cases b : h + k' < 12
    · rw [if_neg a, if_pos b] at e; omega
    · rw [if_neg a, if_neg b] at e; omega
theorem sk_m_sh {h k : Nat} (hh : h < 12) (hk : k < 12) : sk_m (if h = 11 then 0 else h + 1) k = sk_m h (k + 1) := by
  by_cases a : h = 11
  · rw [if_pos a]; unfold sk_m; rw [if_pos (by omega), if_neg (by omega)]; omega
  · rw [if_neg a]; unfold sk_m
    by_cases b : h + (k + 1) < 12
    · rw [if_pos (by omega), if_pos b]; omega
    · rw [if_neg (by omega), if_neg b]; omega
theorem sk_m_0 {h : Nat} (hh : h < 12) : sk_m h 0 = h := by unfold sk_m; rw [if_pos (by omega)]; omega
theorem sk_s_lt {hd : Nat → Nat} {t k : Nat} (ht : t < 4) (hh : hd t < 12) (hk : k ≤ 12) : sk_s hd t k < 48 := by
  have := sk_m_lt hh hk
  unfold sk_s; omega
theorem sk_s_inj {hd : Nat → Nat} {t k t' k' : Nat} (hh : hd t < 12) (hh' : hd t' < 12) (hk : k < 12) (hk' : k' < 12) (e : sk_s hd t k = sk_s hd t' k') : t = t' ∧ k = k' := by
  have a := sk_m_lt hh (Nat.le_of_lt hk)
  have b := sk_m_lt hh' (Nat.le_of_lt hk')
  unfold sk_s at e
  have c : t = t' := by omega
  subst c
  exact ⟨rfl, sk_m_inj (h := hd t) hk hk' (by omega)⟩
theorem sk_s_div {hd : Nat → Nat} {t k : Nat} (hh : hd t < 12) (hk : k ≤ 12) : sk_s hd t k / 12 = t := by
  have := sk_m_lt hh hk
  unfold sk_s; omega
def sk_4 (f : Nat → Nat) : Nat := f 0 + f 1 + f 2 + f 3
theorem sk_4u {f g : Nat → Nat} {t : Nat} (ht : t < 4) (h : ∀ x, x ≠ t → g x = f x) : sk_4 g + f t = sk_4 f + g t := by
  unfold sk_4
  rcases (by omega : t = 0 ∨ t = 1 ∨ t = 2 ∨ t = 3) with z | z | z | z
  · have a := h 1 (by omega); have b := h 2 (by omega); have c := h 3 (by omega); subst z; omega
  · have a := h 0 (by omega); have b := h 2 (by omega); have c := h 3 (by omega); subst z; omega
  · have a := h 0 (by omega); have b := h 1 (by omega); have c := h 3 (by omega); subst z; omega
  · have a := h 0 (by omega); have b := h 1 (by omega); have c := h 2 (by omega); subst z; omega
theorem sk_4e {f g : Nat → Nat} (h : ∀ x, x < 4 → g x = f x) : sk_4 g = sk_4 f := by
  unfold sk_4
  rw [h 0 (by omega), h 1 (by omega), h 2 (by omega), h 3 (by omega)]
def sk_4i (f : Nat → Int32) : Int32 := f 0 + f 1 + f 2 + f 3
theorem sk_4i1 {f g : Nat → Int32} {t : Nat} (ht : t < 4) (h : ∀ x, x ≠ t → g x = f x) (e : g t = f t + 1) : sk_4i g = sk_4i f + 1 := by
  unfold sk_4i
  rcases (by omega : t = 0 ∨ t = 1 ∨ t = 2 ∨ t = 3) with z | z | z | z
  · have a := h 1 (by omega); have b := h 2 (by omega); have c := h 3 (by omega); subst z; rw [a, b, c, e]; grind
  · have a := h 0 (by omega); have b := h 2 (by omega); have c := h 3 (by omega); subst z; rw [a, b, c, e]; grind
  · have a := h 0 (by omega); have b := h 1 (by omega); have c := h 3 (by omega); subst z; rw [a, b, c, e]; grind
  · have a := h 0 (by omega); have b := h 1 (by omega); have c := h 2 (by omega); subst z; rw [a, b, c, e]; grind
/-- how many of the first n have a destination -/
def sk_c (f : Nat → Int32) : Nat → Nat
  | 0 => 0
  | n + 1 => sk_c f n + (if f n < 0 then 0 else 1)
theorem sk_c_eq {f g : Nat → Int32} : ∀ {n : Nat}, (∀ k, k < n → f k = g k) → sk_c f n = sk_c g n := by
  intro n
  induction n with
  | zero => intro _; rfl
  | succ n ih =>
    intro h
    show sk_c f n + (if f n < 0 then 0 else 1) = sk_c g n + (if g n < 0 then 0 else 1)
    rw [ih (fun k hk => h k (by omega)), h n (by omega)]
theorem sk_c_sh (f : Nat → Int32) : ∀ n : Nat, sk_c f (n + 1) = (if f 0 < 0 then 0 else 1) + sk_c (fun k => f (k + 1)) n := by
  intro n
  induction n with
  | zero => show 0 + (if f 0 < 0 then 0 else 1) = (if f 0 < 0 then 0 else 1) + 0; rw [Nat.zero_add, Nat.add_zero]
  | succ n ih =>
    show sk_c f (n + 1) + (if f (n + 1) < 0 then 0 else 1) = (if f 0 < 0 then 0 else 1) + (sk_c (fun k => f (k + 1)) n + (if f (n + 1) < 0 then 0 else 1))
    rw [ih]; omega
/-! the meaning of an instruction -/
def sk_ra (w : Int32) : Nat := ((w >>> ((3 : Int32) &&& 31)) &&& 7).toNatClampNeg
def sk_rb (w : Int32) : Nat := ((w >>> ((6 : Int32) &&& 31)) &&& 7).toNatClampNeg
def sk_d (w : Int32) : Nat := (w &&& 7).toNatClampNeg
theorem sk_a7 (x : Int32) : (x &&& 7).toNatClampNeg < 8 ∧ x &&& 7 = nI (x &&& 7).toNatClampNeg := by
  obtain ⟨j, hj, e⟩ := pk_andE x (m := 7) 3 (by decide)
  have hj' : j < 8 := hj
  rw [e, nI_clamp (by omega)]
  exact ⟨hj', rfl⟩
theorem sk_ra8 (w : Int32) : sk_ra w < 8 := (sk_a7 _).1
theorem sk_rb8 (w : Int32) : sk_rb w < 8 := (sk_a7 _).1
theorem sk_d8 (w : Int32) : sk_d w < 8 := (sk_a7 _).1
theorem sk_raI (w : Int32) : (w >>> ((3 : Int32) &&& 31)) &&& 7 = nI (sk_ra w) := (sk_a7 _).2
theorem sk_rbI (w : Int32) : (w >>> ((6 : Int32) &&& 31)) &&& 7 = nI (sk_rb w) := (sk_a7 _).2
theorem sk_dI (w : Int32) : w &&& 7 = nI (sk_d w) := (sk_a7 _).2
abbrev sk_D (o : Int32) : Prop := o ≤ 10 ∨ o = 14
abbrev sk_out (e : Int32) : Prop := e < 0 ∨ ¬ e ≤ 15
def sk_val (o pc a b i c : Int32) : Int32 :=
  if o = 1 then i else if o = 2 then a + b else if o = 3 then a - b else if o = 4 then a * b
  else if o = 5 then (if b = 0 then 0 else a / b) else if o = 6 then a &&& b else if o = 7 then a ^^^ b
  else if o = 8 then a <<< ((i &&& 31) &&& 31) else if o = 9 then a + i else if o = 10 then c else pc + 1
def sk_stop (o a b i : Int32) : Int32 := if o = 5 ∧ b = 0 then 2 else if (o = 10 ∨ o = 11) ∧ sk_out (a + i) then 3 else 0
def sk_next (o pc a b i : Int32) : Int32 :=
  if o = 12 then (if a = b then i else pc + 1) else if o = 13 then (if b ≤ a then pc + 1 else i)
  else if o = 14 then i else if o = 15 then a else pc + 1
def sk_cell (e : Int32) (M : Nat → Int32) : Int32 := if sk_out e then 0 else M e.toNatClampNeg
def sk_vl (o w i pc : Int32) (R M : Nat → Int32) : Int32 := sk_val o pc (R (sk_ra w)) (R (sk_rb w)) i (sk_cell (R (sk_ra w) + i) M)
def sk_sp (o w i : Int32) (R : Nat → Int32) : Int32 := sk_stop o (R (sk_ra w)) (R (sk_rb w)) i
def sk_nx (o w i pc : Int32) (R : Nat → Int32) : Int32 := sk_next o pc (R (sk_ra w)) (R (sk_rb w)) i
def sk_R (o w i pc : Int32) (R M : Nat → Int32) : Nat → Int32 := if sk_D o then upd R (sk_d w) (sk_vl o w i pc R M) else R
def sk_M (o w i : Int32) (R M : Nat → Int32) : Nat → Int32 :=
  if o = 11 ∧ ¬ sk_out (R (sk_ra w) + i) then upd M (R (sk_ra w) + i).toNatClampNeg (R (sk_rb w)) else M
/-- what goes into the digest -/
def sk_dv (o w i pc : Int32) (R M : Nat → Int32) : Int32 :=
  if sk_D o then sk_vl o w i pc R M else if o = 11 then 5 * (R (sk_ra w) + i) + R (sk_rb w) else sk_nx o w i pc R
/-- one step of a thread at code word (o, w, i), a word that isn't a halt -/
def sk_yo (o w i : Int32) (y : sk_Y) : sk_Y :=
  if sk_sp o w i y.1 = 0 then
    (sk_R o w i y.2.2.1 y.1 y.2.1, sk_M o w i y.1 y.2.1, sk_nx o w i y.2.2.1 y.1, y.2.2.2.1, y.2.2.2.2.1 + 1, y.2.2.2.2.2 * 31 + 7 * y.2.2.1 + sk_dv o w i y.2.2.1 y.1 y.2.1)
  else (y.1, y.2.1, y.2.2.1, sk_sp o w i y.1, y.2.2.2.2.1, y.2.2.2.2.2)
def sk_ys (t n : Nat) (op rg im : Nat → Int32) (y : sk_Y) : sk_Y :=
  if y.2.2.1 < 0 ∨ nI n ≤ y.2.2.1 then (y.1, y.2.1, y.2.2.1, 4, y.2.2.2.2.1, y.2.2.2.2.2)
  else if op (t * 24 + y.2.2.1.toNatClampNeg) = 0 then (y.1, y.2.1, y.2.2.1, 1, y.2.2.2.2.1, y.2.2.2.2.2)
  else sk_yo (op (t * 24 + y.2.2.1.toNatClampNeg)) (rg (t * 24 + y.2.2.1.toNatClampNeg)) (im (t * 24 + y.2.2.1.toNatClampNeg)) y
def sk_yn (t n : Nat) (op rg im : Nat → Int32) : Nat → sk_Y → sk_Y
  | 0, y => y
  | q + 1, y => if y.2.2.2.1 = 0 then sk_yn t n op rg im q (sk_ys t n op rg im y) else y
theorem sk_yn_stop {t n : Nat} {op rg im : Nat → Int32} {y : sk_Y} (h : ¬ y.2.2.2.1 = 0) : ∀ q, sk_yn t n op rg im q y = y := by
  intro q
  cases q with
  | zero => rfl
  | succ q => exact if_neg h
theorem sk_yn_go {t n : Nat} {op rg im : Nat → Int32} {y : sk_Y} {q : Nat} (h : y.2.2.2.1 = 0) : sk_yn t n op rg im (q + 1) y = sk_yn t n op rg im q (sk_ys t n op rg im y) := if_pos h
end
section
/-! the groups of the invariant -/
def sk_RG (nt : Nat) (hd ct : Nat → Nat) (a_head a_count a_robLive : Nat → Int32) : Prop :=
  (∀ t, t < nt → a_head t = nI (hd t) ∧ hd t < 12 ∧ a_count t = nI (ct t) ∧ ct t ≤ 12) ∧
  (∀ t k, t < nt → k < ct t → a_robLive (sk_s hd t k) ≠ 0) ∧
  (∀ s, s < 48 → a_robLive s ≠ 0 → ∃ t k, t < nt ∧ k < ct t ∧ sk_s hd t k = s) ∧
  (∀ t, nt ≤ t → ct t = 0) ∧ nt ≤ 4
/-- an entry's names: set at its renaming, kept -/
def sk_es (o w i pc : Int32) (z z' : sk_V) (de nw ol ra rb : Int32) : Prop :=
  ra = nI (z.1 (sk_ra w)) ∧ rb = nI (z.1 (sk_rb w)) ∧
  (sk_D o → de = nI (sk_d w) ∧ ol = nI (z.1 (sk_d w)) ∧ nw = nI (z'.1 (sk_d w)) ∧ ∀ j, j ≠ sk_d w → z'.1 j = z.1 j) ∧
  (¬ sk_D o → de = -1 ∧ z'.1 = z.1) ∧
  z'.2.1 = sk_R o w i pc z.2.1 z.2.2 ∧ z'.2.2 = sk_M o w i z.2.1 z.2.2
/-- an entry's outcome: known once it has been issued -/
def sk_eo (o w i pc : Int32) (z : sk_V) (sp va ad nx : Int32) : Prop :=
  sp = sk_sp o w i z.2.1 ∧ nx = sk_nx o w i pc z.2.1 ∧ (sk_D o → va = sk_vl o w i pc z.2.1 z.2.2) ∧
  (o = 11 → ad = z.2.1 (sk_ra w) + i ∧ (¬ sk_out (z.2.1 (sk_ra w) + i) → va = z.2.1 (sk_rb w)))
def sk_ed (o w i pc : Int32) (z : sk_V) (st tm sp va ad nx : Int32) : Prop :=
  (st = 0 ∧ sp = 0) ∨ ((st = 2 ∨ (st = 1 ∧ ∃ c, 1 ≤ c ∧ c ≤ 4 ∧ tm = nI c)) ∧ sk_eo o w i pc z sp va ad nx)
/-- a renamed entry of thread t at code cell p -/
def sk_er (t p : Nat) (op rg im : Nat → Int32) (z z' : sk_V) (pc st tm sp de nw ol ra rb va ad nx : Int32) : Prop :=
  pc = nI p ∧ op (t * 24 + p) ≠ 0 ∧
  sk_es (op (t * 24 + p)) (rg (t * 24 + p)) (im (t * 24 + p)) pc z z' de nw ol ra rb ∧
  sk_ed (op (t * 24 + p)) (rg (t * 24 + p)) (im (t * 24 + p)) pc z st tm sp va ad nx
/-- an entry that stops the thread -/
def sk_eb (t n : Nat) (op : Nat → Int32) (z z' : sk_V) (pc st sp de : Int32) : Prop :=
  z' = z ∧ de = -1 ∧ st = 2 ∧ ((sp = 1 ∧ ∃ p, p < n ∧ pc = nI p ∧ op (t * 24 + p) = 0) ∨ (sp = 4 ∧ (pc < 0 ∨ nI n ≤ pc)))
def sk_EN (nt : Nat) (sn : Nat → Nat) (a_op a_regsOf a_immOf : Nat → Int32) (hd ct : Nat → Nat) (Z : Nat → Nat → sk_V) (a_fetchStop a_robPc a_robState a_robTimer a_robStop a_robDest a_robNew a_robOld a_robA a_robB a_robVal a_robAddr a_robNext : Nat → Int32) : Prop :=
  (∀ t, t < nt → sn t ≤ 24) ∧
  ∀ t k, t < nt → k < ct t →
    (∃ p, p < sn t ∧ sk_er t p a_op a_regsOf a_immOf (Z t k) (Z t (k + 1)) (a_robPc (sk_s hd t k)) (a_robState (sk_s hd t k)) (a_robTimer (sk_s hd t k))
      (a_robStop (sk_s hd t k)) (a_robDest (sk_s hd t k)) (a_robNew (sk_s hd t k)) (a_robOld (sk_s hd t k)) (a_robA (sk_s hd t k)) (a_robB (sk_s hd t k))
      (a_robVal (sk_s hd t k)) (a_robAddr (sk_s hd t k)) (a_robNext (sk_s hd t k))) ∨
    ((k + 1 = ct t ∧ a_fetchStop t ≠ 0) ∧ sk_eb t (sn t) a_op (Z t k) (Z t (k + 1)) (a_robPc (sk_s hd t k)) (a_robState (sk_s hd t k)) (a_robStop (sk_s hd t k)) (a_robDest (sk_s hd t k)))
def sk_CB (nt : Nat) (ct : Nat → Nat) (Z : Nat → Nat → sk_V) (a_archMap a_map a_memory : Nat → Int32) : Prop := ∀ t, t < nt →
  (∀ j, j < 8 → a_archMap (t * 8 + j) = nI ((Z t 0).1 j) ∧ a_map (t * 8 + j) = nI ((Z t (ct t)).1 j)) ∧
  (∀ a, a < 16 → a_memory (t * 16 + a) = (Z t 0).2.2 a)
def sk_VL (nt : Nat) (ct : Nat → Nat) (Z : Nat → Nat → sk_V) (cn a_ready a_value : Nat → Int32) : Prop := ∀ t k j, t < nt → k ≤ ct t → j < 8 →
  (Z t k).1 j < 56 ∧ cn ((Z t k).1 j) = (Z t k).2.1 j ∧ (a_ready ((Z t k).1 j) ≠ 0 → a_value ((Z t k).1 j) = (Z t k).2.1 j)
def sk_RD (nt : Nat) (hd ct : Nat → Nat) (Z : Nat → Nat → sk_V) (a_ready a_robState a_robDest a_robNew : Nat → Int32) : Prop :=
  (∀ t j, t < nt → j < 8 → a_ready ((Z t 0).1 j) ≠ 0) ∧
  (∀ t k, t < nt → k < ct t → a_robState (sk_s hd t k) = 2 → ¬ a_robDest (sk_s hd t k) < 0 → a_ready (a_robNew (sk_s hd t k)).toNatClampNeg ≠ 0)
def sk_OW (nt : Nat) (hd ct : Nat → Nat) (Z : Nat → Nat → sk_V) (ow : Nat → Nat) (ft : Nat) (a_robDest a_robNew a_free : Nat → Int32) : Prop :=
  (∀ t j, t < nt → j < 8 → ow ((Z t 0).1 j) = t * 8 + j) ∧
  (∀ t k, t < nt → k < ct t → ¬ a_robDest (sk_s hd t k) < 0 → ow (a_robNew (sk_s hd t k)).toNatClampNeg = 32 + sk_s hd t k) ∧
  (∀ i, i < ft → ∃ p, p < 56 ∧ a_free i = nI p ∧ ow p = 80 + i)
def sk_ND (hd ct : Nat → Nat) (ex ft : Nat) (a_robDest : Nat → Int32) (f_freeTop : Int32) : Prop :=
  f_freeTop = nI ft ∧ ft + sk_4 (fun t => sk_c (fun k => a_robDest (sk_s hd t k)) (ct t)) = ex ∧ 2 ≤ ex ∧ ex ≤ 24
def sk_IB (nt : Nat) (hd ct sn : Nat → Nat) (Z : Nat → Nat → sk_V) (cn : Nat → Int32) (ow : Nat → Nat) (ft ex : Nat) (f_freeTop : Int32) (a_op a_regsOf a_immOf a_memory a_value a_ready a_free a_archMap a_map a_head a_count a_robPc a_robState a_robTimer a_robStop a_robDest a_robNew a_robOld a_robA a_robB a_robVal a_robAddr a_robNext a_robLive a_fetchStop : Nat → Int32) : Prop := (sk_RG nt hd ct a_head a_count a_robLive) ∧ (sk_EN nt sn a_op a_regsOf a_immOf hd ct Z a_fetchStop a_robPc a_robState a_robTimer a_robStop a_robDest a_robNew a_robOld a_robA a_robB a_robVal a_robAddr a_robNext) ∧ (sk_CB nt ct Z a_archMap a_map a_memory) ∧ (sk_VL nt ct Z cn a_ready a_value) ∧ (sk_RD nt hd ct Z a_ready a_robState a_robDest a_robNew) ∧ (sk_OW nt hd ct Z ow ft a_robDest a_robNew a_free) ∧ (sk_ND hd ct ex ft a_robDest f_freeTop)
def sk_QW (nt : Nat) (hd ct : Nat → Nat) (qn : Nat) (a_robState a_queue : Nat → Int32) : Prop :=
  qn ≤ 16 ∧ (∀ i, i < qn → ∃ s, s < 48 ∧ a_queue i = nI s) ∧ (∀ i j, i < qn → j < qn → a_queue i = a_queue j → i = j) ∧
  (∀ t k, t < nt → k < ct t → a_robState (sk_s hd t k) = 0 → ∃ i, i < qn ∧ a_queue i = nI (sk_s hd t k))
def sk_QQ (nt : Nat) (hd ct : Nat → Nat) (qn : Nat) (a_robState a_queue : Nat → Int32) : Prop :=
  ∀ i, i < qn → ∃ t k, t < nt ∧ k < ct t ∧ a_queue i = nI (sk_s hd t k) ∧ a_robState (sk_s hd t k) = 0
def sk_FA (nt : Nat) (hd ct : Nat → Nat) (a_robPc a_robState a_robNext a_robGuess a_archPc : Nat → Int32) : Prop := ∀ t, t < nt →
  (0 < ct t → a_robPc (sk_s hd t 0) = a_archPc t) ∧
  ∀ k, k + 1 < ct t → a_robPc (sk_s hd t (k + 1)) = if a_robState (sk_s hd t k) = 2 then a_robNext (sk_s hd t k) else a_robGuess (sk_s hd t k)
def sk_FB (nt : Nat) (hd ct : Nat → Nat) (a_active a_robState a_robStop a_robNext a_robGuess a_archPc a_fetchPc a_fetchStop : Nat → Int32) : Prop := ∀ t, t < nt → a_active t ≠ 0 →
  (ct t = 0 → a_fetchPc t = a_archPc t ∧ a_fetchStop t = 0) ∧
  ∀ k, k + 1 = ct t →
    (a_fetchStop t = 0 → a_fetchPc t = if a_robState (sk_s hd t k) = 2 then a_robNext (sk_s hd t k) else a_robGuess (sk_s hd t k)) ∧
    (a_fetchStop t ≠ 0 → a_robStop (sk_s hd t k) = 1 ∨ a_robStop (sk_s hd t k) = 4)
/-- one thread against its goal -/
def sk_YT (t n : Nat) (op rg im : Nat → Int32) (c : Nat) (z : sk_V) (g : sk_Y) (ac qt ap so rc dg : Int32) : Prop :=
  (ac ≠ 0 → so = 0 ∧ ∃ q, q ≤ 40 ∧ qt = nI q ∧ sk_yn t n op rg im q (z.2.1, z.2.2, ap, so, rc, dg) = g) ∧
  (ac = 0 → c = 0 ∧ (z.2.1, z.2.2, ap, so, rc, dg) = g)
def sk_YG (nt : Nat) (sn : Nat → Nat) (a_op a_regsOf a_immOf : Nat → Int32) (ct : Nat → Nat) (Z : Nat → Nat → sk_V) (goal : Nat → sk_Y) (a_active a_quota a_archPc a_statusOf a_retiredOf a_digestOf : Nat → Int32) : Prop := ∀ t, t < nt →
  sk_YT t (sn t) a_op a_regsOf a_immOf (ct t) (Z t 0) (goal t) (a_active t) (a_quota t) (a_archPc t) (a_statusOf t) (a_retiredOf t) (a_digestOf t)
def sk_TT (nt : Nat) (r0 : Nat → Int32) (f_total : Int32) (a_retiredOf : Nat → Int32) : Prop := f_total = sk_4i (fun t => a_retiredOf t - r0 t) ∧ ∀ t, nt ≤ t → a_retiredOf t = r0 t
def sk_KK (nt wd wn : Nat) (sn : Nat → Nat) (f_threads f_width f_window : Int32) (a_op a_sizeOf : Nat → Int32) : Prop :=
  f_threads = nI nt ∧ f_width = nI wd ∧ f_window = nI wn ∧ 1 ≤ nt ∧ nt ≤ 4 ∧ 1 ≤ wd ∧ wd ≤ 4 ∧ 2 ≤ wn ∧ wn ≤ 12 ∧
  (∀ i, 0 ≤ a_op i ∧ a_op i ≤ 15) ∧ (∀ t, t < nt → a_sizeOf t = nI (sn t) ∧ sn t ≤ 24)
end
section
/-! what the groups give -/
theorem sk_m1n {j : Nat} (h : j < 2 ^ 31) : (-1 : Int32) ≠ nI j := by
  intro e
  have a := nI_pos h
  rw [← e] at a
  exact a (by decide)
theorem sk_m1lt : (-1 : Int32) < 0 := by decide
section
variable {nt : Nat} {hd ct sn : Nat → Nat} {Z : Nat → Nat → sk_V} {cn : Nat → Int32} {ow : Nat → Nat} {ft ex : Nat} {f_freeTop : Int32} {a_op a_regsOf a_immOf a_memory a_value a_ready a_free a_archMap a_map a_head a_count a_robPc a_robState a_robTimer a_robStop a_robDest a_robNew a_robOld a_robA a_robB a_robVal a_robAddr a_robNext a_robLive a_fetchStop : Nat → Int32}
/-- an entry's renaming, without its code -/
theorem sk_de (hE : (sk_EN nt sn a_op a_regsOf a_immOf hd ct Z a_fetchStop a_robPc a_robState a_robTimer a_robStop a_robDest a_robNew a_robOld a_robA a_robB a_robVal a_robAddr a_robNext)) {t k : Nat} (ht : t < nt) (hk : k < ct t) :
    (∃ d, d < 8 ∧ a_robDest (sk_s hd t k) = nI d ∧ a_robOld (sk_s hd t k) = nI ((Z t k).1 d) ∧ a_robNew (sk_s hd t k) = nI ((Z t (k + 1)).1 d) ∧
      ∀ j, j ≠ d → (Z t (k + 1)).1 j = (Z t k).1 j) ∨
    (a_robDest (sk_s hd t k) = -1 ∧ (Z t (k + 1)).1 = (Z t k).1) := by
  rcases hE.2 t k ht hk with ⟨p, hp, e1, e2, ⟨e3, e4, e5, e6, e7, e8⟩, e9⟩ | ⟨_, e1, e2, _⟩
  · by_cases hD : sk_D (a_op (t * 24 + p))
    · obtain ⟨a, b, c, d⟩ := e5 hD
      exact Or.inl ⟨_, sk_d8 _, a, b, c, d⟩
    · exact Or.inr (e6 hD)
  · exact Or.inr ⟨e2, by rw [e1]⟩
/-- the tokens of the names in a map -/
theorem sk_tk (hE : (sk_EN nt sn a_op a_regsOf a_immOf hd ct Z a_fetchStop a_robPc a_robState a_robTimer a_robStop a_robDest a_robNew a_robOld a_robA a_robB a_robVal a_robAddr a_robNext)) (hV : (sk_VL nt ct Z cn a_ready a_value)) (hO : (sk_OW nt hd ct Z ow ft a_robDest a_robNew a_free)) {t : Nat} (ht : t < nt) : ∀ k j, k ≤ ct t → j < 8 →
    (ow ((Z t k).1 j) = t * 8 + j ∧ ∀ i, i < k → a_robDest (sk_s hd t i) ≠ nI j) ∨ ∃ i, i < k ∧ ow ((Z t k).1 j) = 32 + sk_s hd t i := by
  intro k
  induction k with
  | zero => intro j _ hj; exact Or.inl ⟨hO.1 t j ht hj, fun i hi => absurd hi (Nat.not_lt_zero i)⟩
  | succ k ih =>
    intro j hk hj
    rcases sk_de hE ht (show k < ct t by omega) with ⟨d, hd8, a, b, c, e⟩ | ⟨a, b⟩
    · by_cases hjd : j = d
      · right
        refine ⟨k, by omega, ?_⟩
        have h := hO.2.1 t k ht (by omega) (by rw [a]; exact nI_pos (by omega))
        have h56 := (hV t (k + 1) d ht hk hd8).1
        rw [c, nI_clamp (by omega)] at h
        rw [hjd]; exact h
      · rw [e j hjd]
        rcases ih j (by omega) hj with ⟨h1, h2⟩ | ⟨i, hi, h1⟩
        · refine Or.inl ⟨h1, fun i hi => ?_⟩
          by_cases hik : i = k
          · rw [hik, a]
            intro z
            exact hjd ((nI_eq (by omega) (by omega)).mp z).symm
          · exact h2 i (by omega)
        · exact Or.inr ⟨i, by omega, h1⟩
    · rw [b]
      rcases ih j (by omega) hj with ⟨h1, h2⟩ | ⟨i, hi, h1⟩
      · refine Or.inl ⟨h1, fun i hi => ?_⟩
        by_cases hik : i = k
        · rw [hik, a]; exact sk_m1n (by omega)
        · exact h2 i (by omega)
      · exact Or.inr ⟨i, by omega, h1⟩
/-- a name in a map isn't free -/
theorem sk_tk80 (hG : (sk_RG nt hd ct a_head a_count a_robLive)) (hE : (sk_EN nt sn a_op a_regsOf a_immOf hd ct Z a_fetchStop a_robPc a_robState a_robTimer a_robStop a_robDest a_robNew a_robOld a_robA a_robB a_robVal a_robAddr a_robNext)) (hV : (sk_VL nt ct Z cn a_ready a_value)) (hO : (sk_OW nt hd ct Z ow ft a_robDest a_robNew a_free)) {t k j : Nat} (ht : t < nt) (hk : k ≤ ct t) (hj : j < 8) : ow ((Z t k).1 j) < 80 := by
  have h4 := hG.2.2.2.2
  rcases sk_tk hE hV hO ht k j hk hj with ⟨h1, _⟩ | ⟨i, hi, h1⟩
  · omega
  · have g := hG.1 t ht
    have := sk_s_lt (hd := hd) (t := t) (k := i) (by omega) g.2.1 (by omega)
    omega
/-- slots of entries differ -/
theorem sk_ne (hG : (sk_RG nt hd ct a_head a_count a_robLive)) {t k t' k' : Nat} (ht : t < nt) (hk : k < 12) (ht' : t' < nt) (hk' : k' < 12) (h : ¬ (t' = t ∧ k' = k)) : sk_s hd t' k' ≠ sk_s hd t k := by
  intro e
  exact h (sk_s_inj (hG.1 t' ht').2.1 (hG.1 t ht).2.1 hk' hk e)
theorem sk_sl (hG : (sk_RG nt hd ct a_head a_count a_robLive)) {t k : Nat} (ht : t < nt) (hk : k ≤ 12) : sk_s hd t k < 48 := sk_s_lt (by have := hG.2.2.2.2; omega) (hG.1 t ht).2.1 hk
end
end
section
/-! the youngest entry goes -/
theorem sk_up1 {f : Nat → Int32} {p q : Nat} (h : f q ≠ 0) : upd f p 1 q ≠ 0 := by
  by_cases e : q = p
  · rw [e, pk_us]; decide
  · rw [pk_un e]; exact h
section
variable {nt : Nat} {hd ct sn : Nat → Nat} {Z : Nat → Nat → sk_V} {cn : Nat → Int32} {ow : Nat → Nat} {ft ex : Nat} {f_freeTop : Int32} {a_op a_regsOf a_immOf a_memory a_value a_ready a_free a_archMap a_map a_head a_count a_robPc a_robState a_robTimer a_robStop a_robDest a_robNew a_robOld a_robA a_robB a_robVal a_robAddr a_robNext a_robLive a_fetchStop : Nat → Int32}
theorem sk_cu {t c : Nat} (hc : ct t = c + 1) (x : Nat) : sk_u ct t c x ≤ ct x := by
  by_cases e : x = t
  · rw [e, sk_us]; omega
  · rw [sk_un e]; omega
theorem sk_cl {t c : Nat} {x k : Nat} (hk : k < sk_u ct t c x) : ¬ (x = t ∧ k = c) := by
  intro ⟨a, b⟩
  rw [a, sk_us] at hk; omega
theorem sk_sqRG {t c : Nat} (ht : t < nt) (hc : ct t = c + 1) (h : (sk_RG nt hd ct a_head a_count a_robLive)) : (sk_RG nt hd (sk_u ct t c) a_head (upd a_count t (nI c)) (upd a_robLive (sk_s hd t c) 0)) := by
  have g := h.1 t ht
  refine ⟨fun x hx => ?_, fun x k hx hk => ?_, fun s hs hl => ?_, fun x hx => ?_, h.2.2.2.2⟩
  · have gx := h.1 x hx
    by_cases e : x = t
    · rw [e, pk_us, sk_us]; exact ⟨g.1, g.2.1, rfl, by omega⟩
    · rw [pk_un e, sk_un e]; exact gx
  · have gx := h.1 x hx
    have a := sk_cu hc x
    rw [pk_un (sk_ne h ht (by omega) hx (by omega) (sk_cl hk))]
    exact h.2.1 x k hx (by omega)
  · by_cases e : s = sk_s hd t c
    · rw [e, pk_us] at hl; exact absurd rfl hl
    · rw [pk_un e] at hl
      obtain ⟨x, k, hx, hk, e2⟩ := h.2.2.1 s hs hl
      refine ⟨x, k, hx, ?_, e2⟩
      by_cases ex : x = t
      · rw [ex, sk_us]
        have : k ≠ c := by
          intro ek; apply e; rw [← e2, ex, ek]
        rw [ex] at hk; omega
      · rw [sk_un ex]; exact hk
  · have : x ≠ t := by omega
    rw [sk_un this]; exact h.2.2.2.1 x hx
theorem sk_sqEN {t c : Nat} (hc : ct t = c + 1) (h : (sk_EN nt sn a_op a_regsOf a_immOf hd ct Z a_fetchStop a_robPc a_robState a_robTimer a_robStop a_robDest a_robNew a_robOld a_robA a_robB a_robVal a_robAddr a_robNext)) : (sk_EN nt sn a_op a_regsOf a_immOf hd (sk_u ct t c) Z a_fetchStop a_robPc a_robState a_robTimer a_robStop a_robDest a_robNew a_robOld a_robA a_robB a_robVal a_robAddr a_robNext) := by
  refine ⟨h.1, fun x k hx hk => ?_⟩
  have a := sk_cu hc x
  rcases h.2 x k hx (by omega) with e | ⟨⟨e1, e2⟩, e3⟩
  · exact Or.inl e
  · by_cases ex : x = t
    · exfalso; rw [ex, sk_us] at hk; rw [ex] at e1; omega
    · refine Or.inr ⟨⟨?_, e2⟩, e3⟩
      rw [sk_un ex]; exact e1
theorem sk_sqA {t c : Nat} (ht : t < nt) (hc : ct t = c + 1) (hde : a_robDest (sk_s hd t c) < 0) (h : (sk_IB nt hd ct sn Z cn ow ft ex f_freeTop a_op a_regsOf a_immOf a_memory a_value a_ready a_free a_archMap a_map a_head a_count a_robPc a_robState a_robTimer a_robStop a_robDest a_robNew a_robOld a_robA a_robB a_robVal a_robAddr a_robNext a_robLive a_fetchStop)) :
    (sk_IB nt hd (sk_u ct t c) sn Z cn ow ft ex f_freeTop a_op a_regsOf a_immOf a_memory a_value a_ready a_free a_archMap a_map a_head (upd a_count t (nI c)) a_robPc a_robState a_robTimer a_robStop a_robDest a_robNew a_robOld a_robA a_robB a_robVal a_robAddr a_robNext (upd a_robLive (sk_s hd t c) 0) a_fetchStop) := by
  obtain ⟨hG, hE, hC, hV, hR, hO, hN⟩ := h
  refine ⟨sk_sqRG ht hc hG, sk_sqEN hc hE, fun x hx => ⟨fun j hj => ?_, (hC x hx).2⟩, ?_, ⟨hR.1, ?_⟩, ⟨hO.1, ?_, hO.2.2⟩, ?_⟩
  · have q := (hC x hx).1 j hj
    by_cases e : x = t
    · subst e
      rw [sk_us]
      rcases sk_de hE ht (show c < ct x by omega) with ⟨d, hd8, a, b⟩ | ⟨a, b⟩
      · rw [a] at hde; exact absurd hde (nI_pos (by omega))
      · rw [← b, ← hc]; exact q
    · rw [sk_un e]; exact q
  · intro x k j hx hk hj
    have a := sk_cu hc x
    exact hV x k j hx (by omega) hj
  · intro x k hx hk
    have a := sk_cu hc x
    exact hR.2 x k hx (by omega)
  · intro x k hx hk
    have a := sk_cu hc x
    exact hO.2.1 x k hx (by omega)
  · refine ⟨hN.1, ?_, hN.2.2⟩
    have a := hN.2.1
    have b := sk_4u (t := t) (f := fun t => sk_c (fun k => a_robDest (sk_s hd t k)) (ct t)) (g := fun x => sk_c (fun k => a_robDest (sk_s hd x k)) (sk_u ct t c x)) (by have := hG.2.2.2.2; omega)
      (fun x hx => by show sk_c _ (sk_u ct t c x) = _; rw [sk_un hx])
    have d : sk_c (fun k => a_robDest (sk_s hd t k)) (ct t) = sk_c (fun k => a_robDest (sk_s hd t k)) (sk_u ct t c t) := by
      rw [hc, sk_us]
      show sk_c _ c + (if a_robDest (sk_s hd t c) < 0 then 0 else 1) = _
      rw [if_pos hde]; rfl
    omega
theorem sk_sqB {t c d p : Nat} (ht : t < nt) (hc : ct t = c + 1) (hd8 : d < 8) (ede : a_robDest (sk_s hd t c) = nI d)
    (eol : a_robOld (sk_s hd t c) = nI ((Z t c).1 d)) (ep : p = (Z t (c + 1)).1 d) (enw : a_robNew (sk_s hd t c) = nI p)
    (eo : ∀ j, j ≠ d → (Z t (c + 1)).1 j = (Z t c).1 j) (h : (sk_IB nt hd ct sn Z cn ow ft ex f_freeTop a_op a_regsOf a_immOf a_memory a_value a_ready a_free a_archMap a_map a_head a_count a_robPc a_robState a_robTimer a_robStop a_robDest a_robNew a_robOld a_robA a_robB a_robVal a_robAddr a_robNext a_robLive a_fetchStop)) :
    p < 56 ∧ ft < 56 ∧ (sk_IB nt hd (sk_u ct t c) sn Z cn (sk_u ow p (80 + ft)) (ft + 1) ex (nI (ft + 1)) a_op a_regsOf a_immOf a_memory a_value (upd a_ready p 1) (upd a_free ft (nI p)) a_archMap (upd a_map (t * 8 + d) (a_robOld (sk_s hd t c))) a_head (upd a_count t (nI c)) a_robPc a_robState a_robTimer a_robStop a_robDest a_robNew a_robOld a_robA a_robB a_robVal a_robAddr a_robNext (upd a_robLive (sk_s hd t c) 0) a_fetchStop) := by
  obtain ⟨hG, hE, hC, hV, hR, hO, hN⟩ := h
  have h4 := hG.2.2.2.2
  have gt := hG.1 t ht
  have hpos : ¬ a_robDest (sk_s hd t c) < 0 := by rw [ede]; exact nI_pos (by omega)
  have sl := sk_sl hG ht (show c ≤ 12 by omega)
  have p56 : p < 56 := by rw [ep]; exact (hV t (c + 1) d ht (by omega) hd8).1
  have owp : ow p = 32 + sk_s hd t c := by
    have q := hO.2.1 t c ht (by omega) hpos
    rw [enw, nI_clamp (by omega)] at q; exact q
  have b := sk_4u (t := t) (f := fun t => sk_c (fun k => a_robDest (sk_s hd t k)) (ct t)) (g := fun x => sk_c (fun k => a_robDest (sk_s hd x k)) (sk_u ct t c x)) (by omega)
    (fun x hx => by show sk_c _ (sk_u ct t c x) = _; rw [sk_un hx])
  have dd : sk_c (fun k => a_robDest (sk_s hd t k)) (ct t) = sk_c (fun k => a_robDest (sk_s hd t k)) (sk_u ct t c t) + 1 := by
    rw [hc, sk_us]
    show sk_c _ c + (if a_robDest (sk_s hd t c) < 0 then 0 else 1) = _
    rw [if_neg hpos]
  have n1 := hN.2.1
  have n2 := hN.2.2
  have pne : ∀ x k j, x < nt → k ≤ sk_u ct t c x → j < 8 → (Z x k).1 j ≠ p := by
    intro x k j hx hk hj e
    have a := sk_cu hc x
    rcases sk_tk hE hV hO hx k j (by omega) hj with ⟨q, _⟩ | ⟨i, hi, q⟩
    · rw [e] at q; omega
    · rw [e, owp] at q
      have gx := hG.1 x hx
      exact sk_ne hG ht (show c < 12 by omega) hx (show i < 12 by omega) (sk_cl (ct := ct) (t := t) (c := c) (x := x) (k := i) (by omega)) (by omega)
  have nwe : ∀ x k, x < nt → k < sk_u ct t c x → ¬ a_robDest (sk_s hd x k) < 0 → (a_robNew (sk_s hd x k)).toNatClampNeg ≠ p := by
    intro x k hx hk hq e
    have a := sk_cu hc x
    have gx := hG.1 x hx
    have q := hO.2.1 x k hx (by omega) hq
    rw [e, owp] at q
    exact sk_ne hG ht (show c < 12 by omega) hx (show k < 12 by omega) (sk_cl hk) (by omega)
  refine ⟨p56, by omega, sk_sqRG ht hc hG, sk_sqEN hc hE, fun x hx => ⟨fun j hj => ?_, (hC x hx).2⟩, ?_, ⟨?_, ?_⟩, ⟨?_, ?_, ?_⟩, ?_⟩
  · have q := (hC x hx).1 j hj
    refine ⟨q.1, ?_⟩
    by_cases e : x = t
    · subst e
      rw [sk_us]
      by_cases ej : j = d
      · rw [ej, pk_us, eol]
      · rw [pk_un (by omega), q.2, hc, eo j ej]
    · rw [sk_un e, pk_un (by omega)]; exact q.2
  · intro x k j hx hk hj
    have a := sk_cu hc x
    have q := hV x k j hx (by omega) hj
    rw [pk_un (pne x k j hx hk hj)]
    exact q
  · intro x j hx hj
    exact sk_up1 (hR.1 x j hx hj)
  · intro x k hx hk h1 h2
    have a := sk_cu hc x
    exact sk_up1 (hR.2 x k hx (by omega) h1 h2)
  · intro x j hx hj
    rw [sk_un (pne x 0 j hx (by omega) hj)]
    exact hO.1 x j hx hj
  · intro x k hx hk h1
    have a := sk_cu hc x
    rw [sk_un (nwe x k hx hk h1)]
    exact hO.2.1 x k hx (by omega) h1
  · intro i hi
    by_cases ei : i = ft
    · exact ⟨p, p56, by rw [ei, pk_us], by rw [sk_us, ei]⟩
    · obtain ⟨r, r1, r2, r3⟩ := hO.2.2 i (by omega)
      refine ⟨r, r1, by rw [pk_un ei]; exact r2, ?_⟩
      rw [sk_un (by intro e; rw [e, owp] at r3; omega)]
      exact r3
  · refine ⟨rfl, ?_, n2⟩
    show ft + 1 + sk_4 (fun x => sk_c (fun k => a_robDest (sk_s hd x k)) (sk_u ct t c x)) = ex
    omega
end
end
section
/-! the oldest entry retires -/
def sk_Zs (Z : Nat → Nat → sk_V) (t : Nat) : Nat → Nat → sk_V := fun x k => if x = t then Z x (k + 1) else Z x k
def sk_hn (hd : Nat → Nat) (t : Nat) : Nat → Nat := sk_u hd t (if hd t = 11 then 0 else hd t + 1)
theorem sk_Zs_t {Z : Nat → Nat → sk_V} {t k : Nat} : sk_Zs Z t t k = Z t (k + 1) := if_pos rfl
theorem sk_Zs_n {Z : Nat → Nat → sk_V} {t x k : Nat} (e : x ≠ t) : sk_Zs Z t x k = Z x k := if_neg e
theorem sk_hn_t {hd : Nat → Nat} {t k : Nat} (hh : hd t < 12) (hk : k < 12) : sk_s (sk_hn hd t) t k = sk_s hd t (k + 1) := by
  unfold sk_s sk_hn; rw [sk_us, sk_m_sh hh hk]
theorem sk_hn_n {hd : Nat → Nat} {t x k : Nat} (e : x ≠ t) : sk_s (sk_hn hd t) x k = sk_s hd x k := by
  unfold sk_s sk_hn; rw [sk_un e]
/-- what holds of all old places holds of all new ones -/
theorem sk_hall {hd : Nat → Nat} {t : Nat} {Z : Nat → Nat → sk_V} (hh : hd t < 12) {Q : Nat → Nat → Nat → sk_V → sk_V → Prop} {x k : Nat} (hk : k < 12)
    (h1 : x = t → Q t k (sk_s hd t (k + 1)) (Z t (k + 1)) (Z t (k + 1 + 1))) (h2 : x ≠ t → Q x k (sk_s hd x k) (Z x k) (Z x (k + 1))) :
    Q x k (sk_s (sk_hn hd t) x k) (sk_Zs Z t x k) (sk_Zs Z t x (k + 1)) := by
  by_cases e : x = t
  · subst e; rw [sk_hn_t hh hk, sk_Zs_t, sk_Zs_t]; exact h1 rfl
  · rw [sk_hn_n e, sk_Zs_n e, sk_Zs_n e]; exact h2 e
section
variable {nt : Nat} {hd ct sn : Nat → Nat} {Z : Nat → Nat → sk_V} {cn : Nat → Int32} {ow : Nat → Nat} {ft ex : Nat} {f_freeTop : Int32} {a_op a_regsOf a_immOf a_memory a_value a_ready a_free a_archMap a_map a_head a_count a_robPc a_robState a_robTimer a_robStop a_robDest a_robNew a_robOld a_robA a_robB a_robVal a_robAddr a_robNext a_robLive a_fetchStop : Nat → Int32}
theorem sk_cmRG {t c : Nat} (ht : t < nt) (hc : ct t = c + 1) (h : (sk_RG nt hd ct a_head a_count a_robLive)) :
    (sk_RG nt (sk_hn hd t) (sk_u ct t c) (upd a_head t (nI (sk_hn hd t t))) (upd a_count t (nI c)) (upd a_robLive (sk_s hd t 0) 0)) := by
  have g := h.1 t ht
  refine ⟨fun x hx => ?_, fun x k hx hk => ?_, fun s hs hl => ?_, fun x hx => ?_, h.2.2.2.2⟩
  · have gx := h.1 x hx
    by_cases e : x = t
    · subst e
      rw [pk_us, pk_us, sk_us]
      refine ⟨rfl, ?_, rfl, by omega⟩
      unfold sk_hn; rw [sk_us]; split <;> omega
    · rw [pk_un e, pk_un e, sk_un e]
      have : sk_hn hd t x = hd x := by unfold sk_hn; rw [sk_un e]
      rw [this]; exact gx
  · have gx := h.1 x hx
    have a := sk_cu hc x
    by_cases e : x = t
    · subst e
      rw [sk_us] at hk
      rw [sk_hn_t g.2.1 (by omega), pk_un (sk_ne h ht (by omega) hx (by omega) (by omega))]
      exact h.2.1 x (k + 1) hx (by omega)
    · rw [sk_hn_n e, pk_un (sk_ne h ht (by omega) hx (by omega) (by omega))]
      exact h.2.1 x k hx (by omega)
  · by_cases e : s = sk_s hd t 0
    · rw [e, pk_us] at hl; exact absurd rfl hl
    · rw [pk_un e] at hl
      obtain ⟨x, k, hx, hk, e2⟩ := h.2.2.1 s hs hl
      by_cases ex : x = t
      · subst ex
        have k0 : k ≠ 0 := by intro ek; apply e; rw [← e2, ek]
        obtain ⟨k', rfl⟩ : ∃ k', k = k' + 1 := ⟨k - 1, by omega⟩
        refine ⟨x, k', hx, ?_, ?_⟩
        · rw [sk_us]; omega
        · rw [sk_hn_t g.2.1 (by omega)]; exact e2
      · refine ⟨x, k, hx, ?_, ?_⟩
        · rw [sk_un ex]; exact hk
        · rw [sk_hn_n ex]; exact e2
  · have : x ≠ t := by omega
    rw [sk_un this]; exact h.2.2.2.1 x hx
theorem sk_cmEN {t c : Nat} (ht : t < nt) (hc : ct t = c + 1) (hG : (sk_RG nt hd ct a_head a_count a_robLive)) (h : (sk_EN nt sn a_op a_regsOf a_immOf hd ct Z a_fetchStop a_robPc a_robState a_robTimer a_robStop a_robDest a_robNew a_robOld a_robA a_robB a_robVal a_robAddr a_robNext)) : (sk_EN nt sn a_op a_regsOf a_immOf (sk_hn hd t) (sk_u ct t c) (sk_Zs Z t) a_fetchStop a_robPc a_robState a_robTimer a_robStop a_robDest a_robNew a_robOld a_robA a_robB a_robVal a_robAddr a_robNext) := by
  have g := hG.1 t ht
  refine ⟨h.1, fun x k hx hk => ?_⟩
  have a := sk_cu hc x
  have gx := hG.1 x hx
  by_cases e : x = t
  · subst e
    rw [sk_us] at hk
    rw [sk_hn_t g.2.1 (by omega), sk_Zs_t, sk_Zs_t, sk_us]
    rcases h.2 x (k + 1) hx (by omega) with e | ⟨⟨e1, e2⟩, e3⟩
    · exact Or.inl e
    · exact Or.inr ⟨⟨by omega, e2⟩, e3⟩
  · rw [sk_un e] at hk
    rw [sk_hn_n e, sk_Zs_n e, sk_Zs_n e, sk_un e]
    exact h.2 x k hx hk
theorem sk_cmVL {t c : Nat} (hc : ct t = c + 1) (h : (sk_VL nt ct Z cn a_ready a_value)) : (sk_VL nt (sk_u ct t c) (sk_Zs Z t) cn a_ready a_value) := by
  intro x k j hx hk hj
  by_cases e : x = t
  · subst e
    rw [sk_us] at hk
    rw [sk_Zs_t]; exact h x (k + 1) j hx (by omega) hj
  · rw [sk_un e] at hk
    rw [sk_Zs_n e]; exact h x k j hx hk hj
theorem sk_cmc {t c : Nat} (ht : t < nt) (hc : ct t = c + 1) (hG : (sk_RG nt hd ct a_head a_count a_robLive)) :
    sk_4 (fun t => sk_c (fun k => a_robDest (sk_s hd t k)) (ct t)) = sk_4 (fun x => sk_c (fun k => a_robDest (sk_s (sk_hn hd t) x k)) (sk_u ct t c x)) + (if a_robDest (sk_s hd t 0) < 0 then 0 else 1) := by
  have g := hG.1 t ht
  have b := sk_4u (t := t) (f := fun t => sk_c (fun k => a_robDest (sk_s hd t k)) (ct t)) (g := fun x => sk_c (fun k => a_robDest (sk_s (sk_hn hd t) x k)) (sk_u ct t c x)) (by have := hG.2.2.2.2; omega)
    (fun x hx => by
      show sk_c _ (sk_u ct t c x) = _
      rw [sk_un hx]
      exact sk_c_eq (fun k _ => by rw [sk_hn_n hx]))
  have d : sk_c (fun k => a_robDest (sk_s hd t k)) (ct t) = (if a_robDest (sk_s hd t 0) < 0 then 0 else 1) + sk_c (fun k => a_robDest (sk_s (sk_hn hd t) t k)) (sk_u ct t c t) := by
    rw [hc, sk_us, sk_c_sh]
    refine congrArg (fun z => _ + z) (sk_c_eq (fun k hk => ?_))
    rw [sk_hn_t g.2.1 (by omega)]
  omega
/-- no destination -/
theorem sk_cmA {t c : Nat} (ht : t < nt) (hc : ct t = c + 1) (hde : a_robDest (sk_s hd t 0) < 0) {me' : Nat → Int32}
    (hm : ∀ x a, x < nt → a < 16 → me' (x * 16 + a) = (sk_Zs Z t x 0).2.2 a) (h : (sk_IB nt hd ct sn Z cn ow ft ex f_freeTop a_op a_regsOf a_immOf a_memory a_value a_ready a_free a_archMap a_map a_head a_count a_robPc a_robState a_robTimer a_robStop a_robDest a_robNew a_robOld a_robA a_robB a_robVal a_robAddr a_robNext a_robLive a_fetchStop)) :
    (sk_IB nt (sk_hn hd t) (sk_u ct t c) sn (sk_Zs Z t) cn ow ft ex f_freeTop a_op a_regsOf a_immOf me' a_value a_ready a_free a_archMap a_map (upd a_head t (nI (sk_hn hd t t))) (upd a_count t (nI c)) a_robPc a_robState a_robTimer a_robStop a_robDest a_robNew a_robOld a_robA a_robB a_robVal a_robAddr a_robNext (upd a_robLive (sk_s hd t 0) 0) a_fetchStop) := by
  obtain ⟨hG, hE, hC, hV, hR, hO, hN⟩ := h
  have g := hG.1 t ht
  have cc := sk_cmc (a_robDest := a_robDest) ht hc hG
  rw [if_pos hde] at cc
  have z1 : (Z t 1).1 = (Z t 0).1 := by
    rcases sk_de hE ht (show 0 < ct t by omega) with ⟨d, hd8, a, b⟩ | ⟨a, b⟩
    · rw [a] at hde; exact absurd hde (nI_pos (by omega))
    · exact b
  have zz : ∀ x, (sk_Zs Z t x 0).1 = (Z x 0).1 := by
    intro x
    by_cases e : x = t
    · subst e; rw [sk_Zs_t]; exact z1
    · rw [sk_Zs_n e]
  refine ⟨sk_cmRG ht hc hG, sk_cmEN ht hc hG hE, fun x hx => ⟨fun j hj => ?_, fun a ha => hm x a hx ha⟩, sk_cmVL hc hV, ⟨?_, ?_⟩, ⟨?_, ?_, hO.2.2⟩, ?_⟩
  · have q := (hC x hx).1 j hj
    rw [zz]
    refine ⟨q.1, ?_⟩
    by_cases e : x = t
    · subst e; rw [sk_us, sk_Zs_t, ← hc]; exact q.2
    · rw [sk_un e, sk_Zs_n e]; exact q.2
  · intro x j hx hj
    rw [zz]; exact hR.1 x j hx hj
  · intro x k hx hk
    have a := sk_cu hc x
    have gx := hG.1 x hx
    by_cases e : x = t
    · subst e
      rw [sk_us] at hk
      rw [sk_hn_t g.2.1 (by omega)]; exact hR.2 x (k + 1) hx (by omega)
    · rw [sk_hn_n e]; exact hR.2 x k hx (by omega)
  · intro x j hx hj
    rw [zz]; exact hO.1 x j hx hj
  · intro x k hx hk
    have a := sk_cu hc x
    have gx := hG.1 x hx
    by_cases e : x = t
    · subst e
      rw [sk_us] at hk
      rw [sk_hn_t g.2.1 (by omega)]; exact hO.2.1 x (k + 1) hx (by omega)
    · rw [sk_hn_n e]; exact hO.2.1 x k hx (by omega)
  · refine ⟨hN.1, ?_, hN.2.2⟩
    have n1 := hN.2.1
    show ft + sk_4 (fun x => sk_c (fun k => a_robDest (sk_s (sk_hn hd t) x k)) (sk_u ct t c x)) = ex
    omega
/-- with a destination -/
theorem sk_cmB {t c d po pn : Nat} (ht : t < nt) (hc : ct t = c + 1) (hd8 : d < 8) (hst : a_robState (sk_s hd t 0) = 2) (ede : a_robDest (sk_s hd t 0) = nI d)
    (epo : po = (Z t 0).1 d) (epn : pn = (Z t 1).1 d) (enw : a_robNew (sk_s hd t 0) = nI pn) (eo : ∀ j, j ≠ d → (Z t 1).1 j = (Z t 0).1 j)
    (em : (Z t 1).2.2 = (Z t 0).2.2) (h : (sk_IB nt hd ct sn Z cn ow ft ex f_freeTop a_op a_regsOf a_immOf a_memory a_value a_ready a_free a_archMap a_map a_head a_count a_robPc a_robState a_robTimer a_robStop a_robDest a_robNew a_robOld a_robA a_robB a_robVal a_robAddr a_robNext a_robLive a_fetchStop)) :
    po < 56 ∧ ft < 56 ∧ (sk_IB nt (sk_hn hd t) (sk_u ct t c) sn (sk_Zs Z t) cn (sk_u (sk_u ow pn (t * 8 + d)) po (80 + ft)) (ft + 1) ex (nI (ft + 1)) a_op a_regsOf a_immOf a_memory a_value (upd a_ready po 1) (upd a_free ft (nI po)) (upd a_archMap (t * 8 + d) (nI pn)) a_map (upd a_head t (nI (sk_hn hd t t))) (upd a_count t (nI c)) a_robPc a_robState a_robTimer a_robStop a_robDest a_robNew a_robOld a_robA a_robB a_robVal a_robAddr a_robNext (upd a_robLive (sk_s hd t 0) 0) a_fetchStop) := by
  obtain ⟨hG, hE, hC, hV, hR, hO, hN⟩ := h
  have h4 := hG.2.2.2.2
  have g := hG.1 t ht
  have hpos : ¬ a_robDest (sk_s hd t 0) < 0 := by rw [ede]; exact nI_pos (by omega)
  have cc := sk_cmc (a_robDest := a_robDest) ht hc hG
  rw [if_neg hpos] at cc
  have po56 : po < 56 := by rw [epo]; exact (hV t 0 d ht (by omega) hd8).1
  have pn56 : pn < 56 := by rw [epn]; exact (hV t 1 d ht (by omega) hd8).1
  have owo : ow po = t * 8 + d := by rw [epo]; exact hO.1 t d ht hd8
  have own : ow pn = 32 + sk_s hd t 0 := by
    have q := hO.2.1 t 0 ht (by omega) hpos
    rw [enw, nI_clamp (by omega)] at q; exact q
  have n1 := hN.2.1
  have n2 := hN.2.2
  have pne : ∀ x k j, x < nt → k ≤ sk_u ct t c x → j < 8 → (sk_Zs Z t x k).1 j ≠ po := by
    intro x k j hx hk hj e
    by_cases ex : x = t
    · subst ex
      rw [sk_us] at hk
      rw [sk_Zs_t] at e
      rcases sk_tk hE hV hO hx (k + 1) j (by omega) hj with ⟨q, q2⟩ | ⟨i, hi, q⟩
      · rw [e, owo] at q
        have : j = d := by omega
        rw [this] at q2
        exact q2 0 (by omega) ede
      · rw [e, owo] at q; omega
    · rw [sk_un ex] at hk
      rw [sk_Zs_n ex] at e
      rcases sk_tk hE hV hO hx k j hk hj with ⟨q, q2⟩ | ⟨i, hi, q⟩
      · rw [e, owo] at q; omega
      · rw [e, owo] at q; omega
  have oz : ∀ x k, x < nt → k < sk_u ct t c x → ¬ a_robDest (sk_s (sk_hn hd t) x k) < 0 →
      sk_u (sk_u ow pn (t * 8 + d)) po (80 + ft) (a_robNew (sk_s (sk_hn hd t) x k)).toNatClampNeg = 32 + sk_s (sk_hn hd t) x k := by
    intro x k hx hk hq
    have a := sk_cu hc x
    have gx := hG.1 x hx
    by_cases e : x = t
    · subst e
      rw [sk_us] at hk
      rw [sk_hn_t g.2.1 (by omega)] at hq ⊢
      have q := hO.2.1 x (k + 1) hx (by omega) hq
      have ns : sk_s hd x (k + 1) ≠ sk_s hd x 0 := sk_ne hG ht (by omega) hx (by omega) (by omega)
      rw [sk_un (by intro z; rw [z, owo] at q; omega), sk_un (by intro z; rw [z, own] at q; omega)]
      exact q
    · rw [sk_hn_n e] at hq ⊢
      have q := hO.2.1 x k hx (by omega) hq
      have ns : sk_s hd x k ≠ sk_s hd t 0 := sk_ne hG ht (by omega) hx (by omega) (by omega)
      rw [sk_un (by intro z; rw [z, owo] at q; omega), sk_un (by intro z; rw [z, own] at q; omega)]
      exact q
  refine ⟨po56, by omega, sk_cmRG ht hc hG, sk_cmEN ht hc hG hE, fun x hx => ⟨fun j hj => ?_, fun a ha => ?_⟩, ?_, ⟨?_, ?_⟩, ⟨?_, oz, ?_⟩, ?_⟩
  · have q := (hC x hx).1 j hj
    by_cases e : x = t
    · subst e
      rw [sk_Zs_t, sk_us, sk_Zs_t]
      refine ⟨?_, by rw [← hc]; exact q.2⟩
      by_cases ej : j = d
      · rw [ej, pk_us, epn]
      · rw [pk_un (by omega), eo j ej]; exact q.1
    · rw [sk_Zs_n e, sk_un e, sk_Zs_n e, pk_un (by omega)]; exact q
  · have q := (hC x hx).2 a ha
    by_cases e : x = t
    · subst e
      rw [sk_Zs_t, em]; exact q
    · rw [sk_Zs_n e]; exact q
  · intro x k j hx hk hj
    have q := sk_cmVL (t := t) (c := c) hc hV x k j hx hk hj
    rw [pk_un (pne x k j hx hk hj)]
    exact q
  · intro x j hx hj
    apply sk_up1
    by_cases e : x = t
    · subst e
      rw [sk_Zs_t]
      by_cases ej : j = d
      · have q := hR.2 x 0 hx (by omega) hst hpos
        rw [enw, nI_clamp (by omega), epn] at q
        rw [ej]; exact q
      · show a_ready ((Z x 1).1 j) ≠ 0
        rw [eo j ej]; exact hR.1 x j hx hj
    · rw [sk_Zs_n e]; exact hR.1 x j hx hj
  · intro x k hx hk h1 h2
    have a := sk_cu hc x
    have gx := hG.1 x hx
    apply sk_up1
    by_cases e : x = t
    · subst e
      rw [sk_us] at hk
      rw [sk_hn_t g.2.1 (by omega)] at h1 h2 ⊢; exact hR.2 x (k + 1) hx (by omega) h1 h2
    · rw [sk_hn_n e] at h1 h2 ⊢; exact hR.2 x k hx (by omega) h1 h2
  · intro x j hx hj
    rw [sk_un (pne x 0 j hx (by omega) hj)]
    by_cases e : x = t
    · subst e
      rw [sk_Zs_t]
      by_cases ej : j = d
      · show sk_u ow pn (x * 8 + d) ((Z x 1).1 j) = _
        rw [ej, ← epn, sk_us]
      · show sk_u ow pn (x * 8 + d) ((Z x 1).1 j) = _
        rw [eo j ej, sk_un (by intro z; have q := hO.1 x j hx hj; rw [z, own] at q; omega)]
        exact hO.1 x j hx hj
    · rw [sk_Zs_n e, sk_un (by intro z; have q := hO.1 x j hx hj; rw [z, own] at q; omega)]
      exact hO.1 x j hx hj
  · intro i hi
    by_cases ei : i = ft
    · exact ⟨po, po56, by rw [ei, pk_us], by rw [sk_us, ei]⟩
    · obtain ⟨r, r1, r2, r3⟩ := hO.2.2 i (by omega)
      refine ⟨r, r1, by rw [pk_un ei]; exact r2, ?_⟩
      have sl := sk_sl hG ht (show 0 ≤ 12 by omega)
      rw [sk_un (by intro e; rw [e, owo] at r3; omega), sk_un (by intro e; rw [e, own] at r3; omega)]
      exact r3
  · refine ⟨rfl, ?_, n2⟩
    show ft + 1 + sk_4 (fun x => sk_c (fun k => a_robDest (sk_s (sk_hn hd t) x k)) (sk_u ct t c x)) = ex
    omega
end
end
section
/-! one step of a thread, by an entry that is done -/
theorem sk_sp0 {o w i : Int32} {R : Nat → Int32} (h : sk_sp o w i R = 0) (ho : o = 10 ∨ o = 11) : ¬ sk_out (R (sk_ra w) + i) := by
  intro hout
  have h5 : ¬ (o = 5 ∧ R (sk_rb w) = 0) := by
    intro ⟨a, _⟩
    subst a
    revert ho; decide
  unfold sk_sp sk_stop at h
  rw [if_neg h5, if_pos ⟨ho, hout⟩] at h
  exact absurd h (by decide)
theorem sk_ys_r {t n p : Nat} {op rg im R M : Nat → Int32} {st rc dg : Int32} (hp : p < n) (hn : n ≤ 24) (ho : op (t * 24 + p) ≠ 0) :
    sk_ys t n op rg im (R, M, nI p, st, rc, dg) = sk_yo (op (t * 24 + p)) (rg (t * 24 + p)) (im (t * 24 + p)) (R, M, nI p, st, rc, dg) := by
  unfold sk_ys
  have a : ¬ (nI p < 0 ∨ nI n ≤ nI p) := by
    intro z
    rcases z with z | z
    · exact nI_pos (by omega) z
    · exact nI_ge hp (by omega) z
  dsimp only
  rw [if_neg a, nI_clamp (by omega), if_neg ho]
theorem sk_ys_h {t n p : Nat} {op rg im R M : Nat → Int32} {st rc dg : Int32} (hp : p < n) (hn : n ≤ 24) (ho : op (t * 24 + p) = 0) :
    sk_ys t n op rg im (R, M, nI p, st, rc, dg) = (R, M, nI p, 1, rc, dg) := by
  unfold sk_ys
  have a : ¬ (nI p < 0 ∨ nI n ≤ nI p) := by
    intro z
    rcases z with z | z
    · exact nI_pos (by omega) z
    · exact nI_ge hp (by omega) z
  dsimp only
  rw [if_neg a, nI_clamp (by omega), if_pos ho]
theorem sk_ys_p {t n : Nat} {op rg im R M : Nat → Int32} {pc st rc dg : Int32} (h : pc < 0 ∨ nI n ≤ pc) :
    sk_ys t n op rg im (R, M, pc, st, rc, dg) = (R, M, pc, 4, rc, dg) := if_pos h
theorem sk_yo_ok {o w i pc : Int32} {z z' : sk_V} {sp va ad nx st rc dg v : Int32} (h : sk_eo o w i pc z sp va ad nx) (h0 : sp = 0)
    (e1 : z'.2.1 = sk_R o w i pc z.2.1 z.2.2) (e2 : z'.2.2 = sk_M o w i z.2.1 z.2.2)
    (hv : v = if sk_D o then va else if o = 11 then 5 * ad + va else nx) :
    sk_yo o w i (z.2.1, z.2.2, pc, st, rc, dg) = (z'.2.1, z'.2.2, nx, st, rc + 1, dg * 31 + 7 * pc + v) := by
  obtain ⟨a, b, c, d⟩ := h
  have s0 : sk_sp o w i z.2.1 = 0 := by rw [← a]; exact h0
  have ev : sk_dv o w i pc z.2.1 z.2.2 = v := by
    unfold sk_dv
    rw [hv]
    by_cases hD : sk_D o
    · rw [if_pos hD, if_pos hD, c hD]
    · rw [if_neg hD, if_neg hD]
      by_cases h11 : o = 11
      · rw [if_pos h11, if_pos h11, (d h11).1, (d h11).2 (sk_sp0 s0 (Or.inr h11))]
      · rw [if_neg h11, if_neg h11, b]
  unfold sk_yo
  dsimp only
  rw [if_pos s0, ev, ← e1, ← e2, ← b]
theorem sk_yo_st {o w i pc : Int32} {z : sk_V} {sp va ad nx st rc dg : Int32} (h : sk_eo o w i pc z sp va ad nx) (h0 : ¬ sp = 0) :
    sk_yo o w i (z.2.1, z.2.2, pc, st, rc, dg) = (z.2.1, z.2.2, pc, sp, rc, dg) := by
  have s0 : ¬ sk_sp o w i z.2.1 = 0 := by rw [← h.1]; exact h0
  unfold sk_yo
  dsimp only
  rw [if_neg s0, ← h.1]
theorem sk_M_n {o w i : Int32} {R M : Nat → Int32} (h : o ≠ 11) : sk_M o w i R M = M := if_neg (fun z => h z.1)
theorem sk_D11 {o : Int32} (h : sk_D o) : o ≠ 11 := by
  intro e; subst e; revert h; decide
end
section
/-! an entry is fetched -/
def sk_Za (Z : Nat → Nat → sk_V) (t c : Nat) (z : sk_V) : Nat → Nat → sk_V := fun x k => if x = t ∧ k = c + 1 then z else Z x k
theorem sk_Za_e {Z : Nat → Nat → sk_V} {t c : Nat} {z : sk_V} : sk_Za Z t c z t (c + 1) = z := if_pos ⟨rfl, rfl⟩
theorem sk_Za_n {Z : Nat → Nat → sk_V} {t c x k : Nat} {z : sk_V} (h : ¬ (x = t ∧ k = c + 1)) : sk_Za Z t c z x k = Z x k := if_neg h
section
variable {nt : Nat} {hd ct sn : Nat → Nat} {Z : Nat → Nat → sk_V} {cn : Nat → Int32} {ow : Nat → Nat} {ft ex : Nat} {f_freeTop : Int32} {a_op a_regsOf a_immOf a_memory a_value a_ready a_free a_archMap a_map a_head a_count a_robPc a_robState a_robTimer a_robStop a_robDest a_robNew a_robOld a_robA a_robB a_robVal a_robAddr a_robNext a_robLive a_fetchStop : Nat → Int32}
theorem sk_faRG {t c : Nat} (ht : t < nt) (hc : ct t = c) (h12 : c < 12) (h : (sk_RG nt hd ct a_head a_count a_robLive)) :
    (sk_RG nt hd (sk_u ct t (c + 1)) a_head (upd a_count t (nI (c + 1))) (upd a_robLive (sk_s hd t c) 1)) := by
  have g := h.1 t ht
  refine ⟨fun x hx => ?_, fun x k hx hk => ?_, fun s hs hl => ?_, fun x hx => ?_, h.2.2.2.2⟩
  · have gx := h.1 x hx
    by_cases e : x = t
    · rw [e, pk_us, sk_us]; exact ⟨g.1, g.2.1, rfl, by omega⟩
    · rw [pk_un e, sk_un e]; exact gx
  · have gx := h.1 x hx
    by_cases e : x = t ∧ k = c
    · obtain ⟨rfl, rfl⟩ := e
      rw [pk_us]; decide
    · apply sk_up1
      apply h.2.1 x k hx
      by_cases e2 : x = t
      · rw [e2, sk_us] at hk; rw [e2]; omega
      · rw [sk_un e2] at hk; exact hk
  · by_cases e : s = sk_s hd t c
    · exact ⟨t, c, ht, by rw [sk_us]; omega, e.symm⟩
    · rw [pk_un e] at hl
      obtain ⟨x, k, hx, hk, e2⟩ := h.2.2.1 s hs hl
      refine ⟨x, k, hx, ?_, e2⟩
      by_cases ex : x = t
      · rw [ex, sk_us]; rw [ex] at hk; omega
      · rw [sk_un ex]; exact hk
  · have : x ≠ t := by omega
    rw [sk_un this]; exact h.2.2.2.1 x hx
variable {fs' pc' st' tm' sp' de' nw' ol' ra' rb' va' ad' nx' : Nat → Int32}
theorem sk_faEN {t c : Nat} {z : sk_V} (ht : t < nt) (hc : ct t = c) (h12 : c < 12) (hfs : a_fetchStop t = 0) (hfs' : ∀ x, x ≠ t → fs' x = a_fetchStop x)
    (hp : ∀ q, q ≠ sk_s hd t c → pc' q = a_robPc q ∧ st' q = a_robState q ∧ tm' q = a_robTimer q ∧ sp' q = a_robStop q ∧ de' q = a_robDest q ∧ nw' q = a_robNew q ∧ ol' q = a_robOld q ∧ ra' q = a_robA q ∧ rb' q = a_robB q ∧ va' q = a_robVal q ∧ ad' q = a_robAddr q ∧ nx' q = a_robNext q)
    (hnew : (∃ p, p < sn t ∧ sk_er t p a_op a_regsOf a_immOf (Z t c) z (pc' (sk_s hd t c)) (st' (sk_s hd t c)) (tm' (sk_s hd t c)) (sp' (sk_s hd t c)) (de' (sk_s hd t c)) (nw' (sk_s hd t c)) (ol' (sk_s hd t c)) (ra' (sk_s hd t c)) (rb' (sk_s hd t c)) (va' (sk_s hd t c)) (ad' (sk_s hd t c)) (nx' (sk_s hd t c))) ∨
      (fs' t ≠ 0 ∧ sk_eb t (sn t) a_op (Z t c) z (pc' (sk_s hd t c)) (st' (sk_s hd t c)) (sp' (sk_s hd t c)) (de' (sk_s hd t c))))
    (hG : (sk_RG nt hd ct a_head a_count a_robLive)) (h : (sk_EN nt sn a_op a_regsOf a_immOf hd ct Z a_fetchStop a_robPc a_robState a_robTimer a_robStop a_robDest a_robNew a_robOld a_robA a_robB a_robVal a_robAddr a_robNext)) :
    (sk_EN nt sn a_op a_regsOf a_immOf hd (sk_u ct t (c + 1)) (sk_Za Z t c z) fs' pc' st' tm' sp' de' nw' ol' ra' rb' va' ad' nx') := by
  refine ⟨h.1, fun x k hx hk => ?_⟩
  by_cases e : x = t ∧ k = c
  · obtain ⟨rfl, rfl⟩ := e
    rw [sk_Za_e, sk_Za_n (by omega), sk_us]
    rcases hnew with a | ⟨a, b⟩
    · exact Or.inl a
    · exact Or.inr ⟨⟨rfl, a⟩, b⟩
  · have hk' : k < ct x := by
      by_cases e2 : x = t
      · rw [e2, sk_us] at hk; rw [e2]; omega
      · rw [sk_un e2] at hk; exact hk
    have gx := hG.1 x hx
    obtain ⟨a1, a2, a3, a4, a5, a6, a7, a8, a9, a10, a11, a12⟩ := hp (sk_s hd x k) (sk_ne hG ht h12 hx (by omega) e)
    have nk : ¬ (x = t ∧ k = c + 1) := by
      intro ⟨z1, z2⟩; rw [z1] at hk'; omega
    rw [sk_Za_n nk, sk_Za_n (by omega), a1, a2, a3, a4, a5, a6, a7, a8, a9, a10, a11, a12]
    rcases h.2 x k hx hk' with b | ⟨⟨b1, b2⟩, b3⟩
    · exact Or.inl b
    · have ex : x ≠ t := by intro ex; rw [ex] at b2; exact b2 hfs
      refine Or.inr ⟨⟨?_, ?_⟩, b3⟩
      · rw [sk_un ex]; exact b1
      · rw [hfs' x ex]; exact b2
theorem sk_faC {t c : Nat} (hc : ct t = c) {x k : Nat} (hk : k < sk_u ct t (c + 1) x) (e : ¬ (x = t ∧ k = c)) : k < ct x := by
  by_cases e2 : x = t
  · rw [e2, sk_us] at hk; rw [e2]; omega
  · rw [sk_un e2] at hk; exact hk
theorem sk_faC2 {t c : Nat} (hc : ct t = c) {x k : Nat} (hk : k ≤ sk_u ct t (c + 1) x) (e : ¬ (x = t ∧ k = c + 1)) : k ≤ ct x := by
  by_cases e2 : x = t
  · rw [e2, sk_us] at hk; rw [e2]; omega
  · rw [sk_un e2] at hk; exact hk
theorem sk_fac {t c : Nat} (ht : t < nt) (hc : ct t = c) (h12 : c < 12) (hp : ∀ q, q ≠ sk_s hd t c → de' q = a_robDest q) (hG : (sk_RG nt hd ct a_head a_count a_robLive)) :
    sk_4 (fun x => sk_c (fun k => de' (sk_s hd x k)) (sk_u ct t (c + 1) x)) = sk_4 (fun t => sk_c (fun k => a_robDest (sk_s hd t k)) (ct t)) + (if de' (sk_s hd t c) < 0 then 0 else 1) := by
  have b := sk_4u (t := t) (f := fun t => sk_c (fun k => a_robDest (sk_s hd t k)) (ct t)) (g := fun x => if x < nt then sk_c (fun k => de' (sk_s hd x k)) (sk_u ct t (c + 1) x) else 0) (by have := hG.2.2.2.2; omega)
    (fun x hx => by
      show (if x < nt then sk_c (fun k => de' (sk_s hd x k)) (sk_u ct t (c + 1) x) else 0) = _
      rw [sk_un hx]
      by_cases hxn : x < nt
      · rw [if_pos hxn]
        have gx := hG.1 x hxn
        exact sk_c_eq (fun k hk => hp _ (sk_ne hG ht h12 hxn (by omega) (by omega)))
      · rw [if_neg hxn, hG.2.2.2.1 x (by omega)]; rfl)
  have b2 : sk_4 (fun x => sk_c (fun k => de' (sk_s hd x k)) (sk_u ct t (c + 1) x)) = sk_4 (fun x => if x < nt then sk_c (fun k => de' (sk_s hd x k)) (sk_u ct t (c + 1) x) else 0) :=
    sk_4e (fun x _ => by
      show _ = (if x < nt then sk_c (fun k => de' (sk_s hd x k)) (sk_u ct t (c + 1) x) else 0)
      by_cases hxn : x < nt
      · rw [if_pos hxn]
      · rw [if_neg hxn, sk_un (by omega), hG.2.2.2.1 x (by omega)]; rfl)
  have d : (if t < nt then sk_c (fun k => de' (sk_s hd t k)) (sk_u ct t (c + 1) t) else 0) = sk_c (fun k => a_robDest (sk_s hd t k)) (ct t) + (if de' (sk_s hd t c) < 0 then 0 else 1) := by
    rw [if_pos ht, hc, sk_us]
    show sk_c _ c + (if de' (sk_s hd t c) < 0 then 0 else 1) = _
    rw [sk_c_eq (fun k hk => hp _ (sk_ne hG ht h12 ht (by omega) (by omega)))]
  omega
/-- no destination -/
theorem sk_faA {t c : Nat} {z : sk_V} (ht : t < nt) (hc : ct t = c) (h12 : c < 12) (hfs : a_fetchStop t = 0) (hfs' : ∀ x, x ≠ t → fs' x = a_fetchStop x)
    (hp : ∀ q, q ≠ sk_s hd t c → pc' q = a_robPc q ∧ st' q = a_robState q ∧ tm' q = a_robTimer q ∧ sp' q = a_robStop q ∧ de' q = a_robDest q ∧ nw' q = a_robNew q ∧ ol' q = a_robOld q ∧ ra' q = a_robA q ∧ rb' q = a_robB q ∧ va' q = a_robVal q ∧ ad' q = a_robAddr q ∧ nx' q = a_robNext q)
    (hnew : (∃ p, p < sn t ∧ sk_er t p a_op a_regsOf a_immOf (Z t c) z (pc' (sk_s hd t c)) (st' (sk_s hd t c)) (tm' (sk_s hd t c)) (sp' (sk_s hd t c)) (de' (sk_s hd t c)) (nw' (sk_s hd t c)) (ol' (sk_s hd t c)) (ra' (sk_s hd t c)) (rb' (sk_s hd t c)) (va' (sk_s hd t c)) (ad' (sk_s hd t c)) (nx' (sk_s hd t c))) ∨
      (fs' t ≠ 0 ∧ sk_eb t (sn t) a_op (Z t c) z (pc' (sk_s hd t c)) (st' (sk_s hd t c)) (sp' (sk_s hd t c)) (de' (sk_s hd t c))))
    (hde : de' (sk_s hd t c) < 0) (hz1 : z.1 = (Z t c).1) (hz2 : z.2.1 = (Z t c).2.1) (h : (sk_IB nt hd ct sn Z cn ow ft ex f_freeTop a_op a_regsOf a_immOf a_memory a_value a_ready a_free a_archMap a_map a_head a_count a_robPc a_robState a_robTimer a_robStop a_robDest a_robNew a_robOld a_robA a_robB a_robVal a_robAddr a_robNext a_robLive a_fetchStop)) :
    (sk_IB nt hd (sk_u ct t (c + 1)) sn (sk_Za Z t c z) cn ow ft ex f_freeTop a_op a_regsOf a_immOf a_memory a_value a_ready a_free a_archMap a_map a_head (upd a_count t (nI (c + 1))) pc' st' tm' sp' de' nw' ol' ra' rb' va' ad' nx' (upd a_robLive (sk_s hd t c) 1) fs') := by
  obtain ⟨hG, hE, hC, hV, hR, hO, hN⟩ := h
  have g := hG.1 t ht
  have cc := sk_fac (a_robDest := a_robDest) (de' := de') ht hc h12 (fun q hq => (hp q hq).2.2.2.2.1) hG
  rw [if_pos hde] at cc
  refine ⟨sk_faRG ht hc h12 hG, sk_faEN ht hc h12 hfs hfs' hp hnew hG hE, fun x hx => ⟨fun j hj => ?_, fun a ha => ?_⟩, ?_, ⟨?_, ?_⟩, ⟨?_, ?_, hO.2.2⟩, ?_⟩
  · have q := (hC x hx).1 j hj
    rw [sk_Za_n (by omega)]
    refine ⟨q.1, ?_⟩
    by_cases e : x = t
    · subst e; rw [sk_us, sk_Za_e, hz1, ← hc]; exact q.2
    · rw [sk_un e, sk_Za_n (by omega)]; exact q.2
  · rw [sk_Za_n (by omega)]; exact (hC x hx).2 a ha
  · intro x k j hx hk hj
    by_cases e : x = t ∧ k = c + 1
    · obtain ⟨rfl, rfl⟩ := e
      rw [sk_Za_e, hz1, hz2]
      exact hV x c j hx (by omega) hj
    · rw [sk_Za_n e]
      exact hV x k j hx (sk_faC2 hc hk e) hj
  · intro x j hx hj
    rw [sk_Za_n (by omega)]; exact hR.1 x j hx hj
  · intro x k hx hk h1 h2
    by_cases e : x = t ∧ k = c
    · obtain ⟨rfl, rfl⟩ := e
      exact absurd hde h2
    · have gx := hG.1 x hx
      have hk' := sk_faC hc hk e
      obtain ⟨a1, a2, a3, a4, a5, a6, a7, a8, a9, a10, a11, a12⟩ := hp (sk_s hd x k) (sk_ne hG ht h12 hx (by omega) e)
      rw [a2] at h1; rw [a5] at h2; rw [a6]
      exact hR.2 x k hx hk' h1 h2
  · intro x j hx hj
    rw [sk_Za_n (by omega)]; exact hO.1 x j hx hj
  · intro x k hx hk h2
    by_cases e : x = t ∧ k = c
    · obtain ⟨rfl, rfl⟩ := e
      exact absurd hde h2
    · have gx := hG.1 x hx
      have hk' := sk_faC hc hk e
      obtain ⟨a1, a2, a3, a4, a5, a6, a7, a8, a9, a10, a11, a12⟩ := hp (sk_s hd x k) (sk_ne hG ht h12 hx (by omega) e)
      rw [a5] at h2; rw [a6]
      exact hO.2.1 x k hx hk' h2
  · refine ⟨hN.1, ?_, hN.2.2⟩
    have n1 := hN.2.1
    show ft + sk_4 (fun x => sk_c (fun k => de' (sk_s hd x k)) (sk_u ct t (c + 1) x)) = ex
    omega
/-- with a destination: f is the free register on top -/
theorem sk_faB {t c d f F : Nat} {z : sk_V} (ht : t < nt) (hc : ct t = c) (h12 : c < 12) (hfs : a_fetchStop t = 0) (hfs' : ∀ x, x ≠ t → fs' x = a_fetchStop x)
    (hp : ∀ q, q ≠ sk_s hd t c → pc' q = a_robPc q ∧ st' q = a_robState q ∧ tm' q = a_robTimer q ∧ sp' q = a_robStop q ∧ de' q = a_robDest q ∧ nw' q = a_robNew q ∧ ol' q = a_robOld q ∧ ra' q = a_robA q ∧ rb' q = a_robB q ∧ va' q = a_robVal q ∧ ad' q = a_robAddr q ∧ nx' q = a_robNext q)
    (hnew : (∃ p, p < sn t ∧ sk_er t p a_op a_regsOf a_immOf (Z t c) z (pc' (sk_s hd t c)) (st' (sk_s hd t c)) (tm' (sk_s hd t c)) (sp' (sk_s hd t c)) (de' (sk_s hd t c)) (nw' (sk_s hd t c)) (ol' (sk_s hd t c)) (ra' (sk_s hd t c)) (rb' (sk_s hd t c)) (va' (sk_s hd t c)) (ad' (sk_s hd t c)) (nx' (sk_s hd t c))))
    (hd8 : d < 8) (hde : de' (sk_s hd t c) = nI d) (hnw : nw' (sk_s hd t c) = nI f) (hst : st' (sk_s hd t c) = 0) (hz0 : z.1 d = f) (hz1 : ∀ j, j ≠ d → z.1 j = (Z t c).1 j) (hz2 : ∀ j, j ≠ d → z.2.1 j = (Z t c).2.1 j)
    (hF : ft = F + 1) (hfr : a_free F = nI f) (f56 : f < 56) (h : (sk_IB nt hd ct sn Z cn ow ft ex f_freeTop a_op a_regsOf a_immOf a_memory a_value a_ready a_free a_archMap a_map a_head a_count a_robPc a_robState a_robTimer a_robStop a_robDest a_robNew a_robOld a_robA a_robB a_robVal a_robAddr a_robNext a_robLive a_fetchStop)) :
    (sk_IB nt hd (sk_u ct t (c + 1)) sn (sk_Za Z t c z) (upd cn f (z.2.1 d)) (sk_u ow f (32 + sk_s hd t c)) F ex (nI F) a_op a_regsOf a_immOf a_memory a_value (upd a_ready f 0) a_free a_archMap (upd a_map (t * 8 + d) (nI f)) a_head (upd a_count t (nI (c + 1))) pc' st' tm' sp' de' nw' ol' ra' rb' va' ad' nx' (upd a_robLive (sk_s hd t c) 1) fs') := by
  obtain ⟨hG, hE, hC, hV, hR, hO, hN⟩ := h
  have g := hG.1 t ht
  have owf : ow f = 80 + F := by
    obtain ⟨r, r1, r2, r3⟩ := hO.2.2 F (by omega)
    rw [hfr] at r2
    rw [(nI_eq (by omega) (by omega)).mp r2]; exact r3
  have hpos : ¬ de' (sk_s hd t c) < 0 := by rw [hde]; exact nI_pos (by omega)
  have cc := sk_fac (a_robDest := a_robDest) (de' := de') ht hc h12 (fun q hq => (hp q hq).2.2.2.2.1) hG
  rw [if_neg hpos] at cc
  have pne : ∀ x k j, x < nt → k ≤ ct x → j < 8 → (Z x k).1 j ≠ f := by
    intro x k j hx hk hj e
    have q := sk_tk80 hG hE hV hO hx hk hj
    rw [e, owf] at q; omega
  have nwe : ∀ x k, x < nt → k < ct x → ¬ a_robDest (sk_s hd x k) < 0 → (a_robNew (sk_s hd x k)).toNatClampNeg ≠ f := by
    intro x k hx hk hq e
    have gx := hG.1 x hx
    have q := hO.2.1 x k hx hk hq
    have sl := sk_sl hG hx (show k ≤ 12 by omega)
    rw [e, owf] at q; omega
  refine ⟨sk_faRG ht hc h12 hG, sk_faEN ht hc h12 hfs hfs' hp (Or.inl hnew) hG hE, fun x hx => ⟨fun j hj => ?_, fun a ha => ?_⟩, ?_, ⟨?_, ?_⟩, ⟨?_, ?_, ?_⟩, ?_⟩
  · have q := (hC x hx).1 j hj
    rw [sk_Za_n (by omega)]
    refine ⟨q.1, ?_⟩
    by_cases e : x = t
    · subst e
      rw [sk_us, sk_Za_e]
      by_cases ej : j = d
      · rw [ej, pk_us, hz0]
      · rw [pk_un (by omega), hz1 j ej, ← hc]; exact q.2
    · rw [sk_un e, sk_Za_n (by omega), pk_un (by omega)]; exact q.2
  · rw [sk_Za_n (by omega)]; exact (hC x hx).2 a ha
  · intro x k j hx hk hj
    by_cases e : x = t ∧ k = c + 1
    · obtain ⟨rfl, rfl⟩ := e
      rw [sk_Za_e]
      by_cases ej : j = d
      · rw [ej, hz0, pk_us, pk_us]
        exact ⟨f56, rfl, fun z => absurd rfl z⟩
      · rw [hz1 j ej, hz2 j ej]
        have n := pne x c j hx (by omega) hj
        rw [pk_un n, pk_un n]
        exact hV x c j hx (by omega) hj
    · rw [sk_Za_n e]
      have hk' := sk_faC2 hc hk e
      have n := pne x k j hx hk' hj
      rw [pk_un n, pk_un n]
      exact hV x k j hx hk' hj
  · intro x j hx hj
    rw [sk_Za_n (by omega), pk_un (pne x 0 j hx (by omega) hj)]; exact hR.1 x j hx hj
  · intro x k hx hk h1 h2
    by_cases e : x = t ∧ k = c
    · obtain ⟨rfl, rfl⟩ := e
      rw [hst] at h1
      exact absurd h1 (by decide)
    · have gx := hG.1 x hx
      have hk' := sk_faC hc hk e
      obtain ⟨a1, a2, a3, a4, a5, a6, a7, a8, a9, a10, a11, a12⟩ := hp (sk_s hd x k) (sk_ne hG ht h12 hx (by omega) e)
      rw [a2] at h1; rw [a5] at h2; rw [a6, pk_un (nwe x k hx hk' h2)]
      exact hR.2 x k hx hk' h1 h2
  · intro x j hx hj
    rw [sk_Za_n (by omega), sk_un (pne x 0 j hx (by omega) hj)]; exact hO.1 x j hx hj
  · intro x k hx hk h2
    by_cases e : x = t ∧ k = c
    · obtain ⟨rfl, rfl⟩ := e
      rw [hnw, nI_clamp (by omega), sk_us]
    · have gx := hG.1 x hx
      have hk' := sk_faC hc hk e
      obtain ⟨a1, a2, a3, a4, a5, a6, a7, a8, a9, a10, a11, a12⟩ := hp (sk_s hd x k) (sk_ne hG ht h12 hx (by omega) e)
      rw [a5] at h2; rw [a6, sk_un (nwe x k hx hk' h2)]
      exact hO.2.1 x k hx hk' h2
  · intro i hi
    obtain ⟨r, r1, r2, r3⟩ := hO.2.2 i (by omega)
    refine ⟨r, r1, r2, ?_⟩
    rw [sk_un (by intro e; rw [e, owf] at r3; omega)]
    exact r3
  · refine ⟨rfl, ?_, hN.2.2⟩
    have n1 := hN.2.1
    show F + sk_4 (fun x => sk_c (fun k => de' (sk_s hd x k)) (sk_u ct t (c + 1) x)) = ex
    omega
end
end
section
/-! an entry moves on: issued, timed, done -/
section
variable {nt : Nat} {hd ct sn : Nat → Nat} {Z : Nat → Nat → sk_V} {cn : Nat → Int32} {ow : Nat → Nat} {ft ex : Nat} {f_freeTop : Int32} {a_op a_regsOf a_immOf a_memory a_value a_ready a_free a_archMap a_map a_head a_count a_robPc a_robState a_robTimer a_robStop a_robDest a_robNew a_robOld a_robA a_robB a_robVal a_robAddr a_robNext a_robLive a_fetchStop : Nat → Int32}
variable {st' tm' sp' va' ad' nx' : Nat → Int32}
theorem sk_mdEN {t k : Nat} (ht : t < nt) (hk : k < ct t)
    (hp : ∀ q, q ≠ sk_s hd t k → st' q = a_robState q ∧ tm' q = a_robTimer q ∧ sp' q = a_robStop q ∧ va' q = a_robVal q ∧ ad' q = a_robAddr q ∧ nx' q = a_robNext q)
    (hnew : ∃ p, p < sn t ∧ sk_er t p a_op a_regsOf a_immOf (Z t k) (Z t (k + 1)) (a_robPc (sk_s hd t k)) (st' (sk_s hd t k)) (tm' (sk_s hd t k)) (sp' (sk_s hd t k)) (a_robDest (sk_s hd t k)) (a_robNew (sk_s hd t k)) (a_robOld (sk_s hd t k)) (a_robA (sk_s hd t k)) (a_robB (sk_s hd t k)) (va' (sk_s hd t k)) (ad' (sk_s hd t k)) (nx' (sk_s hd t k)))
    (hG : (sk_RG nt hd ct a_head a_count a_robLive)) (h : (sk_EN nt sn a_op a_regsOf a_immOf hd ct Z a_fetchStop a_robPc a_robState a_robTimer a_robStop a_robDest a_robNew a_robOld a_robA a_robB a_robVal a_robAddr a_robNext)) : (sk_EN nt sn a_op a_regsOf a_immOf hd ct Z a_fetchStop a_robPc st' tm' sp' a_robDest a_robNew a_robOld a_robA a_robB va' ad' nx') := by
  refine ⟨h.1, fun x j hx hj => ?_⟩
  have g := hG.1 t ht
  have gx := hG.1 x hx
  by_cases e : x = t ∧ j = k
  · obtain ⟨e1, e2⟩ := e
    rw [e1, e2]; exact Or.inl hnew
  · obtain ⟨a1, a2, a3, a4, a5, a6⟩ := hp (sk_s hd x j) (sk_ne hG ht (by omega) hx (by omega) e)
    rw [a1, a2, a3, a4, a5, a6]
    exact h.2 x j hx hj
/-- an entry isn't done yet and its outcome is right: nothing else changes -/
theorem sk_mdA {t k : Nat} (ht : t < nt) (hk : k < ct t)
    (hp : ∀ q, q ≠ sk_s hd t k → st' q = a_robState q ∧ tm' q = a_robTimer q ∧ sp' q = a_robStop q ∧ va' q = a_robVal q ∧ ad' q = a_robAddr q ∧ nx' q = a_robNext q)
    (hnew : ∃ p, p < sn t ∧ sk_er t p a_op a_regsOf a_immOf (Z t k) (Z t (k + 1)) (a_robPc (sk_s hd t k)) (st' (sk_s hd t k)) (tm' (sk_s hd t k)) (sp' (sk_s hd t k)) (a_robDest (sk_s hd t k)) (a_robNew (sk_s hd t k)) (a_robOld (sk_s hd t k)) (a_robA (sk_s hd t k)) (a_robB (sk_s hd t k)) (va' (sk_s hd t k)) (ad' (sk_s hd t k)) (nx' (sk_s hd t k)))
    (h2 : st' (sk_s hd t k) = 2 → a_robDest (sk_s hd t k) < 0) (h : (sk_IB nt hd ct sn Z cn ow ft ex f_freeTop a_op a_regsOf a_immOf a_memory a_value a_ready a_free a_archMap a_map a_head a_count a_robPc a_robState a_robTimer a_robStop a_robDest a_robNew a_robOld a_robA a_robB a_robVal a_robAddr a_robNext a_robLive a_fetchStop)) :
    (sk_IB nt hd ct sn Z cn ow ft ex f_freeTop a_op a_regsOf a_immOf a_memory a_value a_ready a_free a_archMap a_map a_head a_count a_robPc st' tm' sp' a_robDest a_robNew a_robOld a_robA a_robB va' ad' nx' a_robLive a_fetchStop) := by
  obtain ⟨hG, hE, hC, hV, hR, hO, hN⟩ := h
  refine ⟨hG, sk_mdEN ht hk hp hnew hG hE, hC, hV, ⟨hR.1, fun x j hx hj q1 q2 => ?_⟩, hO, hN⟩
  have g := hG.1 t ht
  have gx := hG.1 x hx
  by_cases e : x = t ∧ j = k
  · obtain ⟨e1, e2⟩ := e
    rw [e1, e2] at q1 q2
    exact absurd (h2 q1) q2
  · obtain ⟨a1, a2, a3, a4, a5, a6⟩ := hp (sk_s hd x j) (sk_ne hG ht (by omega) hx (by omega) e)
    rw [a1] at q1
    exact hR.2 x j hx hj q1 q2
/-- an entry with a destination is done: its value shows -/
theorem sk_mdB {t k p : Nat} (ht : t < nt) (hk : k < ct t)
    (hp : ∀ q, q ≠ sk_s hd t k → st' q = a_robState q ∧ tm' q = a_robTimer q ∧ sp' q = a_robStop q ∧ va' q = a_robVal q ∧ ad' q = a_robAddr q ∧ nx' q = a_robNext q)
    (hnew : ∃ p, p < sn t ∧ sk_er t p a_op a_regsOf a_immOf (Z t k) (Z t (k + 1)) (a_robPc (sk_s hd t k)) (st' (sk_s hd t k)) (tm' (sk_s hd t k)) (sp' (sk_s hd t k)) (a_robDest (sk_s hd t k)) (a_robNew (sk_s hd t k)) (a_robOld (sk_s hd t k)) (a_robA (sk_s hd t k)) (a_robB (sk_s hd t k)) (va' (sk_s hd t k)) (ad' (sk_s hd t k)) (nx' (sk_s hd t k)))
    (h2 : st' (sk_s hd t k) = 2) (hde : ¬ a_robDest (sk_s hd t k) < 0) (enw : a_robNew (sk_s hd t k) = nI p) (p56 : p < 56) (h : (sk_IB nt hd ct sn Z cn ow ft ex f_freeTop a_op a_regsOf a_immOf a_memory a_value a_ready a_free a_archMap a_map a_head a_count a_robPc a_robState a_robTimer a_robStop a_robDest a_robNew a_robOld a_robA a_robB a_robVal a_robAddr a_robNext a_robLive a_fetchStop)) :
    (sk_IB nt hd ct sn Z cn ow ft ex f_freeTop a_op a_regsOf a_immOf a_memory (upd a_value p (va' (sk_s hd t k))) (upd a_ready p 1) a_free a_archMap a_map a_head a_count a_robPc st' tm' sp' a_robDest a_robNew a_robOld a_robA a_robB va' ad' nx' a_robLive a_fetchStop) := by
  obtain ⟨hG, hE, hC, hV, hR, hO, hN⟩ := h
  have g := hG.1 t ht
  -- the content of p
  have hcn : cn p = va' (sk_s hd t k) := by
    obtain ⟨pc, hpc, e1, e2, ⟨e3, e4, e5, e6, e7, e8⟩, e9⟩ := hnew
    have hD : sk_D (a_op (t * 24 + pc)) := by
      by_cases hD : sk_D (a_op (t * 24 + pc))
      · exact hD
      · rw [(e6 hD).1] at hde; exact absurd sk_m1lt hde
    obtain ⟨f1, f2, f3, f4⟩ := e5 hD
    have q := hV t (k + 1) (sk_d (a_regsOf (t * 24 + pc))) ht (by omega) (sk_d8 _)
    have ep : p = (Z t (k + 1)).1 (sk_d (a_regsOf (t * 24 + pc))) := by
      rw [enw] at f3
      exact (nI_eq (by omega) (by omega)).mp f3
    rw [← ep] at q
    rw [q.2.1, e7]
    unfold sk_R
    rw [if_pos hD, pk_us]
    rcases e9 with ⟨z, _⟩ | ⟨_, z⟩
    · rw [h2] at z; exact absurd z (by decide)
    · exact (z.2.2.1 hD).symm
  refine ⟨hG, sk_mdEN ht hk hp hnew hG hE, hC, fun x j i hx hj hi => ?_, ⟨fun x j hx hj => sk_up1 (hR.1 x j hx hj), fun x j hx hj q1 q2 => ?_⟩, hO, hN⟩
  · have q := hV x j i hx hj hi
    by_cases e : (Z x j).1 i = p
    · rw [e] at q ⊢
      rw [pk_us, pk_us]
      exact ⟨q.1, q.2.1, fun _ => by rw [← hcn]; exact q.2.1⟩
    · rw [pk_un e, pk_un e]; exact q
  · have gx := hG.1 x hx
    by_cases e : x = t ∧ j = k
    · obtain ⟨e1, e2⟩ := e
      rw [e1, e2, enw, nI_clamp (by omega), pk_us]; decide
    · obtain ⟨a1, a2, a3, a4, a5, a6⟩ := hp (sk_s hd x j) (sk_ne hG ht (by omega) hx (by omega) e)
      rw [a1] at q1
      exact sk_up1 (hR.2 x j hx hj q1 q2)
end
end
section
/-! the issue queue -/
def sk_k (lv st q : Nat → Int32) : Nat → Nat
  | 0 => 0
  | n + 1 => sk_k lv st q n + (if lv (q n).toNatClampNeg = 0 then 0 else if st (q n).toNatClampNeg = 0 then 1 else 0)
def sk_cd (lv st : Nat → Int32) (x : Int32) : Prop := lv x.toNatClampNeg ≠ 0 ∧ st x.toNatClampNeg = 0
theorem sk_k_t {lv st q : Nat → Int32} {n : Nat} (h : sk_cd lv st (q n)) : sk_k lv st q (n + 1) = sk_k lv st q n + 1 := by
  show sk_k lv st q n + (if lv (q n).toNatClampNeg = 0 then 0 else if st (q n).toNatClampNeg = 0 then 1 else 0) = _
  rw [if_neg h.1, if_pos h.2]
theorem sk_k_f {lv st q : Nat → Int32} {n : Nat} (h : ¬ sk_cd lv st (q n)) : sk_k lv st q (n + 1) = sk_k lv st q n := by
  show sk_k lv st q n + (if lv (q n).toNatClampNeg = 0 then 0 else if st (q n).toNatClampNeg = 0 then 1 else 0) = _
  by_cases a : lv (q n).toNatClampNeg = 0
  · rw [if_pos a]; rfl
  · rw [if_neg a, if_neg (fun b => h ⟨a, b⟩)]; rfl
theorem sk_k_le {lv st q : Nat → Int32} : ∀ n, sk_k lv st q n ≤ n := by
  intro n
  induction n with
  | zero => exact Nat.le_refl 0
  | succ n ih =>
    by_cases h : sk_cd lv st (q n)
    · rw [sk_k_t h]; omega
    · rw [sk_k_f h]; omega
theorem sk_k_lt {lv st q : Nat → Int32} {j' : Nat} (h' : ¬ sk_cd lv st (q j')) : ∀ n, j' < n → sk_k lv st q n < n := by
  intro n
  induction n with
  | zero => intro h; omega
  | succ n ih =>
    intro hn
    have l := sk_k_le (lv := lv) (st := st) (q := q) n
    by_cases h : sk_cd lv st (q n)
    · rw [sk_k_t h]
      have : j' ≠ n := by intro e; rw [e] at h'; exact h' h
      have := ih (by omega)
      omega
    · rw [sk_k_f h]; omega
theorem sk_k_su {lv st q : Nat → Int32} : ∀ n i, i < sk_k lv st q n → ∃ j, j < n ∧ sk_cd lv st (q j) ∧ sk_k lv st q j = i := by
  intro n
  induction n with
  | zero => intro i h; exact absurd h (Nat.not_lt_zero i)
  | succ n ih =>
    intro i hi
    by_cases h : sk_cd lv st (q n)
    · rw [sk_k_t h] at hi
      by_cases e : i = sk_k lv st q n
      · exact ⟨n, by omega, h, e.symm⟩
      · obtain ⟨j, a, b⟩ := ih i (by omega)
        exact ⟨j, by omega, b⟩
    · rw [sk_k_f h] at hi
      obtain ⟨j, a, b⟩ := ih i hi
      exact ⟨j, by omega, b⟩
theorem sk_k_mo {lv st q : Nat → Int32} {j : Nat} (h' : sk_cd lv st (q j)) : ∀ n, j < n → sk_k lv st q j < sk_k lv st q n := by
  intro n
  induction n with
  | zero => intro h; omega
  | succ n ih =>
    intro hn
    by_cases e : j = n
    · subst e; rw [sk_k_t h']; omega
    · have a := ih (by omega)
      by_cases h : sk_cd lv st (q n)
      · rw [sk_k_t h]; omega
      · rw [sk_k_f h]; exact a
/-- what a purge does -/
def sk_PF (lv st q : Nat → Int32) (n : Nat) (q' : Nat → Int32) (n' : Nat) : Prop :=
  n' ≤ n ∧ (∀ i, i < n' → ∃ j, j < n ∧ q' i = q j ∧ sk_cd lv st (q j)) ∧
  (∀ j, j < n → sk_cd lv st (q j) → ∃ i, i ≤ j ∧ i < n' ∧ q' i = q j ∧ ((∃ j', j' < j ∧ ¬ sk_cd lv st (q j')) → i < j)) ∧
  ((∀ i j, i < n → j < n → q i = q j → i = j) → ∀ i j, i < n' → j < n' → q' i = q' j → i = j)
theorem sk_PFk {lv st q q' : Nat → Int32} {n : Nat} (h : ∀ j, j < n → sk_cd lv st (q j) → q' (sk_k lv st q j) = q j) : sk_PF lv st q n q' (sk_k lv st q n) := by
  refine ⟨sk_k_le n, fun i hi => ?_, fun j hj hc => ?_, fun hq i j hi hj e => ?_⟩
  · obtain ⟨j, a, b, c⟩ := sk_k_su n i hi
    exact ⟨j, a, by rw [← c]; exact h j a b, b⟩
  · exact ⟨sk_k lv st q j, sk_k_le j, sk_k_mo hc n hj, h j hj hc, fun ⟨j', a, b⟩ => sk_k_lt b j a⟩
  · obtain ⟨a, a1, a2, a3⟩ := sk_k_su n i hi
    obtain ⟨b, b1, b2, b3⟩ := sk_k_su n j hj
    rw [← a3, ← b3, h a a1 a2, h b b1 b2] at e
    rw [← a3, ← b3, hq a b a1 b1 e]
theorem sk_b1 : vp_nar .boolean 1 = 1 := rfl
theorem sk_b0 : vp_nar .boolean 0 = 0 := rfl
theorem sk_x8 (t : Nat) : nI t * 8 = nI (t * 8) := pk_mul t 8
theorem sk_x12 (t : Nat) : nI t * 12 = nI (t * 12) := pk_mul t 12
theorem sk_x16 (t : Nat) : nI t * 16 = nI (t * 16) := pk_mul t 16
theorem sk_x24 (t : Nat) : nI t * 24 = nI (t * 24) := pk_mul t 24
section
variable {f_threads f_width f_window f_freeTop f_queued f_total : Int32} {a_op a_regsOf a_immOf a_sizeOf a_memory a_statusOf a_archPc a_retiredOf a_digestOf a_value a_ready a_free a_archMap a_map a_head a_count a_robPc a_robState a_robTimer a_robStop a_robDest a_robNew a_robOld a_robA a_robB a_robVal a_robAddr a_robNext a_robGuess a_robLive a_queue a_fetchPc a_fetchStop a_counter a_lastTarget a_active a_quota : Nat → Int32} {post : SX → Prop}
theorem sk_w_pq {N : Nat} (hN : N ≤ 16) (hfq : f_queued = nI N) (hq : ∀ i, i < N → ∃ s, s < 48 ∧ a_queue i = nI s)
    (K : ∀ (q' : Nat → Int32) (n' : Nat), sk_PF a_robLive a_robState a_queue N q' n' → post (f_threads, f_width, f_window, f_freeTop, nI n', f_total, a_op, a_regsOf, a_immOf, a_sizeOf, a_memory, a_statusOf, a_archPc, a_retiredOf, a_digestOf, a_value, a_ready, a_free, a_archMap, a_map, a_head, a_count, a_robPc, a_robState, a_robTimer, a_robStop, a_robDest, a_robNew, a_robOld, a_robA, a_robB, a_robVal, a_robAddr, a_robNext, a_robGuess, a_robLive, q', a_fetchPc, a_fetchStop, a_counter, a_lastTarget, a_active, a_quota)) :
    ∀ d i, i + d = N → ∀ cur : Nat → Int32, (∀ j, j < i → sk_cd a_robLive a_robState (a_queue j) → cur (sk_k a_robLive a_robState a_queue j) = a_queue j) →
      (∀ j, i ≤ j → cur j = a_queue j) → ∀ n, d < n → wX_purgeQueue_4 post f_threads f_width f_window f_freeTop f_queued f_total n (nI (sk_k a_robLive a_robState a_queue i)) (nI i) a_op a_regsOf a_immOf a_sizeOf a_memory a_statusOf a_archPc a_retiredOf a_digestOf a_value a_ready a_free a_archMap a_map a_head a_count a_robPc a_robState a_robTimer a_robStop a_robDest a_robNew a_robOld a_robA a_robB a_robVal a_robAddr a_robNext a_robGuess a_robLive cur a_fetchPc a_fetchStop a_counter a_lastTarget a_active a_quota := by
  intro d
  induction d with
  | zero =>
    intro i hi cur h1 h2 n hn
    obtain ⟨m, rfl⟩ : ∃ m, n = m + 1 := ⟨n - 1, by omega⟩
    refine br_t ?_ ?_
    · rw [hfq]; exact nI_le (by omega) (by omega)
    · have e : i = N := by omega
      subst e
      exact K cur _ (sk_PFk h1)
  | succ d ih =>
    intro i hi cur h1 h2 n hn
    obtain ⟨m, rfl⟩ : ∃ m, n = m + 1 := ⟨n - 1, by omega⟩
    obtain ⟨s, hs, es⟩ := hq i (by omega)
    have cs : (nI s).toNatClampNeg = s := nI_clamp (by omega)
    have kl := sk_k_le (lv := a_robLive) (st := a_robState) (q := a_queue) i
    refine br_f ?_ ?_
    · rw [hfq]; exact nI_ge (by omega) (by omega)
    refine And.intro (vp_in_nI (by omega) (by decide)) ?_
    refine nm_r (e' := nI s) (by rw [nI_clamp (by omega), h2 i (Nat.le_refl i)]; exact es) ?_
    refine And.intro (vp_in_nI hs (by decide)) ?_
    have skip : ¬ sk_cd a_robLive a_robState (a_queue i) → wX_purgeQueue_4 post f_threads f_width f_window f_freeTop f_queued f_total m (nI (sk_k a_robLive a_robState a_queue i)) (nI (i + 1)) a_op a_regsOf a_immOf a_sizeOf a_memory a_statusOf a_archPc a_retiredOf a_digestOf a_value a_ready a_free a_archMap a_map a_head a_count a_robPc a_robState a_robTimer a_robStop a_robDest a_robNew a_robOld a_robA a_robB a_robVal a_robAddr a_robNext a_robGuess a_robLive cur a_fetchPc a_fetchStop a_counter a_lastTarget a_active a_quota := by
      intro hc
      have q := ih (i + 1) (by omega) cur (fun j hj hcj => by
        by_cases e : j = i
        · subst e; exact absurd hcj hc
        · exact h1 j (by omega) hcj) (fun j hj => h2 j (by omega)) m (by omega)
      rw [sk_k_f hc] at q
      exact q
    by_cases hl : a_robLive (nI s).toNatClampNeg = 0
    · refine br_t hl (nm_r (nI_1 i) (skip ?_))
      intro hc; rw [es] at hc; exact hc.1 hl
    · refine br_f hl (And.intro (vp_in_nI hs (by decide)) ?_)
      by_cases hz : a_robState (nI s).toNatClampNeg = 0
      · have hc : sk_cd a_robLive a_robState (a_queue i) := by rw [es]; exact ⟨hl, hz⟩
        refine br_t hz (And.intro (vp_in_nI (by omega) (by decide)) ?_)
        refine nm_r (e' := upd cur (sk_k a_robLive a_robState a_queue i) (nI s)) (by rw [nI_clamp (by omega)]) ?_
        refine nm_r (nI_1 _) (nm_r (nI_1 i) ?_)
        have q := ih (i + 1) (by omega) (upd cur (sk_k a_robLive a_robState a_queue i) (nI s)) (fun j hj hcj => by
          by_cases e : j = i
          · subst e; rw [pk_us]; exact es.symm
          · have := sk_k_mo hcj i (by omega)
            rw [pk_un (by omega)]
            exact h1 j (by omega) hcj) (fun j hj => by rw [pk_un (by omega)]; exact h2 j (by omega)) m (by omega)
        rw [sk_k_t hc] at q
        exact q
      · refine br_f hz (nm_r (nI_1 i) (skip ?_))
        intro hc; rw [es] at hc; exact hz hc.2
theorem sk_w_purge {N : Nat} (hN : N ≤ 16) (hfq : f_queued = nI N) (hq : ∀ i, i < N → ∃ s, s < 48 ∧ a_queue i = nI s)
    (K : ∀ (q' : Nat → Int32) (n' : Nat), sk_PF a_robLive a_robState a_queue N q' n' → post (f_threads, f_width, f_window, f_freeTop, nI n', f_total, a_op, a_regsOf, a_immOf, a_sizeOf, a_memory, a_statusOf, a_archPc, a_retiredOf, a_digestOf, a_value, a_ready, a_free, a_archMap, a_map, a_head, a_count, a_robPc, a_robState, a_robTimer, a_robStop, a_robDest, a_robNew, a_robOld, a_robA, a_robB, a_robVal, a_robAddr, a_robNext, a_robGuess, a_robLive, q', a_fetchPc, a_fetchStop, a_counter, a_lastTarget, a_active, a_quota)) :
    wpX_purgeQueue post (f_threads, f_width, f_window, f_freeTop, f_queued, f_total, a_op, a_regsOf, a_immOf, a_sizeOf, a_memory, a_statusOf, a_archPc, a_retiredOf, a_digestOf, a_value, a_ready, a_free, a_archMap, a_map, a_head, a_count, a_robPc, a_robState, a_robTimer, a_robStop, a_robDest, a_robNew, a_robOld, a_robA, a_robB, a_robVal, a_robAddr, a_robNext, a_robGuess, a_robLive, a_queue, a_fetchPc, a_fetchStop, a_counter, a_lastTarget, a_active, a_quota) := 
  ⟨N + 1, sk_w_pq hN hfq hq K N 0 (by omega) a_queue (fun j hj => absurd hj (Nat.not_lt_zero j)) (fun _ _ => rfl) (N + 1) (by omega)⟩
theorem sk_w_slot {post : Int32 → Prop} {t k h : Nat} (ht : t < 4) (hh : a_head t = nI h) (h12 : h < 12) (hk : k ≤ 12) (K : post (nI (t * 12 + sk_m h k))) :
    wpX_slot post (f_threads, f_width, f_window, f_freeTop, f_queued, f_total, a_op, a_regsOf, a_immOf, a_sizeOf, a_memory, a_statusOf, a_archPc, a_retiredOf, a_digestOf, a_value, a_ready, a_free, a_archMap, a_map, a_head, a_count, a_robPc, a_robState, a_robTimer, a_robStop, a_robDest, a_robNew, a_robOld, a_robA, a_robB, a_robVal, a_robAddr, a_robNext, a_robGuess, a_robLive, a_queue, a_fetchPc, a_fetchStop, a_counter, a_lastTarget, a_active, a_quota) (nI t) (nI k) := by
  refine And.intro (vp_in_nI ht (by decide)) ?_
  refine nm_r (e' := nI (h + k)) (by rw [nI_clamp (by omega), hh, nI_add]) ?_
  unfold sk_m at K
  refine pk_lt (h + k) 12 (fun c => ?_) (fun c => ?_)
  · rw [if_pos c, ← nI_add, ← sk_x12] at K
    exact K
  · rw [if_neg (by omega), ← nI_add, ← sk_x12] at K
    refine nm_r (e' := nI (h + k - 12)) ?_ K
    obtain ⟨r, e⟩ : ∃ r, h + k = r + 12 := ⟨h + k - 12, by omega⟩
    rw [e, Nat.add_sub_cancel, ← nI_add, Int32.add_assoc]
    show nI r + 0 = nI r
    exact Int32.add_zero _
theorem sk_w_give {ft p : Nat} (hp : p < 56) (hf : f_freeTop = nI ft) (hft : ft < 56)
    (K : post (f_threads, f_width, f_window, nI (ft + 1), f_queued, f_total, a_op, a_regsOf, a_immOf, a_sizeOf, a_memory, a_statusOf, a_archPc, a_retiredOf, a_digestOf, a_value, upd a_ready p 1, upd a_free ft (nI p), a_archMap, a_map, a_head, a_count, a_robPc, a_robState, a_robTimer, a_robStop, a_robDest, a_robNew, a_robOld, a_robA, a_robB, a_robVal, a_robAddr, a_robNext, a_robGuess, a_robLive, a_queue, a_fetchPc, a_fetchStop, a_counter, a_lastTarget, a_active, a_quota)) : wpX_giveBack post (f_threads, f_width, f_window, f_freeTop, f_queued, f_total, a_op, a_regsOf, a_immOf, a_sizeOf, a_memory, a_statusOf, a_archPc, a_retiredOf, a_digestOf, a_value, a_ready, a_free, a_archMap, a_map, a_head, a_count, a_robPc, a_robState, a_robTimer, a_robStop, a_robDest, a_robNew, a_robOld, a_robA, a_robB, a_robVal, a_robAddr, a_robNext, a_robGuess, a_robLive, a_queue, a_fetchPc, a_fetchStop, a_counter, a_lastTarget, a_active, a_quota) (nI p) :=
  And.intro (vp_in_nI hp (by decide)) (nm_r (e' := upd a_ready p 1) (by rw [nI_clamp (by omega), sk_b1])
    (And.intro (by rw [hf]; exact vp_in_nI hft (by decide)) (nm_r (e' := upd a_free ft (nI p)) (by rw [hf, nI_clamp (by omega)]) (nm_r (e' := nI (ft + 1)) (by rw [hf, nI_1]) K))))
end
end
section
/-! squashTo -/
theorem sk_QP {nt qn n' : Nat} {hd ct : Nat → Nat} {a_head a_count a_robLive a_robState a_queue q' : Nat → Int32} (hG : (sk_RG nt hd ct a_head a_count a_robLive)) (hQ : (sk_QW nt hd ct qn a_robState a_queue)) (hP : sk_PF a_robLive a_robState a_queue qn q' n') :
    (sk_QW nt hd ct n' a_robState q') ∧ (sk_QQ nt hd ct n' a_robState q') := by
  obtain ⟨q1, q2, q3, q4⟩ := hQ
  obtain ⟨p1, p2, p3, p4⟩ := hP
  refine ⟨⟨by omega, fun i hi => ?_, p4 q3, fun t k ht hk hs => ?_⟩, fun i hi => ?_⟩
  · obtain ⟨j, a, b, _⟩ := p2 i hi
    obtain ⟨s, c, d⟩ := q2 j a
    exact ⟨s, c, by rw [b, d]⟩
  · obtain ⟨j, a, b⟩ := q4 t k ht hk hs
    have g := hG.1 t ht
    have sl := sk_sl hG ht (show k ≤ 12 by omega)
    have cd : sk_cd a_robLive a_robState (a_queue j) := by
      rw [b]; unfold sk_cd; rw [nI_clamp (by omega)]; exact ⟨hG.2.1 t k ht hk, hs⟩
    obtain ⟨i, _, e2, e3, _⟩ := p3 j a cd
    exact ⟨i, e2, by rw [e3, b]⟩
  · obtain ⟨j, a, b, c⟩ := p2 i hi
    obtain ⟨s, d, e⟩ := q2 j a
    rw [e] at c
    unfold sk_cd at c
    rw [nI_clamp (by omega)] at c
    obtain ⟨t, k, ht, hk, f⟩ := hG.2.2.1 s d c.1
    exact ⟨t, k, ht, hk, by rw [b, e, f], by rw [f]; exact c.2⟩
theorem sk_QWs {nt qn t c : Nat} {hd ct ct' : Nat → Nat} {a_robState a_queue : Nat → Int32} (h : ∀ x, ct' x ≤ ct x) (hQ : (sk_QW nt hd ct qn a_robState a_queue)) : (sk_QW nt hd ct' qn a_robState a_queue) :=
  ⟨hQ.1, hQ.2.1, hQ.2.2.1, fun t k ht hk hs => hQ.2.2.2 t k ht (by have := h t; omega) hs⟩
theorem sk_prlt {k : Nat} (hk : k ≤ 100) : nI k - 1 < nI k := by
  have a : (nI k - 1).toInt = (k : Int) - 1 := pk_sub_toInt (a := k) (b := 1) (by omega) (by omega)
  rw [Int32.lt_iff_toInt_lt, a, nI_toInt (by omega)]
  omega
section
variable {f_threads f_width f_window f_freeTop f_queued f_total : Int32} {a_op a_regsOf a_immOf a_sizeOf a_memory a_statusOf a_archPc a_retiredOf a_digestOf a_value a_ready a_free a_archMap a_map a_head a_count a_robPc a_robState a_robTimer a_robStop a_robDest a_robNew a_robOld a_robA a_robB a_robVal a_robAddr a_robNext a_robGuess a_robLive a_queue a_fetchPc a_fetchStop a_counter a_lastTarget a_active a_quota : Nat → Int32} {post : SX → Prop} {nt ex ft qn : Nat} {sn hd ct ow : Nat → Nat} {cn : Nat → Int32} {Z : Nat → Nat → sk_V}
theorem sk_w_sl {post : Int32 → Prop} {t k : Nat} (ht : t < 4) (hh : a_head t = nI (hd t)) (h12 : hd t < 12) (hk : k ≤ 12) (K : post (nI (sk_s hd t k))) :
    wpX_slot post (f_threads, f_width, f_window, f_freeTop, f_queued, f_total, a_op, a_regsOf, a_immOf, a_sizeOf, a_memory, a_statusOf, a_archPc, a_retiredOf, a_digestOf, a_value, a_ready, a_free, a_archMap, a_map, a_head, a_count, a_robPc, a_robState, a_robTimer, a_robStop, a_robDest, a_robNew, a_robOld, a_robA, a_robB, a_robVal, a_robAddr, a_robNext, a_robGuess, a_robLive, a_queue, a_fetchPc, a_fetchStop, a_counter, a_lastTarget, a_active, a_quota) (nI t) (nI k) := sk_w_slot ht hh h12 hk K
theorem sk_w_67 {J9 : Int32 → Int32 → Int32 → Int32 → Int32 → Int32 → Int32 → (Nat → Int32) → (Nat → Int32) → (Nat → Int32) → (Nat → Int32) → (Nat → Int32) → (Nat → Int32) → (Nat → Int32) → (Nat → Int32) → (Nat → Int32) → (Nat → Int32) → (Nat → Int32) → (Nat → Int32) → (Nat → Int32) → (Nat → Int32) → (Nat → Int32) → (Nat → Int32) → (Nat → Int32) → (Nat → Int32) → (Nat → Int32) → (Nat → Int32) → (Nat → Int32) → (Nat → Int32) → (Nat → Int32) → (Nat → Int32) → (Nat → Int32) → (Nat → Int32) → (Nat → Int32) → (Nat → Int32) → (Nat → Int32) → (Nat → Int32) → (Nat → Int32) → (Nat → Int32) → (Nat → Int32) → (Nat → Int32) → (Nat → Int32) → (Nat → Int32) → (Nat → Int32) → Prop} {t keep c s : Nat} (ht : t < 4) (hs : s < 48)
    (K : J9 (nI c - 1) f_threads f_width f_window f_freeTop f_queued f_total a_op a_regsOf a_immOf a_sizeOf a_memory a_statusOf a_archPc a_retiredOf a_digestOf a_value a_ready a_free a_archMap a_map a_head (upd a_count t (nI c)) a_robPc a_robState a_robTimer a_robStop a_robDest a_robNew a_robOld a_robA a_robB a_robVal a_robAddr a_robNext a_robGuess (upd a_robLive s 0) a_queue a_fetchPc a_fetchStop a_counter a_lastTarget a_active a_quota) : wX_squashTo_67 post J9 (nI t) (nI keep) (nI c) (nI s) f_threads f_width f_window f_freeTop f_queued f_total a_op a_regsOf a_immOf a_sizeOf a_memory a_statusOf a_archPc a_retiredOf a_digestOf a_value a_ready a_free a_archMap a_map a_head a_count a_robPc a_robState a_robTimer a_robStop a_robDest a_robNew a_robOld a_robA a_robB a_robVal a_robAddr a_robNext a_robGuess a_robLive a_queue a_fetchPc a_fetchStop a_counter a_lastTarget a_active a_quota :=
  And.intro (vp_in_nI hs (by decide)) (nm_r (e' := upd a_robLive s 0) (by rw [nI_clamp (by omega), sk_b0])
    (And.intro (vp_in_nI ht (by decide)) (nm_r (e' := upd a_count t (nI c)) (by rw [nI_clamp (by omega)]) (nm_r (e' := nI c - 1) (Int32.sub_eq_add_neg _ _).symm K))))
end
end
section
section
variable {post : SX → Prop} {f_threads f_width f_window f_queued f_total : Int32} {nt ex qn : Nat} {sn hd : Nat → Nat} {cn : Nat → Int32} {Z : Nat → Nat → sk_V}
variable {a_op a_regsOf a_immOf a_sizeOf a_memory a_statusOf a_archPc a_retiredOf a_digestOf a_value a_archMap a_head a_robPc a_robState a_robTimer a_robStop a_robDest a_robNew a_robOld a_robA a_robB a_robVal a_robAddr a_robNext a_robGuess a_queue a_fetchPc a_fetchStop a_counter a_lastTarget a_active a_quota : Nat → Int32}
theorem sk_w_sq9 {t keep : Nat} {ct0 : Nat → Nat} (ht : t < nt) (hfq : f_queued = nI qn)
    (K : ∀ (ft' qn' : Nat) (ow' ct' : Nat → Nat) (rd' fr' mp' lv' co' qu' : Nat → Int32), ct' t = keep → (∀ x, x ≠ t → ct' x = ct0 x) →
      (sk_IB nt hd ct' sn Z cn ow' ft' ex (nI ft') a_op a_regsOf a_immOf a_memory a_value rd' fr' a_archMap mp' a_head co' a_robPc a_robState a_robTimer a_robStop a_robDest a_robNew a_robOld a_robA a_robB a_robVal a_robAddr a_robNext lv' a_fetchStop) →
      (sk_QW nt hd ct' qn' a_robState qu') → (sk_QQ nt hd ct' qn' a_robState qu') → sk_PF lv' a_robState a_queue qn qu' qn' →
      post (f_threads, f_width, f_window, nI ft', nI qn', f_total, a_op, a_regsOf, a_immOf, a_sizeOf, a_memory, a_statusOf, a_archPc, a_retiredOf, a_digestOf, a_value, rd', fr', a_archMap, mp', a_head, co', a_robPc, a_robState, a_robTimer, a_robStop, a_robDest, a_robNew, a_robOld, a_robA, a_robB, a_robVal, a_robAddr, a_robNext, a_robGuess, lv', qu', a_fetchPc, a_fetchStop, a_counter, a_lastTarget, a_active, a_quota)) :
    ∀ (d ft : Nat) (ow ct : Nat → Nat) (f_freeTop : Int32) (a_ready a_free a_map a_robLive a_count : Nat → Int32), ct t = keep + d → (∀ x, x ≠ t → ct x = ct0 x) →
      (sk_IB nt hd ct sn Z cn ow ft ex f_freeTop a_op a_regsOf a_immOf a_memory a_value a_ready a_free a_archMap a_map a_head a_count a_robPc a_robState a_robTimer a_robStop a_robDest a_robNew a_robOld a_robA a_robB a_robVal a_robAddr a_robNext a_robLive a_fetchStop) → (sk_QW nt hd ct qn a_robState a_queue) → ∀ n, d < n → wX_squashTo_9 post (nI t) (nI keep) n (nI (keep + d) - 1) f_threads f_width f_window f_freeTop f_queued f_total a_op a_regsOf a_immOf a_sizeOf a_memory a_statusOf a_archPc a_retiredOf a_digestOf a_value a_ready a_free a_archMap a_map a_head a_count a_robPc a_robState a_robTimer a_robStop a_robDest a_robNew a_robOld a_robA a_robB a_robVal a_robAddr a_robNext a_robGuess a_robLive a_queue a_fetchPc a_fetchStop a_counter a_lastTarget a_active a_quota := by
  intro d
  induction d with
  | zero =>
    intro ft ow ct f_freeTop a_ready a_free a_map a_robLive a_count hc hx I Q n hn
    obtain ⟨m, rfl⟩ : ∃ m, n = m + 1 := ⟨n - 1, by omega⟩
    have g := I.1.1 t ht
    have ef : f_freeTop = nI ft := I.2.2.2.2.2.2.1
    subst ef
    refine br_t (sk_prlt (by omega)) ?_
    refine sk_w_purge Q.1 hfq Q.2.1 (fun q' n' hP => ?_)
    have R := sk_QP I.1 Q hP
    exact K ft n' ow ct a_ready a_free a_map a_robLive a_count q' hc hx I R.1 R.2 hP
  | succ d ih =>
    intro ft ow ct f_freeTop a_ready a_free a_map a_robLive a_count hc hx I Q n hn
    obtain ⟨m, rfl⟩ : ∃ m, n = m + 1 := ⟨n - 1, by omega⟩
    have h4 := I.1.2.2.2.2
    have g := I.1.1 t ht
    have ef : f_freeTop = nI ft := I.2.2.2.2.2.2.1
    have hc' : ct t = (keep + d) + 1 := by omega
    have sl := sk_sl I.1 ht (show keep + d ≤ 12 by omega)
    have cs : (nI (sk_s hd t (keep + d))).toNatClampNeg = sk_s hd t (keep + d) := nI_clamp (by omega)
    have ep : nI (keep + (d + 1)) - 1 = nI (keep + d) := nI_pred (keep + d)
    have hx' : ∀ x, x ≠ t → sk_u ct t (keep + d) x = ct0 x := fun x e => by rw [sk_un e]; exact hx x e
    rw [ep]
    refine br_f (nI_nlt (by omega) (by omega)) ?_
    refine sk_w_sl (by omega) g.1 g.2.1 (by omega) ?_
    refine And.intro (vp_in_nI sl (by decide)) ?_
    rw [cs]
    rcases sk_de I.2.1 ht (show keep + d < ct t by omega) with ⟨e, he8, ede, eol, enw, eo⟩ | ⟨ede, ez⟩
    · have hpos : ¬ a_robDest (sk_s hd t (keep + d)) < 0 := by rw [ede]; exact nI_pos (by omega)
      obtain ⟨p56, f56, I'⟩ := sk_sqB ht hc' he8 ede eol rfl enw eo I
      refine br_f hpos ?_
      refine And.intro (vp_in_nI sl (by decide)) (And.intro (vp_in_nI sl (by decide)) (And.intro ?_ ?_))
      · rw [ede, sk_x8, nI_add]; exact vp_in_nI (by omega) (by decide)
      refine nm_r (e' := upd a_map (t * 8 + e) (a_robOld (sk_s hd t (keep + d)))) (by rw [ede, sk_x8, nI_add, nI_clamp (by omega)]) ?_
      refine And.intro (vp_in_nI sl (by decide)) ?_
      rw [enw]
      refine sk_w_give p56 ef f56 ?_
      refine sk_w_67 (by omega) sl ?_
      exact ih (ft + 1) _ _ _ _ _ _ _ _ sk_us hx' I' (sk_QWs (t := t) (c := 0) (sk_cu hc') Q) m (by omega)
    · have hneg : a_robDest (sk_s hd t (keep + d)) < 0 := by rw [ede]; exact sk_m1lt
      refine br_t hneg ?_
      refine sk_w_67 (by omega) sl ?_
      exact ih ft _ _ _ _ _ _ _ _ sk_us hx' (sk_sqA ht hc' hneg I) (sk_QWs (t := t) (c := 0) (sk_cu hc') Q) m (by omega)
end
section
variable {f_threads f_width f_window f_freeTop f_queued f_total : Int32} {a_op a_regsOf a_immOf a_sizeOf a_memory a_statusOf a_archPc a_retiredOf a_digestOf a_value a_ready a_free a_archMap a_map a_head a_count a_robPc a_robState a_robTimer a_robStop a_robDest a_robNew a_robOld a_robA a_robB a_robVal a_robAddr a_robNext a_robGuess a_robLive a_queue a_fetchPc a_fetchStop a_counter a_lastTarget a_active a_quota : Nat → Int32} {post : SX → Prop} {nt ex ft qn : Nat} {sn hd ct ow : Nat → Nat} {cn : Nat → Int32} {Z : Nat → Nat → sk_V}
theorem sk_w_squash {t keep : Nat} (ht : t < nt) (hkeep : keep ≤ ct t) (hfq : f_queued = nI qn) (I : (sk_IB nt hd ct sn Z cn ow ft ex f_freeTop a_op a_regsOf a_immOf a_memory a_value a_ready a_free a_archMap a_map a_head a_count a_robPc a_robState a_robTimer a_robStop a_robDest a_robNew a_robOld a_robA a_robB a_robVal a_robAddr a_robNext a_robLive a_fetchStop)) (Q : (sk_QW nt hd ct qn a_robState a_queue))
    (K : ∀ (ft' qn' : Nat) (ow' ct' : Nat → Nat) (rd' fr' mp' lv' co' qu' : Nat → Int32), ct' t = keep → (∀ x, x ≠ t → ct' x = ct x) →
      (sk_IB nt hd ct' sn Z cn ow' ft' ex (nI ft') a_op a_regsOf a_immOf a_memory a_value rd' fr' a_archMap mp' a_head co' a_robPc a_robState a_robTimer a_robStop a_robDest a_robNew a_robOld a_robA a_robB a_robVal a_robAddr a_robNext lv' a_fetchStop) →
      (sk_QW nt hd ct' qn' a_robState qu') → (sk_QQ nt hd ct' qn' a_robState qu') → sk_PF lv' a_robState a_queue qn qu' qn' →
      post (f_threads, f_width, f_window, nI ft', nI qn', f_total, a_op, a_regsOf, a_immOf, a_sizeOf, a_memory, a_statusOf, a_archPc, a_retiredOf, a_digestOf, a_value, rd', fr', a_archMap, mp', a_head, co', a_robPc, a_robState, a_robTimer, a_robStop, a_robDest, a_robNew, a_robOld, a_robA, a_robB, a_robVal, a_robAddr, a_robNext, a_robGuess, lv', qu', a_fetchPc, a_fetchStop, a_counter, a_lastTarget, a_active, a_quota)) :
    wpX_squashTo post (f_threads, f_width, f_window, f_freeTop, f_queued, f_total, a_op, a_regsOf, a_immOf, a_sizeOf, a_memory, a_statusOf, a_archPc, a_retiredOf, a_digestOf, a_value, a_ready, a_free, a_archMap, a_map, a_head, a_count, a_robPc, a_robState, a_robTimer, a_robStop, a_robDest, a_robNew, a_robOld, a_robA, a_robB, a_robVal, a_robAddr, a_robNext, a_robGuess, a_robLive, a_queue, a_fetchPc, a_fetchStop, a_counter, a_lastTarget, a_active, a_quota) (nI t) (nI keep) := by
  have h4 := I.1.2.2.2.2
  have g := I.1.1 t ht
  refine And.intro (vp_in_nI (by omega) (by decide)) ?_
  refine nm_r (e' := nI (keep + (ct t - keep)) - 1) (by rw [nI_clamp (by omega), g.2.2.1, show keep + (ct t - keep) = ct t by omega]) ?_
  exact ⟨ct t - keep + 1, sk_w_sq9 ht hfq K (ct t - keep) ft ow ct f_freeTop a_ready a_free a_map a_robLive a_count (by omega) (fun _ _ => rfl) I Q _ (by omega)⟩
end
end
section
/-! the whole invariant, and what moves -/
abbrev sx_threads (u : SX) : Int32 := u.1
abbrev sx_width (u : SX) : Int32 := u.2.1
abbrev sx_window (u : SX) : Int32 := u.2.2.1
abbrev sx_freeTop (u : SX) : Int32 := u.2.2.2.1
abbrev sx_queued (u : SX) : Int32 := u.2.2.2.2.1
abbrev sx_total (u : SX) : Int32 := u.2.2.2.2.2.1
abbrev sx_op (u : SX) : Nat → Int32 := u.2.2.2.2.2.2.1
abbrev sx_regsOf (u : SX) : Nat → Int32 := u.2.2.2.2.2.2.2.1
abbrev sx_immOf (u : SX) : Nat → Int32 := u.2.2.2.2.2.2.2.2.1
abbrev sx_sizeOf (u : SX) : Nat → Int32 := u.2.2.2.2.2.2.2.2.2.1
abbrev sx_memory (u : SX) : Nat → Int32 := u.2.2.2.2.2.2.2.2.2.2.1
abbrev sx_statusOf (u : SX) : Nat → Int32 := u.2.2.2.2.2.2.2.2.2.2.2.1
abbrev sx_archPc (u : SX) : Nat → Int32 := u.2.2.2.2.2.2.2.2.2.2.2.2.1
abbrev sx_retiredOf (u : SX) : Nat → Int32 := u.2.2.2.2.2.2.2.2.2.2.2.2.2.1
abbrev sx_digestOf (u : SX) : Nat → Int32 := u.2.2.2.2.2.2.2.2.2.2.2.2.2.2.1
abbrev sx_value (u : SX) : Nat → Int32 := u.2.2.2.2.2.2.2.2.2.2.2.2.2.2.2.1
abbrev sx_ready (u : SX) : Nat → Int32 := u.2.2.2.2.2.2.2.2.2.2.2.2.2.2.2.2.1
abbrev sx_free (u : SX) : Nat → Int32 := u.2.2.2.2.2.2.2.2.2.2.2.2.2.2.2.2.2.1
abbrev sx_archMap (u : SX) : Nat → Int32 := u.2.2.2.2.2.2.2.2.2.2.2.2.2.2.2.2.2.2.1
abbrev sx_map (u : SX) : Nat → Int32 := u.2.2.2.2.2.2.2.2.2.2.2.2.2.2.2.2.2.2.2.1
abbrev sx_head (u : SX) : Nat → Int32 := u.2.2.2.2.2.2.2.2.2.2.2.2.2.2.2.2.2.2.2.2.1
abbrev sx_count (u : SX) : Nat → Int32 := u.2.2.2.2.2.2.2.2.2.2.2.2.2.2.2.2.2.2.2.2.2.1
abbrev sx_robPc (u : SX) : Nat → Int32 := u.2.2.2.2.2.2.2.2.2.2.2.2.2.2.2.2.2.2.2.2.2.2.1
abbrev sx_robState (u : SX) : Nat → Int32 := u.2.2.2.2.2.2.2.2.2.2.2.2.2.2.2.2.2.2.2.2.2.2.2.1
abbrev sx_robTimer (u : SX) : Nat → Int32 := u.2.2.2.2.2.2.2.2.2.2.2.2.2.2.2.2.2.2.2.2.2.2.2.2.1
abbrev sx_robStop (u : SX) : Nat → Int32 := u.2.2.2.2.2.2.2.2.2.2.2.2.2.2.2.2.2.2.2.2.2.2.2.2.2.1
abbrev sx_robDest (u : SX) : Nat → Int32 := u.2.2.2.2.2.2.2.2.2.2.2.2.2.2.2.2.2.2.2.2.2.2.2.2.2.2.1
abbrev sx_robNew (u : SX) : Nat → Int32 := u.2.2.2.2.2.2.2.2.2.2.2.2.2.2.2.2.2.2.2.2.2.2.2.2.2.2.2.1
abbrev sx_robOld (u : SX) : Nat → Int32 := u.2.2.2.2.2.2.2.2.2.2.2.2.2.2.2.2.2.2.2.2.2.2.2.2.2.2.2.2.1
abbrev sx_robA (u : SX) : Nat → Int32 := u.2.2.2.2.2.2.2.2.2.2.2.2.2.2.2.2.2.2.2.2.2.2.2.2.2.2.2.2.2.1
abbrev sx_robB (u : SX) : Nat → Int32 := u.2.2.2.2.2.2.2.2.2.2.2.2.2.2.2.2.2.2.2.2.2.2.2.2.2.2.2.2.2.2.1
abbrev sx_robVal (u : SX) : Nat → Int32 := u.2.2.2.2.2.2.2.2.2.2.2.2.2.2.2.2.2.2.2.2.2.2.2.2.2.2.2.2.2.2.2.1
abbrev sx_robAddr (u : SX) : Nat → Int32 := u.2.2.2.2.2.2.2.2.2.2.2.2.2.2.2.2.2.2.2.2.2.2.2.2.2.2.2.2.2.2.2.2.1
abbrev sx_robNext (u : SX) : Nat → Int32 := u.2.2.2.2.2.2.2.2.2.2.2.2.2.2.2.2.2.2.2.2.2.2.2.2.2.2.2.2.2.2.2.2.2.1
abbrev sx_robGuess (u : SX) : Nat → Int32 := u.2.2.2.2.2.2.2.2.2.2.2.2.2.2.2.2.2.2.2.2.2.2.2.2.2.2.2.2.2.2.2.2.2.2.1
abbrev sx_robLive (u : SX) : Nat → Int32 := u.2.2.2.2.2.2.2.2.2.2.2.2.2.2.2.2.2.2.2.2.2.2.2.2.2.2.2.2.2.2.2.2.2.2.2.1
abbrev sx_queue (u : SX) : Nat → Int32 := u.2.2.2.2.2.2.2.2.2.2.2.2.2.2.2.2.2.2.2.2.2.2.2.2.2.2.2.2.2.2.2.2.2.2.2.2.1
abbrev sx_fetchPc (u : SX) : Nat → Int32 := u.2.2.2.2.2.2.2.2.2.2.2.2.2.2.2.2.2.2.2.2.2.2.2.2.2.2.2.2.2.2.2.2.2.2.2.2.2.1
abbrev sx_fetchStop (u : SX) : Nat → Int32 := u.2.2.2.2.2.2.2.2.2.2.2.2.2.2.2.2.2.2.2.2.2.2.2.2.2.2.2.2.2.2.2.2.2.2.2.2.2.2.1
abbrev sx_counter (u : SX) : Nat → Int32 := u.2.2.2.2.2.2.2.2.2.2.2.2.2.2.2.2.2.2.2.2.2.2.2.2.2.2.2.2.2.2.2.2.2.2.2.2.2.2.2.1
abbrev sx_lastTarget (u : SX) : Nat → Int32 := u.2.2.2.2.2.2.2.2.2.2.2.2.2.2.2.2.2.2.2.2.2.2.2.2.2.2.2.2.2.2.2.2.2.2.2.2.2.2.2.2.1
abbrev sx_active (u : SX) : Nat → Int32 := u.2.2.2.2.2.2.2.2.2.2.2.2.2.2.2.2.2.2.2.2.2.2.2.2.2.2.2.2.2.2.2.2.2.2.2.2.2.2.2.2.2.1
abbrev sx_quota (u : SX) : Nat → Int32 := u.2.2.2.2.2.2.2.2.2.2.2.2.2.2.2.2.2.2.2.2.2.2.2.2.2.2.2.2.2.2.2.2.2.2.2.2.2.2.2.2.2.2
def sk_IC (nt wd wn ex : Nat) (sn : Nat → Nat) (goal : Nat → sk_Y) (r0 : Nat → Int32) (hd ct ow : Nat → Nat) (cn : Nat → Int32) (Z : Nat → Nat → sk_V) (ft qn : Nat) (f_threads f_width f_window f_freeTop f_queued f_total : Int32) (a_op a_regsOf a_immOf a_sizeOf a_memory a_statusOf a_archPc a_retiredOf a_digestOf a_value a_ready a_free a_archMap a_map a_head a_count a_robPc a_robState a_robTimer a_robStop a_robDest a_robNew a_robOld a_robA a_robB a_robVal a_robAddr a_robNext a_robGuess a_robLive a_queue a_fetchPc a_fetchStop a_counter a_lastTarget a_active a_quota : Nat → Int32) : Prop := (sk_KK nt wd wn sn f_threads f_width f_window a_op a_sizeOf) ∧ (sk_IB nt hd ct sn Z cn ow ft ex f_freeTop a_op a_regsOf a_immOf a_memory a_value a_ready a_free a_archMap a_map a_head a_count a_robPc a_robState a_robTimer a_robStop a_robDest a_robNew a_robOld a_robA a_robB a_robVal a_robAddr a_robNext a_robLive a_fetchStop) ∧ f_queued = nI qn ∧ (sk_QW nt hd ct qn a_robState a_queue) ∧ (sk_QQ nt hd ct qn a_robState a_queue) ∧ (sk_FA nt hd ct a_robPc a_robState a_robNext a_robGuess a_archPc) ∧ (sk_FB nt hd ct a_active a_robState a_robStop a_robNext a_robGuess a_archPc a_fetchPc a_fetchStop) ∧ (sk_YG nt sn a_op a_regsOf a_immOf ct Z goal a_active a_quota a_archPc a_statusOf a_retiredOf a_digestOf) ∧ (sk_TT nt r0 f_total a_retiredOf)
def sk_IV (nt wd wn ex : Nat) (sn : Nat → Nat) (goal : Nat → sk_Y) (r0 op rg im sz : Nat → Int32) (f_threads f_width f_window f_freeTop f_queued f_total : Int32) (a_op a_regsOf a_immOf a_sizeOf a_memory a_statusOf a_archPc a_retiredOf a_digestOf a_value a_ready a_free a_archMap a_map a_head a_count a_robPc a_robState a_robTimer a_robStop a_robDest a_robNew a_robOld a_robA a_robB a_robVal a_robAddr a_robNext a_robGuess a_robLive a_queue a_fetchPc a_fetchStop a_counter a_lastTarget a_active a_quota : Nat → Int32) : Prop := (a_op = op ∧ a_regsOf = rg ∧ a_immOf = im ∧ a_sizeOf = sz) ∧ ∃ (hd ct ow : Nat → Nat) (cn : Nat → Int32) (Z : Nat → Nat → sk_V) (ft qn : Nat), (sk_IC nt wd wn ex sn goal r0 hd ct ow cn Z ft qn f_threads f_width f_window f_freeTop f_queued f_total a_op a_regsOf a_immOf a_sizeOf a_memory a_statusOf a_archPc a_retiredOf a_digestOf a_value a_ready a_free a_archMap a_map a_head a_count a_robPc a_robState a_robTimer a_robStop a_robDest a_robNew a_robOld a_robA a_robB a_robVal a_robAddr a_robNext a_robGuess a_robLive a_queue a_fetchPc a_fetchStop a_counter a_lastTarget a_active a_quota)
def sk_IU (nt wd wn ex : Nat) (sn : Nat → Nat) (goal : Nat → sk_Y) (r0 op rg im sz : Nat → Int32) (u : SX) : Prop := sk_IV nt wd wn ex sn goal r0 op rg im sz u.1 u.2.1 u.2.2.1 u.2.2.2.1 u.2.2.2.2.1 u.2.2.2.2.2.1 u.2.2.2.2.2.2.1 u.2.2.2.2.2.2.2.1 u.2.2.2.2.2.2.2.2.1 u.2.2.2.2.2.2.2.2.2.1 u.2.2.2.2.2.2.2.2.2.2.1 u.2.2.2.2.2.2.2.2.2.2.2.1 u.2.2.2.2.2.2.2.2.2.2.2.2.1 u.2.2.2.2.2.2.2.2.2.2.2.2.2.1 u.2.2.2.2.2.2.2.2.2.2.2.2.2.2.1 u.2.2.2.2.2.2.2.2.2.2.2.2.2.2.2.1 u.2.2.2.2.2.2.2.2.2.2.2.2.2.2.2.2.1 u.2.2.2.2.2.2.2.2.2.2.2.2.2.2.2.2.2.1 u.2.2.2.2.2.2.2.2.2.2.2.2.2.2.2.2.2.2.1 u.2.2.2.2.2.2.2.2.2.2.2.2.2.2.2.2.2.2.2.1 u.2.2.2.2.2.2.2.2.2.2.2.2.2.2.2.2.2.2.2.2.1 u.2.2.2.2.2.2.2.2.2.2.2.2.2.2.2.2.2.2.2.2.2.1 u.2.2.2.2.2.2.2.2.2.2.2.2.2.2.2.2.2.2.2.2.2.2.1 u.2.2.2.2.2.2.2.2.2.2.2.2.2.2.2.2.2.2.2.2.2.2.2.1 u.2.2.2.2.2.2.2.2.2.2.2.2.2.2.2.2.2.2.2.2.2.2.2.2.1 u.2.2.2.2.2.2.2.2.2.2.2.2.2.2.2.2.2.2.2.2.2.2.2.2.2.1 u.2.2.2.2.2.2.2.2.2.2.2.2.2.2.2.2.2.2.2.2.2.2.2.2.2.2.1 u.2.2.2.2.2.2.2.2.2.2.2.2.2.2.2.2.2.2.2.2.2.2.2.2.2.2.2.1 u.2.2.2.2.2.2.2.2.2.2.2.2.2.2.2.2.2.2.2.2.2.2.2.2.2.2.2.2.1 u.2.2.2.2.2.2.2.2.2.2.2.2.2.2.2.2.2.2.2.2.2.2.2.2.2.2.2.2.2.1 u.2.2.2.2.2.2.2.2.2.2.2.2.2.2.2.2.2.2.2.2.2.2.2.2.2.2.2.2.2.2.1 u.2.2.2.2.2.2.2.2.2.2.2.2.2.2.2.2.2.2.2.2.2.2.2.2.2.2.2.2.2.2.2.1 u.2.2.2.2.2.2.2.2.2.2.2.2.2.2.2.2.2.2.2.2.2.2.2.2.2.2.2.2.2.2.2.2.1 u.2.2.2.2.2.2.2.2.2.2.2.2.2.2.2.2.2.2.2.2.2.2.2.2.2.2.2.2.2.2.2.2.2.1 u.2.2.2.2.2.2.2.2.2.2.2.2.2.2.2.2.2.2.2.2.2.2.2.2.2.2.2.2.2.2.2.2.2.2.1 u.2.2.2.2.2.2.2.2.2.2.2.2.2.2.2.2.2.2.2.2.2.2.2.2.2.2.2.2.2.2.2.2.2.2.2.1 u.2.2.2.2.2.2.2.2.2.2.2.2.2.2.2.2.2.2.2.2.2.2.2.2.2.2.2.2.2.2.2.2.2.2.2.2.1 u.2.2.2.2.2.2.2.2.2.2.2.2.2.2.2.2.2.2.2.2.2.2.2.2.2.2.2.2.2.2.2.2.2.2.2.2.2.1 u.2.2.2.2.2.2.2.2.2.2.2.2.2.2.2.2.2.2.2.2.2.2.2.2.2.2.2.2.2.2.2.2.2.2.2.2.2.2.1 u.2.2.2.2.2.2.2.2.2.2.2.2.2.2.2.2.2.2.2.2.2.2.2.2.2.2.2.2.2.2.2.2.2.2.2.2.2.2.2.1 u.2.2.2.2.2.2.2.2.2.2.2.2.2.2.2.2.2.2.2.2.2.2.2.2.2.2.2.2.2.2.2.2.2.2.2.2.2.2.2.2.1 u.2.2.2.2.2.2.2.2.2.2.2.2.2.2.2.2.2.2.2.2.2.2.2.2.2.2.2.2.2.2.2.2.2.2.2.2.2.2.2.2.2.1 u.2.2.2.2.2.2.2.2.2.2.2.2.2.2.2.2.2.2.2.2.2.2.2.2.2.2.2.2.2.2.2.2.2.2.2.2.2.2.2.2.2.2
/-- a state, name by name -/
theorem sk_el {P : SX → Prop} (h : ∀ (f_threads f_width f_window f_freeTop f_queued f_total : Int32) (a_op a_regsOf a_immOf a_sizeOf a_memory a_statusOf a_archPc a_retiredOf a_digestOf a_value a_ready a_free a_archMap a_map a_head a_count a_robPc a_robState a_robTimer a_robStop a_robDest a_robNew a_robOld a_robA a_robB a_robVal a_robAddr a_robNext a_robGuess a_robLive a_queue a_fetchPc a_fetchStop a_counter a_lastTarget a_active a_quota : Nat → Int32), P (f_threads, f_width, f_window, f_freeTop, f_queued, f_total, a_op, a_regsOf, a_immOf, a_sizeOf, a_memory, a_statusOf, a_archPc, a_retiredOf, a_digestOf, a_value, a_ready, a_free, a_archMap, a_map, a_head, a_count, a_robPc, a_robState, a_robTimer, a_robStop, a_robDest, a_robNew, a_robOld, a_robA, a_robB, a_robVal, a_robAddr, a_robNext, a_robGuess, a_robLive, a_queue, a_fetchPc, a_fetchStop, a_counter, a_lastTarget, a_active, a_quota)) (u : SX) : P u := h u.1 u.2.1 u.2.2.1 u.2.2.2.1 u.2.2.2.2.1 u.2.2.2.2.2.1 u.2.2.2.2.2.2.1 u.2.2.2.2.2.2.2.1 u.2.2.2.2.2.2.2.2.1 u.2.2.2.2.2.2.2.2.2.1 u.2.2.2.2.2.2.2.2.2.2.1 u.2.2.2.2.2.2.2.2.2.2.2.1 u.2.2.2.2.2.2.2.2.2.2.2.2.1 u.2.2.2.2.2.2.2.2.2.2.2.2.2.1 u.2.2.2.2.2.2.2.2.2.2.2.2.2.2.1 u.2.2.2.2.2.2.2.2.2.2.2.2.2.2.2.1 u.2.2.2.2.2.2.2.2.2.2.2.2.2.2.2.2.1 u.2.2.2.2.2.2.2.2.2.2.2.2.2.2.2.2.2.1 u.2.2.2.2.2.2.2.2.2.2.2.2.2.2.2.2.2.2.1 u.2.2.2.2.2.2.2.2.2.2.2.2.2.2.2.2.2.2.2.1 u.2.2.2.2.2.2.2.2.2.2.2.2.2.2.2.2.2.2.2.2.1 u.2.2.2.2.2.2.2.2.2.2.2.2.2.2.2.2.2.2.2.2.2.1 u.2.2.2.2.2.2.2.2.2.2.2.2.2.2.2.2.2.2.2.2.2.2.1 u.2.2.2.2.2.2.2.2.2.2.2.2.2.2.2.2.2.2.2.2.2.2.2.1 u.2.2.2.2.2.2.2.2.2.2.2.2.2.2.2.2.2.2.2.2.2.2.2.2.1 u.2.2.2.2.2.2.2.2.2.2.2.2.2.2.2.2.2.2.2.2.2.2.2.2.2.1 u.2.2.2.2.2.2.2.2.2.2.2.2.2.2.2.2.2.2.2.2.2.2.2.2.2.2.1 u.2.2.2.2.2.2.2.2.2.2.2.2.2.2.2.2.2.2.2.2.2.2.2.2.2.2.2.1 u.2.2.2.2.2.2.2.2.2.2.2.2.2.2.2.2.2.2.2.2.2.2.2.2.2.2.2.2.1 u.2.2.2.2.2.2.2.2.2.2.2.2.2.2.2.2.2.2.2.2.2.2.2.2.2.2.2.2.2.1 u.2.2.2.2.2.2.2.2.2.2.2.2.2.2.2.2.2.2.2.2.2.2.2.2.2.2.2.2.2.2.1 u.2.2.2.2.2.2.2.2.2.2.2.2.2.2.2.2.2.2.2.2.2.2.2.2.2.2.2.2.2.2.2.1 u.2.2.2.2.2.2.2.2.2.2.2.2.2.2.2.2.2.2.2.2.2.2.2.2.2.2.2.2.2.2.2.2.1 u.2.2.2.2.2.2.2.2.2.2.2.2.2.2.2.2.2.2.2.2.2.2.2.2.2.2.2.2.2.2.2.2.2.1 u.2.2.2.2.2.2.2.2.2.2.2.2.2.2.2.2.2.2.2.2.2.2.2.2.2.2.2.2.2.2.2.2.2.2.1 u.2.2.2.2.2.2.2.2.2.2.2.2.2.2.2.2.2.2.2.2.2.2.2.2.2.2.2.2.2.2.2.2.2.2.2.1 u.2.2.2.2.2.2.2.2.2.2.2.2.2.2.2.2.2.2.2.2.2.2.2.2.2.2.2.2.2.2.2.2.2.2.2.2.1 u.2.2.2.2.2.2.2.2.2.2.2.2.2.2.2.2.2.2.2.2.2.2.2.2.2.2.2.2.2.2.2.2.2.2.2.2.2.1 u.2.2.2.2.2.2.2.2.2.2.2.2.2.2.2.2.2.2.2.2.2.2.2.2.2.2.2.2.2.2.2.2.2.2.2.2.2.2.1 u.2.2.2.2.2.2.2.2.2.2.2.2.2.2.2.2.2.2.2.2.2.2.2.2.2.2.2.2.2.2.2.2.2.2.2.2.2.2.2.1 u.2.2.2.2.2.2.2.2.2.2.2.2.2.2.2.2.2.2.2.2.2.2.2.2.2.2.2.2.2.2.2.2.2.2.2.2.2.2.2.2.1 u.2.2.2.2.2.2.2.2.2.2.2.2.2.2.2.2.2.2.2.2.2.2.2.2.2.2.2.2.2.2.2.2.2.2.2.2.2.2.2.2.2.1 u.2.2.2.2.2.2.2.2.2.2.2.2.2.2.2.2.2.2.2.2.2.2.2.2.2.2.2.2.2.2.2.2.2.2.2.2.2.2.2.2.2.2
def sk_ap (F : Int32 → Int32 → Int32 → Int32 → Int32 → Int32 → (Nat → Int32) → (Nat → Int32) → (Nat → Int32) → (Nat → Int32) → (Nat → Int32) → (Nat → Int32) → (Nat → Int32) → (Nat → Int32) → (Nat → Int32) → (Nat → Int32) → (Nat → Int32) → (Nat → Int32) → (Nat → Int32) → (Nat → Int32) → (Nat → Int32) → (Nat → Int32) → (Nat → Int32) → (Nat → Int32) → (Nat → Int32) → (Nat → Int32) → (Nat → Int32) → (Nat → Int32) → (Nat → Int32) → (Nat → Int32) → (Nat → Int32) → (Nat → Int32) → (Nat → Int32) → (Nat → Int32) → (Nat → Int32) → (Nat → Int32) → (Nat → Int32) → (Nat → Int32) → (Nat → Int32) → (Nat → Int32) → (Nat → Int32) → (Nat → Int32) → (Nat → Int32) → Prop) (u : SX) : Prop := F u.1 u.2.1 u.2.2.1 u.2.2.2.1 u.2.2.2.2.1 u.2.2.2.2.2.1 u.2.2.2.2.2.2.1 u.2.2.2.2.2.2.2.1 u.2.2.2.2.2.2.2.2.1 u.2.2.2.2.2.2.2.2.2.1 u.2.2.2.2.2.2.2.2.2.2.1 u.2.2.2.2.2.2.2.2.2.2.2.1 u.2.2.2.2.2.2.2.2.2.2.2.2.1 u.2.2.2.2.2.2.2.2.2.2.2.2.2.1 u.2.2.2.2.2.2.2.2.2.2.2.2.2.2.1 u.2.2.2.2.2.2.2.2.2.2.2.2.2.2.2.1 u.2.2.2.2.2.2.2.2.2.2.2.2.2.2.2.2.1 u.2.2.2.2.2.2.2.2.2.2.2.2.2.2.2.2.2.1 u.2.2.2.2.2.2.2.2.2.2.2.2.2.2.2.2.2.2.1 u.2.2.2.2.2.2.2.2.2.2.2.2.2.2.2.2.2.2.2.1 u.2.2.2.2.2.2.2.2.2.2.2.2.2.2.2.2.2.2.2.2.1 u.2.2.2.2.2.2.2.2.2.2.2.2.2.2.2.2.2.2.2.2.2.1 u.2.2.2.2.2.2.2.2.2.2.2.2.2.2.2.2.2.2.2.2.2.2.1 u.2.2.2.2.2.2.2.2.2.2.2.2.2.2.2.2.2.2.2.2.2.2.2.1 u.2.2.2.2.2.2.2.2.2.2.2.2.2.2.2.2.2.2.2.2.2.2.2.2.1 u.2.2.2.2.2.2.2.2.2.2.2.2.2.2.2.2.2.2.2.2.2.2.2.2.2.1 u.2.2.2.2.2.2.2.2.2.2.2.2.2.2.2.2.2.2.2.2.2.2.2.2.2.2.1 u.2.2.2.2.2.2.2.2.2.2.2.2.2.2.2.2.2.2.2.2.2.2.2.2.2.2.2.1 u.2.2.2.2.2.2.2.2.2.2.2.2.2.2.2.2.2.2.2.2.2.2.2.2.2.2.2.2.1 u.2.2.2.2.2.2.2.2.2.2.2.2.2.2.2.2.2.2.2.2.2.2.2.2.2.2.2.2.2.1 u.2.2.2.2.2.2.2.2.2.2.2.2.2.2.2.2.2.2.2.2.2.2.2.2.2.2.2.2.2.2.1 u.2.2.2.2.2.2.2.2.2.2.2.2.2.2.2.2.2.2.2.2.2.2.2.2.2.2.2.2.2.2.2.1 u.2.2.2.2.2.2.2.2.2.2.2.2.2.2.2.2.2.2.2.2.2.2.2.2.2.2.2.2.2.2.2.2.1 u.2.2.2.2.2.2.2.2.2.2.2.2.2.2.2.2.2.2.2.2.2.2.2.2.2.2.2.2.2.2.2.2.2.1 u.2.2.2.2.2.2.2.2.2.2.2.2.2.2.2.2.2.2.2.2.2.2.2.2.2.2.2.2.2.2.2.2.2.2.1 u.2.2.2.2.2.2.2.2.2.2.2.2.2.2.2.2.2.2.2.2.2.2.2.2.2.2.2.2.2.2.2.2.2.2.2.1 u.2.2.2.2.2.2.2.2.2.2.2.2.2.2.2.2.2.2.2.2.2.2.2.2.2.2.2.2.2.2.2.2.2.2.2.2.1 u.2.2.2.2.2.2.2.2.2.2.2.2.2.2.2.2.2.2.2.2.2.2.2.2.2.2.2.2.2.2.2.2.2.2.2.2.2.1 u.2.2.2.2.2.2.2.2.2.2.2.2.2.2.2.2.2.2.2.2.2.2.2.2.2.2.2.2.2.2.2.2.2.2.2.2.2.2.1 u.2.2.2.2.2.2.2.2.2.2.2.2.2.2.2.2.2.2.2.2.2.2.2.2.2.2.2.2.2.2.2.2.2.2.2.2.2.2.2.1 u.2.2.2.2.2.2.2.2.2.2.2.2.2.2.2.2.2.2.2.2.2.2.2.2.2.2.2.2.2.2.2.2.2.2.2.2.2.2.2.2.1 u.2.2.2.2.2.2.2.2.2.2.2.2.2.2.2.2.2.2.2.2.2.2.2.2.2.2.2.2.2.2.2.2.2.2.2.2.2.2.2.2.2.1 u.2.2.2.2.2.2.2.2.2.2.2.2.2.2.2.2.2.2.2.2.2.2.2.2.2.2.2.2.2.2.2.2.2.2.2.2.2.2.2.2.2.2
/-- threads under way, with what they may still do -/
def sk_N (nt : Nat) (u : SX) : Nat := sk_4 (fun t => if t < nt ∧ sx_active u t ≠ 0 then (sx_quota u t).toNatClampNeg + 1 else 0)
def sk_h (u : SX) (t : Nat) : Nat := t * 12 + (sx_head u t).toNatClampNeg
/-- the oldest entry of t stands as it stood, no farther back in the queue -/
def sk_HF (t : Nat) (u u' : SX) : Prop :=
  sx_active u' t = sx_active u t ∧ sx_head u' t = sx_head u t ∧ sx_count u' t ≠ 0 ∧
  sx_robState u' (sk_h u t) = sx_robState u (sk_h u t) ∧ sx_robTimer u' (sk_h u t) = sx_robTimer u (sk_h u t) ∧
  (sx_robState u (sk_h u t) = 0 → ∀ p, p < (sx_queued u).toNatClampNeg → sx_queue u p = nI (sk_h u t) → ∃ p', p' ≤ p ∧ p' < (sx_queued u').toNatClampNeg ∧ sx_queue u' p' = nI (sk_h u t))
theorem sk_HF_r {t : Nat} {u : SX} (h : sx_count u t ≠ 0) : sk_HF t u u := ⟨rfl, rfl, h, rfl, rfl, fun _ p a b => ⟨p, Nat.le_refl p, a, b⟩⟩
theorem sk_HF_t {t : Nat} {u v w : SX} (h : sk_HF t u v) (h' : sk_HF t v w) : sk_HF t u w := by
  obtain ⟨a1, a2, a3, a4, a5, a6⟩ := h
  obtain ⟨b1, b2, b3, b4, b5, b6⟩ := h'
  have e : sk_h v t = sk_h u t := by unfold sk_h; rw [a2]
  rw [e] at b4 b5 b6
  refine ⟨b1.trans a1, b2.trans a2, b3, b4.trans a4, b5.trans a5, fun hs p hp hq => ?_⟩
  obtain ⟨p', c1, c2, c3⟩ := a6 hs p hp hq
  obtain ⟨p2, d1, d2, d3⟩ := b6 (a4.trans hs) p' c2 c3
  exact ⟨p2, by omega, d2, d3⟩
/-- the oldest entry of t retires soon -/
def sk_DD (a b c m t : Nat) (u : SX) : Prop :=
  sx_active u t ≠ 0 ∧ sx_count u t ≠ 0 ∧
  ((sx_robState u (sk_h u t) = 2 ∧ a ≤ m) ∨ (sx_robState u (sk_h u t) = 1 ∧ ∃ τ, 1 ≤ τ ∧ τ ≤ 4 ∧ sx_robTimer u (sk_h u t) = nI τ ∧ τ + b ≤ m) ∨
   (sx_robState u (sk_h u t) = 0 ∧ ∃ p, p < (sx_queued u).toNatClampNeg ∧ sx_queue u p = nI (sk_h u t) ∧ p + c ≤ m))
theorem sk_DD_H {a b c m t : Nat} {u u' : SX} (h : sk_HF t u u') (d : sk_DD a b c m t u) : sk_DD a b c m t u' := by
  obtain ⟨a1, a2, a3, a4, a5, a6⟩ := h
  obtain ⟨d1, d2, d3⟩ := d
  have e : sk_h u' t = sk_h u t := by unfold sk_h; rw [a2]
  unfold sk_DD
  rw [e, a1, a4, a5]
  refine ⟨d1, a3, ?_⟩
  rcases d3 with d3 | d3 | ⟨d3, p, p1, p2, p3⟩
  · exact Or.inl d3
  · exact Or.inr (Or.inl d3)
  · obtain ⟨p', c1, c2, c3⟩ := a6 d3 p p1 p2
    exact Or.inr (Or.inr ⟨d3, p', c2, c3, by omega⟩)
def sk_PG (nt : Nat) (u u' : SX) : Prop :=
  sk_N nt u' < sk_N nt u ∨ (sk_N nt u' = sk_N nt u ∧ ∀ t, t < nt → sx_active u t ≠ 0 → sx_count u t ≠ 0 → sk_HF t u u')
theorem sk_PG_r {nt : Nat} {u : SX} : sk_PG nt u u := Or.inr ⟨rfl, fun _ _ _ h => sk_HF_r h⟩
theorem sk_PG_t {nt : Nat} {u v w : SX} (h : sk_PG nt u v) (h' : sk_PG nt v w) : sk_PG nt u w := by
  rcases h with h | ⟨h1, h2⟩
  · rcases h' with h' | ⟨h1', h2'⟩
    · exact Or.inl (by omega)
    · exact Or.inl (by omega)
  · rcases h' with h' | ⟨h1', h2'⟩
    · exact Or.inl (by omega)
    · refine Or.inr ⟨by omega, fun t ht ha hc => ?_⟩
      have q := h2 t ht ha hc
      exact sk_HF_t q (h2' t ht (by rw [q.1]; exact ha) q.2.2.1)
/-- the queue positions after a purge -/
theorem sk_PFh {lv st q q' : Nat → Int32} {n n' s : Nat} (hP : sk_PF lv st q n q' n') (hs : s < 48) (hl : lv s ≠ 0) (hz : st s = 0) :
    ∀ p, p < n → q p = nI s → ∃ p', p' ≤ p ∧ p' < n' ∧ q' p' = nI s := by
  intro p hp e
  obtain ⟨i, a, b, c, _⟩ := hP.2.2.1 p hp (by rw [e]; unfold sk_cd; rw [nI_clamp (by omega)]; exact ⟨hl, hz⟩)
  exact ⟨i, a, b, by rw [c, e]⟩
end
section
/-! stopThread -/
theorem sk_hs {nt : Nat} {hd ct : Nat → Nat} {a_head a_count a_robLive : Nat → Int32} (hG : (sk_RG nt hd ct a_head a_count a_robLive)) {t : Nat} (ht : t < nt) : t * 12 + (a_head t).toNatClampNeg = sk_s hd t 0 := by
  have g := hG.1 t ht
  rw [g.1, nI_clamp (by omega)]
  unfold sk_s
  rw [sk_m_0 g.2.1]
theorem sk_FAs {nt : Nat} {hd ct ct' : Nat → Nat} {a_robPc a_robState a_robNext a_robGuess a_archPc : Nat → Int32} (h : ∀ x, x < nt → ct' x ≤ ct x) (hA : (sk_FA nt hd ct a_robPc a_robState a_robNext a_robGuess a_archPc)) : (sk_FA nt hd ct' a_robPc a_robState a_robNext a_robGuess a_archPc) := by
  intro t ht
  have a := h t ht
  exact ⟨fun h0 => (hA t ht).1 (by omega), fun k hk => (hA t ht).2 k (by omega)⟩
section
variable {f_threads f_width f_window f_freeTop f_queued f_total : Int32} {a_op a_regsOf a_immOf a_sizeOf a_memory a_statusOf a_archPc a_retiredOf a_digestOf a_value a_ready a_free a_archMap a_map a_head a_count a_robPc a_robState a_robTimer a_robStop a_robDest a_robNew a_robOld a_robA a_robB a_robVal a_robAddr a_robNext a_robGuess a_robLive a_queue a_fetchPc a_fetchStop a_counter a_lastTarget a_active a_quota : Nat → Int32} {nt wd wn ex : Nat} {sn : Nat → Nat} {goal : Nat → sk_Y} {r0 op rg im sz : Nat → Int32} {hd ct ow : Nat → Nat} {cn : Nat → Int32} {Z : Nat → Nat → sk_V} {ft qn : Nat} {post : SX → Prop}
theorem sk_w_stop {t : Nat} (ht : t < nt) (hc : a_op = op ∧ a_regsOf = rg ∧ a_immOf = im ∧ a_sizeOf = sz) (hK : (sk_KK nt wd wn sn f_threads f_width f_window a_op a_sizeOf)) (I : (sk_IB nt hd ct sn Z cn ow ft ex f_freeTop a_op a_regsOf a_immOf a_memory a_value a_ready a_free a_archMap a_map a_head a_count a_robPc a_robState a_robTimer a_robStop a_robDest a_robNew a_robOld a_robA a_robB a_robVal a_robAddr a_robNext a_robLive a_fetchStop)) (hfq : f_queued = nI qn) (Q : (sk_QW nt hd ct qn a_robState a_queue)) (hA : (sk_FA nt hd ct a_robPc a_robState a_robNext a_robGuess a_archPc)) (hB : (sk_FB nt hd ct a_active a_robState a_robStop a_robNext a_robGuess a_archPc a_fetchPc a_fetchStop)) (hT : (sk_TT nt r0 f_total a_retiredOf))
    (hY : ∀ x, x < nt → x ≠ t → sk_YT x (sn x) a_op a_regsOf a_immOf (ct x) (Z x 0) (goal x) (a_active x) (a_quota x) (a_archPc x) (a_statusOf x) (a_retiredOf x) (a_digestOf x))
    (hg : ((Z t 0).2.1, (Z t 0).2.2, a_archPc t, a_statusOf t, a_retiredOf t, a_digestOf t) = goal t)
    (K : ∀ u', sk_IU nt wd wn ex sn goal r0 op rg im sz u' → sx_active u' = upd a_active t 0 → sx_quota u' = a_quota → (∀ x, x < nt → x ≠ t → a_count x ≠ 0 → sk_HF x (f_threads, f_width, f_window, f_freeTop, f_queued, f_total, a_op, a_regsOf, a_immOf, a_sizeOf, a_memory, a_statusOf, a_archPc, a_retiredOf, a_digestOf, a_value, a_ready, a_free, a_archMap, a_map, a_head, a_count, a_robPc, a_robState, a_robTimer, a_robStop, a_robDest, a_robNew, a_robOld, a_robA, a_robB, a_robVal, a_robAddr, a_robNext, a_robGuess, a_robLive, a_queue, a_fetchPc, a_fetchStop, a_counter, a_lastTarget, a_active, a_quota) u') → post u') :
    wpX_stopThread post (f_threads, f_width, f_window, f_freeTop, f_queued, f_total, a_op, a_regsOf, a_immOf, a_sizeOf, a_memory, a_statusOf, a_archPc, a_retiredOf, a_digestOf, a_value, a_ready, a_free, a_archMap, a_map, a_head, a_count, a_robPc, a_robState, a_robTimer, a_robStop, a_robDest, a_robNew, a_robOld, a_robA, a_robB, a_robVal, a_robAddr, a_robNext, a_robGuess, a_robLive, a_queue, a_fetchPc, a_fetchStop, a_counter, a_lastTarget, a_active, a_quota) (nI t) := by
  have h4 := I.1.2.2.2.2
  refine sk_w_squash (keep := 0) ht (Nat.zero_le _) hfq I Q ?_
  intro ft' qn' ow' ct' rd' fr' mp' lv' co' qu' c1 c2 I' Q' QQ' hP
  have cle : ∀ x, x < nt → ct' x ≤ ct x := by
    intro x hx
    by_cases e : x = t
    · rw [e, c1]; omega
    · rw [c2 x e]; omega
  refine And.intro (vp_in_nI (by omega) (by decide)) (nm_r (e' := upd a_active t 0) (by rw [nI_clamp (by omega), sk_b0]) ?_)
  refine K _ (?_ : (sk_IV nt wd wn ex sn goal r0 op rg im sz f_threads f_width f_window (nI ft') (nI qn') f_total a_op a_regsOf a_immOf a_sizeOf a_memory a_statusOf a_archPc a_retiredOf a_digestOf a_value rd' fr' a_archMap mp' a_head co' a_robPc a_robState a_robTimer a_robStop a_robDest a_robNew a_robOld a_robA a_robB a_robVal a_robAddr a_robNext a_robGuess lv' qu' a_fetchPc a_fetchStop a_counter a_lastTarget (upd a_active t 0) a_quota)) rfl rfl ?_
  · refine ⟨hc, hd, ct', ow', cn, Z, ft', qn', hK, I', rfl, Q', QQ', sk_FAs cle hA, ?_, ?_, hT⟩
    · intro x hx ha
      by_cases e : x = t
      · rw [e, pk_us] at ha; exact absurd rfl ha
      · rw [pk_un e] at ha
        rw [c2 x e]
        exact hB x hx ha
    · intro x hx
      by_cases e : x = t
      · rw [e, pk_us, c1]
        exact ⟨fun z => absurd rfl z, fun _ => ⟨rfl, hg⟩⟩
      · rw [pk_un e, c2 x e]
        exact hY x hx e
  · intro x hx e hcx
    have g := I.1.1 x hx
    have g' := I'.1.1 x hx
    have hne : ct x ≠ 0 := by intro z; rw [g.2.2.1, z] at hcx; exact hcx rfl
    have eh : sk_h (f_threads, f_width, f_window, f_freeTop, f_queued, f_total, a_op, a_regsOf, a_immOf, a_sizeOf, a_memory, a_statusOf, a_archPc, a_retiredOf, a_digestOf, a_value, a_ready, a_free, a_archMap, a_map, a_head, a_count, a_robPc, a_robState, a_robTimer, a_robStop, a_robDest, a_robNew, a_robOld, a_robA, a_robB, a_robVal, a_robAddr, a_robNext, a_robGuess, a_robLive, a_queue, a_fetchPc, a_fetchStop, a_counter, a_lastTarget, a_active, a_quota) x = sk_s hd x 0 := sk_hs I.1 hx
    refine ⟨pk_un e, rfl, ?_, rfl, rfl, ?_⟩
    · show co' x ≠ 0
      rw [g'.2.2.1, c2 x e]
      exact nI_ne0 (by omega) (by omega)
    · rw [eh]
      intro hz p hp hq
      have hp' : p < qn := by
        have : f_queued.toNatClampNeg = qn := by rw [hfq, nI_clamp (by have := Q.1; omega)]
        have hp2 : p < f_queued.toNatClampNeg := hp
        omega
      obtain ⟨p', a, b, c⟩ := sk_PFh hP (sk_sl I.1 hx (by omega)) (I'.1.2.1 x 0 hx (by rw [c2 x e]; omega)) hz p hp' hq
      refine ⟨p', a, ?_, c⟩
      show p' < (nI qn').toNatClampNeg
      rw [nI_clamp (by have := Q'.1; omega)]; exact b
end
end
section
/-! what retirement keeps -/
theorem sk_N_stop {nt t : Nat} {u u' : SX} (h4 : nt ≤ 4) (ht : t < nt) (ea : sx_active u' = upd (sx_active u) t 0) (eq : sx_quota u' = sx_quota u) (ha : sx_active u t ≠ 0) : sk_N nt u' < sk_N nt u := by
  unfold sk_N
  rw [ea, eq]
  have b := sk_4u (t := t) (f := fun x => if x < nt ∧ sx_active u x ≠ 0 then (sx_quota u x).toNatClampNeg + 1 else 0)
    (g := fun x => if x < nt ∧ upd (sx_active u) t 0 x ≠ 0 then (sx_quota u x).toNatClampNeg + 1 else 0) (by omega)
    (fun x hx => by
      show (if x < nt ∧ upd (sx_active u) t 0 x ≠ 0 then (sx_quota u x).toNatClampNeg + 1 else 0) = _
      rw [pk_un hx])
  have c : (if t < nt ∧ upd (sx_active u) t 0 t ≠ 0 then (sx_quota u t).toNatClampNeg + 1 else 0) = 0 := if_neg (fun z => z.2 pk_us)
  have d : (if t < nt ∧ sx_active u t ≠ 0 then (sx_quota u t).toNatClampNeg + 1 else 0) = (sx_quota u t).toNatClampNeg + 1 := if_pos ⟨ht, ha⟩
  rw [c, d] at b
  omega
theorem sk_N_ret {nt t q : Nat} {u u' : SX} (h4 : nt ≤ 4) (ht : t < nt) (hq : q ≤ 40) (ea : sx_active u' = sx_active u) (e : sx_quota u t = nI (q + 1)) (eq : sx_quota u' = upd (sx_quota u) t (nI q)) (ha : sx_active u t ≠ 0) : sk_N nt u' < sk_N nt u := by
  unfold sk_N
  rw [ea, eq]
  have b := sk_4u (t := t) (f := fun x => if x < nt ∧ sx_active u x ≠ 0 then (sx_quota u x).toNatClampNeg + 1 else 0)
    (g := fun x => if x < nt ∧ sx_active u x ≠ 0 then (upd (sx_quota u) t (nI q) x).toNatClampNeg + 1 else 0) (by omega)
    (fun x hx => by
      show (if x < nt ∧ sx_active u x ≠ 0 then (upd (sx_quota u) t (nI q) x).toNatClampNeg + 1 else 0) = _
      rw [pk_un hx])
  have c : (if t < nt ∧ sx_active u t ≠ 0 then (upd (sx_quota u) t (nI q) t).toNatClampNeg + 1 else 0) = q + 1 := by
    rw [if_pos ⟨ht, ha⟩, pk_us, nI_clamp (by omega)]
  have d : (if t < nt ∧ sx_active u t ≠ 0 then (sx_quota u t).toNatClampNeg + 1 else 0) = q + 1 + 1 := by
    rw [if_pos ⟨ht, ha⟩, e, nI_clamp (by omega)]
  rw [c, d] at b
  omega
section
variable {f_threads f_width f_window f_freeTop f_queued f_total : Int32} {a_op a_regsOf a_immOf a_sizeOf a_memory a_statusOf a_archPc a_retiredOf a_digestOf a_value a_ready a_free a_archMap a_map a_head a_count a_robPc a_robState a_robTimer a_robStop a_robDest a_robNew a_robOld a_robA a_robB a_robVal a_robAddr a_robNext a_robGuess a_robLive a_queue a_fetchPc a_fetchStop a_counter a_lastTarget a_active a_quota : Nat → Int32} {nt wd wn ex : Nat} {sn : Nat → Nat} {goal : Nat → sk_Y} {r0 op rg im sz : Nat → Int32} {hd ct ow : Nat → Nat} {cn : Nat → Int32} {Z : Nat → Nat → sk_V} {ft qn : Nat}
theorem sk_cmQ {t c : Nat} (ht : t < nt) (hc : ct t = c + 1) (hst : a_robState (sk_s hd t 0) = 2) (hG : (sk_RG nt hd ct a_head a_count a_robLive)) (Q : (sk_QW nt hd ct qn a_robState a_queue)) (QQ : (sk_QQ nt hd ct qn a_robState a_queue)) :
    (sk_QW nt (sk_hn hd t) (sk_u ct t c) qn a_robState a_queue) ∧ (sk_QQ nt (sk_hn hd t) (sk_u ct t c) qn a_robState a_queue) := by
  have g := hG.1 t ht
  refine ⟨⟨Q.1, Q.2.1, Q.2.2.1, fun x k hx hk hs => ?_⟩, fun i hi => ?_⟩
  · have gx := hG.1 x hx
    by_cases e : x = t
    · subst e
      rw [sk_us] at hk
      rw [sk_hn_t g.2.1 (by omega)] at hs ⊢
      exact Q.2.2.2 x (k + 1) hx (by omega) hs
    · rw [sk_un e] at hk
      rw [sk_hn_n e] at hs ⊢
      exact Q.2.2.2 x k hx hk hs
  · obtain ⟨x, k, hx, hk, a, b⟩ := QQ i hi
    by_cases e : x = t
    · subst e
      have k0 : k ≠ 0 := by
        intro z; rw [z, hst] at b; exact absurd b (by decide)
      obtain ⟨k', rfl⟩ : ∃ k', k = k' + 1 := ⟨k - 1, by omega⟩
      refine ⟨x, k', hx, by rw [sk_us]; omega, ?_⟩
      rw [sk_hn_t g.2.1 (by omega)]
      exact ⟨a, b⟩
    · refine ⟨x, k, hx, by rw [sk_un e]; exact hk, ?_⟩
      rw [sk_hn_n e]
      exact ⟨a, b⟩
theorem sk_cmFA {t c : Nat} (ht : t < nt) (hc : ct t = c + 1) (hst : a_robState (sk_s hd t 0) = 2) (hG : (sk_RG nt hd ct a_head a_count a_robLive)) (h : (sk_FA nt hd ct a_robPc a_robState a_robNext a_robGuess a_archPc)) :
    (sk_FA nt (sk_hn hd t) (sk_u ct t c) a_robPc a_robState a_robNext a_robGuess (upd a_archPc t (a_robNext (sk_s hd t 0)))) := by
  have g := hG.1 t ht
  intro x hx
  have gx := hG.1 x hx
  by_cases e : x = t
  · subst e
    rw [sk_us, pk_us]
    refine ⟨fun h0 => ?_, fun k hk => ?_⟩
    · rw [sk_hn_t g.2.1 (by omega), (h x hx).2 0 (by omega), if_pos hst]
    · rw [sk_hn_t g.2.1 (by omega), sk_hn_t g.2.1 (by omega)]
      exact (h x hx).2 (k + 1) (by omega)
  · rw [sk_un e, pk_un e]
    refine ⟨fun h0 => ?_, fun k hk => ?_⟩
    · rw [sk_hn_n e]; exact (h x hx).1 h0
    · rw [sk_hn_n e, sk_hn_n e]; exact (h x hx).2 k hk
theorem sk_cmFB {t c : Nat} (ht : t < nt) (hc : ct t = c + 1) (hst : a_robState (sk_s hd t 0) = 2) (hsp : a_robStop (sk_s hd t 0) = 0) (hG : (sk_RG nt hd ct a_head a_count a_robLive)) (h : (sk_FB nt hd ct a_active a_robState a_robStop a_robNext a_robGuess a_archPc a_fetchPc a_fetchStop)) :
    (sk_FB nt (sk_hn hd t) (sk_u ct t c) a_active a_robState a_robStop a_robNext a_robGuess (upd a_archPc t (a_robNext (sk_s hd t 0))) a_fetchPc a_fetchStop) := by
  have g := hG.1 t ht
  intro x hx ha
  have gx := hG.1 x hx
  have hx' := h x hx ha
  by_cases e : x = t
  · subst e
    rw [sk_us, pk_us]
    refine ⟨fun h0 => ?_, fun k hk => ?_⟩
    · have q := hx'.2 0 (by omega)
      have fs0 : a_fetchStop x = 0 := by
        by_cases z : a_fetchStop x = 0
        · exact z
        · rcases q.2 z with y | y
          · rw [hsp] at y; exact absurd y (by decide)
          · rw [hsp] at y; exact absurd y (by decide)
      refine ⟨?_, fs0⟩
      rw [q.1 fs0, if_pos hst]
    · rw [sk_hn_t g.2.1 (by omega)]
      exact hx'.2 (k + 1) (by omega)
  · rw [sk_un e, pk_un e]
    refine ⟨fun h0 => hx'.1 h0, fun k hk => ?_⟩
    rw [sk_hn_n e]; exact hx'.2 k hk
/-- the oldest entry stops the thread -/
theorem sk_gstop {t : Nat} (ht : t < nt) (hc : 0 < ct t) (hst : a_robState (sk_s hd t 0) = 2) (hsp : ¬ a_robStop (sk_s hd t 0) = 0) (hE : (sk_EN nt sn a_op a_regsOf a_immOf hd ct Z a_fetchStop a_robPc a_robState a_robTimer a_robStop a_robDest a_robNew a_robOld a_robA a_robB a_robVal a_robAddr a_robNext)) (hA : (sk_FA nt hd ct a_robPc a_robState a_robNext a_robGuess a_archPc))
    {g : sk_Y} {q : Nat} (hso : a_statusOf t = 0) (hy : sk_yn t (sn t) a_op a_regsOf a_immOf (q + 1) ((Z t 0).2.1, (Z t 0).2.2, a_archPc t, a_statusOf t, a_retiredOf t, a_digestOf t) = g) :
    ((Z t 0).2.1, (Z t 0).2.2, a_archPc t, a_robStop (sk_s hd t 0), a_retiredOf t, a_digestOf t) = g := by
  have epc := (hA t ht).1 hc
  have key : sk_ys t (sn t) a_op a_regsOf a_immOf ((Z t 0).2.1, (Z t 0).2.2, a_archPc t, a_statusOf t, a_retiredOf t, a_digestOf t) = ((Z t 0).2.1, (Z t 0).2.2, a_archPc t, a_robStop (sk_s hd t 0), a_retiredOf t, a_digestOf t) := by
    rw [← epc]
    rcases hE.2 t 0 ht hc with ⟨p, hp, e1, e2, e3, e4⟩ | ⟨_, e1, e2, e3, ⟨e4, p, e5, e6, e7⟩ | ⟨e4, e5⟩⟩
    · rcases e4 with ⟨z, _⟩ | ⟨_, eo⟩
      · rw [hst] at z; exact absurd z (by decide)
      · have q := sk_yo_st (st := a_statusOf t) (rc := a_retiredOf t) (dg := a_digestOf t) eo hsp
        rw [e1] at q ⊢
        rw [sk_ys_r hp (hE.1 t ht) e2]
        exact q
    · rw [e4, e6, sk_ys_h e5 (hE.1 t ht) e7]
    · rw [e4, sk_ys_p e5]
  rw [sk_yn_go hso, key] at hy
  rw [sk_yn_stop hsp] at hy
  exact hy
/-- the state behind a commit -/
theorem sk_cmIV {t c q ft' : Nat} {ow' : Nat → Nat} {rd' fr' am' me' : Nat → Int32} {dv : Int32} (ht : t < nt) (hc : ct t = c + 1) (hst : a_robState (sk_s hd t 0) = 2) (hsp : a_robStop (sk_s hd t 0) = 0)
    (hce : a_op = op ∧ a_regsOf = rg ∧ a_immOf = im ∧ a_sizeOf = sz) (ha : a_active t ≠ 0) (hq40 : q + 1 ≤ 40) (hqt : a_quota t = nI (q + 1)) (J : (sk_IC nt wd wn ex sn goal r0 hd ct ow cn Z ft qn f_threads f_width f_window f_freeTop f_queued f_total a_op a_regsOf a_immOf a_sizeOf a_memory a_statusOf a_archPc a_retiredOf a_digestOf a_value a_ready a_free a_archMap a_map a_head a_count a_robPc a_robState a_robTimer a_robStop a_robDest a_robNew a_robOld a_robA a_robB a_robVal a_robAddr a_robNext a_robGuess a_robLive a_queue a_fetchPc a_fetchStop a_counter a_lastTarget a_active a_quota))
    (ey : sk_ys t (sn t) a_op a_regsOf a_immOf ((Z t 0).2.1, (Z t 0).2.2, a_archPc t, a_statusOf t, a_retiredOf t, a_digestOf t) = ((Z t 1).2.1, (Z t 1).2.2, a_robNext (sk_s hd t 0), a_statusOf t, a_retiredOf t + 1, dv))
    (I' : (sk_IB nt (sk_hn hd t) (sk_u ct t c) sn (sk_Zs Z t) cn ow' ft' ex (nI ft') a_op a_regsOf a_immOf me' a_value rd' fr' am' a_map (upd a_head t (nI (sk_hn hd t t))) (upd a_count t (nI c)) a_robPc a_robState a_robTimer a_robStop a_robDest a_robNew a_robOld a_robA a_robB a_robVal a_robAddr a_robNext (upd a_robLive (sk_s hd t 0) 0) a_fetchStop)) :
    (sk_IV nt wd wn ex sn goal r0 op rg im sz f_threads f_width f_window (nI ft') f_queued (f_total + 1) a_op a_regsOf a_immOf a_sizeOf me' a_statusOf (upd a_archPc t (a_robNext (sk_s hd t 0))) (upd a_retiredOf t (a_retiredOf t + 1)) (upd a_digestOf t dv) a_value rd' fr' am' a_map (upd a_head t (nI (sk_hn hd t t))) (upd a_count t (nI c)) a_robPc a_robState a_robTimer a_robStop a_robDest a_robNew a_robOld a_robA a_robB a_robVal a_robAddr a_robNext a_robGuess (upd a_robLive (sk_s hd t 0) 0) a_queue a_fetchPc a_fetchStop a_counter a_lastTarget a_active (upd a_quota t (nI q))) := by
  obtain ⟨hK, I, hfq, Q, QQ, hA, hB, hY, hT⟩ := J
  have h4 := I.1.2.2.2.2
  have qq := sk_cmQ ht hc hst I.1 Q QQ
  refine ⟨hce, sk_hn hd t, sk_u ct t c, ow', cn, sk_Zs Z t, ft', qn, hK, I', hfq, qq.1, qq.2, sk_cmFA ht hc hst I.1 hA, sk_cmFB ht hc hst hsp I.1 hB, ?_, ?_⟩
  · intro x hx
    by_cases e : x = t
    · subst e
      obtain ⟨hso, q', hq', eq, hy⟩ := (hY x hx).1 ha
      have : q' = q + 1 := by
        rw [hqt] at eq
        exact ((nI_eq (by omega) (by omega)).mp eq).symm
      subst this
      rw [pk_us, pk_us, pk_us, pk_us, sk_us, sk_Zs_t]
      rw [sk_yn_go hso, ey] at hy
      exact ⟨fun _ => ⟨hso, q, by omega, rfl, hy⟩, fun z => absurd z ha⟩
    · rw [pk_un e, pk_un e, pk_un e, pk_un e, sk_un e, sk_Zs_n e]
      exact hY x hx
  · refine ⟨?_, fun x hx => by rw [pk_un (by omega)]; exact hT.2 x hx⟩
    rw [sk_4i1 (f := fun x => a_retiredOf x - r0 x) (t := t) (by omega) (fun x hx => by show upd a_retiredOf t (a_retiredOf t + 1) x - r0 x = _; rw [pk_un hx]) (by show upd a_retiredOf t (a_retiredOf t + 1) t - r0 t = a_retiredOf t - r0 t + 1; rw [pk_us]; grind)]
    rw [← hT.1]
end
end
section
/-! commit and retireOne -/
section
variable {f_threads f_width f_window f_freeTop f_queued f_total : Int32} {a_op a_regsOf a_immOf a_sizeOf a_memory a_statusOf a_archPc a_retiredOf a_digestOf a_value a_ready a_free a_archMap a_map a_head a_count a_robPc a_robState a_robTimer a_robStop a_robDest a_robNew a_robOld a_robA a_robB a_robVal a_robAddr a_robNext a_robGuess a_robLive a_queue a_fetchPc a_fetchStop a_counter a_lastTarget a_active a_quota : Nat → Int32} {post : SX → Prop}
theorem sk_w_c125 {t s : Nat} {x4 : Int32} (ht : t < 4) (hs : s < 48)
    (K : post (f_threads, f_width, f_window, f_freeTop, f_queued, f_total, a_op, a_regsOf, a_immOf, a_sizeOf, a_memory, a_statusOf, upd a_archPc t (a_robNext s), upd a_retiredOf t (a_retiredOf t + 1), upd a_digestOf t (a_digestOf t * 31 + 7 * a_robPc s + x4), a_value, a_ready, a_free, a_archMap, a_map, a_head, a_count, a_robPc, a_robState, a_robTimer, a_robStop, a_robDest, a_robNew, a_robOld, a_robA, a_robB, a_robVal, a_robAddr, a_robNext, a_robGuess, a_robLive, a_queue, a_fetchPc, a_fetchStop, a_counter, a_lastTarget, a_active, a_quota)) :
    wX_commit_125 post (nI t) (nI s) x4 f_threads f_width f_window f_freeTop f_queued f_total a_op a_regsOf a_immOf a_sizeOf a_memory a_statusOf a_archPc a_retiredOf a_digestOf a_value a_ready a_free a_archMap a_map a_head a_count a_robPc a_robState a_robTimer a_robStop a_robDest a_robNew a_robOld a_robA a_robB a_robVal a_robAddr a_robNext a_robGuess a_robLive a_queue a_fetchPc a_fetchStop a_counter a_lastTarget a_active a_quota := by
  have vt : vp_in (nI t) 4 := vp_in_nI ht (by decide)
  have vs : vp_in (nI s) 48 := vp_in_nI hs (by decide)
  have ct : (nI t).toNatClampNeg = t := nI_clamp (by omega)
  have cs : (nI s).toNatClampNeg = s := nI_clamp (by omega)
  exact And.intro vt (And.intro vs (And.intro vt (nm_r (e' := upd a_digestOf t (a_digestOf t * 31 + 7 * a_robPc s + x4)) (by rw [ct, cs])
    (And.intro vs (And.intro vt (nm_r (e' := upd a_archPc t (a_robNext s)) (by rw [ct, cs])
    (And.intro vt (And.intro vt (nm_r (e' := upd a_retiredOf t (a_retiredOf t + 1)) (by rw [ct]) K)))))))))
theorem sk_w_cmd {t s p d pn po ft : Nat} (ht : t < 4) (hs : s < 48) (hp : p < 24) (epc : a_robPc s = nI p) (hd8 : d < 8) (ede : a_robDest s = nI d) (enw : a_robNew s = nI pn) (eol : a_robOld s = nI po)
    (hpo : po < 56) (hf : f_freeTop = nI ft) (hft : ft < 56)
    (K : post (f_threads, f_width, f_window, nI (ft + 1), f_queued, f_total, a_op, a_regsOf, a_immOf, a_sizeOf, a_memory, a_statusOf, upd a_archPc t (a_robNext s), upd a_retiredOf t (a_retiredOf t + 1), upd a_digestOf t (a_digestOf t * 31 + 7 * a_robPc s + a_robVal s), a_value, upd a_ready po 1, upd a_free ft (nI po), upd a_archMap (t * 8 + d) (nI pn), a_map, a_head, a_count, a_robPc, a_robState, a_robTimer, a_robStop, a_robDest, a_robNew, a_robOld, a_robA, a_robB, a_robVal, a_robAddr, a_robNext, a_robGuess, a_robLive, a_queue, a_fetchPc, a_fetchStop, a_counter, a_lastTarget, a_active, a_quota)) :
    wpX_commit post (f_threads, f_width, f_window, f_freeTop, f_queued, f_total, a_op, a_regsOf, a_immOf, a_sizeOf, a_memory, a_statusOf, a_archPc, a_retiredOf, a_digestOf, a_value, a_ready, a_free, a_archMap, a_map, a_head, a_count, a_robPc, a_robState, a_robTimer, a_robStop, a_robDest, a_robNew, a_robOld, a_robA, a_robB, a_robVal, a_robAddr, a_robNext, a_robGuess, a_robLive, a_queue, a_fetchPc, a_fetchStop, a_counter, a_lastTarget, a_active, a_quota) (nI t) (nI s) := by
  have vs : vp_in (nI s) 48 := vp_in_nI hs (by decide)
  have cs : (nI s).toNatClampNeg = s := nI_clamp (by omega)
  refine And.intro vs ?_
  rw [cs]
  refine And.intro (by rw [epc, sk_x24, nI_add]; exact vp_in_nI (by omega) (by decide)) ?_
  refine nm_e (And.intro vs (nm_e (And.intro vs (br_f (by rw [ede]; exact nI_pos (by omega)) (And.intro vs (And.intro vs (And.intro ?_ ?_)))))))
  · rw [ede, sk_x8, nI_add]; exact vp_in_nI (by omega) (by decide)
  refine nm_r (e' := upd a_archMap (t * 8 + d) (nI pn)) (by rw [ede, enw, sk_x8, nI_add, nI_clamp (by omega)]) (And.intro vs ?_)
  rw [eol]
  exact sk_w_give hpo hf hft (sk_w_c125 ht hs K)
theorem sk_w_cms {t s p a : Nat} (ht : t < 4) (hs : s < 48) (hp : p < 24) (epc : a_robPc s = nI p) (ede : a_robDest s = -1) (ho : a_op (t * 24 + p) = 11) (ha : a < 16) (ead : a_robAddr s = nI a)
    (K : post (f_threads, f_width, f_window, f_freeTop, f_queued, f_total, a_op, a_regsOf, a_immOf, a_sizeOf, upd a_memory (t * 16 + a) (a_robVal s), a_statusOf, upd a_archPc t (a_robNext s), upd a_retiredOf t (a_retiredOf t + 1), upd a_digestOf t (a_digestOf t * 31 + 7 * a_robPc s + (5 * a_robAddr s + a_robVal s)), a_value, a_ready, a_free, a_archMap, a_map, a_head, a_count, a_robPc, a_robState, a_robTimer, a_robStop, a_robDest, a_robNew, a_robOld, a_robA, a_robB, a_robVal, a_robAddr, a_robNext, a_robGuess, a_robLive, a_queue, a_fetchPc, a_fetchStop, a_counter, a_lastTarget, a_active, a_quota)) :
    wpX_commit post (f_threads, f_width, f_window, f_freeTop, f_queued, f_total, a_op, a_regsOf, a_immOf, a_sizeOf, a_memory, a_statusOf, a_archPc, a_retiredOf, a_digestOf, a_value, a_ready, a_free, a_archMap, a_map, a_head, a_count, a_robPc, a_robState, a_robTimer, a_robStop, a_robDest, a_robNew, a_robOld, a_robA, a_robB, a_robVal, a_robAddr, a_robNext, a_robGuess, a_robLive, a_queue, a_fetchPc, a_fetchStop, a_counter, a_lastTarget, a_active, a_quota) (nI t) (nI s) := by
  have vs : vp_in (nI s) 48 := vp_in_nI hs (by decide)
  have cs : (nI s).toNatClampNeg = s := nI_clamp (by omega)
  refine And.intro vs ?_
  rw [cs]
  refine And.intro (by rw [epc, sk_x24, nI_add]; exact vp_in_nI (by omega) (by decide)) ?_
  refine nm_r (e' := 11) (by rw [epc, sk_x24, nI_add, nI_clamp (by omega)]; exact ho) ?_
  refine And.intro vs (nm_e (And.intro vs (br_t (by rw [ede]; exact sk_m1lt) (br_t rfl (And.intro vs (And.intro vs (And.intro ?_ ?_)))))))
  · rw [ead, sk_x16, nI_add]; exact vp_in_nI (by omega) (by decide)
  refine nm_r (e' := upd a_memory (t * 16 + a) (a_robVal s)) (by rw [ead, sk_x16, nI_add, nI_clamp (by omega)]) (And.intro vs (And.intro vs (nm_e ?_)))
  exact sk_w_c125 ht hs K
theorem sk_w_cmo {t s p : Nat} (ht : t < 4) (hs : s < 48) (hp : p < 24) (epc : a_robPc s = nI p) (ede : a_robDest s = -1) (ho : ¬ a_op (t * 24 + p) = 11)
    (K : post (f_threads, f_width, f_window, f_freeTop, f_queued, f_total, a_op, a_regsOf, a_immOf, a_sizeOf, a_memory, a_statusOf, upd a_archPc t (a_robNext s), upd a_retiredOf t (a_retiredOf t + 1), upd a_digestOf t (a_digestOf t * 31 + 7 * a_robPc s + a_robNext s), a_value, a_ready, a_free, a_archMap, a_map, a_head, a_count, a_robPc, a_robState, a_robTimer, a_robStop, a_robDest, a_robNew, a_robOld, a_robA, a_robB, a_robVal, a_robAddr, a_robNext, a_robGuess, a_robLive, a_queue, a_fetchPc, a_fetchStop, a_counter, a_lastTarget, a_active, a_quota)) :
    wpX_commit post (f_threads, f_width, f_window, f_freeTop, f_queued, f_total, a_op, a_regsOf, a_immOf, a_sizeOf, a_memory, a_statusOf, a_archPc, a_retiredOf, a_digestOf, a_value, a_ready, a_free, a_archMap, a_map, a_head, a_count, a_robPc, a_robState, a_robTimer, a_robStop, a_robDest, a_robNew, a_robOld, a_robA, a_robB, a_robVal, a_robAddr, a_robNext, a_robGuess, a_robLive, a_queue, a_fetchPc, a_fetchStop, a_counter, a_lastTarget, a_active, a_quota) (nI t) (nI s) := by
  have vs : vp_in (nI s) 48 := vp_in_nI hs (by decide)
  have cs : (nI s).toNatClampNeg = s := nI_clamp (by omega)
  refine And.intro vs ?_
  rw [cs]
  refine And.intro (by rw [epc, sk_x24, nI_add]; exact vp_in_nI (by omega) (by decide)) ?_
  refine nm_r (e' := a_op (t * 24 + p)) (by rw [epc, sk_x24, nI_add, nI_clamp (by omega)]) ?_
  refine And.intro vs (nm_e (And.intro vs (br_t (by rw [ede]; exact sk_m1lt) (br_f ho (And.intro vs (nm_e ?_))))))
  exact sk_w_c125 ht hs K
theorem sk_w_111 {t c q : Nat} {z0 : Int32} (ht : t < 4) (hc : a_count t = nI (c + 1)) (hq : a_quota t = nI (q + 1))
    (K : post (f_threads, f_width, f_window, f_freeTop, f_queued, f_total + 1, a_op, a_regsOf, a_immOf, a_sizeOf, a_memory, a_statusOf, a_archPc, a_retiredOf, a_digestOf, a_value, a_ready, a_free, a_archMap, a_map, upd a_head t z0, upd a_count t (nI c), a_robPc, a_robState, a_robTimer, a_robStop, a_robDest, a_robNew, a_robOld, a_robA, a_robB, a_robVal, a_robAddr, a_robNext, a_robGuess, a_robLive, a_queue, a_fetchPc, a_fetchStop, a_counter, a_lastTarget, a_active, upd a_quota t (nI q))) :
    wX_retireOne_111 post (nI t) z0 (nI t) f_threads f_width f_window f_freeTop f_queued f_total a_op a_regsOf a_immOf a_sizeOf a_memory a_statusOf a_archPc a_retiredOf a_digestOf a_value a_ready a_free a_archMap a_map a_head a_count a_robPc a_robState a_robTimer a_robStop a_robDest a_robNew a_robOld a_robA a_robB a_robVal a_robAddr a_robNext a_robGuess a_robLive a_queue a_fetchPc a_fetchStop a_counter a_lastTarget a_active a_quota := by
  have vt : vp_in (nI t) 4 := vp_in_nI ht (by decide)
  have ct : (nI t).toNatClampNeg = t := nI_clamp (by omega)
  exact And.intro vt (nm_r (e' := upd a_head t z0) (by rw [ct]) (And.intro vt (And.intro vt (nm_r (e' := upd a_count t (nI c)) (by rw [ct, hc, nI_pred])
    (And.intro vt (And.intro vt (nm_r (e' := upd a_quota t (nI q)) (by rw [ct, hq, nI_pred]) (nm_e K))))))))
theorem sk_w_tail {t s c q : Nat} {hd : Nat → Nat} (ht : t < 4) (hs : s < 48) (hh : a_head t = nI (hd t)) (h12 : hd t < 12) (hc : a_count t = nI (c + 1)) (hq : a_quota t = nI (q + 1))
    (K : post (f_threads, f_width, f_window, f_freeTop, f_queued, f_total + 1, a_op, a_regsOf, a_immOf, a_sizeOf, a_memory, a_statusOf, a_archPc, a_retiredOf, a_digestOf, a_value, a_ready, a_free, a_archMap, a_map, upd a_head t (nI (sk_hn hd t t)), upd a_count t (nI c), a_robPc, a_robState, a_robTimer, a_robStop, a_robDest, a_robNew, a_robOld, a_robA, a_robB, a_robVal, a_robAddr, a_robNext, a_robGuess, upd a_robLive s 0, a_queue, a_fetchPc, a_fetchStop, a_counter, a_lastTarget, a_active, upd a_quota t (nI q))) :
    vp_in (nI s) 48 ∧ ∀ lv : Nat → Int32, lv = upd a_robLive s (vp_nar .boolean 0) → (vp_in (nI t) 4 ∧
      ((a_head t = 11 → wX_retireOne_111 post (nI t) 0 (nI t) f_threads f_width f_window f_freeTop f_queued f_total a_op a_regsOf a_immOf a_sizeOf a_memory a_statusOf a_archPc a_retiredOf a_digestOf a_value a_ready a_free a_archMap a_map a_head a_count a_robPc a_robState a_robTimer a_robStop a_robDest a_robNew a_robOld a_robA a_robB a_robVal a_robAddr a_robNext a_robGuess lv a_queue a_fetchPc a_fetchStop a_counter a_lastTarget a_active a_quota) ∧
       (¬ a_head t = 11 → (vp_in (nI t) 4 ∧ wX_retireOne_111 post (nI t) (a_head t + 1) (nI t) f_threads f_width f_window f_freeTop f_queued f_total a_op a_regsOf a_immOf a_sizeOf a_memory a_statusOf a_archPc a_retiredOf a_digestOf a_value a_ready a_free a_archMap a_map a_head a_count a_robPc a_robState a_robTimer a_robStop a_robDest a_robNew a_robOld a_robA a_robB a_robVal a_robAddr a_robNext a_robGuess lv a_queue a_fetchPc a_fetchStop a_counter a_lastTarget a_active a_quota)))) := by
  have vt : vp_in (nI t) 4 := vp_in_nI ht (by decide)
  have ct : (nI t).toNatClampNeg = t := nI_clamp (by omega)
  have cs : (nI s).toNatClampNeg = s := nI_clamp (by omega)
  refine And.intro (vp_in_nI hs (by decide)) (nm_r (e' := upd a_robLive s 0) (by rw [sk_b0]) (And.intro vt ?_))
  rw [hh]
  unfold sk_hn at K
  rw [sk_us] at K
  refine pk_eq (hd t) 11 (fun z => ?_) (fun z => And.intro vt ?_)
  · rw [if_pos z] at K
    exact sk_w_111 ht hc hq K
  · rw [if_neg z] at K
    rw [nI_1]
    exact sk_w_111 ht hc hq K
end
section
variable {f_threads f_width f_window f_freeTop f_queued f_total : Int32} {a_op a_regsOf a_immOf a_sizeOf a_memory a_statusOf a_archPc a_retiredOf a_digestOf a_value a_ready a_free a_archMap a_map a_head a_count a_robPc a_robState a_robTimer a_robStop a_robDest a_robNew a_robOld a_robA a_robB a_robVal a_robAddr a_robNext a_robGuess a_robLive a_queue a_fetchPc a_fetchStop a_counter a_lastTarget a_active a_quota : Nat → Int32} {nt wd wn ex : Nat} {sn : Nat → Nat} {goal : Nat → sk_Y} {r0 op rg im sz : Nat → Int32} {post : SX → Prop}
theorem sk_w_ret1 {t : Nat} (ht : t < nt) (I0 : (sk_IV nt wd wn ex sn goal r0 op rg im sz f_threads f_width f_window f_freeTop f_queued f_total a_op a_regsOf a_immOf a_sizeOf a_memory a_statusOf a_archPc a_retiredOf a_digestOf a_value a_ready a_free a_archMap a_map a_head a_count a_robPc a_robState a_robTimer a_robStop a_robDest a_robNew a_robOld a_robA a_robB a_robVal a_robAddr a_robNext a_robGuess a_robLive a_queue a_fetchPc a_fetchStop a_counter a_lastTarget a_active a_quota)) (ha : a_active t ≠ 0)
    (K : ∀ u', sk_IU nt wd wn ex sn goal r0 op rg im sz u' → sk_PG nt (f_threads, f_width, f_window, f_freeTop, f_queued, f_total, a_op, a_regsOf, a_immOf, a_sizeOf, a_memory, a_statusOf, a_archPc, a_retiredOf, a_digestOf, a_value, a_ready, a_free, a_archMap, a_map, a_head, a_count, a_robPc, a_robState, a_robTimer, a_robStop, a_robDest, a_robNew, a_robOld, a_robA, a_robB, a_robVal, a_robAddr, a_robNext, a_robGuess, a_robLive, a_queue, a_fetchPc, a_fetchStop, a_counter, a_lastTarget, a_active, a_quota) u' → (a_count t ≠ 0 → a_robState (sk_h (f_threads, f_width, f_window, f_freeTop, f_queued, f_total, a_op, a_regsOf, a_immOf, a_sizeOf, a_memory, a_statusOf, a_archPc, a_retiredOf, a_digestOf, a_value, a_ready, a_free, a_archMap, a_map, a_head, a_count, a_robPc, a_robState, a_robTimer, a_robStop, a_robDest, a_robNew, a_robOld, a_robA, a_robB, a_robVal, a_robAddr, a_robNext, a_robGuess, a_robLive, a_queue, a_fetchPc, a_fetchStop, a_counter, a_lastTarget, a_active, a_quota) t) = 2 → sk_N nt u' < sk_N nt (f_threads, f_width, f_window, f_freeTop, f_queued, f_total, a_op, a_regsOf, a_immOf, a_sizeOf, a_memory, a_statusOf, a_archPc, a_retiredOf, a_digestOf, a_value, a_ready, a_free, a_archMap, a_map, a_head, a_count, a_robPc, a_robState, a_robTimer, a_robStop, a_robDest, a_robNew, a_robOld, a_robA, a_robB, a_robVal, a_robAddr, a_robNext, a_robGuess, a_robLive, a_queue, a_fetchPc, a_fetchStop, a_counter, a_lastTarget, a_active, a_quota)) → post u') :
    wpX_retireOne post (f_threads, f_width, f_window, f_freeTop, f_queued, f_total, a_op, a_regsOf, a_immOf, a_sizeOf, a_memory, a_statusOf, a_archPc, a_retiredOf, a_digestOf, a_value, a_ready, a_free, a_archMap, a_map, a_head, a_count, a_robPc, a_robState, a_robTimer, a_robStop, a_robDest, a_robNew, a_robOld, a_robA, a_robB, a_robVal, a_robAddr, a_robNext, a_robGuess, a_robLive, a_queue, a_fetchPc, a_fetchStop, a_counter, a_lastTarget, a_active, a_quota) (nI t) := by
  obtain ⟨hce, hd, ct, ow, cn, Z, ft, qn, J⟩ := I0
  have J' := J
  obtain ⟨hK, I, hfq, Q, QQ, hA, hB, hY, hT⟩ := J
  have h4 := I.1.2.2.2.2
  have g := I.1.1 t ht
  have vt : vp_in (nI t) 4 := vp_in_nI (by omega) (by decide)
  have ctt : (nI t).toNatClampNeg = t := nI_clamp (by omega)
  have ef : f_freeTop = nI ft := I.2.2.2.2.2.2.1
  have eh : sk_h (f_threads, f_width, f_window, f_freeTop, f_queued, f_total, a_op, a_regsOf, a_immOf, a_sizeOf, a_memory, a_statusOf, a_archPc, a_retiredOf, a_digestOf, a_value, a_ready, a_free, a_archMap, a_map, a_head, a_count, a_robPc, a_robState, a_robTimer, a_robStop, a_robDest, a_robNew, a_robOld, a_robA, a_robB, a_robVal, a_robAddr, a_robNext, a_robGuess, a_robLive, a_queue, a_fetchPc, a_fetchStop, a_counter, a_lastTarget, a_active, a_quota) t = sk_s hd t 0 := sk_hs I.1 ht
  obtain ⟨hso, q, hq40, hqt, hy⟩ := (hY t ht).1 ha
  refine And.intro vt ?_
  rw [ctt, hqt]
  refine pk_eq q 0 (fun z => ?_) (fun z => And.intro vt ?_)
  · refine sk_w_stop ht hce hK I hfq Q hA hB hT (fun x hx _ => hY x hx) ?_ ?_
    · rw [z] at hy; exact hy
    · intro u' I' e1 e2 _
      have n := sk_N_stop (u := (f_threads, f_width, f_window, f_freeTop, f_queued, f_total, a_op, a_regsOf, a_immOf, a_sizeOf, a_memory, a_statusOf, a_archPc, a_retiredOf, a_digestOf, a_value, a_ready, a_free, a_archMap, a_map, a_head, a_count, a_robPc, a_robState, a_robTimer, a_robStop, a_robDest, a_robNew, a_robOld, a_robA, a_robB, a_robVal, a_robAddr, a_robNext, a_robGuess, a_robLive, a_queue, a_fetchPc, a_fetchStop, a_counter, a_lastTarget, a_active, a_quota)) (u' := u') h4 ht e1 e2 ha
      exact K u' I' (Or.inl n) (fun _ _ => n)
  obtain ⟨q', rfl⟩ : ∃ q', q = q' + 1 := ⟨q - 1, by omega⟩
  rw [g.2.2.1]
  refine pk_eq (ct t) 0 (fun z2 => ?_) (fun z2 => ?_)
  · refine K _ ⟨hce, hd, ct, ow, cn, Z, ft, qn, J'⟩ sk_PG_r (fun z3 _ => absurd ?_ z3)
    rw [g.2.2.1, z2]; rfl
  obtain ⟨c, hc⟩ : ∃ c, ct t = c + 1 := ⟨ct t - 1, by omega⟩
  have sl := sk_sl I.1 ht (show 0 ≤ 12 by omega)
  have vs : vp_in (nI (sk_s hd t 0)) 48 := vp_in_nI sl (by decide)
  have cs : (nI (sk_s hd t 0)).toNatClampNeg = sk_s hd t 0 := nI_clamp (by omega)
  refine sk_w_sl (k := 0) (by omega) g.1 g.2.1 (by omega) ?_
  refine And.intro vs ?_
  rw [cs]
  by_cases hst : a_robState (sk_s hd t 0) = 2
  · refine br_t hst (And.intro vs ?_)
    by_cases hsp : a_robStop (sk_s hd t 0) = 0
    · refine br_t hsp ?_
      have hcA : a_count t = nI (c + 1) := by rw [g.2.2.1, hc]
      rcases I.2.1.2 t 0 ht (by omega) with ⟨p, hp, e1, e2, ⟨e3, e4, e5, e6, e7, e8⟩, e9⟩ | ⟨_, _, _, _, ⟨e4, _⟩ | ⟨e4, _⟩⟩
      · have hp24 : p < 24 := by have := I.2.1.1 t ht; omega
        rcases e9 with ⟨z, _⟩ | ⟨_, eo⟩
        · rw [hst] at z; exact absurd z (by decide)
        have epc := (hA t ht).1 (by omega)
        have ey := fun (v : Int32) (hv : v = if sk_D (a_op (t * 24 + p)) then a_robVal (sk_s hd t 0) else if a_op (t * 24 + p) = 11 then 5 * a_robAddr (sk_s hd t 0) + a_robVal (sk_s hd t 0) else a_robNext (sk_s hd t 0)) =>
          sk_yo_ok (st := a_statusOf t) (rc := a_retiredOf t) (dg := a_digestOf t) (v := v) eo hsp e7 e8 hv
        have ex : sk_ys t (sn t) a_op a_regsOf a_immOf ((Z t 0).2.1, (Z t 0).2.2, a_archPc t, a_statusOf t, a_retiredOf t, a_digestOf t) = sk_yo (a_op (t * 24 + p)) (a_regsOf (t * 24 + p)) (a_immOf (t * 24 + p)) ((Z t 0).2.1, (Z t 0).2.2, a_robPc (sk_s hd t 0), a_statusOf t, a_retiredOf t, a_digestOf t) := by
          rw [← epc, e1]
          exact sk_ys_r hp (I.2.1.1 t ht) e2
        by_cases hD : sk_D (a_op (t * 24 + p))
        · obtain ⟨f1, f2, f3, f4⟩ := e5 hD
          obtain ⟨po56, ft56, I'⟩ := sk_cmB ht hc (sk_d8 _) hst f1 rfl rfl f3 f4 (by rw [e8]; exact sk_M_n (sk_D11 hD)) I
          refine sk_w_cmd (by omega) sl hp24 e1 (sk_d8 _) f1 f3 f2 po56 ef ft56 ?_
          refine sk_w_tail (by omega) sl g.1 g.2.1 hcA hqt ?_
          have n := fun u' (a : sx_active u' = a_active) (b : sx_quota u' = upd a_quota t (nI q')) => sk_N_ret (u := (f_threads, f_width, f_window, f_freeTop, f_queued, f_total, a_op, a_regsOf, a_immOf, a_sizeOf, a_memory, a_statusOf, a_archPc, a_retiredOf, a_digestOf, a_value, a_ready, a_free, a_archMap, a_map, a_head, a_count, a_robPc, a_robState, a_robTimer, a_robStop, a_robDest, a_robNew, a_robOld, a_robA, a_robB, a_robVal, a_robAddr, a_robNext, a_robGuess, a_robLive, a_queue, a_fetchPc, a_fetchStop, a_counter, a_lastTarget, a_active, a_quota)) (u' := u') h4 ht (by omega) a hqt b ha
          exact K _ (sk_cmIV ht hc hst hsp hce ha hq40 hqt J' (ex.trans (ey _ (by rw [if_pos hD]))) I') (Or.inl (n _ rfl rfl)) (fun _ _ => n _ rfl rfl)
        · by_cases ho : a_op (t * 24 + p) = 11
          · obtain ⟨f1, f2⟩ := e6 hD
            have hout : ¬ sk_out ((Z t 0).2.1 (sk_ra (a_regsOf (t * 24 + p))) + a_immOf (t * 24 + p)) := sk_sp0 (by rw [← eo.1]; exact hsp) (Or.inr ho)
            obtain ⟨w1, w2⟩ := eo.2.2.2 ho
            obtain ⟨a0, ha0, ea0⟩ := nI_of2 (x := (Z t 0).2.1 (sk_ra (a_regsOf (t * 24 + p))) + a_immOf (t * 24 + p)) (M := 15) (n := 15) (by decide) (fun z => hout (Or.inl z)) (by
              by_cases z : (Z t 0).2.1 (sk_ra (a_regsOf (t * 24 + p))) + a_immOf (t * 24 + p) ≤ 15
              · exact z
              · exact absurd (Or.inr z) hout)
            have I' := sk_cmA (me' := upd a_memory (t * 16 + a0) (a_robVal (sk_s hd t 0))) ht hc (by rw [f1]; exact sk_m1lt) (fun x a hx ha' => by
              have q := (I.2.2.1 x hx).2 a ha'
              by_cases e : x = t
              · subst e
                rw [sk_Zs_t]
                show _ = (Z x 1).2.2 a
                rw [e8]
                unfold sk_M
                rw [if_pos ⟨ho, hout⟩, ea0, nI_clamp (by omega), w2 hout]
                by_cases ea : a = a0
                · rw [ea, pk_us, pk_us]
                · rw [pk_un (by omega), pk_un ea]; exact q
              · rw [sk_Zs_n e, pk_un (by omega)]; exact q) I
            refine sk_w_cms (a := a0) (by omega) sl hp24 e1 f1 ho (by omega) (by rw [w1, ea0]) ?_
            refine sk_w_tail (by omega) sl g.1 g.2.1 hcA hqt ?_
            have n := fun u' (a : sx_active u' = a_active) (b : sx_quota u' = upd a_quota t (nI q')) => sk_N_ret (u := (f_threads, f_width, f_window, f_freeTop, f_queued, f_total, a_op, a_regsOf, a_immOf, a_sizeOf, a_memory, a_statusOf, a_archPc, a_retiredOf, a_digestOf, a_value, a_ready, a_free, a_archMap, a_map, a_head, a_count, a_robPc, a_robState, a_robTimer, a_robStop, a_robDest, a_robNew, a_robOld, a_robA, a_robB, a_robVal, a_robAddr, a_robNext, a_robGuess, a_robLive, a_queue, a_fetchPc, a_fetchStop, a_counter, a_lastTarget, a_active, a_quota)) (u' := u') h4 ht (by omega) a hqt b ha
            rw [ef] at n ⊢
            exact K _ (sk_cmIV ht hc hst hsp hce ha hq40 hqt J' (ex.trans (ey _ (by rw [if_neg hD, if_pos ho]))) (by rw [ef] at I'; exact I')) (Or.inl (n _ rfl rfl)) (fun _ _ => n _ rfl rfl)
          · obtain ⟨f1, f2⟩ := e6 hD
            have I' := sk_cmA (me' := a_memory) ht hc (by rw [f1]; exact sk_m1lt) (fun x a hx ha' => by
              have q := (I.2.2.1 x hx).2 a ha'
              by_cases e : x = t
              · subst e
                rw [sk_Zs_t]
                show _ = (Z x 1).2.2 a
                rw [e8, sk_M_n ho]; exact q
              · rw [sk_Zs_n e]; exact q) I
            refine sk_w_cmo (by omega) sl hp24 e1 f1 ho ?_
            refine sk_w_tail (by omega) sl g.1 g.2.1 hcA hqt ?_
            have n := fun u' (a : sx_active u' = a_active) (b : sx_quota u' = upd a_quota t (nI q')) => sk_N_ret (u := (f_threads, f_width, f_window, f_freeTop, f_queued, f_total, a_op, a_regsOf, a_immOf, a_sizeOf, a_memory, a_statusOf, a_archPc, a_retiredOf, a_digestOf, a_value, a_ready, a_free, a_archMap, a_map, a_head, a_count, a_robPc, a_robState, a_robTimer, a_robStop, a_robDest, a_robNew, a_robOld, a_robA, a_robB, a_robVal, a_robAddr, a_robNext, a_robGuess, a_robLive, a_queue, a_fetchPc, a_fetchStop, a_counter, a_lastTarget, a_active, a_quota)) (u' := u') h4 ht (by omega) a hqt b ha
            rw [ef] at n ⊢
            exact K _ (sk_cmIV ht hc hst hsp hce ha hq40 hqt J' (ex.trans (ey _ (by rw [if_neg hD, if_neg ho]))) (by rw [ef] at I'; exact I')) (Or.inl (n _ rfl rfl)) (fun _ _ => n _ rfl rfl)
      · rw [hsp] at e4; exact absurd e4 (by decide)
      · rw [hsp] at e4; exact absurd e4 (by decide)
    · refine br_f hsp (And.intro vs (And.intro vt (nm_r (e' := upd a_statusOf t (a_robStop (sk_s hd t 0))) rfl ?_)))
      refine sk_w_stop ht hce hK I hfq Q hA hB hT (fun x hx e => by rw [pk_un e]; exact hY x hx) ?_ ?_
      · rw [pk_us]
        exact sk_gstop ht (by omega) hst hsp I.2.1 hA hso hy
      · intro u' I' e1 e2 _
        have n := sk_N_stop (u := (f_threads, f_width, f_window, f_freeTop, f_queued, f_total, a_op, a_regsOf, a_immOf, a_sizeOf, a_memory, a_statusOf, a_archPc, a_retiredOf, a_digestOf, a_value, a_ready, a_free, a_archMap, a_map, a_head, a_count, a_robPc, a_robState, a_robTimer, a_robStop, a_robDest, a_robNew, a_robOld, a_robA, a_robB, a_robVal, a_robAddr, a_robNext, a_robGuess, a_robLive, a_queue, a_fetchPc, a_fetchStop, a_counter, a_lastTarget, a_active, a_quota)) (u' := u') h4 ht e1 e2 ha
        exact K u' I' (Or.inl n) (fun _ _ => n)
  · refine br_f hst ?_
    refine K _ ⟨hce, hd, ct, ow, cn, Z, ft, qn, J'⟩ sk_PG_r (fun _ z3 => absurd ?_ hst)
    rw [eh] at z3; exact z3
end
end
section
/-! retireStage -/
def sk_dn (u : SX) (t : Nat) : Prop := sx_active u t ≠ 0 ∧ sx_count u t ≠ 0 ∧ sx_robState u (sk_h u t) = 2
def sk_RJ (nt : Nat) (u0 : SX) (t : Nat) (u : SX) : Prop := sk_PG nt u0 u ∧ ∀ x, x < t → x < nt → sk_dn u0 x → sk_N nt u < sk_N nt u0
theorem sk_RJ_d {nt t : Nat} {u0 u : SX} (ht : t < nt) (h : sk_PG nt u0 u) (hd : sk_dn u0 t) : sk_N nt u < sk_N nt u0 ∨ (sk_N nt u = sk_N nt u0 ∧ sk_dn u t) := by
  rcases h with h | ⟨h1, h2⟩
  · exact Or.inl h
  · obtain ⟨a1, a2, a3, a4, _, _⟩ := h2 t ht hd.1 hd.2.1
    refine Or.inr ⟨h1, by rw [a1]; exact hd.1, a3, ?_⟩
    have e : sk_h u t = sk_h u0 t := by unfold sk_h; rw [a2]
    rw [e, a4]; exact hd.2.2
theorem sk_PG_N {nt : Nat} {u u' : SX} (h : sk_PG nt u u') : sk_N nt u' ≤ sk_N nt u := by
  rcases h with h | h
  · omega
  · omega
section
variable {nt wd wn ex : Nat} {sn : Nat → Nat} {goal : Nat → sk_Y} {r0 op rg im sz : Nat → Int32} {post : SX → Prop} {u0 : SX}
theorem sk_w_rs12 {J2 : Int32 → Int32 → Int32 → Int32 → Int32 → Int32 → Int32 → (Nat → Int32) → (Nat → Int32) → (Nat → Int32) → (Nat → Int32) → (Nat → Int32) → (Nat → Int32) → (Nat → Int32) → (Nat → Int32) → (Nat → Int32) → (Nat → Int32) → (Nat → Int32) → (Nat → Int32) → (Nat → Int32) → (Nat → Int32) → (Nat → Int32) → (Nat → Int32) → (Nat → Int32) → (Nat → Int32) → (Nat → Int32) → (Nat → Int32) → (Nat → Int32) → (Nat → Int32) → (Nat → Int32) → (Nat → Int32) → (Nat → Int32) → (Nat → Int32) → (Nat → Int32) → (Nat → Int32) → (Nat → Int32) → (Nat → Int32) → (Nat → Int32) → (Nat → Int32) → (Nat → Int32) → (Nat → Int32) → (Nat → Int32) → (Nat → Int32) → (Nat → Int32) → Prop} {t : Nat} (ht : t < nt) (hw : 1 ≤ wd) (hw4 : wd ≤ 4)
    (K : ∀ u', sk_IU nt wd wn ex sn goal r0 op rg im sz u' → sk_RJ nt u0 (t + 1) u' → sk_ap (J2 (nI (t + 1))) u') :
    ∀ d k, k + d = wd → ∀ u, sk_IU nt wd wn ex sn goal r0 op rg im sz u → sk_RJ nt u0 t u → (k ≠ 0 → sk_RJ nt u0 (t + 1) u) → ∀ n, d < n →
      sk_ap (wX_retireStage_12 post J2 (nI t) n (nI k)) u := by
  intro d
  induction d with
  | zero =>
    intro k hk u
    refine sk_el (P := fun u => sk_IU nt wd wn ex sn goal r0 op rg im sz u → sk_RJ nt u0 t u → (k ≠ 0 → sk_RJ nt u0 (t + 1) u) → ∀ n, 0 < n → sk_ap (wX_retireStage_12 post J2 (nI t) n (nI k)) u) ?_ u
    intro f_threads f_width f_window f_freeTop f_queued f_total a_op a_regsOf a_immOf a_sizeOf a_memory a_statusOf a_archPc a_retiredOf a_digestOf a_value a_ready a_free a_archMap a_map a_head a_count a_robPc a_robState a_robTimer a_robStop a_robDest a_robNew a_robOld a_robA a_robB a_robVal a_robAddr a_robNext a_robGuess a_robLive a_queue a_fetchPc a_fetchStop a_counter a_lastTarget a_active a_quota I R R1 n hn
    obtain ⟨m, rfl⟩ : ∃ m, n = m + 1 := ⟨n - 1, by omega⟩
    show wX_retireStage_12 post J2 (nI t) (m + 1) (nI k) f_threads f_width f_window f_freeTop f_queued f_total a_op a_regsOf a_immOf a_sizeOf a_memory a_statusOf a_archPc a_retiredOf a_digestOf a_value a_ready a_free a_archMap a_map a_head a_count a_robPc a_robState a_robTimer a_robStop a_robDest a_robNew a_robOld a_robA a_robB a_robVal a_robAddr a_robNext a_robGuess a_robLive a_queue a_fetchPc a_fetchStop a_counter a_lastTarget a_active a_quota
    obtain ⟨hce, hd, ct, ow, cn, Z, ft, qn, J⟩ := (show (sk_IV nt wd wn ex sn goal r0 op rg im sz f_threads f_width f_window f_freeTop f_queued f_total a_op a_regsOf a_immOf a_sizeOf a_memory a_statusOf a_archPc a_retiredOf a_digestOf a_value a_ready a_free a_archMap a_map a_head a_count a_robPc a_robState a_robTimer a_robStop a_robDest a_robNew a_robOld a_robA a_robB a_robVal a_robAddr a_robNext a_robGuess a_robLive a_queue a_fetchPc a_fetchStop a_counter a_lastTarget a_active a_quota) from I)
    refine br_t ?_ (nm_r (nI_1 t) ?_)
    · rw [J.1.2.1]; exact nI_le (by omega) (by omega)
    · exact K _ I (R1 (by omega))
  | succ d ih =>
    intro k hk u
    refine sk_el (P := fun u => sk_IU nt wd wn ex sn goal r0 op rg im sz u → sk_RJ nt u0 t u → (k ≠ 0 → sk_RJ nt u0 (t + 1) u) → ∀ n, d + 1 < n → sk_ap (wX_retireStage_12 post J2 (nI t) n (nI k)) u) ?_ u
    intro f_threads f_width f_window f_freeTop f_queued f_total a_op a_regsOf a_immOf a_sizeOf a_memory a_statusOf a_archPc a_retiredOf a_digestOf a_value a_ready a_free a_archMap a_map a_head a_count a_robPc a_robState a_robTimer a_robStop a_robDest a_robNew a_robOld a_robA a_robB a_robVal a_robAddr a_robNext a_robGuess a_robLive a_queue a_fetchPc a_fetchStop a_counter a_lastTarget a_active a_quota I R R1 n hn
    obtain ⟨m, rfl⟩ : ∃ m, n = m + 1 := ⟨n - 1, by omega⟩
    show wX_retireStage_12 post J2 (nI t) (m + 1) (nI k) f_threads f_width f_window f_freeTop f_queued f_total a_op a_regsOf a_immOf a_sizeOf a_memory a_statusOf a_archPc a_retiredOf a_digestOf a_value a_ready a_free a_archMap a_map a_head a_count a_robPc a_robState a_robTimer a_robStop a_robDest a_robNew a_robOld a_robA a_robB a_robVal a_robAddr a_robNext a_robGuess a_robLive a_queue a_fetchPc a_fetchStop a_counter a_lastTarget a_active a_quota
    obtain ⟨hce, hd, ct, ow, cn, Z, ft, qn, J⟩ := (show (sk_IV nt wd wn ex sn goal r0 op rg im sz f_threads f_width f_window f_freeTop f_queued f_total a_op a_regsOf a_immOf a_sizeOf a_memory a_statusOf a_archPc a_retiredOf a_digestOf a_value a_ready a_free a_archMap a_map a_head a_count a_robPc a_robState a_robTimer a_robStop a_robDest a_robNew a_robOld a_robA a_robB a_robVal a_robAddr a_robNext a_robGuess a_robLive a_queue a_fetchPc a_fetchStop a_counter a_lastTarget a_active a_quota) from I)
    have h4 := J.2.1.1.2.2.2.2
    have ctt : (nI t).toNatClampNeg = t := nI_clamp (by omega)
    refine br_f ?_ (And.intro (vp_in_nI (by omega) (by decide)) ?_)
    · rw [J.1.2.1]; exact nI_ge (by omega) (by omega)
    rw [ctt]
    by_cases ha : a_active t = 0
    · refine br_t ha (nm_r (nI_1 t) ?_)
      refine K _ I ⟨R.1, fun x hx hxn hdn => ?_⟩
      by_cases e : x = t
      · subst e
        rcases sk_RJ_d hxn R.1 hdn with z | ⟨_, z⟩
        · exact z
        · exact absurd ha z.1
      · exact R.2 x (by omega) hxn hdn
    · refine br_f ha ?_
      refine sk_w_ret1 ht (show (sk_IV nt wd wn ex sn goal r0 op rg im sz f_threads f_width f_window f_freeTop f_queued f_total a_op a_regsOf a_immOf a_sizeOf a_memory a_statusOf a_archPc a_retiredOf a_digestOf a_value a_ready a_free a_archMap a_map a_head a_count a_robPc a_robState a_robTimer a_robStop a_robDest a_robNew a_robOld a_robA a_robB a_robVal a_robAddr a_robNext a_robGuess a_robLive a_queue a_fetchPc a_fetchStop a_counter a_lastTarget a_active a_quota) from I) ha (fun u' I' P' N' => ?_)
      have R1' : sk_RJ nt u0 (t + 1) u' := by
        refine ⟨sk_PG_t R.1 P', fun x hx hxn hdn => ?_⟩
        have le := sk_PG_N P'
        by_cases e : x = t
        · subst e
          rcases sk_RJ_d hxn R.1 hdn with z | ⟨z1, z2⟩
          · omega
          · have := N' z2.2.1 z2.2.2; omega
        · have := R.2 x (by omega) hxn hdn; omega
      show ∀ x, x = nI k + 1 → sk_ap (wX_retireStage_12 post J2 (nI t) m x) u'
      refine nm_r (nI_1 k) ?_
      exact ih (k + 1) (by omega) u' I' ⟨R1'.1, fun x hx => R1'.2 x (by omega)⟩ (fun _ => R1') m (by omega)
theorem sk_w_rs2 (h4 : nt ≤ 4) (hw : 1 ≤ wd) (hw4 : wd ≤ 4)
    (K : ∀ u', sk_IU nt wd wn ex sn goal r0 op rg im sz u' → sk_RJ nt u0 nt u' → post u') :
    ∀ d t, t + d = nt → ∀ u, sk_IU nt wd wn ex sn goal r0 op rg im sz u → sk_RJ nt u0 t u → ∀ n, d < n → sk_ap (wX_retireStage_2 post n (nI t)) u := by
  intro d
  induction d with
  | zero =>
    intro t htd u
    refine sk_el (P := fun u => sk_IU nt wd wn ex sn goal r0 op rg im sz u → sk_RJ nt u0 t u → ∀ n, 0 < n → sk_ap (wX_retireStage_2 post n (nI t)) u) ?_ u
    intro f_threads f_width f_window f_freeTop f_queued f_total a_op a_regsOf a_immOf a_sizeOf a_memory a_statusOf a_archPc a_retiredOf a_digestOf a_value a_ready a_free a_archMap a_map a_head a_count a_robPc a_robState a_robTimer a_robStop a_robDest a_robNew a_robOld a_robA a_robB a_robVal a_robAddr a_robNext a_robGuess a_robLive a_queue a_fetchPc a_fetchStop a_counter a_lastTarget a_active a_quota I R n hn
    obtain ⟨m, rfl⟩ : ∃ m, n = m + 1 := ⟨n - 1, by omega⟩
    show wX_retireStage_2 post (m + 1) (nI t) f_threads f_width f_window f_freeTop f_queued f_total a_op a_regsOf a_immOf a_sizeOf a_memory a_statusOf a_archPc a_retiredOf a_digestOf a_value a_ready a_free a_archMap a_map a_head a_count a_robPc a_robState a_robTimer a_robStop a_robDest a_robNew a_robOld a_robA a_robB a_robVal a_robAddr a_robNext a_robGuess a_robLive a_queue a_fetchPc a_fetchStop a_counter a_lastTarget a_active a_quota
    obtain ⟨hce, hd, ct, ow, cn, Z, ft, qn, J⟩ := (show (sk_IV nt wd wn ex sn goal r0 op rg im sz f_threads f_width f_window f_freeTop f_queued f_total a_op a_regsOf a_immOf a_sizeOf a_memory a_statusOf a_archPc a_retiredOf a_digestOf a_value a_ready a_free a_archMap a_map a_head a_count a_robPc a_robState a_robTimer a_robStop a_robDest a_robNew a_robOld a_robA a_robB a_robVal a_robAddr a_robNext a_robGuess a_robLive a_queue a_fetchPc a_fetchStop a_counter a_lastTarget a_active a_quota) from I)
    have e : t = nt := by omega
    subst e
    refine br_t ?_ (K _ I R)
    rw [J.1.1]; exact nI_le (by omega) (by omega)
  | succ d ih =>
    intro t htd u
    refine sk_el (P := fun u => sk_IU nt wd wn ex sn goal r0 op rg im sz u → sk_RJ nt u0 t u → ∀ n, d + 1 < n → sk_ap (wX_retireStage_2 post n (nI t)) u) ?_ u
    intro f_threads f_width f_window f_freeTop f_queued f_total a_op a_regsOf a_immOf a_sizeOf a_memory a_statusOf a_archPc a_retiredOf a_digestOf a_value a_ready a_free a_archMap a_map a_head a_count a_robPc a_robState a_robTimer a_robStop a_robDest a_robNew a_robOld a_robA a_robB a_robVal a_robAddr a_robNext a_robGuess a_robLive a_queue a_fetchPc a_fetchStop a_counter a_lastTarget a_active a_quota I R n hn
    obtain ⟨m, rfl⟩ : ∃ m, n = m + 1 := ⟨n - 1, by omega⟩
    show wX_retireStage_2 post (m + 1) (nI t) f_threads f_width f_window f_freeTop f_queued f_total a_op a_regsOf a_immOf a_sizeOf a_memory a_statusOf a_archPc a_retiredOf a_digestOf a_value a_ready a_free a_archMap a_map a_head a_count a_robPc a_robState a_robTimer a_robStop a_robDest a_robNew a_robOld a_robA a_robB a_robVal a_robAddr a_robNext a_robGuess a_robLive a_queue a_fetchPc a_fetchStop a_counter a_lastTarget a_active a_quota
    obtain ⟨hce, hd, ct, ow, cn, Z, ft, qn, J⟩ := (show (sk_IV nt wd wn ex sn goal r0 op rg im sz f_threads f_width f_window f_freeTop f_queued f_total a_op a_regsOf a_immOf a_sizeOf a_memory a_statusOf a_archPc a_retiredOf a_digestOf a_value a_ready a_free a_archMap a_map a_head a_count a_robPc a_robState a_robTimer a_robStop a_robDest a_robNew a_robOld a_robA a_robB a_robVal a_robAddr a_robNext a_robGuess a_robLive a_queue a_fetchPc a_fetchStop a_counter a_lastTarget a_active a_quota) from I)
    refine br_f ?_ ⟨wd + 1, ?_⟩
    · rw [J.1.1]; exact nI_ge (by omega) (by omega)
    exact sk_w_rs12 (post := post) (J2 := wX_retireStage_2 post m) (by omega) hw hw4 (fun u' I' R' => ih (t + 1) (by omega) u' I' R' m (by omega)) wd 0 (by omega) _ I R (fun z => absurd rfl z) (wd + 1) (by omega)
theorem sk_w_retst {u : SX} (I : sk_IU nt wd wn ex sn goal r0 op rg im sz u)
    (K : ∀ u', sk_IU nt wd wn ex sn goal r0 op rg im sz u' → sk_PG nt u u' → (∀ x, x < nt → sk_dn u x → sk_N nt u' < sk_N nt u) → post u') : wpX_retireStage post u := by
  revert I K
  refine sk_el (P := fun u => sk_IU nt wd wn ex sn goal r0 op rg im sz u → (∀ u', sk_IU nt wd wn ex sn goal r0 op rg im sz u' → sk_PG nt u u' → (∀ x, x < nt → sk_dn u x → sk_N nt u' < sk_N nt u) → post u') → wpX_retireStage post u) ?_ u
  intro f_threads f_width f_window f_freeTop f_queued f_total a_op a_regsOf a_immOf a_sizeOf a_memory a_statusOf a_archPc a_retiredOf a_digestOf a_value a_ready a_free a_archMap a_map a_head a_count a_robPc a_robState a_robTimer a_robStop a_robDest a_robNew a_robOld a_robA a_robB a_robVal a_robAddr a_robNext a_robGuess a_robLive a_queue a_fetchPc a_fetchStop a_counter a_lastTarget a_active a_quota I K
  obtain ⟨hce, hd, ct, ow, cn, Z, ft, qn, J⟩ := (show (sk_IV nt wd wn ex sn goal r0 op rg im sz f_threads f_width f_window f_freeTop f_queued f_total a_op a_regsOf a_immOf a_sizeOf a_memory a_statusOf a_archPc a_retiredOf a_digestOf a_value a_ready a_free a_archMap a_map a_head a_count a_robPc a_robState a_robTimer a_robStop a_robDest a_robNew a_robOld a_robA a_robB a_robVal a_robAddr a_robNext a_robGuess a_robLive a_queue a_fetchPc a_fetchStop a_counter a_lastTarget a_active a_quota) from I)
  obtain ⟨k1, k2, k3, k4, k5, k6, k7, k8⟩ := J.1
  exact ⟨nt + 1, sk_w_rs2 (u0 := (f_threads, f_width, f_window, f_freeTop, f_queued, f_total, a_op, a_regsOf, a_immOf, a_sizeOf, a_memory, a_statusOf, a_archPc, a_retiredOf, a_digestOf, a_value, a_ready, a_free, a_archMap, a_map, a_head, a_count, a_robPc, a_robState, a_robTimer, a_robStop, a_robDest, a_robNew, a_robOld, a_robA, a_robB, a_robVal, a_robAddr, a_robNext, a_robGuess, a_robLive, a_queue, a_fetchPc, a_fetchStop, a_counter, a_lastTarget, a_active, a_quota)) k5 k6 k7 (fun u' I' R' => K u' I' R'.1 (fun x hx => R'.2 x hx hx)) nt 0 (by omega) (f_threads, f_width, f_window, f_freeTop, f_queued, f_total, a_op, a_regsOf, a_immOf, a_sizeOf, a_memory, a_statusOf, a_archPc, a_retiredOf, a_digestOf, a_value, a_ready, a_free, a_archMap, a_map, a_head, a_count, a_robPc, a_robState, a_robTimer, a_robStop, a_robDest, a_robNew, a_robOld, a_robA, a_robB, a_robVal, a_robAddr, a_robNext, a_robGuess, a_robLive, a_queue, a_fetchPc, a_fetchStop, a_counter, a_lastTarget, a_active, a_quota) I ⟨sk_PG_r, fun x hx => absurd hx (Nat.not_lt_zero x)⟩ (nt + 1) (by omega)⟩
end
end
section
/-! train, and the end of completeOne -/
section
variable {f_threads f_width f_window f_freeTop f_queued f_total : Int32} {a_op a_regsOf a_immOf a_sizeOf a_memory a_statusOf a_archPc a_retiredOf a_digestOf a_value a_ready a_free a_archMap a_map a_head a_count a_robPc a_robState a_robTimer a_robStop a_robDest a_robNew a_robOld a_robA a_robB a_robVal a_robAddr a_robNext a_robGuess a_robLive a_queue a_fetchPc a_fetchStop a_counter a_lastTarget a_active a_quota : Nat → Int32} {post : SX → Prop}
theorem sk_w_t101 {x3 x5 : Int32} (h : vp_in x3 96) (K : ∀ cc, post (f_threads, f_width, f_window, f_freeTop, f_queued, f_total, a_op, a_regsOf, a_immOf, a_sizeOf, a_memory, a_statusOf, a_archPc, a_retiredOf, a_digestOf, a_value, a_ready, a_free, a_archMap, a_map, a_head, a_count, a_robPc, a_robState, a_robTimer, a_robStop, a_robDest, a_robNew, a_robOld, a_robA, a_robB, a_robVal, a_robAddr, a_robNext, a_robGuess, a_robLive, a_queue, a_fetchPc, a_fetchStop, cc, a_lastTarget, a_active, a_quota)) : wX_train_101 post x3 x5 f_threads f_width f_window f_freeTop f_queued f_total a_op a_regsOf a_immOf a_sizeOf a_memory a_statusOf a_archPc a_retiredOf a_digestOf a_value a_ready a_free a_archMap a_map a_head a_count a_robPc a_robState a_robTimer a_robStop a_robDest a_robNew a_robOld a_robA a_robB a_robVal a_robAddr a_robNext a_robGuess a_robLive a_queue a_fetchPc a_fetchStop a_counter a_lastTarget a_active a_quota :=
  br_c (fun _ => And.intro h (br_c (fun _ => K a_counter) (fun _ => And.intro h (And.intro h (nm_e (K _)))))) (fun _ => K a_counter)
theorem sk_w_t74 {x3 z0 : Int32} (h : vp_in x3 96) (K : ∀ cc, post (f_threads, f_width, f_window, f_freeTop, f_queued, f_total, a_op, a_regsOf, a_immOf, a_sizeOf, a_memory, a_statusOf, a_archPc, a_retiredOf, a_digestOf, a_value, a_ready, a_free, a_archMap, a_map, a_head, a_count, a_robPc, a_robState, a_robTimer, a_robStop, a_robDest, a_robNew, a_robOld, a_robA, a_robB, a_robVal, a_robAddr, a_robNext, a_robGuess, a_robLive, a_queue, a_fetchPc, a_fetchStop, cc, a_lastTarget, a_active, a_quota)) : wX_train_74 post x3 z0 f_threads f_width f_window f_freeTop f_queued f_total a_op a_regsOf a_immOf a_sizeOf a_memory a_statusOf a_archPc a_retiredOf a_digestOf a_value a_ready a_free a_archMap a_map a_head a_count a_robPc a_robState a_robTimer a_robStop a_robDest a_robNew a_robOld a_robA a_robB a_robVal a_robAddr a_robNext a_robGuess a_robLive a_queue a_fetchPc a_fetchStop a_counter a_lastTarget a_active a_quota :=
  br_c (fun _ => sk_w_t101 h K) (fun _ => And.intro h (br_c (fun _ => sk_w_t101 h K) (fun _ => And.intro h (And.intro h (nm_e (sk_w_t101 h K))))))
theorem sk_w_t54 {x2 x3 : Int32} (h2 : vp_in x2 48) (h : vp_in x3 96) (K : ∀ cc, post (f_threads, f_width, f_window, f_freeTop, f_queued, f_total, a_op, a_regsOf, a_immOf, a_sizeOf, a_memory, a_statusOf, a_archPc, a_retiredOf, a_digestOf, a_value, a_ready, a_free, a_archMap, a_map, a_head, a_count, a_robPc, a_robState, a_robTimer, a_robStop, a_robDest, a_robNew, a_robOld, a_robA, a_robB, a_robVal, a_robAddr, a_robNext, a_robGuess, a_robLive, a_queue, a_fetchPc, a_fetchStop, cc, a_lastTarget, a_active, a_quota)) : wX_train_54 post x2 x3 f_threads f_width f_window f_freeTop f_queued f_total a_op a_regsOf a_immOf a_sizeOf a_memory a_statusOf a_archPc a_retiredOf a_digestOf a_value a_ready a_free a_archMap a_map a_head a_count a_robPc a_robState a_robTimer a_robStop a_robDest a_robNew a_robOld a_robA a_robB a_robVal a_robAddr a_robNext a_robGuess a_robLive a_queue a_fetchPc a_fetchStop a_counter a_lastTarget a_active a_quota :=
  And.intro h2 (And.intro h (br_c (fun _ => sk_w_t74 h K) (fun _ => sk_w_t74 h K)))
theorem sk_w_t39 {x2 x3 x4 : Int32} (h2 : vp_in x2 48) (h : vp_in x3 96) (K : ∀ cc, post (f_threads, f_width, f_window, f_freeTop, f_queued, f_total, a_op, a_regsOf, a_immOf, a_sizeOf, a_memory, a_statusOf, a_archPc, a_retiredOf, a_digestOf, a_value, a_ready, a_free, a_archMap, a_map, a_head, a_count, a_robPc, a_robState, a_robTimer, a_robStop, a_robDest, a_robNew, a_robOld, a_robA, a_robB, a_robVal, a_robAddr, a_robNext, a_robGuess, a_robLive, a_queue, a_fetchPc, a_fetchStop, cc, a_lastTarget, a_active, a_quota)) : wX_train_39 post x2 x3 x4 f_threads f_width f_window f_freeTop f_queued f_total a_op a_regsOf a_immOf a_sizeOf a_memory a_statusOf a_archPc a_retiredOf a_digestOf a_value a_ready a_free a_archMap a_map a_head a_count a_robPc a_robState a_robTimer a_robStop a_robDest a_robNew a_robOld a_robA a_robB a_robVal a_robAddr a_robNext a_robGuess a_robLive a_queue a_fetchPc a_fetchStop a_counter a_lastTarget a_active a_quota :=
  br_c (fun _ => sk_w_t54 h2 h K) (fun _ => br_c (fun _ => sk_w_t54 h2 h K) (fun _ => K a_counter))
theorem sk_w_train {t s p : Nat} (ht : t < 4) (hs : s < 48) (hp : p < 24) (epc : a_robPc s = nI p) (K : ∀ cc lt, post (f_threads, f_width, f_window, f_freeTop, f_queued, f_total, a_op, a_regsOf, a_immOf, a_sizeOf, a_memory, a_statusOf, a_archPc, a_retiredOf, a_digestOf, a_value, a_ready, a_free, a_archMap, a_map, a_head, a_count, a_robPc, a_robState, a_robTimer, a_robStop, a_robDest, a_robNew, a_robOld, a_robA, a_robB, a_robVal, a_robAddr, a_robNext, a_robGuess, a_robLive, a_queue, a_fetchPc, a_fetchStop, cc, lt, a_active, a_quota)) :
    wpX_train post (f_threads, f_width, f_window, f_freeTop, f_queued, f_total, a_op, a_regsOf, a_immOf, a_sizeOf, a_memory, a_statusOf, a_archPc, a_retiredOf, a_digestOf, a_value, a_ready, a_free, a_archMap, a_map, a_head, a_count, a_robPc, a_robState, a_robTimer, a_robStop, a_robDest, a_robNew, a_robOld, a_robA, a_robB, a_robVal, a_robAddr, a_robNext, a_robGuess, a_robLive, a_queue, a_fetchPc, a_fetchStop, a_counter, a_lastTarget, a_active, a_quota) (nI t) (nI s) := by
  have vs : vp_in (nI s) 48 := vp_in_nI hs (by decide)
  have h : vp_in (nI (t * 24 + p)) 96 := vp_in_nI (by omega) (by decide)
  refine And.intro vs (nm_r (e' := nI (t * 24 + p)) (by rw [nI_clamp (by omega), epc, sk_x24, nI_add]) (And.intro h (nm_e ?_)))
  exact br_c (fun _ => And.intro vs (And.intro (vp_in_nI ht (by decide)) (nm_e (sk_w_t39 vs h (fun cc => K cc _))))) (fun _ => sk_w_t39 vs h (fun cc => K cc _))
end
section
variable {f_threads f_width f_window f_freeTop f_queued f_total : Int32} {a_op a_regsOf a_immOf a_sizeOf a_memory a_statusOf a_archPc a_retiredOf a_digestOf a_value a_ready a_free a_archMap a_map a_head a_count a_robPc a_robState a_robTimer a_robStop a_robDest a_robNew a_robOld a_robA a_robB a_robVal a_robAddr a_robNext a_robGuess a_robLive a_queue a_fetchPc a_fetchStop a_counter a_lastTarget a_active a_quota : Nat → Int32} {nt wd wn ex : Nat} {sn : Nat → Nat} {goal : Nat → sk_Y} {r0 op rg im sz : Nat → Int32} {hd ct ow : Nat → Nat} {cn : Nat → Int32} {Z : Nat → Nat → sk_V} {ft qn : Nat} {post : SX → Prop}
theorem sk_fsEN {t : Nat} (h : (sk_EN nt sn a_op a_regsOf a_immOf hd ct Z a_fetchStop a_robPc a_robState a_robTimer a_robStop a_robDest a_robNew a_robOld a_robA a_robB a_robVal a_robAddr a_robNext)) (hl : ∀ k, k + 1 = ct t → ∃ p, p < sn t ∧ sk_er t p a_op a_regsOf a_immOf (Z t k) (Z t (k + 1)) (a_robPc (sk_s hd t k)) (a_robState (sk_s hd t k)) (a_robTimer (sk_s hd t k)) (a_robStop (sk_s hd t k)) (a_robDest (sk_s hd t k)) (a_robNew (sk_s hd t k)) (a_robOld (sk_s hd t k)) (a_robA (sk_s hd t k)) (a_robB (sk_s hd t k)) (a_robVal (sk_s hd t k)) (a_robAddr (sk_s hd t k)) (a_robNext (sk_s hd t k))) :
    (sk_EN nt sn a_op a_regsOf a_immOf hd ct Z (upd a_fetchStop t 0) a_robPc a_robState a_robTimer a_robStop a_robDest a_robNew a_robOld a_robA a_robB a_robVal a_robAddr a_robNext) := by
  refine ⟨h.1, fun x k hx hk => ?_⟩
  rcases h.2 x k hx hk with e | ⟨⟨e1, e2⟩, e3⟩
  · exact Or.inl e
  · by_cases ex : x = t
    · subst ex; exact Or.inl (hl k e1)
    · exact Or.inr ⟨⟨e1, by rw [pk_un ex]; exact e2⟩, e3⟩
theorem sk_w_83 {t k : Nat} {st0 : Nat → Int32} (ht : t < nt) (hk : k < ct t) (hce : a_op = op ∧ a_regsOf = rg ∧ a_immOf = im ∧ a_sizeOf = sz) (hK : (sk_KK nt wd wn sn f_threads f_width f_window a_op a_sizeOf)) (I : (sk_IB nt hd ct sn Z cn ow ft ex f_freeTop a_op a_regsOf a_immOf a_memory a_value a_ready a_free a_archMap a_map a_head a_count a_robPc a_robState a_robTimer a_robStop a_robDest a_robNew a_robOld a_robA a_robB a_robVal a_robAddr a_robNext a_robLive a_fetchStop)) (hfq : f_queued = nI qn) (Q : (sk_QW nt hd ct qn a_robState a_queue)) (QQ : (sk_QQ nt hd ct qn a_robState a_queue))
    (hs0 : ∀ q, q ≠ sk_s hd t k → st0 q = a_robState q) (hs1 : ¬ st0 (sk_s hd t k) = 2) (hs2 : a_robState (sk_s hd t k) = 2)
    (hA : (sk_FA nt hd ct a_robPc st0 a_robNext a_robGuess a_archPc)) (hB : (sk_FB nt hd ct a_active st0 a_robStop a_robNext a_robGuess a_archPc a_fetchPc a_fetchStop)) (hY : (sk_YG nt sn a_op a_regsOf a_immOf ct Z goal a_active a_quota a_archPc a_statusOf a_retiredOf a_digestOf)) (hT : (sk_TT nt r0 f_total a_retiredOf))
    (hl : ∃ p, p < sn t ∧ sk_er t p a_op a_regsOf a_immOf (Z t k) (Z t (k + 1)) (a_robPc (sk_s hd t k)) (a_robState (sk_s hd t k)) (a_robTimer (sk_s hd t k)) (a_robStop (sk_s hd t k)) (a_robDest (sk_s hd t k)) (a_robNew (sk_s hd t k)) (a_robOld (sk_s hd t k)) (a_robA (sk_s hd t k)) (a_robB (sk_s hd t k)) (a_robVal (sk_s hd t k)) (a_robAddr (sk_s hd t k)) (a_robNext (sk_s hd t k)))
    (K : ∀ u', sk_IU nt wd wn ex sn goal r0 op rg im sz u' → sx_active u' = a_active → sx_quota u' = a_quota → (∀ x, x < nt → a_count x ≠ 0 → sk_HF x (f_threads, f_width, f_window, f_freeTop, f_queued, f_total, a_op, a_regsOf, a_immOf, a_sizeOf, a_memory, a_statusOf, a_archPc, a_retiredOf, a_digestOf, a_value, a_ready, a_free, a_archMap, a_map, a_head, a_count, a_robPc, a_robState, a_robTimer, a_robStop, a_robDest, a_robNew, a_robOld, a_robA, a_robB, a_robVal, a_robAddr, a_robNext, a_robGuess, a_robLive, a_queue, a_fetchPc, a_fetchStop, a_counter, a_lastTarget, a_active, a_quota) u') → post u') :
    wX_completeOne_83 post (nI t) (nI k) (nI (sk_s hd t k)) f_threads f_width f_window f_freeTop f_queued f_total a_op a_regsOf a_immOf a_sizeOf a_memory a_statusOf a_archPc a_retiredOf a_digestOf a_value a_ready a_free a_archMap a_map a_head a_count a_robPc a_robState a_robTimer a_robStop a_robDest a_robNew a_robOld a_robA a_robB a_robVal a_robAddr a_robNext a_robGuess a_robLive a_queue a_fetchPc a_fetchStop a_counter a_lastTarget a_active a_quota := by
  have h4 := I.1.2.2.2.2
  have g := I.1.1 t ht
  have sl := sk_sl I.1 ht (show k ≤ 12 by omega)
  have vs : vp_in (nI (sk_s hd t k)) 48 := vp_in_nI sl (by decide)
  have vt : vp_in (nI t) 4 := vp_in_nI (by omega) (by decide)
  have cs : (nI (sk_s hd t k)).toNatClampNeg = sk_s hd t k := nI_clamp (by omega)
  have ctt : (nI t).toNatClampNeg = t := nI_clamp (by omega)
  obtain ⟨p, hp, hr⟩ := hl
  have hp24 : p < 24 := by have := I.2.1.1 t ht; omega
  refine sk_w_train (by omega) sl hp24 hr.1 (fun cc lt => ?_)
  refine And.intro vs (And.intro vs ?_)
  rw [cs]
  by_cases hg : a_robNext (sk_s hd t k) = a_robGuess (sk_s hd t k)
  · refine br_t hg ?_
    refine K _ (?_ : (sk_IV nt wd wn ex sn goal r0 op rg im sz f_threads f_width f_window f_freeTop f_queued f_total a_op a_regsOf a_immOf a_sizeOf a_memory a_statusOf a_archPc a_retiredOf a_digestOf a_value a_ready a_free a_archMap a_map a_head a_count a_robPc a_robState a_robTimer a_robStop a_robDest a_robNew a_robOld a_robA a_robB a_robVal a_robAddr a_robNext a_robGuess a_robLive a_queue a_fetchPc a_fetchStop cc lt a_active a_quota)) rfl rfl (fun x _ hc => ⟨rfl, rfl, hc, rfl, rfl, fun _ p a b => ⟨p, Nat.le_refl p, a, b⟩⟩)
    refine ⟨hce, hd, ct, ow, cn, Z, ft, qn, hK, I, hfq, Q, QQ, ?_, ?_, hY, hT⟩
    · intro x hx
      have gx := I.1.1 x hx
      refine ⟨(hA x hx).1, fun j hj => ?_⟩
      have q := (hA x hx).2 j hj
      by_cases e : x = t ∧ j = k
      · obtain ⟨e1, e2⟩ := e
        rw [e1, e2] at q ⊢
        rw [if_neg hs1] at q
        rw [if_pos hs2, hg]; exact q
      · rw [hs0 _ (sk_ne I.1 ht (by omega) hx (by omega) e)] at q
        exact q
    · intro x hx ha
      have gx := I.1.1 x hx
      refine ⟨(hB x hx ha).1, fun j hj => ⟨fun hf => ?_, ((hB x hx ha).2 j hj).2⟩⟩
      have q := ((hB x hx ha).2 j hj).1 hf
      by_cases e : x = t ∧ j = k
      · obtain ⟨e1, e2⟩ := e
        rw [e1, e2] at q ⊢
        rw [if_neg hs1] at q
        rw [if_pos hs2, hg]; exact q
      · rw [hs0 _ (sk_ne I.1 ht (by omega) hx (by omega) e)] at q
        exact q
  · refine br_f hg ?_
    rw [nI_1]
    refine sk_w_squash (keep := k + 1) ht (by omega) hfq I Q ?_
    intro ft' qn' ow' ct' rd' fr' mp' lv' co' qu' c1 c2 I' Q' QQ' hP
    have cle : ∀ x, x < nt → ct' x ≤ ct x := by
      intro x hx
      by_cases e : x = t
      · rw [e, c1]; omega
      · rw [c2 x e]; omega
    refine And.intro vs (And.intro vt (nm_r (e' := upd a_fetchPc t (a_robNext (sk_s hd t k))) (by rw [ctt]) (And.intro vt (nm_r (e' := upd a_fetchStop t 0) (by rw [ctt, sk_b0]) ?_))))
    refine K _ (?_ : (sk_IV nt wd wn ex sn goal r0 op rg im sz f_threads f_width f_window (nI ft') (nI qn') f_total a_op a_regsOf a_immOf a_sizeOf a_memory a_statusOf a_archPc a_retiredOf a_digestOf a_value rd' fr' a_archMap mp' a_head co' a_robPc a_robState a_robTimer a_robStop a_robDest a_robNew a_robOld a_robA a_robB a_robVal a_robAddr a_robNext a_robGuess lv' qu' (upd a_fetchPc t (a_robNext (sk_s hd t k))) (upd a_fetchStop t 0) cc lt a_active a_quota)) rfl rfl ?_
    · refine ⟨hce, hd, ct', ow', cn, Z, ft', qn', hK, ⟨I'.1, sk_fsEN I'.2.1 ?_, I'.2.2⟩, rfl, Q', QQ', ?_, ?_, ?_, hT⟩
      · intro j hj
        have : j = k := by omega
        subst this
        exact ⟨p, hp, hr⟩
      · intro x hx
        have gx := I.1.1 x hx
        have le := cle x hx
        refine ⟨fun h0 => (hA x hx).1 (by omega), fun j hj => ?_⟩
        have q := (hA x hx).2 j (by omega)
        rw [hs0 _ (sk_ne I.1 ht (by omega) hx (by omega) (by intro ⟨e1, e2⟩; rw [e1, c1] at hj; omega))] at q
        exact q
      · intro x hx ha
        have gx := I.1.1 x hx
        by_cases e : x = t
        · subst e
          rw [pk_us, pk_us, c1]
          refine ⟨fun z => absurd z (by omega), fun j hj => ⟨fun _ => ?_, fun z => absurd rfl z⟩⟩
          have : j = k := by omega
          subst this
          rw [if_pos hs2]
        · rw [pk_un e, pk_un e, c2 x e]
          refine ⟨(hB x hx ha).1, fun j hj => ⟨fun hf => ?_, ((hB x hx ha).2 j hj).2⟩⟩
          have q := ((hB x hx ha).2 j hj).1 hf
          rw [hs0 _ (sk_ne I.1 ht (by omega) hx (by omega) (by omega))] at q
          exact q
      · intro x hx
        by_cases e : x = t
        · subst e
          refine ⟨(hY x hx).1, fun ha => ?_⟩
          have z := ((hY x hx).2 ha).1
          omega
        · rw [c2 x e]; exact hY x hx
    · intro x hx hcx
      have gx := I.1.1 x hx
      have gx' := I'.1.1 x hx
      have hne : ct x ≠ 0 := by intro z; rw [gx.2.2.1, z] at hcx; exact hcx rfl
      have hne' : ct' x ≠ 0 := by
        by_cases e : x = t
        · rw [e, c1]; omega
        · rw [c2 x e]; exact hne
      have eh : sk_h (f_threads, f_width, f_window, f_freeTop, f_queued, f_total, a_op, a_regsOf, a_immOf, a_sizeOf, a_memory, a_statusOf, a_archPc, a_retiredOf, a_digestOf, a_value, a_ready, a_free, a_archMap, a_map, a_head, a_count, a_robPc, a_robState, a_robTimer, a_robStop, a_robDest, a_robNew, a_robOld, a_robA, a_robB, a_robVal, a_robAddr, a_robNext, a_robGuess, a_robLive, a_queue, a_fetchPc, a_fetchStop, a_counter, a_lastTarget, a_active, a_quota) x = sk_s hd x 0 := sk_hs I.1 hx
      refine ⟨rfl, rfl, ?_, rfl, rfl, ?_⟩
      · show co' x ≠ 0
        rw [gx'.2.2.1]
        exact nI_ne0 (by omega) (by omega)
      · rw [eh]
        intro hz p hp hq
        have hp' : p < qn := by
          have : f_queued.toNatClampNeg = qn := by rw [hfq, nI_clamp (by have := Q.1; omega)]
          have hp2 : p < f_queued.toNatClampNeg := hp
          omega
        obtain ⟨p', a, b, c⟩ := sk_PFh hP (sk_sl I.1 hx (by omega)) (I'.1.2.1 x 0 hx (by omega)) hz p hp' hq
        refine ⟨p', a, ?_, c⟩
        show p' < (nI qn').toNatClampNeg
        rw [nI_clamp (by have := Q'.1; omega)]; exact b
end
end
section
/-! sk_HF and sk_DD by the arrays -/
section
variable {f_threads f_width f_window f_freeTop f_queued f_total : Int32} {a_op a_regsOf a_immOf a_sizeOf a_memory a_statusOf a_archPc a_retiredOf a_digestOf a_value a_ready a_free a_archMap a_map a_head a_count a_robPc a_robState a_robTimer a_robStop a_robDest a_robNew a_robOld a_robA a_robB a_robVal a_robAddr a_robNext a_robGuess a_robLive a_queue a_fetchPc a_fetchStop a_counter a_lastTarget a_active a_quota : Nat → Int32} {f_threads' f_width' f_window' f_freeTop' f_queued' f_total' : Int32} {a_op' a_regsOf' a_immOf' a_sizeOf' a_memory' a_statusOf' a_archPc' a_retiredOf' a_digestOf' a_value' a_ready' a_free' a_archMap' a_map' a_head' a_count' a_robPc' a_robState' a_robTimer' a_robStop' a_robDest' a_robNew' a_robOld' a_robA' a_robB' a_robVal' a_robAddr' a_robNext' a_robGuess' a_robLive' a_queue' a_fetchPc' a_fetchStop' a_counter' a_lastTarget' a_active' a_quota' : Nat → Int32} {t h : Nat} {u' : SX}
theorem sk_HF_mk (eh : t * 12 + (a_head t).toNatClampNeg = h) (h1 : a_active' t = a_active t) (h2 : a_head' t = a_head t) (h3 : a_count' t ≠ 0) (h4 : a_robState' h = a_robState h) (h5 : a_robTimer' h = a_robTimer h)
    (h6 : a_robState h = 0 → ∀ p, p < f_queued.toNatClampNeg → a_queue p = nI h → ∃ p', p' ≤ p ∧ p' < f_queued'.toNatClampNeg ∧ a_queue' p' = nI h) : sk_HF t (f_threads, f_width, f_window, f_freeTop, f_queued, f_total, a_op, a_regsOf, a_immOf, a_sizeOf, a_memory, a_statusOf, a_archPc, a_retiredOf, a_digestOf, a_value, a_ready, a_free, a_archMap, a_map, a_head, a_count, a_robPc, a_robState, a_robTimer, a_robStop, a_robDest, a_robNew, a_robOld, a_robA, a_robB, a_robVal, a_robAddr, a_robNext, a_robGuess, a_robLive, a_queue, a_fetchPc, a_fetchStop, a_counter, a_lastTarget, a_active, a_quota) (f_threads', f_width', f_window', f_freeTop', f_queued', f_total', a_op', a_regsOf', a_immOf', a_sizeOf', a_memory', a_statusOf', a_archPc', a_retiredOf', a_digestOf', a_value', a_ready', a_free', a_archMap', a_map', a_head', a_count', a_robPc', a_robState', a_robTimer', a_robStop', a_robDest', a_robNew', a_robOld', a_robA', a_robB', a_robVal', a_robAddr', a_robNext', a_robGuess', a_robLive', a_queue', a_fetchPc', a_fetchStop', a_counter', a_lastTarget', a_active', a_quota') := by
  subst eh
  exact ⟨h1, h2, h3, h4, h5, h6⟩
theorem sk_HF_mu (eh : t * 12 + (a_head t).toNatClampNeg = h) (h1 : sx_active u' t = a_active t) (h2 : sx_head u' t = a_head t) (h3 : sx_count u' t ≠ 0) (h4 : sx_robState u' h = a_robState h) (h5 : sx_robTimer u' h = a_robTimer h)
    (h6 : a_robState h = 0 → ∀ p, p < f_queued.toNatClampNeg → a_queue p = nI h → ∃ p', p' ≤ p ∧ p' < (sx_queued u').toNatClampNeg ∧ sx_queue u' p' = nI h) : sk_HF t (f_threads, f_width, f_window, f_freeTop, f_queued, f_total, a_op, a_regsOf, a_immOf, a_sizeOf, a_memory, a_statusOf, a_archPc, a_retiredOf, a_digestOf, a_value, a_ready, a_free, a_archMap, a_map, a_head, a_count, a_robPc, a_robState, a_robTimer, a_robStop, a_robDest, a_robNew, a_robOld, a_robA, a_robB, a_robVal, a_robAddr, a_robNext, a_robGuess, a_robLive, a_queue, a_fetchPc, a_fetchStop, a_counter, a_lastTarget, a_active, a_quota) u' := by
  subst eh
  exact ⟨h1, h2, h3, h4, h5, h6⟩
theorem sk_HF_el (eh : t * 12 + (a_head t).toNatClampNeg = h) (H : sk_HF t (f_threads, f_width, f_window, f_freeTop, f_queued, f_total, a_op, a_regsOf, a_immOf, a_sizeOf, a_memory, a_statusOf, a_archPc, a_retiredOf, a_digestOf, a_value, a_ready, a_free, a_archMap, a_map, a_head, a_count, a_robPc, a_robState, a_robTimer, a_robStop, a_robDest, a_robNew, a_robOld, a_robA, a_robB, a_robVal, a_robAddr, a_robNext, a_robGuess, a_robLive, a_queue, a_fetchPc, a_fetchStop, a_counter, a_lastTarget, a_active, a_quota) u') :
    sx_active u' t = a_active t ∧ sx_head u' t = a_head t ∧ sx_count u' t ≠ 0 ∧ sx_robState u' h = a_robState h ∧ sx_robTimer u' h = a_robTimer h ∧
    (a_robState h = 0 → ∀ p, p < f_queued.toNatClampNeg → a_queue p = nI h → ∃ p', p' ≤ p ∧ p' < (sx_queued u').toNatClampNeg ∧ sx_queue u' p' = nI h) := by
  subst eh
  exact H
theorem sk_DD_mk {a b c m : Nat} (eh : t * 12 + (a_head t).toNatClampNeg = h) (h1 : a_active t ≠ 0) (h2 : a_count t ≠ 0)
    (d : (a_robState h = 2 ∧ a ≤ m) ∨ (a_robState h = 1 ∧ ∃ τ, 1 ≤ τ ∧ τ ≤ 4 ∧ a_robTimer h = nI τ ∧ τ + b ≤ m) ∨ (a_robState h = 0 ∧ ∃ p, p < f_queued.toNatClampNeg ∧ a_queue p = nI h ∧ p + c ≤ m)) : sk_DD a b c m t (f_threads, f_width, f_window, f_freeTop, f_queued, f_total, a_op, a_regsOf, a_immOf, a_sizeOf, a_memory, a_statusOf, a_archPc, a_retiredOf, a_digestOf, a_value, a_ready, a_free, a_archMap, a_map, a_head, a_count, a_robPc, a_robState, a_robTimer, a_robStop, a_robDest, a_robNew, a_robOld, a_robA, a_robB, a_robVal, a_robAddr, a_robNext, a_robGuess, a_robLive, a_queue, a_fetchPc, a_fetchStop, a_counter, a_lastTarget, a_active, a_quota) := by
  subst eh
  exact ⟨h1, h2, d⟩
theorem sk_DD_el {a b c m : Nat} (eh : t * 12 + (a_head t).toNatClampNeg = h) (D : sk_DD a b c m t (f_threads, f_width, f_window, f_freeTop, f_queued, f_total, a_op, a_regsOf, a_immOf, a_sizeOf, a_memory, a_statusOf, a_archPc, a_retiredOf, a_digestOf, a_value, a_ready, a_free, a_archMap, a_map, a_head, a_count, a_robPc, a_robState, a_robTimer, a_robStop, a_robDest, a_robNew, a_robOld, a_robA, a_robB, a_robVal, a_robAddr, a_robNext, a_robGuess, a_robLive, a_queue, a_fetchPc, a_fetchStop, a_counter, a_lastTarget, a_active, a_quota)) : a_active t ≠ 0 ∧ a_count t ≠ 0 ∧
    ((a_robState h = 2 ∧ a ≤ m) ∨ (a_robState h = 1 ∧ ∃ τ, 1 ≤ τ ∧ τ ≤ 4 ∧ a_robTimer h = nI τ ∧ τ + b ≤ m) ∨ (a_robState h = 0 ∧ ∃ p, p < f_queued.toNatClampNeg ∧ a_queue p = nI h ∧ p + c ≤ m)) := by
  subst eh
  exact D
end
end
section
/-! completeOne -/
theorem sk_HF_D {a b c m t : Nat} {u u' : SX} (h : sk_HF t u u') (d : sk_DD a b c m t u) : sk_DD a b c m t u' := sk_DD_H h d
section
variable {f_threads f_width f_window f_freeTop f_queued f_total : Int32} {a_op a_regsOf a_immOf a_sizeOf a_memory a_statusOf a_archPc a_retiredOf a_digestOf a_value a_ready a_free a_archMap a_map a_head a_count a_robPc a_robState a_robTimer a_robStop a_robDest a_robNew a_robOld a_robA a_robB a_robVal a_robAddr a_robNext a_robGuess a_robLive a_queue a_fetchPc a_fetchStop a_counter a_lastTarget a_active a_quota : Nat → Int32} {nt wd wn ex : Nat} {sn : Nat → Nat} {goal : Nat → sk_Y} {r0 op rg im sz : Nat → Int32} {post : SX → Prop}
theorem sk_w_comp1 {t k : Nat} (ht : t < nt) (I0 : (sk_IV nt wd wn ex sn goal r0 op rg im sz f_threads f_width f_window f_freeTop f_queued f_total a_op a_regsOf a_immOf a_sizeOf a_memory a_statusOf a_archPc a_retiredOf a_digestOf a_value a_ready a_free a_archMap a_map a_head a_count a_robPc a_robState a_robTimer a_robStop a_robDest a_robNew a_robOld a_robA a_robB a_robVal a_robAddr a_robNext a_robGuess a_robLive a_queue a_fetchPc a_fetchStop a_counter a_lastTarget a_active a_quota)) (hk : nI k < a_count t) (hk12 : k < 12)
    (K : ∀ u', sk_IU nt wd wn ex sn goal r0 op rg im sz u' → sx_active u' = a_active → sx_quota u' = a_quota →
      (∀ x, x < nt → a_count x ≠ 0 → ¬ (x = t ∧ k = 0) → sk_HF x (f_threads, f_width, f_window, f_freeTop, f_queued, f_total, a_op, a_regsOf, a_immOf, a_sizeOf, a_memory, a_statusOf, a_archPc, a_retiredOf, a_digestOf, a_value, a_ready, a_free, a_archMap, a_map, a_head, a_count, a_robPc, a_robState, a_robTimer, a_robStop, a_robDest, a_robNew, a_robOld, a_robA, a_robB, a_robVal, a_robAddr, a_robNext, a_robGuess, a_robLive, a_queue, a_fetchPc, a_fetchStop, a_counter, a_lastTarget, a_active, a_quota) u') → (∀ m, k = 0 → sk_DD (m + 1) 1 6 m t (f_threads, f_width, f_window, f_freeTop, f_queued, f_total, a_op, a_regsOf, a_immOf, a_sizeOf, a_memory, a_statusOf, a_archPc, a_retiredOf, a_digestOf, a_value, a_ready, a_free, a_archMap, a_map, a_head, a_count, a_robPc, a_robState, a_robTimer, a_robStop, a_robDest, a_robNew, a_robOld, a_robA, a_robB, a_robVal, a_robAddr, a_robNext, a_robGuess, a_robLive, a_queue, a_fetchPc, a_fetchStop, a_counter, a_lastTarget, a_active, a_quota) → sk_DD 2 2 6 m t u') → post u') :
    wpX_completeOne post (f_threads, f_width, f_window, f_freeTop, f_queued, f_total, a_op, a_regsOf, a_immOf, a_sizeOf, a_memory, a_statusOf, a_archPc, a_retiredOf, a_digestOf, a_value, a_ready, a_free, a_archMap, a_map, a_head, a_count, a_robPc, a_robState, a_robTimer, a_robStop, a_robDest, a_robNew, a_robOld, a_robA, a_robB, a_robVal, a_robAddr, a_robNext, a_robGuess, a_robLive, a_queue, a_fetchPc, a_fetchStop, a_counter, a_lastTarget, a_active, a_quota) (nI t) (nI k) := by
  obtain ⟨hce, hd, ct, ow, cn, Z, ft, qn, J⟩ := I0
  have J' := J
  obtain ⟨hK, I, hfq, Q, QQ, hA, hB, hY, hT⟩ := J
  have h4 := I.1.2.2.2.2
  have g := I.1.1 t ht
  have hk' : k < ct t := by
    rw [g.2.2.1] at hk
    exact (nI_ltI (by omega) (by omega)).mp hk
  have sl := sk_sl I.1 ht (show k ≤ 12 by omega)
  have vs : vp_in (nI (sk_s hd t k)) 48 := vp_in_nI sl (by decide)
  have cs : (nI (sk_s hd t k)).toNatClampNeg = sk_s hd t k := nI_clamp (by omega)
  have eh : sk_h (f_threads, f_width, f_window, f_freeTop, f_queued, f_total, a_op, a_regsOf, a_immOf, a_sizeOf, a_memory, a_statusOf, a_archPc, a_retiredOf, a_digestOf, a_value, a_ready, a_free, a_archMap, a_map, a_head, a_count, a_robPc, a_robState, a_robTimer, a_robStop, a_robDest, a_robNew, a_robOld, a_robA, a_robB, a_robVal, a_robAddr, a_robNext, a_robGuess, a_robLive, a_queue, a_fetchPc, a_fetchStop, a_counter, a_lastTarget, a_active, a_quota) t = sk_s hd t 0 := sk_hs I.1 ht
  unfold wpX_completeOne
  refine sk_w_sl (k := k) (by omega) g.1 g.2.1 (by omega) ?_
  refine And.intro vs ?_
  rw [cs]
  by_cases hst : a_robState (sk_s hd t k) = 1
  · refine br_t hst ?_
    obtain ⟨p, hp, hr⟩ : ∃ p, p < sn t ∧ sk_er t p a_op a_regsOf a_immOf (Z t k) (Z t (k + 1)) (a_robPc (sk_s hd t k)) (a_robState (sk_s hd t k)) (a_robTimer (sk_s hd t k)) (a_robStop (sk_s hd t k)) (a_robDest (sk_s hd t k)) (a_robNew (sk_s hd t k)) (a_robOld (sk_s hd t k)) (a_robA (sk_s hd t k)) (a_robB (sk_s hd t k)) (a_robVal (sk_s hd t k)) (a_robAddr (sk_s hd t k)) (a_robNext (sk_s hd t k)) := by
      rcases I.2.1.2 t k ht hk' with e | ⟨_, _, _, e, _⟩
      · exact e
      · rw [hst] at e; exact absurd e (by decide)
    obtain ⟨r1, r2, r3, r4⟩ := hr
    obtain ⟨τ, τ1, τ4, etm, eo⟩ : ∃ c, 1 ≤ c ∧ c ≤ 4 ∧ a_robTimer (sk_s hd t k) = nI c ∧ sk_eo (a_op (t * 24 + p)) (a_regsOf (t * 24 + p)) (a_immOf (t * 24 + p)) (a_robPc (sk_s hd t k)) (Z t k) (a_robStop (sk_s hd t k)) (a_robVal (sk_s hd t k)) (a_robAddr (sk_s hd t k)) (a_robNext (sk_s hd t k)) := by
      rcases r4 with ⟨e, _⟩ | ⟨e | ⟨_, c, c1, c2, c3⟩, eo⟩
      · rw [hst] at e; exact absurd e (by decide)
      · rw [hst] at e; exact absurd e (by decide)
      · exact ⟨c, c1, c2, c3, eo⟩
    obtain ⟨τ', rfl⟩ : ∃ τ', τ = τ' + 1 := ⟨τ - 1, by omega⟩
    refine And.intro vs (And.intro vs (nm_r (e' := upd a_robTimer (sk_s hd t k) (nI τ')) (by rw [etm, nI_pred]) (And.intro vs ?_)))
    rw [pk_us]
    refine pk_le τ' 0 (fun z => ?_) (fun z => ?_)
    · -- done
      refine And.intro vs (nm_e (And.intro vs ?_))
      have offs : ∀ q, q ≠ sk_s hd t k → upd a_robState (sk_s hd t k) 2 q = a_robState q ∧ upd a_robTimer (sk_s hd t k) (nI τ') q = a_robTimer q ∧ a_robStop q = a_robStop q ∧ a_robVal q = a_robVal q ∧ a_robAddr q = a_robAddr q ∧ a_robNext q = a_robNext q :=
        fun q hq => ⟨pk_un hq, pk_un hq, rfl, rfl, rfl, rfl⟩
      have hnew : ∃ p, p < sn t ∧ sk_er t p a_op a_regsOf a_immOf (Z t k) (Z t (k + 1)) (a_robPc (sk_s hd t k)) (upd a_robState (sk_s hd t k) 2 (sk_s hd t k)) (upd a_robTimer (sk_s hd t k) (nI τ') (sk_s hd t k)) (a_robStop (sk_s hd t k)) (a_robDest (sk_s hd t k)) (a_robNew (sk_s hd t k)) (a_robOld (sk_s hd t k)) (a_robA (sk_s hd t k)) (a_robB (sk_s hd t k)) (a_robVal (sk_s hd t k)) (a_robAddr (sk_s hd t k)) (a_robNext (sk_s hd t k)) :=
        ⟨p, hp, r1, r2, r3, Or.inr ⟨Or.inl pk_us, eo⟩⟩
      have Q' : (sk_QW nt hd ct qn (upd a_robState (sk_s hd t k) 2) a_queue) := by
        refine ⟨Q.1, Q.2.1, Q.2.2.1, fun x j hx hj hz => ?_⟩
        by_cases e : sk_s hd x j = sk_s hd t k
        · rw [e, pk_us] at hz; exact absurd hz (by decide)
        · rw [pk_un e] at hz; exact Q.2.2.2 x j hx hj hz
      have QQ' : (sk_QQ nt hd ct qn (upd a_robState (sk_s hd t k) 2) a_queue) := by
        intro i hi
        obtain ⟨x, j, hx, hj, a, b⟩ := QQ i hi
        refine ⟨x, j, hx, hj, a, ?_⟩
        rw [pk_un (by intro e; rw [e, hst] at b; exact absurd b (by decide))]
        exact b
      have fin : ∀ u' : SX, sx_active u' = a_active → sx_quota u' = a_quota → ∀ (vl rd : Nat → Int32), (∀ x, x < nt → a_count x ≠ 0 → sk_HF x (f_threads, f_width, f_window, f_freeTop, f_queued, f_total, a_op, a_regsOf, a_immOf, a_sizeOf, a_memory, a_statusOf, a_archPc, a_retiredOf, a_digestOf, vl, rd, a_free, a_archMap, a_map, a_head, a_count, a_robPc, upd a_robState (sk_s hd t k) 2, upd a_robTimer (sk_s hd t k) (nI τ'), a_robStop, a_robDest, a_robNew, a_robOld, a_robA, a_robB, a_robVal, a_robAddr, a_robNext, a_robGuess, a_robLive, a_queue, a_fetchPc, a_fetchStop, a_counter, a_lastTarget, a_active, a_quota) u') →
          sk_IU nt wd wn ex sn goal r0 op rg im sz u' → post u' := by
        intro u' ea eq vl rd hH I'
        refine K u' I' ea eq (fun x hx hcx hne => ?_) (fun m hk0 hD => ?_)
        · have gx := I.1.1 x hx
          have ehx := sk_hs I.1 hx
          have ne : sk_s hd x 0 ≠ sk_s hd t k := sk_ne I.1 ht hk12 hx (by omega) (by omega)
          obtain ⟨b1, b2, b3, b4, b5, b6⟩ := sk_HF_el ehx (hH x hx hcx)
          rw [pk_un ne] at b4 b5 b6
          exact sk_HF_mu ehx b1 b2 b3 b4 b5 b6
        · subst hk0
          have hct : a_count t ≠ 0 := by rw [g.2.2.1]; exact nI_ne0 (by omega) (by omega)
          obtain ⟨d1, d2, d3⟩ := sk_DD_el (sk_hs I.1 ht) hD
          refine sk_DD_H (hH t ht hct) (sk_DD_mk (sk_hs I.1 ht) d1 hct (Or.inl ⟨pk_us, ?_⟩))
          rcases d3 with ⟨_, d⟩ | ⟨_, τ2, d1, _, _, d2⟩ | ⟨d, _⟩
          · omega
          · omega
          · rw [hst] at d; exact absurd d (by decide)
      by_cases hde : a_robDest (sk_s hd t k) < 0
      · refine br_t hde ?_
        exact sk_w_83 (st0 := a_robState) ht hk' hce hK (sk_mdA ht hk' offs hnew (fun _ => hde) I) hfq Q' QQ' (fun q hq => (pk_un hq).symm) (by rw [hst]; decide) pk_us hA hB hY hT hnew
          (fun u' I' ea eq hH => fin u' ea eq a_value a_ready hH I')
      · refine br_f hde ?_
        obtain ⟨d, hd8, enw⟩ : ∃ d, d < 8 ∧ a_robNew (sk_s hd t k) = nI ((Z t (k + 1)).1 d) := by
          rcases sk_de I.2.1 ht hk' with ⟨d, a, _, _, b, _⟩ | ⟨a, _⟩
          · exact ⟨d, a, b⟩
          · rw [a] at hde; exact absurd sk_m1lt hde
        have p56 := (I.2.2.2.1 t (k + 1) d ht (by omega) hd8).1
        have I' := sk_mdB ht hk' offs hnew pk_us hde enw p56 I
        have vn : vp_in (a_robNew (sk_s hd t k)) 56 := by rw [enw]; exact vp_in_nI p56 (by decide)
        have cnw : (a_robNew (sk_s hd t k)).toNatClampNeg = (Z t (k + 1)).1 d := by rw [enw, nI_clamp (by omega)]
        refine And.intro vs (And.intro vs (And.intro vn (nm_r (e' := upd a_value ((Z t (k + 1)).1 d) (a_robVal (sk_s hd t k))) (by rw [cnw]) (And.intro vs (And.intro vn (nm_r (e' := upd a_ready ((Z t (k + 1)).1 d) 1) (by rw [cnw, sk_b1]) ?_))))))
        exact sk_w_83 (st0 := a_robState) ht hk' hce hK I' hfq Q' QQ' (fun q hq => (pk_un hq).symm) (by rw [hst]; decide) pk_us hA hB hY hT hnew
          (fun u' I' ea eq hH => fin u' ea eq _ _ hH I')
    · -- one tick
      have I' := sk_mdA (st' := a_robState) (tm' := upd a_robTimer (sk_s hd t k) (nI τ')) (sp' := a_robStop) (va' := a_robVal) (ad' := a_robAddr) (nx' := a_robNext) ht hk' (fun q hq => ⟨rfl, pk_un hq, rfl, rfl, rfl, rfl⟩)
        ⟨p, hp, r1, r2, r3, Or.inr ⟨Or.inr ⟨hst, τ', by omega, by omega, pk_us⟩, eo⟩⟩ (by rw [hst]; intro z; exact absurd z (by decide)) I
      refine K _ (⟨hce, hd, ct, ow, cn, Z, ft, qn, hK, I', hfq, Q, QQ, hA, hB, hY, hT⟩ : (sk_IV nt wd wn ex sn goal r0 op rg im sz f_threads f_width f_window f_freeTop f_queued f_total a_op a_regsOf a_immOf a_sizeOf a_memory a_statusOf a_archPc a_retiredOf a_digestOf a_value a_ready a_free a_archMap a_map a_head a_count a_robPc a_robState (upd a_robTimer (sk_s hd t k) (nI τ')) a_robStop a_robDest a_robNew a_robOld a_robA a_robB a_robVal a_robAddr a_robNext a_robGuess a_robLive a_queue a_fetchPc a_fetchStop a_counter a_lastTarget a_active a_quota)) rfl rfl (fun x hx hcx hne => ?_) (fun m hk0 hD => ?_)
      · have ehx := sk_hs I.1 hx
        have ne : sk_s hd x 0 ≠ sk_s hd t k := sk_ne I.1 ht hk12 hx (by omega) (by omega)
        exact sk_HF_mk ehx rfl rfl hcx rfl (pk_un ne) (fun _ p a b => ⟨p, Nat.le_refl p, a, b⟩)
      · subst hk0
        obtain ⟨d1, d2, d3⟩ := sk_DD_el (sk_hs I.1 ht) hD
        refine sk_DD_mk (sk_hs I.1 ht) d1 d2 (Or.inr (Or.inl ⟨hst, τ', by omega, by omega, pk_us, ?_⟩))
        rcases d3 with ⟨_, d⟩ | ⟨_, τ2, d1, d4, d3, d2⟩ | ⟨d, _⟩
        · omega
        · rw [etm] at d3
          have := (nI_eq (by omega) (by omega)).mp d3
          omega
        · rw [hst] at d; exact absurd d (by decide)
  · refine br_f hst ?_
    refine K _ (⟨hce, hd, ct, ow, cn, Z, ft, qn, J'⟩ : (sk_IV nt wd wn ex sn goal r0 op rg im sz f_threads f_width f_window f_freeTop f_queued f_total a_op a_regsOf a_immOf a_sizeOf a_memory a_statusOf a_archPc a_retiredOf a_digestOf a_value a_ready a_free a_archMap a_map a_head a_count a_robPc a_robState a_robTimer a_robStop a_robDest a_robNew a_robOld a_robA a_robB a_robVal a_robAddr a_robNext a_robGuess a_robLive a_queue a_fetchPc a_fetchStop a_counter a_lastTarget a_active a_quota)) rfl rfl (fun x hx hcx hne => sk_HF_r hcx) (fun m hk0 hD => ?_)
    subst hk0
    obtain ⟨d1, d2, d3⟩ := sk_DD_el (sk_hs I.1 ht) hD
    refine sk_DD_mk (sk_hs I.1 ht) d1 d2 ?_
    rcases d3 with ⟨_, d⟩ | ⟨d, _⟩ | d
    · omega
    · exact absurd d hst
    · exact Or.inr (Or.inr d)
end
end
section
/-! completeStage -/
def sk_CJ (nt : Nat) (u0 : SX) (P : Nat → Prop) (u : SX) : Prop :=
  sx_active u = sx_active u0 ∧ sx_quota u = sx_quota u0 ∧ ∀ x m, x < nt → sk_DD (m + 1) 1 6 m x u0 → (P x → sk_DD (m + 1) 1 6 m x u) ∧ (¬ P x → sk_DD 2 2 6 m x u)
theorem sk_N_eq {nt : Nat} {u u' : SX} (ea : sx_active u' = sx_active u) (eq : sx_quota u' = sx_quota u) : sk_N nt u' = sk_N nt u := by
  unfold sk_N; rw [ea, eq]
section
variable {nt wd wn ex : Nat} {sn : Nat → Nat} {goal : Nat → sk_Y} {r0 op rg im sz : Nat → Int32} {post : SX → Prop} {u0 : SX}
theorem sk_w_cs12 {J2 : Int32 → Int32 → Int32 → Int32 → Int32 → Int32 → Int32 → (Nat → Int32) → (Nat → Int32) → (Nat → Int32) → (Nat → Int32) → (Nat → Int32) → (Nat → Int32) → (Nat → Int32) → (Nat → Int32) → (Nat → Int32) → (Nat → Int32) → (Nat → Int32) → (Nat → Int32) → (Nat → Int32) → (Nat → Int32) → (Nat → Int32) → (Nat → Int32) → (Nat → Int32) → (Nat → Int32) → (Nat → Int32) → (Nat → Int32) → (Nat → Int32) → (Nat → Int32) → (Nat → Int32) → (Nat → Int32) → (Nat → Int32) → (Nat → Int32) → (Nat → Int32) → (Nat → Int32) → (Nat → Int32) → (Nat → Int32) → (Nat → Int32) → (Nat → Int32) → (Nat → Int32) → (Nat → Int32) → (Nat → Int32) → (Nat → Int32) → (Nat → Int32) → Prop} {t : Nat} (ht : t < nt)
    (K : ∀ u', sk_IU nt wd wn ex sn goal r0 op rg im sz u' → sk_CJ nt u0 (fun x => t < x) u' → sk_ap (J2 (nI (t + 1))) u') :
    ∀ d k, k + d = 12 → ∀ u, sk_IU nt wd wn ex sn goal r0 op rg im sz u → sk_CJ nt u0 (fun x => t < x ∨ (t = x ∧ k = 0)) u → ∀ n, d < n →
      sk_ap (wX_completeStage_12 post J2 (nI t) n (nI k)) u := by
  intro d
  induction d with
  | zero =>
    intro k hk u
    refine sk_el (P := fun u => sk_IU nt wd wn ex sn goal r0 op rg im sz u → sk_CJ nt u0 (fun x => t < x ∨ (t = x ∧ k = 0)) u → ∀ n, 0 < n → sk_ap (wX_completeStage_12 post J2 (nI t) n (nI k)) u) ?_ u
    intro f_threads f_width f_window f_freeTop f_queued f_total a_op a_regsOf a_immOf a_sizeOf a_memory a_statusOf a_archPc a_retiredOf a_digestOf a_value a_ready a_free a_archMap a_map a_head a_count a_robPc a_robState a_robTimer a_robStop a_robDest a_robNew a_robOld a_robA a_robB a_robVal a_robAddr a_robNext a_robGuess a_robLive a_queue a_fetchPc a_fetchStop a_counter a_lastTarget a_active a_quota I R n hn
    obtain ⟨m, rfl⟩ : ∃ m, n = m + 1 := ⟨n - 1, by omega⟩
    show wX_completeStage_12 post J2 (nI t) (m + 1) (nI k) f_threads f_width f_window f_freeTop f_queued f_total a_op a_regsOf a_immOf a_sizeOf a_memory a_statusOf a_archPc a_retiredOf a_digestOf a_value a_ready a_free a_archMap a_map a_head a_count a_robPc a_robState a_robTimer a_robStop a_robDest a_robNew a_robOld a_robA a_robB a_robVal a_robAddr a_robNext a_robGuess a_robLive a_queue a_fetchPc a_fetchStop a_counter a_lastTarget a_active a_quota
    obtain ⟨hce, hd, ct, ow, cn, Z, ft, qn, J⟩ := (show (sk_IV nt wd wn ex sn goal r0 op rg im sz f_threads f_width f_window f_freeTop f_queued f_total a_op a_regsOf a_immOf a_sizeOf a_memory a_statusOf a_archPc a_retiredOf a_digestOf a_value a_ready a_free a_archMap a_map a_head a_count a_robPc a_robState a_robTimer a_robStop a_robDest a_robNew a_robOld a_robA a_robB a_robVal a_robAddr a_robNext a_robGuess a_robLive a_queue a_fetchPc a_fetchStop a_counter a_lastTarget a_active a_quota) from I)
    have h4 := J.2.1.1.2.2.2.2
    have g := J.2.1.1.1 t ht
    have ctt : (nI t).toNatClampNeg = t := nI_clamp (by omega)
    refine And.intro (vp_in_nI (by omega) (by decide)) ?_
    rw [ctt]
    refine br_t ?_ (nm_r (nI_1 t) ?_)
    · rw [g.2.2.1]; exact nI_le (by omega) (by omega)
    · refine K _ I ⟨R.1, R.2.1, fun x m hx hD => ⟨fun z => (R.2.2 x m hx hD).1 (Or.inl z), fun z => (R.2.2 x m hx hD).2 (by omega)⟩⟩
  | succ d ih =>
    intro k hk u
    refine sk_el (P := fun u => sk_IU nt wd wn ex sn goal r0 op rg im sz u → sk_CJ nt u0 (fun x => t < x ∨ (t = x ∧ k = 0)) u → ∀ n, d + 1 < n → sk_ap (wX_completeStage_12 post J2 (nI t) n (nI k)) u) ?_ u
    intro f_threads f_width f_window f_freeTop f_queued f_total a_op a_regsOf a_immOf a_sizeOf a_memory a_statusOf a_archPc a_retiredOf a_digestOf a_value a_ready a_free a_archMap a_map a_head a_count a_robPc a_robState a_robTimer a_robStop a_robDest a_robNew a_robOld a_robA a_robB a_robVal a_robAddr a_robNext a_robGuess a_robLive a_queue a_fetchPc a_fetchStop a_counter a_lastTarget a_active a_quota I R n hn
    obtain ⟨m, rfl⟩ : ∃ m, n = m + 1 := ⟨n - 1, by omega⟩
    show wX_completeStage_12 post J2 (nI t) (m + 1) (nI k) f_threads f_width f_window f_freeTop f_queued f_total a_op a_regsOf a_immOf a_sizeOf a_memory a_statusOf a_archPc a_retiredOf a_digestOf a_value a_ready a_free a_archMap a_map a_head a_count a_robPc a_robState a_robTimer a_robStop a_robDest a_robNew a_robOld a_robA a_robB a_robVal a_robAddr a_robNext a_robGuess a_robLive a_queue a_fetchPc a_fetchStop a_counter a_lastTarget a_active a_quota
    obtain ⟨hce, hd, ct, ow, cn, Z, ft, qn, J⟩ := (show (sk_IV nt wd wn ex sn goal r0 op rg im sz f_threads f_width f_window f_freeTop f_queued f_total a_op a_regsOf a_immOf a_sizeOf a_memory a_statusOf a_archPc a_retiredOf a_digestOf a_value a_ready a_free a_archMap a_map a_head a_count a_robPc a_robState a_robTimer a_robStop a_robDest a_robNew a_robOld a_robA a_robB a_robVal a_robAddr a_robNext a_robGuess a_robLive a_queue a_fetchPc a_fetchStop a_counter a_lastTarget a_active a_quota) from I)
    have h4 := J.2.1.1.2.2.2.2
    have g := J.2.1.1.1 t ht
    have ctt : (nI t).toNatClampNeg = t := nI_clamp (by omega)
    refine And.intro (vp_in_nI (by omega) (by decide)) ?_
    rw [ctt]
    by_cases hck : a_count t ≤ nI k
    · refine br_t hck (nm_r (nI_1 t) ?_)
      refine K _ I ⟨R.1, R.2.1, fun x m hx hD => ⟨fun z => (R.2.2 x m hx hD).1 (Or.inl z), fun z => ?_⟩⟩
      by_cases e : t = x ∧ k = 0
      · obtain ⟨e1, e2⟩ := e
        subst e1; subst e2
        have q := (R.2.2 t m hx hD).1 (Or.inr ⟨rfl, rfl⟩)
        have c0 := (sk_DD_el rfl q).2.1
        rw [g.2.2.1] at hck c0
        have : ct t ≤ 0 := (nI_leI (by omega) (by omega)).mp hck
        rw [show ct t = 0 by omega] at c0
        exact absurd rfl c0
      · exact (R.2.2 x m hx hD).2 (by omega)
    · refine br_f hck ?_
      have hlt : nI k < a_count t := Int32.not_le.mp hck
      refine sk_w_comp1 ht (show (sk_IV nt wd wn ex sn goal r0 op rg im sz f_threads f_width f_window f_freeTop f_queued f_total a_op a_regsOf a_immOf a_sizeOf a_memory a_statusOf a_archPc a_retiredOf a_digestOf a_value a_ready a_free a_archMap a_map a_head a_count a_robPc a_robState a_robTimer a_robStop a_robDest a_robNew a_robOld a_robA a_robB a_robVal a_robAddr a_robNext a_robGuess a_robLive a_queue a_fetchPc a_fetchStop a_counter a_lastTarget a_active a_quota) from I) hlt (by omega) (fun u' I' ea eq hH hD0 => ?_)
      show ∀ x, x = nI k + 1 → sk_ap (wX_completeStage_12 post J2 (nI t) m x) u'
      refine nm_r (nI_1 k) ?_
      refine ih (k + 1) (by omega) u' I' ⟨ea.trans R.1, eq.trans R.2.1, fun x m hx hD => ⟨fun z => ?_, fun z => ?_⟩⟩ m (by omega)
      · have z' : t < x := by omega
        have q := (R.2.2 x m hx hD).1 (Or.inl z')
        exact sk_DD_H (hH x hx (sk_DD_el rfl q).2.1 (by omega)) q
      · by_cases e : t = x ∧ k = 0
        · obtain ⟨e1, e2⟩ := e
          subst e1; subst e2
          exact hD0 m rfl ((R.2.2 t m hx hD).1 (Or.inr ⟨rfl, rfl⟩))
        · have q := (R.2.2 x m hx hD).2 (by omega)
          exact sk_DD_H (hH x hx (sk_DD_el rfl q).2.1 (by omega)) q
theorem sk_w_cs2 (h4 : nt ≤ 4)
    (K : ∀ u', sk_IU nt wd wn ex sn goal r0 op rg im sz u' → sk_CJ nt u0 (fun x => nt ≤ x) u' → post u') :
    ∀ d t, t + d = nt → ∀ u, sk_IU nt wd wn ex sn goal r0 op rg im sz u → sk_CJ nt u0 (fun x => t ≤ x) u → ∀ n, d < n → sk_ap (wX_completeStage_2 post n (nI t)) u := by
  intro d
  induction d with
  | zero =>
    intro t htd u
    refine sk_el (P := fun u => sk_IU nt wd wn ex sn goal r0 op rg im sz u → sk_CJ nt u0 (fun x => t ≤ x) u → ∀ n, 0 < n → sk_ap (wX_completeStage_2 post n (nI t)) u) ?_ u
    intro f_threads f_width f_window f_freeTop f_queued f_total a_op a_regsOf a_immOf a_sizeOf a_memory a_statusOf a_archPc a_retiredOf a_digestOf a_value a_ready a_free a_archMap a_map a_head a_count a_robPc a_robState a_robTimer a_robStop a_robDest a_robNew a_robOld a_robA a_robB a_robVal a_robAddr a_robNext a_robGuess a_robLive a_queue a_fetchPc a_fetchStop a_counter a_lastTarget a_active a_quota I R n hn
    obtain ⟨m, rfl⟩ : ∃ m, n = m + 1 := ⟨n - 1, by omega⟩
    show wX_completeStage_2 post (m + 1) (nI t) f_threads f_width f_window f_freeTop f_queued f_total a_op a_regsOf a_immOf a_sizeOf a_memory a_statusOf a_archPc a_retiredOf a_digestOf a_value a_ready a_free a_archMap a_map a_head a_count a_robPc a_robState a_robTimer a_robStop a_robDest a_robNew a_robOld a_robA a_robB a_robVal a_robAddr a_robNext a_robGuess a_robLive a_queue a_fetchPc a_fetchStop a_counter a_lastTarget a_active a_quota
    obtain ⟨hce, hd, ct, ow, cn, Z, ft, qn, J⟩ := (show (sk_IV nt wd wn ex sn goal r0 op rg im sz f_threads f_width f_window f_freeTop f_queued f_total a_op a_regsOf a_immOf a_sizeOf a_memory a_statusOf a_archPc a_retiredOf a_digestOf a_value a_ready a_free a_archMap a_map a_head a_count a_robPc a_robState a_robTimer a_robStop a_robDest a_robNew a_robOld a_robA a_robB a_robVal a_robAddr a_robNext a_robGuess a_robLive a_queue a_fetchPc a_fetchStop a_counter a_lastTarget a_active a_quota) from I)
    have e : t = nt := by omega
    subst e
    refine br_t ?_ (K _ I R)
    rw [J.1.1]; exact nI_le (by omega) (by omega)
  | succ d ih =>
    intro t htd u
    refine sk_el (P := fun u => sk_IU nt wd wn ex sn goal r0 op rg im sz u → sk_CJ nt u0 (fun x => t ≤ x) u → ∀ n, d + 1 < n → sk_ap (wX_completeStage_2 post n (nI t)) u) ?_ u
    intro f_threads f_width f_window f_freeTop f_queued f_total a_op a_regsOf a_immOf a_sizeOf a_memory a_statusOf a_archPc a_retiredOf a_digestOf a_value a_ready a_free a_archMap a_map a_head a_count a_robPc a_robState a_robTimer a_robStop a_robDest a_robNew a_robOld a_robA a_robB a_robVal a_robAddr a_robNext a_robGuess a_robLive a_queue a_fetchPc a_fetchStop a_counter a_lastTarget a_active a_quota I R n hn
    obtain ⟨m, rfl⟩ : ∃ m, n = m + 1 := ⟨n - 1, by omega⟩
    show wX_completeStage_2 post (m + 1) (nI t) f_threads f_width f_window f_freeTop f_queued f_total a_op a_regsOf a_immOf a_sizeOf a_memory a_statusOf a_archPc a_retiredOf a_digestOf a_value a_ready a_free a_archMap a_map a_head a_count a_robPc a_robState a_robTimer a_robStop a_robDest a_robNew a_robOld a_robA a_robB a_robVal a_robAddr a_robNext a_robGuess a_robLive a_queue a_fetchPc a_fetchStop a_counter a_lastTarget a_active a_quota
    obtain ⟨hce, hd, ct, ow, cn, Z, ft, qn, J⟩ := (show (sk_IV nt wd wn ex sn goal r0 op rg im sz f_threads f_width f_window f_freeTop f_queued f_total a_op a_regsOf a_immOf a_sizeOf a_memory a_statusOf a_archPc a_retiredOf a_digestOf a_value a_ready a_free a_archMap a_map a_head a_count a_robPc a_robState a_robTimer a_robStop a_robDest a_robNew a_robOld a_robA a_robB a_robVal a_robAddr a_robNext a_robGuess a_robLive a_queue a_fetchPc a_fetchStop a_counter a_lastTarget a_active a_quota) from I)
    refine br_f ?_ ⟨13, ?_⟩
    · rw [J.1.1]; exact nI_ge (by omega) (by omega)
    exact sk_w_cs12 (post := post) (J2 := wX_completeStage_2 post m) (by omega)
      (fun u' I' R' => ih (t + 1) (by omega) u' I' ⟨R'.1, R'.2.1, fun x m hx hD => ⟨fun z => (R'.2.2 x m hx hD).1 (by omega), fun z => (R'.2.2 x m hx hD).2 (by omega)⟩⟩ m (by omega))
      12 0 (by omega) _ I ⟨R.1, R.2.1, fun x m hx hD => ⟨fun z => (R.2.2 x m hx hD).1 (by omega), fun z => (R.2.2 x m hx hD).2 (by omega)⟩⟩ 13 (by omega)
theorem sk_w_compst {u : SX} (I : sk_IU nt wd wn ex sn goal r0 op rg im sz u)
    (K : ∀ u', sk_IU nt wd wn ex sn goal r0 op rg im sz u' → sk_N nt u' = sk_N nt u → (∀ x m, x < nt → sk_DD (m + 1) 1 6 m x u → sk_DD 2 2 6 m x u') → sx_active u' = sx_active u → post u') : wpX_completeStage post u := by
  revert I K
  refine sk_el (P := fun u => sk_IU nt wd wn ex sn goal r0 op rg im sz u → (∀ u', sk_IU nt wd wn ex sn goal r0 op rg im sz u' → sk_N nt u' = sk_N nt u → (∀ x m, x < nt → sk_DD (m + 1) 1 6 m x u → sk_DD 2 2 6 m x u') → sx_active u' = sx_active u → post u') → wpX_completeStage post u) ?_ u
  intro f_threads f_width f_window f_freeTop f_queued f_total a_op a_regsOf a_immOf a_sizeOf a_memory a_statusOf a_archPc a_retiredOf a_digestOf a_value a_ready a_free a_archMap a_map a_head a_count a_robPc a_robState a_robTimer a_robStop a_robDest a_robNew a_robOld a_robA a_robB a_robVal a_robAddr a_robNext a_robGuess a_robLive a_queue a_fetchPc a_fetchStop a_counter a_lastTarget a_active a_quota I K
  obtain ⟨hce, hd, ct, ow, cn, Z, ft, qn, J⟩ := (show (sk_IV nt wd wn ex sn goal r0 op rg im sz f_threads f_width f_window f_freeTop f_queued f_total a_op a_regsOf a_immOf a_sizeOf a_memory a_statusOf a_archPc a_retiredOf a_digestOf a_value a_ready a_free a_archMap a_map a_head a_count a_robPc a_robState a_robTimer a_robStop a_robDest a_robNew a_robOld a_robA a_robB a_robVal a_robAddr a_robNext a_robGuess a_robLive a_queue a_fetchPc a_fetchStop a_counter a_lastTarget a_active a_quota) from I)
  obtain ⟨k1, k2, k3, k4, k5, k6, k7, k8⟩ := J.1
  exact ⟨nt + 1, sk_w_cs2 (u0 := (f_threads, f_width, f_window, f_freeTop, f_queued, f_total, a_op, a_regsOf, a_immOf, a_sizeOf, a_memory, a_statusOf, a_archPc, a_retiredOf, a_digestOf, a_value, a_ready, a_free, a_archMap, a_map, a_head, a_count, a_robPc, a_robState, a_robTimer, a_robStop, a_robDest, a_robNew, a_robOld, a_robA, a_robB, a_robVal, a_robAddr, a_robNext, a_robGuess, a_robLive, a_queue, a_fetchPc, a_fetchStop, a_counter, a_lastTarget, a_active, a_quota)) k5 (fun u' I' R' => K u' I' (sk_N_eq R'.1 R'.2.1) (fun x m hx hD => (R'.2.2 x m hx hD).2 (by omega)) R'.1) nt 0 (by omega) (f_threads, f_width, f_window, f_freeTop, f_queued, f_total, a_op, a_regsOf, a_immOf, a_sizeOf, a_memory, a_statusOf, a_archPc, a_retiredOf, a_digestOf, a_value, a_ready, a_free, a_archMap, a_map, a_head, a_count, a_robPc, a_robState, a_robTimer, a_robStop, a_robDest, a_robNew, a_robOld, a_robA, a_robB, a_robVal, a_robAddr, a_robNext, a_robGuess, a_robLive, a_queue, a_fetchPc, a_fetchStop, a_counter, a_lastTarget, a_active, a_quota) I ⟨rfl, rfl, fun x m hx hD => ⟨fun _ => hD, fun z => absurd (Nat.zero_le x) z⟩⟩ (nt + 1) (by omega)⟩
end
end
section
/-! the outcome of an instruction, case by case -/
theorem sk_no {n m : Nat} (h : n ≠ m) (hn : n < 100) (hm : m < 100) : ¬ nI n = nI m := fun z => h ((nI_eq (by omega) (by omega)).mp z)
theorem sk_sp1 {o w i : Int32} {R : Nat → Int32} (h5 : ¬ o = 5) (h : ¬ sk_out (R (sk_ra w) + i)) : sk_sp o w i R = 0 := by
  unfold sk_sp sk_stop
  rw [if_neg (fun z => h5 z.1), if_neg (fun z => h z.2)]
theorem sk_sp3 {o w i : Int32} {R : Nat → Int32} (h5 : ¬ o = 5) (ho : o = 10 ∨ o = 11) (h : sk_out (R (sk_ra w) + i)) : sk_sp o w i R = 3 := by
  unfold sk_sp sk_stop
  rw [if_neg (fun z => h5 z.1), if_pos ⟨ho, h⟩]
theorem sk_sp_ne {o w i : Int32} {R : Nat → Int32} : ¬ sk_sp o w i R = 4 ∧ ¬ sk_sp o w i R = 1 := by
  unfold sk_sp sk_stop
  by_cases a : o = 5 ∧ R (sk_rb w) = 0
  · rw [if_pos a]; decide
  · rw [if_neg a]
    by_cases b : (o = 10 ∨ o = 11) ∧ sk_out (R (sk_ra w) + i)
    · rw [if_pos b]; decide
    · rw [if_neg b]; decide
theorem sk_ed_ne {o w i pc : Int32} {z : sk_V} {st tm sp va ad nx : Int32} (h : sk_ed o w i pc z st tm sp va ad nx) : ¬ sp = 4 ∧ ¬ sp = 1 := by
  rcases h with ⟨_, h⟩ | ⟨_, h⟩
  · rw [h]; decide
  · rw [h.1]; exact sk_sp_ne
theorem sk_nx_lo {n : Nat} (h : n ≤ 11) {w i pc : Int32} {R : Nat → Int32} : sk_nx (nI n) w i pc R = pc + 1 := by
  unfold sk_nx sk_next
  have a : ¬ nI n = 12 := sk_no (m := 12) (by omega) (by omega) (by omega)
  have b : ¬ nI n = 13 := sk_no (m := 13) (by omega) (by omega) (by omega)
  have c : ¬ nI n = 14 := sk_no (m := 14) (by omega) (by omega) (by omega)
  have d : ¬ nI n = 15 := sk_no (m := 15) (by omega) (by omega) (by omega)
  rw [if_neg a, if_neg b, if_neg c, if_neg d]
theorem sk_Dn {n : Nat} (h : n ≤ 10) : sk_D (nI n) := Or.inl (nI_le (b := 10) h (by decide))
theorem sk_Dn' {n : Nat} (h : 10 < n) (h14 : n ≠ 14) (h15 : n ≤ 15) : ¬ sk_D (nI n) := by
  intro z
  rcases z with z | z
  · exact nI_ge (b := n) (a := 10) h (by omega) z
  · exact sk_no (m := 14) h14 (by omega) (by omega) z
/-- arithmetic -/
theorem sk_eo_a {n : Nat} (h1 : 1 ≤ n) (h9 : n ≤ 9) {w i pc : Int32} {z : sk_V} {sp va ad nx : Int32} (hsp : sp = if nI n = 5 ∧ z.2.1 (sk_rb w) = 0 then 2 else 0)
    (hva : va = sk_val (nI n) pc (z.2.1 (sk_ra w)) (z.2.1 (sk_rb w)) i (sk_cell (z.2.1 (sk_ra w) + i) z.2.2)) (hnx : nx = pc + 1) : sk_eo (nI n) w i pc z sp va ad nx := by
  refine ⟨?_, ?_, fun _ => hva, fun z => absurd z (sk_no (m := 11) (by omega) (by omega) (by omega))⟩
  · rw [hsp]
    unfold sk_sp sk_stop
    by_cases a : nI n = 5 ∧ z.2.1 (sk_rb w) = 0
    · rw [if_pos a, if_pos a]
    · rw [if_neg a, if_neg a, if_neg]
      intro b
      rcases b.1 with b | b
      · exact sk_no (m := 10) (by omega) (by omega) (by omega) b
      · exact sk_no (m := 11) (by omega) (by omega) (by omega) b
  · rw [sk_nx_lo (by omega)]; exact hnx
theorem sk_val10 {pc a b i c : Int32} : sk_val 10 pc a b i c = c := by
  unfold sk_val
  rw [if_neg (by decide), if_neg (by decide), if_neg (by decide), if_neg (by decide), if_neg (by decide), if_neg (by decide), if_neg (by decide), if_neg (by decide), if_neg (by decide), if_pos rfl]
theorem sk_val14 {pc a b i c : Int32} : sk_val 14 pc a b i c = pc + 1 := by
  unfold sk_val
  rw [if_neg (by decide), if_neg (by decide), if_neg (by decide), if_neg (by decide), if_neg (by decide), if_neg (by decide), if_neg (by decide), if_neg (by decide), if_neg (by decide), if_neg (by decide)]
/-- a load -/
theorem sk_eo_l {w i pc : Int32} {z : sk_V} {sp va ad nx : Int32} (hsp : sp = if sk_out (z.2.1 (sk_ra w) + i) then 3 else 0)
    (hva : va = sk_cell (z.2.1 (sk_ra w) + i) z.2.2) (hnx : nx = pc + 1) : sk_eo 10 w i pc z sp va ad nx := by
  refine ⟨?_, ?_, fun _ => ?_, fun z => absurd z (by decide)⟩
  · rw [hsp]
    by_cases a : sk_out (z.2.1 (sk_ra w) + i)
    · rw [if_pos a, sk_sp3 (by decide) (Or.inl rfl) a]
    · rw [if_neg a, sk_sp1 (by decide) a]
  · exact hnx.trans (sk_nx_lo (n := 10) (by omega)).symm
  · unfold sk_vl; rw [sk_val10]; exact hva
/-- a store -/
theorem sk_eo_s {w i pc : Int32} {z : sk_V} {sp va ad nx : Int32} (hsp : sp = if sk_out (z.2.1 (sk_ra w) + i) then 3 else 0)
    (hva : ¬ sk_out (z.2.1 (sk_ra w) + i) → va = z.2.1 (sk_rb w)) (had : ad = z.2.1 (sk_ra w) + i) (hnx : nx = pc + 1) : sk_eo 11 w i pc z sp va ad nx := by
  refine ⟨?_, ?_, fun h => absurd h (by decide), fun _ => ⟨had, hva⟩⟩
  · rw [hsp]
    by_cases a : sk_out (z.2.1 (sk_ra w) + i)
    · rw [if_pos a, sk_sp3 (by decide) (Or.inr rfl) a]
    · rw [if_neg a, sk_sp1 (by decide) a]
  · exact hnx.trans (sk_nx_lo (n := 11) (by omega)).symm
/-- a transfer -/
theorem sk_eo_t {n : Nat} (h12 : 12 ≤ n) (h15 : n ≤ 15) {w i pc : Int32} {z : sk_V} {sp va ad nx : Int32} (hsp : sp = 0) (hva : n = 14 → va = pc + 1)
    (hnx : nx = sk_next (nI n) pc (z.2.1 (sk_ra w)) (z.2.1 (sk_rb w)) i) : sk_eo (nI n) w i pc z sp va ad nx := by
  refine ⟨?_, hnx, fun h => ?_, fun z => absurd z (sk_no (m := 11) (by omega) (by omega) (by omega))⟩
  · rw [hsp]
    unfold sk_sp sk_stop
    rw [if_neg (fun z => sk_no (m := 5) (by omega) (by omega) (by omega) z.1), if_neg]
    intro b
    rcases b.1 with b | b
    · exact sk_no (m := 10) (by omega) (by omega) (by omega) b
    · exact sk_no (m := 11) (by omega) (by omega) (by omega) b
  · by_cases e : n = 14
    · subst e
      rw [hva rfl]
      unfold sk_vl
      exact sk_val14.symm
    · exact absurd h (sk_Dn' (by omega) e h15)
theorem sk_w_lat {post : Int32 → Prop} {o : Int32} (K : ∀ c, 1 ≤ c → c ≤ 4 → post (nI c)) : wpX_latency post o :=
  br_c (fun _ => K 3 (by omega) (by omega)) (fun _ => br_c (fun _ => K 4 (by omega) (by omega)) (fun _ => br_c (fun _ => K 2 (by omega) (by omega)) (fun _ => K 1 (by omega) (by omega))))
theorem sk_w_comp {post : Int32 → Prop} {n : Nat} {a b i pc c : Int32} (h1 : 1 ≤ n) (h9 : n ≤ 9) (K : post (sk_val (nI n) pc a b i c)) : wpX_compute post (nI n) a b i := by
  unfold sk_val at K
  refine br_f (nI_nlt (b := 1) h1 (by omega)) ?_
  refine pk_lt 8 n (fun z => ?_) (fun z => ?_)
  · have e : n = 9 := by omega
    subst e
    rw [if_neg (by decide), if_neg (by decide), if_neg (by decide), if_neg (by decide), if_neg (by decide), if_neg (by decide), if_neg (by decide), if_neg (by decide), if_pos (by decide)] at K
    exact K
  · by_cases e1 : nI n = 1
    · rw [if_pos e1] at K; exact br_t e1 K
    rw [if_neg e1] at K; refine br_f e1 ?_
    by_cases e2 : nI n = 2
    · rw [if_pos e2] at K; exact br_t e2 K
    rw [if_neg e2] at K; refine br_f e2 ?_
    by_cases e3 : nI n = 3
    · rw [if_pos e3] at K; exact br_t e3 K
    rw [if_neg e3] at K; refine br_f e3 ?_
    by_cases e4 : nI n = 4
    · rw [if_pos e4] at K; exact br_t e4 K
    rw [if_neg e4] at K; refine br_f e4 ?_
    by_cases e5 : nI n = 5
    · rw [if_pos e5] at K
      refine br_t e5 ?_
      by_cases b0 : b = 0
      · rw [if_pos b0] at K; exact br_t b0 K
      · rw [if_neg b0] at K; exact br_f b0 (And.intro b0 K)
    rw [if_neg e5] at K; refine br_f e5 ?_
    by_cases e6 : nI n = 6
    · rw [if_pos e6] at K; exact br_t e6 K
    rw [if_neg e6] at K; refine br_f e6 ?_
    by_cases e7 : nI n = 7
    · rw [if_pos e7] at K; exact br_t e7 K
    rw [if_neg e7] at K; refine br_f e7 ?_
    by_cases e8 : nI n = 8
    · rw [if_pos e8] at K; exact br_t e8 K
    exact br_f e8 trivial
end
section
/-! stores ahead, loads, transfers -/
theorem sk_nb1 : narrow .boolean (.int 1) = .int 1 := rfl
theorem sk_nb0 : narrow .boolean (.int 0) = .int 0 := rfl
section
variable {f_threads f_width f_window f_freeTop f_queued f_total : Int32} {a_op a_regsOf a_immOf a_sizeOf a_memory a_statusOf a_archPc a_retiredOf a_digestOf a_value a_ready a_free a_archMap a_map a_head a_count a_robPc a_robState a_robTimer a_robStop a_robDest a_robNew a_robOld a_robA a_robB a_robVal a_robAddr a_robNext a_robGuess a_robLive a_queue a_fetchPc a_fetchStop a_counter a_lastTarget a_active a_quota : Nat → Int32} {hd : Nat → Nat}
theorem sk_w_isSt {post : Int32 → Prop} {t s p : Nat} (ht : t < 4) (hs : s < 48) (hp : p < 24) (epc : a_robPc s = nI p) (h4 : ¬ a_robStop s = 4) (h1 : ¬ a_robStop s = 1)
    (K1 : a_op (t * 24 + p) = 11 → post 1) (K0 : ¬ a_op (t * 24 + p) = 11 → post 0) : wpX_isStore post (f_threads, f_width, f_window, f_freeTop, f_queued, f_total, a_op, a_regsOf, a_immOf, a_sizeOf, a_memory, a_statusOf, a_archPc, a_retiredOf, a_digestOf, a_value, a_ready, a_free, a_archMap, a_map, a_head, a_count, a_robPc, a_robState, a_robTimer, a_robStop, a_robDest, a_robNew, a_robOld, a_robA, a_robB, a_robVal, a_robAddr, a_robNext, a_robGuess, a_robLive, a_queue, a_fetchPc, a_fetchStop, a_counter, a_lastTarget, a_active, a_quota) (nI t) (nI s) := by
  have vs : vp_in (nI s) 48 := vp_in_nI hs (by decide)
  have cs : (nI s).toNatClampNeg = s := nI_clamp (by omega)
  refine And.intro vs ?_
  rw [cs]
  refine br_f h4 (And.intro vs (br_f h1 (And.intro vs (And.intro ?_ ?_))))
  · rw [epc, sk_x24, nI_add]; exact vp_in_nI (by omega) (by decide)
  · rw [epc, sk_x24, nI_add, nI_clamp (by omega)]; exact br_c K1 K0
/-- all stores ahead of place k are done -/
def sk_sd (t k : Nat) (hd : Nat → Nat) (op pc st : Nat → Int32) : Prop := ∀ j p, j < k → p < 24 → pc (sk_s hd t j) = nI p → op (t * 24 + p) = 11 → st (sk_s hd t j) = 2
theorem sk_w_osd {post : Int32 → Prop} {t k c : Nat} (ht : t < 4) (hh : a_head t = nI (hd t)) (h12 : hd t < 12) (hc : a_count t = nI c) (hc12 : c ≤ 12) (hk : k < c)
    (hE : ∀ j, j < k → (∃ p, p < 24 ∧ a_robPc (sk_s hd t j) = nI p) ∧ ¬ a_robStop (sk_s hd t j) = 4 ∧ ¬ a_robStop (sk_s hd t j) = 1)
    (K1 : sk_sd t k hd a_op a_robPc a_robState → post 1) (K0 : k ≠ 0 → post 0) :
    ∀ d i, i + d = k → sk_sd t i hd a_op a_robPc a_robState → ∀ n, d < n → wX_olderStoresDone_2 post (nI t) (nI (sk_s hd t k)) f_threads f_width f_window f_freeTop f_queued f_total a_op a_regsOf a_immOf a_sizeOf a_memory a_statusOf a_archPc a_retiredOf a_digestOf a_value a_ready a_free a_archMap a_map a_head a_count a_robPc a_robState a_robTimer a_robStop a_robDest a_robNew a_robOld a_robA a_robB a_robVal a_robAddr a_robNext a_robGuess a_robLive a_queue a_fetchPc a_fetchStop a_counter a_lastTarget a_active a_quota n (nI i) := by
  intro d
  induction d with
  | zero =>
    intro i hi hsd n hn
    obtain ⟨m, rfl⟩ : ∃ m, n = m + 1 := ⟨n - 1, by omega⟩
    have e : i = k := by omega
    subst e
    have ctt : (nI t).toNatClampNeg = t := nI_clamp (by omega)
    refine And.intro (vp_in_nI ht (by decide)) ?_
    rw [ctt, hc]
    refine br_f (nI_ge (by omega) (by omega)) ?_
    refine sk_w_sl (k := i) ht hh h12 (by omega) ?_
    exact br_t rfl (K1 hsd)
  | succ d ih =>
    intro i hi hsd n hn
    obtain ⟨m, rfl⟩ : ∃ m, n = m + 1 := ⟨n - 1, by omega⟩
    have ctt : (nI t).toNatClampNeg = t := nI_clamp (by omega)
    have sl := sk_s_lt (hd := hd) (t := t) (k := i) ht h12 (by omega)
    have slk := sk_s_lt (hd := hd) (t := t) (k := k) ht h12 (by omega)
    have cs : (nI (sk_s hd t i)).toNatClampNeg = sk_s hd t i := nI_clamp (by omega)
    obtain ⟨⟨p, hp, epc⟩, e4, e1⟩ := hE i (by omega)
    refine And.intro (vp_in_nI ht (by decide)) ?_
    rw [ctt, hc]
    refine br_f (nI_ge (by omega) (by omega)) ?_
    refine sk_w_sl (k := i) ht hh h12 (by omega) ?_
    refine br_f ?_ ?_
    · intro z
      have z' := (nI_eq (by omega) (by omega)).mp z
      have := (sk_s_inj h12 h12 (by omega) (by omega) z').2
      omega
    · refine sk_w_isSt ht sl hp epc e4 e1 (fun ho => ?_) (fun ho => ?_)
      · refine br_f (by decide) (And.intro (vp_in_nI sl (by decide)) ?_)
        rw [cs]
        by_cases hst : a_robState (sk_s hd t i) = 2
        · refine br_t hst (nm_r (nI_1 i) ?_)
          refine ih (i + 1) (by omega) (fun j q hj hq ej oj => ?_) m (by omega)
          by_cases e : j = i
          · subst e; exact hst
          · exact hsd j q (by omega) hq ej oj
        · exact br_f hst (K0 (by omega))
      · refine br_t rfl (nm_r (nI_1 i) ?_)
        refine ih (i + 1) (by omega) (fun j q hj hq ej oj => ?_) m (by omega)
        by_cases e : j = i
        · subst e
          rw [epc] at ej
          have := (nI_eq (by omega) (by omega)).mp ej
          subst this
          exact absurd oj ho
        · exact hsd j q (by omega) hq ej oj
theorem sk_w_canI {post : Int32 → Prop} {t k c p a b : Nat} (ht : t < 4) (hh : a_head t = nI (hd t)) (h12 : hd t < 12) (hc : a_count t = nI c) (hc12 : c ≤ 12) (hk : k < c)
    (hE : ∀ j, j < k → (∃ p, p < 24 ∧ a_robPc (sk_s hd t j) = nI p) ∧ ¬ a_robStop (sk_s hd t j) = 4 ∧ ¬ a_robStop (sk_s hd t j) = 1)
    (hp : p < 24) (epc : a_robPc (sk_s hd t k) = nI p) (ha : a < 56) (hb : b < 56) (ea : a_robA (sk_s hd t k) = nI a) (eb : a_robB (sk_s hd t k) = nI b)
    (hr : k = 0 → a_ready a ≠ 0 ∧ a_ready b ≠ 0)
    (K1 : a_ready a ≠ 0 → a_ready b ≠ 0 → (a_op (t * 24 + p) = 10 → sk_sd t k hd a_op a_robPc a_robState) → post 1) (K0 : k ≠ 0 → post 0) : wpX_canIssue post (f_threads, f_width, f_window, f_freeTop, f_queued, f_total, a_op, a_regsOf, a_immOf, a_sizeOf, a_memory, a_statusOf, a_archPc, a_retiredOf, a_digestOf, a_value, a_ready, a_free, a_archMap, a_map, a_head, a_count, a_robPc, a_robState, a_robTimer, a_robStop, a_robDest, a_robNew, a_robOld, a_robA, a_robB, a_robVal, a_robAddr, a_robNext, a_robGuess, a_robLive, a_queue, a_fetchPc, a_fetchStop, a_counter, a_lastTarget, a_active, a_quota) (nI (sk_s hd t k)) := by
  have sl := sk_s_lt (hd := hd) (t := t) (k := k) ht h12 (by omega)
  have vs : vp_in (nI (sk_s hd t k)) 48 := vp_in_nI sl (by decide)
  have cs : (nI (sk_s hd t k)).toNatClampNeg = sk_s hd t k := nI_clamp (by omega)
  refine And.intro vs ?_
  rw [cs, ea, eb, nI_clamp (show a < 2 ^ 31 by omega), nI_clamp (show b < 2 ^ 31 by omega)]
  refine And.intro (vp_in_nI ha (by decide)) ?_
  by_cases r1 : a_ready a = 0
  · exact br_t r1 (K0 (fun z => (hr z).1 r1))
  refine br_f r1 (And.intro vs (And.intro (vp_in_nI hb (by decide)) ?_))
  by_cases r2 : a_ready b = 0
  · exact br_t r2 (K0 (fun z => (hr z).2 r2))
  refine br_f r2 (And.intro (by decide) (nm_r (e' := nI t) ?_ (And.intro vs (And.intro ?_ ?_))))
  · have := pk_div (a := sk_s hd t k) (d := 12) (by omega) (by omega) (by omega)
    rw [sk_s_div h12 (by omega)] at this
    exact this
  · rw [epc, sk_x24, nI_add]; exact vp_in_nI (by omega) (by decide)
  · rw [epc, sk_x24, nI_add, nI_clamp (by omega)]
    refine br_c (fun ho => ?_) (fun ho => K1 r1 r2 (fun z => absurd z ho))
    exact ⟨k + 1, sk_w_osd ht hh h12 hc hc12 hk hE (fun hsd => And.intro sk_nb1 (K1 r1 r2 (fun _ => hsd))) (fun z => And.intro sk_nb0 (K0 z)) k 0 (by omega) (fun j q hj => absurd hj (Nat.not_lt_zero j)) (k + 1) (by omega)⟩
/-- what a load sees of an older entry -/
def sk_lo (t e : Nat) (op : Nat → Int32) (m m' pc sp ad va : Int32) : Prop :=
  ∃ p, p < 24 ∧ pc = nI p ∧ ¬ sp = 4 ∧ ¬ sp = 1 ∧ (¬ op (t * 24 + p) = 11 → m' = m) ∧ (op (t * 24 + p) = 11 → ¬ sp = 0 → m' = m) ∧
    (op (t * 24 + p) = 11 → sp = 0 → ¬ ad = nI e → m' = m) ∧ (op (t * 24 + p) = 11 → sp = 0 → ad = nI e → m' = va)
theorem sk_w_ld {post : Int32 → Prop} {t k c e : Nat} {M : Nat → Int32} (ht : t < 4) (hh : a_head t = nI (hd t)) (h12 : hd t < 12) (hc : a_count t = nI c) (hc12 : c ≤ 12) (hk : k < c)
    (hE : ∀ j, j < k → sk_lo t e a_op (M j) (M (j + 1)) (a_robPc (sk_s hd t j)) (a_robStop (sk_s hd t j)) (a_robAddr (sk_s hd t j)) (a_robVal (sk_s hd t j)))
    (K : post (M k)) : ∀ d i, i + d = k → ∀ n, d < n → wX_load_16 post (nI t) (nI (sk_s hd t k)) (nI e) f_threads f_width f_window f_freeTop f_queued f_total a_op a_regsOf a_immOf a_sizeOf a_memory a_statusOf a_archPc a_retiredOf a_digestOf a_value a_ready a_free a_archMap a_map a_head a_count a_robPc a_robState a_robTimer a_robStop a_robDest a_robNew a_robOld a_robA a_robB a_robVal a_robAddr a_robNext a_robGuess a_robLive a_queue a_fetchPc a_fetchStop a_counter a_lastTarget a_active a_quota n (M i) (nI i) := by
  intro d
  induction d with
  | zero =>
    intro i hi n hn
    obtain ⟨m, rfl⟩ : ∃ m, n = m + 1 := ⟨n - 1, by omega⟩
    have e : i = k := by omega
    subst e
    have ctt : (nI t).toNatClampNeg = t := nI_clamp (by omega)
    refine And.intro (vp_in_nI ht (by decide)) ?_
    rw [ctt, hc]
    refine br_f (nI_ge (by omega) (by omega)) ?_
    refine sk_w_sl (k := i) ht hh h12 (by omega) ?_
    exact br_t rfl K
  | succ d ih =>
    intro i hi n hn
    obtain ⟨m, rfl⟩ : ∃ m, n = m + 1 := ⟨n - 1, by omega⟩
    have ctt : (nI t).toNatClampNeg = t := nI_clamp (by omega)
    have sl := sk_s_lt (hd := hd) (t := t) (k := i) ht h12 (by omega)
    have slk := sk_s_lt (hd := hd) (t := t) (k := k) ht h12 (by omega)
    have cs : (nI (sk_s hd t i)).toNatClampNeg = sk_s hd t i := nI_clamp (by omega)
    have vs : vp_in (nI (sk_s hd t i)) 48 := vp_in_nI sl (by decide)
    obtain ⟨p, hp, epc, e4, e1, f1, f2, f3, f4⟩ := hE i (by omega)
    have q := ih (i + 1) (by omega) m (by omega)
    refine And.intro (vp_in_nI ht (by decide)) ?_
    rw [ctt, hc]
    refine br_f (nI_ge (by omega) (by omega)) ?_
    refine sk_w_sl (k := i) ht hh h12 (by omega) ?_
    refine br_f ?_ ?_
    · intro z
      have z' := (nI_eq (by omega) (by omega)).mp z
      have := (sk_s_inj h12 h12 (by omega) (by omega) z').2
      omega
    · refine sk_w_isSt ht sl hp epc e4 e1 (fun ho => ?_) (fun ho => ?_)
      · refine br_f (by decide) (And.intro vs ?_)
        rw [cs]
        by_cases hsp : a_robStop (sk_s hd t i) = 0
        · refine br_t hsp (And.intro vs ?_)
          by_cases had : a_robAddr (sk_s hd t i) = nI e
          · refine br_t had (And.intro vs (nm_r (f4 ho hsp had).symm (nm_r (nI_1 i) q)))
          · refine br_f had (nm_r (nI_1 i) ?_)
            rw [f3 ho hsp had] at q; exact q
        · refine br_f hsp (nm_r (nI_1 i) ?_)
          rw [f2 ho hsp] at q; exact q
      · refine br_t rfl (nm_r (nI_1 i) ?_)
        rw [f1 ho] at q; exact q
theorem sk_w_load {post : Int32 → Prop} {t k c e : Nat} {M : Nat → Int32} (ht : t < 4) (hh : a_head t = nI (hd t)) (h12 : hd t < 12) (hc : a_count t = nI c) (hc12 : c ≤ 12) (hk : k < c) (he : e < 16) (hm : a_memory (t * 16 + e) = M 0)
    (hE : ∀ j, j < k → sk_lo t e a_op (M j) (M (j + 1)) (a_robPc (sk_s hd t j)) (a_robStop (sk_s hd t j)) (a_robAddr (sk_s hd t j)) (a_robVal (sk_s hd t j)))
    (K : post (M k)) : wpX_load post (f_threads, f_width, f_window, f_freeTop, f_queued, f_total, a_op, a_regsOf, a_immOf, a_sizeOf, a_memory, a_statusOf, a_archPc, a_retiredOf, a_digestOf, a_value, a_ready, a_free, a_archMap, a_map, a_head, a_count, a_robPc, a_robState, a_robTimer, a_robStop, a_robDest, a_robNew, a_robOld, a_robA, a_robB, a_robVal, a_robAddr, a_robNext, a_robGuess, a_robLive, a_queue, a_fetchPc, a_fetchStop, a_counter, a_lastTarget, a_active, a_quota) (nI t) (nI (sk_s hd t k)) (nI e) := by
  refine And.intro ?_ (nm_r (e' := M 0) ?_ ⟨k + 1, sk_w_ld ht hh h12 hc hc12 hk hE K k 0 (by omega) (k + 1) (by omega)⟩)
  · rw [sk_x16, nI_add]; exact vp_in_nI (by omega) (by decide)
  · rw [sk_x16, nI_add, nI_clamp (by omega)]; exact hm
end
section
variable {f_threads f_width f_window f_freeTop f_queued f_total : Int32} {a_op a_regsOf a_immOf a_sizeOf a_memory a_statusOf a_archPc a_retiredOf a_digestOf a_value a_ready a_free a_archMap a_map a_head a_count a_robPc a_robState a_robTimer a_robStop a_robDest a_robNew a_robOld a_robA a_robB a_robVal a_robAddr a_robNext a_robGuess a_robLive a_queue a_fetchPc a_fetchStop a_counter a_lastTarget a_active a_quota : Nat → Int32} {post : SX → Prop}
theorem sk_w_trans {s n : Nat} {a b i pc : Int32} (hs : s < 48) (h12 : 12 ≤ n) (h15 : n ≤ 15) (epc : a_robPc s = pc) (hnx : a_robNext s = pc + 1)
    (K : ∀ nx' va' : Nat → Int32, (∀ q, q ≠ s → nx' q = a_robNext q ∧ va' q = a_robVal q) → nx' s = sk_next (nI n) pc a b i → (n = 14 → va' s = pc + 1) → post (f_threads, f_width, f_window, f_freeTop, f_queued, f_total, a_op, a_regsOf, a_immOf, a_sizeOf, a_memory, a_statusOf, a_archPc, a_retiredOf, a_digestOf, a_value, a_ready, a_free, a_archMap, a_map, a_head, a_count, a_robPc, a_robState, a_robTimer, a_robStop, a_robDest, a_robNew, a_robOld, a_robA, a_robB, va', a_robAddr, nx', a_robGuess, a_robLive, a_queue, a_fetchPc, a_fetchStop, a_counter, a_lastTarget, a_active, a_quota)) :
    wpX_transfer post (f_threads, f_width, f_window, f_freeTop, f_queued, f_total, a_op, a_regsOf, a_immOf, a_sizeOf, a_memory, a_statusOf, a_archPc, a_retiredOf, a_digestOf, a_value, a_ready, a_free, a_archMap, a_map, a_head, a_count, a_robPc, a_robState, a_robTimer, a_robStop, a_robDest, a_robNew, a_robOld, a_robA, a_robB, a_robVal, a_robAddr, a_robNext, a_robGuess, a_robLive, a_queue, a_fetchPc, a_fetchStop, a_counter, a_lastTarget, a_active, a_quota) (nI s) (nI n) a b i := by
  have vs : vp_in (nI s) 48 := vp_in_nI hs (by decide)
  have cs : (nI s).toNatClampNeg = s := nI_clamp (by omega)
  unfold sk_next at K
  refine pk_eq n 14 (fun z => ?_) (fun z => ?_)
  · subst z
    refine And.intro vs (And.intro vs (nm_r (e' := upd a_robVal s (pc + 1)) (by rw [cs, epc]) (And.intro vs (nm_r (e' := upd a_robNext s i) (by rw [cs]) ?_))))
    refine K _ _ (fun q hq => ⟨pk_un hq, pk_un hq⟩) ?_ (fun _ => pk_us)
    rw [if_neg (by decide), if_neg (by decide), if_pos (by decide), pk_us]
  · have z14 : ¬ nI n = 14 := sk_no (m := 14) z (by omega) (by omega)
    refine pk_eq n 15 (fun z2 => ?_) (fun z2 => ?_)
    · subst z2
      refine And.intro vs (nm_r (e' := upd a_robNext s a) (by rw [cs]) ?_)
      refine K _ _ (fun q hq => ⟨pk_un hq, rfl⟩) ?_ (fun z => absurd z (by omega))
      rw [if_neg (by decide), if_neg (by decide), if_neg (by decide), if_pos (by decide), pk_us]
    · refine pk_eq n 12 (fun z3 => ?_) (fun z3 => ?_)
      · subst z3
        by_cases hab : a = b
        · refine br_t hab (And.intro vs (nm_r (e' := upd a_robNext s i) (by rw [cs]) ?_))
          refine K _ _ (fun q hq => ⟨pk_un hq, rfl⟩) ?_ (fun z => absurd z (by omega))
          rw [if_pos (by decide), if_pos hab, pk_us]
        · refine br_f hab ?_
          refine K _ _ (fun q hq => ⟨rfl, rfl⟩) ?_ (fun z => absurd z (by omega))
          rw [if_pos (by decide), if_neg hab, hnx]
      · have e : n = 13 := by omega
        subst e
        by_cases hab : b ≤ a
        · refine br_t hab ?_
          refine K _ _ (fun q hq => ⟨rfl, rfl⟩) ?_ (fun z => absurd z (by omega))
          rw [if_neg (by decide), if_pos (by decide), if_pos hab, hnx]
        · refine br_f hab (And.intro vs (nm_r (e' := upd a_robNext s i) (by rw [cs]) ?_))
          refine K _ _ (fun q hq => ⟨pk_un hq, rfl⟩) ?_ (fun z => absurd z (by omega))
          rw [if_neg (by decide), if_pos (by decide), if_neg hab, pk_us]
end
end
section
/-! access, execute -/
section
variable {f_threads f_width f_window f_freeTop f_queued f_total : Int32} {a_op a_regsOf a_immOf a_sizeOf a_memory a_statusOf a_archPc a_retiredOf a_digestOf a_value a_ready a_free a_archMap a_map a_head a_count a_robPc a_robState a_robTimer a_robStop a_robDest a_robNew a_robOld a_robA a_robB a_robVal a_robAddr a_robNext a_robGuess a_robLive a_queue a_fetchPc a_fetchStop a_counter a_lastTarget a_active a_quota : Nat → Int32} {post : SX → Prop} {hd : Nat → Nat}
theorem sk_w_acc {t k c n : Nat} {e b : Int32} {M : Nat → Nat → Int32} (ht : t < 4) (hh : a_head t = nI (hd t)) (h12 : hd t < 12) (hc : a_count t = nI c) (hc12 : c ≤ 12) (hk : k < c) (hn : n = 10 ∨ n = 11)
    (hsp : a_robStop (sk_s hd t k) = 0) (hm : ∀ x, x < 16 → a_memory (t * 16 + x) = M 0 x)
    (hE : n = 10 → ∀ x, x < 16 → ∀ j, j < k → sk_lo t x a_op (M j x) (M (j + 1) x) (a_robPc (sk_s hd t j)) (a_robStop (sk_s hd t j)) (a_robAddr (sk_s hd t j)) (a_robVal (sk_s hd t j)))
    (K : ∀ va' ad' sp' : Nat → Int32, (∀ q, q ≠ sk_s hd t k → va' q = a_robVal q ∧ ad' q = a_robAddr q ∧ sp' q = a_robStop q) → ad' (sk_s hd t k) = e → sp' (sk_s hd t k) = (if sk_out e then 3 else 0) →
      (n = 11 → ¬ sk_out e → va' (sk_s hd t k) = b) → (n = 10 → va' (sk_s hd t k) = sk_cell e (M k)) → post (f_threads, f_width, f_window, f_freeTop, f_queued, f_total, a_op, a_regsOf, a_immOf, a_sizeOf, a_memory, a_statusOf, a_archPc, a_retiredOf, a_digestOf, a_value, a_ready, a_free, a_archMap, a_map, a_head, a_count, a_robPc, a_robState, a_robTimer, sp', a_robDest, a_robNew, a_robOld, a_robA, a_robB, va', ad', a_robNext, a_robGuess, a_robLive, a_queue, a_fetchPc, a_fetchStop, a_counter, a_lastTarget, a_active, a_quota)) :
    wpX_access post (f_threads, f_width, f_window, f_freeTop, f_queued, f_total, a_op, a_regsOf, a_immOf, a_sizeOf, a_memory, a_statusOf, a_archPc, a_retiredOf, a_digestOf, a_value, a_ready, a_free, a_archMap, a_map, a_head, a_count, a_robPc, a_robState, a_robTimer, a_robStop, a_robDest, a_robNew, a_robOld, a_robA, a_robB, a_robVal, a_robAddr, a_robNext, a_robGuess, a_robLive, a_queue, a_fetchPc, a_fetchStop, a_counter, a_lastTarget, a_active, a_quota) (nI t) (nI (sk_s hd t k)) (nI n) e b := by
  have sl := sk_s_lt (hd := hd) (t := t) (k := k) ht h12 (by omega)
  have vs : vp_in (nI (sk_s hd t k)) 48 := vp_in_nI sl (by decide)
  have cs : (nI (sk_s hd t k)).toNatClampNeg = sk_s hd t k := nI_clamp (by omega)
  refine And.intro vs (nm_r (e' := upd a_robVal (sk_s hd t k) 0) (by rw [cs]) (And.intro vs (nm_r (e' := upd a_robAddr (sk_s hd t k) e) (by rw [cs]) ?_)))
  by_cases h0 : e < 0
  · refine br_t h0 (And.intro vs (nm_r (e' := upd a_robStop (sk_s hd t k) 3) (by rw [cs]) ?_))
    have ho : sk_out e := Or.inl h0
    exact K _ _ _ (fun q hq => ⟨pk_un hq, pk_un hq, pk_un hq⟩) pk_us (by rw [if_pos ho, pk_us]) (fun _ z => absurd ho z) (fun _ => by unfold sk_cell; rw [if_pos ho, pk_us])
  refine br_f h0 ?_
  by_cases h15 : e ≤ 15
  · have ho : ¬ sk_out e := fun z => z.elim h0 (fun z => z h15)
    obtain ⟨x, hx, ex⟩ := nI_of2 (x := e) (M := 15) (n := 15) (by decide) h0 h15
    refine br_t h15 (pk_eq n 11 (fun z => ?_) (fun z => ?_))
    · refine And.intro vs (nm_r (e' := upd (upd a_robVal (sk_s hd t k) 0) (sk_s hd t k) b) (by rw [cs]) ?_)
      exact K _ _ _ (fun q hq => ⟨by rw [pk_un hq, pk_un hq], pk_un hq, rfl⟩) pk_us (by rw [if_neg ho]; exact hsp) (fun _ _ => pk_us) (fun z' => absurd z' (by omega))
    · have n10 : n = 10 := by omega
      subst ex
      refine sk_w_load (M := fun j => M j x) ht hh h12 hc hc12 hk (by omega) (hm x (by omega)) (fun j hj => ?_) ?_
      · have ne : sk_s hd t j ≠ sk_s hd t k := by
          intro z; have := (sk_s_inj h12 h12 (by omega) (by omega) z).2; omega
        rw [pk_un ne, pk_un ne]
        exact hE n10 x (by omega) j hj
      · refine And.intro vs (nm_r (e' := upd (upd a_robVal (sk_s hd t k) 0) (sk_s hd t k) (M k x)) (by rw [cs]) ?_)
        exact K _ _ _ (fun q hq => ⟨by rw [pk_un hq, pk_un hq], pk_un hq, rfl⟩) pk_us (by rw [if_neg ho]; exact hsp) (fun z' => absurd z' (by omega)) (fun _ => by unfold sk_cell; rw [if_neg ho, pk_us, nI_clamp (by omega)])
  · refine br_f h15 (And.intro vs (nm_r (e' := upd a_robStop (sk_s hd t k) 3) (by rw [cs]) ?_))
    have ho : sk_out e := Or.inr h15
    exact K _ _ _ (fun q hq => ⟨pk_un hq, pk_un hq, pk_un hq⟩) pk_us (by rw [if_pos ho, pk_us]) (fun _ z => absurd ho z) (fun _ => by unfold sk_cell; rw [if_pos ho, pk_us])
end
section
variable {f_threads f_width f_window f_freeTop f_queued f_total : Int32} {a_op a_regsOf a_immOf a_sizeOf a_memory a_statusOf a_archPc a_retiredOf a_digestOf a_value a_ready a_free a_archMap a_map a_head a_count a_robPc a_robState a_robTimer a_robStop a_robDest a_robNew a_robOld a_robA a_robB a_robVal a_robAddr a_robNext a_robGuess a_robLive a_queue a_fetchPc a_fetchStop a_counter a_lastTarget a_active a_quota : Nat → Int32} {nt wd wn ex : Nat} {sn : Nat → Nat} {goal : Nat → sk_Y} {r0 op rg im sz : Nat → Int32} {hd ct ow : Nat → Nat} {cn : Nat → Int32} {Z : Nat → Nat → sk_V} {ft qn : Nat} {post : SX → Prop}
theorem sk_er_of {t k j : Nat} (ht : t < nt) (hk : k < ct t) (hj : j < k) (hE : (sk_EN nt sn a_op a_regsOf a_immOf hd ct Z a_fetchStop a_robPc a_robState a_robTimer a_robStop a_robDest a_robNew a_robOld a_robA a_robB a_robVal a_robAddr a_robNext)) : ∃ p, p < sn t ∧ sk_er t p a_op a_regsOf a_immOf (Z t j) (Z t (j + 1)) (a_robPc (sk_s hd t j)) (a_robState (sk_s hd t j)) (a_robTimer (sk_s hd t j)) (a_robStop (sk_s hd t j)) (a_robDest (sk_s hd t j)) (a_robNew (sk_s hd t j)) (a_robOld (sk_s hd t j)) (a_robA (sk_s hd t j)) (a_robB (sk_s hd t j)) (a_robVal (sk_s hd t j)) (a_robAddr (sk_s hd t j)) (a_robNext (sk_s hd t j)) := by
  rcases hE.2 t j ht (by omega) with e | ⟨⟨e, _⟩, _⟩
  · exact e
  · omega
theorem sk_lo_of {t k j x : Nat} (ht : t < nt) (hk : k < ct t) (hj : j < k) (hE : (sk_EN nt sn a_op a_regsOf a_immOf hd ct Z a_fetchStop a_robPc a_robState a_robTimer a_robStop a_robDest a_robNew a_robOld a_robA a_robB a_robVal a_robAddr a_robNext)) (hsd : sk_sd t k hd a_op a_robPc a_robState) (hx : x < 16) :
    sk_lo t x a_op ((Z t j).2.2 x) ((Z t (j + 1)).2.2 x) (a_robPc (sk_s hd t j)) (a_robStop (sk_s hd t j)) (a_robAddr (sk_s hd t j)) (a_robVal (sk_s hd t j)) := by
  obtain ⟨p, hp, e1, e2, ⟨_, _, _, _, _, e3⟩, e4⟩ := sk_er_of ht hk hj hE
  have hp24 : p < 24 := by have := hE.1 t ht; omega
  refine ⟨p, hp24, e1, (sk_ed_ne e4).1, (sk_ed_ne e4).2, fun ho => by rw [e3, sk_M_n ho], fun ho hs => ?_, fun ho hs ha => ?_, fun ho hs ha => ?_⟩
  all_goals
    have st2 := hsd j p hj hp24 e1 ho
    have eo : sk_eo (a_op (t * 24 + p)) (a_regsOf (t * 24 + p)) (a_immOf (t * 24 + p)) (a_robPc (sk_s hd t j)) (Z t j) (a_robStop (sk_s hd t j)) (a_robVal (sk_s hd t j)) (a_robAddr (sk_s hd t j)) (a_robNext (sk_s hd t j)) := by
      rcases e4 with ⟨z, _⟩ | ⟨_, z⟩
      · rw [st2] at z; exact absurd z (by decide)
      · exact z
    rw [e3]
    unfold sk_M
  · have hout : ¬ (a_op (t * 24 + p) = 11 ∧ ¬ sk_out ((Z t j).2.1 (sk_ra (a_regsOf (t * 24 + p))) + a_immOf (t * 24 + p))) := by
      intro z
      exact hs (eo.1.trans (sk_sp1 (by rw [ho]; decide) z.2))
    rw [if_neg hout]
  · have hout : ¬ sk_out ((Z t j).2.1 (sk_ra (a_regsOf (t * 24 + p))) + a_immOf (t * 24 + p)) := sk_sp0 (eo.1.symm.trans hs) (Or.inr ho)
    obtain ⟨a0, ha0, ea0⟩ := nI_of2 (x := (Z t j).2.1 (sk_ra (a_regsOf (t * 24 + p))) + a_immOf (t * 24 + p)) (M := 15) (n := 15) (by decide) (fun z => hout (Or.inl z)) (by
      by_cases z : (Z t j).2.1 (sk_ra (a_regsOf (t * 24 + p))) + a_immOf (t * 24 + p) ≤ 15
      · exact z
      · exact absurd (Or.inr z) hout)
    rw [if_pos ⟨ho, hout⟩, ea0, nI_clamp (by omega), pk_un]
    intro z
    exact ha ((eo.2.2.2 ho).1.trans (by rw [ea0, z]))
  · have hout : ¬ sk_out ((Z t j).2.1 (sk_ra (a_regsOf (t * 24 + p))) + a_immOf (t * 24 + p)) := sk_sp0 (eo.1.symm.trans hs) (Or.inr ho)
    have ea : (Z t j).2.1 (sk_ra (a_regsOf (t * 24 + p))) + a_immOf (t * 24 + p) = nI x := (eo.2.2.2 ho).1.symm.trans ha
    rw [if_pos ⟨ho, hout⟩, ea, nI_clamp (by omega), pk_us]
    exact ((eo.2.2.2 ho).2 hout).symm
theorem sk_w_exec {t k p : Nat} (ht : t < nt) (hk : k < ct t) (I : (sk_IB nt hd ct sn Z cn ow ft ex f_freeTop a_op a_regsOf a_immOf a_memory a_value a_ready a_free a_archMap a_map a_head a_count a_robPc a_robState a_robTimer a_robStop a_robDest a_robNew a_robOld a_robA a_robB a_robVal a_robAddr a_robNext a_robLive a_fetchStop)) (hop : ∀ i, 0 ≤ a_op i ∧ a_op i ≤ 15) (hp : p < sn t)
    (hr : sk_er t p a_op a_regsOf a_immOf (Z t k) (Z t (k + 1)) (a_robPc (sk_s hd t k)) (a_robState (sk_s hd t k)) (a_robTimer (sk_s hd t k)) (a_robStop (sk_s hd t k)) (a_robDest (sk_s hd t k)) (a_robNew (sk_s hd t k)) (a_robOld (sk_s hd t k)) (a_robA (sk_s hd t k)) (a_robB (sk_s hd t k)) (a_robVal (sk_s hd t k)) (a_robAddr (sk_s hd t k)) (a_robNext (sk_s hd t k)))
    (hst : a_robState (sk_s hd t k) = 0) (r1 : a_ready ((Z t k).1 (sk_ra (a_regsOf (t * 24 + p)))) ≠ 0) (r2 : a_ready ((Z t k).1 (sk_rb (a_regsOf (t * 24 + p)))) ≠ 0)
    (hsd : a_op (t * 24 + p) = 10 → sk_sd t k hd a_op a_robPc a_robState)
    (K : ∀ st' tm' sp' va' ad' nx' : Nat → Int32, (∀ q, q ≠ sk_s hd t k → st' q = a_robState q ∧ tm' q = a_robTimer q ∧ sp' q = a_robStop q ∧ va' q = a_robVal q ∧ ad' q = a_robAddr q ∧ nx' q = a_robNext q) →
      st' (sk_s hd t k) = 1 → (∃ c, 1 ≤ c ∧ c ≤ 4 ∧ tm' (sk_s hd t k) = nI c) →
      sk_eo (a_op (t * 24 + p)) (a_regsOf (t * 24 + p)) (a_immOf (t * 24 + p)) (a_robPc (sk_s hd t k)) (Z t k) (sp' (sk_s hd t k)) (va' (sk_s hd t k)) (ad' (sk_s hd t k)) (nx' (sk_s hd t k)) →
      post (f_threads, f_width, f_window, f_freeTop, f_queued, f_total, a_op, a_regsOf, a_immOf, a_sizeOf, a_memory, a_statusOf, a_archPc, a_retiredOf, a_digestOf, a_value, a_ready, a_free, a_archMap, a_map, a_head, a_count, a_robPc, st', tm', sp', a_robDest, a_robNew, a_robOld, a_robA, a_robB, va', ad', nx', a_robGuess, a_robLive, a_queue, a_fetchPc, a_fetchStop, a_counter, a_lastTarget, a_active, a_quota)) :
    wpX_execute post (f_threads, f_width, f_window, f_freeTop, f_queued, f_total, a_op, a_regsOf, a_immOf, a_sizeOf, a_memory, a_statusOf, a_archPc, a_retiredOf, a_digestOf, a_value, a_ready, a_free, a_archMap, a_map, a_head, a_count, a_robPc, a_robState, a_robTimer, a_robStop, a_robDest, a_robNew, a_robOld, a_robA, a_robB, a_robVal, a_robAddr, a_robNext, a_robGuess, a_robLive, a_queue, a_fetchPc, a_fetchStop, a_counter, a_lastTarget, a_active, a_quota) (nI (sk_s hd t k)) := by
  have h4 := I.1.2.2.2.2
  have g := I.1.1 t ht
  have sl := sk_sl I.1 ht (show k ≤ 12 by omega)
  have vs : vp_in (nI (sk_s hd t k)) 48 := vp_in_nI sl (by decide)
  have cs : (nI (sk_s hd t k)).toNatClampNeg = sk_s hd t k := nI_clamp (by omega)
  have hp24 : p < 24 := by have := I.2.1.1 t ht; omega
  obtain ⟨epc, ho0, ⟨era, erb, _⟩, hed⟩ := hr
  have hsp : a_robStop (sk_s hd t k) = 0 := by
    rcases hed with ⟨_, z⟩ | ⟨z | ⟨z, _⟩, _⟩
    · exact z
    · rw [hst] at z; exact absurd z (by decide)
    · rw [hst] at z; exact absurd z (by decide)
  have va := I.2.2.2.1 t k _ ht (by omega) (sk_ra8 (a_regsOf (t * 24 + p)))
  have vb := I.2.2.2.1 t k _ ht (by omega) (sk_rb8 (a_regsOf (t * 24 + p)))
  have v3 : vp_in (nI (t * 24 + p)) 96 := vp_in_nI (by omega) (by decide)
  have c3 : (nI (t * 24 + p)).toNatClampNeg = t * 24 + p := nI_clamp (by omega)
  obtain ⟨n, hn, en⟩ := nI_of2 (x := a_op (t * 24 + p)) (M := 15) (n := 15) (by decide) (Int32.not_lt.mpr (hop _).1) (hop _).2
  have n0 : n ≠ 0 := by intro z; rw [z] at en; exact ho0 en
  refine And.intro (by decide) (nm_r (e' := nI t) ?_ ?_)
  · have := pk_div (a := sk_s hd t k) (d := 12) (by omega) (by omega) (by omega)
    rw [sk_s_div g.2.1 (by omega)] at this
    exact this
  refine And.intro vs (nm_r (e' := nI (t * 24 + p)) (by rw [cs, epc, sk_x24, nI_add]) (And.intro v3 (nm_r (e' := nI n) (by rw [c3]; exact en) ?_)))
  refine And.intro vs (And.intro (by rw [cs, era]; exact vp_in_nI va.1 (by decide)) (nm_r (e' := (Z t k).2.1 (sk_ra (a_regsOf (t * 24 + p)))) (by rw [cs, era, nI_clamp (by omega)]; exact va.2.2 r1) ?_))
  refine And.intro vs (And.intro (by rw [cs, erb]; exact vp_in_nI vb.1 (by decide)) (nm_r (e' := (Z t k).2.1 (sk_rb (a_regsOf (t * 24 + p)))) (by rw [cs, erb, nI_clamp (by omega)]; exact vb.2.2 r2) ?_))
  refine And.intro vs (nm_r (e' := upd a_robState (sk_s hd t k) 1) (by rw [cs]) ?_)
  refine sk_w_lat (fun c c1 c4 => ?_)
  refine And.intro vs (nm_r (e' := upd a_robTimer (sk_s hd t k) (nI c)) (by rw [cs]) (And.intro vs (And.intro vs (nm_r (e' := upd a_robNext (sk_s hd t k) (a_robPc (sk_s hd t k) + 1)) (by rw [cs]) ?_))))
  rw [en] at K hsd
  refine pk_lt 9 n (fun h9 => ?_) (fun h9 => ?_)
  · refine pk_lt 11 n (fun h11 => ?_) (fun h11 => ?_)
    · refine And.intro v3 ?_
      rw [c3]
      refine sk_w_trans (pc := a_robPc (sk_s hd t k)) sl (by omega) hn rfl pk_us (fun nx' va' of e1 e2 => ?_)
      refine K _ _ a_robStop va' a_robAddr nx' (fun q hq => ⟨pk_un hq, pk_un hq, rfl, (of q hq).2, rfl, ?_⟩) pk_us ⟨c, c1, c4, pk_us⟩ (sk_eo_t (by omega) hn hsp e2 e1)
      rw [(of q hq).1, pk_un hq]
    · refine And.intro v3 ?_
      rw [c3]
      refine sk_w_acc (M := fun j => (Z t j).2.2) (by omega) g.1 g.2.1 g.2.2.1 g.2.2.2 hk (by omega) hsp (fun x hx => (I.2.2.1 t ht).2 x hx) (fun h10 x hx j hj => ?_) (fun va' ad' sp' of e1 e2 e3 e4 => ?_)
      · exact sk_lo_of ht hk hj I.2.1 (hsd (by rw [h10]; rfl)) hx
      · refine K _ _ sp' va' ad' _ (fun q hq => ⟨pk_un hq, pk_un hq, (of q hq).2.2, (of q hq).1, (of q hq).2.1, pk_un hq⟩) pk_us ⟨c, c1, c4, pk_us⟩ ?_
        rcases (by omega : n = 10 ∨ n = 11) with z | z
        · subst z
          exact sk_eo_l e2 (e4 rfl) pk_us
        · subst z
          exact sk_eo_s e2 (e3 rfl) e1 pk_us
  · refine And.intro v3 ?_
    rw [c3]
    refine sk_w_comp (pc := a_robPc (sk_s hd t k)) (c := sk_cell ((Z t k).2.1 (sk_ra (a_regsOf (t * 24 + p))) + a_immOf (t * 24 + p)) (Z t k).2.2) (by omega) h9 ?_
    refine And.intro vs (nm_r (e' := upd a_robVal (sk_s hd t k) (sk_val (nI n) (a_robPc (sk_s hd t k)) ((Z t k).2.1 (sk_ra (a_regsOf (t * 24 + p)))) ((Z t k).2.1 (sk_rb (a_regsOf (t * 24 + p)))) (a_immOf (t * 24 + p)) (sk_cell ((Z t k).2.1 (sk_ra (a_regsOf (t * 24 + p))) + a_immOf (t * 24 + p)) (Z t k).2.2))) (by rw [cs]) ?_)
    by_cases h5 : nI n = 5
    · refine br_t h5 ?_
      by_cases hb : (Z t k).2.1 (sk_rb (a_regsOf (t * 24 + p))) = 0
      · refine br_t hb (And.intro vs (nm_r (e' := upd a_robStop (sk_s hd t k) 2) (by rw [cs]) ?_))
        exact K _ _ _ _ a_robAddr _ (fun q hq => ⟨pk_un hq, pk_un hq, pk_un hq, pk_un hq, rfl, pk_un hq⟩) pk_us ⟨c, c1, c4, pk_us⟩ (sk_eo_a (by omega) h9 (by rw [if_pos ⟨h5, hb⟩, pk_us]) pk_us pk_us)
      · refine br_f hb ?_
        exact K _ _ a_robStop _ a_robAddr _ (fun q hq => ⟨pk_un hq, pk_un hq, rfl, pk_un hq, rfl, pk_un hq⟩) pk_us ⟨c, c1, c4, pk_us⟩ (sk_eo_a (by omega) h9 (by rw [if_neg (fun z => hb z.2)]; exact hsp) pk_us pk_us)
    · refine br_f h5 ?_
      exact K _ _ a_robStop _ a_robAddr _ (fun q hq => ⟨pk_un hq, pk_un hq, rfl, pk_un hq, rfl, pk_un hq⟩) pk_us ⟨c, c1, c4, pk_us⟩ (sk_eo_a (by omega) h9 (by rw [if_neg (fun z => h5 z.1)]; exact hsp) pk_us pk_us)
end
end
section
/-! issueStage -/
section
variable {post : SX → Prop} {f_threads f_width f_window f_freeTop f_queued f_total : Int32} {nt wd wn ex : Nat} {sn : Nat → Nat} {goal : Nat → sk_Y} {r0 op rg im sz : Nat → Int32} {hd ct ow : Nat → Nat} {cn : Nat → Int32} {Z : Nat → Nat → sk_V} {ft qn : Nat}
variable {a_op a_regsOf a_immOf a_sizeOf a_memory a_statusOf a_archPc a_retiredOf a_digestOf a_value a_ready a_free a_archMap a_map a_head a_count a_robPc a_robDest a_robNew a_robOld a_robA a_robB a_robGuess a_robLive a_queue a_fetchPc a_fetchStop a_counter a_lastTarget a_active a_quota : Nat → Int32}
theorem sk_w_is4 {st0 tm0 : Nat → Int32} (hK : (sk_KK nt wd wn sn f_threads f_width f_window a_op a_sizeOf)) (hfq : f_queued = nI qn)
    (K : ∀ (a_robState a_robTimer a_robStop a_robVal a_robAddr a_robNext q' : Nat → Int32) (n' : Nat), (sk_IB nt hd ct sn Z cn ow ft ex f_freeTop a_op a_regsOf a_immOf a_memory a_value a_ready a_free a_archMap a_map a_head a_count a_robPc a_robState a_robTimer a_robStop a_robDest a_robNew a_robOld a_robA a_robB a_robVal a_robAddr a_robNext a_robLive a_fetchStop) → (sk_QW nt hd ct n' a_robState q') → (sk_QQ nt hd ct n' a_robState q') → (sk_FA nt hd ct a_robPc a_robState a_robNext a_robGuess a_archPc) → (sk_FB nt hd ct a_active a_robState a_robStop a_robNext a_robGuess a_archPc a_fetchPc a_fetchStop) → sk_PF a_robLive a_robState a_queue qn q' n' →
      (∀ x p, x < nt → 0 < ct x → p < qn → a_queue p = nI (sk_s hd x 0) → ∃ m s, m ≤ p ∧ s < 48 ∧ a_queue m = nI s ∧ a_robState s ≠ 0) →
      (∀ s, st0 s ≠ 0 → a_robState s = st0 s ∧ a_robTimer s = tm0 s) → (∀ s, a_robState s ≠ 0 → st0 s = 0 → a_robState s = 1 ∧ ∃ c, 1 ≤ c ∧ c ≤ 4 ∧ a_robTimer s = nI c) →
      post (f_threads, f_width, f_window, f_freeTop, nI n', f_total, a_op, a_regsOf, a_immOf, a_sizeOf, a_memory, a_statusOf, a_archPc, a_retiredOf, a_digestOf, a_value, a_ready, a_free, a_archMap, a_map, a_head, a_count, a_robPc, a_robState, a_robTimer, a_robStop, a_robDest, a_robNew, a_robOld, a_robA, a_robB, a_robVal, a_robAddr, a_robNext, a_robGuess, a_robLive, q', a_fetchPc, a_fetchStop, a_counter, a_lastTarget, a_active, a_quota)) :
    ∀ d i j, i + d = qn → ∀ (a_robState a_robTimer a_robStop a_robVal a_robAddr a_robNext : Nat → Int32), (sk_IB nt hd ct sn Z cn ow ft ex f_freeTop a_op a_regsOf a_immOf a_memory a_value a_ready a_free a_archMap a_map a_head a_count a_robPc a_robState a_robTimer a_robStop a_robDest a_robNew a_robOld a_robA a_robB a_robVal a_robAddr a_robNext a_robLive a_fetchStop) → (sk_QW nt hd ct qn a_robState a_queue) → (sk_FA nt hd ct a_robPc a_robState a_robNext a_robGuess a_archPc) → (sk_FB nt hd ct a_active a_robState a_robStop a_robNext a_robGuess a_archPc a_fetchPc a_fetchStop) →
      (∀ m, m < qn → ∃ t k, t < nt ∧ k < ct t ∧ a_queue m = nI (sk_s hd t k) ∧ (i ≤ m → a_robState (sk_s hd t k) = 0)) →
      (∀ x p, x < nt → 0 < ct x → p < i → a_queue p = nI (sk_s hd x 0) → ∃ m s, m ≤ p ∧ s < 48 ∧ a_queue m = nI s ∧ a_robState s ≠ 0) →
      (0 < j → ∃ m s, m < i ∧ s < 48 ∧ a_queue m = nI s ∧ a_robState s ≠ 0) →
      (∀ s, st0 s ≠ 0 → a_robState s = st0 s ∧ a_robTimer s = tm0 s) → (∀ s, a_robState s ≠ 0 → st0 s = 0 → a_robState s = 1 ∧ ∃ c, 1 ≤ c ∧ c ≤ 4 ∧ a_robTimer s = nI c) →
      j ≤ i → ∀ n, d < n → wX_issueStage_4 post n (nI j) (nI i) f_threads f_width f_window f_freeTop f_queued f_total a_op a_regsOf a_immOf a_sizeOf a_memory a_statusOf a_archPc a_retiredOf a_digestOf a_value a_ready a_free a_archMap a_map a_head a_count a_robPc a_robState a_robTimer a_robStop a_robDest a_robNew a_robOld a_robA a_robB a_robVal a_robAddr a_robNext a_robGuess a_robLive a_queue a_fetchPc a_fetchStop a_counter a_lastTarget a_active a_quota := by
  obtain ⟨k1, k2, k3, k4, k5, k6, k7, k8, k9, k10, k11⟩ := hK
  intro d
  induction d with
  | zero =>
    intro i j hi a_robState a_robTimer a_robStop a_robVal a_robAddr a_robNext I Q hA hB QI iA iB iC iD hji n hn
    obtain ⟨m, rfl⟩ : ∃ m, n = m + 1 := ⟨n - 1, by omega⟩
    have e : i = qn := by omega
    subst e
    refine br_t (by rw [hfq]; exact nI_le (by omega) (by have := Q.1; omega)) ?_
    unfold wX_issueStage_49
    refine sk_w_purge Q.1 hfq Q.2.1 (fun q' n' hP => ?_)
    have R := sk_QP I.1 Q hP
    exact K a_robState a_robTimer a_robStop a_robVal a_robAddr a_robNext q' n' I R.1 R.2 hA hB hP iA iC iD
  | succ d ih =>
    intro i j hi a_robState a_robTimer a_robStop a_robVal a_robAddr a_robNext I Q hA hB QI iA iB iC iD hji n hn
    obtain ⟨m, rfl⟩ : ∃ m, n = m + 1 := ⟨n - 1, by omega⟩
    have q16 := Q.1
    refine br_f (by rw [hfq]; exact nI_ge (by omega) (by omega)) ?_
    rw [k2]
    refine pk_le wd j (fun z => ?_) (fun z => ?_)
    · unfold wX_issueStage_49
      rw [← k2]
      refine sk_w_purge Q.1 hfq Q.2.1 (fun q' n' hP => ?_)
      have R := sk_QP I.1 Q hP
      refine K a_robState a_robTimer a_robStop a_robVal a_robAddr a_robNext q' n' I R.1 R.2 hA hB hP (fun x p hx hc hp e => ?_) iC iD
      by_cases hpi : p < i
      · exact iA x p hx hc hpi e
      · obtain ⟨m', s', a, b⟩ := iB (by omega)
        exact ⟨m', s', by omega, b⟩
    · rw [← k2]
      refine And.intro (vp_in_nI (by omega) (by decide)) ?_
      obtain ⟨t, k, ht, hk, eq, est⟩ := QI i (by omega)
      have hst := est (Nat.le_refl i)
      have h4 := I.1.2.2.2.2
      have g := I.1.1 t ht
      have sl := sk_sl I.1 ht (show k ≤ 12 by omega)
      refine nm_r (e' := nI (sk_s hd t k)) (by rw [nI_clamp (by omega)]; exact eq) ?_
      obtain ⟨p, hp, hr⟩ : ∃ p, p < sn t ∧ sk_er t p a_op a_regsOf a_immOf (Z t k) (Z t (k + 1)) (a_robPc (sk_s hd t k)) (a_robState (sk_s hd t k)) (a_robTimer (sk_s hd t k)) (a_robStop (sk_s hd t k)) (a_robDest (sk_s hd t k)) (a_robNew (sk_s hd t k)) (a_robOld (sk_s hd t k)) (a_robA (sk_s hd t k)) (a_robB (sk_s hd t k)) (a_robVal (sk_s hd t k)) (a_robAddr (sk_s hd t k)) (a_robNext (sk_s hd t k)) := by
        rcases I.2.1.2 t k ht hk with e | ⟨_, _, _, e, _⟩
        · exact e
        · rw [hst] at e; exact absurd e (by decide)
      have hp24 : p < 24 := by have := I.2.1.1 t ht; omega
      have va := I.2.2.2.1 t k _ ht (by omega) (sk_ra8 (a_regsOf (t * 24 + p)))
      have vb := I.2.2.2.1 t k _ ht (by omega) (sk_rb8 (a_regsOf (t * 24 + p)))
      have hsp : a_robStop (sk_s hd t k) = 0 := by
        rcases hr.2.2.2 with ⟨_, z⟩ | ⟨z | ⟨z, _⟩, _⟩
        · exact z
        · rw [hst] at z; exact absurd z (by decide)
        · rw [hst] at z; exact absurd z (by decide)
      refine sk_w_canI (by omega) g.1 g.2.1 g.2.2.1 g.2.2.2 hk (fun j' hj' => ?_) hp24 hr.1 va.1 vb.1 hr.2.2.1.1 hr.2.2.1.2.1 (fun z => ?_) (fun r1 r2 hsd => ?_) (fun hk0 => ?_)
      · obtain ⟨p', hp', hr'⟩ := sk_er_of ht hk hj' I.2.1
        exact ⟨⟨p', by have := I.2.1.1 t ht; omega, hr'.1⟩, sk_ed_ne hr'.2.2.2⟩
      · subst z
        exact ⟨I.2.2.2.2.1.1 t _ ht (sk_ra8 _), I.2.2.2.2.1.1 t _ ht (sk_rb8 _)⟩
      · refine br_f (by decide) ?_
        refine sk_w_exec ht hk I k10 hp hr hst r1 r2 hsd ?_
        intro st' tm' sp' va' ad' nx' of s1 s2 eo
        refine nm_r (nI_1 j) (nm_r (nI_1 i) ?_)
        have I' := sk_mdA ht hk of ⟨p, hp, hr.1, hr.2.1, hr.2.2.1, Or.inr ⟨Or.inr ⟨s1, s2⟩, eo⟩⟩ (by rw [s1]; intro z; exact absurd z (by decide)) I
        have keep : ∀ s, a_robState s ≠ 0 → st' s = a_robState s ∧ tm' s = a_robTimer s := by
          intro s hs
          have ne : s ≠ sk_s hd t k := by intro e; rw [e] at hs; exact hs hst
          exact ⟨(of s ne).1, (of s ne).2.1⟩
        have keep0 : ∀ s, a_robState s ≠ 0 → st' s ≠ 0 := fun s hs => by rw [(keep s hs).1]; exact hs
        refine ih (i + 1) (j + 1) (by omega) st' tm' sp' va' ad' nx' I' ?_ ?_ ?_ ?_ ?_ ?_ ?_ ?_ (by omega) m (by omega)
        · refine ⟨Q.1, Q.2.1, Q.2.2.1, fun x y hx hy hz => ?_⟩
          by_cases e : sk_s hd x y = sk_s hd t k
          · rw [e, s1] at hz; exact absurd hz (by decide)
          · rw [(of _ e).1] at hz; exact Q.2.2.2 x y hx hy hz
        · intro x hx
          refine ⟨(hA x hx).1, fun y hy => ?_⟩
          have q := (hA x hx).2 y hy
          by_cases e : sk_s hd x y = sk_s hd t k
          · rw [e, hst, if_neg (by decide)] at q
            rw [e, s1, if_neg (by decide)]; exact q
          · rw [(of _ e).1, (of _ e).2.2.2.2.2]; exact q
        · intro x hx ha
          refine ⟨(hB x hx ha).1, fun y hy => ?_⟩
          have q := (hB x hx ha).2 y hy
          by_cases e : sk_s hd x y = sk_s hd t k
          · rw [e, hst, if_neg (by decide), hsp] at q
            rw [e, s1, if_neg (by decide)]
            exact ⟨q.1, fun z => by rcases q.2 z with z | z <;> exact absurd z (by decide)⟩
          · rw [(of _ e).1, (of _ e).2.2.2.2.2, (of _ e).2.2.1]; exact q
        · intro m' hm'
          obtain ⟨x, y, hx, hy, a, b⟩ := QI m' hm'
          refine ⟨x, y, hx, hy, a, fun hle => ?_⟩
          have ne : sk_s hd x y ≠ sk_s hd t k := by
            intro e
            have := Q.2.2.1 m' i hm' (by omega) (by rw [a, eq, e])
            omega
          rw [(of _ ne).1]; exact b (by omega)
        · intro x p' hx hc hp' e
          by_cases hpi : p' < i
          · obtain ⟨m', s', a, b, c, d⟩ := iA x p' hx hc hpi e
            exact ⟨m', s', a, b, c, keep0 s' d⟩
          · exact ⟨i, sk_s hd t k, by omega, sl, eq, by rw [s1]; decide⟩
        · intro _
          exact ⟨i, sk_s hd t k, by omega, sl, eq, by rw [s1]; decide⟩
        · intro s hs
          have q := iC s hs
          have ne0 : a_robState s ≠ 0 := by rw [q.1]; exact hs
          have w := keep s ne0
          exact ⟨w.1.trans q.1, w.2.trans q.2⟩
        · intro s hs hs0
          by_cases e : s = sk_s hd t k
          · rw [e]; exact ⟨s1, s2⟩
          · rw [(of s e).1] at hs ⊢
            rw [(of s e).2.1]
            exact iD s hs hs0
      · refine br_t rfl (nm_r (nI_1 i) ?_)
        refine ih (i + 1) j (by omega) a_robState a_robTimer a_robStop a_robVal a_robAddr a_robNext I Q hA hB ?_ ?_ ?_ iC iD (by omega) m (by omega)
        · intro m' hm'
          obtain ⟨x, y, hx, hy, a, b⟩ := QI m' hm'
          exact ⟨x, y, hx, hy, a, fun hle => b (by omega)⟩
        · intro x p' hx hc hp' e
          by_cases hpi : p' < i
          · exact iA x p' hx hc hpi e
          · exfalso
            have : p' = i := by omega
            subst this
            rw [eq] at e
            have gx := I.1.1 x hx
            have slx := sk_sl I.1 hx (show 0 ≤ 12 by omega)
            have e' := (nI_eq (by omega) (by omega)).mp e
            have := (sk_s_inj g.2.1 gx.2.1 (by omega) (by omega) e').2
            exact hk0 this
        · intro hj
          obtain ⟨m', s', a, b⟩ := iB hj
          exact ⟨m', s', by omega, b⟩
end
section
variable {nt wd wn ex : Nat} {sn : Nat → Nat} {goal : Nat → sk_Y} {r0 op rg im sz : Nat → Int32} {post : SX → Prop}
theorem sk_w_issue {u : SX} (I : sk_IU nt wd wn ex sn goal r0 op rg im sz u)
    (K : ∀ u', sk_IU nt wd wn ex sn goal r0 op rg im sz u' → sk_N nt u' = sk_N nt u → (∀ x m, x < nt → sk_DD 2 2 6 m x u → sk_DD 2 2 7 m x u') → sx_active u' = sx_active u → sx_count u' = sx_count u → post u') : wpX_issueStage post u := by
  revert I K
  refine sk_el (P := fun u => sk_IU nt wd wn ex sn goal r0 op rg im sz u → (∀ u', sk_IU nt wd wn ex sn goal r0 op rg im sz u' → sk_N nt u' = sk_N nt u → (∀ x m, x < nt → sk_DD 2 2 6 m x u → sk_DD 2 2 7 m x u') → sx_active u' = sx_active u → sx_count u' = sx_count u → post u') → wpX_issueStage post u) ?_ u
  intro f_threads f_width f_window f_freeTop f_queued f_total a_op a_regsOf a_immOf a_sizeOf a_memory a_statusOf a_archPc a_retiredOf a_digestOf a_value a_ready a_free a_archMap a_map a_head a_count a_robPc a_robState a_robTimer a_robStop a_robDest a_robNew a_robOld a_robA a_robB a_robVal a_robAddr a_robNext a_robGuess a_robLive a_queue a_fetchPc a_fetchStop a_counter a_lastTarget a_active a_quota I K
  obtain ⟨hce, hd, ct, ow, cn, Z, ft, qn, hK, IB, hfq, Q, QQ, hA, hB, hY, hT⟩ := (show (sk_IV nt wd wn ex sn goal r0 op rg im sz f_threads f_width f_window f_freeTop f_queued f_total a_op a_regsOf a_immOf a_sizeOf a_memory a_statusOf a_archPc a_retiredOf a_digestOf a_value a_ready a_free a_archMap a_map a_head a_count a_robPc a_robState a_robTimer a_robStop a_robDest a_robNew a_robOld a_robA a_robB a_robVal a_robAddr a_robNext a_robGuess a_robLive a_queue a_fetchPc a_fetchStop a_counter a_lastTarget a_active a_quota) from I)
  refine ⟨qn + 1, sk_w_is4 (st0 := a_robState) (tm0 := a_robTimer) hK hfq ?_ qn 0 0 (by omega) a_robState a_robTimer a_robStop a_robVal a_robAddr a_robNext IB Q hA hB ?_ ?_ ?_ ?_ ?_ (by omega) (qn + 1) (by omega)⟩
  · intro st' tm' sp' va' ad' nx' q' n' I' Q' QQ' hA' hB' hP hcl iC iD
    refine K _ (⟨hce, hd, ct, ow, cn, Z, ft, n', hK, I', rfl, Q', QQ', hA', hB', hY, hT⟩ : (sk_IV nt wd wn ex sn goal r0 op rg im sz f_threads f_width f_window f_freeTop (nI n') f_total a_op a_regsOf a_immOf a_sizeOf a_memory a_statusOf a_archPc a_retiredOf a_digestOf a_value a_ready a_free a_archMap a_map a_head a_count a_robPc st' tm' sp' a_robDest a_robNew a_robOld a_robA a_robB va' ad' nx' a_robGuess a_robLive q' a_fetchPc a_fetchStop a_counter a_lastTarget a_active a_quota)) (sk_N_eq rfl rfl) (fun x m hx hD => ?_) rfl rfl
    have ehx := sk_hs IB.1 hx
    have gx := IB.1.1 x hx
    have slx := sk_sl IB.1 hx (show 0 ≤ 12 by omega)
    obtain ⟨d1, d2, d3⟩ := sk_DD_el ehx hD
    have hct : ct x ≠ 0 := by intro z; rw [gx.2.2.1, z] at d2; exact d2 rfl
    refine sk_DD_mk ehx d1 d2 ?_
    have q16 := Q.1
    have q16' := Q'.1
    rcases d3 with ⟨a, b⟩ | ⟨a, τ, b1, b2, b3, b4⟩ | ⟨a, p, b1, b2, b3⟩
    · have w := iC (sk_s hd x 0) (by rw [a]; decide)
      exact Or.inl ⟨w.1.trans a, b⟩
    · have w := iC (sk_s hd x 0) (by rw [a]; decide)
      exact Or.inr (Or.inl ⟨w.1.trans a, τ, b1, b2, w.2.trans b3, b4⟩)
    · rw [hfq, nI_clamp (by omega)] at b1
      by_cases z : st' (sk_s hd x 0) = 0
      · obtain ⟨m', s', e1, e2, e3, e4⟩ := hcl x p hx (by omega) b1 b2
        have hne : m' ≠ p := by
          intro e
          rw [e, b2] at e3
          have := (nI_eq (by omega) (by omega)).mp e3
          rw [← this] at e4
          exact e4 z
        have cd : sk_cd a_robLive st' (a_queue p) := by
          rw [b2]; unfold sk_cd; rw [nI_clamp (by omega)]
          exact ⟨IB.1.2.1 x 0 hx (by omega), z⟩
        have ncd : ¬ sk_cd a_robLive st' (a_queue m') := by
          rw [e3]; unfold sk_cd; rw [nI_clamp (by omega)]
          exact fun w => e4 w.2
        obtain ⟨i, f1, f2, f3, f4⟩ := hP.2.2.1 p b1 cd
        have := f4 ⟨m', by omega, ncd⟩
        refine Or.inr (Or.inr ⟨z, i, ?_, by rw [f3, b2], by omega⟩)
        rw [nI_clamp (by omega)]; exact f2
      · obtain ⟨w1, c, c1, c2, c3⟩ := iD (sk_s hd x 0) z a
        exact Or.inr (Or.inl ⟨w1, c, c1, c2, c3, by omega⟩)
  · intro m hm
    obtain ⟨t, k, ht, hk, a, b⟩ := QQ m hm
    exact ⟨t, k, ht, hk, a, fun _ => b⟩
  · intro x p _ _ hp; exact absurd hp (Nat.not_lt_zero p)
  · intro h; exact absurd h (Nat.lt_irrefl 0)
  · intro s _; exact ⟨rfl, rfl⟩
  · intro s h1 h2; exact absurd h2 h1
end
end
section
/-! rename, blockFetch, canFetch -/
section
variable {f_threads f_width f_window f_freeTop f_queued f_total : Int32} {a_op a_regsOf a_immOf a_sizeOf a_memory a_statusOf a_archPc a_retiredOf a_digestOf a_value a_ready a_free a_archMap a_map a_head a_count a_robPc a_robState a_robTimer a_robStop a_robDest a_robNew a_robOld a_robA a_robB a_robVal a_robAddr a_robNext a_robGuess a_robLive a_queue a_fetchPc a_fetchStop a_counter a_lastTarget a_active a_quota : Nat → Int32} {post : SX → Prop}
theorem sk_w_pred {post : Int32 → Prop} {t : Nat} {x4 x5 x3 : Int32} (ht : t < 4) (h : vp_in x4 96) (K : ∀ r, post r) : wpX_predict post (f_threads, f_width, f_window, f_freeTop, f_queued, f_total, a_op, a_regsOf, a_immOf, a_sizeOf, a_memory, a_statusOf, a_archPc, a_retiredOf, a_digestOf, a_value, a_ready, a_free, a_archMap, a_map, a_head, a_count, a_robPc, a_robState, a_robTimer, a_robStop, a_robDest, a_robNew, a_robOld, a_robA, a_robB, a_robVal, a_robAddr, a_robNext, a_robGuess, a_robLive, a_queue, a_fetchPc, a_fetchStop, a_counter, a_lastTarget, a_active, a_quota) (nI t) x4 x5 x3 := by
  have K38 : wX_predict_38 post x4 x3 f_threads f_width f_window f_freeTop f_queued f_total a_op a_regsOf a_immOf a_sizeOf a_memory a_statusOf a_archPc a_retiredOf a_digestOf a_value a_ready a_free a_archMap a_map a_head a_count a_robPc a_robState a_robTimer a_robStop a_robDest a_robNew a_robOld a_robA a_robB a_robVal a_robAddr a_robNext a_robGuess a_robLive a_queue a_fetchPc a_fetchStop a_counter a_lastTarget a_active a_quota := And.intro h (br_c (fun _ => K _) (fun _ => And.intro h (K _)))
  exact br_c (fun _ => And.intro h (K _)) (fun _ => br_c (fun _ => And.intro (vp_in_nI ht (by decide)) (K _)) (fun _ => br_c (fun _ => K38) (fun _ => br_c (fun _ => K38) (fun _ => K _))))
theorem sk_w_171 {t s p qn : Nat} {x5 : Int32} (ht : t < 4) (hs : s < 48) (hp : p < 24) (hfq : f_queued = nI qn) (hq : qn < 16)
    (K : ∀ r, post (f_threads, f_width, f_window, f_freeTop, nI (qn + 1), f_total, a_op, a_regsOf, a_immOf, a_sizeOf, a_memory, a_statusOf, a_archPc, a_retiredOf, a_digestOf, a_value, a_ready, a_free, a_archMap, a_map, a_head, a_count, a_robPc, upd a_robState s 0, a_robTimer, a_robStop, a_robDest, a_robNew, a_robOld, a_robA, a_robB, a_robVal, a_robAddr, a_robNext, upd a_robGuess s r, a_robLive, upd a_queue qn (nI s), upd a_fetchPc t r, a_fetchStop, a_counter, a_lastTarget, a_active, a_quota)) :
    wX_rename_171 post (nI t) (nI s) (nI p) (nI (t * 24 + p)) x5 f_threads f_width f_window f_freeTop f_queued f_total a_op a_regsOf a_immOf a_sizeOf a_memory a_statusOf a_archPc a_retiredOf a_digestOf a_value a_ready a_free a_archMap a_map a_head a_count a_robPc a_robState a_robTimer a_robStop a_robDest a_robNew a_robOld a_robA a_robB a_robVal a_robAddr a_robNext a_robGuess a_robLive a_queue a_fetchPc a_fetchStop a_counter a_lastTarget a_active a_quota := by
  have vs : vp_in (nI s) 48 := vp_in_nI hs (by decide)
  have cs : (nI s).toNatClampNeg = s := nI_clamp (by omega)
  refine And.intro vs (nm_r (e' := upd a_robState s 0) (by rw [cs]) (And.intro (by rw [hfq]; exact vp_in_nI hq (by decide)) (nm_r (e' := upd a_queue qn (nI s)) (by rw [hfq, nI_clamp (by omega)]) (nm_r (e' := nI (qn + 1)) (by rw [hfq, nI_1]) ?_))))
  refine sk_w_pred ht (vp_in_nI (by omega) (by decide)) (fun r => ?_)
  exact And.intro vs (nm_r (e' := upd a_robGuess s r) (by rw [cs]) (And.intro (vp_in_nI ht (by decide)) (nm_r (e' := upd a_fetchPc t r) (by rw [nI_clamp (by omega)]) (K r))))
theorem sk_w_87 {t s p qn F f : Nat} {x5 w : Int32} (ht : t < 4) (hs : s < 48) (hp : p < 24) (hfq : f_queued = nI qn) (hq : qn < 16) (hF : f_freeTop = nI (F + 1)) (hF56 : F < 56) (hfr : a_free F = nI f) (hf : f < 56)
    (K : ∀ r, post (f_threads, f_width, f_window, nI F, nI (qn + 1), f_total, a_op, a_regsOf, a_immOf, a_sizeOf, a_memory, a_statusOf, a_archPc, a_retiredOf, a_digestOf, a_value, upd a_ready f 0, a_free, a_archMap, upd a_map (t * 8 + sk_d w) (nI f), a_head, a_count, a_robPc, upd a_robState s 0, a_robTimer, a_robStop, upd a_robDest s (nI (sk_d w)), upd a_robNew s (nI f), upd a_robOld s (a_map (t * 8 + sk_d w)), a_robA, a_robB, a_robVal, a_robAddr, a_robNext, upd a_robGuess s r, a_robLive, upd a_queue qn (nI s), upd a_fetchPc t r, a_fetchStop, a_counter, a_lastTarget, a_active, a_quota)) :
    wX_rename_87 post (nI t) (nI s) (nI p) (nI (t * 24 + p)) x5 w f_threads f_width f_window f_freeTop f_queued f_total a_op a_regsOf a_immOf a_sizeOf a_memory a_statusOf a_archPc a_retiredOf a_digestOf a_value a_ready a_free a_archMap a_map a_head a_count a_robPc a_robState a_robTimer a_robStop a_robDest a_robNew a_robOld a_robA a_robB a_robVal a_robAddr a_robNext a_robGuess a_robLive a_queue a_fetchPc a_fetchStop a_counter a_lastTarget a_active a_quota := by
  have vs : vp_in (nI s) 48 := vp_in_nI hs (by decide)
  have cs : (nI s).toNatClampNeg = s := nI_clamp (by omega)
  have d8 := sk_d8 w
  have vd : vp_in (nI t * 8 + nI (sk_d w)) 32 := by rw [sk_x8, nI_add]; exact vp_in_nI (by omega) (by decide)
  have cd : (nI t * 8 + nI (sk_d w)).toNatClampNeg = t * 8 + sk_d w := by rw [sk_x8, nI_add, nI_clamp (by omega)]
  refine nm_r (sk_dI w) (nm_r (e' := nI F) (by rw [hF, nI_pred]) (And.intro (vp_in_nI hF56 (by decide)) (nm_r (e' := nI f) (by rw [nI_clamp (by omega)]; exact hfr) ?_)))
  refine And.intro (vp_in_nI hf (by decide)) (nm_r (e' := upd a_ready f 0) (by rw [nI_clamp (by omega), sk_b0]) (And.intro vs (nm_r (e' := upd a_robDest s (nI (sk_d w))) (by rw [cs]) (And.intro vs (nm_r (e' := upd a_robNew s (nI f)) (by rw [cs]) ?_)))))
  refine And.intro vd (And.intro vs (nm_r (e' := upd a_robOld s (a_map (t * 8 + sk_d w))) (by rw [cs, cd]) (And.intro vd (nm_r (e' := upd a_map (t * 8 + sk_d w) (nI f)) (by rw [cd]) ?_))))
  exact sk_w_171 ht hs hp hfq hq K
theorem sk_w_ren {t s p qn F f : Nat} (ht : t < 4) (hs : s < 48) (hp : p < 24) (hfq : f_queued = nI qn) (hq : qn < 16) (hF : f_freeTop = nI (F + 1)) (hF56 : F < 56) (hfr : a_free F = nI f) (hf : f < 56)
    (KD : sk_D (a_op (t * 24 + p)) → ∀ r, post (f_threads, f_width, f_window, nI F, nI (qn + 1), f_total, a_op, a_regsOf, a_immOf, a_sizeOf, a_memory, a_statusOf, a_archPc, a_retiredOf, a_digestOf, a_value, upd a_ready f 0, a_free, a_archMap, upd a_map (t * 8 + sk_d (a_regsOf (t * 24 + p))) (nI f), a_head, a_count, a_robPc, upd a_robState s 0, a_robTimer, a_robStop, upd a_robDest s (nI (sk_d (a_regsOf (t * 24 + p)))), upd a_robNew s (nI f), upd a_robOld s (a_map (t * 8 + sk_d (a_regsOf (t * 24 + p)))), upd a_robA s (a_map (t * 8 + sk_ra (a_regsOf (t * 24 + p)))), upd a_robB s (a_map (t * 8 + sk_rb (a_regsOf (t * 24 + p)))), a_robVal, a_robAddr, a_robNext, upd a_robGuess s r, a_robLive, upd a_queue qn (nI s), upd a_fetchPc t r, a_fetchStop, a_counter, a_lastTarget, a_active, a_quota))
    (KN : ¬ sk_D (a_op (t * 24 + p)) → ∀ r, post (f_threads, f_width, f_window, f_freeTop, nI (qn + 1), f_total, a_op, a_regsOf, a_immOf, a_sizeOf, a_memory, a_statusOf, a_archPc, a_retiredOf, a_digestOf, a_value, a_ready, a_free, a_archMap, a_map, a_head, a_count, a_robPc, upd a_robState s 0, a_robTimer, a_robStop, a_robDest, a_robNew, a_robOld, upd a_robA s (a_map (t * 8 + sk_ra (a_regsOf (t * 24 + p)))), upd a_robB s (a_map (t * 8 + sk_rb (a_regsOf (t * 24 + p)))), a_robVal, a_robAddr, a_robNext, upd a_robGuess s r, a_robLive, upd a_queue qn (nI s), upd a_fetchPc t r, a_fetchStop, a_counter, a_lastTarget, a_active, a_quota)) :
    wpX_rename post (f_threads, f_width, f_window, f_freeTop, f_queued, f_total, a_op, a_regsOf, a_immOf, a_sizeOf, a_memory, a_statusOf, a_archPc, a_retiredOf, a_digestOf, a_value, a_ready, a_free, a_archMap, a_map, a_head, a_count, a_robPc, a_robState, a_robTimer, a_robStop, a_robDest, a_robNew, a_robOld, a_robA, a_robB, a_robVal, a_robAddr, a_robNext, a_robGuess, a_robLive, a_queue, a_fetchPc, a_fetchStop, a_counter, a_lastTarget, a_active, a_quota) (nI t) (nI s) (nI p) := by
  have vs : vp_in (nI s) 48 := vp_in_nI hs (by decide)
  have cs : (nI s).toNatClampNeg = s := nI_clamp (by omega)
  have v4 : vp_in (nI (t * 24 + p)) 96 := vp_in_nI (by omega) (by decide)
  have c4 : (nI (t * 24 + p)).toNatClampNeg = t * 24 + p := nI_clamp (by omega)
  have a8 := sk_ra8 (a_regsOf (t * 24 + p))
  have b8 := sk_rb8 (a_regsOf (t * 24 + p))
  refine nm_r (e' := nI (t * 24 + p)) (by rw [sk_x24, nI_add]) (And.intro v4 (nm_r (e' := a_op (t * 24 + p)) (by rw [c4]) (And.intro v4 (nm_r (e' := a_regsOf (t * 24 + p)) (by rw [c4]) ?_))))
  rw [sk_raI, sk_rbI, sk_x8, nI_add, nI_add, nI_clamp (show t * 8 + sk_ra (a_regsOf (t * 24 + p)) < 2 ^ 31 by omega), nI_clamp (show t * 8 + sk_rb (a_regsOf (t * 24 + p)) < 2 ^ 31 by omega)]
  refine And.intro (vp_in_nI (by omega) (by decide)) (And.intro vs (nm_r (e' := upd a_robA s (a_map (t * 8 + sk_ra (a_regsOf (t * 24 + p))))) (by rw [cs]) ?_))
  refine And.intro (vp_in_nI (by omega) (by decide)) (And.intro vs (nm_r (e' := upd a_robB s (a_map (t * 8 + sk_rb (a_regsOf (t * 24 + p))))) (by rw [cs]) ?_))
  by_cases h10 : a_op (t * 24 + p) ≤ 10
  · exact br_t h10 (sk_w_87 ht hs hp hfq hq hF hF56 hfr hf (KD (Or.inl h10)))
  refine br_f h10 ?_
  by_cases h14 : a_op (t * 24 + p) = 14
  · exact br_t h14 (sk_w_87 ht hs hp hfq hq hF hF56 hfr hf (KD (Or.inr h14)))
  · exact br_f h14 (sk_w_171 ht hs hp hfq hq (KN (fun z => z.elim h10 h14)))
theorem sk_w_block {t s : Nat} {why : Int32} (ht : t < 4) (hs : s < 48)
    (K : post (f_threads, f_width, f_window, f_freeTop, f_queued, f_total, a_op, a_regsOf, a_immOf, a_sizeOf, a_memory, a_statusOf, a_archPc, a_retiredOf, a_digestOf, a_value, a_ready, a_free, a_archMap, a_map, a_head, a_count, a_robPc, upd a_robState s 2, a_robTimer, upd a_robStop s why, a_robDest, a_robNew, a_robOld, a_robA, a_robB, a_robVal, a_robAddr, a_robNext, a_robGuess, a_robLive, a_queue, a_fetchPc, upd a_fetchStop t 1, a_counter, a_lastTarget, a_active, a_quota)) : wpX_blockFetch post (f_threads, f_width, f_window, f_freeTop, f_queued, f_total, a_op, a_regsOf, a_immOf, a_sizeOf, a_memory, a_statusOf, a_archPc, a_retiredOf, a_digestOf, a_value, a_ready, a_free, a_archMap, a_map, a_head, a_count, a_robPc, a_robState, a_robTimer, a_robStop, a_robDest, a_robNew, a_robOld, a_robA, a_robB, a_robVal, a_robAddr, a_robNext, a_robGuess, a_robLive, a_queue, a_fetchPc, a_fetchStop, a_counter, a_lastTarget, a_active, a_quota) (nI t) (nI s) why := by
  have vs : vp_in (nI s) 48 := vp_in_nI hs (by decide)
  have cs : (nI s).toNatClampNeg = s := nI_clamp (by omega)
  exact And.intro vs (nm_r (e' := upd a_robStop s why) (by rw [cs]) (And.intro vs (nm_r (e' := upd a_robState s 2) (by rw [cs]) (And.intro (vp_in_nI ht (by decide)) (nm_r (e' := upd a_fetchStop t 1) (by rw [nI_clamp (by omega), sk_b1]) K)))))
def sk_cf (t : Nat) (wn ft q : Int32) (ac fs co : Nat → Int32) : Prop := ac t ≠ 0 ∧ fs t = 0 ∧ ¬ wn ≤ co t ∧ ¬ 16 ≤ q ∧ ¬ ft ≤ 0
theorem sk_w_canF {post : Int32 → Prop} {t : Nat} (ht : t < 4) (K1 : sk_cf t f_window f_freeTop f_queued a_active a_fetchStop a_count → post 1) (K0 : ¬ sk_cf t f_window f_freeTop f_queued a_active a_fetchStop a_count → post 0) :
    wpX_canFetch post (f_threads, f_width, f_window, f_freeTop, f_queued, f_total, a_op, a_regsOf, a_immOf, a_sizeOf, a_memory, a_statusOf, a_archPc, a_retiredOf, a_digestOf, a_value, a_ready, a_free, a_archMap, a_map, a_head, a_count, a_robPc, a_robState, a_robTimer, a_robStop, a_robDest, a_robNew, a_robOld, a_robA, a_robB, a_robVal, a_robAddr, a_robNext, a_robGuess, a_robLive, a_queue, a_fetchPc, a_fetchStop, a_counter, a_lastTarget, a_active, a_quota) (nI t) := by
  have vt : vp_in (nI t) 4 := vp_in_nI ht (by decide)
  have ctt : (nI t).toNatClampNeg = t := nI_clamp (by omega)
  refine And.intro vt ?_
  rw [ctt]
  refine br_c (fun h => K0 (fun z => z.1 h)) (fun h1 => And.intro vt ?_)
  refine br_c (fun h2 => And.intro vt ?_) (fun h => K0 (fun z => h z.2.1))
  refine br_c (fun h => K0 (fun z => z.2.2.1 h)) (fun h3 => ?_)
  refine br_c (fun h => K0 (fun z => z.2.2.2.1 h)) (fun h4 => ?_)
  exact br_c (fun h => K0 (fun z => z.2.2.2.2 h)) (fun h5 => K1 ⟨h1, h2, h3, h4, h5⟩)
end
end
section
/-! what a fetch keeps -/
section
variable {f_threads f_width f_window f_freeTop f_queued f_total : Int32} {a_op a_regsOf a_immOf a_sizeOf a_memory a_statusOf a_archPc a_retiredOf a_digestOf a_value a_ready a_free a_archMap a_map a_head a_count a_robPc a_robState a_robTimer a_robStop a_robDest a_robNew a_robOld a_robA a_robB a_robVal a_robAddr a_robNext a_robGuess a_robLive a_queue a_fetchPc a_fetchStop a_counter a_lastTarget a_active a_quota : Nat → Int32} {nt wd wn ex : Nat} {sn : Nat → Nat} {goal : Nat → sk_Y} {r0 op rg im sz : Nat → Int32} {hd ct ow : Nat → Nat} {cn : Nat → Int32} {Z : Nat → Nat → sk_V} {ft qn : Nat}
variable {pc' st' sp' nx' gs' fp' fs' : Nat → Int32} {t c : Nat}
theorem sk_faFA (ht : t < nt) (hc : ct t = c) (h12 : c < 12) (ha : a_active t ≠ 0) (hfs : a_fetchStop t = 0)
    (of : ∀ q, q ≠ sk_s hd t c → pc' q = a_robPc q ∧ st' q = a_robState q ∧ nx' q = a_robNext q ∧ gs' q = a_robGuess q) (hpc : pc' (sk_s hd t c) = a_fetchPc t)
    (hG : (sk_RG nt hd ct a_head a_count a_robLive)) (hA : (sk_FA nt hd ct a_robPc a_robState a_robNext a_robGuess a_archPc)) (hB : (sk_FB nt hd ct a_active a_robState a_robStop a_robNext a_robGuess a_archPc a_fetchPc a_fetchStop)) : (sk_FA nt hd (sk_u ct t (c + 1)) pc' st' nx' gs' a_archPc) := by
  intro x hx
  have gx := hG.1 x hx
  by_cases e : x = t
  · subst e
    rw [sk_us]
    refine ⟨fun _ => ?_, fun k hk => ?_⟩
    · by_cases c0 : c = 0
      · subst c0
        rw [hpc]; exact ((hB x hx ha).1 hc).1
      · rw [(of _ (sk_ne hG ht h12 hx (by omega) (by omega))).1]
        exact (hA x hx).1 (by omega)
    · have w := of _ (sk_ne hG ht h12 hx (show k < 12 by omega) (by omega))
      rw [w.2.1, w.2.2.1, w.2.2.2]
      by_cases ek : k + 1 = c
      · rw [ek, hpc]
        exact ((hB x hx ha).2 k (by omega)).1 hfs
      · rw [(of _ (sk_ne hG ht h12 hx (show k + 1 < 12 by omega) (by omega))).1]
        exact (hA x hx).2 k (by omega)
  · rw [sk_un e]
    refine ⟨fun h0 => ?_, fun k hk => ?_⟩
    · rw [(of _ (sk_ne hG ht h12 hx (by omega) (by omega))).1]
      exact (hA x hx).1 h0
    · have w := of _ (sk_ne hG ht h12 hx (show k < 12 by omega) (by omega))
      rw [w.2.1, w.2.2.1, w.2.2.2, (of _ (sk_ne hG ht h12 hx (show k + 1 < 12 by omega) (by omega))).1]
      exact (hA x hx).2 k hk
theorem sk_faFB (ht : t < nt) (hc : ct t = c) (h12 : c < 12)
    (of : ∀ q, q ≠ sk_s hd t c → st' q = a_robState q ∧ sp' q = a_robStop q ∧ nx' q = a_robNext q ∧ gs' q = a_robGuess q) (of2 : ∀ x, x ≠ t → fp' x = a_fetchPc x ∧ fs' x = a_fetchStop x)
    (hl1 : fs' t = 0 → fp' t = if st' (sk_s hd t c) = 2 then nx' (sk_s hd t c) else gs' (sk_s hd t c)) (hl2 : fs' t ≠ 0 → sp' (sk_s hd t c) = 1 ∨ sp' (sk_s hd t c) = 4)
    (hG : (sk_RG nt hd ct a_head a_count a_robLive)) (hB : (sk_FB nt hd ct a_active a_robState a_robStop a_robNext a_robGuess a_archPc a_fetchPc a_fetchStop)) : (sk_FB nt hd (sk_u ct t (c + 1)) a_active st' sp' nx' gs' a_archPc fp' fs') := by
  intro x hx ha
  have gx := hG.1 x hx
  by_cases e : x = t
  · subst e
    rw [sk_us]
    refine ⟨fun z => absurd z (by omega), fun k hk => ?_⟩
    have : k = c := by omega
    subst this
    exact ⟨hl1, hl2⟩
  · rw [sk_un e, (of2 x e).1, (of2 x e).2]
    refine ⟨(hB x hx ha).1, fun k hk => ?_⟩
    have w := of _ (sk_ne hG ht h12 hx (show k < 12 by omega) (by omega))
    rw [w.1, w.2.1, w.2.2.1, w.2.2.2]
    exact (hB x hx ha).2 k hk
/-- the queue: a blocked entry -/
theorem sk_faQb (ht : t < nt) (hc : ct t = c) (h12 : c < 12) (of : ∀ q, q ≠ sk_s hd t c → st' q = a_robState q) (h2 : st' (sk_s hd t c) = 2) (hG : (sk_RG nt hd ct a_head a_count a_robLive)) (Q : (sk_QW nt hd ct qn a_robState a_queue)) (QQ : (sk_QQ nt hd ct qn a_robState a_queue)) :
    (sk_QW nt hd (sk_u ct t (c + 1)) qn st' a_queue) ∧ (sk_QQ nt hd (sk_u ct t (c + 1)) qn st' a_queue) := by
  refine ⟨⟨Q.1, Q.2.1, Q.2.2.1, fun x k hx hk hz => ?_⟩, fun i hi => ?_⟩
  · have gx := hG.1 x hx
    by_cases e : x = t ∧ k = c
    · rw [e.1, e.2, h2] at hz; exact absurd hz (by decide)
    · have hk' := sk_faC hc hk e
      rw [of _ (sk_ne hG ht h12 hx (by omega) e)] at hz
      exact Q.2.2.2 x k hx hk' hz
  · obtain ⟨x, k, hx, hk, a, b⟩ := QQ i hi
    have gx := hG.1 x hx
    have e : ¬ (x = t ∧ k = c) := by intro ⟨z1, z2⟩; rw [z1] at hk; omega
    refine ⟨x, k, hx, ?_, a, ?_⟩
    · by_cases e2 : x = t
      · rw [e2, sk_us]; rw [e2] at hk; omega
      · rw [sk_un e2]; exact hk
    · rw [of _ (sk_ne hG ht h12 hx (by omega) e)]; exact b
/-- the queue: a renamed entry -/
theorem sk_faQr (ht : t < nt) (hc : ct t = c) (h12 : c < 12) (of : ∀ q, q ≠ sk_s hd t c → st' q = a_robState q) (h0 : st' (sk_s hd t c) = 0) (hq : qn < 16) (hG : (sk_RG nt hd ct a_head a_count a_robLive)) (Q : (sk_QW nt hd ct qn a_robState a_queue)) (QQ : (sk_QQ nt hd ct qn a_robState a_queue)) :
    (sk_QW nt hd (sk_u ct t (c + 1)) (qn + 1) st' (upd a_queue qn (nI (sk_s hd t c)))) ∧ (sk_QQ nt hd (sk_u ct t (c + 1)) (qn + 1) st' (upd a_queue qn (nI (sk_s hd t c)))) := by
  have g := hG.1 t ht
  have sl := sk_sl hG ht (show c ≤ 12 by omega)
  have fresh : ∀ i, i < qn → a_queue i ≠ nI (sk_s hd t c) := by
    intro i hi e
    obtain ⟨x, k, hx, hk, a, b⟩ := QQ i hi
    have gx := hG.1 x hx
    have slx := sk_sl hG hx (show k ≤ 12 by omega)
    rw [a] at e
    have e' := (nI_eq (by omega) (by omega)).mp e
    have := sk_s_inj gx.2.1 g.2.1 (by omega) h12 e'
    rw [this.1] at hk; omega
  have up : ∀ x, ct x ≤ sk_u ct t (c + 1) x := by
    intro x
    by_cases e2 : x = t
    · rw [e2, sk_us]; omega
    · rw [sk_un e2]; omega
  refine ⟨⟨by omega, fun i hi => ?_, fun i j hi hj e => ?_, fun x k hx hk hz => ?_⟩, fun i hi => ?_⟩
  · by_cases e : i = qn
    · rw [e, pk_us]; exact ⟨_, sl, rfl⟩
    · rw [pk_un e]; exact Q.2.1 i (by omega)
  · by_cases ei : i = qn
    · by_cases ej : j = qn
      · omega
      · rw [ei, pk_us, pk_un ej] at e
        exact absurd e.symm (fresh j (by omega))
    · by_cases ej : j = qn
      · rw [ej, pk_us, pk_un ei] at e
        exact absurd e (fresh i (by omega))
      · rw [pk_un ei, pk_un ej] at e
        exact Q.2.2.1 i j (by omega) (by omega) e
  · have gx := hG.1 x hx
    by_cases e : x = t ∧ k = c
    · rw [e.1, e.2]
      exact ⟨qn, by omega, pk_us⟩
    · have hk' := sk_faC hc hk e
      rw [of _ (sk_ne hG ht h12 hx (by omega) e)] at hz
      obtain ⟨i, a, b⟩ := Q.2.2.2 x k hx hk' hz
      exact ⟨i, by omega, by rw [pk_un (by omega)]; exact b⟩
  · by_cases ei : i = qn
    · rw [ei, pk_us]
      exact ⟨t, c, ht, by rw [sk_us]; omega, rfl, h0⟩
    · obtain ⟨x, k, hx, hk, a, b⟩ := QQ i (by omega)
      have gx := hG.1 x hx
      have e : ¬ (x = t ∧ k = c) := by intro ⟨z1, z2⟩; rw [z1] at hk; omega
      refine ⟨x, k, hx, by have := up x; omega, ?_, ?_⟩
      · rw [pk_un ei]; exact a
      · rw [of _ (sk_ne hG ht h12 hx (by omega) e)]; exact b
theorem sk_faYG {z : sk_V} (hc : ct t = c) (ha : a_active t ≠ 0) (hY : (sk_YG nt sn a_op a_regsOf a_immOf ct Z goal a_active a_quota a_archPc a_statusOf a_retiredOf a_digestOf)) : (sk_YG nt sn a_op a_regsOf a_immOf (sk_u ct t (c + 1)) (sk_Za Z t c z) goal a_active a_quota a_archPc a_statusOf a_retiredOf a_digestOf) := by
  intro x hx
  rw [sk_Za_n (by omega)]
  by_cases e : x = t
  · subst e
    exact ⟨(hY x hx).1, fun z => absurd z ha⟩
  · rw [sk_un e]; exact hY x hx
end
end
section
/-! fetchOne -/
section
variable {f_threads f_width f_window f_freeTop f_queued f_total : Int32} {a_op a_regsOf a_immOf a_sizeOf a_memory a_statusOf a_archPc a_retiredOf a_digestOf a_value a_ready a_free a_archMap a_map a_head a_count a_robPc a_robState a_robTimer a_robStop a_robDest a_robNew a_robOld a_robA a_robB a_robVal a_robAddr a_robNext a_robGuess a_robLive a_queue a_fetchPc a_fetchStop a_counter a_lastTarget a_active a_quota : Nat → Int32} {nt wd wn ex : Nat} {sn : Nat → Nat} {goal : Nat → sk_Y} {r0 op rg im sz : Nat → Int32} {post : SX → Prop} {hd ct ow : Nat → Nat} {cn : Nat → Int32} {Z : Nat → Nat → sk_V} {ft qn : Nat} {t c : Nat}
theorem sk_fHF {x : Nat} (ht : t < nt) (hc : ct t = c) (h12 : c < 12) (hG : (sk_RG nt hd ct a_head a_count a_robLive)) (hx : x < nt) (hcx : a_count x ≠ 0) : sk_s hd x 0 ≠ sk_s hd t c ∧ upd a_count t (nI (c + 1)) x ≠ 0 := by
  have gx := hG.1 x hx
  have hct : ct x ≠ 0 := by intro z; rw [gx.2.2.1, z] at hcx; exact hcx rfl
  constructor
  · apply sk_ne hG ht h12 hx (by omega)
    intro ⟨e1, e2⟩
    rw [e1, hc] at hct; omega
  · by_cases e : x = t
    · rw [e, pk_us]; exact nI_ne0 (by omega) (by omega)
    · rw [pk_un e]; exact hcx
theorem sk_w_fblk {why : Int32} (ht : t < nt) (hc : ct t = c) (h12 : c < 12) (hce : a_op = op ∧ a_regsOf = rg ∧ a_immOf = im ∧ a_sizeOf = sz) (J : (sk_IC nt wd wn ex sn goal r0 hd ct ow cn Z ft qn f_threads f_width f_window f_freeTop f_queued f_total a_op a_regsOf a_immOf a_sizeOf a_memory a_statusOf a_archPc a_retiredOf a_digestOf a_value a_ready a_free a_archMap a_map a_head a_count a_robPc a_robState a_robTimer a_robStop a_robDest a_robNew a_robOld a_robA a_robB a_robVal a_robAddr a_robNext a_robGuess a_robLive a_queue a_fetchPc a_fetchStop a_counter a_lastTarget a_active a_quota)) (ha : a_active t ≠ 0) (hfs : a_fetchStop t = 0)
    (hw : (why = 1 ∧ ∃ p, p < sn t ∧ a_fetchPc t = nI p ∧ a_op (t * 24 + p) = 0) ∨ (why = 4 ∧ (a_fetchPc t < 0 ∨ nI (sn t) ≤ a_fetchPc t)))
    (K : ∀ u', sk_IU nt wd wn ex sn goal r0 op rg im sz u' → sx_active u' = a_active → sx_quota u' = a_quota → (∀ x, x < nt → a_count x ≠ 0 → sk_HF x (f_threads, f_width, f_window, f_freeTop, f_queued, f_total, a_op, a_regsOf, a_immOf, a_sizeOf, a_memory, a_statusOf, a_archPc, a_retiredOf, a_digestOf, a_value, a_ready, a_free, a_archMap, a_map, a_head, a_count, a_robPc, a_robState, a_robTimer, a_robStop, a_robDest, a_robNew, a_robOld, a_robA, a_robB, a_robVal, a_robAddr, a_robNext, a_robGuess, a_robLive, a_queue, a_fetchPc, a_fetchStop, a_counter, a_lastTarget, a_active, a_quota) u') → (a_count t = 0 → sk_DD 1 1 6 21 t u') → post u') :
    post (f_threads, f_width, f_window, f_freeTop, f_queued, f_total, a_op, a_regsOf, a_immOf, a_sizeOf, a_memory, a_statusOf, a_archPc, a_retiredOf, a_digestOf, a_value, a_ready, a_free, a_archMap, a_map, a_head, upd a_count t (nI (c + 1)), upd a_robPc (sk_s hd t c) (a_fetchPc t), upd a_robState (sk_s hd t c) 2, a_robTimer, upd (upd a_robStop (sk_s hd t c) 0) (sk_s hd t c) why, upd a_robDest (sk_s hd t c) (-1), a_robNew, a_robOld, a_robA, a_robB, a_robVal, a_robAddr, upd a_robNext (sk_s hd t c) (a_fetchPc t), upd a_robGuess (sk_s hd t c) (a_fetchPc t), upd a_robLive (sk_s hd t c) 1, a_queue, a_fetchPc, upd a_fetchStop t 1, a_counter, a_lastTarget, a_active, a_quota) := by
  obtain ⟨hK, I, hfq, Q, QQ, hA, hB, hY, hT⟩ := J
  have h4 := I.1.2.2.2.2
  have g := I.1.1 t ht
  have I' := sk_faA (z := Z t c) (fs' := upd a_fetchStop t 1) (pc' := upd a_robPc (sk_s hd t c) (a_fetchPc t)) (st' := upd a_robState (sk_s hd t c) 2) (tm' := a_robTimer) (sp' := upd (upd a_robStop (sk_s hd t c) 0) (sk_s hd t c) why) (de' := upd a_robDest (sk_s hd t c) (-1)) (nw' := a_robNew) (ol' := a_robOld) (ra' := a_robA) (rb' := a_robB) (va' := a_robVal) (ad' := a_robAddr) (nx' := upd a_robNext (sk_s hd t c) (a_fetchPc t))
    ht hc h12 hfs (fun x e => pk_un e) (fun q hq => ⟨pk_un hq, pk_un hq, rfl, by rw [pk_un hq, pk_un hq], pk_un hq, rfl, rfl, rfl, rfl, rfl, rfl, pk_un hq⟩)
    (Or.inr ⟨by rw [pk_us]; decide, rfl, pk_us, pk_us, by rw [pk_us, pk_us]; exact hw⟩) (by rw [pk_us]; exact sk_m1lt) rfl rfl I
  have qq := sk_faQb (st' := upd a_robState (sk_s hd t c) 2) ht hc h12 (fun q hq => pk_un hq) pk_us I.1 Q QQ
  have fa := sk_faFA (pc' := upd a_robPc (sk_s hd t c) (a_fetchPc t)) (st' := upd a_robState (sk_s hd t c) 2) (nx' := upd a_robNext (sk_s hd t c) (a_fetchPc t)) (gs' := upd a_robGuess (sk_s hd t c) (a_fetchPc t)) ht hc h12 ha hfs (fun q hq => ⟨pk_un hq, pk_un hq, pk_un hq, pk_un hq⟩) pk_us I.1 hA hB
  have fb := sk_faFB (sp' := upd (upd a_robStop (sk_s hd t c) 0) (sk_s hd t c) why) (fp' := a_fetchPc) (fs' := upd a_fetchStop t 1) (st' := upd a_robState (sk_s hd t c) 2) (nx' := upd a_robNext (sk_s hd t c) (a_fetchPc t)) (gs' := upd a_robGuess (sk_s hd t c) (a_fetchPc t)) ht hc h12 (fun q hq => ⟨pk_un hq, by rw [pk_un hq, pk_un hq], pk_un hq, pk_un hq⟩) (fun x e => ⟨rfl, pk_un e⟩)
    (fun z => by rw [pk_us] at z; exact absurd z (by decide)) (fun _ => by rw [pk_us]; rcases hw with w | w; exact Or.inl w.1; exact Or.inr w.1) I.1 hB
  refine K _ (⟨hce, hd, sk_u ct t (c + 1), ow, cn, sk_Za Z t c (Z t c), ft, qn, hK, I', hfq, qq.1, qq.2, fa, fb, sk_faYG hc ha hY, hT⟩ : (sk_IV nt wd wn ex sn goal r0 op rg im sz f_threads f_width f_window f_freeTop f_queued f_total a_op a_regsOf a_immOf a_sizeOf a_memory a_statusOf a_archPc a_retiredOf a_digestOf a_value a_ready a_free a_archMap a_map a_head (upd a_count t (nI (c + 1))) (upd a_robPc (sk_s hd t c) (a_fetchPc t)) (upd a_robState (sk_s hd t c) 2) a_robTimer (upd (upd a_robStop (sk_s hd t c) 0) (sk_s hd t c) why) (upd a_robDest (sk_s hd t c) (-1)) a_robNew a_robOld a_robA a_robB a_robVal a_robAddr (upd a_robNext (sk_s hd t c) (a_fetchPc t)) (upd a_robGuess (sk_s hd t c) (a_fetchPc t)) (upd a_robLive (sk_s hd t c) 1) a_queue a_fetchPc (upd a_fetchStop t 1) a_counter a_lastTarget a_active a_quota)) rfl rfl (fun x hx hcx => ?_) (fun h0 => ?_)
  · have w := sk_fHF ht hc h12 I.1 hx hcx
    exact sk_HF_mk (sk_hs I.1 hx) rfl rfl w.2 (pk_un w.1) rfl (fun _ p a b => ⟨p, Nat.le_refl p, a, b⟩)
  · have c0 : c = 0 := by
      rw [g.2.2.1, hc] at h0
      exact (nI_eq (b := 0) (by omega) (by omega)).mp h0
    subst c0
    exact sk_DD_mk (sk_hs I.1 ht) ha (by rw [pk_us]; exact nI_ne0 (by omega) (by omega)) (Or.inl ⟨pk_us, by omega⟩)
theorem sk_w_fren {p F f : Nat} {r : Int32} (ht : t < nt) (hc : ct t = c) (h12 : c < 12) (hce : a_op = op ∧ a_regsOf = rg ∧ a_immOf = im ∧ a_sizeOf = sz) (J : (sk_IC nt wd wn ex sn goal r0 hd ct ow cn Z ft qn f_threads f_width f_window f_freeTop f_queued f_total a_op a_regsOf a_immOf a_sizeOf a_memory a_statusOf a_archPc a_retiredOf a_digestOf a_value a_ready a_free a_archMap a_map a_head a_count a_robPc a_robState a_robTimer a_robStop a_robDest a_robNew a_robOld a_robA a_robB a_robVal a_robAddr a_robNext a_robGuess a_robLive a_queue a_fetchPc a_fetchStop a_counter a_lastTarget a_active a_quota)) (ha : a_active t ≠ 0) (hfs : a_fetchStop t = 0) (hq : qn < 16)
    (hp : p < sn t) (hpc : a_fetchPc t = nI p) (ho : a_op (t * 24 + p) ≠ 0) (hD : sk_D (a_op (t * 24 + p))) (hF : ft = F + 1) (hfr : a_free F = nI f) (f56 : f < 56)
    (K : ∀ u', sk_IU nt wd wn ex sn goal r0 op rg im sz u' → sx_active u' = a_active → sx_quota u' = a_quota → (∀ x, x < nt → a_count x ≠ 0 → sk_HF x (f_threads, f_width, f_window, f_freeTop, f_queued, f_total, a_op, a_regsOf, a_immOf, a_sizeOf, a_memory, a_statusOf, a_archPc, a_retiredOf, a_digestOf, a_value, a_ready, a_free, a_archMap, a_map, a_head, a_count, a_robPc, a_robState, a_robTimer, a_robStop, a_robDest, a_robNew, a_robOld, a_robA, a_robB, a_robVal, a_robAddr, a_robNext, a_robGuess, a_robLive, a_queue, a_fetchPc, a_fetchStop, a_counter, a_lastTarget, a_active, a_quota) u') → (a_count t = 0 → sk_DD 1 1 6 21 t u') → post u') :
    post (f_threads, f_width, f_window, nI F, nI (qn + 1), f_total, a_op, a_regsOf, a_immOf, a_sizeOf, a_memory, a_statusOf, a_archPc, a_retiredOf, a_digestOf, a_value, upd a_ready f 0, a_free, a_archMap, upd a_map (t * 8 + sk_d (a_regsOf (t * 24 + p))) (nI f), a_head, upd a_count t (nI (c + 1)), upd a_robPc (sk_s hd t c) (nI p), upd a_robState (sk_s hd t c) 0, a_robTimer, upd a_robStop (sk_s hd t c) 0, upd (upd a_robDest (sk_s hd t c) (-1)) (sk_s hd t c) (nI (sk_d (a_regsOf (t * 24 + p)))), upd a_robNew (sk_s hd t c) (nI f), upd a_robOld (sk_s hd t c) (a_map (t * 8 + sk_d (a_regsOf (t * 24 + p)))), upd a_robA (sk_s hd t c) (a_map (t * 8 + sk_ra (a_regsOf (t * 24 + p)))), upd a_robB (sk_s hd t c) (a_map (t * 8 + sk_rb (a_regsOf (t * 24 + p)))), a_robVal, a_robAddr, upd a_robNext (sk_s hd t c) (nI p), upd (upd a_robGuess (sk_s hd t c) (nI p)) (sk_s hd t c) r, upd a_robLive (sk_s hd t c) 1, upd a_queue qn (nI (sk_s hd t c)), upd a_fetchPc t r, a_fetchStop, a_counter, a_lastTarget, a_active, a_quota) := by
  obtain ⟨hK, I, hfq, Q, QQ, hA, hB, hY, hT⟩ := J
  have h4 := I.1.2.2.2.2
  have g := I.1.1 t ht
  have cb := (I.2.2.1 t ht).1
  rw [hc] at cb
  have I' := sk_faB (d := sk_d (a_regsOf (t * 24 + p))) (f := f) (F := F) (z := (sk_u (Z t c).1 (sk_d (a_regsOf (t * 24 + p))) f, sk_R (a_op (t * 24 + p)) (a_regsOf (t * 24 + p)) (a_immOf (t * 24 + p)) (nI p) (Z t c).2.1 (Z t c).2.2, sk_M (a_op (t * 24 + p)) (a_regsOf (t * 24 + p)) (a_immOf (t * 24 + p)) (Z t c).2.1 (Z t c).2.2))
    (fs' := a_fetchStop) (pc' := upd a_robPc (sk_s hd t c) (nI p)) (st' := upd a_robState (sk_s hd t c) 0) (tm' := a_robTimer) (sp' := upd a_robStop (sk_s hd t c) 0) (de' := upd (upd a_robDest (sk_s hd t c) (-1)) (sk_s hd t c) (nI (sk_d (a_regsOf (t * 24 + p))))) (nw' := upd a_robNew (sk_s hd t c) (nI f)) (ol' := upd a_robOld (sk_s hd t c) (a_map (t * 8 + sk_d (a_regsOf (t * 24 + p)))))
    (ra' := upd a_robA (sk_s hd t c) (a_map (t * 8 + sk_ra (a_regsOf (t * 24 + p))))) (rb' := upd a_robB (sk_s hd t c) (a_map (t * 8 + sk_rb (a_regsOf (t * 24 + p))))) (va' := a_robVal) (ad' := a_robAddr) (nx' := upd a_robNext (sk_s hd t c) (nI p))
    ht hc h12 hfs (fun x e => rfl) (fun q hq => ⟨pk_un hq, pk_un hq, rfl, pk_un hq, by rw [pk_un hq, pk_un hq], pk_un hq, pk_un hq, pk_un hq, pk_un hq, rfl, rfl, pk_un hq⟩)
    ⟨p, hp, by
      rw [pk_us, pk_us, pk_us, pk_us, pk_us, pk_us, pk_us, pk_us, pk_us]
      refine ⟨rfl, ho, ⟨(cb _ (sk_ra8 _)).2, (cb _ (sk_rb8 _)).2, fun _ => ⟨rfl, (cb _ (sk_d8 _)).2, congrArg nI sk_us.symm, fun j hj => sk_un hj⟩, fun z => absurd hD z, rfl, rfl⟩, Or.inl ⟨rfl, rfl⟩⟩⟩
    (sk_d8 _) pk_us pk_us pk_us sk_us (fun j hj => sk_un hj) (fun j hj => by show sk_R _ _ _ _ _ _ j = _; unfold sk_R; rw [if_pos hD, pk_un hj]) hF hfr f56 I
  have qq := sk_faQr (st' := upd a_robState (sk_s hd t c) 0) ht hc h12 (fun q hq => pk_un hq) pk_us hq I.1 Q QQ
  have fa := sk_faFA (pc' := upd a_robPc (sk_s hd t c) (nI p)) (st' := upd a_robState (sk_s hd t c) 0) (nx' := upd a_robNext (sk_s hd t c) (nI p)) (gs' := upd (upd a_robGuess (sk_s hd t c) (nI p)) (sk_s hd t c) r) ht hc h12 ha hfs (fun q hq => ⟨pk_un hq, pk_un hq, pk_un hq, by rw [pk_un hq, pk_un hq]⟩) (by rw [pk_us, hpc]) I.1 hA hB
  have fb := sk_faFB (sp' := upd a_robStop (sk_s hd t c) 0) (fp' := upd a_fetchPc t r) (fs' := a_fetchStop) (st' := upd a_robState (sk_s hd t c) 0) (nx' := upd a_robNext (sk_s hd t c) (nI p)) (gs' := upd (upd a_robGuess (sk_s hd t c) (nI p)) (sk_s hd t c) r) ht hc h12 (fun q hq => ⟨pk_un hq, pk_un hq, pk_un hq, by rw [pk_un hq, pk_un hq]⟩) (fun x e => ⟨pk_un e, rfl⟩)
    (fun _ => by rw [pk_us, pk_us, pk_us, if_neg (by decide), pk_us]) (fun z => absurd hfs z) I.1 hB
  refine K _ (⟨hce, hd, sk_u ct t (c + 1), _, _, _, F, qn + 1, hK, I', rfl, qq.1, qq.2, fa, fb, sk_faYG hc ha hY, hT⟩ : (sk_IV nt wd wn ex sn goal r0 op rg im sz f_threads f_width f_window (nI F) (nI (qn + 1)) f_total a_op a_regsOf a_immOf a_sizeOf a_memory a_statusOf a_archPc a_retiredOf a_digestOf a_value (upd a_ready f 0) a_free a_archMap (upd a_map (t * 8 + sk_d (a_regsOf (t * 24 + p))) (nI f)) a_head (upd a_count t (nI (c + 1))) (upd a_robPc (sk_s hd t c) (nI p)) (upd a_robState (sk_s hd t c) 0) a_robTimer (upd a_robStop (sk_s hd t c) 0) (upd (upd a_robDest (sk_s hd t c) (-1)) (sk_s hd t c) (nI (sk_d (a_regsOf (t * 24 + p))))) (upd a_robNew (sk_s hd t c) (nI f)) (upd a_robOld (sk_s hd t c) (a_map (t * 8 + sk_d (a_regsOf (t * 24 + p))))) (upd a_robA (sk_s hd t c) (a_map (t * 8 + sk_ra (a_regsOf (t * 24 + p))))) (upd a_robB (sk_s hd t c) (a_map (t * 8 + sk_rb (a_regsOf (t * 24 + p))))) a_robVal a_robAddr (upd a_robNext (sk_s hd t c) (nI p)) (upd (upd a_robGuess (sk_s hd t c) (nI p)) (sk_s hd t c) r) (upd a_robLive (sk_s hd t c) 1) (upd a_queue qn (nI (sk_s hd t c))) (upd a_fetchPc t r) a_fetchStop a_counter a_lastTarget a_active a_quota)) rfl rfl (fun x hx hcx => ?_) (fun h0 => ?_)
  · have w := sk_fHF ht hc h12 I.1 hx hcx
    refine sk_HF_mk (sk_hs I.1 hx) rfl rfl w.2 (pk_un w.1) rfl (fun _ p a b => ⟨p, Nat.le_refl p, ?_, ?_⟩)
    · rw [hfq, nI_clamp (by omega)] at a; rw [nI_clamp (by omega)]; omega
    · rw [hfq, nI_clamp (by omega)] at a; rw [pk_un (by omega)]; exact b
  · have c0 : c = 0 := by
      rw [g.2.2.1, hc] at h0
      exact (nI_eq (b := 0) (by omega) (by omega)).mp h0
    subst c0
    exact sk_DD_mk (sk_hs I.1 ht) ha (by rw [pk_us]; exact nI_ne0 (by omega) (by omega)) (Or.inr (Or.inr ⟨pk_us, qn, by rw [nI_clamp (by omega)]; omega, pk_us, by omega⟩))
theorem sk_w_fren0 {p : Nat} {r : Int32} (ht : t < nt) (hc : ct t = c) (h12 : c < 12) (hce : a_op = op ∧ a_regsOf = rg ∧ a_immOf = im ∧ a_sizeOf = sz) (J : (sk_IC nt wd wn ex sn goal r0 hd ct ow cn Z ft qn f_threads f_width f_window f_freeTop f_queued f_total a_op a_regsOf a_immOf a_sizeOf a_memory a_statusOf a_archPc a_retiredOf a_digestOf a_value a_ready a_free a_archMap a_map a_head a_count a_robPc a_robState a_robTimer a_robStop a_robDest a_robNew a_robOld a_robA a_robB a_robVal a_robAddr a_robNext a_robGuess a_robLive a_queue a_fetchPc a_fetchStop a_counter a_lastTarget a_active a_quota)) (ha : a_active t ≠ 0) (hfs : a_fetchStop t = 0) (hq : qn < 16)
    (hp : p < sn t) (hpc : a_fetchPc t = nI p) (ho : a_op (t * 24 + p) ≠ 0) (hD : ¬ sk_D (a_op (t * 24 + p)))
    (K : ∀ u', sk_IU nt wd wn ex sn goal r0 op rg im sz u' → sx_active u' = a_active → sx_quota u' = a_quota → (∀ x, x < nt → a_count x ≠ 0 → sk_HF x (f_threads, f_width, f_window, f_freeTop, f_queued, f_total, a_op, a_regsOf, a_immOf, a_sizeOf, a_memory, a_statusOf, a_archPc, a_retiredOf, a_digestOf, a_value, a_ready, a_free, a_archMap, a_map, a_head, a_count, a_robPc, a_robState, a_robTimer, a_robStop, a_robDest, a_robNew, a_robOld, a_robA, a_robB, a_robVal, a_robAddr, a_robNext, a_robGuess, a_robLive, a_queue, a_fetchPc, a_fetchStop, a_counter, a_lastTarget, a_active, a_quota) u') → (a_count t = 0 → sk_DD 1 1 6 21 t u') → post u') :
    post (f_threads, f_width, f_window, f_freeTop, nI (qn + 1), f_total, a_op, a_regsOf, a_immOf, a_sizeOf, a_memory, a_statusOf, a_archPc, a_retiredOf, a_digestOf, a_value, a_ready, a_free, a_archMap, a_map, a_head, upd a_count t (nI (c + 1)), upd a_robPc (sk_s hd t c) (nI p), upd a_robState (sk_s hd t c) 0, a_robTimer, upd a_robStop (sk_s hd t c) 0, upd a_robDest (sk_s hd t c) (-1), a_robNew, a_robOld, upd a_robA (sk_s hd t c) (a_map (t * 8 + sk_ra (a_regsOf (t * 24 + p)))), upd a_robB (sk_s hd t c) (a_map (t * 8 + sk_rb (a_regsOf (t * 24 + p)))), a_robVal, a_robAddr, upd a_robNext (sk_s hd t c) (nI p), upd (upd a_robGuess (sk_s hd t c) (nI p)) (sk_s hd t c) r, upd a_robLive (sk_s hd t c) 1, upd a_queue qn (nI (sk_s hd t c)), upd a_fetchPc t r, a_fetchStop, a_counter, a_lastTarget, a_active, a_quota) := by
  obtain ⟨hK, I, hfq, Q, QQ, hA, hB, hY, hT⟩ := J
  have h4 := I.1.2.2.2.2
  have g := I.1.1 t ht
  have cb := (I.2.2.1 t ht).1
  rw [hc] at cb
  have I' := sk_faA (z := ((Z t c).1, sk_R (a_op (t * 24 + p)) (a_regsOf (t * 24 + p)) (a_immOf (t * 24 + p)) (nI p) (Z t c).2.1 (Z t c).2.2, sk_M (a_op (t * 24 + p)) (a_regsOf (t * 24 + p)) (a_immOf (t * 24 + p)) (Z t c).2.1 (Z t c).2.2))
    (fs' := a_fetchStop) (pc' := upd a_robPc (sk_s hd t c) (nI p)) (st' := upd a_robState (sk_s hd t c) 0) (tm' := a_robTimer) (sp' := upd a_robStop (sk_s hd t c) 0) (de' := upd a_robDest (sk_s hd t c) (-1)) (nw' := a_robNew) (ol' := a_robOld)
    (ra' := upd a_robA (sk_s hd t c) (a_map (t * 8 + sk_ra (a_regsOf (t * 24 + p))))) (rb' := upd a_robB (sk_s hd t c) (a_map (t * 8 + sk_rb (a_regsOf (t * 24 + p))))) (va' := a_robVal) (ad' := a_robAddr) (nx' := upd a_robNext (sk_s hd t c) (nI p))
    ht hc h12 hfs (fun x e => rfl) (fun q hq => ⟨pk_un hq, pk_un hq, rfl, pk_un hq, pk_un hq, rfl, rfl, pk_un hq, pk_un hq, rfl, rfl, pk_un hq⟩)
    (Or.inl ⟨p, hp, by
      rw [pk_us, pk_us, pk_us, pk_us, pk_us, pk_us, pk_us]
      refine ⟨rfl, ho, ⟨(cb _ (sk_ra8 _)).2, (cb _ (sk_rb8 _)).2, fun z => absurd z hD, fun _ => ⟨rfl, rfl⟩, rfl, rfl⟩, Or.inl ⟨rfl, rfl⟩⟩⟩)
    (by rw [pk_us]; exact sk_m1lt) rfl (by show sk_R _ _ _ _ _ _ = _; unfold sk_R; rw [if_neg hD]) I
  have qq := sk_faQr (st' := upd a_robState (sk_s hd t c) 0) ht hc h12 (fun q hq => pk_un hq) pk_us hq I.1 Q QQ
  have fa := sk_faFA (pc' := upd a_robPc (sk_s hd t c) (nI p)) (st' := upd a_robState (sk_s hd t c) 0) (nx' := upd a_robNext (sk_s hd t c) (nI p)) (gs' := upd (upd a_robGuess (sk_s hd t c) (nI p)) (sk_s hd t c) r) ht hc h12 ha hfs (fun q hq => ⟨pk_un hq, pk_un hq, pk_un hq, by rw [pk_un hq, pk_un hq]⟩) (by rw [pk_us, hpc]) I.1 hA hB
  have fb := sk_faFB (sp' := upd a_robStop (sk_s hd t c) 0) (fp' := upd a_fetchPc t r) (fs' := a_fetchStop) (st' := upd a_robState (sk_s hd t c) 0) (nx' := upd a_robNext (sk_s hd t c) (nI p)) (gs' := upd (upd a_robGuess (sk_s hd t c) (nI p)) (sk_s hd t c) r) ht hc h12 (fun q hq => ⟨pk_un hq, pk_un hq, pk_un hq, by rw [pk_un hq, pk_un hq]⟩) (fun x e => ⟨pk_un e, rfl⟩)
    (fun _ => by rw [pk_us, pk_us, pk_us, if_neg (by decide), pk_us]) (fun z => absurd hfs z) I.1 hB
  refine K _ (⟨hce, hd, sk_u ct t (c + 1), _, _, _, _, qn + 1, hK, I', rfl, qq.1, qq.2, fa, fb, sk_faYG hc ha hY, hT⟩ : (sk_IV nt wd wn ex sn goal r0 op rg im sz f_threads f_width f_window f_freeTop (nI (qn + 1)) f_total a_op a_regsOf a_immOf a_sizeOf a_memory a_statusOf a_archPc a_retiredOf a_digestOf a_value a_ready a_free a_archMap a_map a_head (upd a_count t (nI (c + 1))) (upd a_robPc (sk_s hd t c) (nI p)) (upd a_robState (sk_s hd t c) 0) a_robTimer (upd a_robStop (sk_s hd t c) 0) (upd a_robDest (sk_s hd t c) (-1)) a_robNew a_robOld (upd a_robA (sk_s hd t c) (a_map (t * 8 + sk_ra (a_regsOf (t * 24 + p))))) (upd a_robB (sk_s hd t c) (a_map (t * 8 + sk_rb (a_regsOf (t * 24 + p))))) a_robVal a_robAddr (upd a_robNext (sk_s hd t c) (nI p)) (upd (upd a_robGuess (sk_s hd t c) (nI p)) (sk_s hd t c) r) (upd a_robLive (sk_s hd t c) 1) (upd a_queue qn (nI (sk_s hd t c))) (upd a_fetchPc t r) a_fetchStop a_counter a_lastTarget a_active a_quota)) rfl rfl (fun x hx hcx => ?_) (fun h0 => ?_)
  · have w := sk_fHF ht hc h12 I.1 hx hcx
    refine sk_HF_mk (sk_hs I.1 hx) rfl rfl w.2 (pk_un w.1) rfl (fun _ p a b => ⟨p, Nat.le_refl p, ?_, ?_⟩)
    · rw [hfq, nI_clamp (by omega)] at a; rw [nI_clamp (by omega)]; omega
    · rw [hfq, nI_clamp (by omega)] at a; rw [pk_un (by omega)]; exact b
  · have c0 : c = 0 := by
      rw [g.2.2.1, hc] at h0
      exact (nI_eq (b := 0) (by omega) (by omega)).mp h0
    subst c0
    exact sk_DD_mk (sk_hs I.1 ht) ha (by rw [pk_us]; exact nI_ne0 (by omega) (by omega)) (Or.inr (Or.inr ⟨pk_us, qn, by rw [nI_clamp (by omega)]; omega, pk_us, by omega⟩))
end
end
section
/-! fetchOne, fetchStage -/
section
variable {f_threads f_width f_window f_freeTop f_queued f_total : Int32} {a_op a_regsOf a_immOf a_sizeOf a_memory a_statusOf a_archPc a_retiredOf a_digestOf a_value a_ready a_free a_archMap a_map a_head a_count a_robPc a_robState a_robTimer a_robStop a_robDest a_robNew a_robOld a_robA a_robB a_robVal a_robAddr a_robNext a_robGuess a_robLive a_queue a_fetchPc a_fetchStop a_counter a_lastTarget a_active a_quota : Nat → Int32} {nt wd wn ex : Nat} {sn : Nat → Nat} {goal : Nat → sk_Y} {r0 op rg im sz : Nat → Int32} {post : SX → Prop}
theorem sk_w_fetch1 {t : Nat} (ht : t < nt) (I0 : (sk_IV nt wd wn ex sn goal r0 op rg im sz f_threads f_width f_window f_freeTop f_queued f_total a_op a_regsOf a_immOf a_sizeOf a_memory a_statusOf a_archPc a_retiredOf a_digestOf a_value a_ready a_free a_archMap a_map a_head a_count a_robPc a_robState a_robTimer a_robStop a_robDest a_robNew a_robOld a_robA a_robB a_robVal a_robAddr a_robNext a_robGuess a_robLive a_queue a_fetchPc a_fetchStop a_counter a_lastTarget a_active a_quota)) (hcf : sk_cf t f_window f_freeTop f_queued a_active a_fetchStop a_count)
    (K : ∀ u', sk_IU nt wd wn ex sn goal r0 op rg im sz u' → sx_active u' = a_active → sx_quota u' = a_quota → (∀ x, x < nt → a_count x ≠ 0 → sk_HF x (f_threads, f_width, f_window, f_freeTop, f_queued, f_total, a_op, a_regsOf, a_immOf, a_sizeOf, a_memory, a_statusOf, a_archPc, a_retiredOf, a_digestOf, a_value, a_ready, a_free, a_archMap, a_map, a_head, a_count, a_robPc, a_robState, a_robTimer, a_robStop, a_robDest, a_robNew, a_robOld, a_robA, a_robB, a_robVal, a_robAddr, a_robNext, a_robGuess, a_robLive, a_queue, a_fetchPc, a_fetchStop, a_counter, a_lastTarget, a_active, a_quota) u') → (a_count t = 0 → sk_DD 1 1 6 21 t u') → post u') :
    wpX_fetchOne post (f_threads, f_width, f_window, f_freeTop, f_queued, f_total, a_op, a_regsOf, a_immOf, a_sizeOf, a_memory, a_statusOf, a_archPc, a_retiredOf, a_digestOf, a_value, a_ready, a_free, a_archMap, a_map, a_head, a_count, a_robPc, a_robState, a_robTimer, a_robStop, a_robDest, a_robNew, a_robOld, a_robA, a_robB, a_robVal, a_robAddr, a_robNext, a_robGuess, a_robLive, a_queue, a_fetchPc, a_fetchStop, a_counter, a_lastTarget, a_active, a_quota) (nI t) := by
  obtain ⟨hce, hd, ct, ow, cn, Z, ft, qn, J⟩ := I0
  have J' := J
  obtain ⟨hK, I, hfq, Q, QQ, hA, hB, hY, hT⟩ := J
  obtain ⟨k1, k2, k3, k4, k5, k6, k7, k8, k9, k10, k11⟩ := hK
  obtain ⟨ha, hfs, hw, hq16, hft⟩ := hcf
  have g := I.1.1 t ht
  obtain ⟨c, hc⟩ : ∃ c, ct t = c := ⟨_, rfl⟩
  have q16 := Q.1
  have hcA : a_count t = nI c := by rw [g.2.2.1, hc]
  have h12 : c < 12 := by
    rw [k3, hcA, nI_leI (by omega) (by omega)] at hw; omega
  have hq : qn < 16 := by
    rw [hfq] at hq16
    have : ¬ 16 ≤ qn := fun z => hq16 ((nI_leI (a := 16) (by omega) (by omega)).mpr z)
    omega
  have ef : f_freeTop = nI ft := I.2.2.2.2.2.2.1
  have nd := I.2.2.2.2.2.2.2
  have hft0 : ft ≠ 0 := by
    intro z; rw [ef, z] at hft; exact hft (by decide)
  obtain ⟨F, hF⟩ : ∃ F, ft = F + 1 := ⟨ft - 1, by omega⟩
  obtain ⟨f, f56, hfr, _⟩ := I.2.2.2.2.2.1.2.2 F (by omega)
  have vt : vp_in (nI t) 4 := vp_in_nI (by omega) (by decide)
  have ctt : (nI t).toNatClampNeg = t := nI_clamp (by omega)
  have sl := sk_sl I.1 ht (show c ≤ 12 by omega)
  have vs : vp_in (nI (sk_s hd t c)) 48 := vp_in_nI sl (by decide)
  have cs : (nI (sk_s hd t c)).toNatClampNeg = sk_s hd t c := nI_clamp (by omega)
  have s24 := k11 t ht
  refine And.intro vt ?_
  rw [ctt, hcA]
  refine sk_w_sl (k := c) (by omega) g.1 g.2.1 (by omega) ?_
  refine And.intro vt (nm_e (And.intro vt (And.intro vt (nm_r (e' := upd a_count t (nI (c + 1))) (by rw [nI_1]) ?_))))
  rw [cs]
  refine And.intro vs (nm_r (e' := upd a_robLive (sk_s hd t c) 1) (by rw [sk_b1]) (And.intro vs (nm_e (And.intro vs (nm_e (And.intro vs (nm_e (And.intro vs (nm_e (And.intro vs (nm_e ?_)))))))))))
  by_cases h0 : a_fetchPc t < 0
  · refine br_t h0 ?_
    unfold wX_fetchOne_85
    exact sk_w_block (by omega) sl (sk_w_fblk ht hc h12 hce J' ha hfs (Or.inr ⟨rfl, Or.inl h0⟩) K)
  refine br_f h0 (And.intro vt ?_)
  rw [s24.1]
  by_cases h1 : a_fetchPc t < nI (sn t)
  · refine br_t h1 ?_
    obtain ⟨p, hp31, hpc⟩ := nI_of h0
    have hp : p < sn t := by
      rw [hpc] at h1
      exact (nI_ltI hp31 (by omega)).mp h1
    have cp : (nI t * 24 + nI p).toNatClampNeg = t * 24 + p := by rw [sk_x24, nI_add, nI_clamp (by omega)]
    rw [hpc, cp]
    refine And.intro (by rw [sk_x24, nI_add]; exact vp_in_nI (by omega) (by decide)) ?_
    by_cases h2 : a_op (t * 24 + p) = 0
    · refine br_t h2 ?_
      rw [← hpc]
      exact sk_w_block (by omega) sl (sk_w_fblk ht hc h12 hce J' ha hfs (Or.inl ⟨rfl, p, hp, hpc, h2⟩) K)
    · refine br_f h2 ?_
      refine sk_w_ren (by omega) sl (by omega) hfq hq (by rw [ef, hF]) (by omega) hfr f56 (fun hD r => ?_) (fun hD r => ?_)
      · exact sk_w_fren ht hc h12 hce J' ha hfs hq hp hpc h2 hD hF hfr f56 K
      · exact sk_w_fren0 ht hc h12 hce J' ha hfs hq hp hpc h2 hD K
  · refine br_f h1 ?_
    unfold wX_fetchOne_85
    exact sk_w_block (by omega) sl (sk_w_fblk ht hc h12 hce J' ha hfs (Or.inr ⟨rfl, Or.inr (Int32.not_lt.mp h1)⟩) K)
end
def sk_cfu (u : SX) (t : Nat) : Prop := sk_cf t (sx_window u) (sx_freeTop u) (sx_queued u) (sx_active u) (sx_fetchStop u) (sx_count u)
/-- since the stage's begin -/
def sk_FJ (nt : Nat) (u0 u : SX) : Prop := sx_active u = sx_active u0 ∧ sx_quota u = sx_quota u0 ∧ ∀ x a b c m, x < nt → sk_DD a b c m x u0 → sk_DD a b c m x u
section
variable {nt wd wn ex : Nat} {sn : Nat → Nat} {goal : Nat → sk_Y} {r0 op rg im sz : Nat → Int32} {post : SX → Prop} {u0 : SX}
theorem sk_w_fs54 {t : Nat} (ht : t < nt) (hw1 : 1 ≤ wd) (hw4 : wd ≤ 4)
    (K : ∀ u', sk_IU nt wd wn ex sn goal r0 op rg im sz u' → sk_FJ nt u0 u' → (sx_count u0 t = 0 → sk_DD 1 1 6 21 t u') → post u') :
    ∀ d k, k + d = wd → ∀ u, sk_IU nt wd wn ex sn goal r0 op rg im sz u → sk_FJ nt u0 u → (k = 0 → sk_cfu u t ∧ sx_count u = sx_count u0) → (k ≠ 0 → sx_count u0 t = 0 → sk_DD 1 1 6 21 t u) → ∀ n, d < n →
      sk_ap (wX_fetchStage_54 post (nI t) n (nI k)) u := by
  intro d
  induction d with
  | zero =>
    intro k hk u
    refine sk_el (P := fun u => sk_IU nt wd wn ex sn goal r0 op rg im sz u → sk_FJ nt u0 u → (k = 0 → sk_cfu u t ∧ sx_count u = sx_count u0) → (k ≠ 0 → sx_count u0 t = 0 → sk_DD 1 1 6 21 t u) → ∀ n, 0 < n → sk_ap (wX_fetchStage_54 post (nI t) n (nI k)) u) ?_ u
    intro f_threads f_width f_window f_freeTop f_queued f_total a_op a_regsOf a_immOf a_sizeOf a_memory a_statusOf a_archPc a_retiredOf a_digestOf a_value a_ready a_free a_archMap a_map a_head a_count a_robPc a_robState a_robTimer a_robStop a_robDest a_robNew a_robOld a_robA a_robB a_robVal a_robAddr a_robNext a_robGuess a_robLive a_queue a_fetchPc a_fetchStop a_counter a_lastTarget a_active a_quota I R R0 R1 n hn
    obtain ⟨m, rfl⟩ : ∃ m, n = m + 1 := ⟨n - 1, by omega⟩
    show wX_fetchStage_54 post (nI t) (m + 1) (nI k) f_threads f_width f_window f_freeTop f_queued f_total a_op a_regsOf a_immOf a_sizeOf a_memory a_statusOf a_archPc a_retiredOf a_digestOf a_value a_ready a_free a_archMap a_map a_head a_count a_robPc a_robState a_robTimer a_robStop a_robDest a_robNew a_robOld a_robA a_robB a_robVal a_robAddr a_robNext a_robGuess a_robLive a_queue a_fetchPc a_fetchStop a_counter a_lastTarget a_active a_quota
    obtain ⟨hce, hd, ct, ow, cn, Z, ft, qn, J⟩ := (show (sk_IV nt wd wn ex sn goal r0 op rg im sz f_threads f_width f_window f_freeTop f_queued f_total a_op a_regsOf a_immOf a_sizeOf a_memory a_statusOf a_archPc a_retiredOf a_digestOf a_value a_ready a_free a_archMap a_map a_head a_count a_robPc a_robState a_robTimer a_robStop a_robDest a_robNew a_robOld a_robA a_robB a_robVal a_robAddr a_robNext a_robGuess a_robLive a_queue a_fetchPc a_fetchStop a_counter a_lastTarget a_active a_quota) from I)
    refine br_t ?_ (K _ I R (R1 (by omega)))
    rw [J.1.2.1]; exact nI_le (by omega) (by omega)
  | succ d ih =>
    intro k hk u
    refine sk_el (P := fun u => sk_IU nt wd wn ex sn goal r0 op rg im sz u → sk_FJ nt u0 u → (k = 0 → sk_cfu u t ∧ sx_count u = sx_count u0) → (k ≠ 0 → sx_count u0 t = 0 → sk_DD 1 1 6 21 t u) → ∀ n, d + 1 < n → sk_ap (wX_fetchStage_54 post (nI t) n (nI k)) u) ?_ u
    intro f_threads f_width f_window f_freeTop f_queued f_total a_op a_regsOf a_immOf a_sizeOf a_memory a_statusOf a_archPc a_retiredOf a_digestOf a_value a_ready a_free a_archMap a_map a_head a_count a_robPc a_robState a_robTimer a_robStop a_robDest a_robNew a_robOld a_robA a_robB a_robVal a_robAddr a_robNext a_robGuess a_robLive a_queue a_fetchPc a_fetchStop a_counter a_lastTarget a_active a_quota I R R0 R1 n hn
    obtain ⟨m, rfl⟩ : ∃ m, n = m + 1 := ⟨n - 1, by omega⟩
    show wX_fetchStage_54 post (nI t) (m + 1) (nI k) f_threads f_width f_window f_freeTop f_queued f_total a_op a_regsOf a_immOf a_sizeOf a_memory a_statusOf a_archPc a_retiredOf a_digestOf a_value a_ready a_free a_archMap a_map a_head a_count a_robPc a_robState a_robTimer a_robStop a_robDest a_robNew a_robOld a_robA a_robB a_robVal a_robAddr a_robNext a_robGuess a_robLive a_queue a_fetchPc a_fetchStop a_counter a_lastTarget a_active a_quota
    obtain ⟨hce, hd, ct, ow, cn, Z, ft, qn, J⟩ := (show (sk_IV nt wd wn ex sn goal r0 op rg im sz f_threads f_width f_window f_freeTop f_queued f_total a_op a_regsOf a_immOf a_sizeOf a_memory a_statusOf a_archPc a_retiredOf a_digestOf a_value a_ready a_free a_archMap a_map a_head a_count a_robPc a_robState a_robTimer a_robStop a_robDest a_robNew a_robOld a_robA a_robB a_robVal a_robAddr a_robNext a_robGuess a_robLive a_queue a_fetchPc a_fetchStop a_counter a_lastTarget a_active a_quota) from I)
    have h4 := J.2.1.1.2.2.2.2
    have g := J.2.1.1.1 t ht
    refine br_f ?_ ?_
    · rw [J.1.2.1]; exact nI_ge (by omega) (by omega)
    refine sk_w_canF (by omega) (fun hcf => ?_) (fun hcf => ?_)
    · refine br_f (by decide) ?_
      refine sk_w_fetch1 ht (show (sk_IV nt wd wn ex sn goal r0 op rg im sz f_threads f_width f_window f_freeTop f_queued f_total a_op a_regsOf a_immOf a_sizeOf a_memory a_statusOf a_archPc a_retiredOf a_digestOf a_value a_ready a_free a_archMap a_map a_head a_count a_robPc a_robState a_robTimer a_robStop a_robDest a_robNew a_robOld a_robA a_robB a_robVal a_robAddr a_robNext a_robGuess a_robLive a_queue a_fetchPc a_fetchStop a_counter a_lastTarget a_active a_quota) from I) hcf (fun u' I' ea eq hH hD0 => ?_)
      show ∀ x, x = nI k + 1 → sk_ap (wX_fetchStage_54 post (nI t) m x) u'
      refine nm_r (nI_1 k) ?_
      refine ih (k + 1) (by omega) u' I' ⟨ea.trans R.1, eq.trans R.2.1, fun x a b c m hx hD => ?_⟩ (fun z => absurd z (by omega)) (fun _ h0 => ?_) m (by omega)
      · have q := R.2.2 x a b c m hx hD
        exact sk_DD_H (hH x hx (sk_DD_el rfl q).2.1) q
      · by_cases k0 : k = 0
        · have e : a_count = sx_count u0 := (R0 k0).2
          exact hD0 (by rw [e]; exact h0)
        · have q := R1 k0 h0
          exact sk_DD_H (hH t ht (sk_DD_el rfl q).2.1) q
    · refine br_t rfl (K _ I R (R1 (fun k0 => ?_)))
      exact hcf (R0 k0).1
end
section
variable {f_threads f_width f_window f_freeTop f_queued f_total : Int32} {a_op a_regsOf a_immOf a_sizeOf a_memory a_statusOf a_archPc a_retiredOf a_digestOf a_value a_ready a_free a_archMap a_map a_head a_count a_robPc a_robState a_robTimer a_robStop a_robDest a_robNew a_robOld a_robA a_robB a_robVal a_robAddr a_robNext a_robGuess a_robLive a_queue a_fetchPc a_fetchStop a_counter a_lastTarget a_active a_quota : Nat → Int32} {nt wd wn ex : Nat} {sn : Nat → Nat} {goal : Nat → sk_Y} {r0 op rg im sz : Nat → Int32} {post : SX → Prop}
theorem sk_m1nn : ¬ (0 : Int32) ≤ -1 := by decide
theorem sk_w_fs4 (I : (sk_IV nt wd wn ex sn goal r0 op rg im sz f_threads f_width f_window f_freeTop f_queued f_total a_op a_regsOf a_immOf a_sizeOf a_memory a_statusOf a_archPc a_retiredOf a_digestOf a_value a_ready a_free a_archMap a_map a_head a_count a_robPc a_robState a_robTimer a_robStop a_robDest a_robNew a_robOld a_robA a_robB a_robVal a_robAddr a_robNext a_robGuess a_robLive a_queue a_fetchPc a_fetchStop a_counter a_lastTarget a_active a_quota))
    (K : ∀ u', sk_IU nt wd wn ex sn goal r0 op rg im sz u' → sk_FJ nt (f_threads, f_width, f_window, f_freeTop, f_queued, f_total, a_op, a_regsOf, a_immOf, a_sizeOf, a_memory, a_statusOf, a_archPc, a_retiredOf, a_digestOf, a_value, a_ready, a_free, a_archMap, a_map, a_head, a_count, a_robPc, a_robState, a_robTimer, a_robStop, a_robDest, a_robNew, a_robOld, a_robA, a_robB, a_robVal, a_robAddr, a_robNext, a_robGuess, a_robLive, a_queue, a_fetchPc, a_fetchStop, a_counter, a_lastTarget, a_active, a_quota) u' → ((∃ x, x < nt ∧ a_active x ≠ 0) → (∀ x, x < nt → a_active x ≠ 0 → a_count x = 0) → ∃ x, x < nt ∧ sk_DD 1 1 6 21 x u') → post u') :
    ∀ d i, i + d = nt → ∀ b : Int32, (b = -1 ∧ (∀ y, y < i → ¬ sk_cf y f_window f_freeTop f_queued a_active a_fetchStop a_count) ∨ ∃ y, y < i ∧ b = nI y ∧ sk_cf y f_window f_freeTop f_queued a_active a_fetchStop a_count) →
      ∀ n, d < n → wX_fetchStage_4 post f_threads f_width f_window f_freeTop f_queued f_total a_op a_regsOf a_immOf a_sizeOf a_memory a_statusOf a_archPc a_retiredOf a_digestOf a_value a_ready a_free a_archMap a_map a_head a_count a_robPc a_robState a_robTimer a_robStop a_robDest a_robNew a_robOld a_robA a_robB a_robVal a_robAddr a_robNext a_robGuess a_robLive a_queue a_fetchPc a_fetchStop a_counter a_lastTarget a_active a_quota n b (nI i) := by
  have I1 := I
  obtain ⟨hce, hd, ct, ow, cn, Z, ft, qn, hK, IB, hfq, Q, QQ, hA, hB, hY, hT⟩ := I
  obtain ⟨k1, k2, k3, k4, k5, k6, k7, k8, k9, k10, k11⟩ := hK
  intro d
  induction d with
  | zero =>
    intro i hi b hb n hn
    obtain ⟨m, rfl⟩ : ∃ m, n = m + 1 := ⟨n - 1, by omega⟩
    have e : i = nt := by omega
    refine br_t (by rw [k1]; exact nI_le (by omega) (by omega)) ?_
    rcases hb with ⟨eb, hn⟩ | ⟨y, hy, eb, hcf⟩
    · subst eb
      refine br_f sk_m1nn (K _ I1 ⟨rfl, rfl, fun _ _ _ _ _ _ z => z⟩ (fun ⟨x, hx, hax⟩ hall => ?_))
      exfalso
      have c0 : ∀ y, y < nt → ct y = 0 := by
        intro y hy
        by_cases ay : a_active y = 0
        · exact ((hY y hy).2 ay).1
        · have g := IB.1.1 y hy
          have z := hall y hy ay
          rw [g.2.2.1] at z
          exact (nI_eq (b := 0) (by omega) (by omega)).mp z
      have g := IB.1.1 x hx
      apply hn x (by omega)
      have nd := IB.2.2.2.2.2.2
      have q16 := Q.1
      have q0 : qn = 0 := by
        rcases Nat.eq_zero_or_pos qn with z | z
        · exact z
        · obtain ⟨y, k, hy, hk, _⟩ := QQ 0 z
          rw [c0 y hy] at hk; omega
      have f0 : ft = ex := by
        have w : sk_4 (fun t => sk_c (fun k => a_robDest (sk_s hd t k)) (ct t)) = 0 := by
          have z : ∀ y, ct y = 0 := by
            intro y
            by_cases hy : y < nt
            · exact c0 y hy
            · exact IB.1.2.2.2.1 y (by omega)
          unfold sk_4
          dsimp only
          rw [z 0, z 1, z 2, z 3]
          rfl
        have n2 := nd.2.1
        omega
      refine ⟨hax, ((hB x hx hax).1 (c0 x hx)).2, ?_, ?_, ?_⟩
      · rw [k3, g.2.2.1, c0 x hx]; exact nI_ge (by omega) (by omega)
      · rw [hfq, q0]; decide
      · have n3 := nd.2.2
        rw [nd.1]; exact nI_nle (by omega) (by omega)
    · subst eb
      refine br_t (nI_pos' (by omega)) ⟨wd + 1, ?_⟩
      exact sk_w_fs54 (post := post) (u0 := (f_threads, f_width, f_window, f_freeTop, f_queued, f_total, a_op, a_regsOf, a_immOf, a_sizeOf, a_memory, a_statusOf, a_archPc, a_retiredOf, a_digestOf, a_value, a_ready, a_free, a_archMap, a_map, a_head, a_count, a_robPc, a_robState, a_robTimer, a_robStop, a_robDest, a_robNew, a_robOld, a_robA, a_robB, a_robVal, a_robAddr, a_robNext, a_robGuess, a_robLive, a_queue, a_fetchPc, a_fetchStop, a_counter, a_lastTarget, a_active, a_quota)) (t := y) (by omega) k6 k7 (fun u' I' F' hD => K u' I' F' (fun _ hall => ⟨y, by omega, hD (hall y (by omega) hcf.1)⟩)) wd 0 (by omega) (f_threads, f_width, f_window, f_freeTop, f_queued, f_total, a_op, a_regsOf, a_immOf, a_sizeOf, a_memory, a_statusOf, a_archPc, a_retiredOf, a_digestOf, a_value, a_ready, a_free, a_archMap, a_map, a_head, a_count, a_robPc, a_robState, a_robTimer, a_robStop, a_robDest, a_robNew, a_robOld, a_robA, a_robB, a_robVal, a_robAddr, a_robNext, a_robGuess, a_robLive, a_queue, a_fetchPc, a_fetchStop, a_counter, a_lastTarget, a_active, a_quota) I1 ⟨rfl, rfl, fun _ _ _ _ _ _ z => z⟩ (fun _ => ⟨hcf, rfl⟩) (fun z => absurd rfl z) (wd + 1) (by omega)
  | succ d ih =>
    intro i hi b hb n hn
    obtain ⟨m, rfl⟩ : ∃ m, n = m + 1 := ⟨n - 1, by omega⟩
    have h4 := IB.1.2.2.2.2
    refine br_f (by rw [k1]; exact nI_ge (by omega) (by omega)) ?_
    refine sk_w_canF (by omega) (fun hcf => ?_) (fun hcf => ?_)
    · refine br_f (by decide) ?_
      rcases hb with ⟨eb, hn⟩ | ⟨y, hy, eb, hcy⟩
      · subst eb
        exact br_t (by decide) (nm_r (nI_1 i) (ih (i + 1) (by omega) (nI i) (Or.inr ⟨i, by omega, rfl, hcf⟩) m (by omega)))
      · subst eb
        refine br_f (nI_pos (by omega)) (And.intro (vp_in_nI (by omega) (by decide)) (And.intro (vp_in_nI (by omega) (by decide)) ?_))
        exact br_c (fun _ => nm_r (nI_1 i) (ih (i + 1) (by omega) (nI y) (Or.inr ⟨y, by omega, rfl, hcy⟩) m (by omega))) (fun _ => nm_r (nI_1 i) (ih (i + 1) (by omega) (nI i) (Or.inr ⟨i, by omega, rfl, hcf⟩) m (by omega)))
    · refine br_t rfl (nm_r (nI_1 i) (ih (i + 1) (by omega) b ?_ m (by omega)))
      rcases hb with ⟨eb, hn⟩ | ⟨y, hy, eb, hcy⟩
      · refine Or.inl ⟨eb, fun y hy => ?_⟩
        by_cases e : y = i
        · rw [e]; exact hcf
        · exact hn y (by omega)
      · exact Or.inr ⟨y, by omega, eb, hcy⟩
end
section
variable {nt wd wn ex : Nat} {sn : Nat → Nat} {goal : Nat → sk_Y} {r0 op rg im sz : Nat → Int32} {post : SX → Prop}
theorem sk_w_fetch {u : SX} (I : sk_IU nt wd wn ex sn goal r0 op rg im sz u)
    (K : ∀ u', sk_IU nt wd wn ex sn goal r0 op rg im sz u' → sk_FJ nt u u' → ((∃ x, x < nt ∧ sx_active u x ≠ 0) → (∀ x, x < nt → sx_active u x ≠ 0 → sx_count u x = 0) → ∃ x, x < nt ∧ sk_DD 1 1 6 21 x u') → post u') : wpX_fetchStage post u := by
  revert I K
  refine sk_el (P := fun u => sk_IU nt wd wn ex sn goal r0 op rg im sz u → (∀ u', sk_IU nt wd wn ex sn goal r0 op rg im sz u' → sk_FJ nt u u' → ((∃ x, x < nt ∧ sx_active u x ≠ 0) → (∀ x, x < nt → sx_active u x ≠ 0 → sx_count u x = 0) → ∃ x, x < nt ∧ sk_DD 1 1 6 21 x u') → post u') → wpX_fetchStage post u) ?_ u
  intro f_threads f_width f_window f_freeTop f_queued f_total a_op a_regsOf a_immOf a_sizeOf a_memory a_statusOf a_archPc a_retiredOf a_digestOf a_value a_ready a_free a_archMap a_map a_head a_count a_robPc a_robState a_robTimer a_robStop a_robDest a_robNew a_robOld a_robA a_robB a_robVal a_robAddr a_robNext a_robGuess a_robLive a_queue a_fetchPc a_fetchStop a_counter a_lastTarget a_active a_quota I K
  exact ⟨nt + 1, sk_w_fs4 (show (sk_IV nt wd wn ex sn goal r0 op rg im sz f_threads f_width f_window f_freeTop f_queued f_total a_op a_regsOf a_immOf a_sizeOf a_memory a_statusOf a_archPc a_retiredOf a_digestOf a_value a_ready a_free a_archMap a_map a_head a_count a_robPc a_robState a_robTimer a_robStop a_robDest a_robNew a_robOld a_robA a_robB a_robVal a_robAddr a_robNext a_robGuess a_robLive a_queue a_fetchPc a_fetchStop a_counter a_lastTarget a_active a_quota) from I) K nt 0 (by omega) (-1) (Or.inl ⟨rfl, fun y hy => absurd hy (Nat.not_lt_zero y)⟩) (nt + 1) (by omega)⟩
end
end
section
/-! anyActive, cycles -/
section
variable {f_threads f_width f_window f_freeTop f_queued f_total : Int32} {a_op a_regsOf a_immOf a_sizeOf a_memory a_statusOf a_archPc a_retiredOf a_digestOf a_value a_ready a_free a_archMap a_map a_head a_count a_robPc a_robState a_robTimer a_robStop a_robDest a_robNew a_robOld a_robA a_robB a_robVal a_robAddr a_robNext a_robGuess a_robLive a_queue a_fetchPc a_fetchStop a_counter a_lastTarget a_active a_quota : Nat → Int32}
theorem sk_w_any {post : Int32 → Prop} {nt : Nat} (h4 : nt ≤ 4) (hT : f_threads = nI nt) (K1 : (∃ x, x < nt ∧ a_active x ≠ 0) → post 1) (K0 : (∀ x, x < nt → a_active x = 0) → post 0) :
    ∀ d i, i + d = nt → ∀ b : Int32, ((b = 0 ∧ ∀ y, y < i → a_active y = 0) ∨ (b = 1 ∧ ∃ y, y < i ∧ a_active y ≠ 0)) → ∀ n, d < n → wX_anyActive_4 post f_threads f_width f_window f_freeTop f_queued f_total a_op a_regsOf a_immOf a_sizeOf a_memory a_statusOf a_archPc a_retiredOf a_digestOf a_value a_ready a_free a_archMap a_map a_head a_count a_robPc a_robState a_robTimer a_robStop a_robDest a_robNew a_robOld a_robA a_robB a_robVal a_robAddr a_robNext a_robGuess a_robLive a_queue a_fetchPc a_fetchStop a_counter a_lastTarget a_active a_quota n b (nI i) := by
  intro d
  induction d with
  | zero =>
    intro i hi b hb n hn
    obtain ⟨m, rfl⟩ : ∃ m, n = m + 1 := ⟨n - 1, by omega⟩
    have e : i = nt := by omega
    subst e
    refine br_t (by rw [hT]; exact nI_le (by omega) (by omega)) ?_
    rcases hb with ⟨eb, h⟩ | ⟨eb, h⟩
    · subst eb; exact And.intro sk_nb0 (K0 h)
    · subst eb; exact And.intro sk_nb1 (K1 h)
  | succ d ih =>
    intro i hi b hb n hn
    obtain ⟨m, rfl⟩ : ∃ m, n = m + 1 := ⟨n - 1, by omega⟩
    have ci : (nI i).toNatClampNeg = i := nI_clamp (by omega)
    refine br_f (by rw [hT]; exact nI_ge (by omega) (by omega)) ?_
    rcases hb with ⟨eb, h⟩ | ⟨eb, y, hy, h⟩
    · subst eb
      refine br_t rfl (And.intro (vp_in_nI (by omega) (by decide)) ?_)
      rw [ci]
      refine br_c (fun z => nm_r (nI_1 i) (ih (i + 1) (by omega) 0 (Or.inl ⟨rfl, fun y hy => ?_⟩) m (by omega))) (fun z => nm_r (nI_1 i) (ih (i + 1) (by omega) 1 (Or.inr ⟨rfl, i, by omega, z⟩) m (by omega)))
      by_cases e : y = i
      · rw [e]; exact z
      · exact h y (by omega)
    · subst eb
      exact br_f (by decide) (nm_r (nI_1 i) (ih (i + 1) (by omega) 1 (Or.inr ⟨rfl, y, by omega, h⟩) m (by omega)))
end
theorem sk_N_0 {nt : Nat} {u : SX} (h : ∀ x, x < nt → sx_active u x = 0) : sk_N nt u = 0 := by
  unfold sk_N
  have z : ∀ x, (if x < nt ∧ sx_active u x ≠ 0 then (sx_quota u x).toNatClampNeg + 1 else 0) = 0 := fun x => if_neg (fun w => w.2 (h x w.1))
  unfold sk_4
  dsimp only
  rw [z 0, z 1, z 2, z 3]
theorem sk_N_p {nt : Nat} {u : SX} (h : 0 < sk_N nt u) : ∃ x, x < nt ∧ sx_active u x ≠ 0 := by
  apply Classical.byContradiction
  intro hn
  have := sk_N_0 (nt := nt) (u := u) (fun x hx => Classical.byContradiction (fun z => hn ⟨x, hx, z⟩))
  omega
section
variable {nt wd wn ex : Nat} {sn : Nat → Nat} {goal : Nat → sk_Y} {r0 op rg im sz : Nat → Int32} {post : Int32 → SX → Prop}
theorem sk_DD_any {u : SX} (I : sk_IU nt wd wn ex sn goal r0 op rg im sz u) {x : Nat} (hx : x < nt) (ha : sx_active u x ≠ 0) (hc : sx_count u x ≠ 0) : sk_DD 1 1 6 21 x u := by
  revert I ha hc
  refine sk_el (P := fun u => sk_IU nt wd wn ex sn goal r0 op rg im sz u → sx_active u x ≠ 0 → sx_count u x ≠ 0 → sk_DD 1 1 6 21 x u) ?_ u
  intro f_threads f_width f_window f_freeTop f_queued f_total a_op a_regsOf a_immOf a_sizeOf a_memory a_statusOf a_archPc a_retiredOf a_digestOf a_value a_ready a_free a_archMap a_map a_head a_count a_robPc a_robState a_robTimer a_robStop a_robDest a_robNew a_robOld a_robA a_robB a_robVal a_robAddr a_robNext a_robGuess a_robLive a_queue a_fetchPc a_fetchStop a_counter a_lastTarget a_active a_quota I ha hc
  obtain ⟨hce, hd, ct, ow, cn, Z, ft, qn, hK, IB, hfq, Q, QQ, hA, hB, hY, hT⟩ := (show (sk_IV nt wd wn ex sn goal r0 op rg im sz f_threads f_width f_window f_freeTop f_queued f_total a_op a_regsOf a_immOf a_sizeOf a_memory a_statusOf a_archPc a_retiredOf a_digestOf a_value a_ready a_free a_archMap a_map a_head a_count a_robPc a_robState a_robTimer a_robStop a_robDest a_robNew a_robOld a_robA a_robB a_robVal a_robAddr a_robNext a_robGuess a_robLive a_queue a_fetchPc a_fetchStop a_counter a_lastTarget a_active a_quota) from I)
  have g := IB.1.1 x hx
  have q16 := Q.1
  have hc' : a_count x ≠ 0 := hc
  have hct : ct x ≠ 0 := by intro z; rw [g.2.2.1, z] at hc'; exact hc' rfl
  refine sk_DD_mk (sk_hs IB.1 hx) ha hc ?_
  rcases IB.2.1.2 x 0 hx (by omega) with ⟨p, _, _, _, _, e⟩ | ⟨_, _, _, e, _⟩
  · rcases e with ⟨e, _⟩ | ⟨e | ⟨e, c, c1, c2, c3⟩, _⟩
    · obtain ⟨i, a, b⟩ := Q.2.2.2 x 0 hx (by omega) e
      exact Or.inr (Or.inr ⟨e, i, by rw [hfq, nI_clamp (by omega)]; exact a, b, by omega⟩)
    · exact Or.inl ⟨e, by omega⟩
    · exact Or.inr (Or.inl ⟨e, c, c1, c2, c3, by omega⟩)
  · exact Or.inl ⟨e, by omega⟩
theorem sk_w_cy45 (h4 : nt ≤ 4) (K : ∀ u', sk_IU nt wd wn ex sn goal r0 op rg im sz u' → (∀ x, x < nt → sx_active u' x = 0) → post (sx_total u') u') :
    ∀ d t, t + d = nt → ∀ u, sk_IU nt wd wn ex sn goal r0 op rg im sz u → (∀ x, x < nt → sx_active u x = 0) → ∀ n, d < n → sk_ap (wX_cycles_45 post n (nI t)) u := by
  intro d
  induction d with
  | zero =>
    intro t htd u
    refine sk_el (P := fun u => sk_IU nt wd wn ex sn goal r0 op rg im sz u → (∀ x, x < nt → sx_active u x = 0) → ∀ n, 0 < n → sk_ap (wX_cycles_45 post n (nI t)) u) ?_ u
    intro f_threads f_width f_window f_freeTop f_queued f_total a_op a_regsOf a_immOf a_sizeOf a_memory a_statusOf a_archPc a_retiredOf a_digestOf a_value a_ready a_free a_archMap a_map a_head a_count a_robPc a_robState a_robTimer a_robStop a_robDest a_robNew a_robOld a_robA a_robB a_robVal a_robAddr a_robNext a_robGuess a_robLive a_queue a_fetchPc a_fetchStop a_counter a_lastTarget a_active a_quota I R n hn
    obtain ⟨m, rfl⟩ : ∃ m, n = m + 1 := ⟨n - 1, by omega⟩
    show wX_cycles_45 post (m + 1) (nI t) f_threads f_width f_window f_freeTop f_queued f_total a_op a_regsOf a_immOf a_sizeOf a_memory a_statusOf a_archPc a_retiredOf a_digestOf a_value a_ready a_free a_archMap a_map a_head a_count a_robPc a_robState a_robTimer a_robStop a_robDest a_robNew a_robOld a_robA a_robB a_robVal a_robAddr a_robNext a_robGuess a_robLive a_queue a_fetchPc a_fetchStop a_counter a_lastTarget a_active a_quota
    obtain ⟨hce, hd, ct, ow, cn, Z, ft, qn, J⟩ := (show (sk_IV nt wd wn ex sn goal r0 op rg im sz f_threads f_width f_window f_freeTop f_queued f_total a_op a_regsOf a_immOf a_sizeOf a_memory a_statusOf a_archPc a_retiredOf a_digestOf a_value a_ready a_free a_archMap a_map a_head a_count a_robPc a_robState a_robTimer a_robStop a_robDest a_robNew a_robOld a_robA a_robB a_robVal a_robAddr a_robNext a_robGuess a_robLive a_queue a_fetchPc a_fetchStop a_counter a_lastTarget a_active a_quota) from I)
    refine br_t ?_ (K _ I R)
    rw [J.1.1]; exact nI_le (by omega) (by omega)
  | succ d ih =>
    intro t htd u
    refine sk_el (P := fun u => sk_IU nt wd wn ex sn goal r0 op rg im sz u → (∀ x, x < nt → sx_active u x = 0) → ∀ n, d + 1 < n → sk_ap (wX_cycles_45 post n (nI t)) u) ?_ u
    intro f_threads f_width f_window f_freeTop f_queued f_total a_op a_regsOf a_immOf a_sizeOf a_memory a_statusOf a_archPc a_retiredOf a_digestOf a_value a_ready a_free a_archMap a_map a_head a_count a_robPc a_robState a_robTimer a_robStop a_robDest a_robNew a_robOld a_robA a_robB a_robVal a_robAddr a_robNext a_robGuess a_robLive a_queue a_fetchPc a_fetchStop a_counter a_lastTarget a_active a_quota I R n hn
    obtain ⟨m, rfl⟩ : ∃ m, n = m + 1 := ⟨n - 1, by omega⟩
    show wX_cycles_45 post (m + 1) (nI t) f_threads f_width f_window f_freeTop f_queued f_total a_op a_regsOf a_immOf a_sizeOf a_memory a_statusOf a_archPc a_retiredOf a_digestOf a_value a_ready a_free a_archMap a_map a_head a_count a_robPc a_robState a_robTimer a_robStop a_robDest a_robNew a_robOld a_robA a_robB a_robVal a_robAddr a_robNext a_robGuess a_robLive a_queue a_fetchPc a_fetchStop a_counter a_lastTarget a_active a_quota
    obtain ⟨hce, hd, ct, ow, cn, Z, ft, qn, hK, IB, hfq, Q, QQ, hA, hB, hY, hT⟩ := (show (sk_IV nt wd wn ex sn goal r0 op rg im sz f_threads f_width f_window f_freeTop f_queued f_total a_op a_regsOf a_immOf a_sizeOf a_memory a_statusOf a_archPc a_retiredOf a_digestOf a_value a_ready a_free a_archMap a_map a_head a_count a_robPc a_robState a_robTimer a_robStop a_robDest a_robNew a_robOld a_robA a_robB a_robVal a_robAddr a_robNext a_robGuess a_robLive a_queue a_fetchPc a_fetchStop a_counter a_lastTarget a_active a_quota) from I)
    have ht : t < nt := by omega
    refine br_f ?_ ?_
    · rw [hK.1]; exact nI_ge (by omega) (by omega)
    refine sk_w_stop ht hce hK IB hfq Q hA hB hT (fun x hx _ => hY x hx) ((hY t ht).2 (R t ht)).2 (fun u' I' ea _ _ => ?_)
    show ∀ x, x = nI t + 1 → sk_ap (wX_cycles_45 post m x) u'
    refine nm_r (nI_1 t) (ih (t + 1) (by omega) u' I' (fun x hx => ?_) m (by omega))
    rw [ea]
    by_cases e : x = t
    · rw [e]; exact pk_us
    · rw [pk_un e]; exact R x hx
theorem sk_DD_m {x m : Nat} {u : SX} (h : sk_DD 1 1 6 m x u) : 1 ≤ m := by
  rcases h.2.2 with ⟨_, a⟩ | ⟨_, τ, _, _, _, a⟩ | ⟨_, p, _, _, a⟩
  · exact a
  · omega
  · omega
theorem sk_DD_w {a b c m a' b' c' m' x : Nat} {u : SX} (ha : a ≤ m → a' ≤ m') (hb : ∀ y, y + b ≤ m → y + b' ≤ m') (hc : ∀ y, y + c ≤ m → y + c' ≤ m') (h : sk_DD a b c m x u) : sk_DD a' b' c' m' x u := by
  refine ⟨h.1, h.2.1, ?_⟩
  rcases h.2.2 with ⟨d1, d2⟩ | ⟨d1, τ, d2, d3, d4, d5⟩ | ⟨d1, p, d2, d3, d4⟩
  · exact Or.inl ⟨d1, ha d2⟩
  · exact Or.inr (Or.inl ⟨d1, τ, d2, d3, d4, hb τ d5⟩)
  · exact Or.inr (Or.inr ⟨d1, p, d2, d3, hc p d4⟩)
theorem sk_DD_nd {m x : Nat} {u : SX} (hn : ¬ sk_dn u x) (h : sk_DD 1 1 6 m x u) : sk_DD (m + 1) 1 6 m x u := by
  refine ⟨h.1, h.2.1, ?_⟩
  rcases h.2.2 with ⟨d1, d2⟩ | d | d
  · exact absurd ⟨h.1, h.2.1, d1⟩ hn
  · exact Or.inr (Or.inl d)
  · exact Or.inr (Or.inr d)
def sk_HB (nt B : Nat) (u : SX) : Prop := (∃ x m, x < nt ∧ sk_DD 1 1 6 m x u ∧ 23 * sk_N nt u + m ≤ B) ∨ 23 * sk_N nt u + 22 ≤ B
theorem sk_w_cy7 (K : ∀ u', sk_IU nt wd wn ex sn goal r0 op rg im sz u' → (∀ x, x < nt → sx_active u' x = 0) → post (sx_total u') u') :
    ∀ n c B, c + B ≤ 16000 → 16000 - c < n → ∀ u, sk_IU nt wd wn ex sn goal r0 op rg im sz u → sk_HB nt B u → sk_ap (wX_cycles_7 post n (nI c)) u := by
  intro n
  induction n with
  | zero => intro c B _ h; omega
  | succ n ih =>
    intro c B hcB hn u
    refine sk_el (P := fun u => sk_IU nt wd wn ex sn goal r0 op rg im sz u → sk_HB nt B u → sk_ap (wX_cycles_7 post (n + 1) (nI c)) u) ?_ u
    intro f_threads f_width f_window f_freeTop f_queued f_total a_op a_regsOf a_immOf a_sizeOf a_memory a_statusOf a_archPc a_retiredOf a_digestOf a_value a_ready a_free a_archMap a_map a_head a_count a_robPc a_robState a_robTimer a_robStop a_robDest a_robNew a_robOld a_robA a_robB a_robVal a_robAddr a_robNext a_robGuess a_robLive a_queue a_fetchPc a_fetchStop a_counter a_lastTarget a_active a_quota I H
    show wX_cycles_7 post (n + 1) (nI c) f_threads f_width f_window f_freeTop f_queued f_total a_op a_regsOf a_immOf a_sizeOf a_memory a_statusOf a_archPc a_retiredOf a_digestOf a_value a_ready a_free a_archMap a_map a_head a_count a_robPc a_robState a_robTimer a_robStop a_robDest a_robNew a_robOld a_robA a_robB a_robVal a_robAddr a_robNext a_robGuess a_robLive a_queue a_fetchPc a_fetchStop a_counter a_lastTarget a_active a_quota
    obtain ⟨hce, hd, ct, ow, cn, Z, ft, qn, hK, IB, hfq, Q, QQ, hA, hB, hY, hT⟩ := (show (sk_IV nt wd wn ex sn goal r0 op rg im sz f_threads f_width f_window f_freeTop f_queued f_total a_op a_regsOf a_immOf a_sizeOf a_memory a_statusOf a_archPc a_retiredOf a_digestOf a_value a_ready a_free a_archMap a_map a_head a_count a_robPc a_robState a_robTimer a_robStop a_robDest a_robNew a_robOld a_robA a_robB a_robVal a_robAddr a_robNext a_robGuess a_robLive a_queue a_fetchPc a_fetchStop a_counter a_lastTarget a_active a_quota) from I)
    obtain ⟨k1, k2, k3, k4, k5, k6, k7, k8, k9, k10, k11⟩ := hK
    have hB1 : 1 ≤ B := by
      rcases H with ⟨x, m, _, h, h2⟩ | h
      · have := sk_DD_m h; omega
      · omega
    refine br_f (nI_ge (b := 16000) (by omega) (by omega)) ?_
    refine ⟨nt + 1, sk_w_any k5 k1 (fun hex => ?_) (fun hall => ?_) nt 0 (by omega) 0 (Or.inl ⟨rfl, fun y hy => absurd hy (Nat.not_lt_zero y)⟩) (nt + 1) (by omega)⟩
    · obtain ⟨x0, hx0, hax⟩ := hex
      refine br_f (by decide) ?_
      refine sk_w_retst (u := (f_threads, f_width, f_window, f_freeTop, f_queued, f_total, a_op, a_regsOf, a_immOf, a_sizeOf, a_memory, a_statusOf, a_archPc, a_retiredOf, a_digestOf, a_value, a_ready, a_free, a_archMap, a_map, a_head, a_count, a_robPc, a_robState, a_robTimer, a_robStop, a_robDest, a_robNew, a_robOld, a_robA, a_robB, a_robVal, a_robAddr, a_robNext, a_robGuess, a_robLive, a_queue, a_fetchPc, a_fetchStop, a_counter, a_lastTarget, a_active, a_quota)) I (fun u1 I1 P1 D1 => ?_)
      show wpX_completeStage _ u1
      refine sk_w_compst I1 (fun u2 I2 N2 D2 A2 => ?_)
      show wpX_issueStage _ u2
      refine sk_w_issue I2 (fun u3 I3 N3 D3 A3 C3 => ?_)
      show wpX_fetchStage _ u3
      refine sk_w_fetch I3 (fun u4 I4 F4 L4 => ?_)
      show ∀ x, x = nI c + 1 → sk_ap (wX_cycles_7 post n x) u4
      refine nm_r (nI_1 c) (ih (c + 1) (B - 1) (by omega) (by omega) u4 I4 ?_)
      have N4 : sk_N nt u4 = sk_N nt u3 := sk_N_eq F4.1 F4.2.1
      have HN : 23 * sk_N nt (f_threads, f_width, f_window, f_freeTop, f_queued, f_total, a_op, a_regsOf, a_immOf, a_sizeOf, a_memory, a_statusOf, a_archPc, a_retiredOf, a_digestOf, a_value, a_ready, a_free, a_archMap, a_map, a_head, a_count, a_robPc, a_robState, a_robTimer, a_robStop, a_robDest, a_robNew, a_robOld, a_robA, a_robB, a_robVal, a_robAddr, a_robNext, a_robGuess, a_robLive, a_queue, a_fetchPc, a_fetchStop, a_counter, a_lastTarget, a_active, a_quota) ≤ B := by
        rcases H with ⟨x, m, _, h, h2⟩ | h
        · omega
        · omega
      rcases P1 with P1 | ⟨P1, P2⟩
      · exact Or.inr (by omega)
      · rcases H with ⟨x, m, hx, h, h2⟩ | h
        · have nd : ¬ sk_dn (f_threads, f_width, f_window, f_freeTop, f_queued, f_total, a_op, a_regsOf, a_immOf, a_sizeOf, a_memory, a_statusOf, a_archPc, a_retiredOf, a_digestOf, a_value, a_ready, a_free, a_archMap, a_map, a_head, a_count, a_robPc, a_robState, a_robTimer, a_robStop, a_robDest, a_robNew, a_robOld, a_robA, a_robB, a_robVal, a_robAddr, a_robNext, a_robGuess, a_robLive, a_queue, a_fetchPc, a_fetchStop, a_counter, a_lastTarget, a_active, a_quota) x := fun z => by have := D1 x hx z; omega
          have h1 := sk_DD_H (P2 x hx h.1 h.2.1) (sk_DD_nd nd h)
          have h4 := F4.2.2 x _ _ _ _ hx (D3 x m hx (D2 x m hx h1))
          have m1 := sk_DD_m h
          exact Or.inl ⟨x, m - 1, hx, sk_DD_w (by omega) (by omega) (by omega) h4, by omega⟩
        · have Np : 0 < sk_N nt u3 := by
            have : 0 < sk_N nt (f_threads, f_width, f_window, f_freeTop, f_queued, f_total, a_op, a_regsOf, a_immOf, a_sizeOf, a_memory, a_statusOf, a_archPc, a_retiredOf, a_digestOf, a_value, a_ready, a_free, a_archMap, a_map, a_head, a_count, a_robPc, a_robState, a_robTimer, a_robStop, a_robDest, a_robNew, a_robOld, a_robA, a_robB, a_robVal, a_robAddr, a_robNext, a_robGuess, a_robLive, a_queue, a_fetchPc, a_fetchStop, a_counter, a_lastTarget, a_active, a_quota) := by
              rcases Nat.eq_zero_or_pos (sk_N nt (f_threads, f_width, f_window, f_freeTop, f_queued, f_total, a_op, a_regsOf, a_immOf, a_sizeOf, a_memory, a_statusOf, a_archPc, a_retiredOf, a_digestOf, a_value, a_ready, a_free, a_archMap, a_map, a_head, a_count, a_robPc, a_robState, a_robTimer, a_robStop, a_robDest, a_robNew, a_robOld, a_robA, a_robB, a_robVal, a_robAddr, a_robNext, a_robGuess, a_robLive, a_queue, a_fetchPc, a_fetchStop, a_counter, a_lastTarget, a_active, a_quota)) with z | z
              · exfalso
                have b := sk_4u (t := x0) (f := fun x => if x < nt ∧ a_active x ≠ 0 then (a_quota x).toNatClampNeg + 1 else 0) (g := fun x => if x = x0 then 0 else if x < nt ∧ a_active x ≠ 0 then (a_quota x).toNatClampNeg + 1 else 0) (by omega) (fun x hx => if_neg hx)
                have e1 : (if x0 < nt ∧ a_active x0 ≠ 0 then (a_quota x0).toNatClampNeg + 1 else 0) = (a_quota x0).toNatClampNeg + 1 := if_pos ⟨hx0, hax⟩
                have e2 : sk_4 (fun x => if x < nt ∧ a_active x ≠ 0 then (a_quota x).toNatClampNeg + 1 else 0) = 0 := z
                rw [e1, e2, if_pos rfl] at b
                omega
              · exact z
            omega
          by_cases hc3 : ∃ x, x < nt ∧ sx_active u3 x ≠ 0 ∧ sx_count u3 x ≠ 0
          · obtain ⟨x, hx, a, b⟩ := hc3
            exact Or.inl ⟨x, 21, hx, F4.2.2 x _ _ _ _ hx (sk_DD_any I3 hx a b), by omega⟩
          · obtain ⟨x, hx, hD⟩ := L4 (sk_N_p Np) (fun x hx ha => Classical.byContradiction (fun z => hc3 ⟨x, hx, ha, z⟩))
            exact Or.inl ⟨x, 21, hx, hD, by omega⟩
    · exact br_t rfl ⟨nt + 1, sk_w_cy45 k5 K nt 0 (by omega) (f_threads, f_width, f_window, f_freeTop, f_queued, f_total, a_op, a_regsOf, a_immOf, a_sizeOf, a_memory, a_statusOf, a_archPc, a_retiredOf, a_digestOf, a_value, a_ready, a_free, a_archMap, a_map, a_head, a_count, a_robPc, a_robState, a_robTimer, a_robStop, a_robDest, a_robNew, a_robOld, a_robA, a_robB, a_robVal, a_robAddr, a_robNext, a_robGuess, a_robLive, a_queue, a_fetchPc, a_fetchStop, a_counter, a_lastTarget, a_active, a_quota) I hall (nt + 1) (by omega)⟩
end
end
section
/-! the reference's step -/
def sk_mk (N : Nat) (r : Nat → Int32) (t : Nat) : Nat → Int32 := fun j => if j < N then r (t * N + j) else 0
def sk_ty (r m pcs sts cts dgs : Nat → Int32) (t : Nat) : sk_Y := (sk_mk 8 r t, sk_mk 16 m t, pcs t, sts t, cts t, dgs t)
theorem sk_mk_at {N t j : Nat} {r : Nat → Int32} (h : j < N) : sk_mk N r t j = r (t * N + j) := if_pos h
theorem sk_mk_u {N t d : Nat} {r : Nat → Int32} {v : Int32} (hd : d < N) : sk_mk N (upd r (t * N + d) v) t = upd (sk_mk N r t) d v := by
  funext j
  by_cases e : j = d
  · subst e
    rw [pk_us, sk_mk_at hd, pk_us]
  · rw [pk_un e]
    unfold sk_mk
    by_cases h : j < N
    · rw [if_pos h, if_pos h, pk_un (by omega)]
    · rw [if_neg h, if_neg h]
theorem sk_ml {N x t j d : Nat} (hj : j < N) (hd : d < N) (h : x * N + j = t * N + d) : x = t := by
  have a : (x * N + j) / N = x := by
    rw [Nat.mul_comm, Nat.mul_add_div (by omega), Nat.div_eq_of_lt hj]; rfl
  have b : (t * N + d) / N = t := by
    rw [Nat.mul_comm, Nat.mul_add_div (by omega), Nat.div_eq_of_lt hd]; rfl
  rw [← a, h, b]
theorem sk_mk_n {N t d x : Nat} {r : Nat → Int32} {v : Int32} (hd : d < N) (e : x ≠ t) : sk_mk N (upd r (t * N + d) v) x = sk_mk N r x := by
  funext j
  unfold sk_mk
  by_cases h : j < N
  · rw [if_pos h, if_pos h, pk_un (fun z => e (sk_ml h hd z))]
  · rw [if_neg h, if_neg h]
theorem sk_val_c {o pc a b i c c' : Int32} (h : o ≠ 10) : sk_val o pc a b i c = sk_val o pc a b i c' := by
  unfold sk_val
  rw [if_neg h, if_neg h]
section
variable {y_threads : Int32} {y_ops y_regs y_imms y_sizes y_r y_m y_pcs y_states y_counts y_digests : Nat → Int32} {post : SY → Prop}
theorem sk_y_wr {post : Int32 → Prop} {o pc a b i c : Int32} (K : post (sk_val o pc a b i c)) : wpY_written post (y_threads, y_ops, y_regs, y_imms, y_sizes, y_r, y_m, y_pcs, y_states, y_counts, y_digests) o pc a b i c := by
  unfold sk_val at K
  by_cases e1 : o = 1
  · rw [if_pos e1] at K; exact br_t e1 K
  rw [if_neg e1] at K; refine br_f e1 ?_
  by_cases e2 : o = 2
  · rw [if_pos e2] at K; exact br_t e2 K
  rw [if_neg e2] at K; refine br_f e2 ?_
  by_cases e3 : o = 3
  · rw [if_pos e3] at K; exact br_t e3 K
  rw [if_neg e3] at K; refine br_f e3 ?_
  by_cases e4 : o = 4
  · rw [if_pos e4] at K; exact br_t e4 K
  rw [if_neg e4] at K; refine br_f e4 ?_
  by_cases e5 : o = 5
  · rw [if_pos e5] at K
    refine br_t e5 ?_
    by_cases b0 : b = 0
    · rw [if_pos b0] at K; exact br_t b0 K
    · rw [if_neg b0] at K; exact br_f b0 (And.intro b0 K)
  rw [if_neg e5] at K; refine br_f e5 ?_
  by_cases e6 : o = 6
  · rw [if_pos e6] at K; exact br_t e6 K
  rw [if_neg e6] at K; refine br_f e6 ?_
  by_cases e7 : o = 7
  · rw [if_pos e7] at K; exact br_t e7 K
  rw [if_neg e7] at K; refine br_f e7 ?_
  by_cases e8 : o = 8
  · rw [if_pos e8] at K; exact br_t e8 K
  rw [if_neg e8] at K; refine br_f e8 ?_
  by_cases e9 : o = 9
  · rw [if_pos e9] at K; exact br_t e9 K
  rw [if_neg e9] at K; refine br_f e9 ?_
  by_cases e10 : o = 10
  · rw [if_pos e10] at K; exact br_t e10 K
  rw [if_neg e10] at K; exact br_f e10 K
theorem sk_y_339 {t : Nat} {x2 x10 x11 : Int32} (ht : t < 4)
    (K : post (y_threads, y_ops, y_regs, y_imms, y_sizes, y_r, y_m, upd y_pcs t x10, y_states, upd y_counts t (y_counts t + 1), upd y_digests t (y_digests t * 31 + 7 * x2 + x11))) : wY_step_339 post (nI t) x2 x10 x11 y_threads y_ops y_regs y_imms y_sizes y_r y_m y_pcs y_states y_counts y_digests := by
  have vt : vp_in (nI t) 4 := vp_in_nI ht (by decide)
  have ct : (nI t).toNatClampNeg = t := nI_clamp (by omega)
  exact And.intro vt (nm_r (e' := upd y_pcs t x10) (by rw [ct]) (And.intro vt (And.intro vt (nm_r (e' := upd y_counts t (y_counts t + 1)) (by rw [ct]) (And.intro vt (And.intro vt (nm_r (e' := upd y_digests t (y_digests t * 31 + 7 * x2 + x11)) (by rw [ct]) K)))))))
theorem sk_y_309 {t d : Nat} {x2 o i a b x10 c : Int32} (ht : t < 4) (hd : d < 8)
    (K : post (y_threads, y_ops, y_regs, y_imms, y_sizes, upd y_r (t * 8 + d) (sk_val o x2 a b i c), y_m, upd y_pcs t x10, y_states, upd y_counts t (y_counts t + 1), upd y_digests t (y_digests t * 31 + 7 * x2 + sk_val o x2 a b i c))) :
    wY_step_309 post (nI t) x2 o i (nI d) a b x10 c y_threads y_ops y_regs y_imms y_sizes y_r y_m y_pcs y_states y_counts y_digests := by
  unfold wY_step_309
  refine sk_y_wr ?_
  refine And.intro (by rw [sk_x8, nI_add]; exact vp_in_nI (by omega) (by decide)) (nm_r (e' := upd y_r (t * 8 + d) (sk_val o x2 a b i c)) (by rw [sk_x8, nI_add, nI_clamp (by omega)]) ?_)
  exact sk_y_339 ht K
theorem sk_y_241 {t d ea : Nat} {x2 o i a b e x10 : Int32} (ht : t < 4) (hd : d < 8) (hea : o = 10 ∨ o = 11 → ea < 16 ∧ e = nI ea)
    (K : post (y_threads, y_ops, y_regs, y_imms, y_sizes, if sk_D o then upd y_r (t * 8 + d) (sk_val o x2 a b i (y_m (t * 16 + ea))) else y_r, if o = 11 then upd y_m (t * 16 + ea) b else y_m, upd y_pcs t x10, y_states, upd y_counts t (y_counts t + 1), upd y_digests t (y_digests t * 31 + 7 * x2 + (if sk_D o then sk_val o x2 a b i (y_m (t * 16 + ea)) else if o = 11 then 5 * e + b else x10)))) :
    wY_step_241 post (nI t) x2 o i (nI d) a b e x10 y_threads y_ops y_regs y_imms y_sizes y_r y_m y_pcs y_states y_counts y_digests := by
  by_cases h11 : o = 11
  · have hD : ¬ sk_D o := by rw [h11]; decide
    obtain ⟨e16, ee⟩ := hea (Or.inr h11)
    rw [if_neg hD, if_pos h11, if_neg hD, if_pos h11] at K
    refine br_t h11 (And.intro (by rw [ee, sk_x16, nI_add]; exact vp_in_nI (by omega) (by decide)) (nm_r (e' := upd y_m (t * 16 + ea) b) (by rw [ee, sk_x16, nI_add, nI_clamp (by omega)]) (nm_e ?_)))
    refine br_f (fun z => hD (Or.inl z)) (br_f (fun z => hD (Or.inr z)) ?_)
    exact sk_y_339 ht K
  · refine br_f h11 ?_
    by_cases hD : sk_D o
    · rw [if_pos hD, if_neg h11, if_pos hD] at K
      have K286 : wY_step_286 post (nI t) x2 o i (nI d) a b e x10 y_threads y_ops y_regs y_imms y_sizes y_r y_m y_pcs y_states y_counts y_digests := by
        by_cases h10 : o = 10
        · obtain ⟨e16, ee⟩ := hea (Or.inl h10)
          refine br_t h10 (And.intro (by rw [ee, sk_x16, nI_add]; exact vp_in_nI (by omega) (by decide)) (nm_r (e' := y_m (t * 16 + ea)) (by rw [ee, sk_x16, nI_add, nI_clamp (by omega)]) ?_))
          exact sk_y_309 ht hd K
        · refine br_f h10 (sk_y_309 ht hd ?_)
          rw [sk_val_c (c := 0) (c' := y_m (t * 16 + ea)) h10]
          exact K
      by_cases h : o ≤ 10
      · exact br_t h K286
      · exact br_f h (br_t (hD.elim (fun z => absurd z h) id) K286)
    · rw [if_neg hD, if_neg h11, if_neg hD, if_neg h11] at K
      refine br_f (fun z => hD (Or.inl z)) (br_f (fun z => hD (Or.inr z)) ?_)
      exact sk_y_339 ht K
theorem sk_y_182 {x1 x2 o i d a b e : Int32} (K : wY_step_241 post x1 x2 o i d a b e (sk_next o x2 a b i) y_threads y_ops y_regs y_imms y_sizes y_r y_m y_pcs y_states y_counts y_digests) : wY_step_182 post x1 x2 o i d a b e y_threads y_ops y_regs y_imms y_sizes y_r y_m y_pcs y_states y_counts y_digests := by
  unfold sk_next at K
  refine nm_e ?_
  by_cases h12 : o = 12
  · subst h12
    rw [if_pos rfl] at K
    have c : ∀ x10, wY_step_241 post x1 x2 12 i d a b e x10 y_threads y_ops y_regs y_imms y_sizes y_r y_m y_pcs y_states y_counts y_digests → wY_step_204 post x1 x2 12 i d a b e x10 y_threads y_ops y_regs y_imms y_sizes y_r y_m y_pcs y_states y_counts y_digests :=
      fun x10 k => br_f (by decide) (br_f (by decide) (br_f (by decide) k))
    refine br_t rfl (br_c (fun z => ?_) (fun z => ?_))
    · rw [if_pos z] at K; exact c _ K
    · rw [if_neg z] at K; exact c _ K
  rw [if_neg h12] at K
  refine br_f h12 ?_
  by_cases h13 : o = 13
  · subst h13
    rw [if_pos rfl] at K
    have c : ∀ x10, wY_step_241 post x1 x2 13 i d a b e x10 y_threads y_ops y_regs y_imms y_sizes y_r y_m y_pcs y_states y_counts y_digests → wY_step_221 post x1 x2 13 i d a b e x10 y_threads y_ops y_regs y_imms y_sizes y_r y_m y_pcs y_states y_counts y_digests :=
      fun x10 k => br_f (by decide) (br_f (by decide) k)
    refine br_t rfl (br_c (fun z => ?_) (fun z => ?_))
    · rw [if_pos z] at K; exact c _ K
    · rw [if_neg z] at K; exact c _ K
  rw [if_neg h13] at K
  refine br_f h13 ?_
  by_cases h14 : o = 14
  · subst h14
    rw [if_pos rfl] at K
    exact br_t rfl (br_f (by decide) K)
  rw [if_neg h14] at K
  refine br_f h14 ?_
  by_cases h15 : o = 15
  · subst h15
    rw [if_pos rfl] at K
    exact br_t rfl K
  · rw [if_neg h15] at K
    exact br_f h15 K
theorem sk_y_step {t n : Nat} (ht : t < 4) (hn : n ≤ 24) (hsz : y_sizes t = nI n)
    (K : ∀ r' m' pcs' sts' cts' dgs' : Nat → Int32, sk_ty r' m' pcs' sts' cts' dgs' t = sk_ys t n y_ops y_regs y_imms (sk_ty y_r y_m y_pcs y_states y_counts y_digests t) →
      (∀ x, x ≠ t → sk_ty r' m' pcs' sts' cts' dgs' x = sk_ty y_r y_m y_pcs y_states y_counts y_digests x) → post (y_threads, y_ops, y_regs, y_imms, y_sizes, r', m', pcs', sts', cts', dgs')) :
    wpY_step post (y_threads, y_ops, y_regs, y_imms, y_sizes, y_r, y_m, y_pcs, y_states, y_counts, y_digests) (nI t) := by
  have vt : vp_in (nI t) 4 := vp_in_nI ht (by decide)
  have ct : (nI t).toNatClampNeg = t := nI_clamp (by omega)
  have halt : ∀ s, sk_ys t n y_ops y_regs y_imms (sk_ty y_r y_m y_pcs y_states y_counts y_digests t) = (sk_mk 8 y_r t, sk_mk 16 y_m t, y_pcs t, s, y_counts t, y_digests t) → post (y_threads, y_ops, y_regs, y_imms, y_sizes, y_r, y_m, y_pcs, upd y_states t s, y_counts, y_digests) := by
    intro s e
    refine K y_r y_m y_pcs (upd y_states t s) y_counts y_digests ?_ (fun x hx => ?_)
    · rw [e]; unfold sk_ty; rw [pk_us]
    · unfold sk_ty; rw [pk_un hx]
  refine And.intro vt ?_
  rw [ct]
  refine nm_e ?_
  by_cases h0 : y_pcs t < 0
  · exact br_t h0 (And.intro vt (nm_e (halt 4 (sk_ys_p (Or.inl h0)))))
  refine br_f h0 (And.intro vt ?_)
  rw [hsz]
  by_cases h1 : y_pcs t < nI n
  · refine br_t h1 ?_
    obtain ⟨p, hp31, hpc⟩ := nI_of h0
    have hp : p < n := by
      rw [hpc] at h1
      exact (nI_ltI hp31 (by omega)).mp h1
    have cp : (nI t * 24 + nI p).toNatClampNeg = t * 24 + p := by rw [sk_x24, nI_add, nI_clamp (by omega)]
    have vp : vp_in (nI t * 24 + nI p) 96 := by rw [sk_x24, nI_add]; exact vp_in_nI (by omega) (by decide)
    rw [hpc, cp]
    have a8 := sk_ra8 (y_regs (t * 24 + p))
    have b8 := sk_rb8 (y_regs (t * 24 + p))
    have d8 := sk_d8 (y_regs (t * 24 + p))
    refine And.intro vp (nm_e (And.intro vp (nm_e (And.intro vp (nm_e (nm_r (sk_dI _) ?_))))))
    rw [sk_raI, sk_rbI, sk_x8, nI_add, nI_add, nI_clamp (show t * 8 + sk_ra (y_regs (t * 24 + p)) < 2 ^ 31 by omega), nI_clamp (show t * 8 + sk_rb (y_regs (t * 24 + p)) < 2 ^ 31 by omega)]
    have ea : y_r (t * 8 + sk_ra (y_regs (t * 24 + p))) = sk_mk 8 y_r t (sk_ra (y_regs (t * 24 + p))) := (sk_mk_at a8).symm
    have eb : y_r (t * 8 + sk_rb (y_regs (t * 24 + p))) = sk_mk 8 y_r t (sk_rb (y_regs (t * 24 + p))) := (sk_mk_at b8).symm
    rw [ea, eb]
    refine And.intro (vp_in_nI (by omega) (by decide)) (nm_e (And.intro (vp_in_nI (by omega) (by decide)) (nm_e (nm_e ?_))))
    have ty : sk_ty y_r y_m y_pcs y_states y_counts y_digests t = (sk_mk 8 y_r t, sk_mk 16 y_m t, nI p, y_states t, y_counts t, y_digests t) := by unfold sk_ty; rw [hpc]
    by_cases ho : y_ops (t * 24 + p) = 0
    · refine br_t ho (And.intro vt ?_)
      refine nm_e (halt 1 ?_)
      rw [ty, hpc, sk_ys_h hp hn ho]
    refine br_f ho ?_
    have trap : ∀ s : Int32, s ≠ 0 → sk_sp (y_ops (t * 24 + p)) (y_regs (t * 24 + p)) (y_imms (t * 24 + p)) (sk_mk 8 y_r t) = s → post (y_threads, y_ops, y_regs, y_imms, y_sizes, y_r, y_m, y_pcs, upd y_states t s, y_counts, y_digests) := by
      intro s hs es
      apply halt
      rw [ty, hpc, sk_ys_r hp hn ho]
      unfold sk_yo
      dsimp only
      rw [es, if_neg hs]
    have good : sk_sp (y_ops (t * 24 + p)) (y_regs (t * 24 + p)) (y_imms (t * 24 + p)) (sk_mk 8 y_r t) = 0 →
        wY_step_182 post (nI t) (nI p) (y_ops (t * 24 + p)) (y_imms (t * 24 + p)) (nI (sk_d (y_regs (t * 24 + p)))) (sk_mk 8 y_r t (sk_ra (y_regs (t * 24 + p)))) (sk_mk 8 y_r t (sk_rb (y_regs (t * 24 + p)))) (sk_mk 8 y_r t (sk_ra (y_regs (t * 24 + p))) + y_imms (t * 24 + p)) y_threads y_ops y_regs y_imms y_sizes y_r y_m y_pcs y_states y_counts y_digests := by
      intro s0
      apply sk_y_182
      have hx : ∃ x, y_ops (t * 24 + p) = 10 ∨ y_ops (t * 24 + p) = 11 → x < 16 ∧ sk_mk 8 y_r t (sk_ra (y_regs (t * 24 + p))) + y_imms (t * 24 + p) = nI x := by
        by_cases hm : y_ops (t * 24 + p) = 10 ∨ y_ops (t * 24 + p) = 11
        · have hout := sk_sp0 s0 hm
          obtain ⟨x, hx, ex⟩ := nI_of2 (x := sk_mk 8 y_r t (sk_ra (y_regs (t * 24 + p))) + y_imms (t * 24 + p)) (M := 15) (n := 15) (by decide) (fun z => hout (Or.inl z)) (by
            by_cases z : sk_mk 8 y_r t (sk_ra (y_regs (t * 24 + p))) + y_imms (t * 24 + p) ≤ 15
            · exact z
            · exact absurd (Or.inr z) hout)
          exact ⟨x, fun _ => ⟨by omega, ex⟩⟩
        · exact ⟨0, fun z => absurd z hm⟩
      obtain ⟨x, hx⟩ := hx
      refine sk_y_241 (ea := x) ht d8 hx ?_
      -- the value
      have hv : sk_D (y_ops (t * 24 + p)) → sk_val (y_ops (t * 24 + p)) (nI p) (sk_mk 8 y_r t (sk_ra (y_regs (t * 24 + p)))) (sk_mk 8 y_r t (sk_rb (y_regs (t * 24 + p)))) (y_imms (t * 24 + p)) (y_m (t * 16 + x)) = sk_vl (y_ops (t * 24 + p)) (y_regs (t * 24 + p)) (y_imms (t * 24 + p)) (nI p) (sk_mk 8 y_r t) (sk_mk 16 y_m t) := by
        intro _
        unfold sk_vl
        by_cases h10 : y_ops (t * 24 + p) = 10
        · obtain ⟨x16, ex⟩ := hx (Or.inl h10)
          have hout := sk_sp0 s0 (Or.inl h10)
          unfold sk_cell
          rw [if_neg hout, ex, nI_clamp (by omega), sk_mk_at x16]
        · exact sk_val_c h10
      refine K _ _ _ y_states _ _ ?_ ?_
      · rw [ty, sk_ys_r hp hn ho]
        unfold sk_yo sk_ty
        dsimp only
        rw [if_pos s0, pk_us, pk_us, pk_us]
        congr 1
        · unfold sk_R
          by_cases hD : sk_D (y_ops (t * 24 + p))
          · rw [if_pos hD, if_pos hD, sk_mk_u d8, hv hD]
          · rw [if_neg hD, if_neg hD]
        congr 1
        · unfold sk_M
          by_cases h11 : y_ops (t * 24 + p) = 11
          · obtain ⟨x16, ex⟩ := hx (Or.inr h11)
            have hout := sk_sp0 s0 (Or.inr h11)
            rw [if_pos h11, if_pos ⟨h11, hout⟩, ex, nI_clamp (by omega), sk_mk_u x16]
          · rw [if_neg h11, if_neg (fun z => h11 z.1)]
        congr 4
        unfold sk_dv
        by_cases hD : sk_D (y_ops (t * 24 + p))
        · rw [if_pos hD, if_pos hD, hv hD]
        · rw [if_neg hD, if_neg hD]; rfl
      · intro y hy
        unfold sk_ty
        rw [pk_un hy, pk_un hy, pk_un hy]
        congr 1
        · by_cases hD : sk_D (y_ops (t * 24 + p))
          · rw [if_pos hD, sk_mk_n d8 hy]
          · rw [if_neg hD]
        congr 1
        by_cases h11 : y_ops (t * 24 + p) = 11
        · obtain ⟨x16, ex⟩ := hx (Or.inr h11)
          rw [if_pos h11, sk_mk_n x16 hy]
        · rw [if_neg h11]
    have K150 : ¬ (y_ops (t * 24 + p) = 5 ∧ sk_mk 8 y_r t (sk_rb (y_regs (t * 24 + p))) = 0) →
        wY_step_150 post (nI t) (nI p) (y_ops (t * 24 + p)) (y_imms (t * 24 + p)) (nI (sk_d (y_regs (t * 24 + p)))) (sk_mk 8 y_r t (sk_ra (y_regs (t * 24 + p)))) (sk_mk 8 y_r t (sk_rb (y_regs (t * 24 + p)))) (sk_mk 8 y_r t (sk_ra (y_regs (t * 24 + p))) + y_imms (t * 24 + p)) y_threads y_ops y_regs y_imms y_sizes y_r y_m y_pcs y_states y_counts y_digests := by
      intro h5
      have K162 : (y_ops (t * 24 + p) = 10 ∨ y_ops (t * 24 + p) = 11) → wY_step_162 post (nI t) (nI p) (y_ops (t * 24 + p)) (y_imms (t * 24 + p)) (nI (sk_d (y_regs (t * 24 + p)))) (sk_mk 8 y_r t (sk_ra (y_regs (t * 24 + p)))) (sk_mk 8 y_r t (sk_rb (y_regs (t * 24 + p)))) (sk_mk 8 y_r t (sk_ra (y_regs (t * 24 + p))) + y_imms (t * 24 + p)) y_threads y_ops y_regs y_imms y_sizes y_r y_m y_pcs y_states y_counts y_digests := by
        intro hm
        have t3 : sk_out (sk_mk 8 y_r t (sk_ra (y_regs (t * 24 + p))) + y_imms (t * 24 + p)) → post (y_threads, y_ops, y_regs, y_imms, y_sizes, y_r, y_m, y_pcs, upd y_states t 3, y_counts, y_digests) := by
          intro hout
          apply trap 3 (by decide)
          unfold sk_sp sk_stop
          rw [if_neg h5, if_pos ⟨hm, hout⟩]
        refine br_c (fun z => And.intro vt ?_) (fun z => br_c (fun z2 => good ?_) (fun z2 => And.intro vt ?_))
        · rw [ct]; exact nm_e (t3 (Or.inl z))
        · unfold sk_sp sk_stop
          rw [if_neg h5, if_neg]
          intro w
          exact w.2.elim z (fun q => q z2)
        · rw [ct]; exact nm_e (t3 (Or.inr z2))
      refine br_c (fun z => K162 (Or.inl z)) (fun z => br_c (fun z2 => K162 (Or.inr z2)) (fun z2 => good ?_))
      unfold sk_sp sk_stop
      rw [if_neg h5, if_neg]
      intro w
      exact w.1.elim z z2
    by_cases h5 : y_ops (t * 24 + p) = 5
    · refine br_t h5 (br_c (fun z => And.intro vt ?_) (fun z => K150 (fun w => z w.2)))
      refine nm_e (trap 2 (by decide) ?_)
      unfold sk_sp sk_stop
      rw [if_pos ⟨h5, z⟩]
    · exact br_f h5 (K150 (fun w => h5 w.1))
  · exact br_f h1 (And.intro vt (nm_e (halt 4 (sk_ys_p (Or.inr (Int32.not_lt.mp h1))))))
end
end
section
/-! the reference's steps and run -/
def sk_q (n : Int32) : Nat := if n < 0 then 0 else if n ≤ 40 then n.toNatClampNeg else 40
theorem sk_q40 (n : Int32) : sk_q n ≤ 40 := by
  unfold sk_q
  by_cases h : n < 0
  · rw [if_pos h]; omega
  · rw [if_neg h]
    by_cases h2 : n ≤ 40
    · rw [if_pos h2]
      obtain ⟨j, hj, e⟩ := nI_of2 (x := n) (M := 40) (n := 40) (by decide) h h2
      rw [e, nI_clamp (by omega)]; exact hj
    · rw [if_neg h2]; omega
theorem sk_q_le {n : Int32} {k : Nat} (hk : k < 40) : n ≤ nI k ↔ sk_q n ≤ k := by
  unfold sk_q
  by_cases h : n < 0
  · rw [if_pos h]
    exact ⟨fun _ => Nat.zero_le k, fun _ => Int32.le_of_lt (Int32.lt_of_lt_of_le h (nI_pos' (by omega)))⟩
  · rw [if_neg h]
    obtain ⟨j, hj, e⟩ := nI_of h
    subst e
    rw [nI_leI hj (by omega)]
    by_cases h2 : nI j ≤ 40
    · rw [if_pos h2, nI_clamp hj]
    · rw [if_neg h2]
      have : ¬ j ≤ 40 := fun z => h2 (nI_le (b := 40) z (by decide))
      constructor <;> intro <;> omega
def sk_ps (f : Nat → Int32) : Nat → Int32
  | 0 => 0
  | i + 1 => sk_ps f i + f i
theorem sk_ps4 {f : Nat → Int32} {nt : Nat} (h1 : 1 ≤ nt) (h4 : nt ≤ 4) (h : ∀ t, nt ≤ t → f t = 0) : sk_4i f = sk_ps f nt := by
  unfold sk_4i
  rcases (by omega : nt = 1 ∨ nt = 2 ∨ nt = 3 ∨ nt = 4) with z | z | z | z
  · subst z
    rw [h 1 (by omega), h 2 (by omega), h 3 (by omega)]
    show f 0 + 0 + 0 + 0 = 0 + f 0
    grind
  · subst z
    rw [h 2 (by omega), h 3 (by omega)]
    show f 0 + f 1 + 0 + 0 = 0 + f 0 + f 1
    grind
  · subst z
    rw [h 3 (by omega)]
    show f 0 + f 1 + f 2 + 0 = 0 + f 0 + f 1 + f 2
    grind
  · subst z
    show f 0 + f 1 + f 2 + f 3 = 0 + f 0 + f 1 + f 2 + f 3
    grind
section
variable {y_threads : Int32} {y_ops y_regs y_imms y_sizes : Nat → Int32}
theorem sk_y_st10 {post : Int32 → SY → Prop} {t sz : Nat} {n x3 : Int32} {G : sk_Y} {E : Nat → sk_Y} (ht : t < 4) (hn : sz ≤ 24) (hsz : y_sizes t = nI sz)
    (K : ∀ y_r y_m y_pcs y_states y_counts y_digests : Nat → Int32, sk_ty y_r y_m y_pcs y_states y_counts y_digests t = G → (∀ x, x ≠ t → sk_ty y_r y_m y_pcs y_states y_counts y_digests x = E x) → post (y_counts t - x3) (y_threads, y_ops, y_regs, y_imms, y_sizes, y_r, y_m, y_pcs, y_states, y_counts, y_digests)) :
    ∀ d k, k + d = 40 → ∀ y_r y_m y_pcs y_states y_counts y_digests : Nat → Int32, sk_yn t sz y_ops y_regs y_imms (sk_q n - k) (sk_ty y_r y_m y_pcs y_states y_counts y_digests t) = G →
      (∀ x, x ≠ t → sk_ty y_r y_m y_pcs y_states y_counts y_digests x = E x) → ∀ m, d < m → wY_steps_10 post (nI t) n x3 m (nI k) y_threads y_ops y_regs y_imms y_sizes y_r y_m y_pcs y_states y_counts y_digests := by
  have vt : vp_in (nI t) 4 := vp_in_nI ht (by decide)
  have ct : (nI t).toNatClampNeg = t := nI_clamp (by omega)
  have q40 := sk_q40 n
  intro d
  induction d with
  | zero =>
    intro k hk y_r y_m y_pcs y_states y_counts y_digests hG hE m hm
    obtain ⟨m, rfl⟩ : ∃ m', m = m' + 1 := ⟨m - 1, by omega⟩
    refine br_t (nI_le (a := 40) (by omega) (by omega)) (And.intro vt ?_)
    rw [ct]
    rw [show sk_q n - k = 0 by omega] at hG
    exact K _ _ _ _ _ _ hG hE
  | succ d ih =>
    intro k hk y_r y_m y_pcs y_states y_counts y_digests hG hE m hm
    obtain ⟨m, rfl⟩ : ∃ m', m = m' + 1 := ⟨m - 1, by omega⟩
    refine br_f (nI_ge (b := 40) (by omega) (by omega)) ?_
    by_cases h : n ≤ nI k
    · have h' := (sk_q_le (by omega)).mp h
      refine br_t h (nm_r (nI_1 k) (ih (k + 1) (by omega) _ _ _ _ _ _ ?_ hE m (by omega)))
      rw [show sk_q n - (k + 1) = sk_q n - k by omega]; exact hG
    · have h' : ¬ sk_q n ≤ k := fun z => h ((sk_q_le (by omega)).mpr z)
      rw [show sk_q n - k = (sk_q n - (k + 1)) + 1 by omega] at hG
      refine br_f h (And.intro vt ?_)
      rw [ct]
      by_cases hs : y_states t = 0
      · refine br_t hs ?_
        rw [sk_yn_go (show (sk_ty y_r y_m y_pcs y_states y_counts y_digests t).2.2.2.1 = 0 from hs)] at hG
        refine sk_y_step ht hn hsz (fun r' m' pcs' sts' cts' dgs' e1 e2 => ?_)
        refine nm_r (nI_1 k) (ih (k + 1) (by omega) r' m' pcs' sts' cts' dgs' ?_ (fun x hx => (e2 x hx).trans (hE x hx)) m (by omega))
        rw [e1]; exact hG
      · refine br_f hs (nm_r (nI_1 k) (ih (k + 1) (by omega) _ _ _ _ _ _ ?_ hE m (by omega)))
        have hs' : ¬ (sk_ty y_r y_m y_pcs y_states y_counts y_digests t).2.2.2.1 = 0 := hs
        rw [sk_yn_stop hs'] at hG ⊢
        exact hG
end
section
variable {y_threads : Int32} {y_ops y_regs y_imms y_sizes y_r y_m y_pcs y_states y_counts y_digests : Nat → Int32}
theorem sk_y_steps {post : Int32 → SY → Prop} {t sz : Nat} {n : Int32} (ht : t < 4) (hn : sz ≤ 24) (hsz : y_sizes t = nI sz)
    (K : ∀ r' m' pcs' sts' cts' dgs' : Nat → Int32, sk_ty r' m' pcs' sts' cts' dgs' t = sk_yn t sz y_ops y_regs y_imms (sk_q n) (sk_ty y_r y_m y_pcs y_states y_counts y_digests t) →
      (∀ x, x ≠ t → sk_ty r' m' pcs' sts' cts' dgs' x = sk_ty y_r y_m y_pcs y_states y_counts y_digests x) → post (cts' t - y_counts t) (y_threads, y_ops, y_regs, y_imms, y_sizes, r', m', pcs', sts', cts', dgs')) :
    wpY_steps post (y_threads, y_ops, y_regs, y_imms, y_sizes, y_r, y_m, y_pcs, y_states, y_counts, y_digests) (nI t) n := by
  have vt : vp_in (nI t) 4 := vp_in_nI ht (by decide)
  have ct : (nI t).toNatClampNeg = t := nI_clamp (by omega)
  refine And.intro vt ?_
  rw [ct]
  refine nm_e ⟨41, ?_⟩
  exact sk_y_st10 ht hn hsz K 40 0 (by omega) y_r y_m y_pcs y_states y_counts y_digests rfl (fun _ _ => rfl) 41 (by omega)
end
section
variable {y_ops y_regs y_imms y_sizes : Nat → Int32}
theorem sk_y_run4 {post : Int32 → SY → Prop} {nt : Nat} {sn : Nat → Nat} {n : Int32} {y_threads : Int32} {E : Nat → sk_Y} {c0 : Nat → Int32} (h4 : nt ≤ 4) (hT : y_threads = nI nt) (hS : ∀ t, t < nt → y_sizes t = nI (sn t) ∧ sn t ≤ 24)
    (hc0 : ∀ t, (E t).2.2.2.2.1 = c0 t)
    (K : ∀ y_r y_m y_pcs y_states y_counts y_digests : Nat → Int32, (∀ t, t < nt → sk_ty y_r y_m y_pcs y_states y_counts y_digests t = sk_yn t (sn t) y_ops y_regs y_imms (sk_q n) (E t)) →
      post (sk_ps (fun t => (sk_yn t (sn t) y_ops y_regs y_imms (sk_q n) (E t)).2.2.2.2.1 - c0 t) nt) (y_threads, y_ops, y_regs, y_imms, y_sizes, y_r, y_m, y_pcs, y_states, y_counts, y_digests)) :
    ∀ d i, i + d = nt → ∀ y_r y_m y_pcs y_states y_counts y_digests : Nat → Int32, (∀ t, t < i → sk_ty y_r y_m y_pcs y_states y_counts y_digests t = sk_yn t (sn t) y_ops y_regs y_imms (sk_q n) (E t)) →
      (∀ t, i ≤ t → sk_ty y_r y_m y_pcs y_states y_counts y_digests t = E t) → ∀ m, d < m →
      wY_run_4 post n m (sk_ps (fun t => (sk_yn t (sn t) y_ops y_regs y_imms (sk_q n) (E t)).2.2.2.2.1 - c0 t) i) (nI i) y_threads y_ops y_regs y_imms y_sizes y_r y_m y_pcs y_states y_counts y_digests := by
  intro d
  induction d with
  | zero =>
    intro i hi y_r y_m y_pcs y_states y_counts y_digests h1 h2 m hm
    obtain ⟨m, rfl⟩ : ∃ m', m = m' + 1 := ⟨m - 1, by omega⟩
    have e : i = nt := by omega
    subst e
    exact br_t (by rw [hT]; exact nI_le (by omega) (by omega)) (K _ _ _ _ _ _ h1)
  | succ d ih =>
    intro i hi y_r y_m y_pcs y_states y_counts y_digests h1 h2 m hm
    obtain ⟨m, rfl⟩ : ∃ m', m = m' + 1 := ⟨m - 1, by omega⟩
    have hs := hS i (by omega)
    refine br_f (by rw [hT]; exact nI_ge (by omega) (by omega)) ?_
    refine sk_y_steps (by omega) hs.2 hs.1 (fun r' m' pcs' sts' cts' dgs' e1 e2 => ?_)
    rw [h2 i (Nat.le_refl i)] at e1
    have ec : cts' i = (sk_yn i (sn i) y_ops y_regs y_imms (sk_q n) (E i)).2.2.2.2.1 := by rw [← e1]; rfl
    have ec0 : y_counts i = c0 i := by rw [← hc0 i, ← h2 i (Nat.le_refl i)]; rfl
    refine nm_r (e' := sk_ps (fun t => (sk_yn t (sn t) y_ops y_regs y_imms (sk_q n) (E t)).2.2.2.2.1 - c0 t) (i + 1)) (by rw [ec, ec0]; rfl) (nm_r (nI_1 i) ?_)
    refine ih (i + 1) (by omega) r' m' pcs' sts' cts' dgs' (fun t ht => ?_) (fun t ht => ?_) m (by omega)
    · by_cases e : t = i
      · subst e; exact e1
      · rw [e2 t e]; exact h1 t (by omega)
    · rw [e2 t (by omega)]; exact h2 t (by omega)
end
end
section
/-! begin, run -/
abbrev sy_threads (u : SY) : Int32 := u.1
abbrev sy_ops (u : SY) : Nat → Int32 := u.2.1
abbrev sy_regs (u : SY) : Nat → Int32 := u.2.2.1
abbrev sy_imms (u : SY) : Nat → Int32 := u.2.2.2.1
abbrev sy_sizes (u : SY) : Nat → Int32 := u.2.2.2.2.1
abbrev sy_r (u : SY) : Nat → Int32 := u.2.2.2.2.2.1
abbrev sy_m (u : SY) : Nat → Int32 := u.2.2.2.2.2.2.1
abbrev sy_pcs (u : SY) : Nat → Int32 := u.2.2.2.2.2.2.2.1
abbrev sy_states (u : SY) : Nat → Int32 := u.2.2.2.2.2.2.2.2.1
abbrev sy_counts (u : SY) : Nat → Int32 := u.2.2.2.2.2.2.2.2.2.1
abbrev sy_digests (u : SY) : Nat → Int32 := u.2.2.2.2.2.2.2.2.2.2
theorem sk_ely {P : SY → Prop} (h : ∀ (y_threads : Int32) (y_ops y_regs y_imms y_sizes y_r y_m y_pcs y_states y_counts y_digests : Nat → Int32), P (y_threads, y_ops, y_regs, y_imms, y_sizes, y_r, y_m, y_pcs, y_states, y_counts, y_digests)) (u : SY) : P u := h u.1 u.2.1 u.2.2.1 u.2.2.2.1 u.2.2.2.2.1 u.2.2.2.2.2.1 u.2.2.2.2.2.2.1 u.2.2.2.2.2.2.2.1 u.2.2.2.2.2.2.2.2.1 u.2.2.2.2.2.2.2.2.2.1 u.2.2.2.2.2.2.2.2.2.2
def sk_gv (v : SY) (t : Nat) : sk_Y := sk_ty (sy_r v) (sy_m v) (sy_pcs v) (sy_states v) (sy_counts v) (sy_digests v) t
section
variable {f_threads f_width f_window f_freeTop f_queued f_total : Int32} {a_op a_regsOf a_immOf a_sizeOf a_memory a_statusOf a_archPc a_retiredOf a_digestOf a_value a_ready a_free a_archMap a_map a_head a_count a_robPc a_robState a_robTimer a_robStop a_robDest a_robNew a_robOld a_robA a_robB a_robVal a_robAddr a_robNext a_robGuess a_robLive a_queue a_fetchPc a_fetchStop a_counter a_lastTarget a_active a_quota : Nat → Int32} {nt wd wn ex : Nat} {sn : Nat → Nat} {goal : Nat → sk_Y} {r0 op rg im sz : Nat → Int32} {goal' : Nat → sk_Y} {r0' : Nat → Int32}
theorem sk_IV_g (h : ∀ t, t < nt → goal t = goal' t) (I : (sk_IV nt wd wn ex sn goal r0 op rg im sz f_threads f_width f_window f_freeTop f_queued f_total a_op a_regsOf a_immOf a_sizeOf a_memory a_statusOf a_archPc a_retiredOf a_digestOf a_value a_ready a_free a_archMap a_map a_head a_count a_robPc a_robState a_robTimer a_robStop a_robDest a_robNew a_robOld a_robA a_robB a_robVal a_robAddr a_robNext a_robGuess a_robLive a_queue a_fetchPc a_fetchStop a_counter a_lastTarget a_active a_quota)) : (sk_IV nt wd wn ex sn goal' r0 op rg im sz f_threads f_width f_window f_freeTop f_queued f_total a_op a_regsOf a_immOf a_sizeOf a_memory a_statusOf a_archPc a_retiredOf a_digestOf a_value a_ready a_free a_archMap a_map a_head a_count a_robPc a_robState a_robTimer a_robStop a_robDest a_robNew a_robOld a_robA a_robB a_robVal a_robAddr a_robNext a_robGuess a_robLive a_queue a_fetchPc a_fetchStop a_counter a_lastTarget a_active a_quota) := by
  obtain ⟨hce, hd, ct, ow, cn, Z, ft, qn, hK, IB, hfq, Q, QQ, hA, hB, hY, hT⟩ := I
  refine ⟨hce, hd, ct, ow, cn, Z, ft, qn, hK, IB, hfq, Q, QQ, hA, hB, fun x hx => ?_, hT⟩
  rw [← h x hx]; exact hY x hx
theorem sk_IV_t (I : (sk_IV nt wd wn ex sn goal r0 op rg im sz f_threads f_width f_window f_freeTop f_queued f_total a_op a_regsOf a_immOf a_sizeOf a_memory a_statusOf a_archPc a_retiredOf a_digestOf a_value a_ready a_free a_archMap a_map a_head a_count a_robPc a_robState a_robTimer a_robStop a_robDest a_robNew a_robOld a_robA a_robB a_robVal a_robAddr a_robNext a_robGuess a_robLive a_queue a_fetchPc a_fetchStop a_counter a_lastTarget a_active a_quota)) : (sk_IV nt wd wn ex sn goal a_retiredOf op rg im sz f_threads f_width f_window f_freeTop f_queued 0 a_op a_regsOf a_immOf a_sizeOf a_memory a_statusOf a_archPc a_retiredOf a_digestOf a_value a_ready a_free a_archMap a_map a_head a_count a_robPc a_robState a_robTimer a_robStop a_robDest a_robNew a_robOld a_robA a_robB a_robVal a_robAddr a_robNext a_robGuess a_robLive a_queue a_fetchPc a_fetchStop a_counter a_lastTarget a_active a_quota) := by
  obtain ⟨hce, hd, ct, ow, cn, Z, ft, qn, hK, IB, hfq, Q, QQ, hA, hB, hY, hT⟩ := I
  refine ⟨hce, hd, ct, ow, cn, Z, ft, qn, hK, IB, hfq, Q, QQ, hA, hB, hY, ?_, fun _ _ => rfl⟩
  unfold sk_4i
  dsimp only
  rw [Int32.sub_self, Int32.sub_self, Int32.sub_self, Int32.sub_self]
  rfl
theorem sk_w_cl40 {post : Int32 → Prop} {n : Int32} (K : post (nI (sk_q n))) : wpX_clamp post n 0 40 := by
  unfold sk_q at K
  by_cases h : n < 0
  · rw [if_pos h] at K
    exact br_f (Int32.not_le.mpr h) K
  · rw [if_neg h] at K
    refine br_t (Int32.not_lt.mp h) ?_
    by_cases h2 : n ≤ 40
    · rw [if_pos h2] at K
      obtain ⟨j, hj, e⟩ := nI_of h
      subst e
      rw [nI_clamp hj] at K
      exact br_t h2 K
    · rw [if_neg h2] at K
      exact br_f h2 K
theorem sk_w_begin {post : SX → Prop} {t : Nat} {n : Int32} (ht : t < nt) (I : (sk_IV nt wd wn ex sn goal r0 op rg im sz f_threads f_width f_window f_freeTop f_queued f_total a_op a_regsOf a_immOf a_sizeOf a_memory a_statusOf a_archPc a_retiredOf a_digestOf a_value a_ready a_free a_archMap a_map a_head a_count a_robPc a_robState a_robTimer a_robStop a_robDest a_robNew a_robOld a_robA a_robB a_robVal a_robAddr a_robNext a_robGuess a_robLive a_queue a_fetchPc a_fetchStop a_counter a_lastTarget a_active a_quota)) (ha : a_active t = 0)
    (K : ∀ u', sk_IU nt wd wn ex sn (fun x => if x = t then sk_yn t (sn t) op rg im (sk_q n) (goal t) else goal x) r0 op rg im sz u' → (∀ x, x ≠ t → sx_active u' x = a_active x) → sx_retiredOf u' = a_retiredOf → post u') :
    wpX_begin post (f_threads, f_width, f_window, f_freeTop, f_queued, f_total, a_op, a_regsOf, a_immOf, a_sizeOf, a_memory, a_statusOf, a_archPc, a_retiredOf, a_digestOf, a_value, a_ready, a_free, a_archMap, a_map, a_head, a_count, a_robPc, a_robState, a_robTimer, a_robStop, a_robDest, a_robNew, a_robOld, a_robA, a_robB, a_robVal, a_robAddr, a_robNext, a_robGuess, a_robLive, a_queue, a_fetchPc, a_fetchStop, a_counter, a_lastTarget, a_active, a_quota) (nI t) n := by
  obtain ⟨hce, hd, ct, ow, cn, Z, ft, qn, hK, IB, hfq, Q, QQ, hA, hB, hY, hT⟩ := I
  have h4 := IB.1.2.2.2.2
  have vt : vp_in (nI t) 4 := vp_in_nI (by omega) (by decide)
  have ctt : (nI t).toNatClampNeg = t := nI_clamp (by omega)
  obtain ⟨ct0, hg⟩ := (hY t ht).2 ha
  have hE : (sk_EN nt sn a_op a_regsOf a_immOf hd ct Z (upd a_fetchStop t 0) a_robPc a_robState a_robTimer a_robStop a_robDest a_robNew a_robOld a_robA a_robB a_robVal a_robAddr a_robNext) := by
    refine ⟨IB.2.1.1, fun x k hx hk => ?_⟩
    by_cases e : x = t
    · rw [e, ct0] at hk; omega
    · rw [pk_un e]; exact IB.2.1.2 x k hx hk
  have main : ∀ z0 : Int32, (z0 ≠ 0 → z0 = 1 ∧ a_statusOf t = 0) → (z0 = 0 → a_statusOf t ≠ 0) →
      (sk_IV nt wd wn ex sn (fun x => if x = t then sk_yn t (sn t) op rg im (sk_q n) (goal t) else goal x) r0 op rg im sz f_threads f_width f_window f_freeTop f_queued f_total a_op a_regsOf a_immOf a_sizeOf a_memory a_statusOf a_archPc a_retiredOf a_digestOf a_value a_ready a_free a_archMap a_map a_head a_count a_robPc a_robState a_robTimer a_robStop a_robDest a_robNew a_robOld a_robA a_robB a_robVal a_robAddr a_robNext a_robGuess a_robLive a_queue (upd a_fetchPc t (a_archPc t)) (upd a_fetchStop t 0) a_counter a_lastTarget (upd a_active t z0) (upd a_quota t (nI (sk_q n)))) := by
    intro z0 hz1 hz0
    refine ⟨hce, hd, ct, ow, cn, Z, ft, qn, hK, ⟨IB.1, hE, IB.2.2⟩, hfq, Q, QQ, hA, ?_, ?_, hT⟩
    · intro x hx hax
      by_cases e : x = t
      · subst e
        rw [pk_us, pk_us]
        exact ⟨fun _ => ⟨rfl, rfl⟩, fun k hk => absurd hk (by omega)⟩
      · rw [pk_un e] at hax
        rw [pk_un e, pk_un e]; exact hB x hx hax
    · intro x hx
      by_cases e : x = t
      · subst e
        dsimp only
        rw [pk_us, pk_us, if_pos rfl, ← hg, hce.1, hce.2.1, hce.2.2.1]
        refine ⟨fun z => ⟨(hz1 z).2, sk_q n, sk_q40 n, rfl, rfl⟩, fun z => ⟨ct0, ?_⟩⟩
        have hs := hz0 z
        exact (sk_yn_stop (y := ((Z x 0).2.1, (Z x 0).2.2, a_archPc x, a_statusOf x, a_retiredOf x, a_digestOf x)) hs _).symm
      · dsimp only
        rw [pk_un e, pk_un e, if_neg e]
        exact hY x hx
  have fin : ∀ z0 : Int32, vp_nar .boolean z0 = z0 → (z0 ≠ 0 → z0 = 1 ∧ a_statusOf t = 0) → (z0 = 0 → a_statusOf t ≠ 0) → wX_begin_32 post (nI t) z0 (nI t) f_threads f_width f_window f_freeTop f_queued f_total a_op a_regsOf a_immOf a_sizeOf a_memory a_statusOf a_archPc a_retiredOf a_digestOf a_value a_ready a_free a_archMap a_map a_head a_count a_robPc a_robState a_robTimer a_robStop a_robDest a_robNew a_robOld a_robA a_robB a_robVal a_robAddr a_robNext a_robGuess a_robLive a_queue a_fetchPc a_fetchStop a_counter a_lastTarget a_active (upd a_quota t (nI (sk_q n))) := by
    intro z0 e hz1 hz0
    refine And.intro vt (nm_r (e' := upd a_active t z0) (by rw [ctt, e]) (And.intro vt (And.intro vt (nm_r (e' := upd a_fetchPc t (a_archPc t)) (by rw [ctt]) (And.intro vt (nm_r (e' := upd a_fetchStop t 0) (by rw [ctt, sk_b0]) ?_))))))
    exact K _ (main z0 hz1 hz0) (fun x hx => pk_un hx) rfl
  unfold wpX_begin
  refine sk_w_cl40 ?_
  refine And.intro vt (nm_r (e' := upd a_quota t (nI (sk_q n))) (by rw [ctt]) (And.intro vt ?_))
  rw [ctt]
  refine br_c (fun z => fin 1 sk_b1 (fun _ => ⟨rfl, z⟩) (fun w => absurd w (by decide))) (fun z => fin 0 sk_b0 (fun w => absurd rfl w) (fun _ => z))
theorem sk_w_cyc {post : Int32 → SX → Prop} (I : (sk_IV nt wd wn ex sn goal r0 op rg im sz f_threads f_width f_window f_freeTop f_queued f_total a_op a_regsOf a_immOf a_sizeOf a_memory a_statusOf a_archPc a_retiredOf a_digestOf a_value a_ready a_free a_archMap a_map a_head a_count a_robPc a_robState a_robTimer a_robStop a_robDest a_robNew a_robOld a_robA a_robB a_robVal a_robAddr a_robNext a_robGuess a_robLive a_queue a_fetchPc a_fetchStop a_counter a_lastTarget a_active a_quota)) (K : ∀ u', sk_IU nt wd wn ex sn goal a_retiredOf op rg im sz u' → (∀ x, x < nt → sx_active u' x = 0) → post (sx_total u') u') :
    wpX_cycles post (f_threads, f_width, f_window, f_freeTop, f_queued, f_total, a_op, a_regsOf, a_immOf, a_sizeOf, a_memory, a_statusOf, a_archPc, a_retiredOf, a_digestOf, a_value, a_ready, a_free, a_archMap, a_map, a_head, a_count, a_robPc, a_robState, a_robTimer, a_robStop, a_robDest, a_robNew, a_robOld, a_robA, a_robB, a_robVal, a_robAddr, a_robNext, a_robGuess, a_robLive, a_queue, a_fetchPc, a_fetchStop, a_counter, a_lastTarget, a_active, a_quota) := by
  have I' := sk_IV_t I
  obtain ⟨hce, hd, ct, ow, cn, Z, ft, qn, hK, IB, hfq, Q, QQ, hA, hB, hY, hT⟩ := I
  refine ⟨16001, sk_w_cy7 (post := post) K 16001 0 16000 (by omega) (by omega) (f_threads, f_width, f_window, f_freeTop, f_queued, 0, a_op, a_regsOf, a_immOf, a_sizeOf, a_memory, a_statusOf, a_archPc, a_retiredOf, a_digestOf, a_value, a_ready, a_free, a_archMap, a_map, a_head, a_count, a_robPc, a_robState, a_robTimer, a_robStop, a_robDest, a_robNew, a_robOld, a_robA, a_robB, a_robVal, a_robAddr, a_robNext, a_robGuess, a_robLive, a_queue, a_fetchPc, a_fetchStop, a_counter, a_lastTarget, a_active, a_quota) I' (Or.inr ?_)⟩
  have w : ∀ x, (if x < nt ∧ a_active x ≠ 0 then (a_quota x).toNatClampNeg + 1 else 0) ≤ 41 := by
    intro x
    by_cases h : x < nt ∧ a_active x ≠ 0
    · rw [if_pos h]
      obtain ⟨_, q, hq, e, _⟩ := (hY x h.1).1 h.2
      rw [e, nI_clamp (by omega)]; omega
    · rw [if_neg h]; omega
  have w0 := w 0
  have w1 := w 1
  have w2 := w 2
  have w3 := w 3
  have e : sk_N nt (f_threads, f_width, f_window, f_freeTop, f_queued, 0, a_op, a_regsOf, a_immOf, a_sizeOf, a_memory, a_statusOf, a_archPc, a_retiredOf, a_digestOf, a_value, a_ready, a_free, a_archMap, a_map, a_head, a_count, a_robPc, a_robState, a_robTimer, a_robStop, a_robDest, a_robNew, a_robOld, a_robA, a_robB, a_robVal, a_robAddr, a_robNext, a_robGuess, a_robLive, a_queue, a_fetchPc, a_fetchStop, a_counter, a_lastTarget, a_active, a_quota) = (if 0 < nt ∧ a_active 0 ≠ 0 then (a_quota 0).toNatClampNeg + 1 else 0) + (if 1 < nt ∧ a_active 1 ≠ 0 then (a_quota 1).toNatClampNeg + 1 else 0) + (if 2 < nt ∧ a_active 2 ≠ 0 then (a_quota 2).toNatClampNeg + 1 else 0) + (if 3 < nt ∧ a_active 3 ≠ 0 then (a_quota 3).toNatClampNeg + 1 else 0) := rfl
  rw [e]
  omega
end
section
variable {nt wd wn ex : Nat} {sn : Nat → Nat} {r0 op rg im sz : Nat → Int32} {post : Int32 → SX → Prop} {E : Nat → sk_Y} {rc0 : Nat → Int32} {n : Int32}
theorem sk_w_run2 (K : ∀ (G : Nat → sk_Y) u', (∀ x, x < nt → G x = sk_yn x (sn x) op rg im (sk_q n) (E x)) → sk_IU nt wd wn ex sn G rc0 op rg im sz u' → (∀ x, x < nt → sx_active u' x = 0) → post (sx_total u') u') :
    ∀ d i, i + d = nt → ∀ (goal : Nat → sk_Y) u, sk_IU nt wd wn ex sn goal r0 op rg im sz u → (∀ x, i ≤ x → x < nt → sx_active u x = 0 ∧ goal x = E x) → (∀ x, x < i → goal x = sk_yn x (sn x) op rg im (sk_q n) (E x)) → sx_retiredOf u = rc0 →
      ∀ m, d < m → sk_ap (wX_run_2 post n m (nI i)) u := by
  intro d
  induction d with
  | zero =>
    intro i hi goal u
    refine sk_el (P := fun u => sk_IU nt wd wn ex sn goal r0 op rg im sz u → (∀ x, i ≤ x → x < nt → sx_active u x = 0 ∧ goal x = E x) → (∀ x, x < i → goal x = sk_yn x (sn x) op rg im (sk_q n) (E x)) → sx_retiredOf u = rc0 → ∀ m, 0 < m → sk_ap (wX_run_2 post n m (nI i)) u) ?_ u
    intro f_threads f_width f_window f_freeTop f_queued f_total a_op a_regsOf a_immOf a_sizeOf a_memory a_statusOf a_archPc a_retiredOf a_digestOf a_value a_ready a_free a_archMap a_map a_head a_count a_robPc a_robState a_robTimer a_robStop a_robDest a_robNew a_robOld a_robA a_robB a_robVal a_robAddr a_robNext a_robGuess a_robLive a_queue a_fetchPc a_fetchStop a_counter a_lastTarget a_active a_quota I R1 R2 R3 m hm
    obtain ⟨m, rfl⟩ : ∃ m', m = m' + 1 := ⟨m - 1, by omega⟩
    show wX_run_2 post n (m + 1) (nI i) f_threads f_width f_window f_freeTop f_queued f_total a_op a_regsOf a_immOf a_sizeOf a_memory a_statusOf a_archPc a_retiredOf a_digestOf a_value a_ready a_free a_archMap a_map a_head a_count a_robPc a_robState a_robTimer a_robStop a_robDest a_robNew a_robOld a_robA a_robB a_robVal a_robAddr a_robNext a_robGuess a_robLive a_queue a_fetchPc a_fetchStop a_counter a_lastTarget a_active a_quota
    obtain ⟨hce, hd, ct, ow, cn, Z, ft, qn, J⟩ := (show (sk_IV nt wd wn ex sn goal r0 op rg im sz f_threads f_width f_window f_freeTop f_queued f_total a_op a_regsOf a_immOf a_sizeOf a_memory a_statusOf a_archPc a_retiredOf a_digestOf a_value a_ready a_free a_archMap a_map a_head a_count a_robPc a_robState a_robTimer a_robStop a_robDest a_robNew a_robOld a_robA a_robB a_robVal a_robAddr a_robNext a_robGuess a_robLive a_queue a_fetchPc a_fetchStop a_counter a_lastTarget a_active a_quota) from I)
    have R3' : a_retiredOf = rc0 := R3
    subst R3'
    have k5 := J.1.2.2.2.2.1
    refine br_t (by rw [J.1.1]; exact nI_le (by omega) (by omega)) ?_
    exact sk_w_cyc (show (sk_IV nt wd wn ex sn goal r0 op rg im sz f_threads f_width f_window f_freeTop f_queued f_total a_op a_regsOf a_immOf a_sizeOf a_memory a_statusOf a_archPc a_retiredOf a_digestOf a_value a_ready a_free a_archMap a_map a_head a_count a_robPc a_robState a_robTimer a_robStop a_robDest a_robNew a_robOld a_robA a_robB a_robVal a_robAddr a_robNext a_robGuess a_robLive a_queue a_fetchPc a_fetchStop a_counter a_lastTarget a_active a_quota) from I) (fun u' I' ha => K goal u' (fun x hx => R2 x (by omega)) I' ha)
  | succ d ih =>
    intro i hi goal u
    refine sk_el (P := fun u => sk_IU nt wd wn ex sn goal r0 op rg im sz u → (∀ x, i ≤ x → x < nt → sx_active u x = 0 ∧ goal x = E x) → (∀ x, x < i → goal x = sk_yn x (sn x) op rg im (sk_q n) (E x)) → sx_retiredOf u = rc0 → ∀ m, d + 1 < m → sk_ap (wX_run_2 post n m (nI i)) u) ?_ u
    intro f_threads f_width f_window f_freeTop f_queued f_total a_op a_regsOf a_immOf a_sizeOf a_memory a_statusOf a_archPc a_retiredOf a_digestOf a_value a_ready a_free a_archMap a_map a_head a_count a_robPc a_robState a_robTimer a_robStop a_robDest a_robNew a_robOld a_robA a_robB a_robVal a_robAddr a_robNext a_robGuess a_robLive a_queue a_fetchPc a_fetchStop a_counter a_lastTarget a_active a_quota I R1 R2 R3 m hm
    obtain ⟨m, rfl⟩ : ∃ m', m = m' + 1 := ⟨m - 1, by omega⟩
    show wX_run_2 post n (m + 1) (nI i) f_threads f_width f_window f_freeTop f_queued f_total a_op a_regsOf a_immOf a_sizeOf a_memory a_statusOf a_archPc a_retiredOf a_digestOf a_value a_ready a_free a_archMap a_map a_head a_count a_robPc a_robState a_robTimer a_robStop a_robDest a_robNew a_robOld a_robA a_robB a_robVal a_robAddr a_robNext a_robGuess a_robLive a_queue a_fetchPc a_fetchStop a_counter a_lastTarget a_active a_quota
    obtain ⟨hce, hd, ct, ow, cn, Z, ft, qn, J⟩ := (show (sk_IV nt wd wn ex sn goal r0 op rg im sz f_threads f_width f_window f_freeTop f_queued f_total a_op a_regsOf a_immOf a_sizeOf a_memory a_statusOf a_archPc a_retiredOf a_digestOf a_value a_ready a_free a_archMap a_map a_head a_count a_robPc a_robState a_robTimer a_robStop a_robDest a_robNew a_robOld a_robA a_robB a_robVal a_robAddr a_robNext a_robGuess a_robLive a_queue a_fetchPc a_fetchStop a_counter a_lastTarget a_active a_quota) from I)
    have k5 := J.1.2.2.2.2.1
    refine br_f (by rw [J.1.1]; exact nI_ge (by omega) (by omega)) ?_
    refine sk_w_begin (t := i) (by omega) (show (sk_IV nt wd wn ex sn goal r0 op rg im sz f_threads f_width f_window f_freeTop f_queued f_total a_op a_regsOf a_immOf a_sizeOf a_memory a_statusOf a_archPc a_retiredOf a_digestOf a_value a_ready a_free a_archMap a_map a_head a_count a_robPc a_robState a_robTimer a_robStop a_robDest a_robNew a_robOld a_robA a_robB a_robVal a_robAddr a_robNext a_robGuess a_robLive a_queue a_fetchPc a_fetchStop a_counter a_lastTarget a_active a_quota) from I) (R1 i (Nat.le_refl i) (by omega)).1 (fun u' I' ea er => ?_)
    show ∀ x, x = nI i + 1 → sk_ap (wX_run_2 post n m x) u'
    refine nm_r (nI_1 i) (ih (i + 1) (by omega) _ u' I' (fun x hx hxn => ?_) (fun x hx => ?_) (er.trans R3) m (by omega))
    · rw [ea x (by omega), if_neg (by omega)]
      exact R1 x (by omega) hxn
    · by_cases e : x = i
      · subst e
        rw [if_pos rfl, (R1 x (Nat.le_refl x) (by omega)).2]
      · rw [if_neg e]; exact R2 x (by omega)
end
end
section
/-! the relation between calls -/
def sk_ID (nt wd wn ex : Nat) (sn hd : Nat → Nat) (pm : Nat → Nat → Nat) (ow : Nat → Nat) (f_threads f_width f_window f_freeTop f_queued f_total : Int32) (a_op a_regsOf a_immOf a_sizeOf a_memory a_statusOf a_archPc a_retiredOf a_digestOf a_value a_ready a_free a_archMap a_map a_head a_count a_robPc a_robState a_robTimer a_robStop a_robDest a_robNew a_robOld a_robA a_robB a_robVal a_robAddr a_robNext a_robGuess a_robLive a_queue a_fetchPc a_fetchStop a_counter a_lastTarget a_active a_quota : Nat → Int32) (y_threads : Int32) (y_ops y_regs y_imms y_sizes y_r y_m y_pcs y_states y_counts y_digests : Nat → Int32) : Prop :=
  (sk_KK nt wd wn sn f_threads f_width f_window a_op a_sizeOf) ∧ (a_op = y_ops ∧ a_regsOf = y_regs ∧ a_immOf = y_imms ∧ a_sizeOf = y_sizes ∧ y_threads = nI nt) ∧
  (f_freeTop = nI ex ∧ 2 ≤ ex ∧ ex ≤ 24 ∧ f_queued = nI 0) ∧
  (∀ t, t < nt → a_head t = nI (hd t) ∧ hd t < 12 ∧ a_count t = nI 0 ∧ a_active t = 0) ∧
  (∀ s, s < 48 → a_robLive s = 0) ∧
  (∀ t j, t < nt → j < 8 → a_archMap (t * 8 + j) = nI (pm t j) ∧ a_map (t * 8 + j) = nI (pm t j) ∧ pm t j < 56 ∧ a_ready (pm t j) ≠ 0 ∧ ow (pm t j) = t * 8 + j ∧ a_value (pm t j) = y_r (t * 8 + j)) ∧
  (∀ i, i < ex → ∃ p, p < 56 ∧ a_free i = nI p ∧ ow p = 80 + i) ∧
  (∀ t a, t < nt → a < 16 → a_memory (t * 16 + a) = y_m (t * 16 + a)) ∧
  (∀ t, t < nt → a_archPc t = y_pcs t ∧ a_statusOf t = y_states t ∧ a_retiredOf t = y_counts t ∧ a_digestOf t = y_digests t)
/-- the relation at the head of a turn -/
def i_Rel (k : Nat) (u : SX) (v : SY) : Prop := ∃ (nt wd wn ex : Nat) (sn hd : Nat → Nat) (pm : Nat → Nat → Nat) (ow : Nat → Nat), sk_ID nt wd wn ex sn hd pm ow u.1 u.2.1 u.2.2.1 u.2.2.2.1 u.2.2.2.2.1 u.2.2.2.2.2.1 u.2.2.2.2.2.2.1 u.2.2.2.2.2.2.2.1 u.2.2.2.2.2.2.2.2.1 u.2.2.2.2.2.2.2.2.2.1 u.2.2.2.2.2.2.2.2.2.2.1 u.2.2.2.2.2.2.2.2.2.2.2.1 u.2.2.2.2.2.2.2.2.2.2.2.2.1 u.2.2.2.2.2.2.2.2.2.2.2.2.2.1 u.2.2.2.2.2.2.2.2.2.2.2.2.2.2.1 u.2.2.2.2.2.2.2.2.2.2.2.2.2.2.2.1 u.2.2.2.2.2.2.2.2.2.2.2.2.2.2.2.2.1 u.2.2.2.2.2.2.2.2.2.2.2.2.2.2.2.2.2.1 u.2.2.2.2.2.2.2.2.2.2.2.2.2.2.2.2.2.2.1 u.2.2.2.2.2.2.2.2.2.2.2.2.2.2.2.2.2.2.2.1 u.2.2.2.2.2.2.2.2.2.2.2.2.2.2.2.2.2.2.2.2.1 u.2.2.2.2.2.2.2.2.2.2.2.2.2.2.2.2.2.2.2.2.2.1 u.2.2.2.2.2.2.2.2.2.2.2.2.2.2.2.2.2.2.2.2.2.2.1 u.2.2.2.2.2.2.2.2.2.2.2.2.2.2.2.2.2.2.2.2.2.2.2.1 u.2.2.2.2.2.2.2.2.2.2.2.2.2.2.2.2.2.2.2.2.2.2.2.2.1 u.2.2.2.2.2.2.2.2.2.2.2.2.2.2.2.2.2.2.2.2.2.2.2.2.2.1 u.2.2.2.2.2.2.2.2.2.2.2.2.2.2.2.2.2.2.2.2.2.2.2.2.2.2.1 u.2.2.2.2.2.2.2.2.2.2.2.2.2.2.2.2.2.2.2.2.2.2.2.2.2.2.2.1 u.2.2.2.2.2.2.2.2.2.2.2.2.2.2.2.2.2.2.2.2.2.2.2.2.2.2.2.2.1 u.2.2.2.2.2.2.2.2.2.2.2.2.2.2.2.2.2.2.2.2.2.2.2.2.2.2.2.2.2.1 u.2.2.2.2.2.2.2.2.2.2.2.2.2.2.2.2.2.2.2.2.2.2.2.2.2.2.2.2.2.2.1 u.2.2.2.2.2.2.2.2.2.2.2.2.2.2.2.2.2.2.2.2.2.2.2.2.2.2.2.2.2.2.2.1 u.2.2.2.2.2.2.2.2.2.2.2.2.2.2.2.2.2.2.2.2.2.2.2.2.2.2.2.2.2.2.2.2.1 u.2.2.2.2.2.2.2.2.2.2.2.2.2.2.2.2.2.2.2.2.2.2.2.2.2.2.2.2.2.2.2.2.2.1 u.2.2.2.2.2.2.2.2.2.2.2.2.2.2.2.2.2.2.2.2.2.2.2.2.2.2.2.2.2.2.2.2.2.2.1 u.2.2.2.2.2.2.2.2.2.2.2.2.2.2.2.2.2.2.2.2.2.2.2.2.2.2.2.2.2.2.2.2.2.2.2.1 u.2.2.2.2.2.2.2.2.2.2.2.2.2.2.2.2.2.2.2.2.2.2.2.2.2.2.2.2.2.2.2.2.2.2.2.2.1 u.2.2.2.2.2.2.2.2.2.2.2.2.2.2.2.2.2.2.2.2.2.2.2.2.2.2.2.2.2.2.2.2.2.2.2.2.2.1 u.2.2.2.2.2.2.2.2.2.2.2.2.2.2.2.2.2.2.2.2.2.2.2.2.2.2.2.2.2.2.2.2.2.2.2.2.2.2.1 u.2.2.2.2.2.2.2.2.2.2.2.2.2.2.2.2.2.2.2.2.2.2.2.2.2.2.2.2.2.2.2.2.2.2.2.2.2.2.2.1 u.2.2.2.2.2.2.2.2.2.2.2.2.2.2.2.2.2.2.2.2.2.2.2.2.2.2.2.2.2.2.2.2.2.2.2.2.2.2.2.2.1 u.2.2.2.2.2.2.2.2.2.2.2.2.2.2.2.2.2.2.2.2.2.2.2.2.2.2.2.2.2.2.2.2.2.2.2.2.2.2.2.2.2.1 u.2.2.2.2.2.2.2.2.2.2.2.2.2.2.2.2.2.2.2.2.2.2.2.2.2.2.2.2.2.2.2.2.2.2.2.2.2.2.2.2.2.2 v.1 v.2.1 v.2.2.1 v.2.2.2.1 v.2.2.2.2.1 v.2.2.2.2.2.1 v.2.2.2.2.2.2.1 v.2.2.2.2.2.2.2.1 v.2.2.2.2.2.2.2.2.1 v.2.2.2.2.2.2.2.2.2.1 v.2.2.2.2.2.2.2.2.2.2
theorem i_up {k : Nat} {u : SX} {v : SY} (h : i_Rel k u v) : i_Rel (k + 5) u v := h
section
theorem sk_rel_el {k : Nat} {Q : SX → SY → Prop} (h : ∀ (f_threads f_width f_window f_freeTop f_queued f_total : Int32) (a_op a_regsOf a_immOf a_sizeOf a_memory a_statusOf a_archPc a_retiredOf a_digestOf a_value a_ready a_free a_archMap a_map a_head a_count a_robPc a_robState a_robTimer a_robStop a_robDest a_robNew a_robOld a_robA a_robB a_robVal a_robAddr a_robNext a_robGuess a_robLive a_queue a_fetchPc a_fetchStop a_counter a_lastTarget a_active a_quota : Nat → Int32) (y_threads : Int32) (y_r y_m y_pcs y_states y_counts y_digests : Nat → Int32) (nt wd wn ex : Nat) (sn hd : Nat → Nat) (pm : Nat → Nat → Nat) (ow : Nat → Nat),
      (sk_ID nt wd wn ex sn hd pm ow f_threads f_width f_window f_freeTop f_queued f_total a_op a_regsOf a_immOf a_sizeOf a_memory a_statusOf a_archPc a_retiredOf a_digestOf a_value a_ready a_free a_archMap a_map a_head a_count a_robPc a_robState a_robTimer a_robStop a_robDest a_robNew a_robOld a_robA a_robB a_robVal a_robAddr a_robNext a_robGuess a_robLive a_queue a_fetchPc a_fetchStop a_counter a_lastTarget a_active a_quota y_threads a_op a_regsOf a_immOf a_sizeOf y_r y_m y_pcs y_states y_counts y_digests) → Q (f_threads, f_width, f_window, f_freeTop, f_queued, f_total, a_op, a_regsOf, a_immOf, a_sizeOf, a_memory, a_statusOf, a_archPc, a_retiredOf, a_digestOf, a_value, a_ready, a_free, a_archMap, a_map, a_head, a_count, a_robPc, a_robState, a_robTimer, a_robStop, a_robDest, a_robNew, a_robOld, a_robA, a_robB, a_robVal, a_robAddr, a_robNext, a_robGuess, a_robLive, a_queue, a_fetchPc, a_fetchStop, a_counter, a_lastTarget, a_active, a_quota) (y_threads, a_op, a_regsOf, a_immOf, a_sizeOf, y_r, y_m, y_pcs, y_states, y_counts, y_digests)) {u : SX} {v : SY} (I : i_Rel k u v) : Q u v := by
  revert I
  refine sk_el (P := fun u => i_Rel k u v → Q u v) ?_ u
  intro f_threads f_width f_window f_freeTop f_queued f_total a_op a_regsOf a_immOf a_sizeOf a_memory a_statusOf a_archPc a_retiredOf a_digestOf a_value a_ready a_free a_archMap a_map a_head a_count a_robPc a_robState a_robTimer a_robStop a_robDest a_robNew a_robOld a_robA a_robB a_robVal a_robAddr a_robNext a_robGuess a_robLive a_queue a_fetchPc a_fetchStop a_counter a_lastTarget a_active a_quota
  refine sk_ely (P := fun v => i_Rel k (f_threads, f_width, f_window, f_freeTop, f_queued, f_total, a_op, a_regsOf, a_immOf, a_sizeOf, a_memory, a_statusOf, a_archPc, a_retiredOf, a_digestOf, a_value, a_ready, a_free, a_archMap, a_map, a_head, a_count, a_robPc, a_robState, a_robTimer, a_robStop, a_robDest, a_robNew, a_robOld, a_robA, a_robB, a_robVal, a_robAddr, a_robNext, a_robGuess, a_robLive, a_queue, a_fetchPc, a_fetchStop, a_counter, a_lastTarget, a_active, a_quota) v → Q (f_threads, f_width, f_window, f_freeTop, f_queued, f_total, a_op, a_regsOf, a_immOf, a_sizeOf, a_memory, a_statusOf, a_archPc, a_retiredOf, a_digestOf, a_value, a_ready, a_free, a_archMap, a_map, a_head, a_count, a_robPc, a_robState, a_robTimer, a_robStop, a_robDest, a_robNew, a_robOld, a_robA, a_robB, a_robVal, a_robAddr, a_robNext, a_robGuess, a_robLive, a_queue, a_fetchPc, a_fetchStop, a_counter, a_lastTarget, a_active, a_quota) v) ?_ v
  intro y_threads y_ops y_regs y_imms y_sizes y_r y_m y_pcs y_states y_counts y_digests I
  obtain ⟨nt, wd, wn, ex, sn, hd, pm, ow, J⟩ := I
  have J' : (sk_ID nt wd wn ex sn hd pm ow f_threads f_width f_window f_freeTop f_queued f_total a_op a_regsOf a_immOf a_sizeOf a_memory a_statusOf a_archPc a_retiredOf a_digestOf a_value a_ready a_free a_archMap a_map a_head a_count a_robPc a_robState a_robTimer a_robStop a_robDest a_robNew a_robOld a_robA a_robB a_robVal a_robAddr a_robNext a_robGuess a_robLive a_queue a_fetchPc a_fetchStop a_counter a_lastTarget a_active a_quota y_threads y_ops y_regs y_imms y_sizes y_r y_m y_pcs y_states y_counts y_digests) := J
  obtain ⟨e1, e2, e3, e4, e5⟩ := J'.2.1
  subst e1 e2 e3 e4
  exact h f_threads f_width f_window f_freeTop f_queued f_total a_op a_regsOf a_immOf a_sizeOf a_memory a_statusOf a_archPc a_retiredOf a_digestOf a_value a_ready a_free a_archMap a_map a_head a_count a_robPc a_robState a_robTimer a_robStop a_robDest a_robNew a_robOld a_robA a_robB a_robVal a_robAddr a_robNext a_robGuess a_robLive a_queue a_fetchPc a_fetchStop a_counter a_lastTarget a_active a_quota y_threads y_r y_m y_pcs y_states y_counts y_digests nt wd wn ex sn hd pm ow J'
end
section
variable {f_threads f_width f_window f_freeTop f_queued f_total : Int32} {a_op a_regsOf a_immOf a_sizeOf a_memory a_statusOf a_archPc a_retiredOf a_digestOf a_value a_ready a_free a_archMap a_map a_head a_count a_robPc a_robState a_robTimer a_robStop a_robDest a_robNew a_robOld a_robA a_robB a_robVal a_robAddr a_robNext a_robGuess a_robLive a_queue a_fetchPc a_fetchStop a_counter a_lastTarget a_active a_quota : Nat → Int32} {y_threads : Int32} {y_r y_m y_pcs y_states y_counts y_digests : Nat → Int32} {nt wd wn ex : Nat} {sn hd : Nat → Nat} {pm : Nat → Nat → Nat} {ow : Nat → Nat}
/-- an idle core, as the runs see it -/
theorem sk_ID_IV (J : (sk_ID nt wd wn ex sn hd pm ow f_threads f_width f_window f_freeTop f_queued f_total a_op a_regsOf a_immOf a_sizeOf a_memory a_statusOf a_archPc a_retiredOf a_digestOf a_value a_ready a_free a_archMap a_map a_head a_count a_robPc a_robState a_robTimer a_robStop a_robDest a_robNew a_robOld a_robA a_robB a_robVal a_robAddr a_robNext a_robGuess a_robLive a_queue a_fetchPc a_fetchStop a_counter a_lastTarget a_active a_quota y_threads a_op a_regsOf a_immOf a_sizeOf y_r y_m y_pcs y_states y_counts y_digests)) :
    ∃ r0, (sk_IV nt wd wn ex sn (sk_ty y_r y_m y_pcs y_states y_counts y_digests) r0 a_op a_regsOf a_immOf a_sizeOf f_threads f_width f_window f_freeTop f_queued f_total a_op a_regsOf a_immOf a_sizeOf a_memory a_statusOf a_archPc a_retiredOf a_digestOf a_value a_ready a_free a_archMap a_map a_head a_count a_robPc a_robState a_robTimer a_robStop a_robDest a_robNew a_robOld a_robA a_robB a_robVal a_robAddr a_robNext a_robGuess a_robLive a_queue a_fetchPc a_fetchStop a_counter a_lastTarget a_active a_quota) := by
  obtain ⟨hK, hE, hF, hH, hL, hM, hFr, hMe, hA⟩ := J
  have hK' := hK
  obtain ⟨k1, k2, k3, k4, k5, k6, k7, k8, k9, k10, k11⟩ := hK
  refine ⟨fun t => if t = 0 then a_retiredOf 0 - f_total else a_retiredOf t, ⟨rfl, rfl, rfl, rfl⟩, hd, fun _ => 0, ow, a_value, fun t _ => (pm t, sk_mk 8 y_r t, sk_mk 16 y_m t), ex, 0, hK', ⟨?_, ?_, ?_, ?_, ?_, ?_, ?_⟩, hF.2.2.2, ?_, ?_, ?_, ?_, ?_, ?_, ?_⟩
  · refine ⟨fun t ht => ?_, fun t k _ hk => absurd hk (Nat.not_lt_zero k), fun s hs hl => absurd (hL s hs) hl, fun _ _ => rfl, k5⟩
    have w := hH t ht
    exact ⟨w.1, w.2.1, w.2.2.1, Nat.zero_le 12⟩
  · exact ⟨fun t ht => (k11 t ht).2, fun t k _ hk => absurd hk (Nat.not_lt_zero k)⟩
  · intro t ht
    refine ⟨fun j hj => ⟨(hM t j ht hj).1, (hM t j ht hj).2.1⟩, fun a ha => ?_⟩
    show a_memory (t * 16 + a) = sk_mk 16 y_m t a
    rw [sk_mk_at ha]; exact hMe t a ht ha
  · intro t k j ht _ hj
    have w := hM t j ht hj
    have e : sk_mk 8 y_r t j = y_r (t * 8 + j) := sk_mk_at hj
    dsimp only
    rw [e]
    exact ⟨w.2.2.1, w.2.2.2.2.2, fun _ => w.2.2.2.2.2⟩
  · exact ⟨fun t j ht hj => (hM t j ht hj).2.2.2.1, fun t k _ hk => absurd hk (Nat.not_lt_zero k)⟩
  · exact ⟨fun t j ht hj => (hM t j ht hj).2.2.2.2.1, fun t k _ hk => absurd hk (Nat.not_lt_zero k), hFr⟩
  · refine ⟨hF.1, ?_, hF.2.1, hF.2.2.1⟩
    show ex + (0 + 0 + 0 + 0) = ex
    omega
  · exact ⟨by omega, fun i hi => absurd hi (Nat.not_lt_zero i), fun i j hi => absurd hi (Nat.not_lt_zero i), fun t k _ hk => absurd hk (Nat.not_lt_zero k)⟩
  · exact fun i hi => absurd hi (Nat.not_lt_zero i)
  · exact fun t ht => ⟨fun h0 => absurd h0 (Nat.lt_irrefl 0), fun k hk => absurd hk (Nat.not_lt_zero _)⟩
  · exact fun t ht ha => absurd (hH t ht).2.2.2 ha
  · intro t ht
    refine ⟨fun z => absurd (hH t ht).2.2.2 z, fun _ => ⟨rfl, ?_⟩⟩
    obtain ⟨a, b, c, d⟩ := hA t ht
    rw [a, b, c, d]; rfl
  · unfold sk_4i
    dsimp only
    rw [if_pos rfl, if_neg (by omega), if_neg (by omega), if_neg (by omega), Int32.sub_self, Int32.sub_self, Int32.sub_self]
    grind
  · intro t ht
    dsimp only
    rw [if_neg (by omega)]
/-- and back -/
theorem sk_IV_ID {r0 op rg im sz : Nat → Int32} (I : (sk_IV nt wd wn ex sn (sk_ty y_r y_m y_pcs y_states y_counts y_digests) r0 op rg im sz f_threads f_width f_window f_freeTop f_queued f_total a_op a_regsOf a_immOf a_sizeOf a_memory a_statusOf a_archPc a_retiredOf a_digestOf a_value a_ready a_free a_archMap a_map a_head a_count a_robPc a_robState a_robTimer a_robStop a_robDest a_robNew a_robOld a_robA a_robB a_robVal a_robAddr a_robNext a_robGuess a_robLive a_queue a_fetchPc a_fetchStop a_counter a_lastTarget a_active a_quota)) (ha : ∀ t, t < nt → a_active t = 0) (hT : y_threads = nI nt) :
    ∃ (hd : Nat → Nat) (pm : Nat → Nat → Nat) (ow : Nat → Nat), (sk_ID nt wd wn ex sn hd pm ow f_threads f_width f_window f_freeTop f_queued f_total a_op a_regsOf a_immOf a_sizeOf a_memory a_statusOf a_archPc a_retiredOf a_digestOf a_value a_ready a_free a_archMap a_map a_head a_count a_robPc a_robState a_robTimer a_robStop a_robDest a_robNew a_robOld a_robA a_robB a_robVal a_robAddr a_robNext a_robGuess a_robLive a_queue a_fetchPc a_fetchStop a_counter a_lastTarget a_active a_quota y_threads op rg im sz y_r y_m y_pcs y_states y_counts y_digests) := by
  obtain ⟨hce, hd, ct, ow, cn, Z, ft, qn, hK, IB, hfq, Q, QQ, hA, hB, hY, hT2⟩ := I
  have c0 : ∀ t, t < nt → ct t = 0 := fun t ht => ((hY t ht).2 (ha t ht)).1
  have g : ∀ t, t < nt → sk_ty y_r y_m y_pcs y_states y_counts y_digests t = ((Z t 0).2.1, (Z t 0).2.2, a_archPc t, a_statusOf t, a_retiredOf t, a_digestOf t) := fun t ht => ((hY t ht).2 (ha t ht)).2.symm
  have q0 : qn = 0 := by
    rcases Nat.eq_zero_or_pos qn with z | z
    · exact z
    · obtain ⟨y, k, hy, hk, _⟩ := QQ 0 z
      rw [c0 y hy] at hk; omega
  have z : ∀ y, ct y = 0 := by
    intro y
    by_cases hy : y < nt
    · exact c0 y hy
    · exact IB.1.2.2.2.1 y (by omega)
  have f0 : ft = ex := by
    have w : sk_4 (fun t => sk_c (fun k => a_robDest (sk_s hd t k)) (ct t)) = 0 := by
      unfold sk_4
      dsimp only
      rw [z 0, z 1, z 2, z 3]
      rfl
    have n2 := IB.2.2.2.2.2.2.2.1
    omega
  have nd := IB.2.2.2.2.2.2
  refine ⟨hd, fun t => (Z t 0).1, ow, hK, ⟨hce.1, hce.2.1, hce.2.2.1, hce.2.2.2, hT⟩, ⟨by rw [nd.1, f0], nd.2.2.1, nd.2.2.2, by rw [hfq, q0]⟩, ?_, ?_, ?_, ?_, ?_, ?_⟩
  · intro t ht
    have w := IB.1.1 t ht
    exact ⟨w.1, w.2.1, by rw [w.2.2.1, c0 t ht], ha t ht⟩
  · intro s hs
    apply Classical.byContradiction
    intro hl
    obtain ⟨t, k, ht, hk, _⟩ := IB.1.2.2.1 s hs hl
    rw [c0 t ht] at hk; omega
  · intro t j ht hj
    have w := (IB.2.2.1 t ht).1 j hj
    have v := IB.2.2.2.1 t 0 j ht (by omega) hj
    have r := IB.2.2.2.2.1.1 t j ht hj
    rw [c0 t ht] at w
    refine ⟨w.1, w.2, v.1, r, IB.2.2.2.2.2.1.1 t j ht hj, ?_⟩
    rw [v.2.2 r]
    have e : sk_mk 8 y_r t = (Z t 0).2.1 := congrArg (fun y => y.1) (g t ht)
    rw [← e, sk_mk_at hj]
  · intro i hi
    exact IB.2.2.2.2.2.1.2.2 i (by omega)
  · intro t a ht hat
    rw [(IB.2.2.1 t ht).2 a hat]
    have e : sk_mk 16 y_m t = (Z t 0).2.2 := congrArg (fun y => y.2.1) (g t ht)
    rw [← e, sk_mk_at hat]
  · intro t ht
    have e := g t ht
    exact ⟨(congrArg (fun y => y.2.2.1) e).symm, (congrArg (fun y => y.2.2.2.1) e).symm, (congrArg (fun y => y.2.2.2.2.1) e).symm, (congrArg (fun y => y.2.2.2.2.2) e).symm⟩
end
end
section
/-! run, runOne -/
theorem sk_ps_eq {f g : Nat → Int32} : ∀ n, (∀ t, t < n → f t = g t) → sk_ps f n = sk_ps g n := by
  intro n
  induction n with
  | zero => intro _; rfl
  | succ n ih =>
    intro h
    show sk_ps f n + f n = sk_ps g n + g n
    rw [ih (fun t ht => h t (by omega)), h n (by omega)]
theorem sk_ps_0 {f : Nat → Int32} : ∀ n, (∀ t, t < n → f t = 0) → sk_ps f n = 0 := by
  intro n
  induction n with
  | zero => intro _; rfl
  | succ n ih =>
    intro h
    show sk_ps f n + f n = 0
    rw [ih (fun t ht => h t (by omega)), h n (by omega)]; rfl
theorem sk_ps_1 {f : Nat → Int32} {t : Nat} : ∀ n, t < n → (∀ x, x < n → x ≠ t → f x = 0) → sk_ps f n = f t := by
  intro n
  induction n with
  | zero => intro h; omega
  | succ n ih =>
    intro ht h
    show sk_ps f n + f n = f t
    by_cases e : t = n
    · subst e
      rw [sk_ps_0 t (fun x hx => h x (by omega) (by omega)), Int32.zero_add]
    · rw [ih (by omega) (fun x hx => h x (by omega)), h n (by omega) (by omega), Int32.add_zero]
section
variable {nt wd wn ex : Nat} {sn : Nat → Nat} {goal : Nat → sk_Y} {r0 op rg im sz : Nat → Int32}
theorem sk_tot {u : SX} (I : sk_IU nt wd wn ex sn goal r0 op rg im sz u) (ha : ∀ x, x < nt → sx_active u x = 0) : sx_total u = sk_ps (fun t => (goal t).2.2.2.2.1 - r0 t) nt := by
  revert I ha
  refine sk_el (P := fun u => sk_IU nt wd wn ex sn goal r0 op rg im sz u → (∀ x, x < nt → sx_active u x = 0) → sx_total u = sk_ps (fun t => (goal t).2.2.2.2.1 - r0 t) nt) ?_ u
  intro f_threads f_width f_window f_freeTop f_queued f_total a_op a_regsOf a_immOf a_sizeOf a_memory a_statusOf a_archPc a_retiredOf a_digestOf a_value a_ready a_free a_archMap a_map a_head a_count a_robPc a_robState a_robTimer a_robStop a_robDest a_robNew a_robOld a_robA a_robB a_robVal a_robAddr a_robNext a_robGuess a_robLive a_queue a_fetchPc a_fetchStop a_counter a_lastTarget a_active a_quota I ha
  obtain ⟨hce, hd, ct, ow, cn, Z, ft, qn, hK, IB, hfq, Q, QQ, hA, hB, hY, hT⟩ := (show (sk_IV nt wd wn ex sn goal r0 op rg im sz f_threads f_width f_window f_freeTop f_queued f_total a_op a_regsOf a_immOf a_sizeOf a_memory a_statusOf a_archPc a_retiredOf a_digestOf a_value a_ready a_free a_archMap a_map a_head a_count a_robPc a_robState a_robTimer a_robStop a_robDest a_robNew a_robOld a_robA a_robB a_robVal a_robAddr a_robNext a_robGuess a_robLive a_queue a_fetchPc a_fetchStop a_counter a_lastTarget a_active a_quota) from I)
  show f_total = _
  rw [hT.1, sk_ps4 hK.2.2.2.1 hK.2.2.2.2.1 (fun t ht => by rw [hT.2 t ht, Int32.sub_self])]
  apply sk_ps_eq
  intro t ht
  have e := ((hY t ht).2 (ha t ht)).2
  rw [← e]
theorem sk_IU_rel {k : Nat} {u : SX} {y_r y_m y_pcs y_states y_counts y_digests : Nat → Int32} {y_threads : Int32} (I : sk_IU nt wd wn ex sn goal r0 op rg im sz u) (ha : ∀ x, x < nt → sx_active u x = 0)
    (hg : ∀ t, t < nt → goal t = sk_ty y_r y_m y_pcs y_states y_counts y_digests t) (hT : y_threads = nI nt) : i_Rel k u (y_threads, op, rg, im, sz, y_r, y_m, y_pcs, y_states, y_counts, y_digests) := by
  revert I ha
  refine sk_el (P := fun u => sk_IU nt wd wn ex sn goal r0 op rg im sz u → (∀ x, x < nt → sx_active u x = 0) → i_Rel k u (y_threads, op, rg, im, sz, y_r, y_m, y_pcs, y_states, y_counts, y_digests)) ?_ u
  intro f_threads f_width f_window f_freeTop f_queued f_total a_op a_regsOf a_immOf a_sizeOf a_memory a_statusOf a_archPc a_retiredOf a_digestOf a_value a_ready a_free a_archMap a_map a_head a_count a_robPc a_robState a_robTimer a_robStop a_robDest a_robNew a_robOld a_robA a_robB a_robVal a_robAddr a_robNext a_robGuess a_robLive a_queue a_fetchPc a_fetchStop a_counter a_lastTarget a_active a_quota I ha
  obtain ⟨hd, pm, ow, J⟩ := sk_IV_ID (sk_IV_g hg (show (sk_IV nt wd wn ex sn goal r0 op rg im sz f_threads f_width f_window f_freeTop f_queued f_total a_op a_regsOf a_immOf a_sizeOf a_memory a_statusOf a_archPc a_retiredOf a_digestOf a_value a_ready a_free a_archMap a_map a_head a_count a_robPc a_robState a_robTimer a_robStop a_robDest a_robNew a_robOld a_robA a_robB a_robVal a_robAddr a_robNext a_robGuess a_robLive a_queue a_fetchPc a_fetchStop a_counter a_lastTarget a_active a_quota) from I)) ha hT
  exact ⟨nt, wd, wn, ex, sn, hd, pm, ow, J⟩
theorem sk_w_cycu {post : Int32 → SX → Prop} {u : SX} (I : sk_IU nt wd wn ex sn goal r0 op rg im sz u) (K : ∀ u', sk_IU nt wd wn ex sn goal (sx_retiredOf u) op rg im sz u' → (∀ x, x < nt → sx_active u' x = 0) → post (sx_total u') u') : wpX_cycles post u := by
  revert I K
  refine sk_el (P := fun u => sk_IU nt wd wn ex sn goal r0 op rg im sz u → (∀ u', sk_IU nt wd wn ex sn goal (sx_retiredOf u) op rg im sz u' → (∀ x, x < nt → sx_active u' x = 0) → post (sx_total u') u') → wpX_cycles post u) ?_ u
  intro f_threads f_width f_window f_freeTop f_queued f_total a_op a_regsOf a_immOf a_sizeOf a_memory a_statusOf a_archPc a_retiredOf a_digestOf a_value a_ready a_free a_archMap a_map a_head a_count a_robPc a_robState a_robTimer a_robStop a_robDest a_robNew a_robOld a_robA a_robB a_robVal a_robAddr a_robNext a_robGuess a_robLive a_queue a_fetchPc a_fetchStop a_counter a_lastTarget a_active a_quota I K
  exact sk_w_cyc (show (sk_IV nt wd wn ex sn goal r0 op rg im sz f_threads f_width f_window f_freeTop f_queued f_total a_op a_regsOf a_immOf a_sizeOf a_memory a_statusOf a_archPc a_retiredOf a_digestOf a_value a_ready a_free a_archMap a_map a_head a_count a_robPc a_robState a_robTimer a_robStop a_robDest a_robNew a_robOld a_robA a_robB a_robVal a_robAddr a_robNext a_robGuess a_robLive a_queue a_fetchPc a_fetchStop a_counter a_lastTarget a_active a_quota) from I) K
end
theorem i_vc_run {k : Nat} {u : SX} {v : SY} (I : i_Rel k u v) (hk : k + 5 ≤ 2564) (v1 : Int32) : wpX_run (fun r u' => wpY_run (fun r' v' => r' = r ∧ i_Rel (k + 5) u' v') v v1) u v1 := by
  refine sk_rel_el (Q := fun u v => wpX_run (fun r u' => wpY_run (fun r' v' => r' = r ∧ i_Rel (k + 5) u' v') v v1) u v1) ?_ I
  intro f_threads f_width f_window f_freeTop f_queued f_total a_op a_regsOf a_immOf a_sizeOf a_memory a_statusOf a_archPc a_retiredOf a_digestOf a_value a_ready a_free a_archMap a_map a_head a_count a_robPc a_robState a_robTimer a_robStop a_robDest a_robNew a_robOld a_robA a_robB a_robVal a_robAddr a_robNext a_robGuess a_robLive a_queue a_fetchPc a_fetchStop a_counter a_lastTarget a_active a_quota y_threads y_r y_m y_pcs y_states y_counts y_digests nt wd wn ex sn hd pm ow J
  obtain ⟨r0, hI⟩ := sk_ID_IV J
  obtain ⟨hK, hE, hF, hH, hL, hM, hFr, hMe, hA⟩ := J
  obtain ⟨k1, k2, k3, k4, k5, k6, k7, k8, k9, k10, k11⟩ := hK
  refine ⟨nt + 1, sk_w_run2 (E := sk_ty y_r y_m y_pcs y_states y_counts y_digests) (rc0 := a_retiredOf) (n := v1) ?_ nt 0 (by omega) (sk_ty y_r y_m y_pcs y_states y_counts y_digests) (f_threads, f_width, f_window, f_freeTop, f_queued, f_total, a_op, a_regsOf, a_immOf, a_sizeOf, a_memory, a_statusOf, a_archPc, a_retiredOf, a_digestOf, a_value, a_ready, a_free, a_archMap, a_map, a_head, a_count, a_robPc, a_robState, a_robTimer, a_robStop, a_robDest, a_robNew, a_robOld, a_robA, a_robB, a_robVal, a_robAddr, a_robNext, a_robGuess, a_robLive, a_queue, a_fetchPc, a_fetchStop, a_counter, a_lastTarget, a_active, a_quota) hI (fun x _ hx => ⟨(hH x hx).2.2.2, rfl⟩) (fun x hx => absurd hx (Nat.not_lt_zero x)) rfl (nt + 1) (by omega)⟩
  intro G u' hG I' ha
  refine ⟨nt + 1, sk_y_run4 (E := sk_ty y_r y_m y_pcs y_states y_counts y_digests) (c0 := y_counts) k5 hE.2.2.2.2 k11 (fun _ => rfl) ?_ nt 0 (by omega) y_r y_m y_pcs y_states y_counts y_digests (fun t ht => absurd ht (Nat.not_lt_zero t)) (fun _ _ => rfl) (nt + 1) (by omega)⟩
  intro r' m' pcs' sts' cts' dgs' hy
  refine ⟨?_, sk_IU_rel I' ha (fun t ht => by rw [hG t ht, hy t ht]) hE.2.2.2.2⟩
  rw [sk_tot I' ha]
  apply sk_ps_eq
  intro t ht
  rw [hG t ht, (hA t ht).2.2.1]
/-! which thread -/
section
variable {f_threads f_width f_window f_freeTop f_queued f_total : Int32} {a_op a_regsOf a_immOf a_sizeOf a_memory a_statusOf a_archPc a_retiredOf a_digestOf a_value a_ready a_free a_archMap a_map a_head a_count a_robPc a_robState a_robTimer a_robStop a_robDest a_robNew a_robOld a_robA a_robB a_robVal a_robAddr a_robNext a_robGuess a_robLive a_queue a_fetchPc a_fetchStop a_counter a_lastTarget a_active a_quota : Nat → Int32} {y_threads : Int32} {y_ops y_regs y_imms y_sizes y_r y_m y_pcs y_states y_counts y_digests : Nat → Int32} {nt : Nat} {p0 : Int32}
theorem sk_gX0 {post : Int32 → Prop} (hT : f_threads = nI nt) (h : p0 < 0 ∨ nI nt ≤ p0) (K : post 0) : wpX_good post (f_threads, f_width, f_window, f_freeTop, f_queued, f_total, a_op, a_regsOf, a_immOf, a_sizeOf, a_memory, a_statusOf, a_archPc, a_retiredOf, a_digestOf, a_value, a_ready, a_free, a_archMap, a_map, a_head, a_count, a_robPc, a_robState, a_robTimer, a_robStop, a_robDest, a_robNew, a_robOld, a_robA, a_robB, a_robVal, a_robAddr, a_robNext, a_robGuess, a_robLive, a_queue, a_fetchPc, a_fetchStop, a_counter, a_lastTarget, a_active, a_quota) p0 := by
  refine br_c (fun _ => K) (fun h0 => ?_)
  exact br_t (by rw [hT]; exact h.elim (fun z => absurd z h0) id) K
theorem sk_gX1 {post : Int32 → Prop} {t : Nat} (hT : f_threads = nI nt) (h4 : nt ≤ 4) (ht : t < nt) (K : post 1) : wpX_good post (f_threads, f_width, f_window, f_freeTop, f_queued, f_total, a_op, a_regsOf, a_immOf, a_sizeOf, a_memory, a_statusOf, a_archPc, a_retiredOf, a_digestOf, a_value, a_ready, a_free, a_archMap, a_map, a_head, a_count, a_robPc, a_robState, a_robTimer, a_robStop, a_robDest, a_robNew, a_robOld, a_robA, a_robB, a_robVal, a_robAddr, a_robNext, a_robGuess, a_robLive, a_queue, a_fetchPc, a_fetchStop, a_counter, a_lastTarget, a_active, a_quota) (nI t) :=
  br_f (nI_pos (by omega)) (br_f (by rw [hT]; exact nI_ge ht (by omega)) K)
theorem sk_gY0 {post : Int32 → Prop} (hT : y_threads = nI nt) (h : p0 < 0 ∨ nI nt ≤ p0) (K : post 0) : wpY_good post (y_threads, y_ops, y_regs, y_imms, y_sizes, y_r, y_m, y_pcs, y_states, y_counts, y_digests) p0 := by
  refine br_c (fun _ => K) (fun h0 => ?_)
  exact br_t (by rw [hT]; exact h.elim (fun z => absurd z h0) id) K
theorem sk_gY1 {post : Int32 → Prop} {t : Nat} (hT : y_threads = nI nt) (h4 : nt ≤ 4) (ht : t < nt) (K : post 1) : wpY_good post (y_threads, y_ops, y_regs, y_imms, y_sizes, y_r, y_m, y_pcs, y_states, y_counts, y_digests) (nI t) :=
  br_f (nI_pos (by omega)) (br_f (by rw [hT]; exact nI_ge ht (by omega)) K)
end
theorem sk_ix (x : Int32) {n : Nat} (hn : n ≤ 4) : (x < 0 ∨ nI n ≤ x) ∨ ∃ j : Nat, j < n ∧ x = nI j := by
  rcases pk_ix x (n := n) (by omega) with h | h | h
  · exact Or.inl (Or.inl h)
  · exact Or.inl (Or.inr h)
  · exact Or.inr h
theorem i_vc_runOne {k : Nat} {u : SX} {v : SY} (I : i_Rel k u v) (hk : k + 5 ≤ 2564) (v1 : Int32) (v2 : Int32) : wpX_runOne (fun r u' => wpY_runOne (fun r' v' => r' = r ∧ i_Rel (k + 5) u' v') v v1 v2) u v1 v2 := by
  refine sk_rel_el (Q := fun u v => wpX_runOne (fun r u' => wpY_runOne (fun r' v' => r' = r ∧ i_Rel (k + 5) u' v') v v1 v2) u v1 v2) ?_ I
  intro f_threads f_width f_window f_freeTop f_queued f_total a_op a_regsOf a_immOf a_sizeOf a_memory a_statusOf a_archPc a_retiredOf a_digestOf a_value a_ready a_free a_archMap a_map a_head a_count a_robPc a_robState a_robTimer a_robStop a_robDest a_robNew a_robOld a_robA a_robB a_robVal a_robAddr a_robNext a_robGuess a_robLive a_queue a_fetchPc a_fetchStop a_counter a_lastTarget a_active a_quota y_threads y_r y_m y_pcs y_states y_counts y_digests nt wd wn ex sn hd pm ow J
  obtain ⟨r0, hI⟩ := sk_ID_IV J
  have J' := J
  obtain ⟨hK, hE, hF, hH, hL, hM, hFr, hMe, hA⟩ := J
  obtain ⟨k1, k2, k3, k4, k5, k6, k7, k8, k9, k10, k11⟩ := hK
  unfold wpX_runOne wpY_runOne
  rcases sk_ix v1 k5 with hb | ⟨t, ht, e⟩
  · refine sk_gX0 k1 hb (br_t rfl ?_)
    refine sk_gY0 hE.2.2.2.2 hb (br_t rfl ?_)
    exact ⟨rfl, nt, wd, wn, ex, sn, hd, pm, ow, J'⟩
  · subst e
    refine sk_gX1 k1 k5 ht (br_f (by decide) ?_)
    refine sk_w_begin ht hI (hH t ht).2.2.2 (fun u1 I1 ea er => ?_)
    show wpX_cycles _ u1
    refine sk_w_cycu I1 (fun u' I' ha => ?_)
    refine sk_gY1 hE.2.2.2.2 k5 ht (br_f (by decide) ?_)
    refine sk_y_steps (by omega) (k11 t ht).2 (k11 t ht).1 (fun r' m' pcs' sts' cts' dgs' e1 e2 => ?_)
    refine ⟨?_, sk_IU_rel I' ha (fun x hx => ?_) hE.2.2.2.2⟩
    · rw [sk_tot I' ha, sk_ps_1 (t := t) nt ht]
      · rw [if_pos rfl, ← e1, er, (hA t ht).2.2.1]
        rfl
      · intro x hx hxt
        rw [if_neg hxt, er, (hA x hx).2.2.1]
        exact Int32.sub_self _
    · by_cases e : x = t
      · subst e; rw [if_pos rfl, e1]
      · rw [if_neg e, e2 x e]
end
section
/-! what the outside sees -/
theorem i_vc_pc {k : Nat} {u : SX} {v : SY} (I : i_Rel k u v) (hk : k + 5 ≤ 2564) (v1 : Int32) : wpX_pc (fun r => wpY_pc (fun r' => r' = r ∧ i_Rel (k + 5) u v) v v1) u v1 := by
  refine sk_rel_el (Q := fun u v => wpX_pc (fun r => wpY_pc (fun r' => r' = r ∧ i_Rel (k + 5) u v) v v1) u v1) ?_ I
  intro f_threads f_width f_window f_freeTop f_queued f_total a_op a_regsOf a_immOf a_sizeOf a_memory a_statusOf a_archPc a_retiredOf a_digestOf a_value a_ready a_free a_archMap a_map a_head a_count a_robPc a_robState a_robTimer a_robStop a_robDest a_robNew a_robOld a_robA a_robB a_robVal a_robAddr a_robNext a_robGuess a_robLive a_queue a_fetchPc a_fetchStop a_counter a_lastTarget a_active a_quota y_threads y_r y_m y_pcs y_states y_counts y_digests nt wd wn ex sn hd pm ow J
  have R : i_Rel (k + 5) (f_threads, f_width, f_window, f_freeTop, f_queued, f_total, a_op, a_regsOf, a_immOf, a_sizeOf, a_memory, a_statusOf, a_archPc, a_retiredOf, a_digestOf, a_value, a_ready, a_free, a_archMap, a_map, a_head, a_count, a_robPc, a_robState, a_robTimer, a_robStop, a_robDest, a_robNew, a_robOld, a_robA, a_robB, a_robVal, a_robAddr, a_robNext, a_robGuess, a_robLive, a_queue, a_fetchPc, a_fetchStop, a_counter, a_lastTarget, a_active, a_quota) (y_threads, a_op, a_regsOf, a_immOf, a_sizeOf, y_r, y_m, y_pcs, y_states, y_counts, y_digests) := ⟨nt, wd, wn, ex, sn, hd, pm, ow, J⟩
  obtain ⟨hK, hE, hF, hH, hL, hM, hFr, hMe, hA⟩ := J
  obtain ⟨k1, k2, k3, k4, k5, k6, k7, k8, k9, k10, k11⟩ := hK
  unfold wpX_pc wpY_pc
  rcases sk_ix v1 k5 with hb | ⟨t, ht, e⟩
  · exact sk_gX0 k1 hb (br_t rfl (sk_gY0 hE.2.2.2.2 hb (br_t rfl ⟨rfl, R⟩)))
  · subst e
    have vt : vp_in (nI t) 4 := vp_in_nI (by omega) (by decide)
    have ctt : (nI t).toNatClampNeg = t := nI_clamp (by omega)
    refine sk_gX1 k1 k5 ht (br_f (by decide) (And.intro vt (sk_gY1 hE.2.2.2.2 k5 ht (br_f (by decide) (And.intro vt ⟨?_, R⟩)))))
    rw [ctt]
    exact (hA t ht).1.symm
theorem i_vc_status {k : Nat} {u : SX} {v : SY} (I : i_Rel k u v) (hk : k + 5 ≤ 2564) (v1 : Int32) : wpX_status (fun r => wpY_status (fun r' => r' = r ∧ i_Rel (k + 5) u v) v v1) u v1 := by
  refine sk_rel_el (Q := fun u v => wpX_status (fun r => wpY_status (fun r' => r' = r ∧ i_Rel (k + 5) u v) v v1) u v1) ?_ I
  intro f_threads f_width f_window f_freeTop f_queued f_total a_op a_regsOf a_immOf a_sizeOf a_memory a_statusOf a_archPc a_retiredOf a_digestOf a_value a_ready a_free a_archMap a_map a_head a_count a_robPc a_robState a_robTimer a_robStop a_robDest a_robNew a_robOld a_robA a_robB a_robVal a_robAddr a_robNext a_robGuess a_robLive a_queue a_fetchPc a_fetchStop a_counter a_lastTarget a_active a_quota y_threads y_r y_m y_pcs y_states y_counts y_digests nt wd wn ex sn hd pm ow J
  have R : i_Rel (k + 5) (f_threads, f_width, f_window, f_freeTop, f_queued, f_total, a_op, a_regsOf, a_immOf, a_sizeOf, a_memory, a_statusOf, a_archPc, a_retiredOf, a_digestOf, a_value, a_ready, a_free, a_archMap, a_map, a_head, a_count, a_robPc, a_robState, a_robTimer, a_robStop, a_robDest, a_robNew, a_robOld, a_robA, a_robB, a_robVal, a_robAddr, a_robNext, a_robGuess, a_robLive, a_queue, a_fetchPc, a_fetchStop, a_counter, a_lastTarget, a_active, a_quota) (y_threads, a_op, a_regsOf, a_immOf, a_sizeOf, y_r, y_m, y_pcs, y_states, y_counts, y_digests) := ⟨nt, wd, wn, ex, sn, hd, pm, ow, J⟩
  obtain ⟨hK, hE, hF, hH, hL, hM, hFr, hMe, hA⟩ := J
  obtain ⟨k1, k2, k3, k4, k5, k6, k7, k8, k9, k10, k11⟩ := hK
  unfold wpX_status wpY_status
  rcases sk_ix v1 k5 with hb | ⟨t, ht, e⟩
  · exact sk_gX0 k1 hb (br_t rfl (sk_gY0 hE.2.2.2.2 hb (br_t rfl ⟨rfl, R⟩)))
  · subst e
    have vt : vp_in (nI t) 4 := vp_in_nI (by omega) (by decide)
    have ctt : (nI t).toNatClampNeg = t := nI_clamp (by omega)
    refine sk_gX1 k1 k5 ht (br_f (by decide) (And.intro vt (sk_gY1 hE.2.2.2.2 k5 ht (br_f (by decide) (And.intro vt ⟨?_, R⟩)))))
    rw [ctt]
    exact (hA t ht).2.1.symm
theorem i_vc_retired {k : Nat} {u : SX} {v : SY} (I : i_Rel k u v) (hk : k + 5 ≤ 2564) (v1 : Int32) : wpX_retired (fun r => wpY_retired (fun r' => r' = r ∧ i_Rel (k + 5) u v) v v1) u v1 := by
  refine sk_rel_el (Q := fun u v => wpX_retired (fun r => wpY_retired (fun r' => r' = r ∧ i_Rel (k + 5) u v) v v1) u v1) ?_ I
  intro f_threads f_width f_window f_freeTop f_queued f_total a_op a_regsOf a_immOf a_sizeOf a_memory a_statusOf a_archPc a_retiredOf a_digestOf a_value a_ready a_free a_archMap a_map a_head a_count a_robPc a_robState a_robTimer a_robStop a_robDest a_robNew a_robOld a_robA a_robB a_robVal a_robAddr a_robNext a_robGuess a_robLive a_queue a_fetchPc a_fetchStop a_counter a_lastTarget a_active a_quota y_threads y_r y_m y_pcs y_states y_counts y_digests nt wd wn ex sn hd pm ow J
  have R : i_Rel (k + 5) (f_threads, f_width, f_window, f_freeTop, f_queued, f_total, a_op, a_regsOf, a_immOf, a_sizeOf, a_memory, a_statusOf, a_archPc, a_retiredOf, a_digestOf, a_value, a_ready, a_free, a_archMap, a_map, a_head, a_count, a_robPc, a_robState, a_robTimer, a_robStop, a_robDest, a_robNew, a_robOld, a_robA, a_robB, a_robVal, a_robAddr, a_robNext, a_robGuess, a_robLive, a_queue, a_fetchPc, a_fetchStop, a_counter, a_lastTarget, a_active, a_quota) (y_threads, a_op, a_regsOf, a_immOf, a_sizeOf, y_r, y_m, y_pcs, y_states, y_counts, y_digests) := ⟨nt, wd, wn, ex, sn, hd, pm, ow, J⟩
  obtain ⟨hK, hE, hF, hH, hL, hM, hFr, hMe, hA⟩ := J
  obtain ⟨k1, k2, k3, k4, k5, k6, k7, k8, k9, k10, k11⟩ := hK
  unfold wpX_retired wpY_retired
  rcases sk_ix v1 k5 with hb | ⟨t, ht, e⟩
  · exact sk_gX0 k1 hb (br_t rfl (sk_gY0 hE.2.2.2.2 hb (br_t rfl ⟨rfl, R⟩)))
  · subst e
    have vt : vp_in (nI t) 4 := vp_in_nI (by omega) (by decide)
    have ctt : (nI t).toNatClampNeg = t := nI_clamp (by omega)
    refine sk_gX1 k1 k5 ht (br_f (by decide) (And.intro vt (sk_gY1 hE.2.2.2.2 k5 ht (br_f (by decide) (And.intro vt ⟨?_, R⟩)))))
    rw [ctt]
    exact (hA t ht).2.2.1.symm
theorem i_vc_digest {k : Nat} {u : SX} {v : SY} (I : i_Rel k u v) (hk : k + 5 ≤ 2564) (v1 : Int32) : wpX_digest (fun r => wpY_digest (fun r' => r' = r ∧ i_Rel (k + 5) u v) v v1) u v1 := by
  refine sk_rel_el (Q := fun u v => wpX_digest (fun r => wpY_digest (fun r' => r' = r ∧ i_Rel (k + 5) u v) v v1) u v1) ?_ I
  intro f_threads f_width f_window f_freeTop f_queued f_total a_op a_regsOf a_immOf a_sizeOf a_memory a_statusOf a_archPc a_retiredOf a_digestOf a_value a_ready a_free a_archMap a_map a_head a_count a_robPc a_robState a_robTimer a_robStop a_robDest a_robNew a_robOld a_robA a_robB a_robVal a_robAddr a_robNext a_robGuess a_robLive a_queue a_fetchPc a_fetchStop a_counter a_lastTarget a_active a_quota y_threads y_r y_m y_pcs y_states y_counts y_digests nt wd wn ex sn hd pm ow J
  have R : i_Rel (k + 5) (f_threads, f_width, f_window, f_freeTop, f_queued, f_total, a_op, a_regsOf, a_immOf, a_sizeOf, a_memory, a_statusOf, a_archPc, a_retiredOf, a_digestOf, a_value, a_ready, a_free, a_archMap, a_map, a_head, a_count, a_robPc, a_robState, a_robTimer, a_robStop, a_robDest, a_robNew, a_robOld, a_robA, a_robB, a_robVal, a_robAddr, a_robNext, a_robGuess, a_robLive, a_queue, a_fetchPc, a_fetchStop, a_counter, a_lastTarget, a_active, a_quota) (y_threads, a_op, a_regsOf, a_immOf, a_sizeOf, y_r, y_m, y_pcs, y_states, y_counts, y_digests) := ⟨nt, wd, wn, ex, sn, hd, pm, ow, J⟩
  obtain ⟨hK, hE, hF, hH, hL, hM, hFr, hMe, hA⟩ := J
  obtain ⟨k1, k2, k3, k4, k5, k6, k7, k8, k9, k10, k11⟩ := hK
  unfold wpX_digest wpY_digest
  rcases sk_ix v1 k5 with hb | ⟨t, ht, e⟩
  · exact sk_gX0 k1 hb (br_t rfl (sk_gY0 hE.2.2.2.2 hb (br_t rfl ⟨rfl, R⟩)))
  · subst e
    have vt : vp_in (nI t) 4 := vp_in_nI (by omega) (by decide)
    have ctt : (nI t).toNatClampNeg = t := nI_clamp (by omega)
    refine sk_gX1 k1 k5 ht (br_f (by decide) (And.intro vt (sk_gY1 hE.2.2.2.2 k5 ht (br_f (by decide) (And.intro vt ⟨?_, R⟩)))))
    rw [ctt]
    exact (hA t ht).2.2.2.symm
theorem i_vc_size {k : Nat} {u : SX} {v : SY} (I : i_Rel k u v) (hk : k + 5 ≤ 2564) (v1 : Int32) : wpX_size (fun r => wpY_size (fun r' => r' = r ∧ i_Rel (k + 5) u v) v v1) u v1 := by
  refine sk_rel_el (Q := fun u v => wpX_size (fun r => wpY_size (fun r' => r' = r ∧ i_Rel (k + 5) u v) v v1) u v1) ?_ I
  intro f_threads f_width f_window f_freeTop f_queued f_total a_op a_regsOf a_immOf a_sizeOf a_memory a_statusOf a_archPc a_retiredOf a_digestOf a_value a_ready a_free a_archMap a_map a_head a_count a_robPc a_robState a_robTimer a_robStop a_robDest a_robNew a_robOld a_robA a_robB a_robVal a_robAddr a_robNext a_robGuess a_robLive a_queue a_fetchPc a_fetchStop a_counter a_lastTarget a_active a_quota y_threads y_r y_m y_pcs y_states y_counts y_digests nt wd wn ex sn hd pm ow J
  have R : i_Rel (k + 5) (f_threads, f_width, f_window, f_freeTop, f_queued, f_total, a_op, a_regsOf, a_immOf, a_sizeOf, a_memory, a_statusOf, a_archPc, a_retiredOf, a_digestOf, a_value, a_ready, a_free, a_archMap, a_map, a_head, a_count, a_robPc, a_robState, a_robTimer, a_robStop, a_robDest, a_robNew, a_robOld, a_robA, a_robB, a_robVal, a_robAddr, a_robNext, a_robGuess, a_robLive, a_queue, a_fetchPc, a_fetchStop, a_counter, a_lastTarget, a_active, a_quota) (y_threads, a_op, a_regsOf, a_immOf, a_sizeOf, y_r, y_m, y_pcs, y_states, y_counts, y_digests) := ⟨nt, wd, wn, ex, sn, hd, pm, ow, J⟩
  obtain ⟨hK, hE, hF, hH, hL, hM, hFr, hMe, hA⟩ := J
  obtain ⟨k1, k2, k3, k4, k5, k6, k7, k8, k9, k10, k11⟩ := hK
  unfold wpX_size wpY_size
  rcases sk_ix v1 k5 with hb | ⟨t, ht, e⟩
  · exact sk_gX0 k1 hb (br_t rfl (sk_gY0 hE.2.2.2.2 hb (br_t rfl ⟨rfl, R⟩)))
  · subst e
    have vt : vp_in (nI t) 4 := vp_in_nI (by omega) (by decide)
    have ctt : (nI t).toNatClampNeg = t := nI_clamp (by omega)
    refine sk_gX1 k1 k5 ht (br_f (by decide) (And.intro vt (sk_gY1 hE.2.2.2.2 k5 ht (br_f (by decide) (And.intro vt ⟨?_, R⟩)))))
    rfl
theorem i_vc_reg {k : Nat} {u : SX} {v : SY} (I : i_Rel k u v) (hk : k + 5 ≤ 2564) (v1 : Int32) (v2 : Int32) : wpX_reg (fun r => wpY_reg (fun r' => r' = r ∧ i_Rel (k + 5) u v) v v1 v2) u v1 v2 := by
  refine sk_rel_el (Q := fun u v => wpX_reg (fun r => wpY_reg (fun r' => r' = r ∧ i_Rel (k + 5) u v) v v1 v2) u v1 v2) ?_ I
  intro f_threads f_width f_window f_freeTop f_queued f_total a_op a_regsOf a_immOf a_sizeOf a_memory a_statusOf a_archPc a_retiredOf a_digestOf a_value a_ready a_free a_archMap a_map a_head a_count a_robPc a_robState a_robTimer a_robStop a_robDest a_robNew a_robOld a_robA a_robB a_robVal a_robAddr a_robNext a_robGuess a_robLive a_queue a_fetchPc a_fetchStop a_counter a_lastTarget a_active a_quota y_threads y_r y_m y_pcs y_states y_counts y_digests nt wd wn ex sn hd pm ow J
  have R : i_Rel (k + 5) (f_threads, f_width, f_window, f_freeTop, f_queued, f_total, a_op, a_regsOf, a_immOf, a_sizeOf, a_memory, a_statusOf, a_archPc, a_retiredOf, a_digestOf, a_value, a_ready, a_free, a_archMap, a_map, a_head, a_count, a_robPc, a_robState, a_robTimer, a_robStop, a_robDest, a_robNew, a_robOld, a_robA, a_robB, a_robVal, a_robAddr, a_robNext, a_robGuess, a_robLive, a_queue, a_fetchPc, a_fetchStop, a_counter, a_lastTarget, a_active, a_quota) (y_threads, a_op, a_regsOf, a_immOf, a_sizeOf, y_r, y_m, y_pcs, y_states, y_counts, y_digests) := ⟨nt, wd, wn, ex, sn, hd, pm, ow, J⟩
  obtain ⟨hK, hE, hF, hH, hL, hM, hFr, hMe, hA⟩ := J
  obtain ⟨k1, k2, k3, k4, k5, k6, k7, k8, k9, k10, k11⟩ := hK
  unfold wpX_reg wpY_reg
  rcases sk_ix v1 k5 with hb | ⟨t, ht, e⟩
  · exact sk_gX0 k1 hb (br_t rfl (sk_gY0 hE.2.2.2.2 hb (br_t rfl ⟨rfl, R⟩)))
  · subst e
    refine sk_gX1 k1 k5 ht (br_f (by decide) ?_)
    by_cases h0 : v2 < 0
    · exact br_t h0 (sk_gY1 hE.2.2.2.2 k5 ht (br_f (by decide) (br_t h0 ⟨rfl, R⟩)))
    refine br_f h0 ?_
    by_cases h7 : v2 ≤ 7
    · obtain ⟨j, hj, e⟩ := nI_of2 (x := v2) (M := 7) (n := 7) (by decide) h0 h7
      subst e
      have w := hM t j ht (by omega)
      have ci : (nI t * 8 + nI j).toNatClampNeg = t * 8 + j := by rw [sk_x8, nI_add, nI_clamp (by omega)]
      have vi : vp_in (nI t * 8 + nI j) 32 := by rw [sk_x8, nI_add]; exact vp_in_nI (by omega) (by decide)
      refine br_t h7 (And.intro vi (And.intro ?_ ?_))
      · rw [ci, w.1]; exact vp_in_nI w.2.2.1 (by decide)
      · refine sk_gY1 hE.2.2.2.2 k5 ht (br_f (by decide) (br_f h0 (br_t h7 (And.intro vi ⟨?_, R⟩))))
        rw [ci, w.1, nI_clamp (by omega)]
        exact w.2.2.2.2.2.symm
    · exact br_f h7 (sk_gY1 hE.2.2.2.2 k5 ht (br_f (by decide) (br_f h0 (br_f h7 ⟨rfl, R⟩))))
theorem i_vc_mem {k : Nat} {u : SX} {v : SY} (I : i_Rel k u v) (hk : k + 5 ≤ 2564) (v1 : Int32) (v2 : Int32) : wpX_mem (fun r => wpY_mem (fun r' => r' = r ∧ i_Rel (k + 5) u v) v v1 v2) u v1 v2 := by
  refine sk_rel_el (Q := fun u v => wpX_mem (fun r => wpY_mem (fun r' => r' = r ∧ i_Rel (k + 5) u v) v v1 v2) u v1 v2) ?_ I
  intro f_threads f_width f_window f_freeTop f_queued f_total a_op a_regsOf a_immOf a_sizeOf a_memory a_statusOf a_archPc a_retiredOf a_digestOf a_value a_ready a_free a_archMap a_map a_head a_count a_robPc a_robState a_robTimer a_robStop a_robDest a_robNew a_robOld a_robA a_robB a_robVal a_robAddr a_robNext a_robGuess a_robLive a_queue a_fetchPc a_fetchStop a_counter a_lastTarget a_active a_quota y_threads y_r y_m y_pcs y_states y_counts y_digests nt wd wn ex sn hd pm ow J
  have R : i_Rel (k + 5) (f_threads, f_width, f_window, f_freeTop, f_queued, f_total, a_op, a_regsOf, a_immOf, a_sizeOf, a_memory, a_statusOf, a_archPc, a_retiredOf, a_digestOf, a_value, a_ready, a_free, a_archMap, a_map, a_head, a_count, a_robPc, a_robState, a_robTimer, a_robStop, a_robDest, a_robNew, a_robOld, a_robA, a_robB, a_robVal, a_robAddr, a_robNext, a_robGuess, a_robLive, a_queue, a_fetchPc, a_fetchStop, a_counter, a_lastTarget, a_active, a_quota) (y_threads, a_op, a_regsOf, a_immOf, a_sizeOf, y_r, y_m, y_pcs, y_states, y_counts, y_digests) := ⟨nt, wd, wn, ex, sn, hd, pm, ow, J⟩
  obtain ⟨hK, hE, hF, hH, hL, hM, hFr, hMe, hA⟩ := J
  obtain ⟨k1, k2, k3, k4, k5, k6, k7, k8, k9, k10, k11⟩ := hK
  unfold wpX_mem wpY_mem
  rcases sk_ix v1 k5 with hb | ⟨t, ht, e⟩
  · exact sk_gX0 k1 hb (br_t rfl (sk_gY0 hE.2.2.2.2 hb (br_t rfl ⟨rfl, R⟩)))
  · subst e
    refine sk_gX1 k1 k5 ht (br_f (by decide) ?_)
    by_cases h0 : v2 < 0
    · exact br_t h0 (sk_gY1 hE.2.2.2.2 k5 ht (br_f (by decide) (br_t h0 ⟨rfl, R⟩)))
    refine br_f h0 ?_
    by_cases h7 : v2 ≤ 15
    · obtain ⟨j, hj, e⟩ := nI_of2 (x := v2) (M := 15) (n := 15) (by decide) h0 h7
      subst e
      have ci : (nI t * 16 + nI j).toNatClampNeg = t * 16 + j := by rw [sk_x16, nI_add, nI_clamp (by omega)]
      have vi : vp_in (nI t * 16 + nI j) 64 := by rw [sk_x16, nI_add]; exact vp_in_nI (by omega) (by decide)
      refine br_t h7 (And.intro vi ?_)
      refine sk_gY1 hE.2.2.2.2 k5 ht (br_f (by decide) (br_f h0 (br_t h7 (And.intro vi ⟨?_, R⟩))))
      rw [ci]
      exact (hMe t j ht (by omega)).symm
    · exact br_f h7 (sk_gY1 hE.2.2.2.2 k5 ht (br_f (by decide) (br_f h0 (br_f h7 ⟨rfl, R⟩))))
end
section
/-! programs and state from outside -/
theorem i_vc_emit {k : Nat} {u : SX} {v : SY} (I : i_Rel k u v) (hk : k + 5 ≤ 2564) (v1 : Int32) (v2 : Int32) (v3 : Int32) (v4 : Int32) : wpX_emit (fun r u' => wpY_emit (fun r' v' => r' = r ∧ i_Rel (k + 5) u' v') v v1 v2 v3 v4) u v1 v2 v3 v4 := by
  refine sk_rel_el (Q := fun u v => wpX_emit (fun r u' => wpY_emit (fun r' v' => r' = r ∧ i_Rel (k + 5) u' v') v v1 v2 v3 v4) u v1 v2 v3 v4) ?_ I
  intro f_threads f_width f_window f_freeTop f_queued f_total a_op a_regsOf a_immOf a_sizeOf a_memory a_statusOf a_archPc a_retiredOf a_digestOf a_value a_ready a_free a_archMap a_map a_head a_count a_robPc a_robState a_robTimer a_robStop a_robDest a_robNew a_robOld a_robA a_robB a_robVal a_robAddr a_robNext a_robGuess a_robLive a_queue a_fetchPc a_fetchStop a_counter a_lastTarget a_active a_quota y_threads y_r y_m y_pcs y_states y_counts y_digests nt wd wn ex sn hd pm ow J
  have R : i_Rel (k + 5) (f_threads, f_width, f_window, f_freeTop, f_queued, f_total, a_op, a_regsOf, a_immOf, a_sizeOf, a_memory, a_statusOf, a_archPc, a_retiredOf, a_digestOf, a_value, a_ready, a_free, a_archMap, a_map, a_head, a_count, a_robPc, a_robState, a_robTimer, a_robStop, a_robDest, a_robNew, a_robOld, a_robA, a_robB, a_robVal, a_robAddr, a_robNext, a_robGuess, a_robLive, a_queue, a_fetchPc, a_fetchStop, a_counter, a_lastTarget, a_active, a_quota) (y_threads, a_op, a_regsOf, a_immOf, a_sizeOf, y_r, y_m, y_pcs, y_states, y_counts, y_digests) := ⟨nt, wd, wn, ex, sn, hd, pm, ow, J⟩
  obtain ⟨hK, hE, hF, hH, hL, hM, hFr, hMe, hA⟩ := J
  obtain ⟨k1, k2, k3, k4, k5, k6, k7, k8, k9, k10, k11⟩ := hK
  unfold wpX_emit wpY_emit
  rcases sk_ix v1 k5 with hb | ⟨t, ht, e⟩
  · exact sk_gX0 k1 hb (br_t rfl (sk_gY0 hE.2.2.2.2 hb (br_t rfl ⟨rfl, R⟩)))
  subst e
  have vt : vp_in (nI t) 4 := vp_in_nI (by omega) (by decide)
  have ctt : (nI t).toNatClampNeg = t := nI_clamp (by omega)
  have s24 := k11 t ht
  refine sk_gX1 k1 k5 ht (br_f (by decide) ?_)
  by_cases h1 : v2 < 0
  · exact br_t h1 (sk_gY1 hE.2.2.2.2 k5 ht (br_f (by decide) (br_t h1 ⟨rfl, R⟩)))
  refine br_f h1 ?_
  by_cases h2 : v2 ≤ 15
  · refine br_t h2 ?_
    by_cases h3 : v3 < 0
    · exact br_t h3 (sk_gY1 hE.2.2.2.2 k5 ht (br_f (by decide) (br_f h1 (br_t h2 (br_t h3 ⟨rfl, R⟩)))))
    refine br_f h3 ?_
    by_cases h4 : v3 ≤ 511
    · refine br_t h4 (And.intro vt (nm_r (e' := nI (sn t)) (by rw [ctt]; exact s24.1) ?_))
      by_cases h5 : sn t < 24
      · have l5 : nI (sn t) < 24 := nI_lt (b := 24) h5 (by decide)
        have ci : (nI t * 24 + nI (sn t)).toNatClampNeg = t * 24 + sn t := by rw [sk_x24, nI_add, nI_clamp (by omega)]
        have vi : vp_in (nI t * 24 + nI (sn t)) 96 := by rw [sk_x24, nI_add]; exact vp_in_nI (by omega) (by decide)
        refine br_t l5 (nm_e (And.intro vi (nm_r (e' := upd a_op (t * 24 + sn t) v2) (by rw [ci]) (And.intro vi (nm_r (e' := upd a_regsOf (t * 24 + sn t) v3) (by rw [ci]) (And.intro vi (nm_r (e' := upd a_immOf (t * 24 + sn t) v4) (by rw [ci]) (And.intro vt (nm_r (e' := upd a_sizeOf t (nI (sn t + 1))) (by rw [ctt, nI_1]) ?_)))))))))
        refine sk_gY1 hE.2.2.2.2 k5 ht (br_f (by decide) (br_f h1 (br_t h2 (br_f h3 (br_t h4 (And.intro vt (nm_r (e' := nI (sn t)) (by rw [ctt]; exact s24.1) (br_t l5 ?_))))))))
        refine And.intro vi (nm_r (e' := upd a_op (t * 24 + sn t) v2) (by rw [ci]) (And.intro vi (nm_r (e' := upd a_regsOf (t * 24 + sn t) v3) (by rw [ci]) (And.intro vi (nm_r (e' := upd a_immOf (t * 24 + sn t) v4) (by rw [ci]) (And.intro vt (nm_r (e' := upd a_sizeOf t (nI (sn t + 1))) (by rw [ctt, nI_1]) ?_)))))))
        refine ⟨rfl, nt, wd, wn, ex, sk_u sn t (sn t + 1), hd, pm, ow, ⟨k1, k2, k3, k4, k5, k6, k7, k8, k9, fun i => ?_, fun x hx => ?_⟩, ⟨rfl, rfl, rfl, rfl, hE.2.2.2.2⟩, hF, hH, hL, hM, hFr, hMe, hA⟩
        · show 0 ≤ upd a_op (t * 24 + sn t) v2 i ∧ upd a_op (t * 24 + sn t) v2 i ≤ 15
          by_cases e : i = t * 24 + sn t
          · rw [e, pk_us]; exact ⟨Int32.not_lt.mp h1, h2⟩
          · rw [pk_un e]; exact k10 i
        · show upd a_sizeOf t (nI (sn t + 1)) x = nI (sk_u sn t (sn t + 1) x) ∧ sk_u sn t (sn t + 1) x ≤ 24
          by_cases e : x = t
          · rw [e, pk_us, sk_us]; exact ⟨rfl, by omega⟩
          · rw [pk_un e, sk_un e]; exact k11 x hx
      · have l5 : ¬ nI (sn t) < 24 := nI_nlt (b := 24) (by omega) (by omega)
        refine br_f l5 (sk_gY1 hE.2.2.2.2 k5 ht (br_f (by decide) (br_f h1 (br_t h2 (br_f h3 (br_t h4 (And.intro vt (nm_r (e' := nI (sn t)) (by rw [ctt]; exact s24.1) (br_f l5 ⟨rfl, R⟩)))))))))
    · exact br_f h4 (sk_gY1 hE.2.2.2.2 k5 ht (br_f (by decide) (br_f h1 (br_t h2 (br_f h3 (br_f h4 ⟨rfl, R⟩))))))
  · exact br_f h2 (sk_gY1 hE.2.2.2.2 k5 ht (br_f (by decide) (br_f h1 (br_f h2 ⟨rfl, R⟩))))
theorem i_vc_retarget {k : Nat} {u : SX} {v : SY} (I : i_Rel k u v) (hk : k + 5 ≤ 2564) (v1 : Int32) (v2 : Int32) (v3 : Int32) : wpX_retarget (fun r u' => wpY_retarget (fun r' v' => r' = r ∧ i_Rel (k + 5) u' v') v v1 v2 v3) u v1 v2 v3 := by
  refine sk_rel_el (Q := fun u v => wpX_retarget (fun r u' => wpY_retarget (fun r' v' => r' = r ∧ i_Rel (k + 5) u' v') v v1 v2 v3) u v1 v2 v3) ?_ I
  intro f_threads f_width f_window f_freeTop f_queued f_total a_op a_regsOf a_immOf a_sizeOf a_memory a_statusOf a_archPc a_retiredOf a_digestOf a_value a_ready a_free a_archMap a_map a_head a_count a_robPc a_robState a_robTimer a_robStop a_robDest a_robNew a_robOld a_robA a_robB a_robVal a_robAddr a_robNext a_robGuess a_robLive a_queue a_fetchPc a_fetchStop a_counter a_lastTarget a_active a_quota y_threads y_r y_m y_pcs y_states y_counts y_digests nt wd wn ex sn hd pm ow J
  have R : i_Rel (k + 5) (f_threads, f_width, f_window, f_freeTop, f_queued, f_total, a_op, a_regsOf, a_immOf, a_sizeOf, a_memory, a_statusOf, a_archPc, a_retiredOf, a_digestOf, a_value, a_ready, a_free, a_archMap, a_map, a_head, a_count, a_robPc, a_robState, a_robTimer, a_robStop, a_robDest, a_robNew, a_robOld, a_robA, a_robB, a_robVal, a_robAddr, a_robNext, a_robGuess, a_robLive, a_queue, a_fetchPc, a_fetchStop, a_counter, a_lastTarget, a_active, a_quota) (y_threads, a_op, a_regsOf, a_immOf, a_sizeOf, y_r, y_m, y_pcs, y_states, y_counts, y_digests) := ⟨nt, wd, wn, ex, sn, hd, pm, ow, J⟩
  obtain ⟨hK, hE, hF, hH, hL, hM, hFr, hMe, hA⟩ := J
  have hK' := hK
  obtain ⟨k1, k2, k3, k4, k5, k6, k7, k8, k9, k10, k11⟩ := hK
  unfold wpX_retarget wpY_retarget
  rcases sk_ix v1 k5 with hb | ⟨t, ht, e⟩
  · exact sk_gX0 k1 hb (br_t rfl (sk_gY0 hE.2.2.2.2 hb (br_t rfl ⟨rfl, R⟩)))
  subst e
  have vt : vp_in (nI t) 4 := vp_in_nI (by omega) (by decide)
  have ctt : (nI t).toNatClampNeg = t := nI_clamp (by omega)
  have s24 := k11 t ht
  refine sk_gX1 k1 k5 ht (br_f (by decide) ?_)
  by_cases h1 : v2 < 0
  · exact br_t h1 (sk_gY1 hE.2.2.2.2 k5 ht (br_f (by decide) (br_t h1 ⟨rfl, R⟩)))
  refine br_f h1 (And.intro vt ?_)
  by_cases h2 : v2 < a_sizeOf (nI t).toNatClampNeg
  · obtain ⟨j, hj31, e⟩ := nI_of h1
    have hj : j < sn t := by
      rw [e, ctt, s24.1] at h2
      exact (nI_ltI hj31 (by omega)).mp h2
    subst e
    have ci : (nI t * 24 + nI j).toNatClampNeg = t * 24 + j := by rw [sk_x24, nI_add, nI_clamp (by omega)]
    have vi : vp_in (nI t * 24 + nI j) 96 := by rw [sk_x24, nI_add]; exact vp_in_nI (by omega) (by decide)
    refine br_t h2 (And.intro vi (nm_e ?_))
    refine sk_gY1 hE.2.2.2.2 k5 ht (br_f (by decide) (br_f h1 (And.intro vt (br_t h2 (And.intro vi (nm_e ?_))))))
    exact ⟨rfl, nt, wd, wn, ex, sn, hd, pm, ow, hK', ⟨rfl, rfl, rfl, rfl, hE.2.2.2.2⟩, hF, hH, hL, hM, hFr, hMe, hA⟩
  · exact br_f h2 (sk_gY1 hE.2.2.2.2 k5 ht (br_f (by decide) (br_f h1 (And.intro vt (br_f h2 ⟨rfl, R⟩)))))
theorem i_vc_setReg {k : Nat} {u : SX} {v : SY} (I : i_Rel k u v) (hk : k + 5 ≤ 2564) (v1 : Int32) (v2 : Int32) (v3 : Int32) : wpX_setReg (fun r u' => wpY_setReg (fun r' v' => r' = r ∧ i_Rel (k + 5) u' v') v v1 v2 v3) u v1 v2 v3 := by
  refine sk_rel_el (Q := fun u v => wpX_setReg (fun r u' => wpY_setReg (fun r' v' => r' = r ∧ i_Rel (k + 5) u' v') v v1 v2 v3) u v1 v2 v3) ?_ I
  intro f_threads f_width f_window f_freeTop f_queued f_total a_op a_regsOf a_immOf a_sizeOf a_memory a_statusOf a_archPc a_retiredOf a_digestOf a_value a_ready a_free a_archMap a_map a_head a_count a_robPc a_robState a_robTimer a_robStop a_robDest a_robNew a_robOld a_robA a_robB a_robVal a_robAddr a_robNext a_robGuess a_robLive a_queue a_fetchPc a_fetchStop a_counter a_lastTarget a_active a_quota y_threads y_r y_m y_pcs y_states y_counts y_digests nt wd wn ex sn hd pm ow J
  have R : i_Rel (k + 5) (f_threads, f_width, f_window, f_freeTop, f_queued, f_total, a_op, a_regsOf, a_immOf, a_sizeOf, a_memory, a_statusOf, a_archPc, a_retiredOf, a_digestOf, a_value, a_ready, a_free, a_archMap, a_map, a_head, a_count, a_robPc, a_robState, a_robTimer, a_robStop, a_robDest, a_robNew, a_robOld, a_robA, a_robB, a_robVal, a_robAddr, a_robNext, a_robGuess, a_robLive, a_queue, a_fetchPc, a_fetchStop, a_counter, a_lastTarget, a_active, a_quota) (y_threads, a_op, a_regsOf, a_immOf, a_sizeOf, y_r, y_m, y_pcs, y_states, y_counts, y_digests) := ⟨nt, wd, wn, ex, sn, hd, pm, ow, J⟩
  obtain ⟨hK, hE, hF, hH, hL, hM, hFr, hMe, hA⟩ := J
  have hK' := hK
  obtain ⟨k1, k2, k3, k4, k5, k6, k7, k8, k9, k10, k11⟩ := hK
  unfold wpX_setReg wpY_setReg
  rcases sk_ix v1 k5 with hb | ⟨t, ht, e⟩
  · exact sk_gX0 k1 hb (br_t rfl (sk_gY0 hE.2.2.2.2 hb (br_t rfl ⟨rfl, R⟩)))
  subst e
  refine sk_gX1 k1 k5 ht (br_f (by decide) ?_)
  by_cases h1 : v2 < 0
  · exact br_t h1 (sk_gY1 hE.2.2.2.2 k5 ht (br_f (by decide) (br_t h1 ⟨rfl, R⟩)))
  refine br_f h1 ?_
  by_cases h2 : v2 ≤ 7
  · obtain ⟨j, hj, e⟩ := nI_of2 (x := v2) (M := 7) (n := 7) (by decide) h1 h2
    subst e
    have w := hM t j ht (by omega)
    have ci : (nI t * 8 + nI j).toNatClampNeg = t * 8 + j := by rw [sk_x8, nI_add, nI_clamp (by omega)]
    have vi : vp_in (nI t * 8 + nI j) 32 := by rw [sk_x8, nI_add]; exact vp_in_nI (by omega) (by decide)
    refine br_t h2 (And.intro vi (And.intro (by rw [ci, w.1]; exact vp_in_nI w.2.2.1 (by decide)) (nm_r (e' := upd a_value (pm t j) v3) (by rw [ci, w.1, nI_clamp (by omega)]) ?_)))
    refine sk_gY1 hE.2.2.2.2 k5 ht (br_f (by decide) (br_f h1 (br_t h2 (And.intro vi (nm_r (e' := upd y_r (t * 8 + j) v3) (by rw [ci]) ?_)))))
    refine ⟨rfl, nt, wd, wn, ex, sn, hd, pm, ow, hK', hE, hF, hH, hL, fun x i hx hi => ?_, hFr, hMe, hA⟩
    obtain ⟨m1, m2, m3, m4, m5, m6⟩ := hM x i hx hi
    refine ⟨m1, m2, m3, m4, m5, ?_⟩
    show upd a_value (pm t j) v3 (pm x i) = upd y_r (t * 8 + j) v3 (x * 8 + i)
    by_cases e : x * 8 + i = t * 8 + j
    · have e1 : x = t := by omega
      have e2 : i = j := by omega
      rw [e1, e2, pk_us, pk_us]
    · rw [pk_un e, pk_un]
      · exact m6
      · intro z
        rw [z, w.2.2.2.2.1] at m5
        omega
  · exact br_f h2 (sk_gY1 hE.2.2.2.2 k5 ht (br_f (by decide) (br_f h1 (br_f h2 ⟨rfl, R⟩))))
theorem i_vc_setMem {k : Nat} {u : SX} {v : SY} (I : i_Rel k u v) (hk : k + 5 ≤ 2564) (v1 : Int32) (v2 : Int32) (v3 : Int32) : wpX_setMem (fun r u' => wpY_setMem (fun r' v' => r' = r ∧ i_Rel (k + 5) u' v') v v1 v2 v3) u v1 v2 v3 := by
  refine sk_rel_el (Q := fun u v => wpX_setMem (fun r u' => wpY_setMem (fun r' v' => r' = r ∧ i_Rel (k + 5) u' v') v v1 v2 v3) u v1 v2 v3) ?_ I
  intro f_threads f_width f_window f_freeTop f_queued f_total a_op a_regsOf a_immOf a_sizeOf a_memory a_statusOf a_archPc a_retiredOf a_digestOf a_value a_ready a_free a_archMap a_map a_head a_count a_robPc a_robState a_robTimer a_robStop a_robDest a_robNew a_robOld a_robA a_robB a_robVal a_robAddr a_robNext a_robGuess a_robLive a_queue a_fetchPc a_fetchStop a_counter a_lastTarget a_active a_quota y_threads y_r y_m y_pcs y_states y_counts y_digests nt wd wn ex sn hd pm ow J
  have R : i_Rel (k + 5) (f_threads, f_width, f_window, f_freeTop, f_queued, f_total, a_op, a_regsOf, a_immOf, a_sizeOf, a_memory, a_statusOf, a_archPc, a_retiredOf, a_digestOf, a_value, a_ready, a_free, a_archMap, a_map, a_head, a_count, a_robPc, a_robState, a_robTimer, a_robStop, a_robDest, a_robNew, a_robOld, a_robA, a_robB, a_robVal, a_robAddr, a_robNext, a_robGuess, a_robLive, a_queue, a_fetchPc, a_fetchStop, a_counter, a_lastTarget, a_active, a_quota) (y_threads, a_op, a_regsOf, a_immOf, a_sizeOf, y_r, y_m, y_pcs, y_states, y_counts, y_digests) := ⟨nt, wd, wn, ex, sn, hd, pm, ow, J⟩
  obtain ⟨hK, hE, hF, hH, hL, hM, hFr, hMe, hA⟩ := J
  have hK' := hK
  obtain ⟨k1, k2, k3, k4, k5, k6, k7, k8, k9, k10, k11⟩ := hK
  unfold wpX_setMem wpY_setMem
  rcases sk_ix v1 k5 with hb | ⟨t, ht, e⟩
  · exact sk_gX0 k1 hb (br_t rfl (sk_gY0 hE.2.2.2.2 hb (br_t rfl ⟨rfl, R⟩)))
  subst e
  refine sk_gX1 k1 k5 ht (br_f (by decide) ?_)
  by_cases h1 : v2 < 0
  · exact br_t h1 (sk_gY1 hE.2.2.2.2 k5 ht (br_f (by decide) (br_t h1 ⟨rfl, R⟩)))
  refine br_f h1 ?_
  by_cases h2 : v2 ≤ 15
  · obtain ⟨j, hj, e⟩ := nI_of2 (x := v2) (M := 15) (n := 15) (by decide) h1 h2
    subst e
    have ci : (nI t * 16 + nI j).toNatClampNeg = t * 16 + j := by rw [sk_x16, nI_add, nI_clamp (by omega)]
    have vi : vp_in (nI t * 16 + nI j) 64 := by rw [sk_x16, nI_add]; exact vp_in_nI (by omega) (by decide)
    refine br_t h2 (And.intro vi (nm_r (e' := upd a_memory (t * 16 + j) v3) (by rw [ci]) ?_))
    refine sk_gY1 hE.2.2.2.2 k5 ht (br_f (by decide) (br_f h1 (br_t h2 (And.intro vi (nm_r (e' := upd y_m (t * 16 + j) v3) (by rw [ci]) ?_)))))
    refine ⟨rfl, nt, wd, wn, ex, sn, hd, pm, ow, hK', hE, hF, hH, hL, hM, hFr, fun x a hx hax => ?_, hA⟩
    show upd a_memory (t * 16 + j) v3 (x * 16 + a) = upd y_m (t * 16 + j) v3 (x * 16 + a)
    by_cases e : x * 16 + a = t * 16 + j
    · rw [e, pk_us, pk_us]
    · rw [pk_un e, pk_un e]; exact hMe x a hx hax
  · exact br_f h2 (sk_gY1 hE.2.2.2.2 k5 ht (br_f (by decide) (br_f h1 (br_f h2 ⟨rfl, R⟩))))
theorem i_vc_restart {k : Nat} {u : SX} {v : SY} (I : i_Rel k u v) (hk : k + 5 ≤ 2564) (v1 : Int32) (v2 : Int32) : wpX_restart (fun r u' => wpY_restart (fun r' v' => r' = r ∧ i_Rel (k + 5) u' v') v v1 v2) u v1 v2 := by
  refine sk_rel_el (Q := fun u v => wpX_restart (fun r u' => wpY_restart (fun r' v' => r' = r ∧ i_Rel (k + 5) u' v') v v1 v2) u v1 v2) ?_ I
  intro f_threads f_width f_window f_freeTop f_queued f_total a_op a_regsOf a_immOf a_sizeOf a_memory a_statusOf a_archPc a_retiredOf a_digestOf a_value a_ready a_free a_archMap a_map a_head a_count a_robPc a_robState a_robTimer a_robStop a_robDest a_robNew a_robOld a_robA a_robB a_robVal a_robAddr a_robNext a_robGuess a_robLive a_queue a_fetchPc a_fetchStop a_counter a_lastTarget a_active a_quota y_threads y_r y_m y_pcs y_states y_counts y_digests nt wd wn ex sn hd pm ow J
  have R : i_Rel (k + 5) (f_threads, f_width, f_window, f_freeTop, f_queued, f_total, a_op, a_regsOf, a_immOf, a_sizeOf, a_memory, a_statusOf, a_archPc, a_retiredOf, a_digestOf, a_value, a_ready, a_free, a_archMap, a_map, a_head, a_count, a_robPc, a_robState, a_robTimer, a_robStop, a_robDest, a_robNew, a_robOld, a_robA, a_robB, a_robVal, a_robAddr, a_robNext, a_robGuess, a_robLive, a_queue, a_fetchPc, a_fetchStop, a_counter, a_lastTarget, a_active, a_quota) (y_threads, a_op, a_regsOf, a_immOf, a_sizeOf, y_r, y_m, y_pcs, y_states, y_counts, y_digests) := ⟨nt, wd, wn, ex, sn, hd, pm, ow, J⟩
  obtain ⟨hK, hE, hF, hH, hL, hM, hFr, hMe, hA⟩ := J
  have hK' := hK
  obtain ⟨k1, k2, k3, k4, k5, k6, k7, k8, k9, k10, k11⟩ := hK
  unfold wpX_restart wpY_restart
  rcases sk_ix v1 k5 with hb | ⟨t, ht, e⟩
  · exact sk_gX0 k1 hb (br_t rfl (sk_gY0 hE.2.2.2.2 hb (br_t rfl ⟨rfl, R⟩)))
  subst e
  have vt : vp_in (nI t) 4 := vp_in_nI (by omega) (by decide)
  have ctt : (nI t).toNatClampNeg = t := nI_clamp (by omega)
  refine sk_gX1 k1 k5 ht (br_f (by decide) (And.intro vt (nm_r (e' := upd a_archPc t v2) (by rw [ctt]) (And.intro vt (nm_r (e' := upd a_statusOf t 0) (by rw [ctt]) ?_)))))
  refine sk_gY1 hE.2.2.2.2 k5 ht (br_f (by decide) (And.intro vt (nm_r (e' := upd y_pcs t v2) (by rw [ctt]) (And.intro vt (nm_r (e' := upd y_states t 0) (by rw [ctt]) ?_)))))
  refine ⟨rfl, nt, wd, wn, ex, sn, hd, pm, ow, hK', hE, hF, hH, hL, hM, hFr, hMe, fun x hx => ?_⟩
  show upd a_archPc t v2 x = upd y_pcs t v2 x ∧ upd a_statusOf t 0 x = upd y_states t 0 x ∧ a_retiredOf x = y_counts x ∧ a_digestOf x = y_digests x
  obtain ⟨a, b, c, d⟩ := hA x hx
  by_cases e : x = t
  · rw [e, pk_us, pk_us, pk_us, pk_us]; rw [e] at c d; exact ⟨rfl, rfl, c, d⟩
  · rw [pk_un e, pk_un e, pk_un e, pk_un e]; exact ⟨a, b, c, d⟩
end
section
/-! reset, the constructors -/
section
variable {f_threads f_width f_window f_freeTop f_queued f_total : Int32} {a_op a_regsOf a_immOf a_sizeOf a_memory a_statusOf a_archPc a_retiredOf a_digestOf a_value a_ready a_free a_archMap a_map a_head a_count a_robPc a_robState a_robTimer a_robStop a_robDest a_robNew a_robOld a_robA a_robB a_robVal a_robAddr a_robNext a_robGuess a_robLive a_queue a_fetchPc a_fetchStop a_counter a_lastTarget a_active a_quota : Nat → Int32} {post : Int32 → SX → Prop}
theorem sk_w_r50 {t : Nat} (ht : t < 4)
    (K : ∀ me : Nat → Int32, (∀ a, a < 16 → me (t * 16 + a) = 0) → (∀ q, (∀ a, a < 16 → q ≠ t * 16 + a) → me q = a_memory q) → post 0 (f_threads, f_width, f_window, f_freeTop, f_queued, f_total, a_op, a_regsOf, a_immOf, a_sizeOf, me, upd a_statusOf t 0, upd a_archPc t 0, upd a_retiredOf t 0, upd a_digestOf t 0, a_value, a_ready, a_free, a_archMap, a_map, a_head, a_count, a_robPc, a_robState, a_robTimer, a_robStop, a_robDest, a_robNew, a_robOld, a_robA, a_robB, a_robVal, a_robAddr, a_robNext, a_robGuess, a_robLive, a_queue, a_fetchPc, a_fetchStop, a_counter, a_lastTarget, a_active, a_quota)) :
    ∀ d i, i + d = 16 → ∀ me : Nat → Int32, (∀ a, a < i → me (t * 16 + a) = 0) → (∀ q, (∀ a, a < 16 → q ≠ t * 16 + a) → me q = a_memory q) → ∀ n, d < n → wX_reset_50 post (nI t) f_threads f_width f_window f_freeTop f_queued f_total n (nI i) a_op a_regsOf a_immOf a_sizeOf me a_statusOf a_archPc a_retiredOf a_digestOf a_value a_ready a_free a_archMap a_map a_head a_count a_robPc a_robState a_robTimer a_robStop a_robDest a_robNew a_robOld a_robA a_robB a_robVal a_robAddr a_robNext a_robGuess a_robLive a_queue a_fetchPc a_fetchStop a_counter a_lastTarget a_active a_quota := by
  have vt : vp_in (nI t) 4 := vp_in_nI ht (by decide)
  have ct : (nI t).toNatClampNeg = t := nI_clamp (by omega)
  intro d
  induction d with
  | zero =>
    intro i hi me h1 h2 n hn
    obtain ⟨m, rfl⟩ : ∃ m, n = m + 1 := ⟨n - 1, by omega⟩
    have e : i = 16 := by omega
    subst e
    refine br_t (nI_le (a := 16) (by omega) (by omega)) ?_
    exact And.intro vt (nm_r (e' := upd a_archPc t 0) (by rw [ct]) (And.intro vt (nm_r (e' := upd a_statusOf t 0) (by rw [ct]) (And.intro vt (nm_r (e' := upd a_retiredOf t 0) (by rw [ct]) (And.intro vt (nm_r (e' := upd a_digestOf t 0) (by rw [ct]) (K me h1 h2))))))))
  | succ d ih =>
    intro i hi me h1 h2 n hn
    obtain ⟨m, rfl⟩ : ∃ m, n = m + 1 := ⟨n - 1, by omega⟩
    refine br_f (nI_ge (b := 16) (by omega) (by omega)) ?_
    refine And.intro (by rw [sk_x16, nI_add]; exact vp_in_nI (by omega) (by decide)) (nm_r (e' := upd me (t * 16 + i) 0) (by rw [sk_x16, nI_add, nI_clamp (by omega)]) (nm_r (nI_1 i) ?_))
    refine ih (i + 1) (by omega) _ (fun a ha => ?_) (fun q hq => ?_) m (by omega)
    · by_cases e : a = i
      · rw [e, pk_us]
      · rw [pk_un (by omega)]; exact h1 a (by omega)
    · rw [pk_un (hq i (by omega))]; exact h2 q hq
theorem sk_w_r19 {t : Nat} {pm : Nat → Nat → Nat} (ht : t < 4) (hM : ∀ j, j < 8 → a_archMap (t * 8 + j) = nI (pm t j) ∧ pm t j < 56)
    (K : ∀ vl me : Nat → Int32, (∀ j, j < 8 → vl (pm t j) = 0) → (∀ p, (∀ j, j < 8 → p ≠ pm t j) → vl p = a_value p) → (∀ a, a < 16 → me (t * 16 + a) = 0) → (∀ q, (∀ a, a < 16 → q ≠ t * 16 + a) → me q = a_memory q) →
      post 0 (f_threads, f_width, f_window, f_freeTop, f_queued, f_total, a_op, a_regsOf, a_immOf, a_sizeOf, me, upd a_statusOf t 0, upd a_archPc t 0, upd a_retiredOf t 0, upd a_digestOf t 0, vl, a_ready, a_free, a_archMap, a_map, a_head, a_count, a_robPc, a_robState, a_robTimer, a_robStop, a_robDest, a_robNew, a_robOld, a_robA, a_robB, a_robVal, a_robAddr, a_robNext, a_robGuess, a_robLive, a_queue, a_fetchPc, a_fetchStop, a_counter, a_lastTarget, a_active, a_quota)) :
    ∀ d i, i + d = 8 → ∀ vl : Nat → Int32, (∀ j, j < i → vl (pm t j) = 0) → (∀ p, (∀ j, j < 8 → p ≠ pm t j) → vl p = a_value p) → ∀ n, d < n → wX_reset_19 post (nI t) f_threads f_width f_window f_freeTop f_queued f_total n (nI i) a_op a_regsOf a_immOf a_sizeOf a_memory a_statusOf a_archPc a_retiredOf a_digestOf vl a_ready a_free a_archMap a_map a_head a_count a_robPc a_robState a_robTimer a_robStop a_robDest a_robNew a_robOld a_robA a_robB a_robVal a_robAddr a_robNext a_robGuess a_robLive a_queue a_fetchPc a_fetchStop a_counter a_lastTarget a_active a_quota := by
  intro d
  induction d with
  | zero =>
    intro i hi vl h1 h2 n hn
    obtain ⟨m, rfl⟩ : ∃ m, n = m + 1 := ⟨n - 1, by omega⟩
    have e : i = 8 := by omega
    subst e
    refine br_t (nI_le (a := 8) (by omega) (by omega)) ⟨17, ?_⟩
    exact sk_w_r50 ht (fun me m1 m2 => K vl me h1 h2 m1 m2) 16 0 (by omega) a_memory (fun a ha => absurd ha (Nat.not_lt_zero a)) (fun _ _ => rfl) 17 (by omega)
  | succ d ih =>
    intro i hi vl h1 h2 n hn
    obtain ⟨m, rfl⟩ : ∃ m, n = m + 1 := ⟨n - 1, by omega⟩
    have w := hM i (by omega)
    have ci : (nI t * 8 + nI i).toNatClampNeg = t * 8 + i := by rw [sk_x8, nI_add, nI_clamp (by omega)]
    refine br_f (nI_ge (b := 8) (by omega) (by omega)) ?_
    refine And.intro (by rw [sk_x8, nI_add]; exact vp_in_nI (by omega) (by decide)) (And.intro (by rw [ci, w.1]; exact vp_in_nI w.2 (by decide)) (nm_r (e' := upd vl (pm t i) 0) (by rw [ci, w.1, nI_clamp (by omega)]) (nm_r (nI_1 i) ?_)))
    refine ih (i + 1) (by omega) _ (fun a ha => ?_) (fun q hq => ?_) m (by omega)
    · by_cases e : pm t a = pm t i
      · rw [e, pk_us]
      · rw [pk_un e]
        apply h1 a
        by_cases e2 : a = i
        · rw [e2] at e; exact absurd rfl e
        · omega
    · rw [pk_un (hq i (by omega))]; exact h2 q hq
end
section
variable {y_threads : Int32} {y_ops y_regs y_imms y_sizes y_r y_m y_pcs y_states y_counts y_digests : Nat → Int32} {post : Int32 → SY → Prop}
theorem sk_y_r38 {t : Nat} (ht : t < 4)
    (K : ∀ me : Nat → Int32, (∀ a, a < 16 → me (t * 16 + a) = 0) → (∀ q, (∀ a, a < 16 → q ≠ t * 16 + a) → me q = y_m q) → post 0 (y_threads, y_ops, y_regs, y_imms, upd y_sizes t 0, y_r, me, upd y_pcs t 0, upd y_states t 0, upd y_counts t 0, upd y_digests t 0)) :
    ∀ d i, i + d = 16 → ∀ me : Nat → Int32, (∀ a, a < i → me (t * 16 + a) = 0) → (∀ q, (∀ a, a < 16 → q ≠ t * 16 + a) → me q = y_m q) → ∀ n, d < n → wY_reset_38 post (nI t) y_threads n (nI i) y_ops y_regs y_imms y_sizes y_r me y_pcs y_states y_counts y_digests := by
  have vt : vp_in (nI t) 4 := vp_in_nI ht (by decide)
  have ct : (nI t).toNatClampNeg = t := nI_clamp (by omega)
  intro d
  induction d with
  | zero =>
    intro i hi me h1 h2 n hn
    obtain ⟨m, rfl⟩ : ∃ m, n = m + 1 := ⟨n - 1, by omega⟩
    have e : i = 16 := by omega
    subst e
    refine br_t (nI_le (a := 16) (by omega) (by omega)) ?_
    exact And.intro vt (nm_r (e' := upd y_sizes t 0) (by rw [ct]) (And.intro vt (nm_r (e' := upd y_pcs t 0) (by rw [ct]) (And.intro vt (nm_r (e' := upd y_states t 0) (by rw [ct]) (And.intro vt (nm_r (e' := upd y_counts t 0) (by rw [ct]) (And.intro vt (nm_r (e' := upd y_digests t 0) (by rw [ct]) (K me h1 h2))))))))))
  | succ d ih =>
    intro i hi me h1 h2 n hn
    obtain ⟨m, rfl⟩ : ∃ m, n = m + 1 := ⟨n - 1, by omega⟩
    refine br_f (nI_ge (b := 16) (by omega) (by omega)) ?_
    refine And.intro (by rw [sk_x16, nI_add]; exact vp_in_nI (by omega) (by decide)) (nm_r (e' := upd me (t * 16 + i) 0) (by rw [sk_x16, nI_add, nI_clamp (by omega)]) (nm_r (nI_1 i) ?_))
    refine ih (i + 1) (by omega) _ (fun a ha => ?_) (fun q hq => ?_) m (by omega)
    · by_cases e : a = i
      · rw [e, pk_us]
      · rw [pk_un (by omega)]; exact h1 a (by omega)
    · rw [pk_un (hq i (by omega))]; exact h2 q hq
theorem sk_y_r12 {t : Nat} (ht : t < 4)
    (K : ∀ r me : Nat → Int32, (∀ j, j < 8 → r (t * 8 + j) = 0) → (∀ q, (∀ j, j < 8 → q ≠ t * 8 + j) → r q = y_r q) → (∀ a, a < 16 → me (t * 16 + a) = 0) → (∀ q, (∀ a, a < 16 → q ≠ t * 16 + a) → me q = y_m q) →
      post 0 (y_threads, y_ops, y_regs, y_imms, upd y_sizes t 0, r, me, upd y_pcs t 0, upd y_states t 0, upd y_counts t 0, upd y_digests t 0)) :
    ∀ d i, i + d = 8 → ∀ r : Nat → Int32, (∀ j, j < i → r (t * 8 + j) = 0) → (∀ q, (∀ j, j < 8 → q ≠ t * 8 + j) → r q = y_r q) → ∀ n, d < n → wY_reset_12 post (nI t) y_threads n (nI i) y_ops y_regs y_imms y_sizes r y_m y_pcs y_states y_counts y_digests := by
  intro d
  induction d with
  | zero =>
    intro i hi r h1 h2 n hn
    obtain ⟨m, rfl⟩ : ∃ m, n = m + 1 := ⟨n - 1, by omega⟩
    have e : i = 8 := by omega
    subst e
    refine br_t (nI_le (a := 8) (by omega) (by omega)) ⟨17, ?_⟩
    exact sk_y_r38 ht (fun me m1 m2 => K r me h1 h2 m1 m2) 16 0 (by omega) y_m (fun a ha => absurd ha (Nat.not_lt_zero a)) (fun _ _ => rfl) 17 (by omega)
  | succ d ih =>
    intro i hi r h1 h2 n hn
    obtain ⟨m, rfl⟩ : ∃ m, n = m + 1 := ⟨n - 1, by omega⟩
    refine br_f (nI_ge (b := 8) (by omega) (by omega)) ?_
    refine And.intro (by rw [sk_x8, nI_add]; exact vp_in_nI (by omega) (by decide)) (nm_r (e' := upd r (t * 8 + i) 0) (by rw [sk_x8, nI_add, nI_clamp (by omega)]) (nm_r (nI_1 i) ?_))
    refine ih (i + 1) (by omega) _ (fun a ha => ?_) (fun q hq => ?_) m (by omega)
    · by_cases e : a = i
      · rw [e, pk_us]
      · rw [pk_un (by omega)]; exact h1 a (by omega)
    · rw [pk_un (hq i (by omega))]; exact h2 q hq
end
theorem i_vc_reset {k : Nat} {u : SX} {v : SY} (I : i_Rel k u v) (hk : k + 5 ≤ 2564) (v1 : Int32) : wpX_reset (fun r u' => wpY_reset (fun r' v' => r' = r ∧ i_Rel (k + 5) u' v') v v1) u v1 := by
  refine sk_rel_el (Q := fun u v => wpX_reset (fun r u' => wpY_reset (fun r' v' => r' = r ∧ i_Rel (k + 5) u' v') v v1) u v1) ?_ I
  intro f_threads f_width f_window f_freeTop f_queued f_total a_op a_regsOf a_immOf a_sizeOf a_memory a_statusOf a_archPc a_retiredOf a_digestOf a_value a_ready a_free a_archMap a_map a_head a_count a_robPc a_robState a_robTimer a_robStop a_robDest a_robNew a_robOld a_robA a_robB a_robVal a_robAddr a_robNext a_robGuess a_robLive a_queue a_fetchPc a_fetchStop a_counter a_lastTarget a_active a_quota y_threads y_r y_m y_pcs y_states y_counts y_digests nt wd wn ex sn hd pm ow J
  have R : i_Rel (k + 5) (f_threads, f_width, f_window, f_freeTop, f_queued, f_total, a_op, a_regsOf, a_immOf, a_sizeOf, a_memory, a_statusOf, a_archPc, a_retiredOf, a_digestOf, a_value, a_ready, a_free, a_archMap, a_map, a_head, a_count, a_robPc, a_robState, a_robTimer, a_robStop, a_robDest, a_robNew, a_robOld, a_robA, a_robB, a_robVal, a_robAddr, a_robNext, a_robGuess, a_robLive, a_queue, a_fetchPc, a_fetchStop, a_counter, a_lastTarget, a_active, a_quota) (y_threads, a_op, a_regsOf, a_immOf, a_sizeOf, y_r, y_m, y_pcs, y_states, y_counts, y_digests) := ⟨nt, wd, wn, ex, sn, hd, pm, ow, J⟩
  obtain ⟨hK, hE, hF, hH, hL, hM, hFr, hMe, hA⟩ := J
  obtain ⟨k1, k2, k3, k4, k5, k6, k7, k8, k9, k10, k11⟩ := hK
  unfold wpX_reset wpY_reset
  rcases sk_ix v1 k5 with hb | ⟨t, ht, e⟩
  · exact sk_gX0 k1 hb (br_t rfl (sk_gY0 hE.2.2.2.2 hb (br_t rfl ⟨rfl, R⟩)))
  subst e
  have vt : vp_in (nI t) 4 := vp_in_nI (by omega) (by decide)
  have ctt : (nI t).toNatClampNeg = t := nI_clamp (by omega)
  refine sk_gX1 k1 k5 ht (br_f (by decide) (And.intro vt (nm_r (e' := upd a_sizeOf t 0) (by rw [ctt]) ⟨9, ?_⟩)))
  refine sk_w_r19 (pm := pm) (by omega) (fun j hj => ⟨(hM t j ht hj).1, (hM t j ht hj).2.2.1⟩) ?_ 8 0 (by omega) a_value (fun j hj => absurd hj (Nat.not_lt_zero j)) (fun _ _ => rfl) 9 (by omega)
  intro vl me x1 x2 x3 x4
  refine sk_gY1 hE.2.2.2.2 k5 ht (br_f (by decide) ⟨9, ?_⟩)
  refine sk_y_r12 (by omega) ?_ 8 0 (by omega) y_r (fun j hj => absurd hj (Nat.not_lt_zero j)) (fun _ _ => rfl) 9 (by omega)
  intro r' m' z1 z2 z3 z4
  refine ⟨rfl, nt, wd, wn, ex, sk_u sn t 0, hd, pm, ow, ⟨k1, k2, k3, k4, k5, k6, k7, k8, k9, k10, fun x hx => ?_⟩, ⟨rfl, rfl, rfl, rfl, hE.2.2.2.2⟩, hF, hH, hL, fun x i hx hi => ?_, hFr, fun x a hx hax => ?_, fun x hx => ?_⟩
  · show upd a_sizeOf t 0 x = nI (sk_u sn t 0 x) ∧ sk_u sn t 0 x ≤ 24
    by_cases e : x = t
    · rw [e, pk_us, sk_us]; exact ⟨rfl, by omega⟩
    · rw [pk_un e, sk_un e]; exact k11 x hx
  · obtain ⟨m1, m2, m3, m4, m5, m6⟩ := hM x i hx hi
    refine ⟨m1, m2, m3, m4, m5, ?_⟩
    show vl (pm x i) = r' (x * 8 + i)
    by_cases e : x = t
    · subst e
      rw [x1 i hi, z1 i hi]
    · rw [x2 _ (fun j hj z => ?_), z2 _ (fun j hj => by omega)]
      · exact m6
      · have q := (hM t j ht hj).2.2.2.2.1
        rw [z, q] at m5; omega
  · show me (x * 16 + a) = m' (x * 16 + a)
    by_cases e : x = t
    · subst e
      rw [x3 a hax, z3 a hax]
    · rw [x4 _ (fun j hj => by omega), z4 _ (fun j hj => by omega)]
      exact hMe x a hx hax
  · show upd a_archPc t 0 x = upd y_pcs t 0 x ∧ upd a_statusOf t 0 x = upd y_states t 0 x ∧ upd a_retiredOf t 0 x = upd y_counts t 0 x ∧ upd a_digestOf t 0 x = upd y_digests t 0 x
    obtain ⟨a, b, c, d⟩ := hA x hx
    by_cases e : x = t
    · rw [e, pk_us, pk_us, pk_us, pk_us, pk_us, pk_us, pk_us, pk_us]; exact ⟨rfl, rfl, rfl, rfl⟩
    · rw [pk_un e, pk_un e, pk_un e, pk_un e, pk_un e, pk_un e, pk_un e, pk_un e]; exact ⟨a, b, c, d⟩
/-! constructors -/
theorem sk_w_cl {x : Int32} {lo hi : Nat} (hl : lo ≤ hi) (hh : hi < 100) : ∃ c, lo ≤ c ∧ c ≤ hi ∧ ∀ post : Int32 → Prop, post (nI c) → wpX_clamp post x (nI lo) (nI hi) := by
  by_cases h1 : nI lo ≤ x
  · by_cases h2 : x ≤ nI hi
    · have h0 : ¬ x < 0 := Int32.not_lt.mpr (Int32.le_trans (nI_pos' (by omega)) h1)
      obtain ⟨c, hc, e⟩ := nI_of h0
      subst e
      rw [nI_leI (by omega) hc] at h1
      rw [nI_leI hc (by omega)] at h2
      exact ⟨c, h1, h2, fun post K => br_t (nI_le h1 hc) (br_t (nI_le h2 (by omega)) K)⟩
    · exact ⟨hi, hl, Nat.le_refl hi, fun post K => br_t h1 (br_f h2 K)⟩
  · exact ⟨lo, Nat.le_refl lo, hl, fun post K => br_f h1 K⟩
section
variable {f_threads f_width f_window f_freeTop f_queued f_total : Int32} {a_op a_regsOf a_immOf a_sizeOf a_memory a_statusOf a_archPc a_retiredOf a_digestOf a_value a_ready a_free a_archMap a_map a_head a_count a_robPc a_robState a_robTimer a_robStop a_robDest a_robNew a_robOld a_robA a_robB a_robVal a_robAddr a_robNext a_robGuess a_robLive a_queue a_fetchPc a_fetchStop a_counter a_lastTarget a_active a_quota : Nat → Int32} {post : SX → Prop}
theorem sk_w_i433 (K : ∀ cc, post (f_threads, f_width, f_window, f_freeTop, f_queued, f_total, a_op, a_regsOf, a_immOf, a_sizeOf, a_memory, a_statusOf, a_archPc, a_retiredOf, a_digestOf, a_value, a_ready, a_free, a_archMap, a_map, a_head, a_count, a_robPc, a_robState, a_robTimer, a_robStop, a_robDest, a_robNew, a_robOld, a_robA, a_robB, a_robVal, a_robAddr, a_robNext, a_robGuess, a_robLive, a_queue, a_fetchPc, a_fetchStop, cc, a_lastTarget, a_active, a_quota)) : ∀ d i, i + d = 96 → ∀ cc : Nat → Int32, ∀ n, d < n → wX_init_433 post f_threads f_width f_window f_freeTop f_queued f_total n (nI i) a_op a_regsOf a_immOf a_sizeOf a_memory a_statusOf a_archPc a_retiredOf a_digestOf a_value a_ready a_free a_archMap a_map a_head a_count a_robPc a_robState a_robTimer a_robStop a_robDest a_robNew a_robOld a_robA a_robB a_robVal a_robAddr a_robNext a_robGuess a_robLive a_queue a_fetchPc a_fetchStop cc a_lastTarget a_active a_quota := by
  intro d
  induction d with
  | zero =>
    intro i hi cc n hn
    obtain ⟨m, rfl⟩ : ∃ m, n = m + 1 := ⟨n - 1, by omega⟩
    exact br_t (nI_le (a := 96) (by omega) (by omega)) (K cc)
  | succ d ih =>
    intro i hi cc n hn
    obtain ⟨m, rfl⟩ : ∃ m, n = m + 1 := ⟨n - 1, by omega⟩
    exact br_f (nI_ge (b := 96) (by omega) (by omega)) (And.intro (vp_in_nI (by omega) (by decide)) (nm_e (nm_r (nI_1 i) (ih (i + 1) (by omega) _ m (by omega)))))
theorem sk_w_i399 {nm ex : Nat} (hnm : nm ≤ 32) (hex : ex ≤ 24) (K : ∀ cc fr : Nat → Int32, (∀ i, i < ex → fr i = nI (nm + i)) → post (f_threads, f_width, f_window, nI ex, f_queued, f_total, a_op, a_regsOf, a_immOf, a_sizeOf, a_memory, a_statusOf, a_archPc, a_retiredOf, a_digestOf, a_value, a_ready, fr, a_archMap, a_map, a_head, a_count, a_robPc, a_robState, a_robTimer, a_robStop, a_robDest, a_robNew, a_robOld, a_robA, a_robB, a_robVal, a_robAddr, a_robNext, a_robGuess, a_robLive, a_queue, a_fetchPc, a_fetchStop, cc, a_lastTarget, a_active, a_quota)) :
    ∀ d i, i + d = ex → ∀ fr : Nat → Int32, (∀ j, j < i → fr j = nI (nm + j)) → ∀ n, d < n → wX_init_399 post (nI nm) (nI ex) f_threads f_width f_window f_freeTop f_queued f_total n (nI i) a_op a_regsOf a_immOf a_sizeOf a_memory a_statusOf a_archPc a_retiredOf a_digestOf a_value a_ready fr a_archMap a_map a_head a_count a_robPc a_robState a_robTimer a_robStop a_robDest a_robNew a_robOld a_robA a_robB a_robVal a_robAddr a_robNext a_robGuess a_robLive a_queue a_fetchPc a_fetchStop a_counter a_lastTarget a_active a_quota := by
  intro d
  induction d with
  | zero =>
    intro i hi fr h n hn
    obtain ⟨m, rfl⟩ : ∃ m, n = m + 1 := ⟨n - 1, by omega⟩
    have e : i = ex := by omega
    subst e
    refine br_t (nI_le (by omega) (by omega)) ⟨97, ?_⟩
    exact sk_w_i433 (fun cc => K cc fr h) 96 0 (by omega) a_counter 97 (by omega)
  | succ d ih =>
    intro i hi fr h n hn
    obtain ⟨m, rfl⟩ : ∃ m, n = m + 1 := ⟨n - 1, by omega⟩
    refine br_f (nI_ge (by omega) (by omega)) (And.intro (vp_in_nI (by omega) (by decide)) (nm_r (e' := upd fr i (nI (nm + i))) (by rw [nI_clamp (by omega), nI_add]) (nm_r (nI_1 i) ?_)))
    refine ih (i + 1) (by omega) _ (fun j hj => ?_) m (by omega)
    by_cases e : j = i
    · rw [e, pk_us]
    · rw [pk_un e]; exact h j (by omega)
theorem sk_w_i366 {nm : Nat} {x3 : Int32} (hnm : nm ≤ 32) (K : ∀ (ex : Nat) (cc fr rd : Nat → Int32), 2 ≤ ex → ex ≤ 24 → (∀ i, i < ex → fr i = nI (nm + i)) → (∀ i, i < 56 → rd i = 1) → post (f_threads, f_width, f_window, nI ex, f_queued, f_total, a_op, a_regsOf, a_immOf, a_sizeOf, a_memory, a_statusOf, a_archPc, a_retiredOf, a_digestOf, a_value, rd, fr, a_archMap, a_map, a_head, a_count, a_robPc, a_robState, a_robTimer, a_robStop, a_robDest, a_robNew, a_robOld, a_robA, a_robB, a_robVal, a_robAddr, a_robNext, a_robGuess, a_robLive, a_queue, a_fetchPc, a_fetchStop, cc, a_lastTarget, a_active, a_quota)) :
    ∀ d i, i + d = 56 → ∀ rd : Nat → Int32, (∀ j, j < i → rd j = 1) → ∀ n, d < n → wX_init_366 post x3 (nI nm) f_threads f_width f_window f_freeTop f_queued f_total n (nI i) a_op a_regsOf a_immOf a_sizeOf a_memory a_statusOf a_archPc a_retiredOf a_digestOf a_value rd a_free a_archMap a_map a_head a_count a_robPc a_robState a_robTimer a_robStop a_robDest a_robNew a_robOld a_robA a_robB a_robVal a_robAddr a_robNext a_robGuess a_robLive a_queue a_fetchPc a_fetchStop a_counter a_lastTarget a_active a_quota := by
  intro d
  induction d with
  | zero =>
    intro i hi rd h n hn
    obtain ⟨m, rfl⟩ : ∃ m, n = m + 1 := ⟨n - 1, by omega⟩
    have e : i = 56 := by omega
    subst e
    obtain ⟨ex, e2, e24, hcl⟩ := sk_w_cl (x := x3) (lo := 2) (hi := 24) (by omega) (by omega)
    refine br_t (nI_le (a := 56) (by omega) (by omega)) (hcl _ ⟨ex + 1, ?_⟩)
    exact sk_w_i399 hnm e24 (fun cc fr hfr => K ex cc fr rd e2 e24 hfr h) ex 0 (by omega) a_free (fun j hj => absurd hj (Nat.not_lt_zero j)) (ex + 1) (by omega)
  | succ d ih =>
    intro i hi rd h n hn
    obtain ⟨m, rfl⟩ : ∃ m, n = m + 1 := ⟨n - 1, by omega⟩
    refine br_f (nI_ge (b := 56) (by omega) (by omega)) (And.intro (vp_in_nI (by omega) (by decide)) (nm_r (e' := upd rd i 1) (by rw [nI_clamp (by omega), sk_b1]) (nm_r (nI_1 i) ?_)))
    refine ih (i + 1) (by omega) _ (fun j hj => ?_) m (by omega)
    by_cases e : j = i
    · rw [e, pk_us]
    · rw [pk_un e]; exact h j (by omega)
theorem sk_w_i332 {nm : Nat} {x3 : Int32} (hnm : nm ≤ 32) (K : ∀ (ex : Nat) (cc fr rd am mp : Nat → Int32), 2 ≤ ex → ex ≤ 24 → (∀ i, i < ex → fr i = nI (nm + i)) → (∀ i, i < 56 → rd i = 1) → (∀ i, i < 32 → am i = nI i ∧ mp i = nI i) → post (f_threads, f_width, f_window, nI ex, f_queued, f_total, a_op, a_regsOf, a_immOf, a_sizeOf, a_memory, a_statusOf, a_archPc, a_retiredOf, a_digestOf, a_value, rd, fr, am, mp, a_head, a_count, a_robPc, a_robState, a_robTimer, a_robStop, a_robDest, a_robNew, a_robOld, a_robA, a_robB, a_robVal, a_robAddr, a_robNext, a_robGuess, a_robLive, a_queue, a_fetchPc, a_fetchStop, cc, a_lastTarget, a_active, a_quota)) :
    ∀ d i, i + d = 32 → ∀ am mp : Nat → Int32, (∀ j, j < i → am j = nI j ∧ mp j = nI j) → ∀ n, d < n → wX_init_332 post x3 (nI nm) f_threads f_width f_window f_freeTop f_queued f_total n (nI i) a_op a_regsOf a_immOf a_sizeOf a_memory a_statusOf a_archPc a_retiredOf a_digestOf a_value a_ready a_free am mp a_head a_count a_robPc a_robState a_robTimer a_robStop a_robDest a_robNew a_robOld a_robA a_robB a_robVal a_robAddr a_robNext a_robGuess a_robLive a_queue a_fetchPc a_fetchStop a_counter a_lastTarget a_active a_quota := by
  intro d
  induction d with
  | zero =>
    intro i hi am mp h n hn
    obtain ⟨m, rfl⟩ : ∃ m, n = m + 1 := ⟨n - 1, by omega⟩
    have e : i = 32 := by omega
    subst e
    refine br_t (nI_le (a := 32) (by omega) (by omega)) ⟨57, ?_⟩
    exact sk_w_i366 hnm (fun ex cc fr rd a b c d => K ex cc fr rd am mp a b c d h) 56 0 (by omega) a_ready (fun j hj => absurd hj (Nat.not_lt_zero j)) 57 (by omega)
  | succ d ih =>
    intro i hi am mp h n hn
    obtain ⟨m, rfl⟩ : ∃ m, n = m + 1 := ⟨n - 1, by omega⟩
    have vi : vp_in (nI i) 32 := vp_in_nI (by omega) (by decide)
    have ci : (nI i).toNatClampNeg = i := nI_clamp (by omega)
    refine br_f (nI_ge (b := 32) (by omega) (by omega)) (And.intro vi (nm_r (e' := upd am i (nI i)) (by rw [ci]) (And.intro vi (nm_r (e' := upd mp i (nI i)) (by rw [ci]) (nm_r (nI_1 i) ?_)))))
    refine ih (i + 1) (by omega) _ _ (fun j hj => ?_) m (by omega)
    by_cases e : j = i
    · rw [e, pk_us, pk_us]; exact ⟨rfl, rfl⟩
    · rw [pk_un e, pk_un e]; exact h j (by omega)
end
theorem sk_thr (x k1 k2 k3 : Int32) : ∃ c, 1 ≤ c ∧ c ≤ 4 ∧ (∀ post : Int32 → Prop, post (nI c) → wpX_clamp post x 1 4) ∧
    (∀ post : SY → Prop, post (nI c, (fun _ => 0), (fun _ => 0), (fun _ => 0), (fun _ => 0), (fun _ => 0), (fun _ => 0), (fun _ => 0), (fun _ => 0), (fun _ => 0), (fun _ => 0)) → wpY_init post x k1 k2 k3) := by
  by_cases h1 : (1 : Int32) ≤ x
  · by_cases h2 : x ≤ 4
    · have h0 : ¬ x < 0 := Int32.not_lt.mpr (Int32.le_trans (by decide) h1)
      obtain ⟨c, hc, e⟩ := nI_of h0
      subst e
      have a : 1 ≤ c := (nI_leI (a := 1) (by omega) hc).mp h1
      have b : c ≤ 4 := (nI_leI (b := 4) hc (by omega)).mp h2
      exact ⟨c, a, b, fun post K => br_t h1 (br_t h2 K), fun post K => br_t h1 (br_t h2 K)⟩
    · exact ⟨4, by omega, by omega, fun post K => br_t h1 (br_f h2 K), fun post K => br_t h1 (br_f h2 K)⟩
  · exact ⟨1, by omega, by omega, fun post K => br_f h1 K, fun post K => br_f h1 (br_t (by decide) K)⟩
theorem i_vc0 (k0 : Int32) (k1 : Int32) (k2 : Int32) (k3 : Int32) : wpX_init (fun u => wpY_init (fun v => i_Rel 4 u v) k0 k1 k2 k3) k0 k1 k2 k3 := by
  obtain ⟨nt, t1, t4, hX, hY⟩ := sk_thr k0 k1 k2 k3
  obtain ⟨wd, w1, w4, hW⟩ := sk_w_cl (x := k1) (lo := 1) (hi := 4) (by omega) (by omega)
  obtain ⟨wn, n2, n12, hN⟩ := sk_w_cl (x := k3) (lo := 2) (hi := 12) (by omega) (by omega)
  unfold wpX_init
  refine hX _ (hW _ (hN _ (nm_r (e' := nI (nt * 8)) (sk_x8 nt) ⟨33, ?_⟩)))
  refine sk_w_i332 (by omega) ?_ 32 0 (by omega) (fun _ => 0) (fun _ => 0) (fun j hj => absurd hj (Nat.not_lt_zero j)) 33 (by omega)
  intro ex cc fr rd am mp e2 e24 hfr hrd ham
  refine hY _ ?_
  refine ⟨nt, wd, wn, ex, fun _ => 0, fun _ => 0, fun t j => t * 8 + j, fun p => if p < nt * 8 then p else 80 + (p - nt * 8), ⟨rfl, rfl, rfl, t1, t4, w1, w4, n2, n12, fun i => (by decide : (0 : Int32) ≤ 0 ∧ (0 : Int32) ≤ 15), fun t ht => ⟨rfl, Nat.zero_le 24⟩⟩, ⟨rfl, rfl, rfl, rfl, rfl⟩, ⟨rfl, e2, e24, rfl⟩, fun t ht => ⟨rfl, (by decide : 0 < 12), rfl, rfl⟩, fun s hs => rfl, fun t j ht hj => ?_, fun i hi => ?_, fun t a _ _ => rfl, fun t ht => ⟨rfl, rfl, rfl, rfl⟩⟩
  · have w := ham (t * 8 + j) (by omega)
    refine ⟨w.1, w.2, (by omega : t * 8 + j < 56), ?_, ?_, rfl⟩
    · show rd (t * 8 + j) ≠ 0
      rw [hrd _ (by omega)]; decide
    · show (if t * 8 + j < nt * 8 then t * 8 + j else 80 + (t * 8 + j - nt * 8)) = t * 8 + j
      rw [if_pos (by omega)]
  · refine ⟨nt * 8 + i, by omega, hfr i hi, ?_⟩
    show (if nt * 8 + i < nt * 8 then nt * 8 + i else 80 + (nt * 8 + i - nt * 8)) = 80 + i
    rw [if_neg (by omega)]; omega
end
