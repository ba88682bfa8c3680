section
theorem pk_us {f : Nat → Int32} {k : Nat} {x : Int32} : upd f k x k = x := if_pos rfl
theorem pk_un {f : Nat → Int32} {k j : Nat} {x : Int32} (h : j ≠ k) : upd f k x j = f j := if_neg h
theorem pk_sub {a b : Nat} (h : b ≤ a) : nI a - nI b = nI (a - b) := by
  obtain ⟨c, rfl⟩ : ∃ c, a = c + b := ⟨a - b, by omega⟩
  rw [← nI_add, Int32.add_sub_cancel, Nat.add_sub_cancel]
theorem pk_m1 (n : Nat) : nI (n + 1) + (-1) = nI n := by
  rw [← nI_1, Int32.add_assoc, show (1 : Int32) + (-1) = 0 from rfl, Int32.add_zero]
theorem pk_mul (a b : Nat) : nI a * nI b = nI (a * b) := (Int32.ofNat_mul a b).symm
theorem pk_div {a d : Nat} (ha : a < 2 ^ 31) (h0 : 0 < d) (hd : d < 2 ^ 31) : nI a / nI d = nI (a / d) := by
  apply Int32.toInt_inj.mp
  rw [lg_idiv_nonneg (by rw [nI_toInt ha]; omega) (by rw [nI_toInt hd]; omega), nI_toInt ha, nI_toInt hd, nI_toInt (Nat.lt_of_le_of_lt (Nat.div_le_self a d) ha)]
  first | rfl | exact (Int.natCast_ediv _ _).symm
theorem pk_rem {a d : Nat} (ha : a < 2 ^ 31) (h0 : 0 < d) (hd : d < 2 ^ 31) : nI a - nI a / nI d * nI d = nI (a % d) := by
  rw [pk_div ha h0 hd, pk_mul, pk_sub (Nat.div_mul_le_self a d)]
  exact congrArg nI (by have := Nat.div_add_mod' a d; omega)
theorem pk_ix (x : Int32) {n : Nat} (hn : n < 2 ^ 31) : x < 0 ∨ nI n ≤ x ∨ ∃ j : Nat, j < n ∧ x = nI j := by
  by_cases h : x < 0
  · exact Or.inl h
  · obtain ⟨j, hj, rfl⟩ := nI_of h
    by_cases h2 : j < n
    · exact Or.inr (Or.inr ⟨j, h2, rfl⟩)
    · exact Or.inr (Or.inl (nI_le (by omega) hj))
theorem pk_le {x y : Int32} {A B : Prop} (a b : Nat) (f : a ≤ b → A) (g : b < a → B) (hx : x = nI a := by rfl) (hy : y = nI b := by rfl) (ha : a < 2 ^ 31 := by omega) (hb : b < 2 ^ 31 := by omega) : (x ≤ y → A) ∧ (¬ x ≤ y → B) := by
  subst hx hy
  rw [nI_leI ha hb]
  exact ⟨f, fun z => g (by omega)⟩
theorem pk_lt {x y : Int32} {A B : Prop} (a b : Nat) (f : a < b → A) (g : b ≤ a → B) (hx : x = nI a := by rfl) (hy : y = nI b := by rfl) (ha : a < 2 ^ 31 := by omega) (hb : b < 2 ^ 31 := by omega) : (x < y → A) ∧ (¬ x < y → B) := by
  subst hx hy
  rw [nI_ltI ha hb]
  exact ⟨f, fun z => g (by omega)⟩
theorem pk_eq {x y : Int32} {A B : Prop} (a b : Nat) (f : a = b → A) (g : a ≠ b → B) (hx : x = nI a := by rfl) (hy : y = nI b := by rfl) (ha : a < 2 ^ 31 := by omega) (hb : b < 2 ^ 31 := by omega) : (x = y → A) ∧ (¬ x = y → B) := by
  subst hx hy
  rw [nI_eq ha hb]
  exact ⟨f, g⟩
theorem pk_in {x : Int32} (n N : Nat) (h : n < N) (hx : x = nI n := by rfl) (hN : N < 2 ^ 31 := by omega) : vp_in x N := by
  subst hx
  exact vp_in_nI h hN
theorem pk_cl {x : Int32} (n : Nat) (hx : x = nI n := by rfl) (h : n < 2 ^ 31 := by omega) : x.toNatClampNeg = n := by
  subst hx
  exact nI_clamp h
theorem pk_tn {n : Nat} (h : n < 2 ^ 32) : (nI n).toBitVec.toNat = n := Nat.mod_eq_of_lt h
theorem pk_and (x : Int32) {m : Int32} (k : Nat) (hm : m.toBitVec.toNat = 2 ^ k - 1) : x &&& m = nI (x.toBitVec.toNat % 2 ^ k) := by
  apply Int32.toBitVec_inj.mp
  apply BitVec.eq_of_toNat_eq
  rw [Int32.toBitVec_and, BitVec.toNat_and, hm, Nat.and_two_pow_sub_one_eq_mod]
  show _ = (BitVec.ofNat 32 _).toNat
  rw [BitVec.toNat_ofNat]
  exact (Nat.mod_eq_of_lt (Nat.lt_of_le_of_lt (Nat.mod_le _ _) x.toBitVec.isLt)).symm
theorem pk_andE (x : Int32) {m : Int32} (k : Nat) (hm : m.toBitVec.toNat = 2 ^ k - 1) : ∃ j : Nat, j < 2 ^ k ∧ x &&& m = nI j := ⟨_, Nat.mod_lt _ (Nat.two_pow_pos k), pk_and x k hm⟩
theorem pk_vb (z : Int32) : vp_nar .byte z.toInt8.toInt32 = z.toInt8.toInt32 := by rw [vp_nar_byte]; simp
theorem pk_vs (z : Int32) : vp_nar .short z.toInt16.toInt32 = z.toInt16.toInt32 := by rw [vp_nar_short]; simp
theorem pk_least (P : Nat → Prop) (h : ∃ k, P k) : ∃ k, P k ∧ ∀ j, j < k → ¬ P j := by
  obtain ⟨k, hk⟩ := h
  induction k using Nat.strongRecOn with
  | ind k ih =>
    by_cases e : ∃ j, j < k ∧ P j
    · obtain ⟨j, hj, pj⟩ := e
      exact ih j hj pj
    · exact ⟨k, hk, fun j hj pj => e ⟨j, hj, pj⟩⟩
end
section
/-! the pure machine: a step's place, value and next number; a trace; the last write and the last time -/
theorem td_nb {n : Nat} (h : n < 128) : vp_nar .byte (nI n).toInt8.toInt32 = nI n := by
  have e : (nI n).toInt = n := nI_toInt (by omega)
  rw [pk_vb]; exact lg_i2b_small (by omega) (by omega)
theorem td_ns {n : Nat} (h : n < 32768) : vp_nar .short (nI n).toInt16.toInt32 = nI n := by
  have e : (nI n).toInt = n := nI_toInt (by omega)
  rw [pk_vs]; exact lg_i2s_small (by omega) (by omega)
theorem td_vs {n : Nat} (h : n < 32768) : vp_nar .short (nI n) = nI n := by
  have e : (nI n).toInt = n := nI_toInt (by omega)
  rw [vp_nar_short]; exact lg_i2s_small (by omega) (by omega)
theorem td_vsm : vp_nar .short (-1) = -1 := by rw [vp_nar_short]; decide
theorem td_vs0 : vp_nar .short 0 = 0 := by rw [vp_nar_short]; decide
theorem td_vbm : vp_nar .byte (-1) = -1 := by rw [vp_nar_byte]; decide
/-- a time, or none: coded as a number -/
def td_t : Nat → Int32
  | 0 => -1
  | k + 1 => nI k
theorem td_vst {n : Nat} (h : n < 32768) : vp_nar .short (td_t n) = td_t n := by
  cases n with
  | zero => exact td_vsm
  | succ k => exact td_vs (by omega)
def td_ad (m : Nat → Int32) (y : Int32) : Nat := 6 + (m y.toNatClampNeg &&& 7).toNatClampNeg
/-- the place that a step writes; 14: none -/
def td_W (o x y : Int32) (m : Nat → Int32) : Nat := if o = 8 then 14 else if o = 7 then 14 else if o = 6 then 14 else if o = 5 then td_ad m y else x.toNatClampNeg
def td_V (o x y z : Int32) (m : Nat → Int32) : Int32 := if o = 0 then y else if o = 4 then m (td_ad m y) else if o = 5 then m x.toNatClampNeg else if o = 1 then m y.toNatClampNeg + m z.toNatClampNeg else if o = 2 then m y.toNatClampNeg - m z.toNatClampNeg else m y.toNatClampNeg * m z.toNatClampNeg
def td_N (o x y : Int32) (a : Nat) (m : Nat → Int32) : Nat := if o = 8 then a else if o = 7 then x.toNatClampNeg else if o = 6 then (if m x.toNatClampNeg ≤ 0 then a + 1 else y.toNatClampNeg) else a + 1
section
variable {x y z : Int32} {m : Nat → Int32} {a : Nat}
theorem td_W0 : td_W 0 x y m = x.toNatClampNeg := (((if_neg (by decide)).trans (if_neg (by decide))).trans (if_neg (by decide))).trans (if_neg (by decide))
theorem td_N0 : td_N 0 x y a m = a + 1 := ((if_neg (by decide)).trans (if_neg (by decide))).trans (if_neg (by decide))
theorem td_W1 : td_W 1 x y m = x.toNatClampNeg := (((if_neg (by decide)).trans (if_neg (by decide))).trans (if_neg (by decide))).trans (if_neg (by decide))
theorem td_N1 : td_N 1 x y a m = a + 1 := ((if_neg (by decide)).trans (if_neg (by decide))).trans (if_neg (by decide))
theorem td_W2 : td_W 2 x y m = x.toNatClampNeg := (((if_neg (by decide)).trans (if_neg (by decide))).trans (if_neg (by decide))).trans (if_neg (by decide))
theorem td_N2 : td_N 2 x y a m = a + 1 := ((if_neg (by decide)).trans (if_neg (by decide))).trans (if_neg (by decide))
theorem td_W3 : td_W 3 x y m = x.toNatClampNeg := (((if_neg (by decide)).trans (if_neg (by decide))).trans (if_neg (by decide))).trans (if_neg (by decide))
theorem td_N3 : td_N 3 x y a m = a + 1 := ((if_neg (by decide)).trans (if_neg (by decide))).trans (if_neg (by decide))
theorem td_W4 : td_W 4 x y m = x.toNatClampNeg := (((if_neg (by decide)).trans (if_neg (by decide))).trans (if_neg (by decide))).trans (if_neg (by decide))
theorem td_N4 : td_N 4 x y a m = a + 1 := ((if_neg (by decide)).trans (if_neg (by decide))).trans (if_neg (by decide))
theorem td_W5 : td_W 5 x y m = td_ad m y := (((if_neg (by decide)).trans (if_neg (by decide))).trans (if_neg (by decide))).trans (if_pos rfl)
theorem td_N5 : td_N 5 x y a m = a + 1 := ((if_neg (by decide)).trans (if_neg (by decide))).trans (if_neg (by decide))
theorem td_W6 : td_W 6 x y m = 14 := ((if_neg (by decide)).trans (if_neg (by decide))).trans (if_pos rfl)
theorem td_N6 : td_N 6 x y a m = (if m x.toNatClampNeg ≤ 0 then a + 1 else y.toNatClampNeg) := ((if_neg (by decide)).trans (if_neg (by decide))).trans (if_pos rfl)
theorem td_W7 : td_W 7 x y m = 14 := (if_neg (by decide)).trans (if_pos rfl)
theorem td_N7 : td_N 7 x y a m = x.toNatClampNeg := (if_neg (by decide)).trans (if_pos rfl)
theorem td_W8 : td_W 8 x y m = 14 := if_pos rfl
theorem td_N8 : td_N 8 x y a m = a := if_pos rfl
theorem td_V0 : td_V 0 x y z m = y := if_pos rfl
theorem td_V1 : td_V 1 x y z m = m y.toNatClampNeg + m z.toNatClampNeg := (((if_neg (by decide)).trans (if_neg (by decide))).trans (if_neg (by decide))).trans (if_pos rfl)
theorem td_V2 : td_V 2 x y z m = m y.toNatClampNeg - m z.toNatClampNeg := ((((if_neg (by decide)).trans (if_neg (by decide))).trans (if_neg (by decide))).trans (if_neg (by decide))).trans (if_pos rfl)
theorem td_V3 : td_V 3 x y z m = m y.toNatClampNeg * m z.toNatClampNeg := ((((if_neg (by decide)).trans (if_neg (by decide))).trans (if_neg (by decide))).trans (if_neg (by decide))).trans (if_neg (by decide))
theorem td_V4 : td_V 4 x y z m = m (td_ad m y) := (if_neg (by decide)).trans (if_pos rfl)
theorem td_V5 : td_V 5 x y z m = m x.toNatClampNeg := ((if_neg (by decide)).trans (if_neg (by decide))).trans (if_pos rfl)
end
end
section
/-! the last write up to a step, the last time below a time -/
def td_LW (w : Nat → Nat) : Nat → Nat → Nat
  | 0, _ => 0
  | k + 1, p => if w (k + 1) = p then k + 1 else td_LW w k p
def td_LT (a : Nat → Nat) : Nat → Nat → Nat
  | 0, _ => 0
  | k + 1, i => if a k = i then k + 1 else td_LT a k i
theorem td_LWt {w : Nat → Nat} {k p : Nat} (h : w (k + 1) = p) : td_LW w (k + 1) p = k + 1 := if_pos h
theorem td_LWf {w : Nat → Nat} {k p : Nat} (h : ¬ w (k + 1) = p) : td_LW w (k + 1) p = td_LW w k p := if_neg h
theorem td_LTt {a : Nat → Nat} {k i : Nat} (h : a k = i) : td_LT a (k + 1) i = k + 1 := if_pos h
theorem td_LTf {a : Nat → Nat} {k i : Nat} (h : ¬ a k = i) : td_LT a (k + 1) i = td_LT a k i := if_neg h
theorem td_LW_le (w : Nat → Nat) (p : Nat) : ∀ k, td_LW w k p ≤ k := by
  intro k
  induction k with
  | zero => exact Nat.le_refl 0
  | succ k ih =>
    by_cases h : w (k + 1) = p
    · rw [td_LWt h]; exact Nat.le_refl _
    · rw [td_LWf h]; omega
theorem td_LT_le (a : Nat → Nat) (i : Nat) : ∀ k, td_LT a k i ≤ k := by
  intro k
  induction k with
  | zero => exact Nat.le_refl 0
  | succ k ih =>
    by_cases h : a k = i
    · rw [td_LTt h]; exact Nat.le_refl _
    · rw [td_LTf h]; omega
theorem td_LW_hit (w : Nat → Nat) (p s : Nat) : ∀ k, td_LW w k p = s + 1 → w (s + 1) = p := by
  intro k
  induction k with
  | zero => intro h; exact absurd (show (0 : Nat) = s + 1 from h) (by omega)
  | succ k ih =>
    intro h
    by_cases c : w (k + 1) = p
    · rw [td_LWt c] at h
      have e : k = s := by omega
      rw [← e]; exact c
    · rw [td_LWf c] at h; exact ih h
theorem td_LW_stop (w : Nat → Nat) (p r : Nat) : ∀ k, r ≤ k → td_LW w k p ≤ r → td_LW w k p = td_LW w r p := by
  intro k
  induction k with
  | zero =>
    intro h _
    have e : r = 0 := by omega
    rw [e]
  | succ k ih =>
    intro h hl
    by_cases e : r = k + 1
    · rw [e]
    · by_cases c : w (k + 1) = p
      · rw [td_LWt c] at hl; omega
      · rw [td_LWf c] at hl ⊢; exact ih (by omega) hl
theorem td_LT_hit (a : Nat → Nat) (i s : Nat) : ∀ k, td_LT a k i = s + 1 → a s = i ∧ s < k ∧ ∀ r, s < r → r < k → a r ≠ i := by
  intro k
  induction k with
  | zero => intro h; exact absurd (show (0 : Nat) = s + 1 from h) (by omega)
  | succ k ih =>
    intro h
    by_cases c : a k = i
    · rw [td_LTt c] at h
      have e : k = s := by omega
      subst e
      exact ⟨c, by omega, fun r h1 h2 => absurd h2 (by omega)⟩
    · rw [td_LTf c] at h
      obtain ⟨h1, h2, h3⟩ := ih h
      refine ⟨h1, by omega, fun r hr hk => ?_⟩
      by_cases e : r = k
      · rw [e]; exact c
      · exact h3 r hr (by omega)
theorem td_LT_no (a : Nat → Nat) (i : Nat) : ∀ k, td_LT a k i = 0 → ∀ r, r < k → a r ≠ i := by
  intro k
  induction k with
  | zero => intro _ r hr; exact absurd hr (by omega)
  | succ k ih =>
    intro h r hr
    by_cases c : a k = i
    · rw [td_LTt c] at h; omega
    · rw [td_LTf c] at h
      by_cases e : r = k
      · rw [e]; exact c
      · exact ih h r (by omega)
/-- the trace of a program: memory, next number, place written, halted -/
def td_Tr (o x y z : Nat → Int32) (ip : Int32) (m : Nat → Nat → Int32) (a w : Nat → Nat) (h : Nat → Int32) : Prop :=
  m 0 = upd (fun _ => 0) 5 ip ∧ a 0 = 0 ∧ h 0 = 0 ∧ ∀ k, w (k + 1) = td_W (o (a k)) (x (a k)) (y (a k)) (m k) ∧ m (k + 1) = upd (m k) (w (k + 1)) (td_V (o (a k)) (x (a k)) (y (a k)) (z (a k)) (m k)) ∧ a (k + 1) = td_N (o (a k)) (x (a k)) (y (a k)) (a k) (m k) ∧ h (k + 1) = if o (a k) = 8 then 1 else 0
def td_nx (o x y z : Nat → Int32) (s : (Nat → Int32) × Nat × Nat × Int32) : (Nat → Int32) × Nat × Nat × Int32 :=
  (upd s.1 (td_W (o s.2.1) (x s.2.1) (y s.2.1) s.1) (td_V (o s.2.1) (x s.2.1) (y s.2.1) (z s.2.1) s.1), td_N (o s.2.1) (x s.2.1) (y s.2.1) s.2.1 s.1, td_W (o s.2.1) (x s.2.1) (y s.2.1) s.1, if o s.2.1 = 8 then 1 else 0)
def td_s (o x y z : Nat → Int32) (ip : Int32) : Nat → (Nat → Int32) × Nat × Nat × Int32
  | 0 => (upd (fun _ => 0) 5 ip, 0, 14, 0)
  | k + 1 => td_nx o x y z (td_s o x y z ip k)
theorem td_TrE (o x y z : Nat → Int32) (ip : Int32) : ∃ m a w h, td_Tr o x y z ip m a w h :=
  ⟨fun k => (td_s o x y z ip k).1, fun k => (td_s o x y z ip k).2.1, fun k => (td_s o x y z ip k).2.2.1, fun k => (td_s o x y z ip k).2.2.2, rfl, rfl, rfl, fun _ => ⟨rfl, rfl, rfl, rfl⟩⟩
/-- the run's length -/
def td_Go (L T : Nat) (a : Nat → Nat) (h : Nat → Int32) : Prop := T ≤ 200 ∧ (∀ j, j < T → a j < L ∧ h j = 0) ∧ (T = 200 ∨ L ≤ a T ∨ ¬ h T = 0)
theorem td_GoE (L : Nat) (a : Nat → Nat) (h : Nat → Int32) : ∃ T, td_Go L T a h := by
  obtain ⟨T, hT, hn⟩ := pk_least (fun T => T = 200 ∨ L ≤ a T ∨ ¬ h T = 0) ⟨200, Or.inl rfl⟩
  refine ⟨T, ?_, fun j hj => ?_, hT⟩
  · by_cases c : T ≤ 200
    · exact c
    · exact absurd (Or.inl rfl) (hn 200 (by omega))
  · have q := hn j hj
    refine ⟨?_, ?_⟩
    · by_cases c : a j < L
      · exact c
      · exact absurd (Or.inr (Or.inl (by omega))) q
    · by_cases c : h j = 0
      · exact c
      · exact absurd (Or.inr (Or.inr c)) q
/-- an instruction that fits -/
def td_F (o x y z : Int32) : Prop :=
  o = 8 ∨ (o = 7 ∧ ∃ j, j < 20 ∧ x = nI j) ∨ (o = 6 ∧ (∃ i, i < 6 ∧ x = nI i) ∧ ∃ j, j < 20 ∧ y = nI j) ∨ (o = 0 ∧ ∃ i, i < 6 ∧ x = nI i) ∨ (o = 4 ∧ (∃ i, i < 6 ∧ x = nI i) ∧ ∃ j, j < 6 ∧ y = nI j) ∨ (o = 5 ∧ (∃ i, i < 6 ∧ x = nI i) ∧ ∃ j, j < 6 ∧ y = nI j) ∨ ((o = 1 ∨ o = 2 ∨ o = 3) ∧ (∃ i, i < 6 ∧ x = nI i) ∧ (∃ j, j < 6 ∧ y = nI j) ∧ ∃ l, l < 6 ∧ z = nI l)
def td_WF (L : Nat) (o x y z : Nat → Int32) : Prop := L ≤ 20 ∧ ∀ i, i < L → td_F (o i) (x i) (y i) (z i)
theorem td_ad_lt (m : Nat → Int32) (y : Int32) : 6 ≤ td_ad m y ∧ td_ad m y < 14 := by
  obtain ⟨j, hj, e⟩ := pk_andE (m y.toNatClampNeg) (m := 7) 3 (by decide)
  unfold td_ad
  rw [e, nI_clamp (by omega)]
  omega
theorem td_N_le {o x y z : Int32} {a : Nat} {m : Nat → Int32} (hF : td_F o x y z) (ha : a < 20) : td_N o x y a m ≤ 20 := by
  rcases hF with e | ⟨e, j, hj, ex⟩ | ⟨e, ⟨i, hi, ex⟩, j, hj, ey⟩ | ⟨e, i, hi, ex⟩ | ⟨e, ⟨i, hi, ex⟩, j, hj, ey⟩ | ⟨e, ⟨i, hi, ex⟩, j, hj, ey⟩ | ⟨e | e | e, ⟨i, hi, ex⟩, ⟨j, hj, ey⟩, l, hl, ez⟩
  · rw [e, td_N8]; omega
  · rw [e, td_N7, ex, nI_clamp (by omega)]; omega
  · rw [e, td_N6, ex, ey, nI_clamp (by omega), nI_clamp (by omega)]
    by_cases c : m i ≤ 0
    · rw [if_pos c]; omega
    · rw [if_neg c]; omega
  · rw [e, td_N0]; omega
  · rw [e, td_N4]; omega
  · rw [e, td_N5]; omega
  · rw [e, td_N1]; omega
  · rw [e, td_N2]; omega
  · rw [e, td_N3]; omega
theorem td_W_lt {o x y z : Int32} {m : Nat → Int32} (hF : td_F o x y z) : td_W o x y m ≤ 14 := by
  rcases hF with e | ⟨e, j, hj, ex⟩ | ⟨e, ⟨i, hi, ex⟩, j, hj, ey⟩ | ⟨e, i, hi, ex⟩ | ⟨e, ⟨i, hi, ex⟩, j, hj, ey⟩ | ⟨e, ⟨i, hi, ex⟩, j, hj, ey⟩ | ⟨e | e | e, ⟨i, hi, ex⟩, ⟨j, hj, ey⟩, l, hl, ez⟩
  · rw [e, td_W8]; omega
  · rw [e, td_W7]; omega
  · rw [e, td_W6]; omega
  · rw [e, td_W0, ex, nI_clamp (by omega)]; omega
  · rw [e, td_W4, ex, nI_clamp (by omega)]; omega
  · rw [e, td_W5]; have := td_ad_lt m y; omega
  · rw [e, td_W1, ex, nI_clamp (by omega)]; omega
  · rw [e, td_W2, ex, nI_clamp (by omega)]; omega
  · rw [e, td_W3, ex, nI_clamp (by omega)]; omega
/-- the next number stays within 0 .. 20 along the run -/
theorem td_a_le {o x y z : Nat → Int32} {ip : Int32} {m : Nat → Nat → Int32} {a w : Nat → Nat} {h : Nat → Int32} {L k : Nat} (Tr : td_Tr o x y z ip m a w h) (WF : td_WF L o x y z) (hj : ∀ j, j < k → a j < L ∧ h j = 0) : a k ≤ 20 := by
  cases k with
  | zero => rw [Tr.2.1]; omega
  | succ k =>
    have q := hj k (by omega)
    rw [(Tr.2.2.2 k).2.2.1]
    exact td_N_le (WF.2 _ q.1) (by have := WF.1; omega)
end
section
/-! what the component keeps of a run: the writes, the times, the saved states -/
def td_cw (w : Nat) : Int32 := if w < 14 then nI w else -1
def td_E1 (k : Nat) (m : Nat → Nat → Int32) (w : Nat → Nat) (wr ov nv wb lw : Nat → Int32) : Prop :=
  (∀ j, j < k → wr (j + 1) = td_cw (w (j + 1))) ∧
  (∀ j, j < k → w (j + 1) < 14 → ov (j + 1) = m j (w (j + 1)) ∧ nv (j + 1) = m (j + 1) (w (j + 1)) ∧ wb (j + 1) = nI (td_LW w j (w (j + 1)))) ∧
  (∀ i, i < 14 → lw i = nI (td_LW w k i))
def td_E2 (k : Nat) (a : Nat → Nat) (nu tb lt : Nat → Int32) : Prop :=
  (∀ j, j ≤ k → nu j = nI (a j)) ∧ (∀ j, j ≤ k → tb j = td_t (td_LT a j (a j))) ∧ (∀ i, i < 21 → lt i = td_t (td_LT a (k + 1) i))
def td_E3 (k : Nat) (m : Nat → Nat → Int32) (sv : Nat → Int32) : Prop :=
  ∀ j i, 50 * j ≤ k → i < 14 → sv (14 * j + i) = m (50 * j) i
section
variable {m : Nat → Nat → Int32} {a w : Nat → Nat} {wr ov nv wb nu tb lw lt sv : Nat → Int32} {k : Nat}
theorem td_E1_0 (E : td_E1 k m w wr ov nv wb lw) (h : w (k + 1) = 14) : td_E1 (k + 1) m w (upd wr (k + 1) (-1)) ov nv wb lw := by
  obtain ⟨e1, e2, e3⟩ := E
  refine ⟨fun j hj => ?_, fun j hj hw => ?_, fun i hi => ?_⟩
  · by_cases c : j = k
    · rw [c, pk_us, h]; exact (if_neg (by omega)).symm
    · rw [pk_un (by omega)]; exact e1 j (by omega)
  · by_cases c : j = k
    · rw [c] at hw; omega
    · exact e2 j (by omega) hw
  · rw [td_LWf (by omega)]; exact e3 i hi
theorem td_E1_1 {i : Nat} {c v : Int32} (E : td_E1 k m w wr ov nv wb lw) (hi : i < 14) (h : w (k + 1) = i) (hc : c = m k i) (hv : v = m (k + 1) i) : td_E1 (k + 1) m w (upd (upd wr (k + 1) (-1)) (k + 1) (nI i)) (upd ov (k + 1) c) (upd nv (k + 1) v) (upd wb (k + 1) (lw i)) (upd lw i (nI (k + 1))) := by
  obtain ⟨e1, e2, e3⟩ := E
  refine ⟨fun j hj => ?_, fun j hj hw => ?_, fun l hl => ?_⟩
  · by_cases c : j = k
    · rw [c, pk_us, h]; exact (if_pos hi).symm
    · rw [pk_un (by omega), pk_un (by omega)]; exact e1 j (by omega)
  · by_cases c : j = k
    · subst c
      rw [pk_us, pk_us, pk_us, h]
      exact ⟨hc, hv, e3 i hi⟩
    · rw [pk_un (by omega), pk_un (by omega), pk_un (by omega)]
      exact e2 j (by omega) hw
  · by_cases c : l = i
    · rw [c, pk_us, td_LWt h]
    · rw [pk_un c, td_LWf (by omega)]; exact e3 l hl
theorem td_E2_s (E : td_E2 k a nu tb lt) (h : a (k + 1) ≤ 20) : td_E2 (k + 1) a (upd nu (k + 1) (nI (a (k + 1)))) (upd tb (k + 1) (lt (a (k + 1)))) (upd lt (a (k + 1)) (nI (k + 1))) := by
  obtain ⟨e1, e2, e3⟩ := E
  refine ⟨fun j hj => ?_, fun j hj => ?_, fun i hi => ?_⟩
  · by_cases c : j = k + 1
    · rw [c, pk_us]
    · rw [pk_un c]; exact e1 j (by omega)
  · by_cases c : j = k + 1
    · rw [c, pk_us]; exact e3 _ (by omega)
    · rw [pk_un c]; exact e2 j (by omega)
  · by_cases c : i = a (k + 1)
    · rw [c, pk_us, td_LTt rfl]; rfl
    · rw [pk_un c, td_LTf (by omega)]; exact e3 i hi
theorem td_E2_0 (h0 : a 0 = 0) (hl : ∀ i, i < 21 → lt i = -1) : td_E2 0 a (upd nu 0 (nI 0)) (upd tb 0 (lt 0)) (upd lt 0 (nI 0)) := by
  refine ⟨fun j hj => ?_, fun j hj => ?_, fun i hi => ?_⟩
  · have e : j = 0 := by omega
    rw [e, pk_us, h0]
  · have e : j = 0 := by omega
    rw [e, pk_us, hl 0 (by omega)]; rfl
  · by_cases c : i = 0
    · rw [c, pk_us, td_LTt h0]; rfl
    · rw [pk_un c, td_LTf (by omega), hl i hi]; rfl
theorem td_E1_0i (hl : ∀ i, i < 14 → lw i = 0) : td_E1 0 m w wr ov nv wb lw :=
  ⟨fun j hj => absurd hj (by omega), fun j hj => absurd hj (by omega), fun i hi => (hl i hi).trans rfl⟩
theorem td_E3_s {sv' nw : Nat → Int32} (E : td_E3 k m sv) (hn : ∀ i, i < 14 → nw i = m (k + 1) i) (h1 : ∀ q, q < 14 * ((k + 1) / 50) → sv' q = sv q) (h2 : (k + 1) % 50 = 0 → ∀ i, i < 14 → sv' (14 * ((k + 1) / 50) + i) = nw i) (h3 : ¬ (k + 1) % 50 = 0 → sv' = sv) : td_E3 (k + 1) m sv' := by
  intro j i hj hi
  by_cases c : (k + 1) % 50 = 0
  · by_cases d : j = (k + 1) / 50
    · have e : 50 * j = k + 1 := by omega
      rw [e, d, h2 c i hi, hn i hi]
    · rw [h1 _ (by omega)]; exact E j i (by omega) hi
  · rw [h3 c]; exact E j i (by omega) hi
theorem td_E3_0 {sv' nw : Nat → Int32} (hn : ∀ i, i < 14 → nw i = m 0 i) (h2 : ∀ i, i < 14 → sv' (14 * 0 + i) = nw i) : td_E3 0 m sv' := by
  intro j i hj hi
  have e : j = 0 := by omega
  rw [e, h2 i hi, hn i hi]
end
end
section
/-! X: store, compute, perform, noteTime -/
section
variable {Lf ip pr to : Int32} {o x y z nw wr ov nv wb nu tb lw lt sv : Nat → Int32}
theorem td_store {post : SX → Prop} {k i : Nat} {v : Int32} (hk : k < 201) (hi : i < 14) (hl : ∃ q, q < 201 ∧ lw i = nI q)
    (C : post (Lf, ip, pr, nI k, o, x, y, z, upd nw i v, upd wr k (nI i), upd ov k (nw i), upd nv k v, upd wb k (lw i), nu, tb, upd lw i (nI k), lt, sv)) :
    wpX_store post (Lf, ip, pr, nI k, o, x, y, z, nw, wr, ov, nv, wb, nu, tb, lw, lt, sv) (nI i) v := by
  obtain ⟨q, hq, hl⟩ := hl
  have hk' : (nI k).toNatClampNeg = k := nI_clamp (by omega)
  have hi' : (nI i).toNatClampNeg = i := nI_clamp (by omega)
  have ht : vp_in (nI k) 201 := vp_in_nI hk (by omega)
  have hp : vp_in (nI i) 14 := vp_in_nI hi (by omega)
  have e1 : vp_nar .byte (nI i).toInt8.toInt32 = nI i := td_nb (by omega)
  have e2 : vp_nar .short (lw i) = lw i := by rw [hl]; exact td_vs (by omega)
  have e3 : vp_nar .short (nI k).toInt16.toInt32 = nI k := td_ns (by omega)
  unfold wpX_store
  dsimp only
  rw [hk', hi', e1, e2, e3]
  exact ⟨ht, nm_e ⟨hp, ht, nm_e ⟨ht, nm_e ⟨hp, ht, nm_e ⟨hp, nm_e ⟨hp, nm_e C⟩⟩⟩⟩⟩⟩
theorem td_comp1 {post : SX → Prop} {k i : Nat} {p q : Int32} (hk : k < 201) (hi : i < 14) (hl : ∃ q, q < 201 ∧ lw i = nI q)
    (C : post (Lf, ip, pr, nI k, o, x, y, z, upd nw i (p + q), upd wr k (nI i), upd ov k (nw i), upd nv k (p + q), upd wb k (lw i), nu, tb, upd lw i (nI k), lt, sv)) :
    wpX_compute post (Lf, ip, pr, nI k, o, x, y, z, nw, wr, ov, nv, wb, nu, tb, lw, lt, sv) 1 (nI i) p q := by
  unfold wpX_compute
  dsimp only
  refine br_t rfl ?_
  unfold wX_compute_28
  exact td_store hk hi hl C
theorem td_comp2 {post : SX → Prop} {k i : Nat} {p q : Int32} (hk : k < 201) (hi : i < 14) (hl : ∃ q, q < 201 ∧ lw i = nI q)
    (C : post (Lf, ip, pr, nI k, o, x, y, z, upd nw i (p - q), upd wr k (nI i), upd ov k (nw i), upd nv k (p - q), upd wb k (lw i), nu, tb, upd lw i (nI k), lt, sv)) :
    wpX_compute post (Lf, ip, pr, nI k, o, x, y, z, nw, wr, ov, nv, wb, nu, tb, lw, lt, sv) 2 (nI i) p q := by
  unfold wpX_compute
  dsimp only
  refine br_f (by decide) (br_t rfl ?_)
  unfold wX_compute_28
  exact td_store hk hi hl C
theorem td_comp3 {post : SX → Prop} {k i : Nat} {p q : Int32} (hk : k < 201) (hi : i < 14) (hl : ∃ q, q < 201 ∧ lw i = nI q)
    (C : post (Lf, ip, pr, nI k, o, x, y, z, upd nw i (p * q), upd wr k (nI i), upd ov k (nw i), upd nv k (p * q), upd wb k (lw i), nu, tb, upd lw i (nI k), lt, sv)) :
    wpX_compute post (Lf, ip, pr, nI k, o, x, y, z, nw, wr, ov, nv, wb, nu, tb, lw, lt, sv) 3 (nI i) p q := by
  unfold wpX_compute
  dsimp only
  refine br_f (by decide) (br_f (by decide) ?_)
  unfold wX_compute_28
  exact td_store hk hi hl C
theorem td_perform {post : Int32 → SX → Prop} {A k : Nat} {M : Nat → Int32} (hA : A < 20) (hk : k < 201) (hF : td_F (o A) (x A) (y A) (z A)) (hm : ∀ i, i < 14 → nw i = M i) (hl : ∀ i, i < 14 → ∃ q, q < 201 ∧ lw i = nI q)
    (C0 : td_W (o A) (x A) (y A) M = 14 → post (nI (td_N (o A) (x A) (y A) A M)) (Lf, ip, pr, nI k, o, x, y, z, nw, wr, ov, nv, wb, nu, tb, lw, lt, sv))
    (C1 : ∀ i, i < 14 → td_W (o A) (x A) (y A) M = i → post (nI (td_N (o A) (x A) (y A) A M)) (Lf, ip, pr, nI k, o, x, y, z, upd nw i (td_V (o A) (x A) (y A) (z A) M), upd wr k (nI i), upd ov k (nw i), upd nv k (td_V (o A) (x A) (y A) (z A) M), upd wb k (lw i), nu, tb, upd lw i (nI k), lt, sv)) :
    wpX_perform post (Lf, ip, pr, nI k, o, x, y, z, nw, wr, ov, nv, wb, nu, tb, lw, lt, sv) (nI A) := by
  have hA' : (nI A).toNatClampNeg = A := nI_clamp (by omega)
  have hin : vp_in (nI A) 20 := vp_in_nI hA (by omega)
  unfold wpX_perform
  dsimp only
  rw [hA']
  refine ⟨hin, nm_e ⟨hin, nm_e ⟨hin, nm_e ?_⟩⟩⟩
  generalize o A = oA at hF C0 C1 ⊢
  generalize x A = xA at hF C0 C1 ⊢
  generalize y A = yA at hF C0 C1 ⊢
  generalize z A = zA at hF C0 C1 ⊢
  rcases hF with rfl | ⟨rfl, j, hj, rfl⟩ | ⟨rfl, ⟨i, hi, rfl⟩, j, hj, rfl⟩ | ⟨rfl, i, hi, rfl⟩ | ⟨rfl, ⟨i, hi, rfl⟩, j, hj, rfl⟩ | ⟨rfl, ⟨i, hi, rfl⟩, j, hj, rfl⟩ | ⟨rfl | rfl | rfl, ⟨i, hi, rfl⟩, ⟨j, hj, rfl⟩, l, hl', rfl⟩
  · have c := C0 td_W8
    rw [td_N8] at c
    exact br_t rfl c
  · have c := C0 td_W7
    rw [td_N7, nI_clamp (by omega)] at c
    exact br_f (by decide) (br_t rfl c)
  · have c := C0 td_W6
    have ei : (nI i).toNatClampNeg = i := nI_clamp (by omega)
    have ej : (nI j).toNatClampNeg = j := nI_clamp (by omega)
    rw [td_N6, ei, ej] at c
    rw [ei, hm i (by omega)]
    refine br_f (by decide) (br_f (by decide) (br_t rfl ⟨vp_in_nI (by omega) (by omega), br_c (fun h => ?_) (fun h => ?_)⟩))
    · rw [if_pos h, ← nI_1] at c; exact c
    · rw [if_neg h] at c; exact c
  · have ei : (nI i).toNatClampNeg = i := nI_clamp (by omega)
    have c := C1 i (by omega) (td_W0.trans ei)
    rw [td_N0, td_V0, ← nI_1] at c
    exact br_f (by decide) (br_f (by decide) (br_f (by decide) (br_t rfl (td_store hk (by omega) (hl i (by omega)) c))))
  · have ei : (nI i).toNatClampNeg = i := nI_clamp (by omega)
    have ej : (nI j).toNatClampNeg = j := nI_clamp (by omega)
    obtain ⟨q, hq, eq⟩ := pk_andE (M j) (m := 7) 3 (by decide)
    have c := C1 i (by omega) (td_W4.trans ei)
    rw [td_N4, td_V4, ← nI_1] at c
    unfold td_ad at c
    rw [ej, eq, nI_clamp (by omega)] at c
    have e6 : (6 : Int32) + nI q = nI (6 + q) := nI_add 6 q
    rw [ej, hm j (by omega), eq, e6, nI_clamp (n := 6 + q) (by omega), hm (6 + q) (by omega)]
    exact br_f (by decide) (br_f (by decide) (br_f (by decide) (br_f (by decide) (br_t rfl ⟨vp_in_nI (by omega) (by omega), vp_in_nI (by omega) (by omega), td_store hk (by omega) (hl i (by omega)) c⟩))))
  · have ei : (nI i).toNatClampNeg = i := nI_clamp (by omega)
    have ej : (nI j).toNatClampNeg = j := nI_clamp (by omega)
    obtain ⟨q, hq, eq⟩ := pk_andE (M j) (m := 7) 3 (by decide)
    have ew : td_ad M (nI j) = 6 + q := by
      unfold td_ad
      rw [ej, eq, nI_clamp (by omega)]
    have c := C1 (6 + q) (by omega) (td_W5.trans ew)
    rw [td_N5, td_V5, ← nI_1, ei] at c
    have e6 : (6 : Int32) + nI q = nI (6 + q) := nI_add 6 q
    rw [ej, hm j (by omega), eq, e6, ei, hm i (by omega)]
    exact br_f (by decide) (br_f (by decide) (br_f (by decide) (br_f (by decide) (br_f (by decide) (br_t rfl ⟨vp_in_nI (by omega) (by omega), vp_in_nI (by omega) (by omega), td_store hk (by omega) (hl (6 + q) (by omega)) c⟩)))))
  · have ei : (nI i).toNatClampNeg = i := nI_clamp (by omega)
    have ej : (nI j).toNatClampNeg = j := nI_clamp (by omega)
    have el : (nI l).toNatClampNeg = l := nI_clamp (by omega)
    have c := C1 i (by omega) (td_W1.trans ei)
    rw [td_N1, td_V1, ← nI_1, ej, el] at c
    rw [ej, el, hm j (by omega), hm l (by omega)]
    exact br_f (by decide) (br_f (by decide) (br_f (by decide) (br_f (by decide) (br_f (by decide) (br_f (by decide) ⟨vp_in_nI (by omega) (by omega), hin, vp_in_nI (by omega) (by omega), td_comp1 hk (by omega) (hl i (by omega)) c⟩)))))
  · have ei : (nI i).toNatClampNeg = i := nI_clamp (by omega)
    have ej : (nI j).toNatClampNeg = j := nI_clamp (by omega)
    have el : (nI l).toNatClampNeg = l := nI_clamp (by omega)
    have c := C1 i (by omega) (td_W2.trans ei)
    rw [td_N2, td_V2, ← nI_1, ej, el] at c
    rw [ej, el, hm j (by omega), hm l (by omega)]
    exact br_f (by decide) (br_f (by decide) (br_f (by decide) (br_f (by decide) (br_f (by decide) (br_f (by decide) ⟨vp_in_nI (by omega) (by omega), hin, vp_in_nI (by omega) (by omega), td_comp2 hk (by omega) (hl i (by omega)) c⟩)))))
  · have ei : (nI i).toNatClampNeg = i := nI_clamp (by omega)
    have ej : (nI j).toNatClampNeg = j := nI_clamp (by omega)
    have el : (nI l).toNatClampNeg = l := nI_clamp (by omega)
    have c := C1 i (by omega) (td_W3.trans ei)
    rw [td_N3, td_V3, ← nI_1, ej, el] at c
    rw [ej, el, hm j (by omega), hm l (by omega)]
    exact br_f (by decide) (br_f (by decide) (br_f (by decide) (br_f (by decide) (br_f (by decide) (br_f (by decide) ⟨vp_in_nI (by omega) (by omega), hin, vp_in_nI (by omega) (by omega), td_comp3 hk (by omega) (hl i (by omega)) c⟩)))))
theorem td_note44 {post : SX → Prop} {K : Nat} {sv0 : Nat → Int32} (hK : K < 5) (C : ∀ sv', (∀ q, q < 14 * K → sv' q = sv0 q) → (∀ i, i < 14 → sv' (14 * K + i) = nw i) → post (Lf, ip, pr, to, o, x, y, z, nw, wr, ov, nv, wb, nu, tb, lw, lt, sv')) :
    ∀ d i, i + d = 14 → ∀ sv, (∀ q, q < 14 * K → sv q = sv0 q) → (∀ j, j < i → sv (14 * K + j) = nw j) → wX_noteTime_44 post (nI K) Lf ip pr to (d + 1) (nI i) o x y z nw wr ov nv wb nu tb lw lt sv := by
  intro d
  induction d with
  | zero =>
    intro i hi sv h1 h2
    have e : i = 14 := by omega
    subst e
    exact br_t (nI_le (a := 14) (b := 14) (by omega) (by omega)) (C sv h1 h2)
  | succ d ih =>
    intro i hi sv h1 h2
    have ei : (nI i).toNatClampNeg = i := nI_clamp (by omega)
    have e14 : (14 : Int32) * nI K + nI i = nI (14 * K + i) := by
      rw [← nI_add, ← pk_mul]; rfl
    have eK : (nI (14 * K + i)).toNatClampNeg = 14 * K + i := nI_clamp (by omega)
    rw [wX_noteTime_44]
    dsimp only
    rw [e14, ei, eK]
    refine br_f (nI_ge (b := 14) (by omega) (by omega)) ⟨vp_in_nI (by omega) (by omega), vp_in_nI (by omega) (by omega), nm_e (nm_r (nI_1 i) (ih (i + 1) (by omega) _ (fun q hq => ?_) (fun j hj => ?_)))⟩
    · rw [pk_un (by omega)]; exact h1 q hq
    · by_cases c : j = i
      · rw [c, pk_us]
      · rw [pk_un (by omega)]; exact h2 j (by omega)
theorem td_note {post : SX → Prop} {t A : Nat} (ht : t < 201) (hA : A < 21) (hl : ∃ q, q < 1000 ∧ lt A = td_t q)
    (C : ∀ sv', (∀ q, q < 14 * (t / 50) → sv' q = sv q) → (t % 50 = 0 → ∀ i, i < 14 → sv' (14 * (t / 50) + i) = nw i) → (¬ t % 50 = 0 → sv' = sv) → post (Lf, ip, pr, to, o, x, y, z, nw, wr, ov, nv, wb, upd nu t (nI A), upd tb t (lt A), lw, upd lt A (nI t), sv')) :
    wpX_noteTime post (Lf, ip, pr, to, o, x, y, z, nw, wr, ov, nv, wb, nu, tb, lw, lt, sv) (nI t) (nI A) := by
  obtain ⟨q, hq, hl⟩ := hl
  have et : (nI t).toNatClampNeg = t := nI_clamp (by omega)
  have eA : (nI A).toNatClampNeg = A := nI_clamp (by omega)
  have it : vp_in (nI t) 201 := vp_in_nI ht (by omega)
  have iA : vp_in (nI A) 21 := vp_in_nI hA (by omega)
  have e1 : vp_nar .byte (nI A).toInt8.toInt32 = nI A := td_nb (by omega)
  have e2 : vp_nar .short (lt A) = lt A := by rw [hl]; exact td_vst (by omega)
  have e3 : vp_nar .short (nI t).toInt16.toInt32 = nI t := td_ns (by omega)
  have n50 : ¬ (50 : Int32) = 0 := by decide
  have e4 : nI t - nI t / 50 * 50 = nI (t % 50) := pk_rem (d := 50) (by omega) (by omega) (by omega)
  have e5 : nI t / 50 = nI (t / 50) := pk_div (d := 50) (by omega) (by omega) (by omega)
  unfold wpX_noteTime
  dsimp only
  rw [et, eA, e1, e2, e3, e4, e5]
  refine ⟨it, nm_e ⟨iA, it, nm_e ⟨iA, nm_e ⟨n50, pk_eq (t % 50) 0 (fun h => ⟨n50, nm_e ⟨15, ?_⟩⟩) (fun h => C sv (fun _ _ => rfl) (fun g => absurd g h) (fun _ => rfl))⟩⟩⟩⟩
  exact td_note44 (sv0 := sv) (by omega) (fun sv' h1 h2 => C sv' h1 (fun _ => h2) (fun g => absurd h g)) 14 0 (by omega) sv (fun _ _ => rfl) (fun j hj => absurd hj (by omega))
end
end
section
/-! X: undo, redo, load, travel -/
def td_U (T : Nat) (m : Nat → Nat → Int32) (w : Nat → Nat) : Prop := ∀ k, k < T → w (k + 1) ≤ 14 ∧ ∀ i, i < 14 → ¬ i = w (k + 1) → m (k + 1) i = m k i
theorem td_UI {o x y z : Nat → Int32} {ip : Int32} {m : Nat → Nat → Int32} {a w : Nat → Nat} {h : Nat → Int32} {L T : Nat} (Tr : td_Tr o x y z ip m a w h) (WF : td_WF L o x y z) (hj : ∀ j, j < T → a j < L ∧ h j = 0) : td_U T m w := by
  intro k hk
  obtain ⟨h1, h2, h3, h4⟩ := Tr.2.2.2 k
  refine ⟨?_, fun i hi hw => ?_⟩
  · rw [h1]; exact td_W_lt (WF.2 _ (hj k hk).1)
  · rw [h2, pk_un hw]
theorem td_cwlt {n : Nat} (h : n < 14) : td_cw n = nI n := if_pos h
theorem td_cwge {n : Nat} (h : ¬ n < 14) : td_cw n = -1 := if_neg h
section
variable {L p T t : Nat} {Lf ip pr to : Int32} {o x y z nw wr ov nv wb nu tb lw lt sv : Nat → Int32} {m : Nat → Nat → Int32} {a w : Nat → Nat}
theorem td_undo {post : SX → Prop} (hT : T ≤ 200) (hp : p < T) (U : td_U T m w) (E : td_E1 T m w wr ov nv wb lw) (hn : ∀ i, i < 14 → nw i = m (p + 1) i)
    (C : ∀ nw', (∀ i, i < 14 → nw' i = m p i) → post (Lf, ip, nI p, to, o, x, y, z, nw', wr, ov, nv, wb, nu, tb, lw, lt, sv)) : wpX_undo post (Lf, ip, nI (p + 1), to, o, x, y, z, nw, wr, ov, nv, wb, nu, tb, lw, lt, sv) := by
  have ep : (nI (p + 1)).toNatClampNeg = p + 1 := nI_clamp (by omega)
  have ip1 : vp_in (nI (p + 1)) 201 := vp_in_nI (by omega) (by omega)
  obtain ⟨hw, hf⟩ := U p hp
  unfold wpX_undo
  dsimp only
  rw [ep, E.1 p hp]
  by_cases c : w (p + 1) < 14
  · obtain ⟨h1, h2, h3⟩ := E.2.1 p hp c
    rw [td_cwlt c, nI_clamp (n := w (p + 1)) (by omega), h1]
    refine ⟨ip1, br_f (nI_pos (by omega)) ⟨ip1, ip1, vp_in_nI c (by omega), nm_e (nm_r (nI_pred p) (C _ fun i hi => ?_))⟩⟩
    by_cases d : i = w (p + 1)
    · rw [d, pk_us]
    · rw [pk_un d, hn i hi]; exact hf i hi d
  · rw [td_cwge c]
    exact ⟨ip1, br_t (by decide) (nm_r (nI_pred p) (C _ fun i hi => (hn i hi).trans (hf i hi (by omega))))⟩
theorem td_redo {post : SX → Prop} (hT : T ≤ 200) (hp : p < T) (U : td_U T m w) (E : td_E1 T m w wr ov nv wb lw) (hn : ∀ i, i < 14 → nw i = m p i)
    (C : ∀ nw', (∀ i, i < 14 → nw' i = m (p + 1) i) → post (Lf, ip, nI (p + 1), to, o, x, y, z, nw', wr, ov, nv, wb, nu, tb, lw, lt, sv)) : wpX_redo post (Lf, ip, nI p, to, o, x, y, z, nw, wr, ov, nv, wb, nu, tb, lw, lt, sv) := by
  have ep : (nI (p + 1)).toNatClampNeg = p + 1 := nI_clamp (by omega)
  have ip1 : vp_in (nI (p + 1)) 201 := vp_in_nI (by omega) (by omega)
  obtain ⟨hw, hf⟩ := U p hp
  unfold wpX_redo
  dsimp only
  refine nm_r (nI_1 p) ?_
  rw [ep, E.1 p hp]
  by_cases c : w (p + 1) < 14
  · obtain ⟨h1, h2, h3⟩ := E.2.1 p hp c
    rw [td_cwlt c, nI_clamp (n := w (p + 1)) (by omega), h2]
    refine ⟨ip1, br_f (nI_pos (by omega)) ⟨ip1, ip1, vp_in_nI c (by omega), nm_e (C _ fun i hi => ?_)⟩⟩
    by_cases d : i = w (p + 1)
    · rw [d, pk_us]
    · rw [pk_un d, hn i hi]; exact (hf i hi d).symm
  · rw [td_cwge c]
    exact ⟨ip1, br_t (by decide) (C _ fun i hi => (hn i hi).trans (hf i hi (by omega)).symm)⟩
theorem td_63 {post : SX → Prop} (hT : T ≤ 200) (ht : t ≤ T) (U : td_U T m w) (E : td_E1 T m w wr ov nv wb lw)
    (C : ∀ nw', (∀ i, i < 14 → nw' i = m t i) → post (Lf, ip, nI t, to, o, x, y, z, nw', wr, ov, nv, wb, nu, tb, lw, lt, sv)) :
    ∀ d p, p + d = t → ∀ nw, (∀ i, i < 14 → nw i = m p i) → wX_travel_63 post (nI t) (d + 1) Lf ip (nI p) to o x y z nw wr ov nv wb nu tb lw lt sv := by
  intro d
  induction d with
  | zero =>
    intro p hp nw hn
    have e : p = t := by omega
    subst e
    exact br_t (nI_le (by omega) (by omega)) (C nw hn)
  | succ d ih =>
    intro p hp nw hn
    rw [wX_travel_63]
    dsimp only
    refine br_f (nI_ge (by omega) (by omega)) (td_redo hT (by omega) U E hn fun nw' hn' => ?_)
    exact ih (p + 1) (by omega) nw' hn'
theorem td_48 {post : SX → Prop} (hT : T ≤ 200) (ht : t ≤ T) (U : td_U T m w) (E : td_E1 T m w wr ov nv wb lw)
    (C : ∀ nw', (∀ i, i < 14 → nw' i = m t i) → post (Lf, ip, nI t, to, o, x, y, z, nw', wr, ov, nv, wb, nu, tb, lw, lt, sv)) :
    ∀ d p, p ≤ T → p ≤ t + d → ∀ nw, (∀ i, i < 14 → nw i = m p i) → wX_travel_48 post (nI t) (d + 1) Lf ip (nI p) to o x y z nw wr ov nv wb nu tb lw lt sv := by
  intro d
  induction d with
  | zero =>
    intro p hpT hp nw hn
    rw [wX_travel_48]
    dsimp only
    exact br_t (nI_le (by omega) (by omega)) ⟨t - p + 1, td_63 hT ht U E C (t - p) p (by omega) nw hn⟩
  | succ d ih =>
    intro p hpT hp nw hn
    rw [wX_travel_48]
    dsimp only
    by_cases c : p ≤ t
    · exact br_t (nI_le (by omega) (by omega)) ⟨t - p + 1, td_63 hT ht U E C (t - p) p (by omega) nw hn⟩
    · obtain ⟨q, rfl⟩ : ∃ q, p = q + 1 := ⟨p - 1, by omega⟩
      refine br_f (nI_ge (by omega) (by omega)) (td_undo hT (by omega) U E hn fun nw' hn' => ?_)
      exact ih q (by omega) (by omega) nw' hn'
theorem td_load2 {post : SX → Prop} {K : Nat} (hK : K < 5) (C : ∀ nw', (∀ i, i < 14 → nw' i = sv (14 * K + i)) → post (Lf, ip, nI (50 * K), to, o, x, y, z, nw', wr, ov, nv, wb, nu, tb, lw, lt, sv)) :
    ∀ d i, i + d = 14 → ∀ nw, (∀ j, j < i → nw j = sv (14 * K + j)) → wX_load_2 post (nI K) Lf ip pr to (d + 1) (nI i) o x y z nw wr ov nv wb nu tb lw lt sv := by
  intro d
  induction d with
  | zero =>
    intro i hi nw h2
    have e : i = 14 := by omega
    subst e
    have ek : nI K * 50 = nI (50 * K) := by rw [Nat.mul_comm, ← pk_mul]; rfl
    exact br_t (nI_le (a := 14) (b := 14) (by omega) (by omega)) (nm_r ek (C nw h2))
  | succ d ih =>
    intro i hi nw h2
    have ei : (nI i).toNatClampNeg = i := nI_clamp (by omega)
    have e14 : (14 : Int32) * nI K + nI i = nI (14 * K + i) := by
      rw [← nI_add, ← pk_mul]; rfl
    have eK : (nI (14 * K + i)).toNatClampNeg = 14 * K + i := nI_clamp (by omega)
    rw [wX_load_2]
    dsimp only
    rw [e14, ei, eK]
    refine br_f (nI_ge (b := 14) (by omega) (by omega)) ⟨vp_in_nI (by omega) (by omega), vp_in_nI (by omega) (by omega), nm_e (nm_r (nI_1 i) (ih (i + 1) (by omega) _ (fun j hj => ?_)))⟩
    by_cases c : j = i
    · rw [c, pk_us]
    · rw [pk_un (by omega)]; exact h2 j (by omega)
theorem td_load {post : SX → Prop} {K : Nat} (hK : K < 5) (C : ∀ nw', (∀ i, i < 14 → nw' i = sv (14 * K + i)) → post (Lf, ip, nI (50 * K), to, o, x, y, z, nw', wr, ov, nv, wb, nu, tb, lw, lt, sv)) : wpX_load post (Lf, ip, pr, to, o, x, y, z, nw, wr, ov, nv, wb, nu, tb, lw, lt, sv) (nI K) := by
  unfold wpX_load
  dsimp only
  exact ⟨15, td_load2 hK C 14 0 (by omega) nw (fun j hj => absurd hj (by omega))⟩
theorem td_gap {post : Int32 → Prop} {u : SX} {b c : Int32} (C : ∀ r, post r) : wpX_gap post u b c := by
  unfold wpX_gap
  exact br_c (fun _ => C _) (fun _ => C _)
theorem td_22 {post : SX → Prop} {K : Nat} (hT : T ≤ 200) (ht : t ≤ T) (hp : p ≤ T) (hK : 50 * K ≤ T) (U : td_U T m w) (E : td_E1 T m w wr ov nv wb lw) (E3 : td_E3 T m sv) (hn : ∀ i, i < 14 → nw i = m p i)
    (C : ∀ nw', (∀ i, i < 14 → nw' i = m t i) → post (Lf, ip, nI t, to, o, x, y, z, nw', wr, ov, nv, wb, nu, tb, lw, lt, sv)) : wX_travel_22 post (nI t) (nI K) Lf ip (nI p) to o x y z nw wr ov nv wb nu tb lw lt sv := by
  unfold wX_travel_22
  refine td_gap fun r1 => td_gap fun r2 => br_c (fun _ => ⟨p + 1, ?_⟩) (fun _ => td_load (by omega) fun nw' hn' => ⟨50 * K + 1, ?_⟩)
  · exact td_48 hT ht U E C p p hp (by omega) nw hn
  · exact td_48 hT ht U E C (50 * K) (50 * K) hK (by omega) nw' (fun i hi => (hn' i hi).trans (E3 K i hK hi))
theorem td_travel {post : SX → Prop} (hT : T ≤ 200) (ht : t ≤ T) (hp : p ≤ T) (U : td_U T m w) (E : td_E1 T m w wr ov nv wb lw) (E3 : td_E3 T m sv) (hn : ∀ i, i < 14 → nw i = m p i)
    (C : ∀ nw', (∀ i, i < 14 → nw' i = m t i) → post (Lf, ip, nI t, nI T, o, x, y, z, nw', wr, ov, nv, wb, nu, tb, lw, lt, sv)) : wpX_travel post (Lf, ip, nI p, nI T, o, x, y, z, nw, wr, ov, nv, wb, nu, tb, lw, lt, sv) (nI t) := by
  have e1 : (nI t + 25) / 50 = nI ((t + 25) / 50) := by
    have q : nI t + 25 = nI (t + 25) := nI_add t 25
    rw [q]; exact pk_div (d := 50) (by omega) (by omega) (by omega)
  have e2 : nI ((t + 25) / 50) * 50 = nI ((t + 25) / 50 * 50) := pk_mul _ 50
  unfold wpX_travel
  dsimp only
  refine ⟨by decide, nm_r e1 ?_⟩
  rw [e2]
  refine pk_le ((t + 25) / 50 * 50) T (fun h => ?_) (fun h => ?_)
  · exact td_22 hT ht hp (by omega) U E E3 hn C
  · obtain ⟨K, hK⟩ : ∃ K, (t + 25) / 50 = K + 1 := ⟨(t + 25) / 50 - 1, by omega⟩
    rw [hK]
    exact nm_r (pk_m1 K) (td_22 hT ht hp (by omega) U E E3 hn C)
end
end
section
/-! X: the whole execution -/
section
variable {L k T : Nat} {Lf ip pr to : Int32} {o x y z nw wr ov nv wb nu tb lw lt sv : Nat → Int32} {m : Nat → Nat → Int32} {a w : Nat → Nat} {h : Nat → Int32}
theorem td_156 {post : SX → Prop} (hT : T ≤ 200) (U : td_U T m w) (E1 : td_E1 T m w wr ov nv wb lw) (E3 : td_E3 T m sv) (hn : ∀ i, i < 14 → nw i = m T i)
    (C : ∀ nw', (∀ i, i < 14 → nw' i = m 0 i) → post (Lf, ip, nI 0, nI T, o, x, y, z, nw', wr, ov, nv, wb, nu, tb, lw, lt, sv)) : wX_execute_156 post Lf ip pr (nI T) o x y z nw wr ov nv wb nu tb lw lt sv := by
  unfold wX_execute_156
  exact td_travel (t := 0) (p := T) hT (by omega) (by omega) U E1 E3 hn C
theorem td_137 {post : SX → Prop} {J : Int32 → Int32 → Int32 → Int32 → Int32 → Int32 → (Nat → Int32) → (Nat → Int32) → (Nat → Int32) → (Nat → Int32) → (Nat → Int32) → (Nat → Int32) → (Nat → Int32) → (Nat → Int32) → (Nat → Int32) → (Nat → Int32) → (Nat → Int32) → (Nat → Int32) → (Nat → Int32) → (Nat → Int32) → Prop} {z0 : Int32}
    (Tr : td_Tr o x y z ip m a w h) (WF : td_WF L o x y z) (hk : k < 200) (hj : ∀ j, j < k + 1 → a j < L ∧ h j = 0)
    (E1 : td_E1 k m w wr ov nv wb lw) (E2 : td_E2 k a nu tb lt) (E3 : td_E3 k m sv) (hn : ∀ i, i < 14 → nw i = m k i)
    (C : ∀ nw wr ov nv wb nu tb lw lt sv, td_E1 (k + 1) m w wr ov nv wb lw → td_E2 (k + 1) a nu tb lt → td_E3 (k + 1) m sv → (∀ i, i < 14 → nw i = m (k + 1) i) → J (nI (a (k + 1))) z0 Lf ip pr (nI (k + 1)) o x y z nw wr ov nv wb nu tb lw lt sv) :
    wX_execute_137 post J (nI (a k)) z0 Lf ip pr (nI (k + 1)) o x y z nw (upd wr (k + 1) (-1)) ov nv wb nu tb lw lt sv := by
  obtain ⟨h1, h2, h3, h4⟩ := Tr.2.2.2 k
  have hL := WF.1
  have ha := (hj k (by omega)).1
  have ha1 : a (k + 1) ≤ 20 := td_a_le Tr WF hj
  have hq : ∃ q, q < 1000 ∧ lt (a (k + 1)) = td_t q := ⟨td_LT a (k + 1) (a (k + 1)), by have := td_LT_le a (a (k + 1)) (k + 1); omega, E2.2.2 _ (by omega)⟩
  unfold wX_execute_137
  refine td_perform (A := a k) (k := k + 1) (M := m k) (by omega) (by omega) (WF.2 _ ha) hn (fun i hi => ⟨td_LW w k i, by have := td_LW_le w i k; omega, E1.2.2 i hi⟩) (fun h0 => ?_) (fun i hi hw => ?_)
  · rw [← h3]
    have hn' : ∀ i, i < 14 → nw i = m (k + 1) i := fun i hi => by
      rw [h2, pk_un (by omega)]; exact hn i hi
    exact td_note (t := k + 1) (A := a (k + 1)) (by omega) (by omega) hq (fun sv' q1 q2 q3 => C _ _ _ _ _ _ _ _ _ _ (td_E1_0 E1 (h1.trans h0)) (td_E2_s E2 ha1) (td_E3_s E3 hn' q1 q2 q3) hn')
  · rw [← h3]
    have hw' : w (k + 1) = i := h1.trans hw
    have hn' : ∀ j, j < 14 → upd nw i (td_V (o (a k)) (x (a k)) (y (a k)) (z (a k)) (m k)) j = m (k + 1) j := fun j hj => by
      rw [h2, hw']
      by_cases c : j = i
      · rw [c, pk_us, pk_us]
      · rw [pk_un c, pk_un c]; exact hn j hj
    have hv : td_V (o (a k)) (x (a k)) (y (a k)) (z (a k)) (m k) = m (k + 1) i := by rw [h2, hw', pk_us]
    exact td_note (t := k + 1) (A := a (k + 1)) (by omega) (by omega) hq (fun sv' q1 q2 q3 => C _ _ _ _ _ _ _ _ _ _ (td_E1_1 E1 hi hw' (hn i hi) hv) (td_E2_s E2 ha1) (td_E3_s E3 hn' q1 q2 q3) hn')
theorem td_79 {post : SX → Prop} (Tr : td_Tr o x y z ip m a w h) (WF : td_WF L o x y z) (Go : td_Go L T a h)
    (C : ∀ nw wr ov nv wb nu tb lw lt sv, td_E1 T m w wr ov nv wb lw → td_E2 T a nu tb lt → td_E3 T m sv → (∀ i, i < 14 → nw i = m 0 i) → post (nI L, ip, nI 0, nI T, o, x, y, z, nw, wr, ov, nv, wb, nu, tb, lw, lt, sv)) :
    ∀ d k, k + d = T → ∀ pr x2 nw wr ov nv wb nu tb lw lt sv, td_E1 k m w wr ov nv wb lw → td_E2 k a nu tb lt → td_E3 k m sv → (∀ i, i < 14 → nw i = m k i) → (h k = 0 → x2 = 1) → (¬ h k = 0 → x2 = 0) → wX_execute_79 post (d + 1) (nI (a k)) x2 (nI L) ip pr (nI k) o x y z nw wr ov nv wb nu tb lw lt sv := by
  have U : td_U T m w := td_UI Tr WF Go.2.1
  have hL := WF.1
  have hT := Go.1
  intro d
  induction d with
  | zero =>
    intro k hk pr x2 nw wr ov nv wb nu tb lw lt sv E1 E2 E3 hn g0 g1
    have e : k = T := by omega
    subst e
    have fin : wX_execute_156 post (nI L) ip pr (nI k) o x y z nw wr ov nv wb nu tb lw lt sv := td_156 hT U E1 E3 hn (fun nw' hn' => C nw' wr ov nv wb nu tb lw lt sv E1 E2 E3 hn')
    rw [wX_execute_79]
    dsimp only
    by_cases c : h k = 0
    · rw [g0 c]
      have ha : a k ≤ 20 := td_a_le Tr WF Go.2.1
      refine br_f (by decide) (pk_le L (a k) (fun _ => fin) (fun hl => pk_le 200 k (fun _ => fin) (fun h2 => ?_)))
      rcases Go.2.2 with q | q | q
      · omega
      · omega
      · exact absurd c q
    · rw [g1 c]
      exact br_t rfl fin
  | succ d ih =>
    intro k hk pr x2 nw wr ov nv wb nu tb lw lt sv E1 E2 E3 hn g0 g1
    obtain ⟨ha, hh⟩ := Go.2.1 k (by omega)
    obtain ⟨h1, h2, h3, h4⟩ := Tr.2.2.2 k
    have ek : (nI (k + 1)).toNatClampNeg = k + 1 := nI_clamp (by omega)
    have ea : (nI (a k)).toNatClampNeg = a k := nI_clamp (by omega)
    have hj : ∀ j, j < k + 1 → a j < L ∧ h j = 0 := fun j hj => Go.2.1 j (by omega)
    rw [wX_execute_79]
    dsimp only
    rw [g0 hh]
    refine br_f (by decide) (br_f (nI_ge ha (by omega)) (br_f (nI_ge (b := 200) (by omega) (by omega)) (nm_r (nI_1 k) ⟨vp_in_nI (by omega) (by omega), ?_⟩)))
    rw [ek, ea, td_vbm]
    refine nm_e ⟨vp_in_nI (by omega) (by omega), br_c (fun e8 => ?_) (fun e8 => ?_)⟩
    · refine td_137 Tr WF (by omega) hj E1 E2 E3 hn (fun nw wr ov nv wb nu tb lw lt sv E1 E2 E3 hn => ?_)
      refine ih (k + 1) (by omega) pr 0 nw wr ov nv wb nu tb lw lt sv E1 E2 E3 hn (fun c => ?_) (fun _ => rfl)
      rw [h4, if_pos e8] at c
      exact absurd c (by decide)
    · refine td_137 Tr WF (by omega) hj E1 E2 E3 hn (fun nw wr ov nv wb nu tb lw lt sv E1 E2 E3 hn => ?_)
      refine ih (k + 1) (by omega) pr 1 nw wr ov nv wb nu tb lw lt sv E1 E2 E3 hn (fun _ => rfl) (fun c => ?_)
      rw [h4, if_neg e8] at c
      exact absurd rfl c
theorem td_30 {post : SX → Prop} (Tr : td_Tr o x y z ip m a w h) (WF : td_WF L o x y z) (Go : td_Go L T a h)
    (C : ∀ nw wr ov nv wb nu tb lw lt sv, td_E1 T m w wr ov nv wb lw → td_E2 T a nu tb lt → td_E3 T m sv → (∀ i, i < 14 → nw i = m 0 i) → post (nI L, ip, nI 0, nI T, o, x, y, z, nw, wr, ov, nv, wb, nu, tb, lw, lt, sv))
    (hn : ∀ i, i < 14 → nw i = 0) (hl : ∀ i, i < 14 → lw i = 0) :
    ∀ d i, i + d = 21 → ∀ lt, (∀ j, j < i → lt j = -1) → wX_execute_30 post (nI L) ip pr to (d + 1) (nI i) o x y z nw wr ov nv wb nu tb lw lt sv := by
  intro d
  induction d with
  | zero =>
    intro i hi lt ht
    have e : i = 21 := by omega
    subst e
    have hn0 : ∀ i, i < 14 → upd nw 5 ip i = m 0 i := fun i hi => by
      rw [Tr.1]
      by_cases c : i = 5
      · rw [c, pk_us, pk_us]
      · rw [pk_un c, pk_un c]; exact hn i hi
    rw [wX_execute_30]
    dsimp only
    refine br_t (nI_le (a := 21) (b := 21) (by omega) (by omega)) (nm_e ?_)
    refine td_note (t := 0) (A := 0) (by omega) (by omega) ⟨0, by omega, ht 0 (by omega)⟩ (fun sv' q1 q2 q3 => ⟨T + 1, ?_⟩)
    have f := td_79 Tr WF Go C T 0 (by omega) 0 1 (upd nw 5 ip) wr ov nv wb (upd nu 0 (nI 0)) (upd tb 0 (lt 0)) lw (upd lt 0 (nI 0)) sv' (td_E1_0i hl) (td_E2_0 Tr.2.1 ht) (td_E3_0 hn0 (q2 rfl)) hn0 (fun _ => rfl) (fun c => absurd Tr.2.2.1 c)
    rw [Tr.2.1] at f
    exact f
  | succ d ih =>
    intro i hi lt ht
    have ei : (nI i).toNatClampNeg = i := nI_clamp (by omega)
    rw [wX_execute_30]
    dsimp only
    rw [ei, td_vsm]
    refine br_f (nI_ge (b := 21) (by omega) (by omega)) ⟨vp_in_nI (by omega) (by omega), nm_e (nm_r (nI_1 i) (ih (i + 1) (by omega) _ (fun j hj => ?_)))⟩
    by_cases c : j = i
    · rw [c, pk_us]
    · rw [pk_un c]; exact ht j (by omega)
theorem td_2 {post : SX → Prop} (Tr : td_Tr o x y z ip m a w h) (WF : td_WF L o x y z) (Go : td_Go L T a h)
    (C : ∀ nw wr ov nv wb nu tb lw lt sv, td_E1 T m w wr ov nv wb lw → td_E2 T a nu tb lt → td_E3 T m sv → (∀ i, i < 14 → nw i = m 0 i) → post (nI L, ip, nI 0, nI T, o, x, y, z, nw, wr, ov, nv, wb, nu, tb, lw, lt, sv)) :
    ∀ d i, i + d = 14 → ∀ nw lw, (∀ j, j < i → nw j = 0) → (∀ j, j < i → lw j = 0) → wX_execute_2 post (nI L) ip pr to (d + 1) (nI i) o x y z nw wr ov nv wb nu tb lw lt sv := by
  intro d
  induction d with
  | zero =>
    intro i hi nw lw hn hl
    have e : i = 14 := by omega
    subst e
    rw [wX_execute_2]
    dsimp only
    exact br_t (nI_le (a := 14) (b := 14) (by omega) (by omega)) ⟨22, td_30 Tr WF Go C hn hl 21 0 (by omega) lt (fun j hj => absurd hj (by omega))⟩
  | succ d ih =>
    intro i hi nw lw hn hl
    have ei : (nI i).toNatClampNeg = i := nI_clamp (by omega)
    have ii : vp_in (nI i) 14 := vp_in_nI (by omega) (by omega)
    rw [wX_execute_2]
    dsimp only
    rw [ei, td_vs0]
    refine br_f (nI_ge (b := 14) (by omega) (by omega)) ⟨ii, nm_e ⟨ii, nm_e (nm_r (nI_1 i) (ih (i + 1) (by omega) _ _ (fun j hj => ?_) (fun j hj => ?_)))⟩⟩
    · by_cases c : j = i
      · rw [c, pk_us]
      · rw [pk_un c]; exact hn j (by omega)
    · by_cases c : j = i
      · rw [c, pk_us]
      · rw [pk_un c]; exact hl j (by omega)
theorem td_exec {post : SX → Prop} (Tr : td_Tr o x y z ip m a w h) (WF : td_WF L o x y z) (Go : td_Go L T a h)
    (C : ∀ nw wr ov nv wb nu tb lw lt sv, td_E1 T m w wr ov nv wb lw → td_E2 T a nu tb lt → td_E3 T m sv → (∀ i, i < 14 → nw i = m 0 i) → post (nI L, ip, nI 0, nI T, o, x, y, z, nw, wr, ov, nv, wb, nu, tb, lw, lt, sv)) :
    wpX_execute post (nI L, ip, pr, to, o, x, y, z, nw, wr, ov, nv, wb, nu, tb, lw, lt, sv) := by
  unfold wpX_execute
  dsimp only
  exact ⟨15, td_2 Tr WF Go C 14 0 (by omega) nw lw (fun j hj => absurd hj (by omega)) (fun j hj => absurd hj (by omega))⟩
end
end
section
/-! Y: begin, step, state, steps -/
def td_cv (w : Nat) : Int32 := if w < 6 then nI w else -1
def td_cc (w : Nat) : Int32 := if w < 6 then -1 else if w < 14 then nI (w - 6) else -1
theorem td_cv_v {i : Nat} (h : i < 6) : td_cv i = nI i := if_pos h
theorem td_cv_n {i : Nat} (h : ¬ i < 6) : td_cv i = -1 := if_neg h
theorem td_cc_v {i : Nat} (h : i < 6) : td_cc i = -1 := if_pos h
theorem td_cc_c {q : Nat} (h : q < 8) : td_cc (6 + q) = nI q := by
  unfold td_cc
  rw [if_neg (by omega), if_pos (by omega), Nat.add_sub_cancel_left]
theorem td_cc_n : td_cc 14 = -1 := by
  unfold td_cc
  rw [if_neg (by omega), if_neg (by omega)]
theorem td_nIm {n : Nat} (h : n < 2 ^ 31) : ¬ (-1 : Int32) = nI n := by
  intro e
  have q := congrArg Int32.toInt e
  rw [nI_toInt h, show (-1 : Int32).toInt = -1 from by decide] at q
  omega
theorem td_cv_iff {w v : Nat} (hv : v < 6) : td_cv w = nI v ↔ w = v := by
  by_cases c : w < 6
  · rw [td_cv_v c, nI_eq (by omega) (by omega)]
  · rw [td_cv_n c]
    exact ⟨fun e => absurd e (td_nIm (by omega)), fun e => by omega⟩
theorem td_cc_iff {w v : Nat} (hv : v < 8) : td_cc w = nI v ↔ w = 6 + v := by
  by_cases c : w < 6
  · rw [td_cc_v c]
    exact ⟨fun e => absurd e (td_nIm (by omega)), fun e => by omega⟩
  · by_cases d : w < 14
    · obtain ⟨q, rfl⟩ : ∃ q, w = 6 + q := ⟨w - 6, by omega⟩
      rw [td_cc_c (by omega), nI_eq (by omega) (by omega)]
      omega
    · unfold td_cc
      rw [if_neg c, if_neg d]
      exact ⟨fun e => absurd e (td_nIm (by omega)), fun e => by omega⟩
section
variable {L k T t : Nat} {Lf ip ti nx ha wv wc : Int32} {o x y z va ce : Nat → Int32} {m : Nat → Nat → Int32} {a w : Nat → Nat} {h : Nat → Int32}
theorem td_setv {post : SY → Prop} {i : Nat} {v : Int32} (hi : i < 6) (C : post (Lf, ip, ti, nx, ha, nI i, wc, o, x, y, z, upd va i v, ce)) : wpY_setVariable post (Lf, ip, ti, nx, ha, wv, wc, o, x, y, z, va, ce) (nI i) v := by
  have ei : (nI i).toNatClampNeg = i := nI_clamp (by omega)
  unfold wpY_setVariable
  dsimp only
  rw [ei]
  exact ⟨vp_in_nI hi (by omega), nm_e C⟩
theorem td_ystep {post : SY → Prop} {A : Nat} {M : Nat → Int32} (hA : A < 20) (hF : td_F (o A) (x A) (y A) (z A)) (hv : ∀ i, i < 6 → va i = M i) (hc : ∀ i, i < 8 → ce i = M (6 + i))
    (C : ∀ va' ce', (∀ i, i < 6 → va' i = upd M (td_W (o A) (x A) (y A) M) (td_V (o A) (x A) (y A) (z A) M) i) → (∀ i, i < 8 → ce' i = upd M (td_W (o A) (x A) (y A) M) (td_V (o A) (x A) (y A) (z A) M) (6 + i)) → post (Lf, ip, ti, nI (td_N (o A) (x A) (y A) A M), if o A = 8 then 1 else ha, td_cv (td_W (o A) (x A) (y A) M), td_cc (td_W (o A) (x A) (y A) M), o, x, y, z, va', ce')) :
    wpY_step post (Lf, ip, ti, nI A, ha, wv, wc, o, x, y, z, va, ce) := by
  have hA' : (nI A).toNatClampNeg = A := nI_clamp (by omega)
  have hin : vp_in (nI A) 20 := vp_in_nI hA (by omega)
  unfold wpY_step
  unfold wY_step_266
  dsimp only
  rw [hA']
  refine ⟨hin, nm_e ⟨hin, nm_e (nm_e ⟨hin, ?_⟩)⟩⟩
  generalize o A = oA at hF C ⊢
  generalize x A = xA at hF C ⊢
  generalize y A = yA at hF C ⊢
  generalize z A = zA at hF C ⊢
  have nv : ∀ v : Int32, ∀ i, i < 6 → va i = upd M 14 v i := fun v i hi => by rw [pk_un (by omega)]; exact hv i hi
  have nc : ∀ v : Int32, ∀ i, i < 8 → ce i = upd M 14 v (6 + i) := fun v i hi => by rw [pk_un (by omega)]; exact hc i hi
  have vv : ∀ (v : Int32) (l : Nat), ∀ i, i < 6 → upd va l v i = upd M l v i := fun v l i hi => by
    by_cases c : i = l
    · rw [c, pk_us, pk_us]
    · rw [pk_un c, pk_un c]; exact hv i hi
  have vc : ∀ (v : Int32) (l : Nat), l < 6 → ∀ i, i < 8 → ce i = upd M l v (6 + i) := fun v l hl i hi => by rw [pk_un (by omega)]; exact hc i hi
  have cv : ∀ (v : Int32) (q : Nat), ∀ i, i < 6 → va i = upd M (6 + q) v i := fun v q i hi => by rw [pk_un (by omega)]; exact hv i hi
  have cc : ∀ (v : Int32) (q : Nat), ∀ i, i < 8 → upd ce q v i = upd M (6 + q) v (6 + i) := fun v q i hi => by
    by_cases c : i = q
    · rw [c, pk_us, pk_us]
    · rw [pk_un c, pk_un (by omega)]; exact hc i hi
  rcases hF with rfl | ⟨rfl, j, hj, rfl⟩ | ⟨rfl, ⟨i, hi, rfl⟩, j, hj, rfl⟩ | ⟨rfl, i, hi, rfl⟩ | ⟨rfl, ⟨i, hi, rfl⟩, j, hj, rfl⟩ | ⟨rfl, ⟨i, hi, rfl⟩, j, hj, rfl⟩ | ⟨rfl | rfl | rfl, ⟨i, hi, rfl⟩, ⟨j, hj, rfl⟩, l, hl', rfl⟩
  · rw [td_W8, td_N8, td_cv_n (by omega), td_cc_n, if_pos rfl] at C
    have c := C va ce (nv _) (nc _)
    exact br_f (by decide) ⟨hin, br_f (by decide) ⟨hin, br_f (by decide) ⟨hin, br_f (by decide) ⟨hin, br_f (by decide) ⟨hin, br_f (by decide) ⟨hin, br_f (by decide) ⟨hin, br_f (by decide) ⟨hin, br_t rfl c⟩⟩⟩⟩⟩⟩⟩⟩
  · have ej : (nI j).toNatClampNeg = j := nI_clamp (by omega)
    rw [td_W7, td_N7, ej, td_cv_n (by omega), td_cc_n, if_neg (show ¬ (7 : Int32) = 8 by decide)] at C
    have c := C va ce (nv _) (nc _)
    exact br_f (by decide) ⟨hin, br_f (by decide) ⟨hin, br_f (by decide) ⟨hin, br_f (by decide) ⟨hin, br_f (by decide) ⟨hin, br_f (by decide) ⟨hin, br_f (by decide) ⟨hin, br_t rfl c⟩⟩⟩⟩⟩⟩⟩
  · have ei : (nI i).toNatClampNeg = i := nI_clamp (by omega)
    have ej : (nI j).toNatClampNeg = j := nI_clamp (by omega)
    rw [td_W6, td_N6, ei, ej, td_cv_n (by omega), td_cc_n, if_neg (show ¬ (6 : Int32) = 8 by decide)] at C
    have c := C va ce (nv _) (nc _)
    rw [ei, hv i hi]
    refine br_f (by decide) ⟨hin, br_f (by decide) ⟨hin, br_f (by decide) ⟨hin, br_f (by decide) ⟨hin, br_f (by decide) ⟨hin, br_f (by decide) ⟨hin, br_t rfl ⟨vp_in_nI hi (by omega), br_c (fun g => ⟨hin, br_f (by decide) ⟨hin, br_f (by decide) ?_⟩⟩) (fun g => ?_)⟩⟩⟩⟩⟩⟩⟩
    · rw [if_pos g, ← nI_1] at c; exact c
    · rw [if_neg g] at c; exact c
  · have ei : (nI i).toNatClampNeg = i := nI_clamp (by omega)
    rw [td_W0, td_N0, td_V0, ei, td_cv_v hi, td_cc_v hi, if_neg (show ¬ (0 : Int32) = 8 by decide), ← nI_1] at C
    exact br_t rfl (td_setv hi (C _ _ (vv _ _) (vc _ _ hi)))
  · have ei : (nI i).toNatClampNeg = i := nI_clamp (by omega)
    have ej : (nI j).toNatClampNeg = j := nI_clamp (by omega)
    obtain ⟨q, hq, eq⟩ := pk_andE (M j) (m := 7) 3 (by decide)
    rw [td_W4, td_N4, td_V4, ei, td_cv_v hi, td_cc_v hi, if_neg (show ¬ (4 : Int32) = 8 by decide), ← nI_1] at C
    unfold td_ad at C
    rw [ej, eq, nI_clamp (by omega)] at C
    rw [ej, hv j hj, eq, nI_clamp (n := q) (by omega), hc q hq]
    exact br_f (by decide) ⟨hin, br_f (by decide) ⟨hin, br_f (by decide) ⟨hin, br_f (by decide) ⟨hin, br_t rfl ⟨vp_in_nI hj (by omega), vp_in_nI hq (by omega), td_setv hi (C _ _ (vv _ _) (vc _ _ hi))⟩⟩⟩⟩⟩
  · have ei : (nI i).toNatClampNeg = i := nI_clamp (by omega)
    have ej : (nI j).toNatClampNeg = j := nI_clamp (by omega)
    obtain ⟨q, hq, eq⟩ := pk_andE (M j) (m := 7) 3 (by decide)
    have ew : td_ad M (nI j) = 6 + q := by
      unfold td_ad
      rw [ej, eq, nI_clamp (by omega)]
    rw [td_W5, td_N5, td_V5, ew, ei, td_cv_n (by omega), td_cc_c hq, if_neg (show ¬ (5 : Int32) = 8 by decide), ← nI_1] at C
    rw [ej, hv j hj, eq, ei, hv i hi]
    refine br_f (by decide) ⟨hin, br_f (by decide) ⟨hin, br_f (by decide) ⟨hin, br_f (by decide) ⟨hin, br_f (by decide) ⟨hin, br_t rfl ⟨vp_in_nI hj (by omega), nm_e ⟨vp_in_nI hi (by omega), vp_in_nI hq (by omega), ?_⟩⟩⟩⟩⟩⟩⟩
    rw [nI_clamp (n := q) (by omega)]
    exact nm_e (C _ _ (cv _ _) (cc _ _))
  · have ei : (nI i).toNatClampNeg = i := nI_clamp (by omega)
    have ej : (nI j).toNatClampNeg = j := nI_clamp (by omega)
    have el : (nI l).toNatClampNeg = l := nI_clamp (by omega)
    rw [td_W1, td_N1, td_V1, ei, ej, el, td_cv_v hi, td_cc_v hi, if_neg (show ¬ (1 : Int32) = 8 by decide), ← nI_1] at C
    rw [ej, el, hv j hj, hv l hl']
    exact br_f (by decide) ⟨hin, br_t rfl ⟨vp_in_nI hj (by omega), hin, vp_in_nI hl' (by omega), td_setv hi (C _ _ (vv _ _) (vc _ _ hi))⟩⟩
  · have ei : (nI i).toNatClampNeg = i := nI_clamp (by omega)
    have ej : (nI j).toNatClampNeg = j := nI_clamp (by omega)
    have el : (nI l).toNatClampNeg = l := nI_clamp (by omega)
    rw [td_W2, td_N2, td_V2, ei, ej, el, td_cv_v hi, td_cc_v hi, if_neg (show ¬ (2 : Int32) = 8 by decide), ← nI_1] at C
    rw [ej, el, hv j hj, hv l hl']
    exact br_f (by decide) ⟨hin, br_f (by decide) ⟨hin, br_t rfl ⟨vp_in_nI hj (by omega), hin, vp_in_nI hl' (by omega), td_setv hi (C _ _ (vv _ _) (vc _ _ hi))⟩⟩⟩
  · have ei : (nI i).toNatClampNeg = i := nI_clamp (by omega)
    have ej : (nI j).toNatClampNeg = j := nI_clamp (by omega)
    have el : (nI l).toNatClampNeg = l := nI_clamp (by omega)
    rw [td_W3, td_N3, td_V3, ei, ej, el, td_cv_v hi, td_cc_v hi, if_neg (show ¬ (3 : Int32) = 8 by decide), ← nI_1] at C
    rw [ej, el, hv j hj, hv l hl']
    exact br_f (by decide) ⟨hin, br_f (by decide) ⟨hin, br_f (by decide) ⟨hin, br_t rfl ⟨vp_in_nI hj (by omega), hin, vp_in_nI hl' (by omega), td_setv hi (C _ _ (vv _ _) (vc _ _ hi))⟩⟩⟩⟩
end
end
section
/-! Y: the runs from the beginning -/
def td_Y (k : Nat) (m : Nat → Nat → Int32) (a w : Nat → Nat) (h : Nat → Int32) (nx ha wv wc : Int32) (va ce : Nat → Int32) : Prop :=
  nx = nI (a k) ∧ ha = h k ∧ (∀ i, i < 6 → va i = m k i) ∧ (∀ i, i < 8 → ce i = m k (6 + i)) ∧ (0 < k → wv = td_cv (w k) ∧ wc = td_cc (w k))
section
variable {L k p T t : Nat} {Lf ip ti nx ha wv wc : Int32} {o x y z va ce : Nat → Int32} {m : Nat → Nat → Int32} {a w : Nat → Nat} {h : Nat → Int32}
theorem td_yst {post : SY → Prop} (Tr : td_Tr o x y z ip m a w h) (WF : td_WF L o x y z) (hk : a k < L ∧ h k = 0) (R : td_Y k m a w h nx ha wv wc va ce)
    (C : ∀ nx ha wv wc va ce, td_Y (k + 1) m a w h nx ha wv wc va ce → post (Lf, ip, ti, nx, ha, wv, wc, o, x, y, z, va, ce)) : wpY_step post (Lf, ip, ti, nx, ha, wv, wc, o, x, y, z, va, ce) := by
  obtain ⟨rfl, rfl, r3, r4, r5⟩ := R
  obtain ⟨h1, h2, h3, h4⟩ := Tr.2.2.2 k
  have hL := WF.1
  refine td_ystep (A := a k) (M := m k) (by omega) (WF.2 _ hk.1) r3 r4 (fun va' ce' q1 q2 => C _ _ _ _ _ _ ⟨?_, ?_, ?_, ?_, ?_⟩)
  · rw [h3]
  · rw [h4, hk.2]
  · rw [h2, h1]; exact q1
  · rw [h2, h1]; exact q2
  · rw [h1]; exact fun _ => ⟨rfl, rfl⟩
theorem td_beg32 {post : SY → Prop} (C : ∀ ce, (∀ i, i < 8 → ce i = 0) → post (Lf, ip, ti, 0, 0, wv, wc, o, x, y, z, va, ce)) : ∀ d i, i + d = 8 → ∀ ce, (∀ j, j < i → ce j = 0) → wY_begin_32 post Lf ip ti nx ha wv wc (d + 1) (nI i) o x y z va ce := by
  intro d
  induction d with
  | zero =>
    intro i hi ce hc
    have e : i = 8 := by omega
    subst e
    rw [wY_begin_32]
    dsimp only
    exact br_t (nI_le (a := 8) (b := 8) (by omega) (by omega)) (C ce hc)
  | succ d ih =>
    intro i hi ce hc
    have ei : (nI i).toNatClampNeg = i := nI_clamp (by omega)
    rw [wY_begin_32]
    dsimp only
    rw [ei]
    refine br_f (nI_ge (b := 8) (by omega) (by omega)) ⟨vp_in_nI (by omega) (by omega), nm_e (nm_r (nI_1 i) (ih (i + 1) (by omega) _ (fun j hj => ?_)))⟩
    by_cases c : j = i
    · rw [c, pk_us]
    · rw [pk_un c]; exact hc j (by omega)
theorem td_beg2 {post : SY → Prop} (C : ∀ va ce, (∀ i, i < 6 → va i = upd (fun _ => 0) 5 ip i) → (∀ i, i < 8 → ce i = 0) → post (Lf, ip, ti, 0, 0, wv, wc, o, x, y, z, va, ce)) : ∀ d i, i + d = 5 → ∀ va, (∀ j, j < i → va j = 0) → wY_begin_2 post Lf ip ti nx ha wv wc (d + 1) (nI i) o x y z va ce := by
  intro d
  induction d with
  | zero =>
    intro i hi va hv
    have e : i = 5 := by omega
    subst e
    rw [wY_begin_2]
    dsimp only
    refine br_t (nI_le (a := 5) (b := 5) (by omega) (by omega)) (nm_e ⟨9, ?_⟩)
    refine td_beg32 (fun ce hc => C _ ce (fun i hi => ?_) hc) 8 0 (by omega) ce (fun j hj => absurd hj (by omega))
    by_cases c : i = 5
    · rw [c, pk_us, pk_us]
    · rw [pk_un c, pk_un c]; exact hv i (by omega)
  | succ d ih =>
    intro i hi va hv
    have ei : (nI i).toNatClampNeg = i := nI_clamp (by omega)
    rw [wY_begin_2]
    dsimp only
    rw [ei]
    refine br_f (nI_ge (b := 5) (by omega) (by omega)) ⟨vp_in_nI (by omega) (by omega), nm_e (nm_r (nI_1 i) (ih (i + 1) (by omega) _ (fun j hj => ?_)))⟩
    by_cases c : j = i
    · rw [c, pk_us]
    · rw [pk_un c]; exact hv j (by omega)
theorem td_begin {post : SY → Prop} (Tr : td_Tr o x y z ip m a w h) (C : ∀ nx ha va ce, td_Y 0 m a w h nx ha wv wc va ce → post (Lf, ip, ti, nx, ha, wv, wc, o, x, y, z, va, ce)) : wpY_begin post (Lf, ip, ti, nx, ha, wv, wc, o, x, y, z, va, ce) := by
  unfold wpY_begin
  dsimp only
  refine ⟨6, td_beg2 (fun va ce h1 h2 => C 0 0 va ce ⟨?_, ?_, ?_, ?_, ?_⟩) 5 0 (by omega) va (fun j hj => absurd hj (by omega))⟩
  · rw [Tr.2.1]; rfl
  · rw [Tr.2.2.1]
  · rw [Tr.1]; exact h1
  · rw [Tr.1]
    intro i hi
    rw [h2 i hi, pk_un (by omega)]
  · intro q; exact absurd q (by omega)
theorem td_state6 {post : SY → Prop} (Tr : td_Tr o x y z ip m a w h) (WF : td_WF L o x y z) (ht : t ≤ 200) (hj : ∀ j, j < t → a j < L ∧ h j = 0)
    (C : ∀ nx ha wv wc va ce, td_Y t m a w h nx ha wv wc va ce → post (Lf, ip, ti, nx, ha, wv, wc, o, x, y, z, va, ce)) :
    ∀ d k, k + d = t → ∀ nx ha wv wc va ce, td_Y k m a w h nx ha wv wc va ce → wY_state_6 post (nI t) (d + 1) (nI k) Lf ip ti nx ha wv wc o x y z va ce := by
  intro d
  induction d with
  | zero =>
    intro k hk nx ha wv wc va ce R
    have e : k = t := by omega
    subst e
    rw [wY_state_6]
    dsimp only
    exact br_t (nI_le (by omega) (by omega)) (C _ _ _ _ _ _ R)
  | succ d ih =>
    intro k hk nx ha wv wc va ce R
    rw [wY_state_6]
    dsimp only
    refine br_f (nI_ge (by omega) (by omega)) (td_yst Tr WF (hj k (by omega)) R (fun nx ha wv wc va ce R' => ?_))
    exact nm_r (nI_1 k) (ih (k + 1) (by omega) nx ha wv wc va ce R')
theorem td_state {post : SY → Prop} (Tr : td_Tr o x y z ip m a w h) (WF : td_WF L o x y z) (ht : t ≤ 200) (hj : ∀ j, j < t → a j < L ∧ h j = 0)
    (C : ∀ nx ha wv wc va ce, td_Y t m a w h nx ha wv wc va ce → post (Lf, ip, ti, nx, ha, wv, wc, o, x, y, z, va, ce)) : wpY_state post (Lf, ip, ti, nx, ha, wv, wc, o, x, y, z, va, ce) (nI t) := by
  unfold wpY_state
  dsimp only
  refine td_begin Tr (fun nx ha va ce R => ⟨t + 1, ?_⟩)
  exact td_state6 Tr WF ht hj C t 0 (by omega) nx ha wv wc va ce R
theorem td_steps8 {post : Int32 → SY → Prop} (Tr : td_Tr o x y z ip m a w h) (WF : td_WF L o x y z) (Go : td_Go L T a h)
    (C : ∀ nx ha wv wc va ce, post (nI T) (nI L, ip, ti, nx, ha, wv, wc, o, x, y, z, va, ce)) :
    ∀ d k, k + d = T → ∀ nx ha wv wc va ce, td_Y k m a w h nx ha wv wc va ce → wY_steps_8 post (d + 1) (nI k) (nI k) (nI L) ip ti nx ha wv wc o x y z va ce := by
  have hL := WF.1
  have hT := Go.1
  intro d
  induction d with
  | zero =>
    intro k hk nx ha wv wc va ce R
    have e : k = T := by omega
    subst e
    have hak : a k ≤ 20 := td_a_le Tr WF Go.2.1
    rw [wY_steps_8]
    dsimp only
    refine pk_le 200 k (fun _ => C _ _ _ _ _ _) (fun h2 => ?_)
    unfold wpY_ended
    dsimp only
    rw [R.1, R.2.1]
    refine br_c (fun c => pk_lt (a k) L (fun hl => ?_) (fun _ => br_f (by decide) (C _ _ _ _ _ _))) (fun _ => br_f (by decide) (C _ _ _ _ _ _))
    rcases Go.2.2 with q | q | q
    · omega
    · omega
    · exact absurd c q
  | succ d ih =>
    intro k hk nx ha wv wc va ce R
    have q := Go.2.1 k (by omega)
    rw [wY_steps_8]
    dsimp only
    refine br_f (nI_ge (b := 200) (by omega) (by omega)) ?_
    unfold wpY_ended
    dsimp only
    refine br_t (R.2.1.trans q.2) ?_
    have hlt : nx < nI L := by rw [R.1]; exact nI_lt q.1 (by omega)
    refine br_t hlt (br_t rfl ?_)
    refine td_yst Tr WF q R (fun nx ha wv wc va ce R' => ?_)
    exact nm_r (nI_1 k) (nm_r (nI_1 k) (ih (k + 1) (by omega) nx ha wv wc va ce R'))
theorem td_steps {post : Int32 → SY → Prop} (Tr : td_Tr o x y z ip m a w h) (WF : td_WF L o x y z) (Go : td_Go L T a h)
    (C : ∀ nx ha wv wc va ce, post (nI T) (nI L, ip, ti, nx, ha, wv, wc, o, x, y, z, va, ce)) : wpY_steps post (nI L, ip, ti, nx, ha, wv, wc, o, x, y, z, va, ce) := by
  unfold wpY_steps
  dsimp only
  refine td_begin Tr (fun nx ha va ce R => ⟨T + 1, ?_⟩)
  exact td_steps8 Tr WF Go C T 0 (by omega) nx ha wv wc va ce R
theorem td_lw38 {post : Int32 → SY → Prop} {wh : Int32} {v P : Nat} (Tr : td_Tr o x y z ip m a w h) (WF : td_WF L o x y z) (hp : p ≤ 200) (hj : ∀ j, j < p → a j < L ∧ h j = 0) (hP : (wh = 0 ∧ v < 6 ∧ P = v) ∨ (¬ wh = 0 ∧ v < 8 ∧ P = 6 + v))
    (C : ∀ nx ha wv wc va ce, post (nI (td_LW w p P)) (Lf, ip, nI p, nx, ha, wv, wc, o, x, y, z, va, ce)) :
    ∀ d k, k + d = p → ∀ nx ha wv wc va ce, td_Y k m a w h nx ha wv wc va ce → wY_lastWrite_38 post wh (nI v) (d + 1) (nI (td_LW w k P)) (nI (k + 1)) Lf ip (nI p) nx ha wv wc o x y z va ce := by
  intro d
  induction d with
  | zero =>
    intro k hk nx ha wv wc va ce R
    have e : k = p := by omega
    subst e
    rw [wY_lastWrite_38]
    dsimp only
    exact br_t (nI_lt (by omega) (by omega)) (C _ _ _ _ _ _)
  | succ d ih =>
    intro k hk nx ha wv wc va ce R
    rw [wY_lastWrite_38]
    dsimp only
    refine br_f (nI_nlt (by omega) (by omega)) (td_yst Tr WF (hj k (by omega)) R (fun nx ha wv wc va ce R' => ?_))
    obtain ⟨ev, ec⟩ := R'.2.2.2.2 (by omega)
    have F := ih (k + 1) (by omega) nx ha wv wc va ce R'
    dsimp only
    unfold wY_lastWrite_66
    rcases hP with ⟨e0, hv, eP⟩ | ⟨e0, hv, eP⟩
    · refine br_t e0 (br_c (fun g => nm_r (nI_1 (k + 1)) ?_) (fun g => nm_r (nI_1 (k + 1)) ?_))
      · rw [td_LWt (by rw [eP]; exact (td_cv_iff hv).mp (ev.symm.trans g))] at F
        exact F
      · rw [td_LWf (by rw [eP]; exact fun q => g (ev.trans ((td_cv_iff hv).mpr q)))] at F
        exact F
    · refine br_f e0 (br_c (fun g => nm_r (nI_1 (k + 1)) ?_) (fun g => nm_r (nI_1 (k + 1)) ?_))
      · rw [td_LWt (by rw [eP]; exact (td_cc_iff hv).mp (ec.symm.trans g))] at F
        exact F
      · rw [td_LWf (by rw [eP]; exact fun q => g (ec.trans ((td_cc_iff hv).mpr q)))] at F
        exact F
theorem td_y22 {post : Int32 → SY → Prop} {i : Nat} (Tr : td_Tr o x y z ip m a w h) (WF : td_WF L o x y z) (Go : td_Go L T a h) (hi : i < 20)
    (C0 : ∀ nx ha wv wc va ce, (∀ s, p < s → s ≤ T → ¬ a s = i) → post (-3) (Lf, ip, nI p, nx, ha, wv, wc, o, x, y, z, va, ce))
    (C1 : ∀ t nx ha wv wc va ce, p < t → t ≤ T → a t = i → (∀ s, p < s → s < t → ¬ a s = i) → post (nI t) (Lf, ip, nI t, nx, ha, wv, wc, o, x, y, z, va, ce)) :
    ∀ d q, p < q → q + d = T + 1 → (∀ s, p < s → s < q → ¬ a s = i) → ∀ nx ha wv wc va ce, wY_runTo_22 post (nI i) (nI T) (d + 1) (nI q) Lf ip (nI p) nx ha wv wc o x y z va ce := by
  have hT := Go.1
  have hL := WF.1
  intro d
  induction d with
  | zero =>
    intro q hpq hq hs nx ha wv wc va ce
    rw [wY_runTo_22]
    dsimp only
    exact br_t (nI_lt (by omega) (by omega)) (C0 _ _ _ _ _ _ (fun s h1 h2 => hs s h1 (by omega)))
  | succ d ih =>
    intro q hpq hq hs nx ha wv wc va ce
    have hj : ∀ j, j < q → a j < L ∧ h j = 0 := fun j hj => Go.2.1 j (by omega)
    have ha1 : a q ≤ 20 := td_a_le Tr WF hj
    rw [wY_runTo_22]
    dsimp only
    refine br_f (nI_nlt (by omega) (by omega)) (td_state Tr WF (by omega) hj (fun nx ha wv wc va ce R => ?_))
    dsimp only
    rw [R.1]
    refine pk_eq (a q) i (fun g => C1 q _ _ _ _ _ _ hpq (by omega) g hs) (fun g => nm_r (nI_1 q) (ih (q + 1) (by omega) (by omega) (fun s h1 h2 => ?_) _ _ _ _ _ _))
    by_cases c : s = q
    · rw [c]; exact g
    · exact hs s h1 (by omega)
theorem td_tm (n : Nat) : nI n + (-1) = td_t n := by
  cases n with
  | zero => rfl
  | succ k => exact pk_m1 k
theorem td_tp (n : Nat) : nI n - 1 = td_t n := by
  cases n with
  | zero => rfl
  | succ k => exact nI_pred k
theorem td_y17 {post : Int32 → SY → Prop} {i : Nat} (Tr : td_Tr o x y z ip m a w h) (WF : td_WF L o x y z) (hi : i < 20) (hp : p ≤ 200) (hj : ∀ j, j < p → a j < L ∧ h j = 0)
    (C0 : ∀ nx ha wv wc va ce, (∀ s, s < p → ¬ a s = i) → post (-3) (Lf, ip, ti, nx, ha, wv, wc, o, x, y, z, va, ce))
    (C1 : ∀ t nx ha wv wc va ce, t < p → a t = i → (∀ s, t < s → s < p → ¬ a s = i) → post (nI t) (Lf, ip, nI t, nx, ha, wv, wc, o, x, y, z, va, ce)) :
    ∀ q, q ≤ p → (∀ s, q ≤ s → s < p → ¬ a s = i) → ∀ nx ha wv wc va ce, wY_backTo_17 post (nI i) (q + 1) (td_t q) Lf ip ti nx ha wv wc o x y z va ce := by
  have hL := WF.1
  intro q
  induction q with
  | zero =>
    intro hq hs nx ha wv wc va ce
    rw [wY_backTo_17]
    dsimp only
    exact br_t (by decide) (C0 _ _ _ _ _ _ (fun s h1 => hs s (by omega) h1))
  | succ q ih =>
    intro hq hs nx ha wv wc va ce
    have hj' : ∀ j, j < q → a j < L ∧ h j = 0 := fun j h2 => hj j (by omega)
    have ha1 : a q ≤ 20 := td_a_le Tr WF hj'
    rw [wY_backTo_17]
    dsimp only
    refine br_f (nI_pos (n := q) (by omega)) (td_state (t := q) Tr WF (by omega) hj' (fun nx ha wv wc va ce R => ?_))
    dsimp only
    rw [R.1]
    refine pk_eq (a q) i (fun g => C1 q _ _ _ _ _ _ (by omega) g (fun s h1 h2 => hs s (by omega) h2)) (fun g => nm_r (td_tm q) (ih (by omega) (fun s h1 h2 => ?_) _ _ _ _ _ _))
    by_cases c : s = q
    · rw [c]; exact g
    · exact hs s (by omega) h2
end
end
section
/-! X: the questions that follow the chains -/
section
variable {L k p T t : Nat} {Lf ip pr to : Int32} {o x y z nw wr ov nv wb nu tb lw lt sv : Nat → Int32} {m : Nat → Nat → Int32} {a w : Nat → Nat} {h : Nat → Int32}
theorem td_x7 {post : Int32 → Prop} {P : Nat} (hP : P < 14) (hT : T ≤ 200) (hp : p ≤ T) (E1 : td_E1 T m w wr ov nv wb lw) (C : post (nI (td_LW w p P))) :
    ∀ n q, q < n → p ≤ q → q ≤ T → wX_writeUpTo_7 post Lf ip (nI p) to o x y z nw wr ov nv wb nu tb lw lt sv n (nI (td_LW w q P)) := by
  intro n
  induction n with
  | zero => intro q hq; exact absurd hq (by omega)
  | succ n ih =>
    intro q hq hpq hqT
    have hle := td_LW_le w P q
    rw [wX_writeUpTo_7]
    dsimp only
    by_cases c : td_LW w q P ≤ p
    · have e := td_LW_stop w P p q hpq c
      rw [e] at c ⊢
      exact br_t (nI_le c (by omega)) C
    · obtain ⟨s, hs⟩ : ∃ s, td_LW w q P = s + 1 := ⟨td_LW w q P - 1, by omega⟩
      have hw := td_LW_hit w P s q hs
      obtain ⟨_, _, e⟩ := E1.2.1 s (by omega) (by omega)
      rw [hw] at e
      rw [hs, nI_clamp (n := s + 1) (by omega), e]
      exact br_f (nI_ge (by omega) (by omega)) ⟨vp_in_nI (by omega) (by omega), nm_e (ih s (by omega) (by omega) (by omega))⟩
theorem td_xw {post : Int32 → Prop} {P : Nat} (hP : P < 14) (hT : T ≤ 200) (hp : p ≤ T) (E1 : td_E1 T m w wr ov nv wb lw) (C : post (nI (td_LW w p P))) : wpX_writeUpTo post (Lf, ip, nI p, to, o, x, y, z, nw, wr, ov, nv, wb, nu, tb, lw, lt, sv) (nI P) := by
  have eP : (nI P).toNatClampNeg = P := nI_clamp (by omega)
  unfold wpX_writeUpTo
  dsimp only
  rw [eP, E1.2.2 P hP]
  exact ⟨vp_in_nI hP (by omega), nm_e ⟨T + 1, td_x7 hP hT hp E1 C (T + 1) T (by omega) hp (by omega)⟩⟩
theorem td_tle {n p : Nat} (hp : p < 1000) (hn : n ≤ p + 1) : td_t n ≤ nI p := by
  cases n with
  | zero => exact Int32.le_trans (show (-1 : Int32) ≤ 0 by decide) (nI_pos' (by omega))
  | succ n => exact nI_le (by omega) (by omega)
theorem td_tlt {n p : Nat} (hp : p < 1000) (hn : n ≤ p) : td_t n < nI p := by
  cases n with
  | zero => exact Int32.lt_of_lt_of_le (show (-1 : Int32) < 0 by decide) (nI_pos' (by omega))
  | succ n => exact nI_lt (by omega) (by omega)
theorem td_x21 {post : Int32 → SX → Prop} {i : Nat} (hi : i < 20) (hT : T ≤ 200) (hp : p ≤ T) (U : td_U T m w) (E1 : td_E1 T m w wr ov nv wb lw) (E2 : td_E2 T a nu tb lt) (E3 : td_E3 T m sv) (hn : ∀ i, i < 14 → nw i = m p i)
    (C0 : (∀ s, p < s → s ≤ T → ¬ a s = i) → post (-3) (Lf, ip, nI p, nI T, o, x, y, z, nw, wr, ov, nv, wb, nu, tb, lw, lt, sv))
    (C1 : ∀ t nw', p < t → t ≤ T → a t = i → (∀ s, p < s → s < t → ¬ a s = i) → (∀ i, i < 14 → nw' i = m t i) → post (nI t) (Lf, ip, nI t, nI T, o, x, y, z, nw', wr, ov, nv, wb, nu, tb, lw, lt, sv)) :
    ∀ n q x2, q < n → p < q → ((x2 = -1 ∧ q = T + 1) ∨ (x2 = nI q ∧ q ≤ T ∧ a q = i)) → wX_runTo_21 post Lf ip (nI p) (nI T) o x y z nw wr ov nv wb nu tb lw lt sv n x2 (td_t (td_LT a q i)) := by
  have fin : ∀ q x2, p < q → ((x2 = -1 ∧ q = T + 1) ∨ (x2 = nI q ∧ q ≤ T ∧ a q = i)) → (∀ s, p < s → s < q → ¬ a s = i) → ((0 ≤ x2 → wpX_travel (fun u => post x2 u) (Lf, ip, nI p, nI T, o, x, y, z, nw, wr, ov, nv, wb, nu, tb, lw, lt, sv) x2) ∧ (¬ 0 ≤ x2 → post (-3) (Lf, ip, nI p, nI T, o, x, y, z, nw, wr, ov, nv, wb, nu, tb, lw, lt, sv))) := by
    intro q x2 hpq hx hs
    rcases hx with ⟨rfl, rfl⟩ | ⟨rfl, hq, ha⟩
    · exact br_f (by decide) (C0 (fun s h1 h2 => hs s h1 (by omega)))
    · exact br_t (nI_pos' (by omega)) (td_travel hT hq hp U E1 E3 hn (fun nw' hn' => C1 q nw' hpq hq ha hs hn'))
  intro n
  induction n with
  | zero => intro q x2 hq; exact absurd hq (by omega)
  | succ n ih =>
    intro q x2 hq hpq hx
    rw [wX_runTo_21]
    dsimp only
    cases e : td_LT a q i with
    | zero =>
      have hno := td_LT_no a i q e
      exact br_t (td_tle (by omega) (by omega)) (fin q x2 hpq hx (fun s _ h2 => hno s h2))
    | succ s =>
      obtain ⟨h1, h2, h3⟩ := td_LT_hit a i s q e
      by_cases c : s ≤ p
      · exact br_t (td_tle (by omega) (by omega)) (fin q x2 hpq hx (fun r g1 g2 => h3 r (by omega) g2))
      · have hsT : s ≤ T := by
          rcases hx with ⟨_, g⟩ | ⟨_, g, _⟩
          · omega
          · omega
        have e2 := E2.2.1 s hsT
        rw [h1] at e2
        have es : (td_t (s + 1)).toNatClampNeg = s := nI_clamp (by omega)
        rw [es, e2]
        exact br_f (nI_ge (a := p) (b := s) (by omega) (by omega)) ⟨vp_in_nI (n := s) (by omega) (by omega), nm_e (ih s (nI s) (by omega) (by omega) (Or.inr ⟨rfl, hsT, h1⟩))⟩
theorem td_xrun {post : Int32 → SX → Prop} {i : Nat} (hi : i < 20) (hT : T ≤ 200) (hp : p ≤ T) (U : td_U T m w) (E1 : td_E1 T m w wr ov nv wb lw) (E2 : td_E2 T a nu tb lt) (E3 : td_E3 T m sv) (hn : ∀ i, i < 14 → nw i = m p i)
    (C0 : (∀ s, p < s → s ≤ T → ¬ a s = i) → post (-3) (Lf, ip, nI p, nI T, o, x, y, z, nw, wr, ov, nv, wb, nu, tb, lw, lt, sv))
    (C1 : ∀ t nw', p < t → t ≤ T → a t = i → (∀ s, p < s → s < t → ¬ a s = i) → (∀ i, i < 14 → nw' i = m t i) → post (nI t) (Lf, ip, nI t, nI T, o, x, y, z, nw', wr, ov, nv, wb, nu, tb, lw, lt, sv)) :
    wpX_runTo post (Lf, ip, nI p, nI T, o, x, y, z, nw, wr, ov, nv, wb, nu, tb, lw, lt, sv) (nI i) := by
  have ei : (nI i).toNatClampNeg = i := nI_clamp (by omega)
  unfold wpX_runTo
  dsimp only
  rw [ei, E2.2.2 i (by omega)]
  refine br_f (nI_pos (by omega)) (br_t (nI_le (b := 19) (by omega) (by omega)) ⟨vp_in_nI (by omega) (by omega), nm_e ⟨T + 2, ?_⟩⟩)
  exact td_x21 hi hT hp U E1 E2 E3 hn C0 C1 (T + 2) (T + 1) (-1) (by omega) (by omega) (Or.inl ⟨rfl, rfl⟩)
theorem td_x19 {post : Int32 → SX → Prop} {i : Nat} (hi : i < 20) (hT : T ≤ 200) (hp : p ≤ T) (U : td_U T m w) (E1 : td_E1 T m w wr ov nv wb lw) (E2 : td_E2 T a nu tb lt) (E3 : td_E3 T m sv) (hn : ∀ i, i < 14 → nw i = m p i)
    (C0 : (∀ s, s < p → ¬ a s = i) → post (-3) (Lf, ip, nI p, nI T, o, x, y, z, nw, wr, ov, nv, wb, nu, tb, lw, lt, sv))
    (C1 : ∀ t nw', t < p → a t = i → (∀ s, t < s → s < p → ¬ a s = i) → (∀ i, i < 14 → nw' i = m t i) → post (nI t) (Lf, ip, nI t, nI T, o, x, y, z, nw', wr, ov, nv, wb, nu, tb, lw, lt, sv)) :
    ∀ n q, q < n → p ≤ q → q ≤ T + 1 → wX_backTo_19 post Lf ip (nI p) (nI T) o x y z nw wr ov nv wb nu tb lw lt sv n (td_t (td_LT a q i)) := by
  intro n
  induction n with
  | zero => intro q hq; exact absurd hq (by omega)
  | succ n ih =>
    intro q hq hpq hqT
    rw [wX_backTo_19]
    dsimp only
    cases e : td_LT a q i with
    | zero =>
      have hno := td_LT_no a i q e
      exact br_t (td_tlt (by omega) (by omega)) (br_f (show ¬ (0 : Int32) ≤ -1 by decide) (C0 (fun s h1 => hno s (by omega))))
    | succ s =>
      obtain ⟨h1, h2, h3⟩ := td_LT_hit a i s q e
      by_cases c : s < p
      · exact br_t (td_tlt (by omega) (by omega)) (br_t (nI_pos' (n := s) (by omega)) (td_travel (t := s) hT (by omega) hp U E1 E3 hn (fun nw' hn' => C1 s nw' c h1 (fun r g1 g2 => h3 r g1 (by omega)) hn')))
      · have e2 := E2.2.1 s (by omega)
        rw [h1] at e2
        have es : (td_t (s + 1)).toNatClampNeg = s := nI_clamp (by omega)
        rw [es, e2]
        exact br_f (nI_nlt (a := s) (b := p) (by omega) (by omega)) ⟨vp_in_nI (n := s) (by omega) (by omega), nm_e (ih s (by omega) (by omega) (by omega))⟩
theorem td_xback {post : Int32 → SX → Prop} {i : Nat} (hi : i < 20) (hT : T ≤ 200) (hp : p ≤ T) (U : td_U T m w) (E1 : td_E1 T m w wr ov nv wb lw) (E2 : td_E2 T a nu tb lt) (E3 : td_E3 T m sv) (hn : ∀ i, i < 14 → nw i = m p i)
    (C0 : (∀ s, s < p → ¬ a s = i) → post (-3) (Lf, ip, nI p, nI T, o, x, y, z, nw, wr, ov, nv, wb, nu, tb, lw, lt, sv))
    (C1 : ∀ t nw', t < p → a t = i → (∀ s, t < s → s < p → ¬ a s = i) → (∀ i, i < 14 → nw' i = m t i) → post (nI t) (Lf, ip, nI t, nI T, o, x, y, z, nw', wr, ov, nv, wb, nu, tb, lw, lt, sv)) :
    wpX_backTo post (Lf, ip, nI p, nI T, o, x, y, z, nw, wr, ov, nv, wb, nu, tb, lw, lt, sv) (nI i) := by
  have ei : (nI i).toNatClampNeg = i := nI_clamp (by omega)
  unfold wpX_backTo
  dsimp only
  rw [ei, E2.2.2 i (by omega)]
  refine br_f (nI_pos (by omega)) (br_t (nI_le (b := 19) (by omega) (by omega)) ⟨vp_in_nI (by omega) (by omega), nm_e ⟨T + 2, ?_⟩⟩)
  exact td_x19 hi hT hp U E1 E2 E3 hn C0 C1 (T + 2) (T + 1) (by omega) (by omega) (by omega)
end
end
section
/-! the two form checks answer alike -/
theorem td_ge {x : Int32} {n : Nat} (hn : n + 1 < 2 ^ 31) (g : nI (n + 1) ≤ x) : ¬ x < 0 ∧ nI n < x ∧ ¬ x ≤ nI n := by
  rw [Int32.le_iff_toInt_le, nI_toInt hn] at g
  rw [Int32.lt_iff_toInt_lt, Int32.lt_iff_toInt_lt, Int32.le_iff_toInt_le, nI_toInt (by omega), Int32.toInt_zero]
  omega
theorem td_neg {x : Int32} {n : Nat} (hn : n < 2 ^ 31) (g : x < 0) : ¬ nI n ≤ x ∧ x ≤ nI n ∧ ¬ nI n < x ∧ ¬ x = nI n := by
  rw [Int32.lt_iff_toInt_lt, Int32.toInt_zero] at g
  rw [Int32.le_iff_toInt_le, Int32.le_iff_toInt_le, Int32.lt_iff_toInt_lt, nI_toInt hn]
  refine ⟨by omega, by omega, by omega, fun e => ?_⟩
  rw [e, nI_toInt hn] at g
  omega
section
variable {Lf ip pr to : Int32} {o x y z nw wr ov nv wb nu tb lw lt sv : Nat → Int32}
variable {Lg iq ti nx ha wv wc : Int32} {o' x' y' z' va ce : Nat → Int32}
theorem td_pl1 {A B : Prop} {i : Nat} (hi : i < 20) (b : B) : (nI i < 0 → A) ∧ (¬ nI i < 0 → ((19 < nI i → A) ∧ (¬ 19 < nI i → B))) := br_f (nI_pos (by omega)) (br_f (nI_nlt (a := 19) (by omega) (by omega)) b)
theorem td_pl0 {A B : Prop} {v : Int32} (hv : v < 0 ∨ nI 20 ≤ v) (b : A) : (v < 0 → A) ∧ (¬ v < 0 → ((19 < v → A) ∧ (¬ 19 < v → B))) := by
  rcases hv with g | g
  · exact br_t g b
  · obtain ⟨h1, h2, _⟩ := td_ge (n := 19) (by omega) g
    exact br_f h1 (br_t h2 b)
theorem td_va1 {A B : Prop} {i : Nat} (hi : i < 6) (b : B) : (nI i < 0 → A) ∧ (¬ nI i < 0 → ((5 < nI i → A) ∧ (¬ 5 < nI i → B))) := br_f (nI_pos (by omega)) (br_f (nI_nlt (a := 5) (by omega) (by omega)) b)
theorem td_va0 {A B : Prop} {v : Int32} (hv : v < 0 ∨ nI 6 ≤ v) (b : A) : (v < 0 → A) ∧ (¬ v < 0 → ((5 < v → A) ∧ (¬ 5 < v → B))) := by
  rcases hv with g | g
  · exact br_t g b
  · obtain ⟨h1, h2, _⟩ := td_ge (n := 5) (by omega) g
    exact br_f h1 (br_t h2 b)
theorem td_xv1 {post : Int32 → Prop} {i : Nat} (hi : i < 6) (b : post 1) : wpX_isVariable post (Lf, ip, pr, to, o, x, y, z, nw, wr, ov, nv, wb, nu, tb, lw, lt, sv) (nI i) := by
  unfold wpX_isVariable
  exact td_va1 hi b
theorem td_xv0 {post : Int32 → Prop} {v : Int32} (hv : v < 0 ∨ nI 6 ≤ v) (b : post 0) : wpX_isVariable post (Lf, ip, pr, to, o, x, y, z, nw, wr, ov, nv, wb, nu, tb, lw, lt, sv) v := by
  unfold wpX_isVariable
  exact td_va0 hv b
theorem td_yv1 {post : Int32 → Prop} {i : Nat} (hi : i < 6) (b : post 1) : wpY_isVariable post (Lg, iq, ti, nx, ha, wv, wc, o', x', y', z', va, ce) (nI i) := by
  unfold wpY_isVariable
  exact td_va1 hi b
theorem td_yv0 {post : Int32 → Prop} {v : Int32} (hv : v < 0 ∨ nI 6 ≤ v) (b : post 0) : wpY_isVariable post (Lg, iq, ti, nx, ha, wv, wc, o', x', y', z', va, ce) v := by
  unfold wpY_isVariable
  exact td_va0 hv b
theorem td_yp1 {post : Int32 → Prop} {i : Nat} (hi : i < 20) (b : post 1) : wpY_isPlace post (Lg, iq, ti, nx, ha, wv, wc, o', x', y', z', va, ce) (nI i) := by
  unfold wpY_isPlace
  exact td_pl1 hi b
theorem td_yp0 {post : Int32 → Prop} {v : Int32} (hv : v < 0 ∨ nI 20 ≤ v) (b : post 0) : wpY_isPlace post (Lg, iq, ti, nx, ha, wv, wc, o', x', y', z', va, ce) v := by
  unfold wpY_isPlace
  exact td_pl0 hv b
def td_FO (u : SX) (v : SY) (v1 v2 v3 v4 : Int32) : Prop :=
  ((∀ post : Int32 → Prop, post 0 → wpX_fits post u v1 v2 v3 v4) ∧ (∀ post : Int32 → Prop, post 0 → wpY_fits post v v1 v2 v3 v4)) ∨
  (td_F v1 v2 v3 v4 ∧ (∀ post : Int32 → Prop, post 1 → wpX_fits post u v1 v2 v3 v4) ∧ (∀ post : Int32 → Prop, post 1 → wpY_fits post v v1 v2 v3 v4))
theorem td_ix (n : Nat) (hn : n < 2 ^ 31) (v : Int32) : (v < 0 ∨ nI n ≤ v) ∨ ∃ j, j < n ∧ v = nI j := by
  rcases pk_ix v hn with g | g | g
  · exact Or.inl (Or.inl g)
  · exact Or.inl (Or.inr g)
  · exact Or.inr g

theorem td_fit0 (v2 v3 v4 : Int32) : td_FO (Lf, ip, pr, to, o, x, y, z, nw, wr, ov, nv, wb, nu, tb, lw, lt, sv) (Lg, iq, ti, nx, ha, wv, wc, o', x', y', z', va, ce) 0 v2 v3 v4 := by
  rcases td_ix 6 (by omega) v2 with g | ⟨i, hi, rfl⟩
  · exact Or.inl ⟨fun post H => (by unfold wpX_fits; dsimp only; exact (br_f (by decide) (br_f (by decide) (td_xv0 g (br_t rfl H))))), fun post H => (by unfold wpY_fits; dsimp only; exact (br_f (by decide) (br_t (by decide) (br_f (by decide) (br_f (by decide) (td_yv0 g (br_t rfl H)))))))⟩
  · exact Or.inr ⟨(Or.inr (Or.inr (Or.inr (Or.inl ⟨rfl, i, hi, rfl⟩)))), fun post H => (by unfold wpX_fits; dsimp only; exact (br_f (by decide) (br_f (by decide) (td_xv1 hi (br_f (by decide) (br_t rfl H)))))), fun post H => (by unfold wpY_fits; dsimp only; exact (br_f (by decide) (br_t (by decide) (br_f (by decide) (br_f (by decide) (td_yv1 hi (br_f (by decide) (br_f (by decide) (br_t (by decide) (br_t (by decide) H))))))))))⟩
theorem td_fit1 (v2 v3 v4 : Int32) : td_FO (Lf, ip, pr, to, o, x, y, z, nw, wr, ov, nv, wb, nu, tb, lw, lt, sv) (Lg, iq, ti, nx, ha, wv, wc, o', x', y', z', va, ce) 1 v2 v3 v4 := by
  rcases td_ix 6 (by omega) v2 with g | ⟨i, hi, rfl⟩
  · exact Or.inl ⟨fun post H => (by unfold wpX_fits; dsimp only; exact (br_f (by decide) (br_f (by decide) (td_xv0 g (br_t rfl H))))), fun post H => (by unfold wpY_fits; dsimp only; exact (br_f (by decide) (br_t (by decide) (br_f (by decide) (br_f (by decide) (td_yv0 g (br_t rfl H)))))))⟩
  · rcases td_ix 6 (by omega) v3 with g | ⟨j, hj, rfl⟩
    · exact Or.inl ⟨fun post H => (by unfold wpX_fits; dsimp only; exact (br_f (by decide) (br_f (by decide) (td_xv1 hi (br_f (by decide) (br_f (by decide) (br_f (by decide) (td_xv0 g (br_t rfl H))))))))), fun post H => (by unfold wpY_fits; dsimp only; exact (br_f (by decide) (br_t (by decide) (br_f (by decide) (br_f (by decide) (td_yv1 hi (br_f (by decide) (br_f (by decide) (br_f (by decide) (td_yv0 g (br_t rfl H)))))))))))⟩
    · rcases td_ix 6 (by omega) v4 with g | ⟨l, hl, rfl⟩
      · exact Or.inl ⟨fun post H => (by unfold wpX_fits; dsimp only; exact (br_f (by decide) (br_f (by decide) (td_xv1 hi (br_f (by decide) (br_f (by decide) (br_f (by decide) (td_xv1 hj (br_f (by decide) (br_f (by decide) (td_xv0 g (br_t rfl H)))))))))))), fun post H => (by unfold wpY_fits; dsimp only; exact (br_f (by decide) (br_t (by decide) (br_f (by decide) (br_f (by decide) (td_yv1 hi (br_f (by decide) (br_f (by decide) (br_f (by decide) (td_yv1 hj (br_f (by decide) (br_f (by decide) (br_f (by decide) (td_yv0 g (br_t rfl H)))))))))))))))⟩
      · exact Or.inr ⟨(Or.inr (Or.inr (Or.inr (Or.inr (Or.inr (Or.inr ⟨Or.inl rfl, ⟨i, hi, rfl⟩, ⟨j, hj, rfl⟩, l, hl, rfl⟩)))))), fun post H => (by unfold wpX_fits; dsimp only; exact (br_f (by decide) (br_f (by decide) (td_xv1 hi (br_f (by decide) (br_f (by decide) (br_f (by decide) (td_xv1 hj (br_f (by decide) (br_f (by decide) (td_xv1 hl (br_f (by decide) H)))))))))))), fun post H => (by unfold wpY_fits; dsimp only; exact (br_f (by decide) (br_t (by decide) (br_f (by decide) (br_f (by decide) (td_yv1 hi (br_f (by decide) (br_f (by decide) (br_f (by decide) (td_yv1 hj (br_f (by decide) (br_f (by decide) (br_f (by decide) (td_yv1 hl (br_f (by decide) H)))))))))))))))⟩
theorem td_fit2 (v2 v3 v4 : Int32) : td_FO (Lf, ip, pr, to, o, x, y, z, nw, wr, ov, nv, wb, nu, tb, lw, lt, sv) (Lg, iq, ti, nx, ha, wv, wc, o', x', y', z', va, ce) 2 v2 v3 v4 := by
  rcases td_ix 6 (by omega) v2 with g | ⟨i, hi, rfl⟩
  · exact Or.inl ⟨fun post H => (by unfold wpX_fits; dsimp only; exact (br_f (by decide) (br_f (by decide) (td_xv0 g (br_t rfl H))))), fun post H => (by unfold wpY_fits; dsimp only; exact (br_f (by decide) (br_t (by decide) (br_f (by decide) (br_f (by decide) (td_yv0 g (br_t rfl H)))))))⟩
  · rcases td_ix 6 (by omega) v3 with g | ⟨j, hj, rfl⟩
    · exact Or.inl ⟨fun post H => (by unfold wpX_fits; dsimp only; exact (br_f (by decide) (br_f (by decide) (td_xv1 hi (br_f (by decide) (br_f (by decide) (br_f (by decide) (td_xv0 g (br_t rfl H))))))))), fun post H => (by unfold wpY_fits; dsimp only; exact (br_f (by decide) (br_t (by decide) (br_f (by decide) (br_f (by decide) (td_yv1 hi (br_f (by decide) (br_f (by decide) (br_f (by decide) (td_yv0 g (br_t rfl H)))))))))))⟩
    · rcases td_ix 6 (by omega) v4 with g | ⟨l, hl, rfl⟩
      · exact Or.inl ⟨fun post H => (by unfold wpX_fits; dsimp only; exact (br_f (by decide) (br_f (by decide) (td_xv1 hi (br_f (by decide) (br_f (by decide) (br_f (by decide) (td_xv1 hj (br_f (by decide) (br_f (by decide) (td_xv0 g (br_t rfl H)))))))))))), fun post H => (by unfold wpY_fits; dsimp only; exact (br_f (by decide) (br_t (by decide) (br_f (by decide) (br_f (by decide) (td_yv1 hi (br_f (by decide) (br_f (by decide) (br_f (by decide) (td_yv1 hj (br_f (by decide) (br_f (by decide) (br_f (by decide) (td_yv0 g (br_t rfl H)))))))))))))))⟩
      · exact Or.inr ⟨(Or.inr (Or.inr (Or.inr (Or.inr (Or.inr (Or.inr ⟨Or.inr (Or.inl rfl), ⟨i, hi, rfl⟩, ⟨j, hj, rfl⟩, l, hl, rfl⟩)))))), fun post H => (by unfold wpX_fits; dsimp only; exact (br_f (by decide) (br_f (by decide) (td_xv1 hi (br_f (by decide) (br_f (by decide) (br_f (by decide) (td_xv1 hj (br_f (by decide) (br_f (by decide) (td_xv1 hl (br_f (by decide) H)))))))))))), fun post H => (by unfold wpY_fits; dsimp only; exact (br_f (by decide) (br_t (by decide) (br_f (by decide) (br_f (by decide) (td_yv1 hi (br_f (by decide) (br_f (by decide) (br_f (by decide) (td_yv1 hj (br_f (by decide) (br_f (by decide) (br_f (by decide) (td_yv1 hl (br_f (by decide) H)))))))))))))))⟩
theorem td_fit3 (v2 v3 v4 : Int32) : td_FO (Lf, ip, pr, to, o, x, y, z, nw, wr, ov, nv, wb, nu, tb, lw, lt, sv) (Lg, iq, ti, nx, ha, wv, wc, o', x', y', z', va, ce) 3 v2 v3 v4 := by
  rcases td_ix 6 (by omega) v2 with g | ⟨i, hi, rfl⟩
  · exact Or.inl ⟨fun post H => (by unfold wpX_fits; dsimp only; exact (br_f (by decide) (br_f (by decide) (td_xv0 g (br_t rfl H))))), fun post H => (by unfold wpY_fits; dsimp only; exact (br_f (by decide) (br_t (by decide) (br_f (by decide) (br_f (by decide) (td_yv0 g (br_t rfl H)))))))⟩
  · rcases td_ix 6 (by omega) v3 with g | ⟨j, hj, rfl⟩
    · exact Or.inl ⟨fun post H => (by unfold wpX_fits; dsimp only; exact (br_f (by decide) (br_f (by decide) (td_xv1 hi (br_f (by decide) (br_f (by decide) (br_f (by decide) (td_xv0 g (br_t rfl H))))))))), fun post H => (by unfold wpY_fits; dsimp only; exact (br_f (by decide) (br_t (by decide) (br_f (by decide) (br_f (by decide) (td_yv1 hi (br_f (by decide) (br_f (by decide) (br_f (by decide) (td_yv0 g (br_t rfl H)))))))))))⟩
    · rcases td_ix 6 (by omega) v4 with g | ⟨l, hl, rfl⟩
      · exact Or.inl ⟨fun post H => (by unfold wpX_fits; dsimp only; exact (br_f (by decide) (br_f (by decide) (td_xv1 hi (br_f (by decide) (br_f (by decide) (br_f (by decide) (td_xv1 hj (br_f (by decide) (br_f (by decide) (td_xv0 g (br_t rfl H)))))))))))), fun post H => (by unfold wpY_fits; dsimp only; exact (br_f (by decide) (br_t (by decide) (br_f (by decide) (br_f (by decide) (td_yv1 hi (br_f (by decide) (br_f (by decide) (br_f (by decide) (td_yv1 hj (br_f (by decide) (br_f (by decide) (br_f (by decide) (td_yv0 g (br_t rfl H)))))))))))))))⟩
      · exact Or.inr ⟨(Or.inr (Or.inr (Or.inr (Or.inr (Or.inr (Or.inr ⟨Or.inr (Or.inr rfl), ⟨i, hi, rfl⟩, ⟨j, hj, rfl⟩, l, hl, rfl⟩)))))), fun post H => (by unfold wpX_fits; dsimp only; exact (br_f (by decide) (br_f (by decide) (td_xv1 hi (br_f (by decide) (br_f (by decide) (br_f (by decide) (td_xv1 hj (br_f (by decide) (br_f (by decide) (td_xv1 hl (br_f (by decide) H)))))))))))), fun post H => (by unfold wpY_fits; dsimp only; exact (br_f (by decide) (br_t (by decide) (br_f (by decide) (br_f (by decide) (td_yv1 hi (br_f (by decide) (br_f (by decide) (br_f (by decide) (td_yv1 hj (br_f (by decide) (br_f (by decide) (br_f (by decide) (td_yv1 hl (br_f (by decide) H)))))))))))))))⟩
theorem td_fit4 (v2 v3 v4 : Int32) : td_FO (Lf, ip, pr, to, o, x, y, z, nw, wr, ov, nv, wb, nu, tb, lw, lt, sv) (Lg, iq, ti, nx, ha, wv, wc, o', x', y', z', va, ce) 4 v2 v3 v4 := by
  rcases td_ix 6 (by omega) v2 with g | ⟨i, hi, rfl⟩
  · exact Or.inl ⟨fun post H => (by unfold wpX_fits; dsimp only; exact (br_f (by decide) (br_f (by decide) (td_xv0 g (br_t rfl H))))), fun post H => (by unfold wpY_fits; dsimp only; exact (br_f (by decide) (br_t (by decide) (br_f (by decide) (br_f (by decide) (td_yv0 g (br_t rfl H)))))))⟩
  · rcases td_ix 6 (by omega) v3 with g | ⟨j, hj, rfl⟩
    · exact Or.inl ⟨fun post H => (by unfold wpX_fits; dsimp only; exact (br_f (by decide) (br_f (by decide) (td_xv1 hi (br_f (by decide) (br_f (by decide) (br_f (by decide) (td_xv0 g (br_t rfl H))))))))), fun post H => (by unfold wpY_fits; dsimp only; exact (br_f (by decide) (br_t (by decide) (br_f (by decide) (br_f (by decide) (td_yv1 hi (br_f (by decide) (br_f (by decide) (br_f (by decide) (td_yv0 g (br_t rfl H)))))))))))⟩
    · exact Or.inr ⟨(Or.inr (Or.inr (Or.inr (Or.inr (Or.inl ⟨rfl, ⟨i, hi, rfl⟩, j, hj, rfl⟩))))), fun post H => (by unfold wpX_fits; dsimp only; exact (br_f (by decide) (br_f (by decide) (td_xv1 hi (br_f (by decide) (br_f (by decide) (br_f (by decide) (td_xv1 hj (br_f (by decide) (br_t (by decide) H)))))))))), fun post H => (by unfold wpY_fits; dsimp only; exact (br_f (by decide) (br_t (by decide) (br_f (by decide) (br_f (by decide) (td_yv1 hi (br_f (by decide) (br_f (by decide) (br_f (by decide) (td_yv1 hj (br_f (by decide) (br_f (by decide) (br_t (by decide) H)))))))))))))⟩
theorem td_fit5 (v2 v3 v4 : Int32) : td_FO (Lf, ip, pr, to, o, x, y, z, nw, wr, ov, nv, wb, nu, tb, lw, lt, sv) (Lg, iq, ti, nx, ha, wv, wc, o', x', y', z', va, ce) 5 v2 v3 v4 := by
  rcases td_ix 6 (by omega) v2 with g | ⟨i, hi, rfl⟩
  · exact Or.inl ⟨fun post H => (by unfold wpX_fits; dsimp only; exact (br_f (by decide) (br_f (by decide) (td_xv0 g (br_t rfl H))))), fun post H => (by unfold wpY_fits; dsimp only; exact (br_f (by decide) (br_t (by decide) (br_f (by decide) (br_f (by decide) (td_yv0 g (br_t rfl H)))))))⟩
  · rcases td_ix 6 (by omega) v3 with g | ⟨j, hj, rfl⟩
    · exact Or.inl ⟨fun post H => (by unfold wpX_fits; dsimp only; exact (br_f (by decide) (br_f (by decide) (td_xv1 hi (br_f (by decide) (br_f (by decide) (br_f (by decide) (td_xv0 g (br_t rfl H))))))))), fun post H => (by unfold wpY_fits; dsimp only; exact (br_f (by decide) (br_t (by decide) (br_f (by decide) (br_f (by decide) (td_yv1 hi (br_f (by decide) (br_f (by decide) (br_f (by decide) (td_yv0 g (br_t rfl H)))))))))))⟩
    · exact Or.inr ⟨(Or.inr (Or.inr (Or.inr (Or.inr (Or.inr (Or.inl ⟨rfl, ⟨i, hi, rfl⟩, j, hj, rfl⟩)))))), fun post H => (by unfold wpX_fits; dsimp only; exact (br_f (by decide) (br_f (by decide) (td_xv1 hi (br_f (by decide) (br_f (by decide) (br_f (by decide) (td_xv1 hj (br_f (by decide) (br_t (by decide) H)))))))))), fun post H => (by unfold wpY_fits; dsimp only; exact (br_f (by decide) (br_t (by decide) (br_f (by decide) (br_f (by decide) (td_yv1 hi (br_f (by decide) (br_f (by decide) (br_f (by decide) (td_yv1 hj (br_f (by decide) (br_f (by decide) (br_t (by decide) H)))))))))))))⟩
theorem td_fit6 (v2 v3 v4 : Int32) : td_FO (Lf, ip, pr, to, o, x, y, z, nw, wr, ov, nv, wb, nu, tb, lw, lt, sv) (Lg, iq, ti, nx, ha, wv, wc, o', x', y', z', va, ce) 6 v2 v3 v4 := by
  rcases td_ix 6 (by omega) v2 with g | ⟨i, hi, rfl⟩
  · exact Or.inl ⟨fun post H => (by unfold wpX_fits; dsimp only; exact (br_f (by decide) (br_f (by decide) (td_xv0 g (br_t rfl H))))), fun post H => (by unfold wpY_fits; dsimp only; exact (br_f (by decide) (br_t (by decide) (br_f (by decide) (br_f (by decide) (td_yv0 g (br_t rfl H)))))))⟩
  · rcases td_ix 20 (by omega) v3 with g | ⟨j, hj, rfl⟩
    · exact Or.inl ⟨fun post H => (by unfold wpX_fits; dsimp only; exact (br_f (by decide) (br_f (by decide) (td_xv1 hi (br_f (by decide) (br_f (by decide) (br_t rfl (td_pl0 g H)))))))), fun post H => (by unfold wpY_fits; dsimp only; exact (br_f (by decide) (br_t (by decide) (br_f (by decide) (br_f (by decide) (td_yv1 hi (br_f (by decide) (br_t rfl (td_yp0 g ⟨rfl, H⟩)))))))))⟩
    · exact Or.inr ⟨(Or.inr (Or.inr (Or.inl ⟨rfl, ⟨i, hi, rfl⟩, j, hj, rfl⟩))), fun post H => (by unfold wpX_fits; dsimp only; exact (br_f (by decide) (br_f (by decide) (td_xv1 hi (br_f (by decide) (br_f (by decide) (br_t rfl (td_pl1 hj H)))))))), fun post H => (by unfold wpY_fits; dsimp only; exact (br_f (by decide) (br_t (by decide) (br_f (by decide) (br_f (by decide) (td_yv1 hi (br_f (by decide) (br_t rfl (td_yp1 hj ⟨rfl, H⟩)))))))))⟩
theorem td_fit7 (v2 v3 v4 : Int32) : td_FO (Lf, ip, pr, to, o, x, y, z, nw, wr, ov, nv, wb, nu, tb, lw, lt, sv) (Lg, iq, ti, nx, ha, wv, wc, o', x', y', z', va, ce) 7 v2 v3 v4 := by
  rcases td_ix 20 (by omega) v2 with g | ⟨i, hi, rfl⟩
  · exact Or.inl ⟨fun post H => (by unfold wpX_fits; dsimp only; exact (br_f (by decide) (br_t rfl (td_pl0 g H)))), fun post H => (by unfold wpY_fits; dsimp only; exact (br_f (by decide) (br_t (by decide) (br_f (by decide) (br_t rfl (td_yp0 g ⟨rfl, H⟩))))))⟩
  · exact Or.inr ⟨(Or.inr (Or.inl ⟨rfl, i, hi, rfl⟩)), fun post H => (by unfold wpX_fits; dsimp only; exact (br_f (by decide) (br_t rfl (td_pl1 hi H)))), fun post H => (by unfold wpY_fits; dsimp only; exact (br_f (by decide) (br_t (by decide) (br_f (by decide) (br_t rfl (td_yp1 hi ⟨rfl, H⟩))))))⟩
theorem td_fit8 (v2 v3 v4 : Int32) : td_FO (Lf, ip, pr, to, o, x, y, z, nw, wr, ov, nv, wb, nu, tb, lw, lt, sv) (Lg, iq, ti, nx, ha, wv, wc, o', x', y', z', va, ce) 8 v2 v3 v4 := by
  exact Or.inr ⟨Or.inl rfl, fun post H => (by unfold wpX_fits; dsimp only; exact (br_t rfl H)), fun post H => (by unfold wpY_fits; dsimp only; exact (br_f (by decide) (br_t (by decide) (br_t rfl H))))⟩
theorem td_fits {n : Nat} (hn : n < 9) (v2 v3 v4 : Int32) : td_FO (Lf, ip, pr, to, o, x, y, z, nw, wr, ov, nv, wb, nu, tb, lw, lt, sv) (Lg, iq, ti, nx, ha, wv, wc, o', x', y', z', va, ce) (nI n) v2 v3 v4 := by
  have e : n = 0 ∨ n = 1 ∨ n = 2 ∨ n = 3 ∨ n = 4 ∨ n = 5 ∨ n = 6 ∨ n = 7 ∨ n = 8 := by omega
  rcases e with rfl | rfl | rfl | rfl | rfl | rfl | rfl | rfl | rfl
  · exact td_fit0 v2 v3 v4
  · exact td_fit1 v2 v3 v4
  · exact td_fit2 v2 v3 v4
  · exact td_fit3 v2 v3 v4
  · exact td_fit4 v2 v3 v4
  · exact td_fit5 v2 v3 v4
  · exact td_fit6 v2 v3 v4
  · exact td_fit7 v2 v3 v4
  · exact td_fit8 v2 v3 v4
end
end
section
/-! the relation -/
/-- the facts of a related pair: one program, its trace, what the component keeps of it, the present time -/
def td_R (L T p : Nat) (ip : Int32) (o x y z nw wr ov nv wb nu tb lw lt sv : Nat → Int32) (m : Nat → Nat → Int32) (a w : Nat → Nat) (h : Nat → Int32) : Prop :=
  td_Tr o x y z ip m a w h ∧ td_WF L o x y z ∧ td_Go L T a h ∧ p ≤ T ∧ td_E1 T m w wr ov nv wb lw ∧ td_E2 T a nu tb lt ∧ td_E3 T m sv ∧ ∀ i, i < 14 → nw i = m p i
def i_Rel (k : Nat) (u : SX) (v : SY) : Prop := ∃ (L T p : Nat) (ip : Int32) (o x y z nw wr ov nv wb nu tb lw lt sv : Nat → Int32) (nx ha wv wc : Int32) (va ce : Nat → Int32) (m : Nat → Nat → Int32) (a w : Nat → Nat) (h : Nat → Int32), td_R L T p ip o x y z nw wr ov nv wb nu tb lw lt sv m a w h ∧ u = (nI L, ip, nI p, nI T, o, x, y, z, nw, wr, ov, nv, wb, nu, tb, lw, lt, sv) ∧ v = (nI L, ip, nI p, nx, ha, wv, wc, o, x, y, z, va, ce)
theorem i_up {k : Nat} {u : SX} {v : SY} (h : i_Rel k u v) : i_Rel (k + 5) u v := h
theorem td_el {k : Nat} {u : SX} {v : SY} {P : SX → SY → Prop} (H : ∀ (L T p : Nat) (ip : Int32) (o x y z nw wr ov nv wb nu tb lw lt sv : Nat → Int32) (nx ha wv wc : Int32) (va ce : Nat → Int32) (m : Nat → Nat → Int32) (a w : Nat → Nat) (h : Nat → Int32), td_R L T p ip o x y z nw wr ov nv wb nu tb lw lt sv m a w h → P (nI L, ip, nI p, nI T, o, x, y, z, nw, wr, ov, nv, wb, nu, tb, lw, lt, sv) (nI L, ip, nI p, nx, ha, wv, wc, o, x, y, z, va, ce)) (I : i_Rel k u v) : P u v :=
  Exists.elim I fun L I => Exists.elim I fun T I => Exists.elim I fun p I => Exists.elim I fun ip I => Exists.elim I fun o I => Exists.elim I fun x I => Exists.elim I fun y I => Exists.elim I fun z I => Exists.elim I fun nw I => Exists.elim I fun wr I => Exists.elim I fun ov I => Exists.elim I fun nv I => Exists.elim I fun wb I => Exists.elim I fun nu I => Exists.elim I fun tb I => Exists.elim I fun lw I => Exists.elim I fun lt I => Exists.elim I fun sv I => Exists.elim I fun nx I => Exists.elim I fun ha I => Exists.elim I fun wv I => Exists.elim I fun wc I => Exists.elim I fun va I => Exists.elim I fun ce I => Exists.elim I fun m I => Exists.elim I fun a I => Exists.elim I fun w I => Exists.elim I fun h I => Eq.subst (motive := fun u => P u v) I.2.1.symm (Eq.subst (motive := fun v => P (nI L, ip, nI p, nI T, o, x, y, z, nw, wr, ov, nv, wb, nu, tb, lw, lt, sv) v) I.2.2.symm (H L T p ip o x y z nw wr ov nv wb nu tb lw lt sv nx ha wv wc va ce m a w h I.1))
theorem td_in {k : Nat} {L T p : Nat} {ip : Int32} {o x y z nw wr ov nv wb nu tb lw lt sv : Nat → Int32} {nx ha wv wc : Int32} {va ce : Nat → Int32} {m : Nat → Nat → Int32} {a w : Nat → Nat} {h : Nat → Int32} (r : td_R L T p ip o x y z nw wr ov nv wb nu tb lw lt sv m a w h) : i_Rel k (nI L, ip, nI p, nI T, o, x, y, z, nw, wr, ov, nv, wb, nu, tb, lw, lt, sv) (nI L, ip, nI p, nx, ha, wv, wc, o, x, y, z, va, ce) :=
  ⟨L, T, p, ip, o, x, y, z, nw, wr, ov, nv, wb, nu, tb, lw, lt, sv, nx, ha, wv, wc, va, ce, m, a, w, h, r, rfl, rfl⟩
end
section
/-! what is owed -/
section
variable {L p T : Nat} {ip nx ha wv wc : Int32} {o x y z va ce : Nat → Int32} {m : Nat → Nat → Int32} {a w : Nat → Nat} {h : Nat → Int32}
theorem td_ylw {post : Int32 → SY → Prop} {wh : Int32} {v P : Nat} (Tr : td_Tr o x y z ip m a w h) (WF : td_WF L o x y z) (hp : p ≤ 200) (hj : ∀ j, j < p → a j < L ∧ h j = 0) (hP : (wh = 0 ∧ v < 6 ∧ P = v) ∨ (wh = 1 ∧ v < 8 ∧ P = 6 + v))
    (C : ∀ nx ha wv wc va ce, post (nI (td_LW w p P)) (nI L, ip, nI p, nx, ha, wv, wc, o, x, y, z, va, ce)) : wpY_lastWrite post (nI L, ip, nI p, nx, ha, wv, wc, o, x, y, z, va, ce) wh (nI v) := by
  unfold wpY_lastWrite wY_lastWrite_9 wY_lastWrite_24
  dsimp only
  rcases hP with ⟨rfl, hv, rfl⟩ | ⟨rfl, hv, rfl⟩
  · refine br_t rfl (br_f (nI_pos (by omega)) (br_t rfl (br_t (nI_le (b := 5) (by omega) (by omega)) (td_begin Tr (fun nx ha va ce R' => ⟨p + 1, ?_⟩)))))
    exact td_lw38 Tr WF hp hj (Or.inl ⟨rfl, hv, rfl⟩) C p 0 (by omega) nx ha wv wc va ce R'
  · refine br_f (by decide) (br_t rfl (br_f (nI_pos (by omega)) (br_f (by decide) (br_t (nI_le (b := 7) (by omega) (by omega)) (td_begin Tr (fun nx ha va ce R' => ⟨p + 1, ?_⟩))))))
    exact td_lw38 Tr WF hp hj (Or.inr ⟨by decide, hv, rfl⟩) C p 0 (by omega) nx ha wv wc va ce R'
end
theorem i_vc0 : wpX_init (fun u => wpY_init (fun v => i_Rel 0 u v)) := by
  obtain ⟨m, a, w, h, Tr⟩ := td_TrE (fun _ => 0) (fun _ => 0) (fun _ => 0) (fun _ => 0) 0
  obtain ⟨T, Go⟩ := td_GoE 0 a h
  have WF : td_WF 0 (fun _ => 0) (fun _ => 0) (fun _ => 0) (fun _ => 0) := ⟨by omega, fun i hi => absurd hi (by omega)⟩
  unfold wpX_init
  refine td_exec (L := 0) Tr WF Go (fun nw wr ov nv wb nu tb lw lt sv E1 E2 E3 hn => ?_)
  unfold wpY_init
  exact td_in (L := 0) (p := 0) ⟨Tr, WF, Go, by omega, E1, E2, E3, hn⟩
theorem i_vc_emit {k : Nat} {u : SX} {v : SY} (I : i_Rel k u v) (hk : k + 5 ≤ 2560) (v1 : Int32) (v2 : Int32) (v3 : Int32) (v4 : Int32) : wpX_emit (fun r u' => wpY_emit (fun r' v' => r' = r ∧ i_Rel (k + 5) u' v') v v1 v2 v3 v4) u v1 v2 v3 v4 := by
  refine td_el (P := fun u v => wpX_emit (fun r u' => wpY_emit (fun r' v' => r' = r ∧ i_Rel (k + 5) u' v') v v1 v2 v3 v4) u v1 v2 v3 v4) ?_ I
  intro L T p ip o x y z nw wr ov nv wb nu tb lw lt sv nx ha wv wc va ce m a w h R
  have R0 := R
  obtain ⟨Tr, WF, Go, hp, E1, E2, E3, hn⟩ := R
  have hL := WF.1
  have hT := Go.1
  have U : td_U T m w := td_UI Tr WF Go.2.1
  have hj : ∀ j, j < p → a j < L ∧ h j = 0 := fun j hj => Go.2.1 j (by omega)
  unfold wpX_emit
  dsimp only
  by_cases c : L < 20
  · have n20 : ¬ nI L = 20 := fun e => by
      have q := (nI_eq (a := L) (b := 20) (by omega) (by omega)).mp e
      omega
    refine br_t (nI_lt (b := 20) c (by omega)) ?_
    rcases td_ix 9 (by omega) v1 with g | ⟨n, hn9, rfl⟩
    · have fy : wpY_emit (fun r' v' => r' = -1 ∧ i_Rel (k + 5) (nI L, ip, nI p, nI T, o, x, y, z, nw, wr, ov, nv, wb, nu, tb, lw, lt, sv) v') (nI L, ip, nI p, nx, ha, wv, wc, o, x, y, z, va, ce) v1 v2 v3 v4 := by
        unfold wpY_emit
        dsimp only
        refine br_f n20 ?_
        unfold wpY_fits
        dsimp only
        rcases g with g | g
        · exact br_t g (br_t rfl ⟨rfl, td_in R0⟩)
        · obtain ⟨h1, h2, h3⟩ := td_ge (n := 8) (by omega) g
          exact br_f h1 (br_f h3 (br_t rfl ⟨rfl, td_in R0⟩))
      rcases g with g | g
      · exact br_t g fy
      · obtain ⟨h1, h2, h3⟩ := td_ge (n := 8) (by omega) g
        exact br_f h1 (br_t h2 fy)
    · refine br_f (nI_pos (by omega)) (br_f (nI_nlt (a := 8) (by omega) (by omega)) ?_)
      have f : td_FO (nI L, ip, nI p, nI T, o, x, y, z, nw, wr, ov, nv, wb, nu, tb, lw, lt, sv) (nI L, ip, nI p, nx, ha, wv, wc, o, x, y, z, va, ce) (nI n) v2 v3 v4 := td_fits hn9 v2 v3 v4
      rcases f with ⟨fx, fy⟩ | ⟨hF, fx, fy⟩
      · refine fx _ (br_t rfl ?_)
        unfold wpY_emit
        dsimp only
        exact br_f n20 (fy _ (br_t rfl ⟨rfl, td_in R0⟩))
      · have iL : vp_in (nI L) 20 := vp_in_nI c (by omega)
        have eL : (nI L).toNatClampNeg = L := nI_clamp (by omega)
        have en : vp_nar .byte (nI n).toInt8.toInt32 = nI n := td_nb (by omega)
        obtain ⟨m', a', w', h', Tr'⟩ := td_TrE (upd o L (nI n)) (upd x L v2) (upd y L v3) (upd z L v4) ip
        obtain ⟨T', Go'⟩ := td_GoE (L + 1) a' h'
        have WF' : td_WF (L + 1) (upd o L (nI n)) (upd x L v2) (upd y L v3) (upd z L v4) := by
          refine ⟨by omega, fun i hi => ?_⟩
          by_cases d : i = L
          · rw [d, pk_us, pk_us, pk_us, pk_us]; exact hF
          · rw [pk_un d, pk_un d, pk_un d, pk_un d]; exact WF.2 i (by omega)
        refine fx _ (br_f (by decide) ?_)
        rw [eL, en]
        refine ⟨iL, nm_e ⟨iL, nm_e ⟨iL, nm_e ⟨iL, nm_e (nm_r (nI_1 L) (td_exec Tr' WF' Go' (fun nw wr ov nv wb nu tb lw lt sv E1 E2 E3 hn => ?_)))⟩⟩⟩⟩
        unfold wpY_emit
        dsimp only
        refine br_f n20 (fy _ (br_f (by decide) ?_))
        rw [eL]
        exact ⟨iL, nm_e ⟨iL, nm_e ⟨iL, nm_e ⟨iL, nm_e (nm_r (nI_1 L) ⟨rfl, td_in (p := 0) ⟨Tr', WF', Go', by omega, E1, E2, E3, hn⟩⟩)⟩⟩⟩⟩
  · have e : L = 20 := by omega
    refine br_f (nI_nlt (b := 20) (by omega) (by omega)) ?_
    unfold wpY_emit
    dsimp only
    exact br_t (congrArg nI e) ⟨rfl, td_in R0⟩
theorem i_vc_input {k : Nat} {u : SX} {v : SY} (I : i_Rel k u v) (hk : k + 5 ≤ 2560) (v1 : Int32) : wpX_input (fun r u' => wpY_input (fun r' v' => r' = r ∧ i_Rel (k + 5) u' v') v v1) u v1 := by
  refine td_el (P := fun u v => wpX_input (fun r u' => wpY_input (fun r' v' => r' = r ∧ i_Rel (k + 5) u' v') v v1) u v1) ?_ I
  intro L T p ip o x y z nw wr ov nv wb nu tb lw lt sv nx ha wv wc va ce m a w h R
  have R0 := R
  obtain ⟨Tr, WF, Go, hp, E1, E2, E3, hn⟩ := R
  have hL := WF.1
  have hT := Go.1
  have U : td_U T m w := td_UI Tr WF Go.2.1
  have hj : ∀ j, j < p → a j < L ∧ h j = 0 := fun j hj => Go.2.1 j (by omega)
  obtain ⟨m', a', w', h', Tr'⟩ := td_TrE o x y z v1
  obtain ⟨T', Go'⟩ := td_GoE L a' h'
  unfold wpX_input
  dsimp only
  refine td_exec Tr' WF Go' (fun nw wr ov nv wb nu tb lw lt sv E1 E2 E3 hn => ?_)
  unfold wpY_input
  dsimp only
  exact td_steps Tr' WF Go' (fun nx ha wv wc va ce => ⟨rfl, td_in (p := 0) ⟨Tr', WF, Go', by omega, E1, E2, E3, hn⟩⟩)
theorem i_vc_steps {k : Nat} {u : SX} {v : SY} (I : i_Rel k u v) (hk : k + 5 ≤ 2560) : wpX_steps (fun r => wpY_steps (fun r' v' => r' = r ∧ i_Rel (k + 5) u v') v) u := by
  refine td_el (P := fun u v => wpX_steps (fun r => wpY_steps (fun r' v' => r' = r ∧ i_Rel (k + 5) u v') v) u) ?_ I
  intro L T p ip o x y z nw wr ov nv wb nu tb lw lt sv nx ha wv wc va ce m a w h R
  have R0 := R
  obtain ⟨Tr, WF, Go, hp, E1, E2, E3, hn⟩ := R
  have hL := WF.1
  have hT := Go.1
  have U : td_U T m w := td_UI Tr WF Go.2.1
  have hj : ∀ j, j < p → a j < L ∧ h j = 0 := fun j hj => Go.2.1 j (by omega)
  unfold wpX_steps
  dsimp only
  exact td_steps Tr WF Go (fun nx ha wv wc va ce => ⟨rfl, td_in R0⟩)
theorem i_vc_goTo {k : Nat} {u : SX} {v : SY} (I : i_Rel k u v) (hk : k + 5 ≤ 2560) (v1 : Int32) : wpX_goTo (fun r u' => wpY_goTo (fun r' v' => r' = r ∧ i_Rel (k + 5) u' v') v v1) u v1 := by
  refine td_el (P := fun u v => wpX_goTo (fun r u' => wpY_goTo (fun r' v' => r' = r ∧ i_Rel (k + 5) u' v') v v1) u v1) ?_ I
  intro L T p ip o x y z nw wr ov nv wb nu tb lw lt sv nx ha wv wc va ce m a w h R
  have R0 := R
  obtain ⟨Tr, WF, Go, hp, E1, E2, E3, hn⟩ := R
  have hL := WF.1
  have hT := Go.1
  have U : td_U T m w := td_UI Tr WF Go.2.1
  have hj : ∀ j, j < p → a j < L ∧ h j = 0 := fun j hj => Go.2.1 j (by omega)
  unfold wpX_goTo
  dsimp only
  rcases pk_ix v1 (n := T + 1) (by omega) with g | g | ⟨t, ht, rfl⟩
  · refine br_t g ?_
    unfold wpY_goTo
    dsimp only
    exact br_t g ⟨rfl, td_in R0⟩
  · obtain ⟨h1, h2, h3⟩ := td_ge (n := T) (by omega) g
    refine br_f h1 (br_f h3 ?_)
    unfold wpY_goTo
    dsimp only
    exact br_f h1 (td_steps Tr WF Go (fun nx ha wv wc va ce => br_f h3 ⟨rfl, td_in R0⟩))
  · refine br_f (nI_pos (by omega)) (br_t (nI_le (by omega) (by omega)) (td_travel hT (by omega) hp U E1 E3 hn (fun nw' hn' => ⟨vp_in_nI (by omega) (by omega), ?_⟩)))
    unfold wpY_goTo
    dsimp only
    refine br_f (nI_pos (by omega)) (td_steps Tr WF Go (fun nx ha wv wc va ce => br_t (nI_le (by omega) (by omega)) (td_state Tr WF (by omega) (fun j hj => Go.2.1 j (by omega)) (fun nx ha wv wc va ce R' => ⟨?_, td_in ⟨Tr, WF, Go, by omega, E1, E2, E3, hn'⟩⟩))))
    rw [nI_clamp (n := t) (by omega), E2.1 t (by omega), R'.1]
theorem i_vc_time {k : Nat} {u : SX} {v : SY} (I : i_Rel k u v) (hk : k + 5 ≤ 2560) : wpX_time (fun r => wpY_time (fun r' => r' = r ∧ i_Rel (k + 5) u v) v) u := by
  refine td_el (P := fun u v => wpX_time (fun r => wpY_time (fun r' => r' = r ∧ i_Rel (k + 5) u v) v) u) ?_ I
  intro L T p ip o x y z nw wr ov nv wb nu tb lw lt sv nx ha wv wc va ce m a w h R
  have R0 := R
  obtain ⟨Tr, WF, Go, hp, E1, E2, E3, hn⟩ := R
  have hL := WF.1
  have hT := Go.1
  have U : td_U T m w := td_UI Tr WF Go.2.1
  have hj : ∀ j, j < p → a j < L ∧ h j = 0 := fun j hj => Go.2.1 j (by omega)
  unfold wpX_time wpY_time
  dsimp only
  exact ⟨rfl, td_in R0⟩
theorem i_vc_variable {k : Nat} {u : SX} {v : SY} (I : i_Rel k u v) (hk : k + 5 ≤ 2560) (v1 : Int32) : wpX_variable (fun r => wpY_variable (fun r' v' => r' = r ∧ i_Rel (k + 5) u v') v v1) u v1 := by
  refine td_el (P := fun u v => wpX_variable (fun r => wpY_variable (fun r' v' => r' = r ∧ i_Rel (k + 5) u v') v v1) u v1) ?_ I
  intro L T p ip o x y z nw wr ov nv wb nu tb lw lt sv nx ha wv wc va ce m a w h R
  have R0 := R
  obtain ⟨Tr, WF, Go, hp, E1, E2, E3, hn⟩ := R
  have hL := WF.1
  have hT := Go.1
  have U : td_U T m w := td_UI Tr WF Go.2.1
  have hj : ∀ j, j < p → a j < L ∧ h j = 0 := fun j hj => Go.2.1 j (by omega)
  unfold wpX_variable
  dsimp only
  rcases td_ix 6 (by omega) v1 with g | ⟨i, hi, rfl⟩
  · refine td_xv0 g (br_t rfl ?_)
    unfold wpY_variable
    dsimp only
    exact td_state Tr WF (by omega) hj (fun nx ha wv wc va ce R' => td_yv0 g (br_t rfl ⟨rfl, td_in R0⟩))
  · refine td_xv1 hi (br_f (by decide) ⟨vp_in_nI (by omega) (by omega), ?_⟩)
    unfold wpY_variable
    dsimp only
    refine td_state Tr WF (by omega) hj (fun nx ha wv wc va ce R' => td_yv1 hi (br_f (by decide) ⟨vp_in_nI hi (by omega), ?_, td_in R0⟩))
    rw [nI_clamp (n := i) (by omega), hn i (by omega)]
    exact R'.2.2.1 i hi
theorem i_vc_cell {k : Nat} {u : SX} {v : SY} (I : i_Rel k u v) (hk : k + 5 ≤ 2560) (v1 : Int32) : wpX_cell (fun r => wpY_cell (fun r' v' => r' = r ∧ i_Rel (k + 5) u v') v v1) u v1 := by
  refine td_el (P := fun u v => wpX_cell (fun r => wpY_cell (fun r' v' => r' = r ∧ i_Rel (k + 5) u v') v v1) u v1) ?_ I
  intro L T p ip o x y z nw wr ov nv wb nu tb lw lt sv nx ha wv wc va ce m a w h R
  have R0 := R
  obtain ⟨Tr, WF, Go, hp, E1, E2, E3, hn⟩ := R
  have hL := WF.1
  have hT := Go.1
  have U : td_U T m w := td_UI Tr WF Go.2.1
  have hj : ∀ j, j < p → a j < L ∧ h j = 0 := fun j hj => Go.2.1 j (by omega)
  unfold wpX_cell
  dsimp only
  rcases pk_ix v1 (n := 8) (by omega) with g | g | ⟨i, hi, rfl⟩
  · refine br_t g ?_
    unfold wpY_cell
    dsimp only
    exact td_state Tr WF (by omega) hj (fun nx ha wv wc va ce R' => br_t g ⟨rfl, td_in R0⟩)
  · obtain ⟨h1, h2, h3⟩ := td_ge (n := 7) (by omega) g
    refine br_f h1 (br_f h3 ?_)
    unfold wpY_cell
    dsimp only
    exact td_state Tr WF (by omega) hj (fun nx ha wv wc va ce R' => br_f h1 (br_t h2 ⟨rfl, td_in R0⟩))
  · have e6 : (6 : Int32) + nI i = nI (6 + i) := nI_add 6 i
    rw [e6]
    refine br_f (nI_pos (by omega)) (br_t (nI_le (b := 7) (by omega) (by omega)) ⟨vp_in_nI (by omega) (by omega), ?_⟩)
    unfold wpY_cell
    dsimp only
    refine td_state Tr WF (by omega) hj (fun nx ha wv wc va ce R' => br_f (nI_pos (by omega)) (br_f (nI_nlt (a := 7) (by omega) (by omega)) ⟨vp_in_nI hi (by omega), ?_, td_in R0⟩))
    rw [nI_clamp (n := i) (by omega), nI_clamp (n := 6 + i) (by omega), hn (6 + i) (by omega)]
    exact R'.2.2.2.1 i hi
theorem i_vc_lastWrite {k : Nat} {u : SX} {v : SY} (I : i_Rel k u v) (hk : k + 5 ≤ 2560) (v1 : Int32) (v2 : Int32) : wpX_lastWrite (fun r => wpY_lastWrite (fun r' v' => r' = r ∧ i_Rel (k + 5) u v') v v1 v2) u v1 v2 := by
  refine td_el (P := fun u v => wpX_lastWrite (fun r => wpY_lastWrite (fun r' v' => r' = r ∧ i_Rel (k + 5) u v') v v1 v2) u v1 v2) ?_ I
  intro L T p ip o x y z nw wr ov nv wb nu tb lw lt sv nx ha wv wc va ce m a w h R
  have R0 := R
  obtain ⟨Tr, WF, Go, hp, E1, E2, E3, hn⟩ := R
  have hL := WF.1
  have hT := Go.1
  have U : td_U T m w := td_UI Tr WF Go.2.1
  have hj : ∀ j, j < p → a j < L ∧ h j = 0 := fun j hj => Go.2.1 j (by omega)
  unfold wpX_lastWrite
  dsimp only
  have bad : ∀ {q1 q2 : Int32}, (∀ post : Int32 → SY → Prop, post (-1) (nI L, ip, nI p, nx, ha, wv, wc, o, x, y, z, va, ce) → wpY_lastWrite post (nI L, ip, nI p, nx, ha, wv, wc, o, x, y, z, va, ce) q1 q2) → wpY_lastWrite (fun r' v' => r' = -1 ∧ i_Rel (k + 5) (nI L, ip, nI p, nI T, o, x, y, z, nw, wr, ov, nv, wb, nu, tb, lw, lt, sv) v') (nI L, ip, nI p, nx, ha, wv, wc, o, x, y, z, va, ce) q1 q2 := fun f => f _ ⟨rfl, td_in R0⟩
  rcases pk_ix v1 (n := 2) (by omega) with g | g | ⟨n, hn2, rfl⟩
  · refine br_t g (bad (fun post H => ?_))
    have g0 := (td_neg (n := 0) (by omega) g).2.2.2
    have g1 := (td_neg (n := 1) (by omega) g).2.2.2
    unfold wpY_lastWrite
    exact br_f g0 (br_f g1 H)
  · obtain ⟨h1, h2, h3⟩ := td_ge (n := 1) (by omega) g
    refine br_f h1 (br_f h3 (bad (fun post H => ?_)))
    unfold wpY_lastWrite
    refine br_f (fun e => h3 ?_) (br_f (fun e => h3 ?_) H)
    · rw [e]; decide
    · rw [e]; decide
  · refine br_f (nI_pos (by omega)) (br_t (nI_le (b := 1) (by omega) (by omega)) ?_)
    have en : n = 0 ∨ n = 1 := by omega
    rcases en with rfl | rfl
    · rcases pk_ix v2 (n := 6) (by omega) with g | g | ⟨v, hv, rfl⟩
      · refine br_t g (bad (fun post H => ?_))
        unfold wpY_lastWrite wY_lastWrite_9
        exact br_t rfl (br_t g H)
      · obtain ⟨h1, h2, h3⟩ := td_ge (n := 5) (by omega) g
        unfold wX_lastWrite_26
        refine br_f h1 (br_t rfl (br_f h3 (bad (fun post H => ?_))))
        unfold wpY_lastWrite wY_lastWrite_9 wY_lastWrite_24
        exact br_t rfl (br_f h1 (br_t rfl (br_f h3 H)))
      · have e6 : (6 : Int32) * nI 0 + nI v = nI v := (congrArg (fun q => q + nI v) (pk_mul 6 0)).trans ((nI_add 0 v).trans (congrArg nI (by omega)))
        unfold wX_lastWrite_26
        rw [e6]
        refine br_f (nI_pos (by omega)) (br_t rfl (br_t (nI_le (b := 5) (by omega) (by omega)) (td_xw (by omega) hT hp E1 ?_)))
        exact td_ylw Tr WF (by omega) hj (Or.inl ⟨rfl, hv, rfl⟩) (fun nx ha wv wc va ce => ⟨rfl, td_in R0⟩)
    · rcases pk_ix v2 (n := 8) (by omega) with g | g | ⟨v, hv, rfl⟩
      · refine br_t g (bad (fun post H => ?_))
        unfold wpY_lastWrite wY_lastWrite_9
        exact br_f (by decide) (br_t rfl (br_t g H))
      · obtain ⟨h1, h2, h3⟩ := td_ge (n := 7) (by omega) g
        unfold wX_lastWrite_26
        refine br_f h1 (br_f (by decide) (br_f h3 (bad (fun post H => ?_))))
        unfold wpY_lastWrite wY_lastWrite_9 wY_lastWrite_24
        exact br_f (by decide) (br_t rfl (br_f h1 (br_f (by decide) (br_f h3 H))))
      · have e6 : (6 : Int32) * nI 1 + nI v = nI (6 + v) := (congrArg (fun q => q + nI v) (pk_mul 6 1)).trans (nI_add 6 v)
        unfold wX_lastWrite_26
        rw [e6]
        refine br_f (nI_pos (by omega)) (br_f (by decide) (br_t (nI_le (b := 7) (by omega) (by omega)) (td_xw (by omega) hT hp E1 ?_)))
        exact td_ylw Tr WF (by omega) hj (Or.inr ⟨rfl, hv, rfl⟩) (fun nx ha wv wc va ce => ⟨rfl, td_in R0⟩)
theorem i_vc_runTo {k : Nat} {u : SX} {v : SY} (I : i_Rel k u v) (hk : k + 5 ≤ 2560) (v1 : Int32) : wpX_runTo (fun r u' => wpY_runTo (fun r' v' => r' = r ∧ i_Rel (k + 5) u' v') v v1) u v1 := by
  refine td_el (P := fun u v => wpX_runTo (fun r u' => wpY_runTo (fun r' v' => r' = r ∧ i_Rel (k + 5) u' v') v v1) u v1) ?_ I
  intro L T p ip o x y z nw wr ov nv wb nu tb lw lt sv nx ha wv wc va ce m a w h R
  have R0 := R
  obtain ⟨Tr, WF, Go, hp, E1, E2, E3, hn⟩ := R
  have hL := WF.1
  have hT := Go.1
  have U : td_U T m w := td_UI Tr WF Go.2.1
  have hj : ∀ j, j < p → a j < L ∧ h j = 0 := fun j hj => Go.2.1 j (by omega)
  rcases td_ix 20 (by omega) v1 with g | ⟨i, hi, rfl⟩
  · have fy : wpY_runTo (fun r' v' => r' = -1 ∧ i_Rel (k + 5) (nI L, ip, nI p, nI T, o, x, y, z, nw, wr, ov, nv, wb, nu, tb, lw, lt, sv) v') (nI L, ip, nI p, nx, ha, wv, wc, o, x, y, z, va, ce) v1 := by
      unfold wpY_runTo
      dsimp only
      exact td_yp0 g (br_t rfl ⟨rfl, td_in R0⟩)
    unfold wpX_runTo
    dsimp only
    rcases g with g | g
    · exact br_t g fy
    · obtain ⟨h1, h2, h3⟩ := td_ge (n := 19) (by omega) g
      exact br_f h1 (br_f h3 fy)
  · refine td_xrun hi hT hp U E1 E2 E3 hn (fun hno => ?_) (fun t nw' h1 h2 h3 h4 hn' => ?_)
    · unfold wpY_runTo
      dsimp only
      refine td_yp1 hi (br_f (by decide) (td_steps Tr WF Go (fun nx ha wv wc va ce => nm_r (nI_1 p) ⟨T - p + 1, ?_⟩)))
      refine td_y22 Tr WF Go hi (fun nx ha wv wc va ce _ => ⟨rfl, td_in R0⟩) (fun t nx ha wv wc va ce h1 h2 h3 h4 => absurd h3 (hno t h1 h2)) (T - p) (p + 1) (by omega) (by omega) (fun s h1 h2 => absurd h1 (by omega)) nx ha wv wc va ce
    · unfold wpY_runTo
      dsimp only
      refine td_yp1 hi (br_f (by decide) (td_steps Tr WF Go (fun nx ha wv wc va ce => nm_r (nI_1 p) ⟨T - p + 1, ?_⟩)))
      refine td_y22 Tr WF Go hi (fun nx ha wv wc va ce hno => absurd h3 (hno t h1 h2)) (fun t' nx ha wv wc va ce g1 g2 g3 g4 => ?_) (T - p) (p + 1) (by omega) (by omega) (fun s h1 h2 => absurd h1 (by omega)) nx ha wv wc va ce
      have e : t' = t := by
        by_cases c1 : t' < t
        · exact absurd g3 (h4 t' g1 c1)
        · by_cases c2 : t < t'
          · exact absurd h3 (g4 t h1 c2)
          · omega
      subst e
      exact ⟨rfl, td_in ⟨Tr, WF, Go, h2, E1, E2, E3, hn'⟩⟩
theorem i_vc_backTo {k : Nat} {u : SX} {v : SY} (I : i_Rel k u v) (hk : k + 5 ≤ 2560) (v1 : Int32) : wpX_backTo (fun r u' => wpY_backTo (fun r' v' => r' = r ∧ i_Rel (k + 5) u' v') v v1) u v1 := by
  refine td_el (P := fun u v => wpX_backTo (fun r u' => wpY_backTo (fun r' v' => r' = r ∧ i_Rel (k + 5) u' v') v v1) u v1) ?_ I
  intro L T p ip o x y z nw wr ov nv wb nu tb lw lt sv nx ha wv wc va ce m a w h R
  have R0 := R
  obtain ⟨Tr, WF, Go, hp, E1, E2, E3, hn⟩ := R
  have hL := WF.1
  have hT := Go.1
  have U : td_U T m w := td_UI Tr WF Go.2.1
  have hj : ∀ j, j < p → a j < L ∧ h j = 0 := fun j hj => Go.2.1 j (by omega)
  rcases td_ix 20 (by omega) v1 with g | ⟨i, hi, rfl⟩
  · have fy : wpY_backTo (fun r' v' => r' = -1 ∧ i_Rel (k + 5) (nI L, ip, nI p, nI T, o, x, y, z, nw, wr, ov, nv, wb, nu, tb, lw, lt, sv) v') (nI L, ip, nI p, nx, ha, wv, wc, o, x, y, z, va, ce) v1 := by
      unfold wpY_backTo
      dsimp only
      exact td_yp0 g (br_t rfl ⟨rfl, td_in R0⟩)
    unfold wpX_backTo
    dsimp only
    rcases g with g | g
    · exact br_t g fy
    · obtain ⟨h1, h2, h3⟩ := td_ge (n := 19) (by omega) g
      exact br_f h1 (br_f h3 fy)
  · refine td_xback hi hT hp U E1 E2 E3 hn (fun hno => ?_) (fun t nw' h1 h3 h4 hn' => ?_)
    · unfold wpY_backTo
      dsimp only
      refine td_yp1 hi (br_f (by decide) (nm_r (td_tp p) ⟨p + 1, ?_⟩))
      exact td_y17 Tr WF hi (by omega) hj (fun nx ha wv wc va ce _ => ⟨rfl, td_in R0⟩) (fun t nx ha wv wc va ce h1 h3 h4 => absurd h3 (hno t h1)) p (by omega) (fun s h1 h2 => absurd h2 (by omega)) nx ha wv wc va ce
    · unfold wpY_backTo
      dsimp only
      refine td_yp1 hi (br_f (by decide) (nm_r (td_tp p) ⟨p + 1, ?_⟩))
      refine td_y17 Tr WF hi (by omega) hj (fun nx ha wv wc va ce hno => absurd h3 (hno t h1)) (fun t' nx ha wv wc va ce g1 g3 g4 => ?_) p (by omega) (fun s h1 h2 => absurd h2 (by omega)) nx ha wv wc va ce
      have e : t' = t := by
        by_cases c1 : t' < t
        · exact absurd h3 (g4 t c1 h1)
        · by_cases c2 : t < t'
          · exact absurd g3 (h4 t' c2 g1)
          · omega
      subst e
      exact ⟨rfl, td_in ⟨Tr, WF, Go, by omega, E1, E2, E3, hn'⟩⟩
theorem i_vc_backBeforeWrite {k : Nat} {u : SX} {v : SY} (I : i_Rel k u v) (hk : k + 5 ≤ 2560) (v1 : Int32) : wpX_backBeforeWrite (fun r u' => wpY_backBeforeWrite (fun r' v' => r' = r ∧ i_Rel (k + 5) u' v') v v1) u v1 := by
  refine td_el (P := fun u v => wpX_backBeforeWrite (fun r u' => wpY_backBeforeWrite (fun r' v' => r' = r ∧ i_Rel (k + 5) u' v') v v1) u v1) ?_ I
  intro L T p ip o x y z nw wr ov nv wb nu tb lw lt sv nx ha wv wc va ce m a w h R
  have R0 := R
  obtain ⟨Tr, WF, Go, hp, E1, E2, E3, hn⟩ := R
  have hL := WF.1
  have hT := Go.1
  have U : td_U T m w := td_UI Tr WF Go.2.1
  have hj : ∀ j, j < p → a j < L ∧ h j = 0 := fun j hj => Go.2.1 j (by omega)
  unfold wpX_backBeforeWrite
  dsimp only
  rcases td_ix 6 (by omega) v1 with g | ⟨v, hv, rfl⟩
  · refine td_xv0 g (br_t rfl ?_)
    unfold wpY_backBeforeWrite
    dsimp only
    exact td_yv0 g (br_t rfl ⟨rfl, td_in R0⟩)
  · refine td_xv1 hv (br_f (by decide) (td_xw (by omega) hT hp E1 ?_))
    have hle := td_LW_le w v p
    cases e : td_LW w p v with
    | zero =>
      refine br_t rfl ?_
      unfold wpY_backBeforeWrite
      dsimp only
      refine td_yv1 hv (br_f (by decide) (td_ylw Tr WF (by omega) hj (Or.inl ⟨rfl, hv, rfl⟩) (fun nx ha wv wc va ce => ?_)))
      dsimp only
      rw [e]
      exact br_t rfl ⟨rfl, td_in R0⟩
    | succ s =>
      have es : nI (s + 1) - 1 = nI s := nI_pred s
      rw [es]
      refine br_f (nI_ne0 (by omega) (by omega)) (td_travel hT (by omega) hp U E1 E3 hn (fun nw' hn' => ?_))
      unfold wpY_backBeforeWrite
      dsimp only
      refine td_yv1 hv (br_f (by decide) (td_ylw Tr WF (by omega) hj (Or.inl ⟨rfl, hv, rfl⟩) (fun nx ha wv wc va ce => ?_)))
      dsimp only
      rw [e]
      exact br_f (nI_ne0 (by omega) (by omega)) (nm_r es ⟨rfl, td_in ⟨Tr, WF, Go, by omega, E1, E2, E3, hn'⟩⟩)
end
