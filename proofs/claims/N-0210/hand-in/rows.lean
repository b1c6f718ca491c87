section
theorem pk_us {f : Nat → Int32} {k : Nat} {x : Int32} : upd f k x k = x := if_pos rfl
theorem pk_un {f : Nat → Int32} {k j : Nat} {x : Int32} (h : j ≠ k) : upd f k x j = f j := if_neg h
theorem pk_sub {a b : Nat} (h : b ≤ a) : nI a - nI b = nI (a - b) := by
  obtain ⟨c, rfl⟩ : ∃ c, a = c + b := ⟨a - b, by omega⟩
  rw [← nI_add, Int32.add_sub_cancel, Nat.add_sub_cancel]
theorem pk_m1 (n : Nat) : nI (n + 1) + (-1) = nI n := by
  rw [← nI_1, Int32.add_assoc, show (1 : Int32) + (-1) = 0 from rfl, Int32.add_zero]
theorem pk_ix (x : Int32) {n : Nat} (hn : n < 2 ^ 31) : x < 0 ∨ nI n ≤ x ∨ ∃ j : Nat, j < n ∧ x = nI j := by
  by_cases h : x < 0
  · exact Or.inl h
  · obtain ⟨j, hj, rfl⟩ := nI_of h
    by_cases h2 : j < n
    · exact Or.inr (Or.inr ⟨j, h2, rfl⟩)
    · exact Or.inr (Or.inl (nI_le (by omega) hj))
theorem pk_le {x y : Int32} {A B : Prop} (a b : Nat) (f : a ≤ b → A) (g : b < a → B) (hx : x = nI a := by rfl) (hy : y = nI b := by rfl) (ha : a < 2 ^ 31 := by omega) (hb : b < 2 ^ 31 := by omega) : (x ≤ y → A) ∧ (¬ x ≤ y → B) := by
  subst hx hy
  rw [nI_leI ha hb]
  exact ⟨f, fun z => g (by omega)⟩
theorem pk_lt {x y : Int32} {A B : Prop} (a b : Nat) (f : a < b → A) (g : b ≤ a → B) (hx : x = nI a := by rfl) (hy : y = nI b := by rfl) (ha : a < 2 ^ 31 := by omega) (hb : b < 2 ^ 31 := by omega) : (x < y → A) ∧ (¬ x < y → B) := by
  subst hx hy
  rw [nI_ltI ha hb]
  exact ⟨f, fun z => g (by omega)⟩
theorem pk_eq {x y : Int32} {A B : Prop} (a b : Nat) (f : a = b → A) (g : a ≠ b → B) (hx : x = nI a := by rfl) (hy : y = nI b := by rfl) (ha : a < 2 ^ 31 := by omega) (hb : b < 2 ^ 31 := by omega) : (x = y → A) ∧ (¬ x = y → B) := by
  subst hx hy
  rw [nI_eq ha hb]
  exact ⟨f, g⟩
theorem pk_in {x : Int32} (n N : Nat) (h : n < N) (hx : x = nI n := by rfl) (hN : N < 2 ^ 31 := by omega) : vp_in x N := by
  subst hx
  exact vp_in_nI h hN
theorem pk_cl {x : Int32} (n : Nat) (hx : x = nI n := by rfl) (h : n < 2 ^ 31 := by omega) : x.toNatClampNeg = n := by
  subst hx
  exact nI_clamp h
end
section
/-! plane geometry over Int: cross, squared distance, a linear functional; the chain (monotone) invariants -/
def hu_cr (a b c : Int × Int) : Int := (b.1 - a.1) * (c.2 - a.2) - (b.2 - a.2) * (c.1 - a.1)
def hu_ds (a b : Int × Int) : Int := (b.1 - a.1) * (b.1 - a.1) + (b.2 - a.2) * (b.2 - a.2)
def hu_f (A B : Int) (p : Int × Int) : Int := A * p.1 + B * p.2
def hu_E (A B : Int) (a b p : Int × Int) : Prop := 0 < hu_cr a b p ∨ (hu_cr a b p = 0 ∧ hu_f A B a ≤ hu_f A B p ∧ hu_f A B p ≤ hu_f A B b)
def hu_E2 (a b p : Int × Int) : Prop := 0 < hu_cr a b p ∨ (hu_cr a b p = 0 ∧ (p = b ∨ hu_ds a p < hu_ds a b))

theorem hu_i4 (A B : Int) (a b s p : Int × Int) : (hu_f A B b - hu_f A B a) * hu_cr b s p = (hu_f A B s - hu_f A B b) * hu_cr a b p - (hu_f A B p - hu_f A B b) * hu_cr a b s := by
  unfold hu_f hu_cr; grind
theorem hu_i1 (A B : Int) (a b c d : Int × Int) : (hu_f A B c - hu_f A B b) * (hu_cr a b d - hu_cr a b c) = (hu_f A B b - hu_f A B a) * hu_cr b c d + (hu_f A B d - hu_f A B c) * hu_cr a b c := by
  unfold hu_f hu_cr; grind
theorem hu_i2 (A B : Int) (a b s p : Int × Int) : (hu_f A B s - hu_f A B b) * hu_cr a s p = (hu_f A B s - hu_f A B a) * hu_cr b s p + (hu_f A B p - hu_f A B s) * hu_cr a b s := by
  unfold hu_f hu_cr; grind
theorem hu_i3 (A B : Int) (a b s p : Int × Int) : (hu_f A B b - hu_f A B a) * hu_cr a s p = (hu_f A B s - hu_f A B a) * hu_cr a b p - (hu_f A B p - hu_f A B a) * hu_cr a b s := by
  unfold hu_f hu_cr; grind
theorem hu_flip (a b c : Int × Int) : hu_cr a c b = - hu_cr a b c := by
  unfold hu_cr; grind
theorem hu_cyc (a b c : Int × Int) : hu_cr b c a = hu_cr a b c := by
  unfold hu_cr; grind
theorem hu_same (a b : Int × Int) : hu_cr a b b = 0 := by
  unfold hu_cr; grind
theorem hu_same1 (a b : Int × Int) : hu_cr a b a = 0 := by
  unfold hu_cr; grind

theorem hu_g1 {A B : Int} {a b c d : Int × Int} (h1 : hu_f A B a < hu_f A B b) (h2 : hu_f A B b < hu_f A B c) (h3 : hu_f A B c < hu_f A B d) (k1 : 0 < hu_cr a b c) (k2 : 0 < hu_cr b c d) : 0 < hu_cr a b d := by
  have e := hu_i1 A B a b c d
  have p1 : 0 < (hu_f A B b - hu_f A B a) * hu_cr b c d := Int.mul_pos (by omega) k2
  have p2 : 0 < (hu_f A B d - hu_f A B c) * hu_cr a b c := Int.mul_pos (by omega) k1
  have p3 : 0 < hu_cr a b d - hu_cr a b c := Int.pos_of_mul_pos_right (by rw [e]; omega) (show 0 < hu_f A B c - hu_f A B b by omega)
  omega
theorem hu_g2 {A B : Int} {a b s p : Int × Int} (h1 : hu_f A B a < hu_f A B b) (h2 : hu_f A B b < hu_f A B s) (h3 : hu_f A B p ≤ hu_f A B s) (k1 : hu_cr a b s ≤ 0) (k2 : 0 ≤ hu_cr b s p) : 0 ≤ hu_cr a s p := by
  have e := hu_i2 A B a b s p
  have p1 : 0 ≤ (hu_f A B s - hu_f A B a) * hu_cr b s p := Int.mul_nonneg (by omega) k2
  have p2 : 0 ≤ (hu_f A B p - hu_f A B s) * hu_cr a b s := Int.mul_nonneg_of_nonpos_of_nonpos (by omega) k1
  exact Int.nonneg_of_mul_nonneg_right (by rw [e]; omega) (show 0 < hu_f A B s - hu_f A B b by omega)
theorem hu_g3 {A B : Int} {a b s p : Int × Int} (h1 : hu_f A B a < hu_f A B b) (h2 : hu_f A B b < hu_f A B s) (h3 : hu_f A B a ≤ hu_f A B p) (k1 : hu_cr a b s ≤ 0) (k2 : 0 ≤ hu_cr a b p) : 0 ≤ hu_cr a s p := by
  have e := hu_i3 A B a b s p
  have p1 : 0 ≤ (hu_f A B s - hu_f A B a) * hu_cr a b p := Int.mul_nonneg (by omega) k2
  have p2 : (hu_f A B p - hu_f A B a) * hu_cr a b s ≤ 0 := Int.mul_nonpos_of_nonneg_of_nonpos (by omega) k1
  exact Int.nonneg_of_mul_nonneg_right (by rw [e]; omega) (show 0 < hu_f A B b - hu_f A B a by omega)
theorem hu_g4 {A B : Int} {a b s p : Int × Int} (h1 : hu_f A B a < hu_f A B b) (h2 : hu_f A B b < hu_f A B s) (h3 : hu_f A B p < hu_f A B b) (k1 : 0 < hu_cr a b s) (k2 : 0 ≤ hu_cr a b p) : 0 < hu_cr b s p := by
  have e := hu_i4 A B a b s p
  have p1 : 0 ≤ (hu_f A B s - hu_f A B b) * hu_cr a b p := Int.mul_nonneg (by omega) k2
  have p2 : (hu_f A B p - hu_f A B b) * hu_cr a b s < 0 := Int.mul_neg_of_neg_of_pos (by omega) k1
  exact Int.pos_of_mul_pos_right (by rw [e]; omega) (show 0 < hu_f A B b - hu_f A B a by omega)

theorem hu_E_nn {A B : Int} {a b p : Int × Int} (h : hu_E A B a b p) : 0 ≤ hu_cr a b p := by
  rcases h with h | ⟨h, _⟩ <;> omega
theorem hu_E_pos {A B : Int} {a b p : Int × Int} (h : hu_E A B a b p) (hf : hu_f A B b < hu_f A B p) : 0 < hu_cr a b p := by
  rcases h with h | ⟨_, _, h⟩
  · exact h
  · omega

/-- collinear and between by f: the end or strictly nearer -/
theorem hu_col {F G ux uy wx wy : Int} (hF : 0 < F) (h0 : 0 ≤ G) (h1 : G ≤ F) (ex : F * wx = G * ux) (ey : F * wy = G * uy) (hu : 0 < ux * ux + uy * uy) : (wx = ux ∧ wy = uy) ∨ wx * wx + wy * wy < ux * ux + uy * uy := by
  by_cases hg : G = F
  · subst hg
    exact Or.inl ⟨Int.eq_of_mul_eq_mul_left (by omega) ex, Int.eq_of_mul_eq_mul_left (by omega) ey⟩
  · right
    have e : (F * F) * (wx * wx + wy * wy) = (G * G) * (ux * ux + uy * uy) := by
      have e1 : (F * wx) * (F * wx) = (G * ux) * (G * ux) := by rw [ex]
      have e2 : (F * wy) * (F * wy) = (G * uy) * (G * uy) := by rw [ey]
      grind
    have hGF : G * G < F * F := Int.mul_lt_mul' (by omega) (by omega) h0 hF
    have h2 : (G * G) * (ux * ux + uy * uy) < (F * F) * (ux * ux + uy * uy) := Int.mul_lt_mul_of_pos_right hGF hu
    rw [← e] at h2
    exact Int.lt_of_not_ge fun hge => Int.not_lt_of_ge (Int.mul_le_mul_of_nonneg_left hge (Int.le_of_lt (Int.mul_pos hF hF))) h2
theorem hu_sq (x : Int) : 0 ≤ x * x := by
  rcases Int.le_total 0 x with h | h
  · exact Int.mul_nonneg h h
  · exact Int.mul_nonneg_of_nonpos_of_nonpos h h
theorem hu_sqp {x : Int} (h : x ≠ 0) : 0 < x * x := by
  rcases Int.lt_or_gt_of_ne h with h | h
  · exact Int.mul_pos_of_neg_of_neg h h
  · exact Int.mul_pos h h
theorem hu_E_E2 {A B : Int} {a b p : Int × Int} (h : hu_E A B a b p) (hf : hu_f A B a < hu_f A B b) : hu_E2 a b p := by
  rcases h with h | ⟨h, h1, h2⟩
  · exact Or.inl h
  refine Or.inr ⟨h, ?_⟩
  have ex : (hu_f A B b - hu_f A B a) * (p.1 - a.1) = (hu_f A B p - hu_f A B a) * (b.1 - a.1) := by
    have i : (hu_f A B b - hu_f A B a) * (p.1 - a.1) = (hu_f A B p - hu_f A B a) * (b.1 - a.1) - B * hu_cr a b p := by
      unfold hu_f hu_cr; grind
    rw [i, h]; omega
  have ey : (hu_f A B b - hu_f A B a) * (p.2 - a.2) = (hu_f A B p - hu_f A B a) * (b.2 - a.2) := by
    have i : (hu_f A B b - hu_f A B a) * (p.2 - a.2) = (hu_f A B p - hu_f A B a) * (b.2 - a.2) + A * hu_cr a b p := by
      unfold hu_f hu_cr; grind
    rw [i, h]; omega
  have hu : 0 < (b.1 - a.1) * (b.1 - a.1) + (b.2 - a.2) * (b.2 - a.2) := by
    have s1 := hu_sq (b.1 - a.1)
    have s2 := hu_sq (b.2 - a.2)
    by_cases z1 : b.1 - a.1 = 0
    · by_cases z2 : b.2 - a.2 = 0
      · exfalso
        have e1 : b.1 = a.1 := by omega
        have e2 : b.2 = a.2 := by omega
        unfold hu_f at hf
        rw [e1, e2] at hf
        omega
      · have := hu_sqp z2; omega
    · have := hu_sqp z1; omega
  rcases hu_col (by omega) (by omega) (by omega) ex ey hu with ⟨e1, e2⟩ | hlt
  · exact Or.inl (Prod.ext (by omega) (by omega))
  · exact Or.inr hlt
end
section
/-! the chain: o c .. o t, built over the processed points P -/
def hu_CI (A B : Int) (o : Nat → Int × Int) (c t : Nat) (P : Int × Int → Prop) : Prop :=
  c ≤ t ∧ (∀ p, P p → hu_f A B (o c) ≤ hu_f A B p) ∧ (∀ j, c ≤ j → j ≤ t → P (o j)) ∧
  (∀ j, c ≤ j → j < t → hu_f A B (o j) < hu_f A B (o (j + 1))) ∧
  (∀ j, c ≤ j → j < t → ∀ p, P p → hu_E A B (o j) (o (j + 1)) p) ∧
  (∀ p, P p → hu_f A B p < hu_f A B (o t) ∨ p = o t)
def hu_PI (A B : Int) (o : Nat → Int × Int) (c t : Nat) (P : Int × Int → Prop) (s : Int × Int) : Prop :=
  c ≤ t ∧ (∀ p, P p → hu_f A B (o c) ≤ hu_f A B p) ∧ (∀ j, c ≤ j → j ≤ t → P (o j)) ∧
  (∀ j, c ≤ j → j < t → hu_f A B (o j) < hu_f A B (o (j + 1))) ∧
  (∀ j, c ≤ j → j < t → ∀ p, P p → hu_E A B (o j) (o (j + 1)) p) ∧
  (∀ p, P p → hu_f A B p < hu_f A B s) ∧
  (∀ p, P p → hu_f A B (o t) ≤ hu_f A B p → 0 ≤ hu_cr (o t) s p)

theorem hu_start {A B : Int} {o : Nat → Int × Int} {c t : Nat} {P : Int × Int → Prop} {s : Int × Int} (h : hu_CI A B o c t P) (hs : ∀ p, P p → hu_f A B p < hu_f A B s) : hu_PI A B o c t P s := by
  obtain ⟨h1, h2, h3, h4, h5, h6⟩ := h
  refine ⟨h1, h2, h3, h4, h5, hs, fun p hp hle => ?_⟩
  rcases h6 p hp with h | h
  · omega
  · rw [h, hu_same1]; omega

theorem hu_pop {A B : Int} {o : Nat → Int × Int} {c t : Nat} {P : Int × Int → Prop} {s : Int × Int} (h : hu_PI A B o c (t + 1) P s) (hc : c ≤ t) (hx : hu_cr (o t) (o (t + 1)) s ≤ 0) : hu_PI A B o c t P s := by
  obtain ⟨h1, h2, h3, h4, h5, h6, h7⟩ := h
  refine ⟨hc, h2, fun j a b => h3 j a (by omega), fun j a b => h4 j a (by omega), fun j a b => h5 j a (by omega), h6, fun p hp hle => ?_⟩
  have hab := h4 t hc (by omega)
  have hbs := h6 _ (h3 (t + 1) (by omega) (by omega))
  have hE := hu_E_nn (h5 t hc (by omega) p hp)
  by_cases hb : hu_f A B (o (t + 1)) ≤ hu_f A B p
  · exact hu_g2 hab hbs (Int.le_of_lt (h6 p hp)) hx (h7 p hp hb)
  · exact hu_g3 hab hbs hle hx hE

theorem hu_down {A B : Int} {o : Nat → Int × Int} {c t : Nat} {P : Int × Int → Prop} {s : Int × Int} (h : hu_PI A B o c (t + 1) P s) (hx : 0 < hu_cr (o t) (o (t + 1)) s) : ∀ d j, j + d = t → c ≤ j → 0 < hu_cr (o j) (o (j + 1)) s := by
  obtain ⟨h1, h2, h3, h4, h5, h6, h7⟩ := h
  intro d
  induction d with
  | zero =>
    intro j hj hc
    have e : j = t := by omega
    rw [e]; exact hx
  | succ d ih =>
    intro j hj hc
    have i1 := ih (j + 1) (by omega) (by omega)
    have f1 := h4 j hc (by omega)
    have f2 := h4 (j + 1) (by omega) (by omega)
    have f3 := h6 _ (h3 (j + 2) (by omega) (by omega))
    have k := hu_E_pos (h5 j hc (by omega) (o (j + 2)) (h3 (j + 2) (by omega) (by omega))) f2
    exact hu_g1 f1 f2 f3 k i1

theorem hu_push {A B : Int} {o o' : Nat → Int × Int} {c t : Nat} {P P' : Int × Int → Prop} {s : Int × Int} (h : hu_PI A B o c t P s) (hx : t = c ∨ ∃ t', t = t' + 1 ∧ c ≤ t' ∧ 0 < hu_cr (o t') (o t) s) (hP : ∀ p, P' p ↔ P p ∨ p = s) (ho : ∀ j, j ≤ t → o' j = o j) (hn : o' (t + 1) = s) : hu_CI A B o' c (t + 1) P' := by
  have hdown : ∀ j, c ≤ j → j < t → 0 < hu_cr (o j) (o (j + 1)) s := by
    intro j hc hj
    rcases hx with e | ⟨t', e, ht', hx⟩
    · omega
    · subst e
      exact hu_down h hx (t' - j) j (by omega) hc
  obtain ⟨h1, h2, h3, h4, h5, h6, h7⟩ := h
  have hcs : hu_f A B (o c) < hu_f A B s := h6 _ (h3 c (by omega) h1)
  have hts : hu_f A B (o t) < hu_f A B s := h6 _ (h3 t h1 (by omega))
  refine ⟨by omega, ?_, ?_, ?_, ?_, ?_⟩
  · intro p hp
    rw [ho c h1]
    rcases (hP p).mp hp with h | h
    · exact h2 p h
    · rw [h]; omega
  · intro j hc hj
    by_cases e : j = t + 1
    · rw [e, hn]; exact (hP s).mpr (Or.inr rfl)
    · rw [ho j (by omega)]; exact (hP _).mpr (Or.inl (h3 j hc (by omega)))
  · intro j hc hj
    by_cases e : j = t
    · subst e; rw [hn, ho j (by omega)]; exact hts
    · rw [ho j (by omega), ho (j + 1) (by omega)]; exact h4 j hc (by omega)
  · intro j hc hj p hp
    by_cases e : j = t
    · subst e
      rw [hn, ho j (by omega)]
      rcases (hP p).mp hp with h | h
      · by_cases hf : hu_f A B (o j) ≤ hu_f A B p
        · have k := h7 p h hf
          have k2 := h6 p h
          rcases Int.lt_or_eq_of_le k with k | k
          · exact Or.inl k
          · exact Or.inr ⟨k.symm, hf, by omega⟩
        · rcases hx with e | ⟨t', e, ht', hx⟩
          · subst e; exact absurd (h2 p h) hf
          · subst e
            exact Or.inl (hu_g4 (h4 t' ht' (by omega)) hts (by omega) hx (hu_E_nn (h5 t' ht' (by omega) p h)))
      · rw [h]; exact Or.inr ⟨hu_same _ _, by omega, by omega⟩
    · rw [ho j (by omega), ho (j + 1) (by omega)]
      rcases (hP p).mp hp with h | h
      · exact h5 j hc (by omega) p h
      · rw [h]; exact Or.inl (hdown j hc (by omega))
  · intro p hp
    rw [hn]
    rcases (hP p).mp hp with h | h
    · exact Or.inl (h6 p h)
    · exact Or.inr h

theorem hu_one {A B : Int} {o : Nat → Int × Int} {c : Nat} {P : Int × Int → Prop} (hP : ∀ p, P p ↔ p = o c) : hu_CI A B o c c P := by
  refine ⟨by omega, fun p hp => ?_, fun j h1 h2 => ?_, fun j h1 h2 => by omega, fun j h1 h2 => by omega, fun p hp => Or.inr ((hP p).mp hp)⟩
  · rw [(hP p).mp hp]; omega
  · have e : j = c := by omega
    rw [e]; exact (hP _).mpr rfl

theorem hu_CI_congr {A B : Int} {o o' : Nat → Int × Int} {c t : Nat} {P : Int × Int → Prop} (h : hu_CI A B o c t P) (ho : ∀ j, j ≤ t → o' j = o j) : hu_CI A B o' c t P := by
  obtain ⟨h1, h2, h3, h4, h5, h6⟩ := h
  refine ⟨h1, ?_, ?_, ?_, ?_, ?_⟩
  · rw [ho c h1]; exact h2
  · intro j a b; rw [ho j b]; exact h3 j a b
  · intro j a b; rw [ho j (by omega), ho (j + 1) (by omega)]; exact h4 j a b
  · intro j a b; rw [ho j (by omega), ho (j + 1) (by omega)]; exact h5 j a b
  · rw [ho t (by omega)]; exact h6

theorem hu_CI_P {A B : Int} {o : Nat → Int × Int} {c t : Nat} {P P' : Int × Int → Prop} (h : hu_CI A B o c t P) (hP : ∀ p, P' p ↔ P p) : hu_CI A B o c t P' := by
  have e : P' = P := funext fun p => propext (hP p)
  rw [e]; exact h

theorem hu_mono {A B : Int} {o : Nat → Int × Int} {c t : Nat} {P : Int × Int → Prop} (h : hu_CI A B o c t P) : ∀ d i, c ≤ i → i + d + 1 ≤ t → hu_f A B (o i) < hu_f A B (o (i + d + 1)) := by
  obtain ⟨h1, h2, h3, h4, h5, h6⟩ := h
  intro d
  induction d with
  | zero => intro i hc hi; exact h4 i hc (by omega)
  | succ d ih =>
    intro i hc hi
    have a := ih i hc (by omega)
    have b := h4 (i + d + 1) (by omega) (by omega)
    exact Int.lt_trans a b
theorem hu_mono' {A B : Int} {o : Nat → Int × Int} {c t : Nat} {P : Int × Int → Prop} (h : hu_CI A B o c t P) {i j : Nat} (hc : c ≤ i) (hij : i < j) (hj : j ≤ t) : hu_f A B (o i) < hu_f A B (o j) := by
  have k := hu_mono h (j - i - 1) i hc (by omega)
  have e : i + (j - i - 1) + 1 = j := by omega
  rw [e] at k; exact k

/-- n different numbers below N -/
theorem hu_pg : ∀ (N M : Nat) (g : Nat → Nat), (∀ i, i < M → g i < N) → (∀ i j, i < j → j < M → g i ≠ g j) → M ≤ N := by
  intro N
  induction N with
  | zero =>
    intro M g h _
    rcases Nat.eq_zero_or_pos M with e | e
    · omega
    · exact absurd (h 0 e) (by omega)
  | succ N ih =>
    intro M g h hd
    rcases Nat.eq_zero_or_pos M with e | e
    · omega
    obtain ⟨M', rfl⟩ : ∃ M', M = M' + 1 := ⟨M - 1, by omega⟩
    have hv := h M' (by omega)
    have := ih M' (fun i => if g i < g M' then g i else g i - 1) ?_ ?_
    · omega
    · intro i hi
      have a := h i (by omega)
      have b := hd i M' hi (by omega)
      show (if g i < g M' then g i else g i - 1) < N
      split <;> omega
    · intro i j hij hj
      have a := hd i M' (by omega) (by omega)
      have b := hd j M' (by omega) (by omega)
      have c := hd i j hij (by omega)
      show (if g i < g M' then g i else g i - 1) ≠ (if g j < g M' then g j else g j - 1)
      split <;> split <;> omega

def hu_sc (m i : Nat) : Nat := if i + 1 = m then 0 else i + 1
/-- o 0 .. o (m - 1): the hull of the N points T, from the least one on -/
def hu_H (N m : Nat) (T o : Nat → Int × Int) : Prop :=
  0 < m ∧ m ≤ N ∧ (∀ i, i < m → ∃ l, l < N ∧ T l = o i) ∧ (∀ i j, i < j → j < m → o i ≠ o j) ∧
  (∀ l, l < N → hu_f 65536 1 (o 0) ≤ hu_f 65536 1 (T l)) ∧
  (N = 1 ∨ 2 ≤ m ∧ ∀ i, i < m → ∀ l, l < N → hu_E2 (o i) (o (hu_sc m i)) (T l))

theorem hu_neg (p : Int × Int) : hu_f (-65536) (-1) p = - hu_f 65536 1 p := by
  unfold hu_f; omega

theorem hu_fin {N L M : Nat} {T o : Nat → Int × Int} (hN : 2 ≤ N) (hT : ∀ i j, i < j → j < N → T i ≠ T j) (h : hu_CI 65536 1 o 0 L (fun p => ∃ l, l < N ∧ T l = p)) (g : hu_CI (-65536) (-1) o L M (fun p => ∃ l, l < N ∧ T l = p)) : hu_H N M T o ∧ o M = o 0 := by
  have hm := @hu_mono' _ _ _ _ _ _ h
  have gm := @hu_mono' _ _ _ _ _ _ g
  obtain ⟨h1, h2, h3, h4, h5, h6⟩ := h
  obtain ⟨g1, g2, g3, g4, g5, g6⟩ := g
  have m0 := h3 0 (by omega) (by omega)
  have mM := g3 M g1 (by omega)
  have eM : o M = o 0 := by
    rcases g6 _ m0 with k | k
    · rw [hu_neg, hu_neg] at k
      have := h2 _ mM
      omega
    · exact k.symm
  have hL : 0 < L := by
    rcases Nat.eq_zero_or_pos L with e | e
    · exfalso
      subst e
      have a : ∀ l, l < N → T l = o 0 := by
        intro l hl
        rcases h6 (T l) ⟨l, hl, rfl⟩ with k | k
        · have := h2 (T l) ⟨l, hl, rfl⟩; omega
        · exact k
      exact hT 0 1 (by omega) (by omega) ((a 0 (by omega)).trans (a 1 (by omega)).symm)
    · exact e
  have hLM : L < M := by
    rcases Nat.lt_or_ge L M with e | e
    · exact e
    · exfalso
      have e2 : M = L := by omega
      have k := hm (i := 0) (j := L) (by omega) hL (by omega)
      rw [← e2, eM] at k
      omega
  have hin : ∀ i, i < M → ∃ l, l < N ∧ T l = o i := by
    intro i hi
    rcases Nat.lt_or_ge L i with e | e
    · exact g3 i (by omega) (by omega)
    · exact h3 i (by omega) e
  have hd : ∀ i j, i < j → j < M → o i ≠ o j := by
    intro i j hij hj e
    rcases Nat.lt_or_ge L j with hLj | hLj
    · rcases Nat.lt_or_ge i L with hiL | hiL
      · have a := h5 i (by omega) hiL (o (j + 1)) (g3 (j + 1) (by omega) (by omega))
        have b := hu_E_nn (g5 j (by omega) hj (o (i + 1)) (h3 (i + 1) (by omega) (by omega)))
        have c := gm (i := j) (j := j + 1) (by omega) (by omega) (by omega)
        rw [hu_neg, hu_neg] at c
        rw [← e, hu_flip] at b
        rw [← e] at c
        rcases a with a | ⟨_, a, _⟩
        · omega
        · omega
      · have c := gm (i := i) (j := j) hiL hij (by omega)
        rw [e] at c
        omega
    · have c := hm (i := i) (j := j) (by omega) hij hLj
      rw [e] at c
      omega
  refine ⟨⟨by omega, ?_, hin, hd, fun l hl => h2 _ ⟨l, hl, rfl⟩, Or.inr ⟨by omega, ?_⟩⟩, eM⟩
  · have hx : ∀ i, ∃ l, i < M → l < N ∧ T l = o i := by
      intro i
      by_cases hi : i < M
      · obtain ⟨l, hl⟩ := hin i hi
        exact ⟨l, fun _ => hl⟩
      · exact ⟨0, fun z => absurd z hi⟩
    obtain ⟨gg, hgg⟩ := Classical.axiomOfChoice hx
    refine hu_pg N M gg (fun i hi => (hgg i hi).1) ?_
    intro i j hij hj e
    apply hd i j hij hj
    rw [← (hgg i (by omega)).2, ← (hgg j hj).2, e]
  · intro i hi l hl
    have e : o (hu_sc M i) = o (i + 1) := by
      unfold hu_sc
      split
      · rename_i e; rw [e, eM]
      · rfl
    rw [e]
    rcases Nat.lt_or_ge i L with c | c
    · exact hu_E_E2 (h5 i (by omega) c _ ⟨l, hl, rfl⟩) (h4 i (by omega) c)
    · exact hu_E_E2 (g5 i c hi _ ⟨l, hl, rfl⟩) (g4 i c hi)
end
section
/-! ints: points out of arrays, the range, what the crosses and distances are as machine numbers -/
def hu_pt (ax ay : Nat → Int32) (i : Nat) : Int × Int := ((ax i).toInt, (ay i).toInt)
def hu_r (p : Int × Int) : Prop := -16383 ≤ p.1 ∧ p.1 ≤ 16383 ∧ -16383 ≤ p.2 ∧ p.2 ≤ 16383

theorem hu_mb {a b : Int} (h1 : -32766 ≤ a) (h2 : a ≤ 32766) (h3 : -32766 ≤ b) (h4 : b ≤ 32766) : -1073610756 ≤ a * b ∧ a * b ≤ 1073610756 := by
  have e1 : (32766 - a) * (32766 + b) + (32766 + a) * (32766 - b) = 2147221512 - 2 * (a * b) := by grind
  have e2 : (32766 - a) * (32766 - b) + (32766 + a) * (32766 + b) = 2147221512 + 2 * (a * b) := by grind
  have p1 : 0 ≤ (32766 - a) * (32766 + b) := Int.mul_nonneg (by omega) (by omega)
  have p2 : 0 ≤ (32766 + a) * (32766 - b) := Int.mul_nonneg (by omega) (by omega)
  have p3 : 0 ≤ (32766 - a) * (32766 - b) := Int.mul_nonneg (by omega) (by omega)
  have p4 : 0 ≤ (32766 + a) * (32766 + b) := Int.mul_nonneg (by omega) (by omega)
  generalize (32766 - a) * (32766 + b) = u1 at *
  generalize (32766 + a) * (32766 - b) = u2 at *
  generalize (32766 - a) * (32766 - b) = u3 at *
  generalize (32766 + a) * (32766 + b) = u4 at *
  generalize a * b = v at *
  omega
theorem hu_crb {a b c : Int × Int} (ha : hu_r a) (hb : hu_r b) (hc : hu_r c) : -2147221512 ≤ hu_cr a b c ∧ hu_cr a b c ≤ 2147221512 := by
  obtain ⟨a1, a2, a3, a4⟩ := ha
  obtain ⟨b1, b2, b3, b4⟩ := hb
  obtain ⟨c1, c2, c3, c4⟩ := hc
  have u := @hu_mb (b.1 - a.1) (c.2 - a.2) (by omega) (by omega) (by omega) (by omega)
  have v := @hu_mb (b.2 - a.2) (c.1 - a.1) (by omega) (by omega) (by omega) (by omega)
  unfold hu_cr
  generalize (b.1 - a.1) * (c.2 - a.2) = x at *
  generalize (b.2 - a.2) * (c.1 - a.1) = y at *
  omega
theorem hu_dsb {a b : Int × Int} (ha : hu_r a) (hb : hu_r b) : -2147221512 ≤ hu_ds a b ∧ hu_ds a b ≤ 2147221512 := by
  obtain ⟨a1, a2, a3, a4⟩ := ha
  obtain ⟨b1, b2, b3, b4⟩ := hb
  have u := @hu_mb (b.1 - a.1) (b.1 - a.1) (by omega) (by omega) (by omega) (by omega)
  have v := @hu_mb (b.2 - a.2) (b.2 - a.2) (by omega) (by omega) (by omega) (by omega)
  unfold hu_ds
  generalize (b.1 - a.1) * (b.1 - a.1) = x at *
  generalize (b.2 - a.2) * (b.2 - a.2) = y at *
  omega
theorem hu_64 (p : Int32) : p.toInt64 = Int64.ofInt p.toInt := by
  apply Int64.toInt_inj.mp
  have h1 := p.le_toInt
  have h2 := p.toInt_lt
  rw [Int32.toInt_toInt64, Int64.toInt_ofInt_of_le (by omega) (by omega)]
theorem hu_xc {post : Int64 → Prop} {p0 p1 p2 p3 p4 p5 : Int32} (h : post (Int64.ofInt (hu_cr (p0.toInt, p1.toInt) (p2.toInt, p3.toInt) (p4.toInt, p5.toInt)))) : wpX_cross post p0 p1 p2 p3 p4 p5 := by
  unfold hu_cr at h
  simp only [Int64.ofInt_sub, Int64.ofInt_mul, ← hu_64] at h
  exact h
theorem hu_yc {post : Int32 → Prop} {p0 p1 p2 p3 p4 p5 : Int32} (h : post (Int32.ofInt (hu_cr (p0.toInt, p1.toInt) (p2.toInt, p3.toInt) (p4.toInt, p5.toInt)))) : wpY_cross post p0 p1 p2 p3 p4 p5 := by
  unfold hu_cr at h
  simp only [Int32.ofInt_sub, Int32.ofInt_mul, Int32.ofInt_toInt] at h
  exact h
theorem hu_yd {post : Int32 → Prop} {p0 p1 p2 p3 : Int32} (h : post (Int32.ofInt (hu_ds (p0.toInt, p1.toInt) (p2.toInt, p3.toInt)))) : wpY_dist post p0 p1 p2 p3 := by
  unfold hu_ds at h
  simp only [Int32.ofInt_add, Int32.ofInt_sub, Int32.ofInt_mul, Int32.ofInt_toInt] at h
  exact h

def hu_b (v : Int) : Prop := -2147221512 ≤ v ∧ v ≤ 2147221512
theorem hu_LT {v : Int} (h : hu_b v) : (Int64.ofInt v).toInt = v := Int64.toInt_ofInt_of_le (by have := h.1; omega) (by have := h.2; omega)
theorem hu_IT {v : Int} (h : hu_b v) : (Int32.ofInt v).toInt = v := Int32.toInt_ofInt_of_le (by have := h.1; omega) (by have := h.2; omega)
theorem hu_L0 {v : Int} (h : hu_b v) : Int64.ofInt v = 0 ↔ v = 0 := by
  rw [← Int64.toInt_inj, hu_LT h, Int64.toInt_zero]
theorem hu_I0 {v : Int} (h : hu_b v) : Int32.ofInt v = 0 ↔ v = 0 := by
  rw [← Int32.toInt_inj, hu_IT h, Int32.toInt_zero]
theorem hu_Lp {v : Int} (h : hu_b v) : 0 < Int64.ofInt v ↔ 0 < v := by
  rw [Int64.lt_iff_toInt_lt, hu_LT h, Int64.toInt_zero]
theorem hu_Ln {v : Int} (h : hu_b v) : 0 ≤ Int64.ofInt v ↔ 0 ≤ v := by
  rw [Int64.le_iff_toInt_le, hu_LT h, Int64.toInt_zero]
theorem hu_In {v : Int} (h : hu_b v) : 0 ≤ Int32.ofInt v ↔ 0 ≤ v := by
  rw [Int32.le_iff_toInt_le, hu_IT h, Int32.toInt_zero]
theorem hu_Im {v : Int} (h : hu_b v) : Int32.ofInt v < 0 ↔ v < 0 := by
  rw [Int32.lt_iff_toInt_lt, hu_IT h, Int32.toInt_zero]
theorem hu_Ile {v w : Int} (h : hu_b v) (k : hu_b w) : Int32.ofInt v ≤ Int32.ofInt w ↔ v ≤ w := by
  rw [Int32.le_iff_toInt_le, hu_IT h, hu_IT k]

theorem hu_L_lt {v : Int} (h : hu_b v) {A B : Prop} (f : 0 < v → A) (g : v ≤ 0 → B) : (0 < Int64.ofInt v → A) ∧ (¬ 0 < Int64.ofInt v → B) := by
  rw [hu_Lp h]; exact ⟨f, fun z => g (by omega)⟩
theorem hu_L_eq {v : Int} (h : hu_b v) {A B : Prop} (f : v = 0 → A) (g : ¬ v = 0 → B) : (Int64.ofInt v = 0 → A) ∧ (¬ Int64.ofInt v = 0 → B) := by
  rw [hu_L0 h]; exact ⟨f, g⟩
theorem hu_I_eq {v : Int} (h : hu_b v) {A B : Prop} (f : v = 0 → A) (g : ¬ v = 0 → B) : (Int32.ofInt v = 0 → A) ∧ (¬ Int32.ofInt v = 0 → B) := by
  rw [hu_I0 h]; exact ⟨f, g⟩
theorem hu_L_3 {v : Int} (h : hu_b v) {A B C : Prop} (f : v = 0 → A) (g : 0 < v → B) (k : v < 0 → C) : (0 ≤ Int64.ofInt v → ((Int64.ofInt v = 0 → A) ∧ (¬ Int64.ofInt v = 0 → B))) ∧ (¬ 0 ≤ Int64.ofInt v → C) := by
  rw [hu_L0 h, hu_Ln h]
  exact ⟨fun z => ⟨f, fun y => g (by omega)⟩, fun z => k (by omega)⟩
theorem hu_I_3 {v : Int} (h : hu_b v) {A B C : Prop} (f : v = 0 → A) (g : 0 < v → B) (k : v < 0 → C) : (0 ≤ Int32.ofInt v → ((Int32.ofInt v = 0 → A) ∧ (¬ Int32.ofInt v = 0 → B))) ∧ (¬ 0 ≤ Int32.ofInt v → C) := by
  rw [hu_I0 h, hu_In h]
  exact ⟨fun z => ⟨f, fun y => g (by omega)⟩, fun z => k (by omega)⟩
theorem hu_I_j {v : Int} (h : hu_b v) {A B C : Prop} (f : v < 0 → A) (g : v = 0 → B) (k : 0 < v → C) : (Int32.ofInt v < 0 → A) ∧ (¬ Int32.ofInt v < 0 → ((Int32.ofInt v = 0 → B) ∧ (¬ Int32.ofInt v = 0 → C))) := by
  rw [hu_I0 h, hu_Im h]
  exact ⟨f, fun z => ⟨g, fun y => k (by omega)⟩⟩
theorem hu_I_le {v w : Int} (h : hu_b v) (h' : hu_b w) {A B : Prop} (f : v ≤ w → A) (g : w < v → B) : (Int32.ofInt v ≤ Int32.ofInt w → A) ∧ (¬ Int32.ofInt v ≤ Int32.ofInt w → B) := by
  rw [hu_Ile h h']; exact ⟨f, fun z => g (by omega)⟩

theorem hu_finj {p q : Int × Int} (hp : hu_r p) (hq : hu_r q) (h : hu_f 65536 1 p = hu_f 65536 1 q) : p = q := by
  obtain ⟨a1, a2, a3, a4⟩ := hp
  obtain ⟨b1, b2, b3, b4⟩ := hq
  unfold hu_f at h
  exact Prod.ext (by omega) (by omega)
theorem hu_scl {n i : Nat} (h : i < n) : hu_sc n i < n := by
  unfold hu_sc; split <;> omega

/-- x in range, as the two sides ask it -/
def hu_ok (x : Int32) : Prop := -16383 ≤ x.toInt ∧ x.toInt ≤ 16383
theorem hu_m16 : (-16383 : Int32).toInt = -16383 := by decide
theorem hu_p16 : (16383 : Int32).toInt = 16383 := by decide
theorem hu_ok1 {x : Int32} : x < -16383 ↔ x.toInt < -16383 := by
  rw [Int32.lt_iff_toInt_lt, hu_m16]
theorem hu_ok2 {x : Int32} : 16383 < x ↔ 16383 < x.toInt := by
  rw [Int32.lt_iff_toInt_lt, hu_p16]
theorem hu_ok3 {x : Int32} : x ≤ 16383 ↔ x.toInt ≤ 16383 := by
  rw [Int32.le_iff_toInt_le, hu_p16]
/-- the four tests of X -/
theorem hu_xr {x y : Int32} {A B : Prop} (f : hu_ok x → hu_ok y → A) (g : ¬ (hu_ok x ∧ hu_ok y) → B) : (x < (-16383) → B) ∧ (¬ x < (-16383) → ((16383 < x → B) ∧ (¬ 16383 < x → ((y < (-16383) → B) ∧ (¬ y < (-16383) → ((y ≤ 16383 → A) ∧ (¬ y ≤ 16383 → B))))))) := by
  rw [hu_ok1, hu_ok1, hu_ok2, hu_ok3]
  unfold hu_ok at f g
  exact ⟨fun h => g (by omega), fun h => ⟨fun h2 => g (by omega), fun h2 => ⟨fun h3 => g (by omega), fun h3 => ⟨fun h4 => f (by omega) (by omega), fun h4 => g (by omega)⟩⟩⟩⟩
theorem hu_yok {post : Int32 → Prop} {x : Int32} (f : hu_ok x → post 1) (g : ¬ hu_ok x → post 0) : wpY_ok post x := by
  unfold wpY_ok
  rw [hu_ok1, hu_ok2]
  unfold hu_ok at f g
  exact ⟨fun h => g (by omega), fun h => ⟨fun h2 => g (by omega), fun h2 => f (by omega)⟩⟩
/-- the two tests of Y -/
theorem hu_yr {x y : Int32} {A B : Prop} (f : hu_ok x → hu_ok y → A) (g : ¬ (hu_ok x ∧ hu_ok y) → B) : wpY_ok (fun r => (r = 0 → B) ∧ (¬ r = 0 → wpY_ok (fun r' => (r' = 0 → B) ∧ (¬ r' = 0 → A)) y)) x := by
  refine hu_yok (fun h => ⟨fun z => absurd z (by decide), fun _ => hu_yok (fun h2 => ⟨fun z => absurd z (by decide), fun _ => f h h2⟩) (fun h2 => ⟨fun _ => g (fun z => h2 z.2), fun z => absurd rfl z⟩)⟩) (fun h => ⟨fun _ => g (fun z => h z.1), fun z => absurd rfl z⟩)
end
section
/-! inside and twiceArea: both sides in step -/
def hu_G (cap n : Nat) (hx hy : Nat → Int32) : Prop :=
  cap ≤ 64 ∧ n ≤ cap ∧ (∀ i, i < n → hu_r (hu_pt hx hy i)) ∧ (∀ i j, i < j → j < n → hu_pt hx hy i ≠ hu_pt hx hy j) ∧
  (∀ i j, i < n → j < n → 0 ≤ hu_cr (hu_pt hx hy i) (hu_pt hx hy (hu_sc n i)) (hu_pt hx hy j))

theorem hu_x301 {post : Int32 → Prop} {J : Int32 → Int32 → Prop} {x y e cap cnt fn : Int32} {hx hy sx sy ox oy : Nat → Int32} {i j : Nat} (hi : i < 66) (hj : j < 66) (hb : hu_b (hu_cr (hu_pt hx hy i) (hu_pt hx hy j) (x.toInt, y.toInt)))
    (f : hu_cr (hu_pt hx hy i) (hu_pt hx hy j) (x.toInt, y.toInt) = 0 → J 1 (nI (i + 1)))
    (g : 0 < hu_cr (hu_pt hx hy i) (hu_pt hx hy j) (x.toInt, y.toInt) → J e (nI (i + 1)))
    (k : hu_cr (hu_pt hx hy i) (hu_pt hx hy j) (x.toInt, y.toInt) < 0 → post 0) : wX_inside_301 post J x y e (nI i) (nI j) cap cnt fn hx hy sx sy ox oy := by
  unfold wX_inside_301
  rw [nI_clamp (show i < 2 ^ 31 by omega), nI_clamp (show j < 2 ^ 31 by omega), nI_1]
  exact ⟨vp_in_nI hi (by omega), vp_in_nI hi (by omega), vp_in_nI hj (by omega), vp_in_nI hj (by omega), hu_xc (hu_L_3 hb (fun h => nm_e (f h)) (fun h => nm_e (g h)) k)⟩
theorem hu_y290 {post : Int32 → Prop} {J : Int32 → Int32 → Prop} {x y e cap cnt fn : Int32} {hx hy sx sy ox oy : Nat → Int32} {i j : Nat} (hi : i < 65) (hj : j < 65) (hb : hu_b (hu_cr (hu_pt hx hy i) (hu_pt hx hy j) (x.toInt, y.toInt)))
    (f : hu_cr (hu_pt hx hy i) (hu_pt hx hy j) (x.toInt, y.toInt) = 0 → J 1 (nI (i + 1)))
    (g : 0 < hu_cr (hu_pt hx hy i) (hu_pt hx hy j) (x.toInt, y.toInt) → J e (nI (i + 1)))
    (k : hu_cr (hu_pt hx hy i) (hu_pt hx hy j) (x.toInt, y.toInt) < 0 → post 0) : wY_inside_290 post J x y e (nI i) (nI j) cap fn cnt hx hy sx sy ox oy := by
  unfold wY_inside_290
  rw [nI_clamp (show i < 2 ^ 31 by omega), nI_clamp (show j < 2 ^ 31 by omega), nI_1]
  exact ⟨vp_in_nI hi (by omega), vp_in_nI hi (by omega), vp_in_nI hj (by omega), vp_in_nI hj (by omega), hu_yc (hu_I_3 hb (fun h => nm_e (f h)) (fun h => nm_e (g h)) k)⟩

theorem hu_in3 {n : Nat} {hx hy : Nat → Int32} {x y : Int32} (hn : n ≤ 64) (hr : ∀ i, i < n → hu_r (hu_pt hx hy i)) (hp : hu_r (x.toInt, y.toInt)) : ∀ (d i : Nat) (e : Int32), i + d = n → ∃ r : Int32, (r = 0 ∨ r = 1 ∨ r = 2) ∧
    (r = 0 → ∃ j, j < n ∧ hu_cr (hu_pt hx hy j) (hu_pt hx hy (hu_sc n j)) (x.toInt, y.toInt) < 0) ∧
    (∀ (post : Int32 → Prop) (cap cnt : Int32) (sx sy ox oy : Nat → Int32), post r → wX_inside_274 post x y cap cnt (nI n) hx hy sx sy ox oy (d + 1) e (nI i)) ∧
    (∀ (post : Int32 → Prop) (cap cnt : Int32) (sx sy ox oy : Nat → Int32), post r → wY_inside_262 post x y cap (nI n) cnt hx hy sx sy ox oy (d + 1) e (nI i)) := by
  intro d
  induction d with
  | zero =>
    intro i e hi
    have hle : nI n ≤ nI i := nI_le (by omega) (by omega)
    by_cases he : e = 0
    · refine ⟨2, Or.inr (Or.inr rfl), fun z => absurd z (by decide), fun post cap cnt sx sy ox oy hp => ?_, fun post cap cnt sx sy ox oy hp => ?_⟩
      · rw [wX_inside_274]; exact br_t hle (br_t he hp)
      · rw [wY_inside_262]; exact br_t hle (br_t he hp)
    · refine ⟨1, Or.inr (Or.inl rfl), fun z => absurd z (by decide), fun post cap cnt sx sy ox oy hp => ?_, fun post cap cnt sx sy ox oy hp => ?_⟩
      · rw [wX_inside_274]; exact br_t hle (br_f he hp)
      · rw [wY_inside_262]; exact br_t hle (br_f he hp)
  | succ d ih =>
    intro i e hi
    have hin : i < n := by omega
    have hsc := hu_scl hin
    have hnle : ¬ nI n ≤ nI i := nI_ge hin (by omega)
    have hb : hu_b (hu_cr (hu_pt hx hy i) (hu_pt hx hy (hu_sc n i)) (x.toInt, y.toInt)) := hu_crb (hr i hin) (hr _ hsc) hp
    have key : ∃ r : Int32, (r = 0 ∨ r = 1 ∨ r = 2) ∧
        (r = 0 → ∃ j, j < n ∧ hu_cr (hu_pt hx hy j) (hu_pt hx hy (hu_sc n j)) (x.toInt, y.toInt) < 0) ∧
        (∀ (post : Int32 → Prop) (cap cnt : Int32) (sx sy ox oy : Nat → Int32), post r → wX_inside_301 post (wX_inside_274 post x y cap cnt (nI n) hx hy sx sy ox oy (d + 1)) x y e (nI i) (nI (hu_sc n i)) cap cnt (nI n) hx hy sx sy ox oy) ∧
        (∀ (post : Int32 → Prop) (cap cnt : Int32) (sx sy ox oy : Nat → Int32), post r → wY_inside_290 post (wY_inside_262 post x y cap (nI n) cnt hx hy sx sy ox oy (d + 1)) x y e (nI i) (nI (hu_sc n i)) cap (nI n) cnt hx hy sx sy ox oy) := by
      rcases Int.lt_trichotomy (hu_cr (hu_pt hx hy i) (hu_pt hx hy (hu_sc n i)) (x.toInt, y.toInt)) 0 with hv | hv | hv
      · refine ⟨0, Or.inl rfl, fun _ => ⟨i, hin, hv⟩, fun post cap cnt sx sy ox oy hp => ?_, fun post cap cnt sx sy ox oy hp => ?_⟩
        · exact hu_x301 (by omega) (by omega) hb (fun z => by omega) (fun z => by omega) (fun _ => hp)
        · exact hu_y290 (by omega) (by omega) hb (fun z => by omega) (fun z => by omega) (fun _ => hp)
      · obtain ⟨r, h1, h2, h3, h4⟩ := ih (i + 1) 1 (by omega)
        refine ⟨r, h1, h2, fun post cap cnt sx sy ox oy hp => ?_, fun post cap cnt sx sy ox oy hp => ?_⟩
        · exact hu_x301 (by omega) (by omega) hb (fun z => h3 post cap cnt sx sy ox oy hp) (fun z => by omega) (fun z => by omega)
        · exact hu_y290 (by omega) (by omega) hb (fun z => h4 post cap cnt sx sy ox oy hp) (fun z => by omega) (fun z => by omega)
      · obtain ⟨r, h1, h2, h3, h4⟩ := ih (i + 1) e (by omega)
        refine ⟨r, h1, h2, fun post cap cnt sx sy ox oy hp => ?_, fun post cap cnt sx sy ox oy hp => ?_⟩
        · exact hu_x301 (by omega) (by omega) hb (fun z => by omega) (fun z => h3 post cap cnt sx sy ox oy hp) (fun z => by omega)
        · exact hu_y290 (by omega) (by omega) hb (fun z => by omega) (fun z => h4 post cap cnt sx sy ox oy hp) (fun z => by omega)
    obtain ⟨r, h1, h2, h3, h4⟩ := key
    refine ⟨r, h1, h2, fun post cap cnt sx sy ox oy hp => ?_, fun post cap cnt sx sy ox oy hp => ?_⟩
    · have k := h3 post cap cnt sx sy ox oy hp
      rw [wX_inside_274]
      refine br_f hnle (nm_r (nI_1 i) ?_)
      by_cases e1 : i + 1 = n
      · have e2 : hu_sc n i = 0 := if_pos e1
        rw [e2] at k
        exact br_t (congrArg nI e1) k
      · have e2 : hu_sc n i = i + 1 := if_neg e1
        rw [e2] at k
        exact br_f (fun z => e1 ((nI_eq (by omega) (by omega)).mp z)) k
    · have k := h4 post cap cnt sx sy ox oy hp
      rw [wY_inside_262]
      dsimp only
      rw [nI_1]
      refine br_f hnle ?_
      by_cases e1 : i + 1 = n
      · have e2 : hu_sc n i = 0 := if_pos e1
        rw [e2] at k
        exact br_t (congrArg nI e1) k
      · have e2 : hu_sc n i = i + 1 := if_neg e1
        rw [e2] at k
        exact br_f (fun z => e1 ((nI_eq (by omega) (by omega)).mp z)) k

/-! two corners: the box -/
def hu_mx (a b : Int32) : Int32 := if b ≤ a then a else b
def hu_mn (a b : Int32) : Int32 := if b ≤ a then b else a
theorem hu_bmx {P : Int32 → Prop} {a b : Int32} (h : P (hu_mx a b)) : (b ≤ a → P a) ∧ (¬ b ≤ a → P b) := by
  unfold hu_mx at h
  constructor
  · intro z; rw [if_pos z] at h; exact h
  · intro z; rw [if_neg z] at h; exact h
theorem hu_bmn {P : Int32 → Prop} {a b : Int32} (h : P (hu_mn a b)) : (b ≤ a → P b) ∧ (¬ b ≤ a → P a) := by
  unfold hu_mn at h
  constructor
  · intro z; rw [if_pos z] at h; exact h
  · intro z; rw [if_neg z] at h; exact h
def hu_bx (lx ux ly uy x y : Int32) : Prop := ¬ x < lx ∧ ¬ ux < x ∧ ¬ y < ly ∧ ¬ uy < y
theorem hu_x240 {post : Int32 → Prop} {x y lx ux ly uy cap cnt fn : Int32} {hx hy sx sy ox oy : Nat → Int32} (f : hu_bx lx ux ly uy x y → post 1) (g : ¬ hu_bx lx ux ly uy x y → post 0) : wX_inside_240 post x y lx ux ly uy cap cnt fn hx hy sx sy ox oy := by
  unfold wX_inside_240
  exact br_c (fun h => g (fun z => z.1 h)) (fun h1 => br_c (fun h => g (fun z => z.2.1 h)) (fun h2 => br_c (fun h => g (fun z => z.2.2.1 h)) (fun h3 => br_c (fun h => f ⟨h1, h2, h3, Int32.not_lt.mpr h⟩) (fun h => g (fun z => h (Int32.not_lt.mp z.2.2.2))))))
theorem hu_y226 {post : Int32 → Prop} {x y lx ux ly uy cap cnt fn : Int32} {hx hy sx sy ox oy : Nat → Int32} (f : hu_bx lx ux ly uy x y → post 1) (g : ¬ hu_bx lx ux ly uy x y → post 0) : wY_inside_226 post x y lx ux ly uy cap cnt fn hx hy sx sy ox oy := by
  unfold wY_inside_226
  exact br_c (fun h => g (fun z => z.1 h)) (fun h1 => br_c (fun h => g (fun z => z.2.1 h)) (fun h2 => br_c (fun h => g (fun z => z.2.2.1 h)) (fun h3 => br_c (fun h => g (fun z => z.2.2.2 h)) (fun h => f ⟨h1, h2, h3, h⟩))))
def hu_bb (hx hy : Nat → Int32) (x y : Int32) : Prop := hu_bx (hu_mn (hx 0) (hx 1)) (hu_mx (hx 0) (hx 1)) (hu_mn (hy 0) (hy 1)) (hu_mx (hy 0) (hy 1)) x y
theorem hu_x145 {post : Int32 → Prop} {x y cap cnt fn : Int32} {hx hy sx sy ox oy : Nat → Int32} (f : hu_bb hx hy x y → post 1) (g : ¬ hu_bb hx hy x y → post 0) : wX_inside_145 post x y (hu_mn (hx 0) (hx 1)) cap cnt fn hx hy sx sy ox oy := by
  unfold wX_inside_145
  refine hu_bmx (P := fun z => wX_inside_176 post x y (hu_mn (hx 0) (hx 1)) z cap cnt fn hx hy sx sy ox oy) ?_
  show wX_inside_176 _ _ _ _ _ _ _ _ _ _ _ _ _ _
  unfold wX_inside_176
  refine hu_bmn (P := fun z => wX_inside_208 post x y (hu_mn (hx 0) (hx 1)) (hu_mx (hx 0) (hx 1)) z cap cnt fn hx hy sx sy ox oy) ?_
  show wX_inside_208 _ _ _ _ _ _ _ _ _ _ _ _ _ _ _
  unfold wX_inside_208
  exact hu_bmx (P := fun z => wX_inside_240 post x y (hu_mn (hx 0) (hx 1)) (hu_mx (hx 0) (hx 1)) (hu_mn (hy 0) (hy 1)) z cap cnt fn hx hy sx sy ox oy) (hu_x240 f g)
theorem hu_y131 {post : Int32 → Prop} {x y cap cnt fn : Int32} {hx hy sx sy ox oy : Nat → Int32} (f : hu_bb hx hy x y → post 1) (g : ¬ hu_bb hx hy x y → post 0) : wY_inside_131 post x y (hu_mn (hx 0) (hx 1)) cap cnt fn hx hy sx sy ox oy := by
  unfold wY_inside_131
  refine hu_bmx (P := fun z => wY_inside_162 post x y (hu_mn (hx 0) (hx 1)) z cap cnt fn hx hy sx sy ox oy) ?_
  show wY_inside_162 _ _ _ _ _ _ _ _ _ _ _ _ _ _
  unfold wY_inside_162
  refine hu_bmn (P := fun z => wY_inside_194 post x y (hu_mn (hx 0) (hx 1)) (hu_mx (hx 0) (hx 1)) z cap cnt fn hx hy sx sy ox oy) ?_
  show wY_inside_194 _ _ _ _ _ _ _ _ _ _ _ _ _ _ _
  unfold wY_inside_194
  exact hu_bmx (P := fun z => wY_inside_226 post x y (hu_mn (hx 0) (hx 1)) (hu_mx (hx 0) (hx 1)) (hu_mn (hy 0) (hy 1)) z cap cnt fn hx hy sx sy ox oy) (hu_y226 f g)
theorem hu_mnl {a b : Int32} : ¬ a < hu_mn a b ∧ ¬ b < hu_mn a b := by
  unfold hu_mn
  split
  · rename_i h
    rw [Int32.lt_iff_toInt_lt, Int32.lt_iff_toInt_lt]
    rw [Int32.le_iff_toInt_le] at h
    omega
  · rename_i h
    rw [Int32.lt_iff_toInt_lt, Int32.lt_iff_toInt_lt]
    rw [Int32.le_iff_toInt_le] at h
    omega
theorem hu_mxl {a b : Int32} : ¬ hu_mx a b < a ∧ ¬ hu_mx a b < b := by
  unfold hu_mx
  split
  · rename_i h
    rw [Int32.lt_iff_toInt_lt, Int32.lt_iff_toInt_lt]
    rw [Int32.le_iff_toInt_le] at h
    omega
  · rename_i h
    rw [Int32.lt_iff_toInt_lt, Int32.lt_iff_toInt_lt]
    rw [Int32.le_iff_toInt_le] at h
    omega

/-- what inside answers, for a point in range -/
def hu_Ans (n : Nat) (hx hy : Nat → Int32) (x y r : Int32) : Prop :=
  (r = 0 ∨ r = 1 ∨ r = 2) ∧ (r = 0 → ∀ i, i < n → hu_pt hx hy i ≠ (x.toInt, y.toInt)) ∧
  (∀ (post : Int32 → Prop) (cap cnt : Int32) (sx sy ox oy : Nat → Int32), post r → wpX_inside post (cap, cnt, nI n, hx, hy, sx, sy, ox, oy) x y) ∧
  (∀ (post : Int32 → Prop) (cap cnt : Int32) (sx sy ox oy : Nat → Int32), post r → wpY_inside post (cap, nI n, cnt, hx, hy, sx, sy, ox, oy) x y)
theorem hu_in {cap n : Nat} {hx hy : Nat → Int32} {x y : Int32} (hG : hu_G cap n hx hy) (ox : hu_ok x) (oy : hu_ok y) : ∃ r : Int32, hu_Ans n hx hy x y r := by
  obtain ⟨g1, g2, g3, g4, g5⟩ := hG
  have hp : hu_r (x.toInt, y.toInt) := ⟨ox.1, ox.2, oy.1, oy.2⟩
  have hxy : ∀ i, hu_pt hx hy i = (x.toInt, y.toInt) → x = hx i ∧ y = hy i := by
    intro i h
    have h1 : (hx i).toInt = x.toInt := congrArg Prod.fst h
    have h2 : (hy i).toInt = y.toInt := congrArg Prod.snd h
    exact ⟨(Int32.toInt_inj.mp h1).symm, (Int32.toInt_inj.mp h2).symm⟩
  -- a walk past the range tests
  have key : ∀ r : Int32, (r = 0 ∨ r = 1 ∨ r = 2) → (r = 0 → ∀ i, i < n → hu_pt hx hy i ≠ (x.toInt, y.toInt)) →
      (∀ (post : Int32 → Prop) (cap cnt : Int32) (sx sy ox oy : Nat → Int32), post r → ((nI n = 0 → (post 0)) ∧ (¬ nI n = 0 → (((nI n = 1 → (((x = (hx 0) → (((y = (hy 0) → (post 1)) ∧ (¬ y = (hy 0) → (post 0))))) ∧ (¬ x = (hx 0) → (post 0))))) ∧ (¬ nI n = 1 → (((nI n = 2 → (wpX_cross (fun r_21 => (((r_21 = 0 → ((((hx 1) ≤ (hx 0) → (wX_inside_145 post x y (hx 1) cap cnt (nI n) hx hy sx sy ox oy)) ∧ (¬ (hx 1) ≤ (hx 0) → (wX_inside_145 post x y (hx 0) cap cnt (nI n) hx hy sx sy ox oy))))) ∧ (¬ r_21 = 0 → (post 0))))) (hx 0) (hy 0) (hx 1) (hy 1) x y)) ∧ (¬ nI n = 2 → (∃ n274 : Nat, wX_inside_274 post x y cap cnt (nI n) hx hy sx sy ox oy n274 0 0)))))))))) →
      (∀ (post : Int32 → Prop) (cap cnt : Int32) (sx sy ox oy : Nat → Int32), post r → ((nI n = 0 → (post 0)) ∧ (¬ nI n = 0 → (((nI n = 1 → (((x = (hx 0) → (((y = (hy 0) → (post 1)) ∧ (¬ y = (hy 0) → (post 0))))) ∧ (¬ x = (hx 0) → (post 0))))) ∧ (¬ nI n = 1 → (((nI n = 2 → (wpY_cross (fun r_21 => (((r_21 = 0 → ((((hx 1) ≤ (hx 0) → (wY_inside_131 post x y (hx 1) cap (nI n) cnt hx hy sx sy ox oy)) ∧ (¬ (hx 1) ≤ (hx 0) → (wY_inside_131 post x y (hx 0) cap (nI n) cnt hx hy sx sy ox oy))))) ∧ (¬ r_21 = 0 → (post 0))))) (hx 0) (hy 0) (hx 1) (hy 1) x y)) ∧ (¬ nI n = 2 → (∃ n262 : Nat, wY_inside_262 post x y cap (nI n) cnt hx hy sx sy ox oy n262 0 0)))))))))) →
      hu_Ans n hx hy x y r := by
    intro r a b c d
    refine ⟨a, b, fun post cap cnt sx sy ox' oy' hp => ?_, fun post cap cnt sx sy ox' oy' hp => ?_⟩
    · exact hu_xr (fun _ _ => c post cap cnt sx sy ox' oy' hp) (fun z => absurd ⟨ox, oy⟩ z)
    · exact hu_yr (fun _ _ => d post cap cnt sx sy ox' oy' hp) (fun z => absurd ⟨ox, oy⟩ z)
  by_cases n0 : n = 0
  · subst n0
    refine ⟨0, key 0 (Or.inl rfl) (fun _ i hi => absurd hi (by omega)) (fun post cap cnt sx sy ox oy hp => br_t rfl hp) (fun post cap cnt sx sy ox oy hp => br_t rfl hp)⟩
  have z0 : ¬ nI n = 0 := nI_ne0 (by omega) (by omega)
  by_cases n1 : n = 1
  · subst n1
    by_cases e : x = hx 0
    · by_cases e2 : y = hy 0
      · exact ⟨1, key 1 (Or.inr (Or.inl rfl)) (fun z => absurd z (by decide)) (fun post cap cnt sx sy ox oy hp => br_f z0 (br_t rfl (br_t e (br_t e2 hp)))) (fun post cap cnt sx sy ox oy hp => br_f z0 (br_t rfl (br_t e (br_t e2 hp))))⟩
      · refine ⟨0, key 0 (Or.inl rfl) (fun _ i hi h => ?_) (fun post cap cnt sx sy ox oy hp => br_f z0 (br_t rfl (br_t e (br_f e2 hp)))) (fun post cap cnt sx sy ox oy hp => br_f z0 (br_t rfl (br_t e (br_f e2 hp))))⟩
        have : i = 0 := by omega
        subst this
        exact e2 (hxy 0 h).2
    · refine ⟨0, key 0 (Or.inl rfl) (fun _ i hi h => ?_) (fun post cap cnt sx sy ox oy hp => br_f z0 (br_t rfl (br_f e hp))) (fun post cap cnt sx sy ox oy hp => br_f z0 (br_t rfl (br_f e hp)))⟩
      have : i = 0 := by omega
      subst this
      exact e (hxy 0 h).1
  have z1 : ¬ nI n = 1 := fun z => n1 ((nI_eq (b := 1) (by omega) (by omega)).mp z)
  by_cases n2 : n = 2
  · subst n2
    have hb : hu_b (hu_cr (hu_pt hx hy 0) (hu_pt hx hy 1) (x.toInt, y.toInt)) := hu_crb (g3 0 (by omega)) (g3 1 (by omega)) hp
    by_cases hv : hu_cr (hu_pt hx hy 0) (hu_pt hx hy 1) (x.toInt, y.toInt) = 0
    · by_cases hbb : hu_bb hx hy x y
      · refine ⟨1, key 1 (Or.inr (Or.inl rfl)) (fun z => absurd z (by decide)) (fun post cap cnt sx sy ox oy hp => br_f z0 (br_f z1 (br_t rfl ?_))) (fun post cap cnt sx sy ox oy hp => br_f z0 (br_f z1 (br_t rfl ?_)))⟩
        · exact hu_xc (hu_L_eq hb (fun _ => hu_bmn (P := fun z => wX_inside_145 post x y z cap cnt (nI 2) hx hy sx sy ox oy) (hu_x145 (fun _ => hp) (fun z => absurd hbb z))) (fun z => absurd hv z))
        · exact hu_yc (hu_I_eq hb (fun _ => hu_bmn (P := fun z => wY_inside_131 post x y z cap (nI 2) cnt hx hy sx sy ox oy) (hu_y131 (fun _ => hp) (fun z => absurd hbb z))) (fun z => absurd hv z))
      · refine ⟨0, key 0 (Or.inl rfl) (fun _ i hi h => ?_) (fun post cap cnt sx sy ox oy hp => br_f z0 (br_f z1 (br_t rfl ?_))) (fun post cap cnt sx sy ox oy hp => br_f z0 (br_f z1 (br_t rfl ?_)))⟩
        · obtain ⟨e1, e2⟩ := hxy i h
          apply hbb
          unfold hu_bb hu_bx
          have c : i = 0 ∨ i = 1 := by omega
          rcases c with c | c
          · subst c; rw [e1, e2]; exact ⟨hu_mnl.1, hu_mxl.1, hu_mnl.1, hu_mxl.1⟩
          · subst c; rw [e1, e2]; exact ⟨hu_mnl.2, hu_mxl.2, hu_mnl.2, hu_mxl.2⟩
        · exact hu_xc (hu_L_eq hb (fun _ => hu_bmn (P := fun z => wX_inside_145 post x y z cap cnt (nI 2) hx hy sx sy ox oy) (hu_x145 (fun z => absurd z hbb) (fun _ => hp))) (fun z => absurd hv z))
        · exact hu_yc (hu_I_eq hb (fun _ => hu_bmn (P := fun z => wY_inside_131 post x y z cap (nI 2) cnt hx hy sx sy ox oy) (hu_y131 (fun z => absurd z hbb) (fun _ => hp))) (fun z => absurd hv z))
    · refine ⟨0, key 0 (Or.inl rfl) (fun _ i hi h => ?_) (fun post cap cnt sx sy ox oy hp => br_f z0 (br_f z1 (br_t rfl ?_))) (fun post cap cnt sx sy ox oy hp => br_f z0 (br_f z1 (br_t rfl ?_)))⟩
      · apply hv
        rw [← h]
        have c : i = 0 ∨ i = 1 := by omega
        rcases c with c | c
        · subst c; exact hu_same1 _ _
        · subst c; exact hu_same _ _
      · exact hu_xc (hu_L_eq hb (fun z => absurd z hv) (fun _ => hp))
      · exact hu_yc (hu_I_eq hb (fun z => absurd z hv) (fun _ => hp))
  have z2 : ¬ nI n = 2 := fun z => n2 ((nI_eq (b := 2) (by omega) (by omega)).mp z)
  obtain ⟨r, h1, h2, h3, h4⟩ := hu_in3 (by omega) g3 hp n 0 0 (by omega)
  refine ⟨r, key r h1 (fun hr i hi h => ?_) (fun post cap cnt sx sy ox oy hp => br_f z0 (br_f z1 (br_f z2 ⟨_, h3 post cap cnt sx sy ox oy hp⟩))) (fun post cap cnt sx sy ox oy hp => br_f z0 (br_f z1 (br_f z2 ⟨_, h4 post cap cnt sx sy ox oy hp⟩)))⟩
  obtain ⟨j, hj, hc⟩ := h2 hr
  rw [← h] at hc
  have := g5 j i hj hi
  omega

/-! twiceArea -/
theorem hu_area {n : Nat} {hx hy : Nat → Int32} (hn : n ≤ 64) (hr : ∀ i, i < n → hu_r (hu_pt hx hy i)) (hc : ∀ i j, i < n → j < n → 0 ≤ hu_cr (hu_pt hx hy i) (hu_pt hx hy (hu_sc n i)) (hu_pt hx hy j)) : ∀ (d i : Nat) (S : Int), i + 1 + d = n → 0 ≤ S → S ≤ i * 2147221512 → ∃ r : Int32,
    (∀ (post : Int32 → Prop) (cap cnt : Int32) (sx sy ox oy : Nat → Int32), post r → wX_twiceArea_14 post cap cnt (nI n) hx hy sx sy ox oy (d + 1) (Int64.ofInt S) (nI i)) ∧
    (∀ (post : Int32 → Prop) (cap cnt : Int32) (sx sy ox oy : Nat → Int32), post r → wY_twiceArea_4 post cap (nI n) cnt hx hy sx sy ox oy (d + 1) (Int32.ofInt S) (nI i)) := by
  intro d
  induction d with
  | zero =>
    intro i S hi h0 hS
    have hle : nI n ≤ nI (i + 1) := nI_le (by omega) (by omega)
    refine ⟨Int32.ofInt S, fun post cap cnt sx sy ox oy hp => ?_, fun post cap cnt sx sy ox oy hp => ?_⟩
    · rw [wX_twiceArea_14]
      dsimp only
      rw [nI_1]
      have hb : (0 : Int64) ≤ Int64.ofInt S := by
        rw [Int64.le_iff_toInt_le, Int64.toInt_ofInt_of_le (by omega) (by omega), Int64.toInt_zero]
        exact h0
      refine br_t hle (br_t hb ?_)
      rw [Int64.toInt32_ofInt]
      exact hp
    · rw [wY_twiceArea_4]
      dsimp only
      rw [nI_1]
      exact br_t hle hp
  | succ d ih =>
    intro i S hi h0 hS
    have hnle : ¬ nI n ≤ nI (i + 1) := nI_ge (by omega) (by omega)
    have hb := hu_crb (hr 0 (by omega)) (hr i (by omega)) (hr (i + 1) (by omega))
    have hp : 0 ≤ hu_cr (hu_pt hx hy 0) (hu_pt hx hy i) (hu_pt hx hy (i + 1)) := by
      have k := hc i 0 (by omega) (by omega)
      have e : hu_sc n i = i + 1 := if_neg (by omega)
      rw [e, hu_cyc] at k
      exact k
    obtain ⟨r, h1, h2⟩ := ih (i + 1) (S + hu_cr (hu_pt hx hy 0) (hu_pt hx hy i) (hu_pt hx hy (i + 1))) (by omega) (by omega) (by omega)
    refine ⟨r, fun post cap cnt sx sy ox oy hp => ?_, fun post cap cnt sx sy ox oy hp => ?_⟩
    · rw [wX_twiceArea_14]
      dsimp only
      rw [nI_1, nI_clamp (show i < 2 ^ 31 by omega), nI_clamp (show i + 1 < 2 ^ 31 by omega)]
      have k := h1 post cap cnt sx sy ox oy hp
      rw [Int64.ofInt_add] at k
      exact br_f hnle ⟨vp_in_nI (by omega) (by omega), vp_in_nI (by omega) (by omega), vp_in_nI (by omega) (by omega), vp_in_nI (by omega) (by omega), hu_xc (nm_e (nm_e k))⟩
    · rw [wY_twiceArea_4]
      dsimp only
      rw [nI_1, nI_clamp (show i < 2 ^ 31 by omega), nI_clamp (show i + 1 < 2 ^ 31 by omega)]
      have k := h2 post cap cnt sx sy ox oy hp
      rw [Int32.ofInt_add] at k
      exact br_f hnle ⟨vp_in_nI (by omega) (by omega), vp_in_nI (by omega) (by omega), vp_in_nI (by omega) (by omega), vp_in_nI (by omega) (by omega), hu_yc (nm_e (nm_e k))⟩
end
section
/-! X's insertion sort -/
def hu_SI (N i : Nat) (T s : Nat → Int × Int) : Prop :=
  (∀ l, l < N → ∃ k, k < N ∧ T k = s l) ∧ (∀ k, k < N → ∃ l, l < N ∧ s l = T k) ∧
  (∀ l l', l < l' → l' < i → hu_f 65536 1 (s l) < hu_f 65536 1 (s l')) ∧ (∀ l l', l < l' → l' < N → s l ≠ s l')
def hu_sg (h i l : Nat) : Nat := if l < h then l else if l = h then i else if l ≤ i then l - 1 else l
def hu_si (h i : Nat) (a : Nat → Int32) : Nat → Int32 := fun l => a (hu_sg h i l)
def hu_sh (h i : Nat) (a : Nat → Int32) : Nat → Int32 := fun l => a (if l ≤ h then l else if l ≤ i then l - 1 else l)

theorem hu_sh_i {a : Nat → Int32} {i : Nat} : hu_sh i i a = a := by
  funext l
  unfold hu_sh
  by_cases c : l ≤ i
  · rw [if_pos c]
  · rw [if_neg c, if_neg c]
theorem hu_sh_s {a : Nat → Int32} {h i : Nat} (hi : h < i) : upd (hu_sh (h + 1) i a) (h + 1) (a h) = hu_sh h i a := by
  funext l
  by_cases e : l = h + 1
  · subst e
    rw [pk_us]
    unfold hu_sh
    rw [if_neg (by omega), if_pos (by omega)]
    rfl
  · rw [pk_un e]
    unfold hu_sh
    by_cases c : l ≤ h
    · rw [if_pos (by omega), if_pos c]
    · rw [if_neg (by omega), if_neg c]
theorem hu_sh_f {a : Nat → Int32} {h i : Nat} (hi : h ≤ i) : upd (hu_sh h i a) h (a i) = hu_si h i a := by
  funext l
  by_cases e : l = h
  · subst e
    rw [pk_us]
    unfold hu_si hu_sg
    rw [if_neg (by omega), if_pos rfl]
  · rw [pk_un e]
    unfold hu_sh hu_si hu_sg
    by_cases c : l < h
    · rw [if_pos (by omega), if_pos c]
    · rw [if_neg (by omega), if_neg c, if_neg e]
theorem hu_sh_h {a : Nat → Int32} {h i l : Nat} (hl : l ≤ h) : hu_sh h i a l = a l := by
  unfold hu_sh
  rw [if_pos hl]

theorem hu_insert {N i h : Nat} {T s : Nat → Int × Int} (H : hu_SI N i T s) (hi : i < N) (hh : h ≤ i) (hr : ∀ k, k < N → hu_r (T k)) (h1 : ∀ l, h ≤ l → l < i → hu_f 65536 1 (s i) < hu_f 65536 1 (s l)) (h2 : h = 0 ∨ hu_f 65536 1 (s (h - 1)) ≤ hu_f 65536 1 (s i)) : hu_SI N (i + 1) T (fun l => s (hu_sg h i l)) := by
  obtain ⟨a, b, c, d⟩ := H
  have hrs : ∀ l, l < N → hu_r (s l) := by
    intro l hl
    obtain ⟨k, hk, e⟩ := a l hl
    rw [← e]; exact hr k hk
  have hlow : ∀ l, l < h → hu_f 65536 1 (s l) < hu_f 65536 1 (s i) := by
    intro l hl
    have k1 : hu_f 65536 1 (s l) ≤ hu_f 65536 1 (s (h - 1)) := by
      by_cases e : l = h - 1
      · rw [e]; omega
      · exact Int.le_of_lt (c l (h - 1) (by omega) (by omega))
    have k2 : hu_f 65536 1 (s l) ≠ hu_f 65536 1 (s i) := fun z => d l i (by omega) hi (hu_finj (hrs l (by omega)) (hrs i hi) z)
    rcases h2 with h2 | h2 <;> omega
  have hd : ∀ l l', l ≠ l' → l < N → l' < N → s l ≠ s l' := by
    intro l l' hn hl hl'
    rcases Nat.lt_or_ge l l' with z | z
    · exact d l l' z hl'
    · exact fun e => d l' l (by omega) hl e.symm
  refine ⟨?_, ?_, ?_, ?_⟩
  · intro l hl
    exact a _ (by unfold hu_sg; (repeat' split) <;> omega)
  · intro k hk
    obtain ⟨l, hl, e⟩ := b k hk
    rw [← e]
    by_cases c1 : l < h
    · exact ⟨l, hl, by show s (hu_sg h i l) = _; unfold hu_sg; rw [if_pos c1]⟩
    · by_cases c2 : l < i
      · refine ⟨l + 1, by omega, ?_⟩
        show s (hu_sg h i (l + 1)) = _
        unfold hu_sg
        rw [if_neg (by omega), if_neg (by omega), if_pos (by omega)]
        rfl
      · by_cases c3 : l = i
        · refine ⟨h, by omega, ?_⟩
          show s (hu_sg h i h) = _
          unfold hu_sg
          rw [if_neg (by omega), if_pos rfl, c3]
        · refine ⟨l, hl, ?_⟩
          show s (hu_sg h i l) = _
          unfold hu_sg
          rw [if_neg (by omega), if_neg (by omega), if_neg (by omega)]
  · intro l l' hl hl'
    show hu_f 65536 1 (s (hu_sg h i l)) < hu_f 65536 1 (s (hu_sg h i l'))
    by_cases c1 : l' < h
    · have e1 : hu_sg h i l = l := if_pos (by omega)
      have e2 : hu_sg h i l' = l' := if_pos c1
      rw [e1, e2]; exact c l l' hl (by omega)
    · by_cases c2 : l' = h
      · have e1 : hu_sg h i l = l := if_pos (by omega)
        have e2 : hu_sg h i l' = i := by unfold hu_sg; rw [if_neg c1, if_pos c2]
        rw [e1, e2]; exact hlow l (by omega)
      · have e2 : hu_sg h i l' = l' - 1 := by unfold hu_sg; rw [if_neg c1, if_neg c2, if_pos (by omega)]
        rw [e2]
        by_cases c3 : l < h
        · have e1 : hu_sg h i l = l := if_pos c3
          rw [e1]; exact c l (l' - 1) (by omega) (by omega)
        · by_cases c4 : l = h
          · have e1 : hu_sg h i l = i := by unfold hu_sg; rw [if_neg c3, if_pos c4]
            rw [e1]; exact h1 (l' - 1) (by omega) (by omega)
          · have e1 : hu_sg h i l = l - 1 := by unfold hu_sg; rw [if_neg c3, if_neg c4, if_pos (by omega)]
            rw [e1]; exact c (l - 1) (l' - 1) (by omega) (by omega)
  · intro l l' hl hl'
    apply hd
    · unfold hu_sg; (repeat' split) <;> omega
    · unfold hu_sg; (repeat' split) <;> omega
    · unfold hu_sg; (repeat' split) <;> omega

section
variable {post : Int32 → SX → Prop} {x3 cap cnt fn : Int32} {hx hy sx sy ox oy : Nat → Int32}
theorem hx_236 {J : Int32 → (Nat → Int32) → (Nat → Int32) → (Nat → Int32) → (Nat → Int32) → (Nat → Int32) → (Nat → Int32) → Prop} {px py x7 : Int32} {i h : Nat} (hh : h < 66) (e : x7 + 1 = nI h) (k : J (nI (i + 1)) hx hy (upd sx h px) (upd sy h py) ox oy) : wX_add_236 post J x3 (nI i) px py x7 cap cnt fn hx hy sx sy ox oy := by
  unfold wX_add_236
  rw [e, nI_clamp (show h < 2 ^ 31 by omega), nI_1]
  exact ⟨vp_in_nI hh (by omega), nm_e ⟨vp_in_nI hh (by omega), nm_e (nm_e k)⟩⟩
theorem hx_198 {J J' : Int32 → (Nat → Int32) → (Nat → Int32) → (Nat → Int32) → (Nat → Int32) → (Nat → Int32) → (Nat → Int32) → Prop} {x4 px py : Int32} {h : Nat} (hh : h + 1 < 66) (k : J' (nI h - 1) hx hy (upd sx (h + 1) (sx h)) (upd sy (h + 1) (sy h)) ox oy) : wX_add_198 post J J' x3 x4 px py (nI h) cap cnt fn hx hy sx sy ox oy := by
  unfold wX_add_198
  rw [nI_1, nI_clamp (show h < 2 ^ 31 by omega), nI_clamp (show h + 1 < 2 ^ 31 by omega)]
  exact ⟨vp_in_nI (by omega) (by omega), vp_in_nI hh (by omega), nm_e ⟨vp_in_nI (by omega) (by omega), vp_in_nI hh (by omega), nm_e (nm_r (Int32.sub_eq_add_neg _ _).symm k)⟩⟩
theorem hx_157 {J : Int32 → (Nat → Int32) → (Nat → Int32) → (Nat → Int32) → (Nat → Int32) → (Nat → Int32) → (Nat → Int32) → Prop} {i : Nat} (hi : i < 66) (hr : ∀ l, l ≤ i → hu_r (hu_pt sx sy l))
    (K : ∀ h, h ≤ i → (∀ l, h ≤ l → l < i → hu_f 65536 1 (hu_pt sx sy i) < hu_f 65536 1 (hu_pt sx sy l)) → (h = 0 ∨ hu_f 65536 1 (hu_pt sx sy (h - 1)) ≤ hu_f 65536 1 (hu_pt sx sy i)) → J (nI (i + 1)) hx hy (hu_si h i sx) (hu_si h i sy) ox oy) :
    ∀ (h n : Nat), h ≤ i → h < n → (∀ l, h ≤ l → l < i → hu_f 65536 1 (hu_pt sx sy i) < hu_f 65536 1 (hu_pt sx sy l)) → wX_add_157 post J x3 (nI i) (sx i) (sy i) cap cnt fn n (nI h - 1) hx hy (hu_sh h i sx) (hu_sh h i sy) ox oy := by
  intro h
  induction h with
  | zero =>
    intro n h1 h2 h3
    obtain ⟨n, rfl⟩ : ∃ m, n = m + 1 := ⟨n - 1, by omega⟩
    rw [wX_add_157]
    refine br_t (by decide) (hx_236 (h := 0) (by omega) (by decide) ?_)
    rw [hu_sh_f h1, hu_sh_f h1]
    exact K 0 h1 h3 (Or.inl rfl)
  | succ h ih =>
    intro n h1 h2 h3
    obtain ⟨n, rfl⟩ : ∃ m, n = m + 1 := ⟨n - 1, by omega⟩
    have R1 := hr i (by omega)
    have R2 := hr h (by omega)
    have out : hu_f 65536 1 (hu_pt sx sy h) ≤ hu_f 65536 1 (hu_pt sx sy i) → wX_add_236 post J x3 (nI i) (sx i) (sy i) (nI h) cap cnt fn hx hy (hu_sh (h + 1) i sx) (hu_sh (h + 1) i sy) ox oy := by
      intro z
      refine hx_236 (h := h + 1) (by omega) (nI_1 h) ?_
      rw [hu_sh_f h1, hu_sh_f h1]
      exact K (h + 1) h1 h3 (Or.inr z)
    have go : hu_f 65536 1 (hu_pt sx sy i) < hu_f 65536 1 (hu_pt sx sy h) → wX_add_198 post J (wX_add_157 post J x3 (nI i) (sx i) (sy i) cap cnt fn n) x3 (nI i) (sx i) (sy i) (nI h) cap cnt fn hx hy (hu_sh (h + 1) i sx) (hu_sh (h + 1) i sy) ox oy := by
      intro z
      refine hx_198 (by omega) ?_
      rw [hu_sh_h (by omega), hu_sh_h (by omega), hu_sh_s (by omega), hu_sh_s (by omega)]
      refine ih n (by omega) (by omega) ?_
      intro l hl1 hl2
      by_cases e : l = h
      · rw [e]; exact z
      · exact h3 l (by omega) hl2
    obtain ⟨a1, a2, a3, a4⟩ := R1
    obtain ⟨b1, b2, b3, b4⟩ := R2
    rw [nI_pred, wX_add_157]
    dsimp only
    rw [nI_clamp (show h < 2 ^ 31 by omega), hu_sh_h (l := h) (by omega), hu_sh_h (l := h) (by omega)]
    have vin : vp_in (nI h) 66 := vp_in_nI (by omega) (by omega)
    unfold hu_f at out go
    unfold hu_pt at out go a1 a2 a3 a4 b1 b2 b3 b4
    dsimp only at out go a1 a2 a3 a4 b1 b2 b3 b4
    refine br_f (nI_pos (by omega)) ⟨vin, br_c (fun c => go ?_) (fun c => ⟨vin, br_c (fun c2 => ⟨vin, br_c (fun c3 => out ?_) (fun c3 => go ?_)⟩) (fun c2 => out ?_)⟩)⟩
    · rw [Int32.lt_iff_toInt_lt] at c; omega
    · rw [Int32.le_iff_toInt_le] at c3; rw [c2]; omega
    · rw [Int32.le_iff_toInt_le] at c3; rw [c2]; omega
    · rw [Int32.lt_iff_toInt_lt] at c
      have c4 : (sx h).toInt ≠ (sx i).toInt := fun z => c2 (Int32.toInt_inj.mp z)
      omega
end

section
variable {post : Int32 → SX → Prop} {cap cnt fn : Int32} {hx hy ox oy : Nat → Int32}
theorem hx_127 {N : Nat} {T : Nat → Int × Int} (hN : N ≤ 65) (hT : ∀ k, k < N → hu_r (T k))
    (K : ∀ sx sy : Nat → Int32, hu_SI N N T (hu_pt sx sy) → ((nI N = 1 → (∀ ox' : Nat → Int32, ox' = upd ox 0 (sx 0) → ∀ oy' : Nat → Int32, oy' = upd oy 0 (sy 0) → wX_add_548 post (nI N) 1 cap cnt fn hx hy sx sy ox' oy')) ∧ (¬ nI N = 1 → ∃ n305 : Nat, wX_add_305 post (nI N) cap cnt fn n305 0 0 hx hy sx sy ox oy))) :
    ∀ (d i : Nat) (sx sy : Nat → Int32), i + d = N → hu_SI N i T (hu_pt sx sy) → wX_add_127 post (nI N) cap cnt fn (d + 1) (nI i) hx hy sx sy ox oy := by
  intro d
  induction d with
  | zero =>
    intro i sx sy hi H
    have e : i = N := by omega
    subst e
    rw [wX_add_127]
    exact br_t (nI_le (by omega) (by omega)) (K sx sy H)
  | succ d ih =>
    intro i sx sy hi H
    rw [wX_add_127]
    dsimp only
    rw [nI_clamp (show i < 2 ^ 31 by omega)]
    have vin : vp_in (nI i) 66 := vp_in_nI (by omega) (by omega)
    refine br_f (nI_ge (by omega) (by omega)) ⟨vin, nm_e ⟨vin, nm_e (nm_e ⟨i + 1, ?_⟩)⟩⟩
    have k := @hx_157 post (nI N) cap cnt fn hx hy sx sy ox oy (wX_add_127 post (nI N) cap cnt fn (d + 1)) i (by omega) ?_ ?_ i (i + 1) (by omega) (by omega) (fun l h1 h2 => by omega)
    · rw [hu_sh_i, hu_sh_i] at k
      exact k
    · intro l hl
      obtain ⟨k, hk, e⟩ := H.1 l (by omega)
      rw [← e]; exact hT k hk
    · intro h h1 h2 h3
      exact ih (i + 1) _ _ (by omega) (hu_insert H (by omega) h1 hT h2 h3)
end
end
section
/-! X's two passes -/
theorem hu_ptu {ox oy : Nat → Int32} {k : Nat} {x y : Int32} : hu_pt (upd ox k x) (upd oy k y) k = (x.toInt, y.toInt) := by
  unfold hu_pt; rw [pk_us, pk_us]
theorem hu_ptn {ox oy : Nat → Int32} {k j : Nat} {x y : Int32} (h : j ≠ k) : hu_pt (upd ox k x) (upd oy k y) j = hu_pt ox oy j := by
  unfold hu_pt; rw [pk_un h, pk_un h]
theorem hu_m2 (t : Nat) : nI (t + 2) - 2 = nI t := by
  have h := pk_sub (a := t + 2) (b := 2) (by omega)
  exact h

section
variable {post : Int32 → SX → Prop} {x3 cap cnt fn : Int32} {hx hy sx sy ox oy : Nat → Int32}
variable {J : Int32 → Int32 → (Nat → Int32) → (Nat → Int32) → (Nat → Int32) → (Nat → Int32) → (Nat → Int32) → (Nat → Int32) → Prop}
theorem hx_381 {k i : Nat} (hk : k < 136) (hi : i < 66) (h : J (nI (k + 1)) (nI (i + 1)) hx hy sx sy (upd ox k (sx i)) (upd oy k (sy i))) : wX_add_381 post J x3 (nI k) (nI i) cap cnt fn hx hy sx sy ox oy := by
  unfold wX_add_381
  rw [nI_clamp (show k < 2 ^ 31 by omega), nI_clamp (show i < 2 ^ 31 by omega), nI_1, nI_1]
  exact ⟨vp_in_nI hi (by omega), vp_in_nI hk (by omega), nm_e ⟨vp_in_nI hi (by omega), vp_in_nI hk (by omega), nm_e (nm_e (nm_e h))⟩⟩
theorem hx_505 {x6 : Int32} {k i : Nat} (hk : k < 136) (hi : i < 66) (h : J (nI (k + 1)) (nI i - 1) hx hy sx sy (upd ox k (sx i)) (upd oy k (sy i))) : wX_add_505 post J x3 (nI k) x6 (nI i) cap cnt fn hx hy sx sy ox oy := by
  unfold wX_add_505
  rw [nI_clamp (show k < 2 ^ 31 by omega), nI_clamp (show i < 2 ^ 31 by omega), nI_1]
  exact ⟨vp_in_nI hi (by omega), vp_in_nI hk (by omega), nm_e ⟨vp_in_nI hi (by omega), vp_in_nI hk (by omega), nm_e (nm_e (nm_r (Int32.sub_eq_add_neg _ _).symm h))⟩⟩

theorem hx_311 {P : Int × Int → Prop} {i M : Nat} (hi : i < 66) (hM : M < 130) (hP : ∀ p, P p → hu_r p) (hs : hu_r (hu_pt sx sy i))
    (K : ∀ t, t ≤ M → hu_PI 65536 1 (hu_pt ox oy) 0 t P (hu_pt sx sy i) → (t = 0 ∨ ∃ t', t = t' + 1 ∧ 0 ≤ t' ∧ 0 < hu_cr (hu_pt ox oy t') (hu_pt ox oy t) (hu_pt sx sy i)) → J (nI (t + 2)) (nI (i + 1)) hx hy sx sy (upd ox (t + 1) (sx i)) (upd oy (t + 1) (sy i))) :
    ∀ t n : Nat, t ≤ M → t < n → hu_PI 65536 1 (hu_pt ox oy) 0 t P (hu_pt sx sy i) → wX_add_311 post J x3 (nI i) cap cnt fn hx hy sx sy ox oy n (nI (t + 1)) := by
  intro t
  induction t with
  | zero =>
    intro n h1 h2 H
    obtain ⟨n, rfl⟩ : ∃ m, n = m + 1 := ⟨n - 1, by omega⟩
    rw [wX_add_311]
    exact br_t (by decide) (hx_381 (by omega) hi (K 0 h1 H (Or.inl rfl)))
  | succ t ih =>
    intro n h1 h2 H
    obtain ⟨n, rfl⟩ : ∃ m, n = m + 1 := ⟨n - 1, by omega⟩
    have r1 := hP _ (H.2.2.1 t (by omega) (by omega))
    have r2 := hP _ (H.2.2.1 (t + 1) (by omega) (by omega))
    have hb : hu_b (hu_cr (hu_pt ox oy t) (hu_pt ox oy (t + 1)) (hu_pt sx sy i)) := hu_crb r1 r2 hs
    have vi : vp_in (nI i) 66 := vp_in_nI hi (by omega)
    have v1 : vp_in (nI t) 136 := vp_in_nI (by omega) (by omega)
    have v2 : vp_in (nI (t + 1)) 136 := vp_in_nI (by omega) (by omega)
    rw [wX_add_311]
    dsimp only
    rw [hu_m2, nI_pred, nI_clamp (show t < 2 ^ 31 by omega), nI_clamp (show t + 1 < 2 ^ 31 by omega), nI_clamp (show i < 2 ^ 31 by omega)]
    refine br_f (nI_nlt (b := 2) (by omega) (by omega)) ⟨v1, v1, v2, v2, vi, vi, hu_xc (hu_L_lt hb (fun c => ?_) (fun c => nm_r (pk_m1 _) ?_))⟩
    · exact hx_381 (by omega) hi (K (t + 1) h1 H (Or.inr ⟨t, rfl, by omega, c⟩))
    · exact ih n (by omega) (by omega) (hu_pop H (by omega) c)

theorem hx_434 {P : Int × Int → Prop} {i L M : Nat} (hi : i < 66) (hM : M < 130) (hP : ∀ p, P p → hu_r p) (hs : hu_r (hu_pt sx sy i))
    (K : ∀ t, t ≤ M → hu_PI (-65536) (-1) (hu_pt ox oy) L t P (hu_pt sx sy i) → (t = L ∨ ∃ t', t = t' + 1 ∧ L ≤ t' ∧ 0 < hu_cr (hu_pt ox oy t') (hu_pt ox oy t) (hu_pt sx sy i)) → J (nI (t + 2)) (nI i - 1) hx hy sx sy (upd ox (t + 1) (sx i)) (upd oy (t + 1) (sy i))) :
    ∀ t n : Nat, t ≤ M → t < n → hu_PI (-65536) (-1) (hu_pt ox oy) L t P (hu_pt sx sy i) → wX_add_434 post J x3 (nI (L + 2)) (nI i) cap cnt fn hx hy sx sy ox oy n (nI (t + 1)) := by
  have base : ∀ t n : Nat, t = L → t ≤ M → t < n → hu_PI (-65536) (-1) (hu_pt ox oy) L t P (hu_pt sx sy i) → wX_add_434 post J x3 (nI (L + 2)) (nI i) cap cnt fn hx hy sx sy ox oy n (nI (t + 1)) := by
    intro t n e h1 h2 H
    obtain ⟨n, rfl⟩ : ∃ m, n = m + 1 := ⟨n - 1, by omega⟩
    rw [wX_add_434]
    exact br_t (nI_lt (by omega) (by omega)) (hx_505 (by omega) hi (K t h1 H (Or.inl e)))
  intro t
  induction t with
  | zero =>
    intro n h1 h2 H
    exact base 0 n (by have := H.1; omega) h1 h2 H
  | succ t ih =>
    intro n h1 h2 H
    by_cases e : t + 1 = L
    · exact base (t + 1) n e h1 h2 H
    have hLt : L ≤ t := by have := H.1; omega
    obtain ⟨n, rfl⟩ : ∃ m, n = m + 1 := ⟨n - 1, by omega⟩
    have r1 := hP _ (H.2.2.1 t (by omega) (by omega))
    have r2 := hP _ (H.2.2.1 (t + 1) (by omega) (by omega))
    have hb : hu_b (hu_cr (hu_pt ox oy t) (hu_pt ox oy (t + 1)) (hu_pt sx sy i)) := hu_crb r1 r2 hs
    have vi : vp_in (nI i) 66 := vp_in_nI hi (by omega)
    have v1 : vp_in (nI t) 136 := vp_in_nI (by omega) (by omega)
    have v2 : vp_in (nI (t + 1)) 136 := vp_in_nI (by omega) (by omega)
    rw [wX_add_434]
    dsimp only
    rw [hu_m2, nI_pred, nI_clamp (show t < 2 ^ 31 by omega), nI_clamp (show t + 1 < 2 ^ 31 by omega), nI_clamp (show i < 2 ^ 31 by omega)]
    refine br_f (nI_nlt (by omega) (by omega)) ⟨v1, v1, v2, v2, vi, vi, hu_xc (hu_L_lt hb (fun c => ?_) (fun c => nm_r (pk_m1 _) ?_))⟩
    · exact hx_505 (by omega) hi (K (t + 1) h1 H (Or.inr ⟨t, rfl, by omega, c⟩))
    · exact ih n (by omega) (by omega) (hu_pop H (by omega) c)
end

section
variable {post : Int32 → SX → Prop} {cap cnt fn : Int32} {hx hy sx sy : Nat → Int32}
/-- the lower pass, behind its first point -/
theorem hx_305 {N : Nat} (hN : N ≤ 65) (hr : ∀ l, l < N → hu_r (hu_pt sx sy l)) (hs : ∀ l l', l < l' → l' < N → hu_f 65536 1 (hu_pt sx sy l) < hu_f 65536 1 (hu_pt sx sy l'))
    (K : ∀ (t : Nat) (ox oy : Nat → Int32), t + 1 ≤ N → hu_CI 65536 1 (hu_pt ox oy) 0 t (fun p => ∃ l, l < N ∧ hu_pt sx sy l = p) → ∃ n429 : Nat, wX_add_429 post (nI N) (nI (t + 2)) cap cnt fn n429 (nI (t + 1)) (nI N - 2) hx hy sx sy ox oy) :
    ∀ (d i t : Nat) (ox oy : Nat → Int32), i + d = N → t + 1 ≤ i → hu_CI 65536 1 (hu_pt ox oy) 0 t (fun p => ∃ l, l < i ∧ hu_pt sx sy l = p) → wX_add_305 post (nI N) cap cnt fn (d + 1) (nI (t + 1)) (nI i) hx hy sx sy ox oy := by
  intro d
  induction d with
  | zero =>
    intro i t ox oy hi ht H
    have e : i = N := by omega
    subst e
    rw [wX_add_305]
    refine br_t (nI_le (by omega) (by omega)) (nm_r (nI_1 _) (nm_e ?_))
    exact K t ox oy ht H
  | succ d ih =>
    intro i t ox oy hi ht H
    rw [wX_add_305]
    refine br_f (nI_ge (by omega) (by omega)) ⟨t + 1, ?_⟩
    refine hx_311 (P := fun p => ∃ l, l < i ∧ hu_pt sx sy l = p) (M := t) (by omega) (by omega) ?_ (hr i (by omega)) ?_ t (t + 1) (by omega) (by omega) (hu_start H ?_)
    · rintro p ⟨l, hl, rfl⟩
      exact hr l (by omega)
    · intro t' ht' H' hx'
      refine ih (i + 1) (t' + 1) _ _ (by omega) (by omega) (hu_push H' hx' ?_ ?_ ?_)
      · intro p
        constructor
        · rintro ⟨l, hl, e⟩
          by_cases c : l = i
          · right; rw [← e, c]
          · left; exact ⟨l, by omega, e⟩
        · rintro (⟨l, hl, e⟩ | e)
          · exact ⟨l, by omega, e⟩
          · exact ⟨i, by omega, e.symm⟩
      · intro j hj
        exact hu_ptn (by omega)
      · exact hu_ptu
    · rintro p ⟨l, hl, rfl⟩
      exact hs l i hl (by omega)

/-- the upper pass -/
theorem hx_429 {N L : Nat} {o0 : Nat → Int × Int} (hN : N ≤ 65) (hL : L + 1 ≤ N) (hr : ∀ l, l < N → hu_r (hu_pt sx sy l)) (hs : ∀ l l', l < l' → l' < N → hu_f 65536 1 (hu_pt sx sy l) < hu_f 65536 1 (hu_pt sx sy l'))
    (K : ∀ (t : Nat) (ox oy : Nat → Int32), t ≤ L + N → (∀ j, j ≤ L → hu_pt ox oy j = o0 j) → hu_CI (-65536) (-1) (hu_pt ox oy) L t (fun p => ∃ l, l < N ∧ hu_pt sx sy l = p) → wX_add_548 post (nI N) (nI t) cap cnt fn hx hy sx sy ox oy) :
    ∀ (e t : Nat) (ox oy : Nat → Int32), e < N → t + e + 1 ≤ L + N → (∀ j, j ≤ L → hu_pt ox oy j = o0 j) → hu_CI (-65536) (-1) (hu_pt ox oy) L t (fun p => ∃ l, (e ≤ l ∧ l < N) ∧ hu_pt sx sy l = p) → wX_add_429 post (nI N) (nI (L + 2)) cap cnt fn (e + 1) (nI (t + 1)) (nI e - 1) hx hy sx sy ox oy := by
  intro e
  induction e with
  | zero =>
    intro t ox oy h1 h2 h3 H
    rw [wX_add_429]
    refine br_t (by decide) (nm_r (nI_pred t) ?_)
    refine K t ox oy (by omega) h3 (hu_CI_P H ?_)
    intro p
    constructor
    · rintro ⟨l, a, b⟩; exact ⟨l, ⟨by omega, a⟩, b⟩
    · rintro ⟨l, a, b⟩; exact ⟨l, a.2, b⟩
  | succ e ih =>
    intro t ox oy h1 h2 h3 H
    rw [nI_pred, wX_add_429]
    refine br_f (nI_pos (by omega)) ⟨t + 1, ?_⟩
    refine hx_434 (P := fun p => ∃ l, (e + 1 ≤ l ∧ l < N) ∧ hu_pt sx sy l = p) (M := t) (by omega) (by omega) ?_ (hr e (by omega)) ?_ t (t + 1) (by omega) (by omega) (hu_start H ?_)
    · rintro p ⟨l, hl, rfl⟩
      exact hr l (by omega)
    · intro t' ht' H' hx'
      have hLt : L ≤ t' := H'.1
      refine ih (t' + 1) _ _ (by omega) (by omega) ?_ (hu_push H' hx' ?_ ?_ ?_)
      · intro j hj
        rw [hu_ptn (by omega)]
        exact h3 j hj
      · intro p
        constructor
        · rintro ⟨l, hl, z⟩
          by_cases c : l = e
          · right; rw [← z, c]
          · left; exact ⟨l, by omega, z⟩
        · rintro (⟨l, hl, z⟩ | z)
          · exact ⟨l, by omega, z⟩
          · exact ⟨e, by omega, z.symm⟩
      · intro j hj
        exact hu_ptn (by omega)
      · exact hu_ptu
    · rintro p ⟨l, hl, rfl⟩
      rw [hu_neg, hu_neg]
      have := hs e l (by omega) (by omega)
      omega
end
end
section
/-! X's add, put together -/
def hu_cp (n : Nat) (a b : Nat → Int32) : Nat → Int32 := fun j => if j < n then a j else b j
theorem hu_cp0 {a b : Nat → Int32} : hu_cp 0 a b = b := by
  funext j; exact if_neg (by omega)
theorem hu_cps {a b : Nat → Int32} {i : Nat} : upd (hu_cp i a b) i (a i) = hu_cp (i + 1) a b := by
  funext j
  by_cases e : j = i
  · subst e; rw [pk_us]; exact (if_pos (by omega)).symm
  · rw [pk_un e]
    unfold hu_cp
    by_cases c : j < i
    · rw [if_pos c, if_pos (by omega)]
    · rw [if_neg c, if_neg (by omega)]
/-- the n corners and the new point behind them -/
def hu_T (n : Nat) (hx hy : Nat → Int32) (x y : Int32) (l : Nat) : Int × Int := if l < n then hu_pt hx hy l else (x.toInt, y.toInt)
theorem hu_Te {n l : Nat} {hx hy sx sy : Nat → Int32} {x y : Int32} (hl : l < n + 1) : hu_pt (upd (hu_cp n hx sx) n x) (upd (hu_cp n hy sy) n y) l = hu_T n hx hy x y l := by
  unfold hu_T
  by_cases c : l < n
  · rw [if_pos c, hu_ptn (by omega)]
    unfold hu_pt hu_cp
    rw [if_pos c, if_pos c]
  · rw [if_neg c]
    have e : l = n := by omega
    rw [e, hu_ptu]

section
variable {post : Int32 → SX → Prop} {hx hy sx sy ox oy : Nat → Int32}
theorem hx_569 {x5 cap cnt fn : Int32} {m : Nat} (hm : m ≤ 66) (k : post (1 + x5) (cap, cnt + 1, nI m, hu_cp m ox hx, hu_cp m oy hy, sx, sy, ox, oy)) : ∀ d i : Nat, i + d = m → wX_add_569 post (nI m) x5 cap cnt fn (d + 1) (nI i) (hu_cp i ox hx) (hu_cp i oy hy) sx sy ox oy := by
  intro d
  induction d with
  | zero =>
    intro i hi
    have e : i = m := by omega
    subst e
    rw [wX_add_569]
    exact br_t (nI_le (by omega) (by omega)) (nm_e k)
  | succ d ih =>
    intro i hi
    have v1 : vp_in (nI i) 136 := vp_in_nI (by omega) (by omega)
    have v2 : vp_in (nI i) 66 := vp_in_nI (by omega) (by omega)
    rw [wX_add_569]
    dsimp only
    rw [nI_clamp (show i < 2 ^ 31 by omega)]
    exact br_f (nI_ge (by omega) (by omega)) ⟨v1, v2, nm_r hu_cps ⟨v1, v2, nm_r hu_cps (nm_r (nI_1 i) (ih (i + 1) (by omega)))⟩⟩
theorem hx_548 {cnt fn : Int32} {N m cap : Nat} (hc : cap ≤ 64) (hm : m < 1000)
    (f : m ≤ cap → post (1 + (nI N - nI m)) (nI cap, cnt + 1, nI m, hu_cp m ox hx, hu_cp m oy hy, sx, sy, ox, oy))
    (g : cap < m → post (-2) (nI cap, cnt, fn, hx, hy, sx, sy, ox, oy)) : wX_add_548 post (nI N) (nI m) (nI cap) cnt fn hx hy sx sy ox oy := by
  unfold wX_add_548
  refine pk_le m cap (fun h => nm_e ⟨m + 1, ?_⟩) g
  have k := hx_569 (sx := sx) (sy := sy) (fn := fn) (show m ≤ 66 by omega) (f h) m 0 (by omega)
  rw [hu_cp0, hu_cp0] at k
  exact k
theorem hx_61 {x y x3 cap cnt : Int32} {n : Nat} (hn : n ≤ 64) (K : ∃ n127 : Nat, wX_add_127 post x3 cap cnt (nI n) n127 1 hx hy (upd (hu_cp n hx sx) n x) (upd (hu_cp n hy sy) n y) ox oy) : ∀ d i : Nat, i + d = n → wX_add_61 post x y x3 cap cnt (nI n) (d + 1) (nI i) hx hy (hu_cp i hx sx) (hu_cp i hy sy) ox oy := by
  intro d
  induction d with
  | zero =>
    intro i hi
    have e : i = n := by omega
    subst e
    have v : vp_in (nI i) 66 := vp_in_nI (by omega) (by omega)
    rw [wX_add_61]
    dsimp only
    rw [nI_clamp (show i < 2 ^ 31 by omega)]
    exact br_t (nI_le (by omega) (by omega)) ⟨v, nm_e ⟨v, nm_e K⟩⟩
  | succ d ih =>
    intro i hi
    have v : vp_in (nI i) 66 := vp_in_nI (by omega) (by omega)
    rw [wX_add_61]
    dsimp only
    rw [nI_clamp (show i < 2 ^ 31 by omega)]
    exact br_f (nI_ge (by omega) (by omega)) ⟨v, v, nm_r hu_cps ⟨v, v, nm_r hu_cps (nm_r (nI_1 i) (ih (i + 1) (by omega)))⟩⟩
end

theorem hu_H_congr {N m : Nat} {T s o : Nat → Int × Int} (h : hu_H N m s o) (a : ∀ l, l < N → ∃ k, k < N ∧ T k = s l) (b : ∀ k, k < N → ∃ l, l < N ∧ s l = T k) : hu_H N m T o := by
  obtain ⟨h1, h2, h3, h4, h5, h6⟩ := h
  refine ⟨h1, h2, ?_, h4, ?_, ?_⟩
  · intro i hi
    obtain ⟨l, hl, e⟩ := h3 i hi
    obtain ⟨k, hk, e2⟩ := a l hl
    exact ⟨k, hk, e2.trans e⟩
  · intro l hl
    obtain ⟨k, hk, e⟩ := b l hl
    rw [← e]; exact h5 k hk
  · rcases h6 with h6 | ⟨h6, h7⟩
    · exact Or.inl h6
    · refine Or.inr ⟨h6, ?_⟩
      intro i hi l hl
      obtain ⟨k, hk, e⟩ := b l hl
      rw [← e]; exact h7 i hi k hk

section
variable {post : Int32 → SX → Prop} {cap cnt fn : Int32} {hx hy : Nat → Int32}
theorem hx_hull {N : Nat} {T : Nat → Int × Int} (hN : N ≤ 65) (hT : ∀ k, k < N → hu_r (T k))
    (K : ∀ (m : Nat) (sx sy ox oy : Nat → Int32), hu_H N m T (hu_pt ox oy) → wX_add_548 post (nI N) (nI m) cap cnt fn hx hy sx sy ox oy) (hN2 : 2 ≤ N) {sx sy ox oy : Nat → Int32} (H : hu_SI N N T (hu_pt sx sy)) : ∃ n305 : Nat, wX_add_305 post (nI N) cap cnt fn n305 0 0 hx hy sx sy ox oy := by
  obtain ⟨a, b, c, d⟩ := H
  have hrs : ∀ l, l < N → hu_r (hu_pt sx sy l) := by
    intro l hl
    obtain ⟨k, hk, e⟩ := a l hl
    rw [← e]; exact hT k hk
  obtain ⟨Q, rfl⟩ : ∃ Q, N = Q + 2 := ⟨N - 2, by omega⟩
  refine ⟨Q + 1 + 1 + 1, ?_⟩
  rw [wX_add_305]
  refine br_f (nI_nle (by omega) (by omega)) ⟨1, ?_⟩
  rw [wX_add_311]
  refine br_t (by decide) (hx_381 (k := 0) (i := 0) (by omega) (by omega) ?_)
  refine hx_305 hN hrs c ?_ (Q + 1) 1 0 _ _ (by omega) (by omega) (hu_one ?_)
  · -- the upper pass
    intro L ox1 oy1 hL H1
    have top : hu_pt ox1 oy1 L = hu_pt sx sy (Q + 1) := by
      obtain ⟨h1, h2, h3, h4, h5, h6⟩ := H1
      rcases h6 _ ⟨Q + 1, by omega, rfl⟩ with z | z
      · exfalso
        obtain ⟨l, hl, e⟩ := h3 L (by omega) (by omega)
        rw [← e] at z
        by_cases el : l = Q + 1
        · rw [el] at z; omega
        · have := c l (Q + 1) (by omega) (by omega); omega
      · exact z.symm
    refine ⟨Q + 1 + 1, ?_⟩
    have e : nI (Q + 2) - 2 = nI (Q + 1) - 1 := by rw [hu_m2, nI_pred]
    rw [e]
    refine hx_429 (o0 := hu_pt ox1 oy1) hN hL hrs c ?_ (Q + 1) L ox1 oy1 (by omega) (by omega) (fun _ _ => rfl) (hu_one ?_)
    · intro M ox2 oy2 hM ho H2
      have H1' := hu_CI_congr H1 ho
      exact K M sx sy ox2 oy2 (hu_H_congr (hu_fin (by omega) d H1' H2).1 a b)
    · intro p
      rw [top]
      constructor
      · rintro ⟨l, hl, e⟩
        have el : l = Q + 1 := by omega
        rw [← e, el]
      · intro e
        exact ⟨Q + 1, by omega, e.symm⟩
  · intro p
    rw [hu_ptu]
    constructor
    · rintro ⟨l, hl, e⟩
      have el : l = 0 := by omega
      rw [← e, el]; rfl
    · intro e
      exact ⟨0, by omega, e.symm⟩
theorem hx_main {N : Nat} {T : Nat → Int × Int} (h0 : 0 < N) (hN : N ≤ 65) (hT : ∀ k, k < N → hu_r (T k))
    (K : ∀ (m : Nat) (sx sy ox oy : Nat → Int32), hu_H N m T (hu_pt ox oy) → wX_add_548 post (nI N) (nI m) cap cnt fn hx hy sx sy ox oy) {sx sy ox oy : Nat → Int32} (H : hu_SI N 1 T (hu_pt sx sy)) : ∃ n127 : Nat, wX_add_127 post (nI N) cap cnt fn n127 1 hx hy sx sy ox oy := by
  refine ⟨N - 1 + 1, hx_127 hN hT ?_ (N - 1) 1 sx sy (by omega) H⟩
  intro sx1 sy1 H1
  refine pk_eq N 1 (fun e => ?_) (fun e => hx_hull hN hT K (by omega) H1)
  subst e
  refine nm_e (nm_e (K 1 sx1 sy1 _ _ ?_))
  obtain ⟨k, hk, e⟩ := H1.1 0 (by omega)
  have ek : k = 0 := by omega
  subst ek
  have eo : hu_pt (upd ox 0 (sx1 0)) (upd oy 0 (sy1 0)) 0 = T 0 := by rw [hu_ptu, e]; rfl
  refine ⟨by omega, by omega, ?_, ?_, ?_, Or.inl rfl⟩
  · intro i hi
    have ei : i = 0 := by omega
    subst ei
    exact ⟨0, by omega, eo.symm⟩
  · intro i j h1 h2; omega
  · intro l hl
    have el : l = 0 := by omega
    rw [el, eo]; omega
end

theorem hu_G_T {cap n : Nat} {hx hy : Nat → Int32} {x y : Int32} (hG : hu_G cap n hx hy) (ox : hu_ok x) (oy : hu_ok y) (hne : ∀ i, i < n → hu_pt hx hy i ≠ (x.toInt, y.toInt)) : (∀ k, k < n + 1 → hu_r (hu_T n hx hy x y k)) ∧ (∀ l l', l < l' → l' < n + 1 → hu_T n hx hy x y l ≠ hu_T n hx hy x y l') := by
  obtain ⟨g1, g2, g3, g4, g5⟩ := hG
  constructor
  · intro k hk
    unfold hu_T
    by_cases c : k < n
    · rw [if_pos c]; exact g3 k c
    · rw [if_neg c]; exact ⟨ox.1, ox.2, oy.1, oy.2⟩
  · intro l l' h1 h2
    unfold hu_T
    rw [if_pos (show l < n by omega)]
    by_cases c : l' < n
    · rw [if_pos c]; exact g4 l l' h1 c
    · rw [if_neg c]; exact hne l (by omega)

/-- from the copy on: X ends with the hull of hu_T -/
theorem hx_rest {post : Int32 → SX → Prop} {cap n : Nat} {cnt x y : Int32} {hx hy sx sy ox oy : Nat → Int32} (hG : hu_G cap n hx hy) (okx : hu_ok x) (oky : hu_ok y) (hne : ∀ i, i < n → hu_pt hx hy i ≠ (x.toInt, y.toInt))
    (K : ∀ (m : Nat) (sx sy ox oy : Nat → Int32), hu_H (n + 1) m (hu_T n hx hy x y) (hu_pt ox oy) →
      (m ≤ cap → post (1 + (nI (n + 1) - nI m)) (nI cap, cnt + 1, nI m, hu_cp m ox hx, hu_cp m oy hy, sx, sy, ox, oy)) ∧
      (cap < m → post (-2) (nI cap, cnt, nI n, hx, hy, sx, sy, ox, oy))) :
    ∃ n61 : Nat, wX_add_61 post x y (nI (n + 1)) (nI cap) cnt (nI n) n61 0 hx hy sx sy ox oy := by
  have hT := hu_G_T hG okx oky hne
  obtain ⟨g1, g2, g3, g4, g5⟩ := hG
  refine ⟨n + 1, ?_⟩
  have k := hx_61 (post := post) (hx := hx) (hy := hy) (sx := sx) (sy := sy) (ox := ox) (oy := oy) (x := x) (y := y) (x3 := nI (n + 1)) (cap := nI cap) (cnt := cnt) (n := n) (by omega) ?_ n 0 (by omega)
  · rw [hu_cp0, hu_cp0] at k
    exact k
  · refine hx_main (T := hu_T n hx hy x y) (by omega) (by omega) hT.1 ?_ ⟨?_, ?_, ?_, ?_⟩
    · intro m sx1 sy1 ox1 oy1 H
      have kk := K m sx1 sy1 ox1 oy1 H
      exact hx_548 g1 (by have := H.2.1; omega) kk.1 kk.2
    · intro l hl; exact ⟨l, hl, (hu_Te hl).symm⟩
    · intro l hl; exact ⟨l, hl, hu_Te hl⟩
    · intro l l' h1 h2; omega
    · intro l l' h1 h2
      rw [hu_Te (by omega), hu_Te h2]
      exact hT.2 l l' h1 h2
end
section
/-! Y's add -/
section
variable {post : Int32 → SY → Prop} {hx hy tx ty ox oy : Nat → Int32}
theorem hy_446 {x8 cap cnt fn : Int32} {m : Nat} (hm : m ≤ 65) (k : post (1 + x8) (cap, nI m, cnt + 1, hu_cp m ox hx, hu_cp m oy hy, tx, ty, ox, oy)) : ∀ d i : Nat, i + d = m → wY_add_446 post (nI m) x8 cap fn cnt (d + 1) (nI i) (hu_cp i ox hx) (hu_cp i oy hy) tx ty ox oy := by
  intro d
  induction d with
  | zero =>
    intro i hi
    have e : i = m := by omega
    subst e
    rw [wY_add_446]
    exact br_t (nI_le (by omega) (by omega)) (nm_e k)
  | succ d ih =>
    intro i hi
    have v : vp_in (nI i) 65 := vp_in_nI (by omega) (by omega)
    rw [wY_add_446]
    dsimp only
    rw [nI_clamp (show i < 2 ^ 31 by omega)]
    exact br_f (nI_ge (by omega) (by omega)) ⟨v, v, nm_r hu_cps ⟨v, v, nm_r hu_cps (nm_r (nI_1 i) (ih (i + 1) (by omega)))⟩⟩
theorem hy_47 {x y x3 cap cnt : Int32} {n : Nat} (hn : n ≤ 64) (K : ∃ n116 : Nat, wY_add_116 post x3 cap (nI n) cnt hx hy (upd (hu_cp n hx tx) n x) (upd (hu_cp n hy ty) n y) ox oy n116 0 1) : ∀ d i : Nat, i + d = n → wY_add_47 post x y x3 cap (nI n) cnt (d + 1) (nI i) hx hy (hu_cp i hx tx) (hu_cp i hy ty) ox oy := by
  intro d
  induction d with
  | zero =>
    intro i hi
    have e : i = n := by omega
    subst e
    have v : vp_in (nI i) 65 := vp_in_nI (by omega) (by omega)
    rw [wY_add_47]
    dsimp only
    rw [nI_clamp (show i < 2 ^ 31 by omega)]
    exact br_t (nI_le (by omega) (by omega)) ⟨v, nm_e ⟨v, nm_e K⟩⟩
  | succ d ih =>
    intro i hi
    have v : vp_in (nI i) 65 := vp_in_nI (by omega) (by omega)
    rw [wY_add_47]
    dsimp only
    rw [nI_clamp (show i < 2 ^ 31 by omega)]
    exact br_f (nI_ge (by omega) (by omega)) ⟨v, v, nm_r hu_cps ⟨v, v, nm_r hu_cps (nm_r (nI_1 i) (ih (i + 1) (by omega)))⟩⟩

/-- the least point -/
theorem hy_116 {cap fn cnt : Int32} {N : Nat} (hN : N ≤ 65) (hr : ∀ l, l < N → hu_r (hu_pt tx ty l))
    (K : ∀ b, b < N → (∀ l, l < N → hu_f 65536 1 (hu_pt tx ty b) ≤ hu_f 65536 1 (hu_pt tx ty l)) → ∃ n193 : Nat, wY_add_193 post (nI N) (nI b) cap fn cnt n193 0 (nI b) (nI N) hx hy tx ty ox oy) :
    ∀ d i b : Nat, i + d = N → b < i → (∀ l, l < i → hu_f 65536 1 (hu_pt tx ty b) ≤ hu_f 65536 1 (hu_pt tx ty l)) → wY_add_116 post (nI N) cap fn cnt hx hy tx ty ox oy (d + 1) (nI b) (nI i) := by
  intro d
  induction d with
  | zero =>
    intro i b hi hb H
    have e : i = N := by omega
    subst e
    rw [wY_add_116]
    exact br_t (nI_le (by omega) (by omega)) (K b hb H)
  | succ d ih =>
    intro i b hi hb H
    have vi : vp_in (nI i) 65 := vp_in_nI (by omega) (by omega)
    have vb : vp_in (nI b) 65 := vp_in_nI (by omega) (by omega)
    have old : hu_f 65536 1 (hu_pt tx ty b) ≤ hu_f 65536 1 (hu_pt tx ty i) → wY_add_116 post (nI N) cap fn cnt hx hy tx ty ox oy (d + 1) (nI b) (nI (i + 1)) := by
      intro z
      refine ih (i + 1) b (by omega) (by omega) ?_
      intro l hl
      by_cases e : l = i
      · rw [e]; exact z
      · exact H l (by omega)
    have new : hu_f 65536 1 (hu_pt tx ty i) ≤ hu_f 65536 1 (hu_pt tx ty b) → wY_add_116 post (nI N) cap fn cnt hx hy tx ty ox oy (d + 1) (nI i) (nI (i + 1)) := by
      intro z
      refine ih (i + 1) i (by omega) (by omega) ?_
      intro l hl
      by_cases e : l = i
      · rw [e]; exact Int.le_refl _
      · exact Int.le_trans z (H l (by omega))
    obtain ⟨a1, a2, a3, a4⟩ := hr i (by omega)
    obtain ⟨b1, b2, b3, b4⟩ := hr b (by omega)
    rw [wY_add_116]
    dsimp only
    rw [nI_clamp (show i < 2 ^ 31 by omega), nI_clamp (show b < 2 ^ 31 by omega)]
    unfold hu_f at old new
    unfold hu_pt at old new a1 a2 a3 a4 b1 b2 b3 b4
    dsimp only at old new a1 a2 a3 a4 b1 b2 b3 b4
    refine br_f (nI_ge (by omega) (by omega)) ⟨vi, vb, br_c (fun c => nm_r (nI_1 i) (new ?_)) (fun c => ⟨vi, vb, br_c (fun c2 => ⟨vi, vb, br_c (fun c3 => nm_r (nI_1 i) (old ?_)) (fun c3 => nm_r (nI_1 i) (new ?_))⟩) (fun c2 => nm_r (nI_1 i) (old ?_))⟩)⟩
    · rw [Int32.lt_iff_toInt_lt] at c; omega
    · rw [Int32.le_iff_toInt_le] at c3; rw [c2]; omega
    · rw [Int32.le_iff_toInt_le] at c3; rw [c2]; omega
    · rw [Int32.lt_iff_toInt_lt] at c
      have c4 : (tx i).toInt ≠ (tx b).toInt := fun z => c2 (Int32.toInt_inj.mp z)
      omega

/-- one turn of the wrap: the scan ends at the corner that follows -/
theorem hy_238 {J : Int32 → Int32 → Int32 → (Nat → Int32) → (Nat → Int32) → (Nat → Int32) → (Nat → Int32) → (Nat → Int32) → (Nat → Int32) → Prop} {x5 x7 cap fn cnt : Int32} {N st cu qi : Nat} (hN : N ≤ 65) (hst : st < N) (hcu : cu < N) (hqi : qi < N) (hne : qi ≠ cu)
    (hr : ∀ l, l < N → hu_r (hu_pt tx ty l)) (hd : ∀ l l', l < N → l' < N → hu_pt tx ty l = hu_pt tx ty l' → l = l')
    (hE : ∀ l, l < N → hu_E2 (hu_pt tx ty cu) (hu_pt tx ty qi) (hu_pt tx ty l))
    (K1 : qi = st → J x5 (nI cu) 0 hx hy tx ty ox oy) (K2 : qi ≠ st → J x5 (nI qi) x7 hx hy tx ty ox oy) :
    ∀ (d r : Nat) (x8 : Int32), r + d = N → ((x8 = -1 ∧ r ≤ qi) ∨ (∃ q, x8 = nI q ∧ q < r ∧ q ≠ cu ∧ (qi < r → q = qi))) → wY_add_238 post J (nI N) (nI st) x5 (nI cu) x7 cap fn cnt hx hy tx ty ox oy (d + 1) x8 (nI r) := by
  intro d
  induction d with
  | zero =>
    intro r x8 hr0 H
    rcases H with ⟨_, h⟩ | ⟨q, e, h1, h2, h3⟩
    · omega
    · have eq := h3 (by omega)
      subst eq
      subst e
      rw [wY_add_238]
      exact br_t (nI_le (by omega) (by omega)) (br_f (nI_pos (by omega)) (pk_eq q st K1 K2))
  | succ d ih =>
    intro r x8 hr0 H
    have hrN : r < N := by omega
    by_cases erc : r = cu
    · rw [wY_add_238]
      refine br_f (nI_ge (by omega) (by omega)) (br_t (congrArg nI erc) (nm_r (nI_1 r) (ih (r + 1) x8 (by omega) ?_)))
      rcases H with ⟨e, h⟩ | ⟨q, e, h1, h2, h3⟩
      · exact Or.inl ⟨e, by omega⟩
      · exact Or.inr ⟨q, e, by omega, h2, fun z => h3 (by omega)⟩
    have nrc : ¬ nI r = nI cu := fun z => erc ((nI_eq (by omega) (by omega)).mp z)
    rcases H with ⟨e, h⟩ | ⟨q, e, h1, h2, h3⟩
    · subst e
      rw [wY_add_238]
      exact br_f (nI_ge (by omega) (by omega)) (br_f nrc (br_f (by decide) (nm_r (nI_1 r) (ih (r + 1) (nI r) (by omega) (Or.inr ⟨r, rfl, by omega, erc, fun z => by omega⟩)))))
    · subst e
      have hqN : q < N := by omega
      have stay : (qi = r → q = qi) → wY_add_238 post J (nI N) (nI st) x5 (nI cu) x7 cap fn cnt hx hy tx ty ox oy (d + 1) (nI q) (nI (r + 1)) := by
        intro z
        refine ih (r + 1) (nI q) (by omega) (Or.inr ⟨q, rfl, by omega, h2, fun y => ?_⟩)
        by_cases er : qi = r
        · exact z er
        · exact h3 (by omega)
      have take : (qi < r → r = qi) → wY_add_238 post J (nI N) (nI st) x5 (nI cu) x7 cap fn cnt hx hy tx ty ox oy (d + 1) (nI r) (nI (r + 1)) := by
        intro z
        refine ih (r + 1) (nI r) (by omega) (Or.inr ⟨r, rfl, by omega, erc, fun y => ?_⟩)
        by_cases er : qi = r
        · exact er.symm
        · exact z (by omega)
      have vc : vp_in (nI cu) 65 := vp_in_nI (by omega) (by omega)
      have vq : vp_in (nI q) 65 := vp_in_nI (by omega) (by omega)
      have vr : vp_in (nI r) 65 := vp_in_nI (by omega) (by omega)
      have hb : hu_b (hu_cr (hu_pt tx ty cu) (hu_pt tx ty q) (hu_pt tx ty r)) := hu_crb (hr _ hcu) (hr _ hqN) (hr _ hrN)
      have hb1 : hu_b (hu_ds (hu_pt tx ty cu) (hu_pt tx ty r)) := hu_dsb (hr _ hcu) (hr _ hrN)
      have hb2 : hu_b (hu_ds (hu_pt tx ty cu) (hu_pt tx ty q)) := hu_dsb (hr _ hcu) (hr _ hqN)
      have hfl := hu_flip (hu_pt tx ty cu) (hu_pt tx ty q) (hu_pt tx ty r)
      have Eq := hE q hqN
      have Er := hE r hrN
      rw [wY_add_238]
      dsimp only
      rw [nI_clamp (show cu < 2 ^ 31 by omega), nI_clamp (show q < 2 ^ 31 by omega), nI_clamp (show r < 2 ^ 31 by omega)]
      refine br_f (nI_ge (by omega) (by omega)) (br_f nrc (br_t (nI_pos' (by omega)) ⟨vc, vc, vq, vq, vr, vr, hu_yc (hu_I_j hb (fun c => nm_r (nI_1 r) (take ?_)) (fun c => ⟨vc, vc, vr, vr, hu_yd ⟨vc, vc, vq, vq, hu_yd (hu_I_le hb1 hb2 (fun c2 => nm_r (nI_1 r) (stay ?_)) (fun c2 => nm_r (nI_1 r) (take ?_)))⟩⟩) (fun c => nm_r (nI_1 r) (stay ?_)))⟩))
      · intro z
        have eq := h3 z
        subst eq
        exfalso
        have c' : hu_cr (hu_pt tx ty cu) (hu_pt tx ty q) (hu_pt tx ty r) < 0 := c
        rcases Er with a | ⟨a, _⟩ <;> omega
      · intro z
        subst z
        have c' : hu_cr (hu_pt tx ty cu) (hu_pt tx ty q) (hu_pt tx ty qi) = 0 := c
        have c2' : hu_ds (hu_pt tx ty cu) (hu_pt tx ty qi) ≤ hu_ds (hu_pt tx ty cu) (hu_pt tx ty q) := c2
        rcases Eq with a | ⟨a, a2 | a2⟩
        · omega
        · exact hd q qi hqN hqi a2
        · omega
      · intro z
        have eq := h3 z
        subst eq
        have c' : hu_cr (hu_pt tx ty cu) (hu_pt tx ty q) (hu_pt tx ty r) = 0 := c
        have c2' : hu_ds (hu_pt tx ty cu) (hu_pt tx ty q) < hu_ds (hu_pt tx ty cu) (hu_pt tx ty r) := c2
        rcases Er with a | ⟨a, a2 | a2⟩
        · omega
        · exact hd r q hrN hqN a2
        · omega
      · intro z
        subst z
        have c' : 0 < hu_cr (hu_pt tx ty cu) (hu_pt tx ty q) (hu_pt tx ty qi) := c
        exfalso
        rcases Eq with a | ⟨a, _⟩ <;> omega

/-- the wrap -/
theorem hy_193 {cap fn cnt : Int32} {N m st : Nat} {o : Nat → Int × Int} (hN : N ≤ 65) (hH : hu_H N m (hu_pt tx ty) o) (hst : st < N) (eo : hu_pt tx ty st = o 0)
    (hr : ∀ l, l < N → hu_r (hu_pt tx ty l)) (hd : ∀ l l', l < N → l' < N → hu_pt tx ty l = hu_pt tx ty l' → l = l')
    (K : ∀ qx qy : Nat → Int32, (∀ j, j < m → hu_pt qx qy j = o j) → ((nI m ≤ cap → (∀ x8 : Int32, x8 = (fn + 1) - nI m → (∃ n446 : Nat, wY_add_446 post (nI m) x8 cap fn cnt n446 0 hx hy tx ty qx qy))) ∧ (¬ nI m ≤ cap → post (-2) (cap, fn, cnt, hx, hy, tx, ty, qx, qy)))) :
    ∀ (d i cu : Nat) (qx qy : Nat → Int32), i + d + 1 = m → cu < N → hu_pt tx ty cu = o i → (∀ j, j < i → hu_pt qx qy j = o j) → wY_add_193 post (nI N) (nI st) cap fn cnt (d + 1 + 1) (nI i) (nI cu) (nI (N - i)) hx hy tx ty qx qy := by
  obtain ⟨h1, h2, h3, h4, h5, h6⟩ := hH
  have hd2 : ∀ i j, i < m → j < m → i ≠ j → o i ≠ o j := by
    intro i j hi hj hn
    rcases Nat.lt_or_ge i j with z | z
    · exact h4 i j z hj
    · exact fun e => h4 j i (by omega) hi e.symm
  have exit : ∀ (n : Nat) (x6 : Int32) (qx qy : Nat → Int32), (∀ j, j < m → hu_pt qx qy j = o j) → wY_add_193 post (nI N) (nI st) cap fn cnt (n + 1) (nI m) x6 0 hx hy tx ty qx qy := by
    intro n x6 qx qy hq
    rw [wY_add_193]
    exact br_t (by decide) (K qx qy hq)
  intro d
  induction d with
  | zero =>
    intro i cu qx qy hi hcu ecu hq
    have vc : vp_in (nI cu) 65 := vp_in_nI (by omega) (by omega)
    have vi : vp_in (nI i) 65 := vp_in_nI (by omega) (by omega)
    have em : i + 1 = m := by omega
    have hq' : ∀ j, j < m → hu_pt (upd qx i (tx cu)) (upd qy i (ty cu)) j = o j := by
      intro j hj
      by_cases e : j = i
      · rw [e, hu_ptu]; exact ecu
      · rw [hu_ptn e]; exact hq j (by omega)
    rw [wY_add_193]
    dsimp only
    rw [nI_clamp (show cu < 2 ^ 31 by omega), nI_clamp (show i < 2 ^ 31 by omega)]
    refine br_f (nI_nle (by omega) (by omega)) (nm_e ⟨vc, vi, nm_e ⟨vc, vi, nm_e (nm_r (nI_1 i) ⟨N + 1, ?_⟩)⟩⟩)
    rcases h6 with h6 | ⟨h6, h7⟩
    · subst h6
      have e0 : cu = 0 := by omega
      subst e0
      rw [wY_add_238]
      refine br_f (by decide) (br_t (by decide) (nm_r (e' := nI 1) (by decide) ?_))
      rw [wY_add_238]
      refine br_t (by decide) (br_t (by decide) ?_)
      rw [em]
      exact exit 0 _ _ _ hq'
    · have esc : hu_sc m i = 0 := if_pos em
      refine hy_238 (qi := st) hN hst hcu hst ?_ hr hd ?_ (fun _ => ?_) (fun z => absurd rfl z) N 0 (-1) (by omega) (Or.inl ⟨rfl, by omega⟩)
      · intro e
        subst e
        exact hd2 0 i (by omega) (by omega) (by omega) (eo.symm.trans ecu)
      · intro l hl
        have k := h7 i (by omega) l hl
        rw [esc] at k
        rw [ecu, eo]
        exact k
      · rw [em]
        exact exit 0 _ _ _ hq'
  | succ d ih =>
    intro i cu qx qy hi hcu ecu hq
    have vc : vp_in (nI cu) 65 := vp_in_nI (by omega) (by omega)
    have vi : vp_in (nI i) 65 := vp_in_nI (by omega) (by omega)
    have hq' : ∀ j, j < i + 1 → hu_pt (upd qx i (tx cu)) (upd qy i (ty cu)) j = o j := by
      intro j hj
      by_cases e : j = i
      · rw [e, hu_ptu]; exact ecu
      · rw [hu_ptn e]; exact hq j (by omega)
    have eN : nI (N - i) + (-1) = nI (N - (i + 1)) := by
      have e : N - i = N - (i + 1) + 1 := by omega
      rw [e, pk_m1]
    rw [wY_add_193]
    dsimp only
    rw [nI_clamp (show cu < 2 ^ 31 by omega), nI_clamp (show i < 2 ^ 31 by omega)]
    refine br_f (nI_nle (by omega) (by omega)) (nm_r eN ⟨vc, vi, nm_e ⟨vc, vi, nm_e (nm_r (nI_1 i) ⟨N + 1, ?_⟩)⟩⟩)
    rcases h6 with h6 | ⟨h6, h7⟩
    · omega
    · have esc : hu_sc m i = i + 1 := if_neg (by omega)
      obtain ⟨qi, hqi, eqi⟩ := h3 (i + 1) (by omega)
      refine hy_238 (qi := qi) hN hst hcu hqi ?_ hr hd ?_ (fun z => ?_) (fun z => ?_) N 0 (-1) (by omega) (Or.inl ⟨rfl, by omega⟩)
      · intro e
        subst e
        exact hd2 (i + 1) i (by omega) (by omega) (by omega) (eqi.symm.trans ecu)
      · intro l hl
        have k := h7 i (by omega) l hl
        rw [esc] at k
        rw [ecu, eqi]
        exact k
      · subst z
        exact absurd (eqi.symm.trans eo) (hd2 (i + 1) 0 (by omega) (by omega) (by omega))
      · exact ih (i + 1) qi _ _ (by omega) hqi eqi hq'
end

/-- from the copy on: Y ends with the same hull -/
theorem hy_rest {post : Int32 → SY → Prop} {cap n m : Nat} {cnt x y : Int32} {hx hy tx ty qx qy : Nat → Int32} {o : Nat → Int × Int} (hG : hu_G cap n hx hy) (okx : hu_ok x) (oky : hu_ok y) (hne : ∀ i, i < n → hu_pt hx hy i ≠ (x.toInt, y.toInt))
    (hH : hu_H (n + 1) m (hu_T n hx hy x y) o)
    (K : ∀ tx ty qx qy : Nat → Int32, (∀ j, j < m → hu_pt qx qy j = o j) →
      (m ≤ cap → post (1 + (nI (n + 1) - nI m)) (nI cap, nI m, cnt + 1, hu_cp m qx hx, hu_cp m qy hy, tx, ty, qx, qy)) ∧
      (cap < m → post (-2) (nI cap, nI n, cnt, hx, hy, tx, ty, qx, qy))) :
    ∃ n47 : Nat, wY_add_47 post x y (nI (n + 1)) (nI cap) (nI n) cnt n47 0 hx hy tx ty qx qy := by
  have hT := hu_G_T hG okx oky hne
  obtain ⟨g1, g2, g3, g4, g5⟩ := hG
  have hm : m ≤ n + 1 := hH.2.1
  refine ⟨n + 1, ?_⟩
  have k := hy_47 (post := post) (hx := hx) (hy := hy) (tx := tx) (ty := ty) (ox := qx) (oy := qy) (x := x) (y := y) (x3 := nI (n + 1)) (cap := nI cap) (cnt := cnt) (n := n) (by omega) ?_ n 0 (by omega)
  · rw [hu_cp0, hu_cp0] at k
    exact k
  · have hr : ∀ l, l < n + 1 → hu_r (hu_pt (upd (hu_cp n hx tx) n x) (upd (hu_cp n hy ty) n y) l) := by
      intro l hl
      rw [hu_Te hl]; exact hT.1 l hl
    have hd : ∀ l l', l < n + 1 → l' < n + 1 → hu_pt (upd (hu_cp n hx tx) n x) (upd (hu_cp n hy ty) n y) l = hu_pt (upd (hu_cp n hx tx) n x) (upd (hu_cp n hy ty) n y) l' → l = l' := by
      intro l l' h1 h2 e
      rw [hu_Te h1, hu_Te h2] at e
      rcases Nat.lt_trichotomy l l' with z | z | z
      · exact absurd e (hT.2 l l' z h2)
      · exact z
      · exact absurd e.symm (hT.2 l' l z h1)
    have hH' : hu_H (n + 1) m (hu_pt (upd (hu_cp n hx tx) n x) (upd (hu_cp n hy ty) n y)) o := hu_H_congr hH (fun l hl => ⟨l, hl, hu_Te hl⟩) (fun l hl => ⟨l, hl, (hu_Te hl).symm⟩)
    refine ⟨n + 1, hy_116 (N := n + 1) (by omega) hr ?_ n 1 0 (by omega) (by omega) ?_⟩
    · intro b hb hmin
      have eb : hu_pt (upd (hu_cp n hx tx) n x) (upd (hu_cp n hy ty) n y) b = o 0 := by
        obtain ⟨l, hl, e⟩ := hH'.2.2.1 0 hH'.1
        have z1 := hH'.2.2.2.2.1 b hb
        have z2 := hmin l hl
        rw [← e] at z1 ⊢
        exact hu_finj (hr b hb) (hr l hl) (by omega)
      obtain ⟨m', rfl⟩ : ∃ m', m = m' + 1 := ⟨m - 1, by have := hH.1; omega⟩
      refine ⟨m' + 1 + 1, ?_⟩
      refine hy_193 (N := n + 1) (by omega) hH' hb eb hr hd ?_ m' 0 b qx qy (by omega) hb eb (fun j hj => by omega)
      intro qx1 qy1 hq
      have kk := K (upd (hu_cp n hx tx) n x) (upd (hu_cp n hy ty) n y) qx1 qy1 hq
      refine pk_le (m' + 1) cap (fun h => nm_r (e' := nI (n + 1) - nI (m' + 1)) (by rw [nI_1]) ⟨m' + 1 + 1, ?_⟩) kk.2
      have k2 := hy_446 (fn := nI n) (show m' + 1 ≤ 65 by omega) (kk.1 h) (m' + 1) 0 (by omega)
      rw [hu_cp0, hu_cp0] at k2
      exact k2
    · intro l hl
      have e : l = 0 := by omega
      rw [e]; exact Int.le_refl _
end
section
/-! what is owed -/
def i_Rel (k : Nat) (u : SX) (v : SY) : Prop := ∃ (cap n : Nat) (cnt : Int32) (hx hy sx sy ox oy tx ty qx qy : Nat → Int32),
  u = (nI cap, cnt, nI n, hx, hy, sx, sy, ox, oy) ∧ v = (nI cap, nI n, cnt, hx, hy, tx, ty, qx, qy) ∧ hu_G cap n hx hy
theorem i_up {k : Nat} {u : SX} {v : SY} (h : i_Rel k u v) : i_Rel (k + 3) u v := h
theorem hu_rel {k : Nat} {cap n : Nat} {cnt : Int32} {hx hy sx sy ox oy tx ty qx qy : Nat → Int32} (hG : hu_G cap n hx hy) : i_Rel k (nI cap, cnt, nI n, hx, hy, sx, sy, ox, oy) (nI cap, nI n, cnt, hx, hy, tx, ty, qx, qy) := ⟨cap, n, cnt, hx, hy, sx, sy, ox, oy, tx, ty, qx, qy, rfl, rfl, hG⟩
theorem hu_G0 {cap : Nat} (h : cap ≤ 64) : hu_G cap 0 (fun _ => 0) (fun _ => 0) := ⟨h, by omega, fun i hi => absurd hi (by omega), fun i j h1 h2 => absurd h2 (by omega), fun i j h1 h2 => absurd h2 (by omega)⟩
theorem hu_rel0 {cap : Nat} (h : cap ≤ 64) : i_Rel 1 (nI cap, 0, 0, (fun _ => 0), (fun _ => 0), (fun _ => 0), (fun _ => 0), (fun _ => 0), (fun _ => 0)) (nI cap, 0, 0, (fun _ => 0), (fun _ => 0), (fun _ => 0), (fun _ => 0), (fun _ => 0), (fun _ => 0)) := hu_rel (n := 0) (hu_G0 h)
theorem i_vc0 (k0 : Int32) : wpX_init (fun u => wpY_init (fun v => i_Rel 1 u v) k0) k0 := by
  unfold wpX_init wpY_init
  by_cases h : (0 : Int32) ≤ k0
  · by_cases h2 : k0 ≤ 64
    · obtain ⟨j, hj, e⟩ := nI_of2 (M := 64) (n := 64) (by decide) (Int32.not_lt.mpr h) h2
      subst e
      refine br_t h ?_
      unfold wX_init_62 wX_init_71
      refine br_t h2 (br_t h ?_)
      unfold wY_init_12 wY_init_21
      exact br_t h2 (hu_rel0 hj)
    · refine br_t h ?_
      unfold wX_init_62 wX_init_71
      refine br_f h2 (br_t h ?_)
      unfold wY_init_12 wY_init_21
      exact br_f h2 (hu_rel0 (cap := 64) (by omega))
  · refine br_f h ?_
    unfold wX_init_62 wX_init_71
    refine br_t (by decide) (br_f h ?_)
    unfold wY_init_12 wY_init_21
    exact br_t (by decide) (hu_rel0 (cap := 0) (by omega))
theorem i_vc_capacity {k : Nat} {u : SX} {v : SY} (I : i_Rel k u v) (hk : k + 3 ≤ 1537) : wpX_capacity (fun r => wpY_capacity (fun r' => r' = r ∧ i_Rel (k + 3) u v) v) u := by
  obtain ⟨cap, n, cnt, hx, hy, sx, sy, ox, oy, tx, ty, qx, qy, rfl, rfl, hG⟩ := I
  exact ⟨rfl, hu_rel hG⟩
theorem i_vc_seen {k : Nat} {u : SX} {v : SY} (I : i_Rel k u v) (hk : k + 3 ≤ 1537) : wpX_seen (fun r => wpY_seen (fun r' => r' = r ∧ i_Rel (k + 3) u v) v) u := by
  obtain ⟨cap, n, cnt, hx, hy, sx, sy, ox, oy, tx, ty, qx, qy, rfl, rfl, hG⟩ := I
  exact ⟨rfl, hu_rel hG⟩
theorem i_vc_hullSize {k : Nat} {u : SX} {v : SY} (I : i_Rel k u v) (hk : k + 3 ≤ 1537) : wpX_hullSize (fun r => wpY_hullSize (fun r' => r' = r ∧ i_Rel (k + 3) u v) v) u := by
  obtain ⟨cap, n, cnt, hx, hy, sx, sy, ox, oy, tx, ty, qx, qy, rfl, rfl, hG⟩ := I
  exact ⟨rfl, hu_rel hG⟩
theorem hu_idx {x : Int32} {n : Nat} (hn : n ≤ 64) (h : ¬ x < 0) (h2 : x < nI n) : vp_in x 66 ∧ vp_in x 65 := by
  obtain ⟨j, hj, rfl⟩ := nI_of h
  rw [nI_ltI hj (by omega)] at h2
  exact ⟨vp_in_nI (by omega) (by omega), vp_in_nI (by omega) (by omega)⟩
theorem i_vc_hullX {k : Nat} {u : SX} {v : SY} (I : i_Rel k u v) (hk : k + 3 ≤ 1537) (v1 : Int32) : wpX_hullX (fun r => wpY_hullX (fun r' => r' = r ∧ i_Rel (k + 3) u v) v v1) u v1 := by
  obtain ⟨cap, n, cnt, hx, hy, sx, sy, ox, oy, tx, ty, qx, qy, rfl, rfl, hG⟩ := I
  have hn : n ≤ 64 := by have := hG.1; have := hG.2.1; omega
  by_cases h : v1 < 0
  · exact br_t h (br_t h ⟨rfl, hu_rel hG⟩)
  · by_cases h2 : v1 < nI n
    · have v := hu_idx hn h h2
      exact br_f h (br_t h2 ⟨v.1, br_f h (br_t h2 ⟨v.2, rfl, hu_rel hG⟩)⟩)
    · exact br_f h (br_f h2 (br_f h (br_f h2 ⟨rfl, hu_rel hG⟩)))
theorem i_vc_hullY {k : Nat} {u : SX} {v : SY} (I : i_Rel k u v) (hk : k + 3 ≤ 1537) (v1 : Int32) : wpX_hullY (fun r => wpY_hullY (fun r' => r' = r ∧ i_Rel (k + 3) u v) v v1) u v1 := by
  obtain ⟨cap, n, cnt, hx, hy, sx, sy, ox, oy, tx, ty, qx, qy, rfl, rfl, hG⟩ := I
  have hn : n ≤ 64 := by have := hG.1; have := hG.2.1; omega
  by_cases h : v1 < 0
  · exact br_t h (br_t h ⟨rfl, hu_rel hG⟩)
  · by_cases h2 : v1 < nI n
    · have v := hu_idx hn h h2
      exact br_f h (br_t h2 ⟨v.1, br_f h (br_t h2 ⟨v.2, rfl, hu_rel hG⟩)⟩)
    · exact br_f h (br_f h2 (br_f h (br_f h2 ⟨rfl, hu_rel hG⟩)))
theorem i_vc_inside {k : Nat} {u : SX} {v : SY} (I : i_Rel k u v) (hk : k + 3 ≤ 1537) (v1 : Int32) (v2 : Int32) : wpX_inside (fun r => wpY_inside (fun r' => r' = r ∧ i_Rel (k + 3) u v) v v1 v2) u v1 v2 := by
  obtain ⟨cap, n, cnt, hx, hy, sx, sy, ox, oy, tx, ty, qx, qy, rfl, rfl, hG⟩ := I
  by_cases h : hu_ok v1 ∧ hu_ok v2
  · obtain ⟨r, a, b, c, d⟩ := hu_in hG h.1 h.2
    exact c _ _ _ _ _ _ _ (d _ _ _ _ _ _ _ ⟨rfl, hu_rel hG⟩)
  · exact hu_xr (fun a b => absurd ⟨a, b⟩ h) (fun _ => hu_yr (fun a b => absurd ⟨a, b⟩ h) (fun _ => ⟨rfl, hu_rel hG⟩))
theorem i_vc_twiceArea {k : Nat} {u : SX} {v : SY} (I : i_Rel k u v) (hk : k + 3 ≤ 1537) : wpX_twiceArea (fun r => wpY_twiceArea (fun r' => r' = r ∧ i_Rel (k + 3) u v) v) u := by
  obtain ⟨cap, n, cnt, hx, hy, sx, sy, ox, oy, tx, ty, qx, qy, rfl, rfl, hG⟩ := I
  have hn : n ≤ 64 := by have := hG.1; have := hG.2.1; omega
  by_cases h : 3 ≤ n
  · obtain ⟨r, a, b⟩ := hu_area hn hG.2.2.1 hG.2.2.2.2 (n - 2) 1 0 (by omega) (by omega) (by omega)
    exact br_t (nI_le (a := 3) h (by omega)) ⟨_, a _ _ _ _ _ _ _ ⟨_, b _ _ _ _ _ _ _ ⟨rfl, hu_rel hG⟩⟩⟩
  · refine br_f (nI_ge (b := 3) (by omega) (by omega)) ⟨1, ?_⟩
    rw [wY_twiceArea_4]
    exact br_t (nI_le (b := 2) (by omega) (by omega)) ⟨rfl, hu_rel hG⟩

theorem hu_G_new {cap n m : Nat} {hx hy ox oy : Nat → Int32} {x y : Int32} (hG : hu_G cap n hx hy) (okx : hu_ok x) (oky : hu_ok y) (hne : ∀ i, i < n → hu_pt hx hy i ≠ (x.toInt, y.toInt)) (hH : hu_H (n + 1) m (hu_T n hx hy x y) (hu_pt ox oy)) (hm : m ≤ cap) : hu_G cap m (hu_cp m ox hx) (hu_cp m oy hy) := by
  have hT := hu_G_T hG okx oky hne
  have e : ∀ i, i < m → hu_pt (hu_cp m ox hx) (hu_cp m oy hy) i = hu_pt ox oy i := by
    intro i hi
    unfold hu_pt hu_cp
    rw [if_pos hi, if_pos hi]
  obtain ⟨h1, h2, h3, h4, h5, h6⟩ := hH
  refine ⟨hG.1, hm, ?_, ?_, ?_⟩
  · intro i hi
    rw [e i hi]
    obtain ⟨l, hl, z⟩ := h3 i hi
    rw [← z]; exact hT.1 l hl
  · intro i j hij hj
    rw [e i (by omega), e j hj]
    exact h4 i j hij hj
  · intro i j hi hj
    rw [e i hi, e j hj, e _ (hu_scl hi)]
    rcases h6 with h6 | ⟨h6, h7⟩
    · have e1 : i = 0 := by omega
      have e2 : j = 0 := by omega
      subst e1 e2
      have e3 : hu_sc m 0 = 0 := if_pos (by omega)
      rw [e3, hu_same]; omega
    · obtain ⟨l, hl, z⟩ := h3 j hj
      rw [← z]
      rcases h7 i hi l hl with a | ⟨a, _⟩ <;> omega
theorem hu_cp_eq {m : Nat} {hx hy ox oy qx qy : Nat → Int32} (h : ∀ j, j < m → hu_pt qx qy j = hu_pt ox oy j) : hu_cp m qx hx = hu_cp m ox hx ∧ hu_cp m qy hy = hu_cp m oy hy := by
  constructor
  · funext j
    unfold hu_cp
    by_cases c : j < m
    · rw [if_pos c, if_pos c]
      have k : (qx j).toInt = (ox j).toInt := congrArg Prod.fst (h j c)
      exact Int32.toInt_inj.mp k
    · rw [if_neg c, if_neg c]
  · funext j
    unfold hu_cp
    by_cases c : j < m
    · rw [if_pos c, if_pos c]
      have k : (qy j).toInt = (oy j).toInt := congrArg Prod.snd (h j c)
      exact Int32.toInt_inj.mp k
    · rw [if_neg c, if_neg c]

theorem i_vc_add {k : Nat} {u : SX} {v : SY} (I : i_Rel k u v) (hk : k + 3 ≤ 1537) (v1 : Int32) (v2 : Int32) : wpX_add (fun r u' => wpY_add (fun r' v' => r' = r ∧ i_Rel (k + 3) u' v') v v1 v2) u v1 v2 := by
  obtain ⟨cap, n, cnt, hx, hy, sx, sy, ox, oy, tx, ty, qx, qy, rfl, rfl, hG⟩ := I
  unfold wpX_add
  dsimp only
  by_cases h : hu_ok v1 ∧ hu_ok v2
  · refine hu_xr (fun _ _ => ?_) (fun z => absurd h z)
    obtain ⟨r, a, b, c, d⟩ := hu_in hG h.1 h.2
    refine c _ _ _ _ _ _ _ ?_
    by_cases r0 : r = 0
    · refine br_t r0 (nm_r (nI_1 n) ?_)
      refine hx_rest hG h.1 h.2 (b r0) ?_
      intro m sx1 sy1 ox1 oy1 hH
      constructor
      · intro hm
        unfold wpY_add
        dsimp only
        refine hu_yr (fun _ _ => ?_) (fun z => absurd h z)
        refine d _ _ _ _ _ _ _ ?_
        refine br_t (by rw [r0]; decide) (nm_r (nI_1 n) ?_)
        refine hy_rest hG h.1 h.2 (b r0) hH ?_
        intro tx1 ty1 qx1 qy1 hq
        refine ⟨fun _ => ⟨rfl, ?_⟩, fun z => by omega⟩
        have e := hu_cp_eq (hx := hx) (hy := hy) hq
        rw [e.1, e.2]
        exact hu_rel (hu_G_new hG h.1 h.2 (b r0) hH hm)
      · intro hm
        unfold wpY_add
        dsimp only
        refine hu_yr (fun _ _ => ?_) (fun z => absurd h z)
        refine d _ _ _ _ _ _ _ ?_
        refine br_t (by rw [r0]; decide) (nm_r (nI_1 n) ?_)
        refine hy_rest hG h.1 h.2 (b r0) hH ?_
        intro tx1 ty1 qx1 qy1 hq
        exact ⟨fun z => by omega, fun _ => ⟨rfl, hu_rel hG⟩⟩
    · refine br_f r0 (nm_e ?_)
      unfold wpY_add
      dsimp only
      refine hu_yr (fun _ _ => ?_) (fun z => absurd h z)
      refine d _ _ _ _ _ _ _ ?_
      have r1 : ¬ r ≤ 0 := by
        rcases a with a | a | a
        · exact absurd a r0
        · rw [a]; decide
        · rw [a]; decide
      exact br_f r1 (nm_e ⟨rfl, hu_rel hG⟩)
  · refine hu_xr (fun a b => absurd ⟨a, b⟩ h) (fun _ => ?_)
    unfold wpY_add
    dsimp only
    exact hu_yr (fun a b => absurd ⟨a, b⟩ h) (fun _ => ⟨rfl, hu_rel hG⟩)
end
