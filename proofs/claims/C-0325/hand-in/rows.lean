section
theorem pk_us {f : Nat → Int32} {k : Nat} {x : Int32} : upd f k x k = x := if_pos rfl
theorem pk_un {f : Nat → Int32} {k j : Nat} {x : Int32} (h : j ≠ k) : upd f k x j = f j := if_neg h
theorem pk_uLs {f : Nat → Int64} {k : Nat} {x : Int64} : vp_updL f k x k = x := if_pos rfl
theorem pk_uLn {f : Nat → Int64} {k j : Nat} {x : Int64} (h : j ≠ k) : vp_updL f k x j = f j := if_neg h
theorem pk_sub {a b : Nat} (h : b ≤ a) : nI a - nI b = nI (a - b) := by
  obtain ⟨c, rfl⟩ : ∃ c, a = c + b := ⟨a - b, by omega⟩
  rw [← nI_add, Int32.add_sub_cancel, Nat.add_sub_cancel]
theorem pk_m1 (n : Nat) : nI (n + 1) + (-1) = nI n := by
  rw [← nI_1, Int32.add_assoc, show (1 : Int32) + (-1) = 0 from rfl, Int32.add_zero]
theorem pk_mul (a b : Nat) : nI a * nI b = nI (a * b) := (Int32.ofNat_mul a b).symm
theorem pk_div {a d : Nat} (ha : a < 2 ^ 31) (h0 : 0 < d) (hd : d < 2 ^ 31) : nI a / nI d = nI (a / d) := by
  apply Int32.toInt_inj.mp
  rw [lg_idiv_nonneg (by rw [nI_toInt ha]; omega) (by rw [nI_toInt hd]; omega), nI_toInt ha, nI_toInt hd, nI_toInt (Nat.lt_of_le_of_lt (Nat.div_le_self a d) ha)]
  first | rfl | exact (Int.natCast_ediv _ _).symm
theorem pk_rem {a d : Nat} (ha : a < 2 ^ 31) (h0 : 0 < d) (hd : d < 2 ^ 31) : nI a - nI a / nI d * nI d = nI (a % d) := by
  rw [pk_div ha h0 hd, pk_mul, pk_sub (Nat.div_mul_le_self a d)]
  exact congrArg nI (by have := Nat.div_add_mod' a d; omega)
theorem pk_sub_toInt {a b : Nat} (ha : a < 2 ^ 30) (hb : b < 2 ^ 30) : (nI a - nI b).toInt = (a : Int) - b := by
  rw [Int32.toInt_sub, nI_toInt (by omega), nI_toInt (by omega)]
  exact Int.bmod_eq_of_le (by omega) (by omega)
theorem pk_sneg {a b : Nat} (hb : b < 2 ^ 30) (h : a < b) : nI a - nI b < 0 := by
  rw [Int32.lt_iff_toInt_lt, pk_sub_toInt (by omega) hb, show (0 : Int32).toInt = 0 from by decide]
  omega
theorem pk_ix (x : Int32) {n : Nat} (hn : n < 2 ^ 31) : x < 0 ∨ nI n ≤ x ∨ ∃ j : Nat, j < n ∧ x = nI j := by
  by_cases h : x < 0
  · exact Or.inl h
  · obtain ⟨j, hj, rfl⟩ := nI_of h
    by_cases h2 : j < n
    · exact Or.inr (Or.inr ⟨j, h2, rfl⟩)
    · exact Or.inr (Or.inl (nI_le (by omega) hj))
theorem pk_le {x y : Int32} {A B : Prop} (a b : Nat) (f : a ≤ b → A) (g : b < a → B) (hx : x = nI a := by rfl) (hy : y = nI b := by rfl) (ha : a < 2 ^ 31 := by omega) (hb : b < 2 ^ 31 := by omega) : (x ≤ y → A) ∧ (¬ x ≤ y → B) := by
  subst hx hy
  rw [nI_leI ha hb]
  exact ⟨f, fun z => g (by omega)⟩
theorem pk_lt {x y : Int32} {A B : Prop} (a b : Nat) (f : a < b → A) (g : b ≤ a → B) (hx : x = nI a := by rfl) (hy : y = nI b := by rfl) (ha : a < 2 ^ 31 := by omega) (hb : b < 2 ^ 31 := by omega) : (x < y → A) ∧ (¬ x < y → B) := by
  subst hx hy
  rw [nI_ltI ha hb]
  exact ⟨f, fun z => g (by omega)⟩
theorem pk_eq {x y : Int32} {A B : Prop} (a b : Nat) (f : a = b → A) (g : a ≠ b → B) (hx : x = nI a := by rfl) (hy : y = nI b := by rfl) (ha : a < 2 ^ 31 := by omega) (hb : b < 2 ^ 31 := by omega) : (x = y → A) ∧ (¬ x = y → B) := by
  subst hx hy
  rw [nI_eq ha hb]
  exact ⟨f, g⟩
theorem pk_in {x : Int32} (n N : Nat) (h : n < N) (hx : x = nI n := by rfl) (hN : N < 2 ^ 31 := by omega) : vp_in x N := by
  subst hx
  exact vp_in_nI h hN
theorem pk_cl {x : Int32} (n : Nat) (hx : x = nI n := by rfl) (h : n < 2 ^ 31 := by omega) : x.toNatClampNeg = n := by
  subst hx
  exact nI_clamp h
theorem pk_vb (z : Int32) : vp_nar .byte z.toInt8.toInt32 = z.toInt8.toInt32 := by rw [vp_nar_byte]; simp
theorem pk_vs (z : Int32) : vp_nar .short z.toInt16.toInt32 = z.toInt16.toInt32 := by rw [vp_nar_short]; simp
theorem sg_byteT : ∀ n, n < 11 → vp_nar .byte (nI n).toInt8.toInt32 = nI n := by decide +kernel
theorem sg_shortT : ∀ n, n < 512 → vp_nar .short (nI n).toInt16.toInt32 = nI n := by decide +kernel
theorem sg_b9 : vp_nar .byte 9 = nI 9 := by decide +kernel
theorem sg_b10 : vp_nar .byte 10 = nI 10 := by decide +kernel
theorem sg_n0 : vp_nar .boolean 0 = 0 := by decide +kernel
theorem sg_n1 : vp_nar .boolean 1 = 1 := by decide +kernel
theorem sg_by0 : vp_nar .byte 0 = 0 := by decide +kernel
theorem sg_k9 {n : Nat} (h : n ≤ 8) : n = 0 ∨ n = 1 ∨ n = 2 ∨ n = 3 ∨ n = 4 ∨ n = 5 ∨ n = 6 ∨ n = 7 ∨ n = 8 := by omega
/-- n different numbers below m are at most m -/
theorem sg_pig : ∀ (m n : Nat) (f : Nat → Nat), (∀ i, i < n → f i < m) → (∀ i j, i < j → j < n → f i ≠ f j) → n ≤ m := by
  intro m
  induction m with
  | zero =>
    intro n f h _
    rcases Nat.eq_zero_or_pos n with e | e
    · omega
    · have := h 0 e
      omega
  | succ m ih =>
    intro n f h hd
    rcases n with _ | n
    · omega
    · have hn := h n (by omega)
      have := ih n (fun i => if f i = m then f n else f i) (by
        intro i hi
        have h1 := h i (by omega)
        have h2 := hd i n hi (by omega)
        split <;> omega) (by
        intro i j hij hj
        have h1 := hd i j hij (by omega)
        have h2 := hd i n (by omega) (by omega)
        have h3 := hd j n (by omega) (by omega)
        split <;> split <;> omega)
      omega
end
section
/-! the pure semantics: rules, levels, the least table -/
def sg_kd (F : Nat → Int32) (s : Nat) : Nat := (F s).toNatClampNeg
def sg_Pl (A B : Nat → Int32) (T : Nat → Nat → Int32 → Prop) (s : Nat) : Nat → Nat → Nat → Prop
  | 0 => fun p q => p = 0 ∧ q = 0
  | k + 1 => fun p q => ∃ p' q' : Nat, ∃ x y : Int32, sg_Pl A B T s k p' q' ∧ T (sg_kd A s) p' x ∧ T (sg_kd B s) q' y ∧ p = (if x ≤ y then p' + 1 else p') ∧ q = (if y ≤ x then q' + 1 else q')
def sg_Bd (A B : Nat → Int32) (T : Nat → Nat → Int32 → Prop) (s k : Nat) (v : Int32) : Nat → Prop
  | 0 => v = A s + nI k * B s
  | 1 => (k = 0 ∧ v = A s) ∨ (k ≠ 0 ∧ T (sg_kd B s) (k - 1) v)
  | 2 => T (sg_kd A s) (k + 1) v
  | 3 => ∃ x y : Int32, T (sg_kd A s) k x ∧ T (sg_kd B s) k y ∧ v = x + y
  | 4 => ∃ x y : Int32, T (sg_kd A s) k x ∧ T (sg_kd B s) k y ∧ v = x * y
  | 5 => ∃ y : Int32, T (sg_kd B s) k y ∧ v = A s * y
  | 6 => ∃ w x : Int32, ((k = 0 ∧ w = 0) ∨ (k ≠ 0 ∧ T s (k - 1) w)) ∧ T (sg_kd A s) k x ∧ v = w + x
  | 7 => (k % 2 = 0 ∧ T (sg_kd A s) (k / 2) v) ∨ (k % 2 = 1 ∧ T (sg_kd B s) (k / 2) v)
  | 8 => ∃ p q : Nat, ∃ x y : Int32, sg_Pl A B T s k p q ∧ T (sg_kd A s) p x ∧ T (sg_kd B s) q y ∧ v = (if y ≤ x then y else x)
  | _ => False
def sg_Ru (K A B : Nat → Int32) (T : Nat → Nat → Int32 → Prop) (s k : Nat) (v : Int32) : Prop :=
  (k = 0 ∨ ∃ w, T s (k - 1) w) ∧ sg_Bd A B T s k v (sg_kd K s)
def sg_Tn (K A B : Nat → Int32) : Nat → Nat → Nat → Int32 → Prop
  | 0 => fun _ _ _ => False
  | n + 1 => sg_Ru K A B (sg_Tn K A B n)
def sg_H (K A B : Nat → Int32) (s k : Nat) (v : Int32) : Prop := ∃ n, sg_Tn K A B n s k v
def sg_wf (K A B : Nat → Int32) : Prop := ∀ s, s < 6 → K s = nI (sg_kd K s) ∧ sg_kd K s ≤ 8 ∧ (2 ≤ sg_kd K s ∧ sg_kd K s ≠ 5 → A s = nI (sg_kd A s) ∧ sg_kd A s < 6) ∧ (sg_kd K s = 1 ∨ sg_kd K s = 3 ∨ sg_kd K s = 4 ∨ sg_kd K s = 5 ∨ sg_kd K s = 7 ∨ sg_kd K s = 8 → B s = nI (sg_kd B s) ∧ sg_kd B s < 6)
section
variable {K A B : Nat → Int32} {T T' : Nat → Nat → Int32 → Prop} {s k : Nat} {v : Int32}
theorem sg_Ru_0 (e : sg_kd K s = 0) : sg_Ru K A B T s k v ↔ (k = 0 ∨ ∃ w, T s (k - 1) w) ∧ v = A s + nI k * B s := by
  unfold sg_Ru
  rw [e]
  exact Iff.rfl
theorem sg_Ru_1 (e : sg_kd K s = 1) : sg_Ru K A B T s k v ↔ (k = 0 ∨ ∃ w, T s (k - 1) w) ∧ ((k = 0 ∧ v = A s) ∨ (k ≠ 0 ∧ T (sg_kd B s) (k - 1) v)) := by
  unfold sg_Ru
  rw [e]
  exact Iff.rfl
theorem sg_Ru_2 (e : sg_kd K s = 2) : sg_Ru K A B T s k v ↔ (k = 0 ∨ ∃ w, T s (k - 1) w) ∧ T (sg_kd A s) (k + 1) v := by
  unfold sg_Ru
  rw [e]
  exact Iff.rfl
theorem sg_Ru_3 (e : sg_kd K s = 3) : sg_Ru K A B T s k v ↔ (k = 0 ∨ ∃ w, T s (k - 1) w) ∧ ∃ x y : Int32, T (sg_kd A s) k x ∧ T (sg_kd B s) k y ∧ v = x + y := by
  unfold sg_Ru
  rw [e]
  exact Iff.rfl
theorem sg_Ru_4 (e : sg_kd K s = 4) : sg_Ru K A B T s k v ↔ (k = 0 ∨ ∃ w, T s (k - 1) w) ∧ ∃ x y : Int32, T (sg_kd A s) k x ∧ T (sg_kd B s) k y ∧ v = x * y := by
  unfold sg_Ru
  rw [e]
  exact Iff.rfl
theorem sg_Ru_5 (e : sg_kd K s = 5) : sg_Ru K A B T s k v ↔ (k = 0 ∨ ∃ w, T s (k - 1) w) ∧ ∃ y : Int32, T (sg_kd B s) k y ∧ v = A s * y := by
  unfold sg_Ru
  rw [e]
  exact Iff.rfl
theorem sg_Ru_6 (e : sg_kd K s = 6) : sg_Ru K A B T s k v ↔ (k = 0 ∨ ∃ w, T s (k - 1) w) ∧ ∃ w x : Int32, ((k = 0 ∧ w = 0) ∨ (k ≠ 0 ∧ T s (k - 1) w)) ∧ T (sg_kd A s) k x ∧ v = w + x := by
  unfold sg_Ru
  rw [e]
  exact Iff.rfl
theorem sg_Ru_7 (e : sg_kd K s = 7) : sg_Ru K A B T s k v ↔ (k = 0 ∨ ∃ w, T s (k - 1) w) ∧ ((k % 2 = 0 ∧ T (sg_kd A s) (k / 2) v) ∨ (k % 2 = 1 ∧ T (sg_kd B s) (k / 2) v)) := by
  unfold sg_Ru
  rw [e]
  exact Iff.rfl
theorem sg_Ru_8 (e : sg_kd K s = 8) : sg_Ru K A B T s k v ↔ (k = 0 ∨ ∃ w, T s (k - 1) w) ∧ ∃ p q : Nat, ∃ x y : Int32, sg_Pl A B T s k p q ∧ T (sg_kd A s) p x ∧ T (sg_kd B s) q y ∧ v = (if y ≤ x then y else x) := by
  unfold sg_Ru
  rw [e]
  exact Iff.rfl
theorem sg_Pl_s {p q : Nat} : sg_Pl A B T s (k + 1) p q ↔ ∃ p' q' : Nat, ∃ x y : Int32, sg_Pl A B T s k p' q' ∧ T (sg_kd A s) p' x ∧ T (sg_kd B s) q' y ∧ p = (if x ≤ y then p' + 1 else p') ∧ q = (if y ≤ x then q' + 1 else q') := Iff.rfl
theorem sg_Pl_0 {p q : Nat} : sg_Pl A B T s 0 p q ↔ p = 0 ∧ q = 0 := Iff.rfl
theorem sg_Tn_s {n : Nat} : sg_Tn K A B (n + 1) s k v ↔ sg_Ru K A B (sg_Tn K A B n) s k v := Iff.rfl
end
theorem sg_Pl_mono {A B : Nat → Int32} {T T' : Nat → Nat → Int32 → Prop} {s : Nat} : ∀ {k p q : Nat}, (∀ m x, m < k → T (sg_kd A s) m x → T' (sg_kd A s) m x) → (∀ m x, m < k → T (sg_kd B s) m x → T' (sg_kd B s) m x) → sg_Pl A B T s k p q → sg_Pl A B T' s k p q ∧ p ≤ k ∧ q ≤ k := by
  intro k
  induction k with
  | zero =>
    intro p q _ _ h
    have h' := sg_Pl_0.mp h
    exact ⟨sg_Pl_0.mpr h', by omega, by omega⟩
  | succ k ih =>
    intro p q ha hb h
    obtain ⟨p', q', x, y, h1, h2, h3, h4, h5⟩ := sg_Pl_s.mp h
    obtain ⟨i1, i2, i3⟩ := ih (fun m x hm => ha m x (by omega)) (fun m x hm => hb m x (by omega)) h1
    refine ⟨sg_Pl_s.mpr ⟨p', q', x, y, i1, ha _ _ (by omega) h2, hb _ _ (by omega) h3, h4, h5⟩, ?_, ?_⟩
    · rw [h4]
      split <;> omega
    · rw [h5]
      split <;> omega
theorem sg_Pl_det {A B : Nat → Int32} {T : Nat → Nat → Int32 → Prop} {s : Nat} (ha : ∀ m x y, T (sg_kd A s) m x → T (sg_kd A s) m y → x = y) (hb : ∀ m x y, T (sg_kd B s) m x → T (sg_kd B s) m y → x = y) : ∀ {k p q p' q' : Nat}, sg_Pl A B T s k p q → sg_Pl A B T s k p' q' → p = p' ∧ q = q' := by
  intro k
  induction k with
  | zero =>
    intro p q p' q' h h'
    have h1 := sg_Pl_0.mp h
    have h2 := sg_Pl_0.mp h'
    omega
  | succ k ih =>
    intro p q p' q' h h'
    obtain ⟨p1, q1, x, y, h1, h2, h3, h4, h5⟩ := sg_Pl_s.mp h
    obtain ⟨p2, q2, x', y', g1, g2, g3, g4, g5⟩ := sg_Pl_s.mp h'
    obtain ⟨e1, e2⟩ := ih h1 g1
    subst e1 e2
    have e3 := ha _ _ _ h2 g2
    have e4 := hb _ _ _ h3 g3
    subst e3 e4
    exact ⟨h4.trans g4.symm, h5.trans g5.symm⟩
section
variable {K A B : Nat → Int32} {T T' : Nat → Nat → Int32 → Prop} {s k : Nat} {v : Int32}
theorem sg_Ru_mono (W : sg_wf K A B) (hs : s < 6) (h : ∀ d m x, d < 6 → m ≤ k + 1 → T d m x → T' d m x) (r : sg_Ru K A B T s k v) : sg_Ru K A B T' s k v := by
  obtain ⟨_, w2, wa, wb⟩ := W s hs
  have r1 : k = 0 ∨ ∃ w, T' s (k - 1) w := by
    rcases r.1 with r1 | ⟨w, r1⟩
    · exact Or.inl r1
    · exact Or.inr ⟨w, h _ _ _ hs (by omega) r1⟩
  rcases sg_k9 w2 with e | e | e | e | e | e | e | e | e
  · exact (sg_Ru_0 e).mpr ⟨r1, ((sg_Ru_0 e).mp r).2⟩
  · refine (sg_Ru_1 e).mpr ⟨r1, ?_⟩
    rcases ((sg_Ru_1 e).mp r).2 with h1 | ⟨h1, h2⟩
    · exact Or.inl h1
    · exact Or.inr ⟨h1, h _ _ _ (wb (by omega)).2 (by omega) h2⟩
  · exact (sg_Ru_2 e).mpr ⟨r1, h _ _ _ (wa (by omega)).2 (by omega) ((sg_Ru_2 e).mp r).2⟩
  · obtain ⟨x, y, h1, h2, h3⟩ := ((sg_Ru_3 e).mp r).2
    exact (sg_Ru_3 e).mpr ⟨r1, x, y, h _ _ _ (wa (by omega)).2 (by omega) h1, h _ _ _ (wb (by omega)).2 (by omega) h2, h3⟩
  · obtain ⟨x, y, h1, h2, h3⟩ := ((sg_Ru_4 e).mp r).2
    exact (sg_Ru_4 e).mpr ⟨r1, x, y, h _ _ _ (wa (by omega)).2 (by omega) h1, h _ _ _ (wb (by omega)).2 (by omega) h2, h3⟩
  · obtain ⟨y, h2, h3⟩ := ((sg_Ru_5 e).mp r).2
    exact (sg_Ru_5 e).mpr ⟨r1, y, h _ _ _ (wb (by omega)).2 (by omega) h2, h3⟩
  · obtain ⟨w, x, h1, h2, h3⟩ := ((sg_Ru_6 e).mp r).2
    refine (sg_Ru_6 e).mpr ⟨r1, w, x, ?_, h _ _ _ (wa (by omega)).2 (by omega) h2, h3⟩
    rcases h1 with h1 | ⟨h1, h4⟩
    · exact Or.inl h1
    · exact Or.inr ⟨h1, h _ _ _ hs (by omega) h4⟩
  · refine (sg_Ru_7 e).mpr ⟨r1, ?_⟩
    rcases ((sg_Ru_7 e).mp r).2 with ⟨h1, h2⟩ | ⟨h1, h2⟩
    · exact Or.inl ⟨h1, h _ _ _ (wa (by omega)).2 (by omega) h2⟩
    · exact Or.inr ⟨h1, h _ _ _ (wb (by omega)).2 (by omega) h2⟩
  · obtain ⟨p, q, x, y, h1, h2, h3, h4⟩ := ((sg_Ru_8 e).mp r).2
    obtain ⟨g1, g2, g3⟩ := sg_Pl_mono (T' := T') (fun m x hm => h _ m x (wa (by omega)).2 (by omega)) (fun m x hm => h _ m x (wb (by omega)).2 (by omega)) h1
    exact (sg_Ru_8 e).mpr ⟨r1, p, q, x, y, g1, h _ _ _ (wa (by omega)).2 (by omega) h2, h _ _ _ (wb (by omega)).2 (by omega) h3, h4⟩
theorem sg_Ru_det (W : sg_wf K A B) (hs : s < 6) (h : ∀ d m x y, d < 6 → T d m x → T d m y → x = y) {v' : Int32} (r : sg_Ru K A B T s k v) (r' : sg_Ru K A B T s k v') : v = v' := by
  obtain ⟨_, w2, wa, wb⟩ := W s hs
  rcases sg_k9 w2 with e | e | e | e | e | e | e | e | e
  · rw [((sg_Ru_0 e).mp r).2, ((sg_Ru_0 e).mp r').2]
  · rcases ((sg_Ru_1 e).mp r).2 with ⟨h1, h2⟩ | ⟨h1, h2⟩ <;> rcases ((sg_Ru_1 e).mp r').2 with ⟨g1, g2⟩ | ⟨g1, g2⟩
    · rw [h2, g2]
    · exact absurd h1 g1
    · exact absurd g1 h1
    · exact h _ _ _ _ (wb (by omega)).2 h2 g2
  · exact h _ _ _ _ (wa (by omega)).2 ((sg_Ru_2 e).mp r).2 ((sg_Ru_2 e).mp r').2
  · obtain ⟨x, y, h1, h2, h3⟩ := ((sg_Ru_3 e).mp r).2
    obtain ⟨x', y', g1, g2, g3⟩ := ((sg_Ru_3 e).mp r').2
    rw [h3, g3, h _ _ _ _ (wa (by omega)).2 h1 g1, h _ _ _ _ (wb (by omega)).2 h2 g2]
  · obtain ⟨x, y, h1, h2, h3⟩ := ((sg_Ru_4 e).mp r).2
    obtain ⟨x', y', g1, g2, g3⟩ := ((sg_Ru_4 e).mp r').2
    rw [h3, g3, h _ _ _ _ (wa (by omega)).2 h1 g1, h _ _ _ _ (wb (by omega)).2 h2 g2]
  · obtain ⟨y, h2, h3⟩ := ((sg_Ru_5 e).mp r).2
    obtain ⟨y', g2, g3⟩ := ((sg_Ru_5 e).mp r').2
    rw [h3, g3, h _ _ _ _ (wb (by omega)).2 h2 g2]
  · obtain ⟨w, x, h1, h2, h3⟩ := ((sg_Ru_6 e).mp r).2
    obtain ⟨w', x', g1, g2, g3⟩ := ((sg_Ru_6 e).mp r').2
    have ew : w = w' := by
      rcases h1 with ⟨h1, h4⟩ | ⟨h1, h4⟩ <;> rcases g1 with ⟨g1, g4⟩ | ⟨g1, g4⟩
      · rw [h4, g4]
      · exact absurd h1 g1
      · exact absurd g1 h1
      · exact h _ _ _ _ hs h4 g4
    rw [h3, g3, ew, h _ _ _ _ (wa (by omega)).2 h2 g2]
  · rcases ((sg_Ru_7 e).mp r).2 with ⟨h1, h2⟩ | ⟨h1, h2⟩ <;> rcases ((sg_Ru_7 e).mp r').2 with ⟨g1, g2⟩ | ⟨g1, g2⟩
    · exact h _ _ _ _ (wa (by omega)).2 h2 g2
    · omega
    · omega
    · exact h _ _ _ _ (wb (by omega)).2 h2 g2
  · obtain ⟨p, q, x, y, h1, h2, h3, h4⟩ := ((sg_Ru_8 e).mp r).2
    obtain ⟨p', q', x', y', g1, g2, g3, g4⟩ := ((sg_Ru_8 e).mp r').2
    obtain ⟨e1, e2⟩ := sg_Pl_det (fun m x y => h _ m x y (wa (by omega)).2) (fun m x y => h _ m x y (wb (by omega)).2) h1 g1
    subst e1 e2
    rw [h4, g4, h _ _ _ _ (wa (by omega)).2 h2 g2, h _ _ _ _ (wb (by omega)).2 h3 g3]
end
section
variable {K A B : Nat → Int32}
theorem sg_Tn_up1 (W : sg_wf K A B) : ∀ {n s k : Nat} {v : Int32}, s < 6 → sg_Tn K A B n s k v → sg_Tn K A B (n + 1) s k v := by
  intro n
  induction n with
  | zero =>
    intro s k v _ h
    exact False.elim h
  | succ n ih =>
    intro s k v hs h
    exact sg_Tn_s.mpr (sg_Ru_mono W hs (fun d m x hd _ => ih hd) (sg_Tn_s.mp h))
theorem sg_Tn_up (W : sg_wf K A B) {n m s k : Nat} {v : Int32} (hs : s < 6) (hm : n ≤ m) (h : sg_Tn K A B n s k v) : sg_Tn K A B m s k v := by
  induction hm with
  | refl => exact h
  | step _ ih => exact sg_Tn_up1 W hs ih
theorem sg_Tn_det (W : sg_wf K A B) : ∀ {n s k : Nat} {v v' : Int32}, s < 6 → sg_Tn K A B n s k v → sg_Tn K A B n s k v' → v = v' := by
  intro n
  induction n with
  | zero =>
    intro s k v v' _ h
    exact False.elim h
  | succ n ih =>
    intro s k v v' hs h h'
    exact sg_Ru_det (T := sg_Tn K A B n) W hs (fun d m x y hd => ih hd) (sg_Tn_s.mp h) (sg_Tn_s.mp h')
theorem sg_H_det (W : sg_wf K A B) {s k : Nat} {v v' : Int32} (hs : s < 6) (h : sg_H K A B s k v) (h' : sg_H K A B s k v') : v = v' := by
  obtain ⟨n, h⟩ := h
  obtain ⟨m, h'⟩ := h'
  exact sg_Tn_det W hs (sg_Tn_up W hs (Nat.le_add_right n m) h) (sg_Tn_up W hs (Nat.le_add_left m n) h')
theorem sg_Tn_dn (W : sg_wf K A B) {n s k : Nat} {v : Int32} (hs : s < 6) (h : sg_Tn K A B n s (k + 1) v) : ∃ w, sg_Tn K A B n s k w := by
  rcases n with _ | n
  · exact False.elim h
  · rcases (sg_Tn_s.mp h).1 with h1 | ⟨w, h1⟩
    · omega
    · exact ⟨w, sg_Tn_up1 W hs h1⟩
theorem sg_H_dn (W : sg_wf K A B) {s k : Nat} {v : Int32} (hs : s < 6) (h : sg_H K A B s (k + 1) v) : ∃ w, sg_H K A B s k w := by
  obtain ⟨n, h⟩ := h
  obtain ⟨w, h⟩ := sg_Tn_dn W hs h
  exact ⟨w, n, h⟩
theorem sg_H_le (W : sg_wf K A B) {s k m : Nat} {v : Int32} (hs : s < 6) (hm : m ≤ k) (h : sg_H K A B s k v) : ∃ w, sg_H K A B s m w := by
  induction k generalizing v with
  | zero =>
    rw [show m = 0 by omega]
    exact ⟨v, h⟩
  | succ k ih =>
    rcases Nat.eq_or_lt_of_le hm with e | e
    · rw [e]
      exact ⟨v, h⟩
    · obtain ⟨w, h'⟩ := sg_H_dn W hs h
      exact ih (by omega) h'
theorem sg_Pl_H (W : sg_wf K A B) {s : Nat} (ha : sg_kd A s < 6) (hb : sg_kd B s < 6) : ∀ {k p q : Nat}, sg_Pl A B (sg_H K A B) s k p q → ∃ n, sg_Pl A B (sg_Tn K A B n) s k p q := by
  intro k
  induction k with
  | zero =>
    intro p q h
    exact ⟨0, h⟩
  | succ k ih =>
    intro p q h
    obtain ⟨p', q', x, y, h1, ⟨n2, h2⟩, ⟨n3, h3⟩, h4, h5⟩ := sg_Pl_s.mp h
    obtain ⟨n1, h1⟩ := ih h1
    refine ⟨n1 + n2 + n3, sg_Pl_s.mpr ⟨p', q', x, y, ?_, sg_Tn_up W ha (by omega) h2, sg_Tn_up W hb (by omega) h3, h4, h5⟩⟩
    exact (sg_Pl_mono (fun m x _ => sg_Tn_up W ha (by omega)) (fun m x _ => sg_Tn_up W hb (by omega)) h1).1
theorem sg_H_cl (W : sg_wf K A B) {s k : Nat} {v : Int32} (hs : s < 6) (r : sg_Ru K A B (sg_H K A B) s k v) : sg_H K A B s k v := by
  obtain ⟨_, w2, wa, wb⟩ := W s hs
  obtain ⟨n0, r1⟩ : ∃ n0, ∀ n, n0 ≤ n → (k = 0 ∨ ∃ w, sg_Tn K A B n s (k - 1) w) := by
    rcases r.1 with r1 | ⟨w, n, r1⟩
    · exact ⟨0, fun _ _ => Or.inl r1⟩
    · exact ⟨n, fun m hm => Or.inr ⟨w, sg_Tn_up W hs hm r1⟩⟩
  rcases sg_k9 w2 with e | e | e | e | e | e | e | e | e
  · exact ⟨n0 + 1, (sg_Ru_0 e).mpr ⟨r1 n0 (by omega), ((sg_Ru_0 e).mp r).2⟩⟩
  · rcases ((sg_Ru_1 e).mp r).2 with h1 | ⟨h1, n, h2⟩
    · exact ⟨n0 + 1, (sg_Ru_1 e).mpr ⟨r1 n0 (by omega), Or.inl h1⟩⟩
    · exact ⟨n0 + n + 1, (sg_Ru_1 e).mpr ⟨r1 (n0 + n) (by omega), Or.inr ⟨h1, sg_Tn_up W (wb (by omega)).2 (by omega) h2⟩⟩⟩
  · obtain ⟨n, h2⟩ := ((sg_Ru_2 e).mp r).2
    exact ⟨n0 + n + 1, (sg_Ru_2 e).mpr ⟨r1 (n0 + n) (by omega), sg_Tn_up W (wa (by omega)).2 (by omega) h2⟩⟩
  · obtain ⟨x, y, ⟨n1, h1⟩, ⟨n2, h2⟩, h3⟩ := ((sg_Ru_3 e).mp r).2
    exact ⟨n0 + n1 + n2 + 1, (sg_Ru_3 e).mpr ⟨r1 (n0 + n1 + n2) (by omega), x, y, sg_Tn_up W (wa (by omega)).2 (by omega) h1, sg_Tn_up W (wb (by omega)).2 (by omega) h2, h3⟩⟩
  · obtain ⟨x, y, ⟨n1, h1⟩, ⟨n2, h2⟩, h3⟩ := ((sg_Ru_4 e).mp r).2
    exact ⟨n0 + n1 + n2 + 1, (sg_Ru_4 e).mpr ⟨r1 (n0 + n1 + n2) (by omega), x, y, sg_Tn_up W (wa (by omega)).2 (by omega) h1, sg_Tn_up W (wb (by omega)).2 (by omega) h2, h3⟩⟩
  · obtain ⟨y, ⟨n2, h2⟩, h3⟩ := ((sg_Ru_5 e).mp r).2
    exact ⟨n0 + n2 + 1, (sg_Ru_5 e).mpr ⟨r1 (n0 + n2) (by omega), y, sg_Tn_up W (wb (by omega)).2 (by omega) h2, h3⟩⟩
  · obtain ⟨w, x, h1, ⟨n2, h2⟩, h3⟩ := ((sg_Ru_6 e).mp r).2
    rcases h1 with h1 | ⟨h1, n1, h4⟩
    · exact ⟨n0 + n2 + 1, (sg_Ru_6 e).mpr ⟨r1 (n0 + n2) (by omega), w, x, Or.inl h1, sg_Tn_up W (wa (by omega)).2 (by omega) h2, h3⟩⟩
    · exact ⟨n0 + n1 + n2 + 1, (sg_Ru_6 e).mpr ⟨r1 (n0 + n1 + n2) (by omega), w, x, Or.inr ⟨h1, sg_Tn_up W hs (by omega) h4⟩, sg_Tn_up W (wa (by omega)).2 (by omega) h2, h3⟩⟩
  · rcases ((sg_Ru_7 e).mp r).2 with ⟨h1, n, h2⟩ | ⟨h1, n, h2⟩
    · exact ⟨n0 + n + 1, (sg_Ru_7 e).mpr ⟨r1 (n0 + n) (by omega), Or.inl ⟨h1, sg_Tn_up W (wa (by omega)).2 (by omega) h2⟩⟩⟩
    · exact ⟨n0 + n + 1, (sg_Ru_7 e).mpr ⟨r1 (n0 + n) (by omega), Or.inr ⟨h1, sg_Tn_up W (wb (by omega)).2 (by omega) h2⟩⟩⟩
  · obtain ⟨p, q, x, y, h1, ⟨n2, h2⟩, ⟨n3, h3⟩, h4⟩ := ((sg_Ru_8 e).mp r).2
    obtain ⟨n1, h1⟩ := sg_Pl_H W (wa (by omega)).2 (wb (by omega)).2 h1
    refine ⟨n0 + n1 + n2 + n3 + 1, (sg_Ru_8 e).mpr ⟨r1 (n0 + n1 + n2 + n3) (by omega), p, q, x, y, ?_, sg_Tn_up W (wa (by omega)).2 (by omega) h2, sg_Tn_up W (wb (by omega)).2 (by omega) h3, h4⟩⟩
    exact (sg_Pl_mono (fun m x _ => sg_Tn_up W (wa (by omega)).2 (by omega)) (fun m x _ => sg_Tn_up W (wb (by omega)).2 (by omega)) h1).1
theorem sg_H_iv (W : sg_wf K A B) {s k : Nat} {v : Int32} (hs : s < 6) (h : sg_H K A B s k v) : sg_Ru K A B (sg_H K A B) s k v := by
  obtain ⟨n, h⟩ := h
  rcases n with _ | n
  · exact False.elim h
  · exact sg_Ru_mono W hs (fun d m x _ _ hx => ⟨n, hx⟩) (sg_Tn_s.mp h)
theorem sg_tail1 (W : sg_wf K A B) {n s k : Nat} {v : Int32} (hs : s < 6) (e : sg_kd K s = 2) (h : sg_Tn K A B n s k v) : sg_Tn K A B n (sg_kd A s) (k + 1) v := by
  rcases n with _ | n
  · exact False.elim h
  · exact sg_Tn_up1 W ((W s hs).2.2.1 (by omega)).2 ((sg_Ru_2 e).mp (sg_Tn_s.mp h)).2
theorem sg_tail2 (W : sg_wf K A B) {s : Nat} (hs : s < 6) (e : sg_kd K s = 2) : ∀ {k : Nat} {v : Int32}, sg_H K A B (sg_kd A s) (k + 1) v → sg_H K A B s k v := by
  intro k
  induction k with
  | zero =>
    intro v h
    exact sg_H_cl W hs ((sg_Ru_2 e).mpr ⟨Or.inl rfl, h⟩)
  | succ k ih =>
    intro v h
    obtain ⟨w, h'⟩ := sg_H_dn W ((W s hs).2.2.1 (by omega)).2 h
    exact sg_H_cl W hs ((sg_Ru_2 e).mpr ⟨Or.inr ⟨w, ih h'⟩, h⟩)
theorem sg_cons0 (W : sg_wf K A B) {s : Nat} (hs : s < 6) (e : sg_kd K s = 1) : sg_H K A B s 0 (A s) :=
  sg_H_cl W hs ((sg_Ru_1 e).mpr ⟨Or.inl rfl, Or.inl ⟨rfl, rfl⟩⟩)
theorem sg_cons1 (W : sg_wf K A B) {n s k : Nat} {v : Int32} (hs : s < 6) (e : sg_kd K s = 1) (h : sg_Tn K A B n s (k + 1) v) : sg_Tn K A B n (sg_kd B s) k v := by
  rcases n with _ | n
  · exact False.elim h
  · rcases ((sg_Ru_1 e).mp (sg_Tn_s.mp h)).2 with ⟨h1, _⟩ | ⟨_, h1⟩
    · omega
    · exact sg_Tn_up1 W ((W s hs).2.2.2 (by omega)).2 h1
theorem sg_cons2 (W : sg_wf K A B) {s : Nat} (hs : s < 6) (e : sg_kd K s = 1) : ∀ {k : Nat} {v : Int32}, sg_H K A B (sg_kd B s) k v → sg_H K A B s (k + 1) v := by
  intro k
  induction k with
  | zero =>
    intro v h
    exact sg_H_cl W hs ((sg_Ru_1 e).mpr ⟨Or.inr ⟨A s, sg_cons0 W hs e⟩, Or.inr ⟨by omega, h⟩⟩)
  | succ k ih =>
    intro v h
    obtain ⟨w, h'⟩ := sg_H_dn W ((W s hs).2.2.2 (by omega)).2 h
    exact sg_H_cl W hs ((sg_Ru_1 e).mpr ⟨Or.inr ⟨w, ih h'⟩, Or.inr ⟨by omega, h⟩⟩)
/-- a set of places each of which needs another of them at a lower level holds nothing -/
theorem sg_unf {U : Nat → Nat → Prop} (h : ∀ n s k v, U s k → sg_Tn K A B (n + 1) s k v → ∃ s' k' v', U s' k' ∧ sg_Tn K A B n s' k' v') : ∀ n s k v, U s k → ¬ sg_Tn K A B n s k v := by
  intro n
  induction n with
  | zero =>
    intro s k v _ h'
    exact h'
  | succ n ih =>
    intro s k v hu h'
    obtain ⟨s', k', v', h1, h2⟩ := h n s k v hu h'
    exact ih s' k' v' h1 h2
end
end
section
/-! a table up to index 20 that is sound and closed holds all that the least table has up to index 15 -/
theorem sg_least (P : Nat → Prop) (h : ∃ k, P k) : ∃ k, P k ∧ ∀ j, j < k → ¬ P j := by
  obtain ⟨k, hk⟩ := h
  induction k using Nat.strongRecOn with
  | ind k ih =>
    by_cases h : ∃ j, j < k ∧ P j
    · obtain ⟨j, hj, hp⟩ := h
      exact ih j hj hp
    · exact ⟨k, hk, fun j hj hp => h ⟨j, hj, hp⟩⟩
theorem sg_tab_full {K A B : Nat → Int32} (W : sg_wf K A B) {Tb : Nat → Nat → Int32 → Prop} (t2 : ∀ s k v, s < 6 → Tb s k v → sg_H K A B s k v) (t3 : ∀ s k v, Tb s k v → k ≤ 20) (t4 : ∀ s k v, s < 6 → k ≤ 20 → sg_Ru K A B Tb s k v → ∃ v', Tb s k v') (t5 : ∀ s k v, s < 6 → Tb s (k + 1) v → ∃ w, Tb s k w) {s k : Nat} {v : Int32} (hs : s < 6) (hk : k ≤ 15) (h : sg_H K A B s k v) : Tb s k v := by
  have hG : ∀ u, ∃ g, (∀ i, i < g → ∃ v, Tb u i v) ∧ ¬ ∃ v, Tb u g v := by
    intro u
    obtain ⟨g, h1, h2⟩ := sg_least (fun g => ¬ ∃ v, Tb u g v) ⟨21, fun ⟨v, hv⟩ => by
      have := t3 _ _ _ hv
      omega⟩
    exact ⟨g, fun i hi => Classical.not_not.mp (h2 i hi), h1⟩
  obtain ⟨G, hG⟩ := Classical.axiomOfChoice hG
  have hB : ∀ u, u < 6 → ∀ i v, G u ≤ i → ¬ Tb u i v := by
    intro u hu i
    induction i with
    | zero =>
      intro v hi hT
      exact (hG u).2 ⟨v, by rw [show G u = 0 by omega]; exact hT⟩
    | succ i ih =>
      intro v hi hT
      by_cases e : G u = i + 1
      · exact (hG u).2 ⟨v, by rw [e]; exact hT⟩
      · obtain ⟨w, hw⟩ := t5 _ _ _ hu hT
        exact ih w (by omega) hw
  by_cases hT : ∃ v', Tb s k v'
  · obtain ⟨v', hv'⟩ := hT
    rw [sg_H_det W hs h (t2 _ _ _ hs hv')]
    exact hv'
  · exfalso
    have hgs : G s ≤ k := Nat.le_of_not_lt fun hlt => hT ((hG s).1 k hlt)
    obtain ⟨Q, hQ⟩ : ∃ Q : Nat → Prop, ∀ u, Q u ↔ (u < 6 ∧ ∀ z, G s ≤ z → z ≤ G u → ∃ u', u' < 6 ∧ G u' = z) := ⟨_, fun _ => Iff.rfl⟩
    have hQb : ∀ u, Q u → G u ≤ G s + 5 := by
      intro u hu
      have hu2 := ((hQ u).mp hu).2
      apply Nat.le_of_not_lt
      intro hlt
      have hc : ∀ i, ∃ u', i < 7 → u' < 6 ∧ G u' = G s + i := by
        intro i
        by_cases hi : i < 7
        · obtain ⟨u', h1, h2⟩ := hu2 (G s + i) (by omega) (by omega)
          exact ⟨u', fun _ => ⟨h1, h2⟩⟩
        · exact ⟨0, fun h => absurd h hi⟩
      obtain ⟨f, hf⟩ := Classical.axiomOfChoice hc
      have := sg_pig 6 7 f (fun i hi => (hf i hi).1) (fun i j hij hj e => by
        have h1 := (hf i (by omega)).2
        have h2 := (hf j hj).2
        rw [e] at h1
        omega)
      omega
    have hQs : Q s := (hQ s).mpr ⟨hs, fun z h1 h2 => ⟨s, hs, by omega⟩⟩
    have hQc : ∀ u d, Q u → d < 6 → G d ≤ G u + 1 → Q d := by
      intro u d hu hd hle
      refine (hQ d).mpr ⟨hd, fun z h1 h2 => ?_⟩
      by_cases hz : z ≤ G u
      · exact ((hQ u).mp hu).2 z h1 hz
      · exact ⟨d, hd, by omega⟩
    have main : ∀ n u i w, Q u → G u ≤ i → ¬ sg_Tn K A B n u i w := by
      intro n
      induction n with
      | zero =>
        intro u i w _ _ h'
        exact h'
      | succ n ih =>
        intro u i w hq hi hT'
        have r := sg_Tn_s.mp hT'
        have hu6 := ((hQ u).mp hq).1
        by_cases hgt : G u < i
        · rcases r.1 with e | ⟨w', h'⟩
          · omega
          · exact ih u (i - 1) w' hq (by omega) h'
        · have hb := hQb u hq
          have r2 : sg_Ru K A B Tb u i w := sg_Ru_mono W hu6 (fun d m x hd hm hx => by
            by_cases hT2 : ∃ x', Tb d m x'
            · obtain ⟨x', hx'⟩ := hT2
              rw [sg_H_det W hd ⟨n, hx⟩ (t2 _ _ _ hd hx')]
              exact hx'
            · exfalso
              have hgd : G d ≤ m := Nat.le_of_not_lt fun hlt => hT2 ((hG d).1 m hlt)
              exact ih d m x (hQc u d hq hd (by omega)) hgd hx) r
          obtain ⟨v', hv'⟩ := t4 u i w hu6 (by omega) r2
          exact hB u hu6 i v' hi hv'
    obtain ⟨n, h⟩ := h
    exact main n s k v hQs hgs h
end
section
/-! the heap of the component, purely -/
def sg_fo (S L : Nat → Nat) (x : Nat) : Nat := if S x = 10 then L x else x
def sg_wn (S L : Nat → Nat) (y : Nat) : Nat → Nat
  | 0 => y
  | m + 1 => sg_fo S L (L (sg_wn S L y m))
def sg_Wa (S L : Nat → Nat) (d m y : Nat) : Prop := (∀ z, z < m → S (sg_wn S L (sg_fo S L d) z) = 9) ∧ sg_wn S L (sg_fo S L d) m = y
def sg_St (S L : Nat → Nat) (p d m : Nat) : Prop := sg_Wa S L d m (sg_fo S L p)
/-- what a suspended computation with label (t, j) holds, by its kind -/
def sg_Su (K A B : Nat → Int32) (Z : Nat → Nat → Nat → Prop) (t j l r : Nat) (nu st : Int32) : Nat → Prop
  | 0 => nu = A t + nI j * B t ∧ st = B t
  | 1 => False
  | 2 => j = 0 ∧ Z l (sg_kd A t) 0
  | 3 => Z l (sg_kd A t) j ∧ Z r (sg_kd B t) j
  | 4 => Z l (sg_kd A t) j ∧ Z r (sg_kd B t) j
  | 5 => nu = A t ∧ Z l (sg_kd B t) j
  | 6 => ((j = 0 ∧ nu = 0) ∨ (j ≠ 0 ∧ sg_H K A B t (j - 1) nu)) ∧ Z l (sg_kd A t) j
  | 7 => (j % 2 = 0 ∧ Z l (sg_kd A t) (j / 2) ∧ Z r (sg_kd B t) (j / 2)) ∨ (j % 2 = 1 ∧ Z l (sg_kd B t) (j / 2) ∧ Z r (sg_kd A t) (j / 2 + 1))
  | 8 => ∃ p q : Nat, sg_Pl A B (sg_H K A B) t j p q ∧ Z l (sg_kd A t) p ∧ Z r (sg_kd B t) q
  | _ => False
/-- the sequence d is the sequence at the node y -/
def sg_Lk (K A B : Nat → Int32) (lt li S L : Nat → Nat) (d y : Nat) : Prop :=
  (∀ n i v, sg_Tn K A B n d i v → sg_Tn K A B n (lt y) (li y + i) v) ∧ (∀ i v, sg_H K A B (lt y) (li y + i) v → sg_H K A B d i v) ∧ (∀ z, z ≤ li y → ∃ v, v < 6 ∧ sg_Wa S L v z y)
def sg_Nd (K A B : Nat → Int32) (top : Nat) (c lt li S L R : Nat → Nat) (N P : Nat → Int32) (x : Nat) : Prop :=
  lt x < 6 ∧ li x < c (lt x) ∧ L x < top ∧ R x < top ∧
  (S x = 9 → sg_H K A B (lt x) (li x) (N x) ∧ ((sg_kd K (lt x) = 1 ∧ li x = 0 ∧ L x = sg_kd B (lt x)) ∨ (sg_kd K (lt x) ≠ 1 ∧ sg_kd K (lt x) ≠ 2 ∧ lt (L x) = lt x ∧ li (L x) = li x + 1))) ∧
  (S x = 10 → sg_kd K (lt x) = 2 ∧ li x = 0 ∧ S (L x) = 9 ∧ sg_Lk K A B lt li S L (lt x) (L x)) ∧
  (S x ≠ 9 → S x ≠ 10 → S x = sg_kd K (lt x) ∧ li x + 1 = c (lt x) ∧ (li x = 0 ∨ ∃ w, sg_H K A B (lt x) (li x - 1) w) ∧ sg_Su K A B (sg_St S L) (lt x) (li x) (L x) (R x) (N x) (P x) (S x))
def sg_HI (K A B : Nat → Int32) (top : Nat) (c lt li S L R : Nat → Nat) (N P : Nat → Int32) : Prop :=
  6 ≤ top ∧ top = c 0 + c 1 + c 2 + c 3 + c 4 + c 5 ∧ (∀ t, t < 6 → c t ≤ 22) ∧ (∀ s, s < 6 → lt s = s ∧ li s = 0) ∧ (∀ x y, x < top → y < top → lt x = lt y → li x = li y → x = y) ∧ (∀ x, x < top → sg_Nd K A B top c lt li S L R N P x)
theorem sg_Su_mono {K A B : Nat → Int32} (W : sg_wf K A B) {Z Z' : Nat → Nat → Nat → Prop} {t j l r l' r' : Nat} {nu st : Int32} (ht : t < 6) (hl : ∀ d m, d < 6 → Z l d m → Z' l' d m) (hr : ∀ d m, d < 6 → Z r d m → Z' r' d m) {kk : Nat} (hk : kk = sg_kd K t) (h : sg_Su K A B Z t j l r nu st kk) : sg_Su K A B Z' t j l' r' nu st kk := by
  obtain ⟨_, w2, wa, wb⟩ := W t ht
  rw [← hk] at w2 wa wb
  clear hk
  rcases sg_k9 w2 with e | e | e | e | e | e | e | e | e <;> subst e
  · exact h
  · exact h
  · exact And.intro h.1 (hl _ _ (wa (by omega)).2 h.2)
  · exact And.intro (hl _ _ (wa (by omega)).2 h.1) (hr _ _ (wb (by omega)).2 h.2)
  · exact And.intro (hl _ _ (wa (by omega)).2 h.1) (hr _ _ (wb (by omega)).2 h.2)
  · exact And.intro h.1 (hl _ _ (wb (by omega)).2 h.2)
  · exact And.intro h.1 (hl _ _ (wa (by omega)).2 h.2)
  · rcases h with ⟨h1, h2, h3⟩ | ⟨h1, h2, h3⟩
    · exact Or.inl ⟨h1, hl _ _ (wa (by omega)).2 h2, hr _ _ (wb (by omega)).2 h3⟩
    · exact Or.inr ⟨h1, hl _ _ (wb (by omega)).2 h2, hr _ _ (wa (by omega)).2 h3⟩
  · obtain ⟨p, q, h1, h2, h3⟩ := h
    exact Exists.intro p (Exists.intro q ⟨h1, hl _ _ (wa (by omega)).2 h2, hr _ _ (wb (by omega)).2 h3⟩)
theorem sg_wn_add {S L : Nat → Nat} {y a : Nat} : ∀ b, sg_wn S L y (a + b) = sg_wn S L (sg_wn S L y a) b := by
  intro b
  induction b with
  | zero => rfl
  | succ b ih =>
    show sg_fo S L (L (sg_wn S L y (a + b))) = sg_fo S L (L (sg_wn S L (sg_wn S L y a) b))
    rw [ih]
theorem sg_wn_s {S L : Nat → Nat} {y m : Nat} : sg_wn S L y (m + 1) = sg_wn S L (sg_fo S L (L y)) m := by
  rw [Nat.add_comm m 1, sg_wn_add]
  rfl
theorem sg_fo_10 {S L : Nat → Nat} {x : Nat} (h : S x = 10) : sg_fo S L x = L x := if_pos h
theorem sg_fo_n {S L : Nat → Nat} {x : Nat} (h : S x ≠ 10) : sg_fo S L x = x := if_neg h
section
variable {K A B : Nat → Int32} {top : Nat} {c lt li S L R : Nat → Nat} {N P : Nat → Int32}
theorem sg_hi_t6 (h : sg_HI K A B top c lt li S L R N P) : 6 ≤ top := h.1
theorem sg_hi_le (h : sg_HI K A B top c lt li S L R N P) : top ≤ 132 := by
  obtain ⟨_, h2, h3, _⟩ := h
  have a0 := h3 0 (by omega)
  have a1 := h3 1 (by omega)
  have a2 := h3 2 (by omega)
  have a3 := h3 3 (by omega)
  have a4 := h3 4 (by omega)
  have a5 := h3 5 (by omega)
  omega
theorem sg_hi_c (h : sg_HI K A B top c lt li S L R N P) {t : Nat} (ht : t < 6) : c t ≤ 22 := h.2.2.1 t ht
theorem sg_hi_r (h : sg_HI K A B top c lt li S L R N P) {s : Nat} (hs : s < 6) : lt s = s ∧ li s = 0 := h.2.2.2.1 s hs
theorem sg_hi_inj (h : sg_HI K A B top c lt li S L R N P) {x y : Nat} (hx : x < top) (hy : y < top) (e1 : lt x = lt y) (e2 : li x = li y) : x = y := h.2.2.2.2.1 x y hx hy e1 e2
theorem sg_hi_nd (h : sg_HI K A B top c lt li S L R N P) {x : Nat} (hx : x < top) : sg_Nd K A B top c lt li S L R N P x := h.2.2.2.2.2 x hx
theorem sg_hi_L (h : sg_HI K A B top c lt li S L R N P) {x : Nat} (hx : x < top) : L x < top := (sg_hi_nd h hx).2.2.1
theorem sg_hi_R (h : sg_HI K A B top c lt li S L R N P) {x : Nat} (hx : x < top) : R x < top := (sg_hi_nd h hx).2.2.2.1
theorem sg_hi_lt (h : sg_HI K A B top c lt li S L R N P) {x : Nat} (hx : x < top) : lt x < 6 := (sg_hi_nd h hx).1
theorem sg_hi_cell (h : sg_HI K A B top c lt li S L R N P) {x : Nat} (hx : x < top) (e : S x = 9) : sg_H K A B (lt x) (li x) (N x) ∧ ((sg_kd K (lt x) = 1 ∧ li x = 0 ∧ L x = sg_kd B (lt x)) ∨ (sg_kd K (lt x) ≠ 1 ∧ sg_kd K (lt x) ≠ 2 ∧ lt (L x) = lt x ∧ li (L x) = li x + 1)) := (sg_hi_nd h hx).2.2.2.2.1 e
theorem sg_hi_link (h : sg_HI K A B top c lt li S L R N P) {x : Nat} (hx : x < top) (e : S x = 10) : sg_kd K (lt x) = 2 ∧ li x = 0 ∧ S (L x) = 9 ∧ sg_Lk K A B lt li S L (lt x) (L x) := (sg_hi_nd h hx).2.2.2.2.2.1 e
theorem sg_hi_susp (h : sg_HI K A B top c lt li S L R N P) {x : Nat} (hx : x < top) (e9 : S x ≠ 9) (e10 : S x ≠ 10) : S x = sg_kd K (lt x) ∧ li x + 1 = c (lt x) ∧ (li x = 0 ∨ ∃ w, sg_H K A B (lt x) (li x - 1) w) ∧ sg_Su K A B (sg_St S L) (lt x) (li x) (L x) (R x) (N x) (P x) (S x) := (sg_hi_nd h hx).2.2.2.2.2.2 e9 e10
theorem sg_hi_S (W : sg_wf K A B) (h : sg_HI K A B top c lt li S L R N P) {x : Nat} (hx : x < top) : S x ≤ 10 := by
  by_cases e9 : S x = 9
  · omega
  · by_cases e10 : S x = 10
    · omega
    · have h1 := (sg_hi_susp h hx e9 e10).1
      have h2 := (W _ (sg_hi_lt h hx)).2.1
      omega
theorem sg_fo_lt (h : sg_HI K A B top c lt li S L R N P) {x : Nat} (hx : x < top) : sg_fo S L x < top := by
  unfold sg_fo
  split
  · exact sg_hi_L h hx
  · exact hx
theorem sg_fo_S (h : sg_HI K A B top c lt li S L R N P) {x : Nat} (hx : x < top) : S (sg_fo S L x) ≠ 10 := by
  unfold sg_fo
  split
  · rename_i e
    have := (sg_hi_link h hx e).2.2.1
    omega
  · assumption
theorem sg_fo_fo (h : sg_HI K A B top c lt li S L R N P) {x : Nat} (hx : x < top) : sg_fo S L (sg_fo S L x) = sg_fo S L x := sg_fo_n (sg_fo_S h hx)
/-- if what a pointer leads to is no cell, the pointer is it -/
theorem sg_fo_9 (h : sg_HI K A B top c lt li S L R N P) {x : Nat} (hx : x < top) (e : S (sg_fo S L x) ≠ 9) : sg_fo S L x = x ∧ S x ≠ 10 := by
  by_cases e10 : S x = 10
  · rw [sg_fo_10 e10] at e
    exact absurd (sg_hi_link h hx e10).2.2.1 e
  · exact ⟨sg_fo_n e10, e10⟩
theorem sg_wn_lt (h : sg_HI K A B top c lt li S L R N P) {y : Nat} (hy : y < top) : ∀ m, sg_wn S L y m < top := by
  intro m
  induction m with
  | zero => exact hy
  | succ m ih => exact sg_fo_lt h (sg_hi_L h ih)
theorem sg_Wa_lt (h : sg_HI K A B top c lt li S L R N P) {d m y : Nat} (hd : d < 6) (w : sg_Wa S L d m y) : y < top := by
  rw [← w.2]
  exact sg_wn_lt h (sg_fo_lt h (Nat.lt_of_lt_of_le hd (sg_hi_t6 h))) m
theorem sg_li0 (h : sg_HI K A B top c lt li S L R N P) {x : Nat} (hx : x < top) (e : li x = 0) : x = lt x := by
  have h1 := sg_hi_lt h hx
  have h2 := sg_hi_r h h1
  exact sg_hi_inj h hx (Nat.lt_of_lt_of_le h1 (sg_hi_t6 h)) h2.1.symm (by omega)
theorem sg_root (h : sg_HI K A B top c lt li S L R N P) {d : Nat} (hd : d < 6) : sg_Lk K A B lt li S L d (sg_fo S L d) := by
  have hdt : d < top := Nat.lt_of_lt_of_le hd (sg_hi_t6 h)
  have hr := sg_hi_r h hd
  by_cases e : S d = 10
  · rw [sg_fo_10 e]
    have := (sg_hi_link h hdt e).2.2.2
    rw [hr.1] at this
    exact this
  · have ef : sg_fo S L d = d := sg_fo_n e
    rw [ef]
    refine ⟨fun n i v h1 => ?_, fun i v h1 => ?_, fun z hz => ⟨d, hd, ?_⟩⟩
    · rw [hr.1, hr.2, Nat.zero_add]
      exact h1
    · rw [hr.1, hr.2, Nat.zero_add] at h1
      exact h1
    · have hz0 : z = 0 := by omega
      subst hz0
      exact ⟨fun z hz => absurd hz (Nat.not_lt_zero z), ef⟩
theorem sg_own (h : sg_HI K A B top c lt li S L R N P) {y : Nat} (hy : y < top) (h1 : sg_kd K (lt y) ≠ 1) : ∀ m, (∀ z, z < m → S (sg_wn S L y z) = 9) → lt (sg_wn S L y m) = lt y ∧ li (sg_wn S L y m) = li y + m := by
  intro m
  induction m with
  | zero =>
    intro _
    exact ⟨rfl, rfl⟩
  | succ m ih =>
    intro hc
    obtain ⟨i1, i2⟩ := ih (fun z hz => hc z (by omega))
    have hx := sg_wn_lt h hy m
    rcases (sg_hi_cell h hx (hc m (by omega))).2 with ⟨g1, _⟩ | ⟨_, g2, g3, g4⟩
    · rw [i1] at g1
      exact absurd g1 h1
    · have hLx := sg_hi_L h hx
      have e10 : S (L (sg_wn S L y m)) ≠ 10 := by
        intro e10
        have := (sg_hi_link h hLx e10).1
        rw [g3] at this
        exact g2 this
      have e : sg_wn S L y (m + 1) = L (sg_wn S L y m) := sg_fo_n e10
      rw [e]
      exact ⟨g3.trans i1, by omega⟩
theorem sg_Wa_case (h : sg_HI K A B top c lt li S L R N P) {d m y : Nat} (hd : d < 6) (w : sg_Wa S L d m y) : (lt y = lt (sg_fo S L d) ∧ li y = li (sg_fo S L d) + m) ∨ (∃ m', m = m' + 1 ∧ sg_kd K (lt (sg_fo S L d)) = 1 ∧ li (sg_fo S L d) = 0 ∧ sg_Wa S L (sg_kd B (lt (sg_fo S L d))) m' y) := by
  have hf : sg_fo S L d < top := sg_fo_lt h (Nat.lt_of_lt_of_le hd (sg_hi_t6 h))
  obtain ⟨w1, w2⟩ := w
  by_cases e : sg_kd K (lt (sg_fo S L d)) = 1
  · rcases m with _ | m'
    · have e2 : sg_fo S L d = y := w2
      rw [e2]
      exact Or.inl ⟨rfl, rfl⟩
    · rcases (sg_hi_cell h hf (w1 0 (by omega))).2 with ⟨_, g2, g3⟩ | ⟨g1, _⟩
      · refine Or.inr ⟨m', rfl, e, g2, fun z hz => ?_, ?_⟩
        · have := w1 (z + 1) (by omega)
          rw [sg_wn_s, g3] at this
          exact this
        · rw [sg_wn_s, g3] at w2
          exact w2
      · exact absurd e g1
  · have := sg_own h hf e m w1
    rw [w2] at this
    exact Or.inl this
theorem sg_SL (W : sg_wf K A B) (h : sg_HI K A B top c lt li S L R N P) : ∀ m d y, d < 6 → sg_Wa S L d m y → (∀ n i v, sg_Tn K A B n d (m + i) v → sg_Tn K A B n (lt y) (li y + i) v) ∧ (∀ i v, sg_H K A B (lt y) (li y + i) v → sg_H K A B d (m + i) v) := by
  intro m
  induction m with
  | zero =>
    intro d y hd w
    obtain ⟨r1, r2, _⟩ := sg_root h hd
    rcases sg_Wa_case h hd w with ⟨e1, e2⟩ | ⟨m', e, _⟩
    · rw [e1, e2]
      exact ⟨fun n i v h1 => by rw [Nat.add_assoc]; exact r1 n _ v h1, fun i v h1 => by rw [Nat.add_assoc] at h1; exact r2 _ v h1⟩
    · omega
  | succ m ih =>
    intro d y hd w
    obtain ⟨r1, r2, _⟩ := sg_root h hd
    rcases sg_Wa_case h hd w with ⟨e1, e2⟩ | ⟨m', e, e1, e2, w'⟩
    · rw [e1, e2]
      exact ⟨fun n i v h1 => by rw [Nat.add_assoc]; exact r1 n _ v h1, fun i v h1 => by rw [Nat.add_assoc] at h1; exact r2 _ v h1⟩
    · have em : m = m' := by omega
      subst em
      have ht : lt (sg_fo S L d) < 6 := sg_hi_lt h (sg_fo_lt h (Nat.lt_of_lt_of_le hd (sg_hi_t6 h)))
      obtain ⟨i1, i2⟩ := ih _ y ((W _ ht).2.2.2 (Or.inl e1)).2 w'
      refine ⟨fun n i v h1 => ?_, fun i v h1 => ?_⟩
      · have h2 := r1 n _ v h1
        rw [e2, show 0 + (m + 1 + i) = (m + i) + 1 by omega] at h2
        exact i1 n i v (sg_cons1 W ht e1 h2)
      · have h2 := sg_cons2 W ht e1 (i2 i v h1)
        refine r2 _ v ?_
        rw [e2, show 0 + (m + 1 + i) = (m + i) + 1 by omega]
        exact h2
theorem sg_Wa_comp {a m d v y : Nat} (w : sg_Wa S L d m y) (w2 : sg_Wa S L v a (sg_fo S L d)) : sg_Wa S L v (a + m) y := by
  refine ⟨fun z hz => ?_, ?_⟩
  · by_cases h : z < a
    · exact w2.1 z h
    · have e : z = a + (z - a) := by omega
      rw [e, sg_wn_add, w2.2]
      exact w.1 _ (by omega)
  · rw [sg_wn_add, w2.2]
    exact w.2
theorem sg_Cov (W : sg_wf K A B) (h : sg_HI K A B top c lt li S L R N P) : ∀ m d y z, d < 6 → sg_Wa S L d m y → m ≤ z → z ≤ li y → ∃ v, v < 6 ∧ sg_Wa S L v z y := by
  intro m
  induction m with
  | zero =>
    intro d y z hd w hz1 hz2
    obtain ⟨_, _, r3⟩ := sg_root h hd
    rcases sg_Wa_case h hd w with ⟨e1, e2⟩ | ⟨m', e, _⟩
    · obtain ⟨v, hv, w2⟩ := r3 z (by omega)
      exact ⟨v, hv, sg_Wa_comp w w2⟩
    · omega
  | succ m ih =>
    intro d y z hd w hz1 hz2
    obtain ⟨_, _, r3⟩ := sg_root h hd
    rcases sg_Wa_case h hd w with ⟨e1, e2⟩ | ⟨m', e, e1, e2, w'⟩
    · obtain ⟨v, hv, w2⟩ := r3 (z - (m + 1)) (by omega)
      have := sg_Wa_comp w w2
      rw [show z - (m + 1) + (m + 1) = z by omega] at this
      exact ⟨v, hv, this⟩
    · have em : m = m' := by omega
      subst em
      have ht : lt (sg_fo S L d) < 6 := sg_hi_lt h (sg_fo_lt h (Nat.lt_of_lt_of_le hd (sg_hi_t6 h)))
      exact ih _ y z ((W _ ht).2.2.2 (Or.inl e1)).2 w' (by omega) hz2
/-- one index alone of a sequence stands at a node that is no cell -/
theorem sg_Wa_un {v z z' y y' : Nat} (w : sg_Wa S L v z y) (w' : sg_Wa S L v z' y') (h : S y ≠ 9) (h' : S y' ≠ 9) : z = z' := by
  rcases Nat.lt_trichotomy z z' with e | e | e
  · have := w'.1 z e
    rw [w.2] at this
    exact absurd this h
  · exact e
  · have := w.1 z' e
    rw [w'.2] at this
    exact absurd this h'
/-- a step behind a cell -/
theorem sg_Wa_next {d m y : Nat} (w : sg_Wa S L d m y) (e : S y = 9) : sg_St S L (L y) d (m + 1) := by
  refine ⟨fun z hz => ?_, ?_⟩
  · by_cases h : z < m
    · exact w.1 z h
    · have ez : z = m := by omega
      rw [ez, w.2]
      exact e
  · show sg_fo S L (L (sg_wn S L (sg_fo S L d) m)) = _
    rw [w.2]
end
end
section
/-! how the heap changes: shorter pointers, a finished cell, a link -/
def sg_u (f : Nat → Nat) (i v : Nat) : Nat → Nat := fun j => if j = i then v else f j
theorem sg_us {f : Nat → Nat} {i v : Nat} : sg_u f i v i = v := if_pos rfl
theorem sg_un {f : Nat → Nat} {i v j : Nat} (h : j ≠ i) : sg_u f i v j = f j := if_neg h
theorem sg_sum {c : Nat → Nat} {t : Nat} (ht : t < 6) : sg_u c t (c t + 1) 0 + sg_u c t (c t + 1) 1 + sg_u c t (c t + 1) 2 + sg_u c t (c t + 1) 3 + sg_u c t (c t + 1) 4 + sg_u c t (c t + 1) 5 = c 0 + c 1 + c 2 + c 3 + c 4 + c 5 + 1 := by
  have h : t = 0 ∨ t = 1 ∨ t = 2 ∨ t = 3 ∨ t = 4 ∨ t = 5 := by omega
  rcases h with h | h | h | h | h | h <;> subst h <;> simp [sg_u] <;> omega
theorem sg_ext_wn {S L L' : Nat → Nat} (h1 : ∀ y, sg_fo S L' y = sg_fo S L y) (h2 : ∀ y, sg_fo S L (L' y) = sg_fo S L (L y)) (y : Nat) : ∀ m, sg_wn S L' y m = sg_wn S L y m := by
  intro m
  induction m with
  | zero => rfl
  | succ m ih =>
    show sg_fo S L' (L' (sg_wn S L' y m)) = sg_fo S L (L (sg_wn S L y m))
    rw [ih, h1, h2]
theorem sg_Wa_ev {S L S' L' : Nat → Nat} {g : Nat → Nat} {top d m y : Nat} (hL : ∀ y, y < top → L y < top) (hf : ∀ y, y < top → sg_fo S L y < top) (e1 : ∀ y, y < top → S y = 9 → S' y = 9 ∧ L' y = L y) (e2 : ∀ y, y < top → sg_fo S' L' y = g (sg_fo S L y)) (eg : ∀ y, y < top → S y = 9 → g y = y) (hd : d < top) (w : sg_Wa S L d m y) : sg_Wa S' L' d m (g y) := by
  have hlt : ∀ z, sg_wn S L (sg_fo S L d) z < top := by
    intro z
    induction z with
    | zero => exact hf d hd
    | succ z ih => exact hf _ (hL _ ih)
  have key : ∀ z, z ≤ m → sg_wn S' L' (sg_fo S' L' d) z = g (sg_wn S L (sg_fo S L d) z) := by
    intro z
    induction z with
    | zero =>
      intro _
      exact e2 d hd
    | succ z ih =>
      intro hz
      have hc := w.1 z (by omega)
      show sg_fo S' L' (L' (sg_wn S' L' (sg_fo S' L' d) z)) = g (sg_fo S L (L (sg_wn S L (sg_fo S L d) z)))
      rw [ih (by omega), eg _ (hlt z) hc, (e1 _ (hlt z) hc).2]
      exact e2 _ (hL _ (hlt z))
  refine ⟨fun z hz => ?_, ?_⟩
  · have hc := w.1 z hz
    rw [key z (by omega), eg _ (hlt z) hc]
    exact (e1 _ (hlt z) hc).1
  · rw [key m (by omega), w.2]
section
variable {K A B : Nat → Int32} {top : Nat} {c lt li S L R : Nat → Nat} {N P : Nat → Int32}
theorem sg_cmp_fo {x v : Nat} (e10 : S x ≠ 10) : ∀ y, sg_fo S (sg_u L x v) y = sg_fo S L y := by
  intro y
  by_cases ey : y = x
  · rw [ey, sg_fo_n e10, sg_fo_n e10]
  · unfold sg_fo
    rw [sg_un ey]
theorem sg_cmp_Wa (h : sg_HI K A B top c lt li S L R N P) {x : Nat} (hx : x < top) (e10 : S x ≠ 10) : sg_Wa S (sg_u L x (sg_fo S L (L x))) = sg_Wa S L := by
  have h1 := sg_cmp_fo (L := L) (v := sg_fo S L (L x)) e10
  have h2 : ∀ y, sg_fo S L (sg_u L x (sg_fo S L (L x)) y) = sg_fo S L (L y) := by
    intro y
    by_cases ey : y = x
    · rw [ey, sg_us, sg_fo_fo h (sg_hi_L h hx)]
    · rw [sg_un ey]
  funext d m y
  unfold sg_Wa
  simp only [sg_ext_wn h1 h2, h1]
theorem sg_cmp_St (h : sg_HI K A B top c lt li S L R N P) {x : Nat} (hx : x < top) (e10 : S x ≠ 10) : sg_St S (sg_u L x (sg_fo S L (L x))) = sg_St S L := by
  funext p d m
  unfold sg_St
  rw [sg_cmp_Wa h hx e10, sg_cmp_fo e10]
theorem sg_St_fo (h : sg_HI K A B top c lt li S L R N P) {p d m : Nat} (hp : p < top) (w : sg_St S L p d m) : sg_St S L (sg_fo S L p) d m := by
  unfold sg_St at w ⊢
  rw [sg_fo_fo h hp]
  exact w
theorem sg_HI_cmpL (W : sg_wf K A B) (h : sg_HI K A B top c lt li S L R N P) {x : Nat} (hx : x < top) (e9 : S x ≠ 9) (e10 : S x ≠ 10) : sg_HI K A B top c lt li S (sg_u L x (sg_fo S L (L x))) R N P := by
  refine ⟨h.1, h.2.1, h.2.2.1, h.2.2.2.1, h.2.2.2.2.1, fun y hy => ?_⟩
  obtain ⟨n1, n2, n3, n4, n5, n6, n7⟩ := sg_hi_nd h hy
  by_cases ey : y = x
  · subst ey
    refine ⟨n1, n2, ?_, n4, fun e => absurd e e9, fun e => absurd e e10, fun _ _ => ?_⟩
    · rw [sg_us]
      exact sg_fo_lt h n3
    · obtain ⟨a1, a2, a3, a4⟩ := n7 e9 e10
      refine ⟨a1, a2, a3, ?_⟩
      rw [sg_us, sg_cmp_St h hx e10]
      exact sg_Su_mono W n1 (fun d m _ w => sg_St_fo h n3 w) (fun d m _ w => w) a1 a4
  · unfold sg_Nd sg_Lk
    rw [sg_un ey, sg_cmp_St h hx e10, sg_cmp_Wa h hx e10]
    exact ⟨n1, n2, n3, n4, n5, n6, n7⟩
theorem sg_HI_cmpR (W : sg_wf K A B) (h : sg_HI K A B top c lt li S L R N P) {x : Nat} (hx : x < top) (e9 : S x ≠ 9) (e10 : S x ≠ 10) : sg_HI K A B top c lt li S L (sg_u R x (sg_fo S L (R x))) N P := by
  refine ⟨h.1, h.2.1, h.2.2.1, h.2.2.2.1, h.2.2.2.2.1, fun y hy => ?_⟩
  obtain ⟨n1, n2, n3, n4, n5, n6, n7⟩ := sg_hi_nd h hy
  by_cases ey : y = x
  · subst ey
    refine ⟨n1, n2, n3, ?_, fun e => absurd e e9, fun e => absurd e e10, fun _ _ => ?_⟩
    · rw [sg_us]
      exact sg_fo_lt h n4
    · obtain ⟨a1, a2, a3, a4⟩ := n7 e9 e10
      refine ⟨a1, a2, a3, ?_⟩
      rw [sg_us]
      exact sg_Su_mono W n1 (fun d m _ w => w) (fun d m _ w => sg_St_fo h n4 w) a1 a4
  · unfold sg_Nd
    rw [sg_un ey]
    exact ⟨n1, n2, n3, n4, n5, n6, n7⟩
theorem sg_HI_cell (W : sg_wf K A B) (h : sg_HI K A B top c lt li S L R N P) {x : Nat} (hx : x < top) (e9 : S x ≠ 9) (e10 : S x ≠ 10) {v : Int32} (hv : sg_H K A B (lt x) (li x) v) (k1 : sg_kd K (lt x) ≠ 1) (k2 : sg_kd K (lt x) ≠ 2) (hb : li x ≤ 20) {l r : Nat} {n' p' : Int32} (hl : l < top) (hr : r < top) (su : sg_Su K A B (sg_St S L) (lt x) (li x + 1) l r n' p' (sg_kd K (lt x))) : sg_HI K A B (top + 1) (sg_u c (lt x) (c (lt x) + 1)) (sg_u lt top (lt x)) (sg_u li top (li x + 1)) (sg_u (sg_u S top (sg_kd K (lt x))) x 9) (sg_u (sg_u L top l) x top) (sg_u R top r) (upd (upd N top n') x v) (upd P top p') := by
  have ht := sg_hi_lt h hx
  obtain ⟨a1, a2, a3, a4⟩ := sg_hi_susp h hx e9 e10
  have k8 := (W _ ht).2.1
  have xt : top ≠ x := by omega
  have hS : ∀ y, y < top → y ≠ x → sg_u (sg_u S top (sg_kd K (lt x))) x 9 y = S y := by
    intro y hy ne
    rw [sg_un ne, sg_un (by omega)]
  have hLL : ∀ y, y < top → y ≠ x → sg_u (sg_u L top l) x top y = L y := by
    intro y hy ne
    rw [sg_un ne, sg_un (by omega)]
  have e1 : ∀ y, y < top → S y = 9 → sg_u (sg_u S top (sg_kd K (lt x))) x 9 y = 9 ∧ sg_u (sg_u L top l) x top y = L y := by
    intro y hy e
    have ne : y ≠ x := by
      intro e'
      rw [e'] at e
      exact e9 e
    rw [hS y hy ne, hLL y hy ne]
    exact ⟨e, rfl⟩
  have e2 : ∀ y, y < top → sg_fo (sg_u (sg_u S top (sg_kd K (lt x))) x 9) (sg_u (sg_u L top l) x top) y = (fun y => y) (sg_fo S L y) := by
    intro y hy
    by_cases ne : y = x
    · subst ne
      rw [sg_fo_n (by rw [sg_us]; omega), sg_fo_n e10]
    · unfold sg_fo
      rw [hS y hy ne, hLL y hy ne]
  have ev : ∀ {d m y}, d < top → sg_Wa S L d m y → sg_Wa (sg_u (sg_u S top (sg_kd K (lt x))) x 9) (sg_u (sg_u L top l) x top) d m y := by
    intro d m y hd w
    exact sg_Wa_ev (g := fun y => y) (fun y hy => sg_hi_L h hy) (fun y hy => sg_fo_lt h hy) e1 e2 (fun _ _ _ => rfl) hd w
  have t6 := sg_hi_t6 h
  have evS : ∀ {p d m}, p < top → d < 6 → sg_St S L p d m → sg_St (sg_u (sg_u S top (sg_kd K (lt x))) x 9) (sg_u (sg_u L top l) x top) p d m := by
    intro p d m hp hd w
    unfold sg_St
    rw [e2 p hp]
    exact ev (by omega) w
  have hlt : ∀ y, y < top → sg_u lt top (lt x) y = lt y := fun y hy => sg_un (by omega)
  have hli : ∀ y, y < top → sg_u li top (li x + 1) y = li y := fun y hy => sg_un (by omega)
  have hc : ∀ t, c t ≤ sg_u c (lt x) (c (lt x) + 1) t := by
    intro t
    unfold sg_u
    split
    · rename_i e
      rw [e]
      omega
    · omega
  refine ⟨by omega, ?_, ?_, ?_, ?_, fun y hy => ?_⟩
  · rw [sg_sum ht, ← h.2.1]
  · intro t ht'
    unfold sg_u
    split
    · omega
    · exact sg_hi_c h ht'
  · intro s hs
    rw [hlt s (by omega), hli s (by omega)]
    exact sg_hi_r h hs
  · intro y z hy hz e f
    by_cases ey : y = top
    · by_cases ez : z = top
      · rw [ey, ez]
      · rw [ey, sg_us, hlt z (by omega)] at e
        rw [ey, sg_us, hli z (by omega)] at f
        have := (sg_hi_nd h (show z < top by omega)).2.1
        rw [← e] at this
        omega
    · by_cases ez : z = top
      · rw [ez, sg_us, hlt y (by omega)] at e
        rw [ez, sg_us, hli y (by omega)] at f
        have := (sg_hi_nd h (show y < top by omega)).2.1
        rw [e] at this
        omega
      · rw [hlt y (by omega), hlt z (by omega)] at e
        rw [hli y (by omega), hli z (by omega)] at f
        exact sg_hi_inj h (by omega) (by omega) e f
  · by_cases ey : y = top
    · subst ey
      have eS : sg_u (sg_u S y (sg_kd K (lt x))) x 9 y = sg_kd K (lt x) := by rw [sg_un xt, sg_us]
      have eL : sg_u (sg_u L y l) x y y = l := by rw [sg_un xt, sg_us]
      unfold sg_Nd
      rw [sg_us, sg_us, sg_us, sg_us, eS, eL, pk_un xt, pk_us, pk_us]
      refine ⟨ht, by omega, by omega, by omega, fun e => by omega, fun e => by omega, fun _ _ => ⟨rfl, by omega, Or.inr ⟨v, hv⟩, ?_⟩⟩
      exact sg_Su_mono W ht (fun d m hd w => evS hl hd w) (fun d m hd w => evS hr hd w) rfl su
    · have hy' : y < top := by omega
      by_cases ex : y = x
      · subst ex
        unfold sg_Nd
        rw [sg_us, sg_us, hlt y hy', hli y hy', sg_un ey, pk_us, sg_us, sg_us]
        have := hc (lt y)
        have := sg_hi_R h hy'
        refine ⟨ht, by omega, by omega, by omega, fun _ => ⟨hv, Or.inr ⟨k1, k2, by first | rfl | exact sg_us, by first | rfl | exact sg_us⟩⟩, fun e => by omega, fun e => absurd rfl e⟩
      · obtain ⟨n1, n2, n3, n4, n5, n6, n7⟩ := sg_hi_nd h hy'
        unfold sg_Nd
        rw [hS y hy' ex, hLL y hy' ex, hlt y hy', hli y hy', hlt _ n3, hli _ n3, sg_un ey, pk_un ex, pk_un ey, pk_un ey]
        have := hc (lt y)
        refine ⟨n1, by omega, by omega, by omega, n5, fun e => ?_, fun f9 f10 => ?_⟩
        · obtain ⟨b1, b2, b3, b4, b5, b6⟩ := n6 e
          refine ⟨b1, b2, (e1 _ n3 b3).1, ?_⟩
          unfold sg_Lk
          rw [hlt _ n3, hli _ n3]
          refine ⟨b4, b5, fun z hz => ?_⟩
          obtain ⟨w, hw, ww⟩ := b6 z hz
          exact ⟨w, hw, ev (by omega) ww⟩
        · obtain ⟨b1, b2, b3, b4⟩ := n7 f9 f10
          have ne : lt y ≠ lt x := by
            intro e
            rw [e] at b2
            exact ex (sg_hi_inj h hy' hx e (by omega))
          rw [sg_un ne]
          exact ⟨b1, b2, b3, sg_Su_mono W n1 (fun d m hd w => evS n3 hd w) (fun d m hd w => evS n4 hd w) b1 b4⟩
theorem sg_HI_link (W : sg_wf K A B) (h : sg_HI K A B top c lt li S L R N P) {x : Nat} (hx : x < top) (e : S x = 2) (hl9 : S (L x) = 9) (hy9 : S (sg_fo S L (L (L x))) = 9) : sg_HI K A B top c lt li (sg_u S x 10) (sg_u L x (sg_fo S L (L (L x)))) R N P := by
  have ht := sg_hi_lt h hx
  have t6 := sg_hi_t6 h
  obtain ⟨a1, a2, a3, a4⟩ := sg_hi_susp h hx (by omega) (by omega)
  rw [e] at a1 a4
  have a5 : li x = 0 ∧ sg_St S L (L x) (sg_kd A (lt x)) 0 := a4
  have ex := sg_li0 h hx a5.1
  have hLx := sg_hi_L h hx
  have ha6 := ((W _ ht).2.2.1 (by omega)).2
  have w1 : sg_Wa S L (sg_kd A (lt x)) 0 (L x) := by
    have := a5.2
    unfold sg_St at this
    rw [sg_fo_n (by omega)] at this
    exact this
  have w2 : sg_Wa S L (sg_kd A (lt x)) (0 + 1) (sg_fo S L (L (L x))) := sg_Wa_next w1 hl9
  have hy0 : sg_fo S L (L (L x)) < top := sg_fo_lt h (sg_hi_L h hLx)
  generalize sg_fo S L (L (L x)) = y0 at hy9 w2 hy0 ⊢
  have nx : y0 ≠ x := by
    intro e'
    rw [e'] at hy9
    omega
  have c9 : ∀ y, S y = 9 → y ≠ x := by
    intro y hy e'
    rw [e'] at hy
    omega
  have e1 : ∀ y, y < top → S y = 9 → sg_u S x 10 y = 9 ∧ sg_u L x y0 y = L y := by
    intro y hy hc
    rw [sg_un (c9 y hc), sg_un (c9 y hc)]
    exact ⟨hc, rfl⟩
  have e2 : ∀ y, y < top → sg_fo (sg_u S x 10) (sg_u L x y0) y = (fun y => if y = x then y0 else y) (sg_fo S L y) := by
    intro y hy
    by_cases ne : y = x
    · subst ne
      rw [sg_fo_10 sg_us, sg_us, sg_fo_n (show S y ≠ 10 by omega)]
      exact (if_pos rfl).symm
    · by_cases f10 : S y = 10
      · have := c9 _ (sg_hi_link h hy f10).2.2.1
        rw [sg_fo_10 (show sg_u S x 10 y = 10 by rw [sg_un ne]; exact f10), sg_fo_10 f10, sg_un ne]
        exact (if_neg this).symm
      · rw [sg_fo_n (show sg_u S x 10 y ≠ 10 by rw [sg_un ne]; exact f10), sg_fo_n f10]
        exact (if_neg ne).symm
  have ev : ∀ {d m y}, d < 6 → sg_Wa S L d m y → sg_Wa (sg_u S x 10) (sg_u L x y0) d m (if y = x then y0 else y) := by
    intro d m y hd w
    exact sg_Wa_ev (g := fun y => if y = x then y0 else y) (fun y hy => sg_hi_L h hy) (fun y hy => sg_fo_lt h hy) e1 e2 (fun y _ hc => if_neg (c9 y hc)) (show d < top by omega) w
  have evS : ∀ {p d m}, p < top → d < 6 → sg_St S L p d m → sg_St (sg_u S x 10) (sg_u L x y0) p d m := by
    intro p d m hp hd w
    unfold sg_St
    rw [e2 p hp]
    exact ev hd w
  refine ⟨h.1, h.2.1, h.2.2.1, h.2.2.2.1, h.2.2.2.2.1, fun y hy => ?_⟩
  obtain ⟨n1, n2, n3, n4, n5, n6, n7⟩ := sg_hi_nd h hy
  by_cases ey : y = x
  · subst ey
    unfold sg_Nd
    rw [sg_us, sg_us]
    refine ⟨n1, n2, hy0, n4, fun e => by omega, fun _ => ⟨a1.symm, a5.1, ?_, ?_⟩, fun _ f => absurd rfl f⟩
    · rw [sg_un nx]
      exact hy9
    · obtain ⟨s1, s2⟩ := sg_SL W h _ _ _ ha6 w2
      refine ⟨fun n i v h1 => ?_, fun i v h1 => ?_, fun z hz => ?_⟩
      · have h2 := sg_tail1 W ht a1.symm h1
        rw [show i + 1 = 0 + 1 + i by omega] at h2
        exact s1 n i v h2
      · have h2 := s2 i v h1
        rw [show 0 + 1 + i = i + 1 by omega] at h2
        exact sg_tail2 W ht a1.symm h2
      · rcases z with _ | z
        · refine ⟨lt y, ht, fun z hz => absurd hz (Nat.not_lt_zero z), ?_⟩
          show sg_fo (sg_u S y 10) (sg_u L y y0) (lt y) = y0
          rw [← ex, sg_fo_10 sg_us, sg_us]
        · obtain ⟨v, hv, ww⟩ := sg_Cov W h _ _ _ (z + 1) ha6 w2 (by omega) hz
          have := ev hv ww
          rw [if_neg nx] at this
          exact ⟨v, hv, this⟩
  · unfold sg_Nd
    rw [sg_un ey, sg_un ey]
    refine ⟨n1, n2, n3, n4, n5, fun f => ?_, fun f9 f10 => ?_⟩
    · obtain ⟨b1, b2, b3, b4, b5, b6⟩ := n6 f
      refine ⟨b1, b2, (e1 _ n3 b3).1, b4, b5, fun z hz => ?_⟩
      obtain ⟨w, hw, ww⟩ := b6 z hz
      have := ev hw ww
      rw [if_neg (c9 _ b3)] at this
      exact ⟨w, hw, this⟩
    · obtain ⟨b1, b2, b3, b4⟩ := n7 f9 f10
      exact ⟨b1, b2, b3, sg_Su_mono W n1 (fun d m hd w => evS n3 hd w) (fun d m hd w => evS n4 hd w) b1 b4⟩
end
end
section
/-! what a suspended node wants, and what it becomes -/
section
variable {K A B : Nat → Int32} {top : Nat} {c lt li S L R : Nat → Nat} {N P : Nat → Int32}
theorem sg_cell_ev (h : sg_HI K A B top c lt li S L R N P) {x kk l : Nat} (hx : x < top) (e9 : S x ≠ 9) (e10 : S x ≠ 10) : (∀ {d m y}, d < top → sg_Wa S L d m y → sg_Wa (sg_u (sg_u S top kk) x 9) (sg_u (sg_u L top l) x top) d m y) ∧ (∀ {p d m}, p < top → d < top → sg_St S L p d m → sg_St (sg_u (sg_u S top kk) x 9) (sg_u (sg_u L top l) x top) p d m) := by
  have hS : ∀ y, y < top → y ≠ x → sg_u (sg_u S top kk) x 9 y = S y := by
    intro y hy ne
    rw [sg_un ne, sg_un (by omega)]
  have hLL : ∀ y, y < top → y ≠ x → sg_u (sg_u L top l) x top y = L y := by
    intro y hy ne
    rw [sg_un ne, sg_un (by omega)]
  have e1 : ∀ y, y < top → S y = 9 → sg_u (sg_u S top kk) x 9 y = 9 ∧ sg_u (sg_u L top l) x top y = L y := by
    intro y hy e
    have ne : y ≠ x := by
      intro e'
      rw [e'] at e
      exact e9 e
    rw [hS y hy ne, hLL y hy ne]
    exact ⟨e, rfl⟩
  have e2 : ∀ y, y < top → sg_fo (sg_u (sg_u S top kk) x 9) (sg_u (sg_u L top l) x top) y = (fun y => y) (sg_fo S L y) := by
    intro y hy
    by_cases ne : y = x
    · subst ne
      rw [sg_fo_n (by rw [sg_us]; omega), sg_fo_n e10]
    · unfold sg_fo
      rw [hS y hy ne, hLL y hy ne]
  have ev : ∀ {d m y}, d < top → sg_Wa S L d m y → sg_Wa (sg_u (sg_u S top kk) x 9) (sg_u (sg_u L top l) x top) d m y := by
    intro d m y hd w
    exact sg_Wa_ev (g := fun y => y) (fun y hy => sg_hi_L h hy) (fun y hy => sg_fo_lt h hy) e1 e2 (fun _ _ _ => rfl) hd w
  refine ⟨ev, fun {p d m} hp hd w => ?_⟩
  unfold sg_St
  rw [e2 p hp]
  exact ev hd w
theorem sg_link_ev (h : sg_HI K A B top c lt li S L R N P) {x y0 : Nat} (hx : x < top) (e : S x = 2) : (∀ {d m y}, d < top → y ≠ x → sg_Wa S L d m y → sg_Wa (sg_u S x 10) (sg_u L x y0) d m y) ∧ (∀ {p d m}, p < top → d < top → sg_St S L p d m → sg_St (sg_u S x 10) (sg_u L x y0) p d m) := by
  have c9 : ∀ y, S y = 9 → y ≠ x := by
    intro y hy e'
    rw [e'] at hy
    omega
  have e1 : ∀ y, y < top → S y = 9 → sg_u S x 10 y = 9 ∧ sg_u L x y0 y = L y := by
    intro y hy hc
    rw [sg_un (c9 y hc), sg_un (c9 y hc)]
    exact ⟨hc, rfl⟩
  have e2 : ∀ y, y < top → sg_fo (sg_u S x 10) (sg_u L x y0) y = (fun y => if y = x then y0 else y) (sg_fo S L y) := by
    intro y hy
    by_cases ne : y = x
    · subst ne
      rw [sg_fo_10 sg_us, sg_us, sg_fo_n (show S y ≠ 10 by omega)]
      exact (if_pos rfl).symm
    · by_cases f10 : S y = 10
      · have := c9 _ (sg_hi_link h hy f10).2.2.1
        rw [sg_fo_10 (show sg_u S x 10 y = 10 by rw [sg_un ne]; exact f10), sg_fo_10 f10, sg_un ne]
        exact (if_neg this).symm
      · rw [sg_fo_n (show sg_u S x 10 y ≠ 10 by rw [sg_un ne]; exact f10), sg_fo_n f10]
        exact (if_neg ne).symm
  have ev : ∀ {d m y}, d < top → sg_Wa S L d m y → sg_Wa (sg_u S x 10) (sg_u L x y0) d m (if y = x then y0 else y) := by
    intro d m y hd w
    exact sg_Wa_ev (g := fun y => if y = x then y0 else y) (fun y hy => sg_hi_L h hy) (fun y hy => sg_fo_lt h hy) e1 e2 (fun y _ hc => if_neg (c9 y hc)) hd w
  refine ⟨fun {d m y} hd hy w => ?_, fun {p d m} hp hd w => ?_⟩
  · have := ev hd w
    rw [if_neg hy] at this
    exact this
  · unfold sg_St
    rw [e2 p hp]
    exact ev hd w
/-- x can't be finished before w is -/
def sg_Wt (K A B : Nat → Int32) (S L lt li : Nat → Nat) (x w : Nat) : Prop :=
  (∃ d m, d < 6 ∧ m ≤ li x + 1 ∧ sg_Wa S L d m w) ∧ (∀ n v, sg_Tn K A B (n + 1) (lt x) (li x) v → ∃ v', sg_Tn K A B n (lt w) (li w) v')
theorem sg_Wt_of (W : sg_wf K A B) (h : sg_HI K A B top c lt li S L R N P) {x w d m : Nat} (hd : d < 6) (hm : m ≤ li x + 1) (w1 : sg_Wa S L d m w) (n1 : ∀ n v, sg_Tn K A B (n + 1) (lt x) (li x) v → ∃ v', sg_Tn K A B n d m v') : sg_Wt K A B S L lt li x w := by
  refine ⟨⟨d, m, hd, hm, w1⟩, fun n v h1 => ?_⟩
  obtain ⟨v', h2⟩ := n1 n v h1
  exact ⟨v', (sg_SL W h m d w hd w1).1 n 0 v' h2⟩
theorem sg_Pl_same (W : sg_wf K A B) {t j p q p' q' n : Nat} (ha : sg_kd A t < 6) (hb : sg_kd B t < 6) (h1 : sg_Pl A B (sg_H K A B) t j p q) (h2 : sg_Pl A B (sg_Tn K A B n) t j p' q') : p = p' ∧ q = q' :=
  sg_Pl_det (fun _ _ _ => sg_H_det W ha) (fun _ _ _ => sg_H_det W hb) h1 (sg_Pl_mono (fun _ _ _ hx => ⟨n, hx⟩) (fun _ _ _ hx => ⟨n, hx⟩) h2).1
theorem sg_Pl_le {T : Nat → Nat → Int32 → Prop} {t j p q : Nat} (h1 : sg_Pl A B T t j p q) : p ≤ j ∧ q ≤ j := (sg_Pl_mono (T' := T) (fun _ _ _ hx => hx) (fun _ _ _ hx => hx) h1).2
theorem sg_wantL (W : sg_wf K A B) (h : sg_HI K A B top c lt li S L R N P) {x : Nat} (hx : x < top) (e9 : S x ≠ 9) (e10 : S x ≠ 10) (e0 : S x ≠ 0) : sg_Wt K A B S L lt li x (sg_fo S L (L x)) := by
  have ht := sg_hi_lt h hx
  obtain ⟨_, w2, wa, wb⟩ := W _ ht
  obtain ⟨a1, _, _, a4⟩ := sg_hi_susp h hx e9 e10
  rw [a1] at e0 a4
  rcases sg_k9 w2 with e | e | e | e | e | e | e | e | e
  · exact absurd e e0
  · rw [e] at a4
    exact False.elim a4
  · rw [e] at a4
    obtain ⟨z1, z2⟩ := a4
    refine sg_Wt_of W h (wa (by omega)).2 (by omega) z2 (fun n v h1 => ?_)
    have h2 := ((sg_Ru_2 e).mp (sg_Tn_s.mp h1)).2
    rw [z1] at h2
    exact sg_Tn_dn W (wa (by omega)).2 h2
  · rw [e] at a4
    obtain ⟨z1, z2⟩ := a4
    refine sg_Wt_of W h (wa (by omega)).2 (by omega) z1 (fun n v h1 => ?_)
    obtain ⟨x1, y1, h2, _⟩ := ((sg_Ru_3 e).mp (sg_Tn_s.mp h1)).2
    exact ⟨x1, h2⟩
  · rw [e] at a4
    obtain ⟨z1, z2⟩ := a4
    refine sg_Wt_of W h (wa (by omega)).2 (by omega) z1 (fun n v h1 => ?_)
    obtain ⟨x1, y1, h2, _⟩ := ((sg_Ru_4 e).mp (sg_Tn_s.mp h1)).2
    exact ⟨x1, h2⟩
  · rw [e] at a4
    obtain ⟨z1, z2⟩ := a4
    refine sg_Wt_of W h (wb (by omega)).2 (by omega) z2 (fun n v h1 => ?_)
    obtain ⟨y1, h2, _⟩ := ((sg_Ru_5 e).mp (sg_Tn_s.mp h1)).2
    exact ⟨y1, h2⟩
  · rw [e] at a4
    obtain ⟨z1, z2⟩ := a4
    refine sg_Wt_of W h (wa (by omega)).2 (by omega) z2 (fun n v h1 => ?_)
    obtain ⟨w1, y1, _, h2, _⟩ := ((sg_Ru_6 e).mp (sg_Tn_s.mp h1)).2
    exact ⟨y1, h2⟩
  · rw [e] at a4
    rcases a4 with ⟨z1, z2, _⟩ | ⟨z1, z2, _⟩
    · refine sg_Wt_of W h (wa (by omega)).2 (by omega) z2 (fun n v h1 => ?_)
      rcases ((sg_Ru_7 e).mp (sg_Tn_s.mp h1)).2 with ⟨h3, h2⟩ | ⟨h3, h2⟩
      · exact ⟨v, h2⟩
      · omega
    · refine sg_Wt_of W h (wb (by omega)).2 (by omega) z2 (fun n v h1 => ?_)
      rcases ((sg_Ru_7 e).mp (sg_Tn_s.mp h1)).2 with ⟨h3, h2⟩ | ⟨h3, h2⟩
      · omega
      · exact ⟨v, h2⟩
  · rw [e] at a4
    obtain ⟨p, q, z0, z1, z2⟩ := a4
    have zl := sg_Pl_le z0
    refine sg_Wt_of W h (wa (by omega)).2 (by omega) z1 (fun n v h1 => ?_)
    obtain ⟨p', q', x1, y1, h2, h3, _⟩ := ((sg_Ru_8 e).mp (sg_Tn_s.mp h1)).2
    rw [(sg_Pl_same W (wa (by omega)).2 (wb (by omega)).2 z0 h2).1]
    exact ⟨x1, h3⟩
theorem sg_wantT (W : sg_wf K A B) (h : sg_HI K A B top c lt li S L R N P) {x : Nat} (hx : x < top) (e2 : S x = 2) (hl : S (L x) = 9) : sg_Wt K A B S L lt li x (sg_fo S L (L (L x))) := by
  have ht := sg_hi_lt h hx
  obtain ⟨_, w2, wa, wb⟩ := W _ ht
  obtain ⟨a1, _, _, a4⟩ := sg_hi_susp h hx (by omega) (by omega)
  rw [e2] at a4 a1
  have e := a1.symm
  obtain ⟨z1, z2⟩ := a4
  have z3 : sg_Wa S L (sg_kd A (lt x)) 0 (L x) := by
    unfold sg_St at z2
    rw [sg_fo_n (by omega)] at z2
    exact z2
  refine sg_Wt_of W h (wa (by omega)).2 (by omega) (sg_Wa_next z3 hl) (fun n v h1 => ?_)
  have h2 := ((sg_Ru_2 e).mp (sg_Tn_s.mp h1)).2
  rw [z1] at h2
  exact ⟨v, h2⟩
theorem sg_wantR (W : sg_wf K A B) (h : sg_HI K A B top c lt li S L R N P) {x : Nat} (hx : x < top) (e3 : S x = 3 ∨ S x = 4 ∨ S x = 8) : sg_Wt K A B S L lt li x (sg_fo S L (R x)) := by
  have ht := sg_hi_lt h hx
  obtain ⟨_, w2, wa, wb⟩ := W _ ht
  obtain ⟨a1, _, _, a4⟩ := sg_hi_susp h hx (by omega) (by omega)
  rcases e3 with e3 | e3 | e3
  · rw [e3] at a4 a1
    have e := a1.symm
    obtain ⟨z1, z2⟩ := a4
    refine sg_Wt_of W h (wb (by omega)).2 (by omega) z2 (fun n v h1 => ?_)
    obtain ⟨x1, y1, _, h2, _⟩ := ((sg_Ru_3 e).mp (sg_Tn_s.mp h1)).2
    exact ⟨y1, h2⟩
  · rw [e3] at a4 a1
    have e := a1.symm
    obtain ⟨z1, z2⟩ := a4
    refine sg_Wt_of W h (wb (by omega)).2 (by omega) z2 (fun n v h1 => ?_)
    obtain ⟨x1, y1, _, h2, _⟩ := ((sg_Ru_4 e).mp (sg_Tn_s.mp h1)).2
    exact ⟨y1, h2⟩
  · rw [e3] at a4 a1
    have e := a1.symm
    obtain ⟨p, q, z0, z1, z2⟩ := a4
    have zl := sg_Pl_le z0
    refine sg_Wt_of W h (wb (by omega)).2 (by omega) z2 (fun n v h1 => ?_)
    obtain ⟨p', q', x1, y1, h2, _, h3, _⟩ := ((sg_Ru_8 e).mp (sg_Tn_s.mp h1)).2
    rw [(sg_Pl_same W (wa (by omega)).2 (wb (by omega)).2 z0 h2).2]
    exact ⟨y1, h3⟩
/-- a pointer to a cell: the element, and what is behind it -/
theorem sg_cv (W : sg_wf K A B) (h : sg_HI K A B top c lt li S L R N P) {l d m : Nat} (hl : l < top) (hd : d < 6) (e : S l = 9) (w : sg_St S L l d m) : sg_H K A B d m (N l) ∧ sg_St S L (L l) d (m + 1) := by
  unfold sg_St at w
  rw [sg_fo_n (by omega)] at w
  exact ⟨(sg_SL W h m d l hd w).2 0 _ (sg_hi_cell h hl e).1, sg_Wa_next w e⟩
theorem sg_fin0 (W : sg_wf K A B) (h : sg_HI K A B top c lt li S L R N P) {x : Nat} (hx : x < top) (e : S x = 0) : sg_H K A B (lt x) (li x) (N x) ∧ sg_kd K (lt x) = 0 ∧ sg_Su K A B (sg_St S L) (lt x) (li x + 1) 0 0 (N x + P x) (P x) (sg_kd K (lt x)) := by
  have ht := sg_hi_lt h hx
  obtain ⟨a1, _, a3, a4⟩ := sg_hi_susp h hx (by omega) (by omega)
  rw [e] at a1 a4
  obtain ⟨z1, z2⟩ := a4
  refine ⟨sg_H_cl W ht ((sg_Ru_0 a1.symm).mpr ⟨a3, z1⟩), a1.symm, ?_⟩
  rw [← a1]
  refine And.intro ?_ z2
  rw [z1, z2, ← nI_1]
  grind
theorem sg_fin2 (W : sg_wf K A B) (h : sg_HI K A B top c lt li S L R N P) {x : Nat} (hx : x < top) (e : S x = 3 ∨ S x = 4) (hl : S (L x) = 9) (hr : S (R x) = 9) : sg_H K A B (lt x) (li x) (if S x = 3 then N (L x) + N (R x) else N (L x) * N (R x)) ∧ sg_kd K (lt x) = S x ∧ sg_Su K A B (sg_St S L) (lt x) (li x + 1) (L (L x)) (L (R x)) 0 0 (sg_kd K (lt x)) := by
  have ht := sg_hi_lt h hx
  obtain ⟨_, w2, wa, wb⟩ := W _ ht
  obtain ⟨a1, _, a3, a4⟩ := sg_hi_susp h hx (by omega) (by omega)
  rcases e with e | e
  · rw [e] at a1 a4 ⊢
    have ek := a1.symm
    obtain ⟨z1, z2⟩ := a4
    obtain ⟨c1, c2⟩ := sg_cv W h (sg_hi_L h hx) (wa (by omega)).2 hl z1
    obtain ⟨d1, d2⟩ := sg_cv W h (sg_hi_R h hx) (wb (by omega)).2 hr z2
    refine ⟨sg_H_cl W ht ((sg_Ru_3 ek).mpr ⟨a3, _, _, c1, d1, if_pos rfl⟩), ek, ?_⟩
    rw [ek]
    exact And.intro c2 d2
  · rw [e] at a1 a4 ⊢
    have ek := a1.symm
    obtain ⟨z1, z2⟩ := a4
    obtain ⟨c1, c2⟩ := sg_cv W h (sg_hi_L h hx) (wa (by omega)).2 hl z1
    obtain ⟨d1, d2⟩ := sg_cv W h (sg_hi_R h hx) (wb (by omega)).2 hr z2
    refine ⟨sg_H_cl W ht ((sg_Ru_4 ek).mpr ⟨a3, _, _, c1, d1, if_neg (by decide)⟩), ek, ?_⟩
    rw [ek]
    exact And.intro c2 d2
theorem sg_fin5 (W : sg_wf K A B) (h : sg_HI K A B top c lt li S L R N P) {x : Nat} (hx : x < top) (e : S x = 5) (hl : S (L x) = 9) : sg_H K A B (lt x) (li x) (N x * N (L x)) ∧ sg_kd K (lt x) = 5 ∧ sg_Su K A B (sg_St S L) (lt x) (li x + 1) (L (L x)) 0 (N x) 0 (sg_kd K (lt x)) := by
  have ht := sg_hi_lt h hx
  obtain ⟨_, w2, wa, wb⟩ := W _ ht
  obtain ⟨a1, _, a3, a4⟩ := sg_hi_susp h hx (by omega) (by omega)
  rw [e] at a1 a4
  have ek := a1.symm
  obtain ⟨z1, z2⟩ := a4
  obtain ⟨c1, c2⟩ := sg_cv W h (sg_hi_L h hx) (wb (by omega)).2 hl z2
  refine ⟨sg_H_cl W ht ((sg_Ru_5 ek).mpr ⟨a3, _, c1, by rw [z1]⟩), ek, ?_⟩
  rw [ek]
  exact And.intro z1 c2
theorem sg_fin6 (W : sg_wf K A B) (h : sg_HI K A B top c lt li S L R N P) {x : Nat} (hx : x < top) (e : S x = 6) (hl : S (L x) = 9) : sg_H K A B (lt x) (li x) (N x + N (L x)) ∧ sg_kd K (lt x) = 6 ∧ sg_Su K A B (sg_St S L) (lt x) (li x + 1) (L (L x)) 0 (N x + N (L x)) 0 (sg_kd K (lt x)) := by
  have ht := sg_hi_lt h hx
  obtain ⟨_, w2, wa, wb⟩ := W _ ht
  obtain ⟨a1, _, a3, a4⟩ := sg_hi_susp h hx (by omega) (by omega)
  rw [e] at a1 a4
  have ek := a1.symm
  obtain ⟨z1, z2⟩ := a4
  obtain ⟨c1, c2⟩ := sg_cv W h (sg_hi_L h hx) (wa (by omega)).2 hl z2
  have hv := sg_H_cl W ht ((sg_Ru_6 ek).mpr ⟨a3, _, _, z1, c1, rfl⟩)
  refine ⟨hv, ek, ?_⟩
  rw [ek]
  exact And.intro (Or.inr ⟨by omega, hv⟩) c2
theorem sg_fin7 (W : sg_wf K A B) (h : sg_HI K A B top c lt li S L R N P) {x : Nat} (hx : x < top) (e : S x = 7) (hl : S (L x) = 9) : sg_H K A B (lt x) (li x) (N (L x)) ∧ sg_kd K (lt x) = 7 ∧ sg_Su K A B (sg_St S L) (lt x) (li x + 1) (R x) (L (L x)) 0 0 (sg_kd K (lt x)) := by
  have ht := sg_hi_lt h hx
  obtain ⟨_, w2, wa, wb⟩ := W _ ht
  obtain ⟨a1, _, a3, a4⟩ := sg_hi_susp h hx (by omega) (by omega)
  rw [e] at a1 a4
  have ek := a1.symm
  rcases a4 with ⟨z0, z1, z2⟩ | ⟨z0, z1, z2⟩
  · obtain ⟨c1, c2⟩ := sg_cv W h (sg_hi_L h hx) (wa (by omega)).2 hl z1
    refine ⟨sg_H_cl W ht ((sg_Ru_7 ek).mpr ⟨a3, Or.inl ⟨z0, c1⟩⟩), ek, ?_⟩
    rw [ek]
    refine Or.inr ⟨by omega, ?_, ?_⟩
    · rw [show (li x + 1) / 2 = li x / 2 by omega]
      exact z2
    · rw [show (li x + 1) / 2 = li x / 2 by omega]
      exact c2
  · obtain ⟨c1, c2⟩ := sg_cv W h (sg_hi_L h hx) (wb (by omega)).2 hl z1
    refine ⟨sg_H_cl W ht ((sg_Ru_7 ek).mpr ⟨a3, Or.inr ⟨z0, c1⟩⟩), ek, ?_⟩
    rw [ek]
    refine Or.inl ⟨by omega, ?_, ?_⟩
    · rw [show (li x + 1) / 2 = li x / 2 + 1 by omega]
      exact z2
    · rw [show (li x + 1) / 2 = li x / 2 + 1 by omega]
      exact c2
theorem sg_fin8 (W : sg_wf K A B) (h : sg_HI K A B top c lt li S L R N P) {x : Nat} (hx : x < top) (e : S x = 8) (hl : S (L x) = 9) (hr : S (R x) = 9) : sg_H K A B (lt x) (li x) (if N (R x) ≤ N (L x) then N (R x) else N (L x)) ∧ sg_kd K (lt x) = 8 ∧ sg_Su K A B (sg_St S L) (lt x) (li x + 1) (if N (L x) ≤ N (R x) then L (L x) else L x) (if N (R x) ≤ N (L x) then L (R x) else R x) 0 0 (sg_kd K (lt x)) := by
  have ht := sg_hi_lt h hx
  obtain ⟨_, w2, wa, wb⟩ := W _ ht
  obtain ⟨a1, _, a3, a4⟩ := sg_hi_susp h hx (by omega) (by omega)
  rw [e] at a1 a4
  have ek := a1.symm
  obtain ⟨p, q, z0, z1, z2⟩ := a4
  obtain ⟨c1, c2⟩ := sg_cv W h (sg_hi_L h hx) (wa (by omega)).2 hl z1
  obtain ⟨d1, d2⟩ := sg_cv W h (sg_hi_R h hx) (wb (by omega)).2 hr z2
  refine ⟨sg_H_cl W ht ((sg_Ru_8 ek).mpr ⟨a3, p, q, _, _, z0, c1, d1, rfl⟩), ek, ?_⟩
  rw [ek]
  refine Exists.intro _ (Exists.intro _ ⟨sg_Pl_s.mpr ⟨p, q, _, _, z0, c1, d1, rfl, rfl⟩, ?_, ?_⟩)
  · split
    · exact c2
    · exact z1
  · split
    · exact d2
    · exact z2
end
end
section
/-! the stack of waiting computations -/
def sg_SI (K A B : Nat → Int32) (top : Nat) (lt li S L : Nat → Nat) (bu : Nat → Int32) (sk : Nat → Nat) (n d0 q : Nat) : Prop :=
  (∀ i, i < n → sk i < top) ∧ (0 < n → sg_St S L (sk 0) d0 q) ∧
  (∀ i, i + 1 < n → S (sk i) ≠ 9 ∧ S (sk i) ≠ 10 ∧ bu (sk i) = 1 ∧ ∀ m v, sg_Tn K A B (m + 1) (lt (sk i)) (li (sk i)) v → ∃ v', sg_Tn K A B m (lt (sk (i + 1))) (li (sk (i + 1))) v') ∧
  (∀ i j, i < j → j < n → sk i ≠ sk j) ∧
  (∀ y, y < top → bu y = 0 ∨ (bu y = 1 ∧ S y ≠ 9 ∧ S y ≠ 10 ∧ ∃ i, i < n ∧ sk i = y)) ∧
  (∀ i, i < n → S (sk i) ≠ 9 → S (sk i) ≠ 10 → ∀ z, q ≤ z → z ≤ li (sk i) → ∃ v, v < 6 ∧ ∃ i', i' ≤ i ∧ sg_Wa S L v z (sk i'))
section
variable {K A B : Nat → Int32} {top : Nat} {c lt li S L R : Nat → Nat} {N P : Nat → Int32} {bu : Nat → Int32} {sk : Nat → Nat} {n d0 q : Nat}
theorem sg_SI_pop (h : sg_HI K A B top c lt li S L R N P) (s : sg_SI K A B top lt li S L bu sk (n + 1) d0 q) (e : S (sg_fo S L (sk n)) = 9) : sg_SI K A B top lt li S L bu sk n d0 q := by
  obtain ⟨s1, s2, s3, s4, s5, s6⟩ := s
  refine ⟨fun i hi => s1 i (by omega), fun _ => s2 (by omega), fun i hi => s3 i (by omega), fun i j hi hj => s4 i j hi (by omega), fun y hy => ?_, fun i hi => s6 i (by omega)⟩
  rcases s5 y hy with h1 | ⟨h1, h2, h3, i, hi, h4⟩
  · exact Or.inl h1
  · refine Or.inr ⟨h1, h2, h3, i, ?_, h4⟩
    rcases Nat.lt_or_ge i n with hlt | hge
    · exact hlt
    · exfalso
      have ei : i = n := by omega
      rw [ei] at h4
      rw [h4, sg_fo_n h3] at e
      exact h2 e
theorem sg_SI_susp (s : sg_SI K A B top lt li S L bu sk (n + 1) d0 q) (e9 : S (sk n) ≠ 9) (e10 : S (sk n) ≠ 10) {i : Nat} (hi : i < n + 1) : S (sk i) ≠ 9 ∧ S (sk i) ≠ 10 := by
  rcases Nat.lt_or_ge i n with hlt | hge
  · have := s.2.2.1 i (by omega)
    exact ⟨this.1, this.2.1⟩
  · rw [show i = n by omega]
    exact ⟨e9, e10⟩
theorem sg_SI_depth (h : sg_HI K A B top c lt li S L R N P) (s : sg_SI K A B top lt li S L bu sk (n + 1) d0 q) (e9 : S (sk n) ≠ 9) (e10 : S (sk n) ≠ 10) : n + 1 ≤ 6 := by
  refine sg_pig 6 (n + 1) (fun i => lt (sk i)) (fun i hi => sg_hi_lt h (s.1 i hi)) (fun i j hij hj e => ?_)
  have hi := sg_SI_susp s e9 e10 (show i < n + 1 by omega)
  have hj' := sg_SI_susp s e9 e10 hj
  have a := (sg_hi_susp h (s.1 i (by omega)) hi.1 hi.2).2.1
  have b := (sg_hi_susp h (s.1 j hj) hj'.1 hj'.2).2.1
  have e' : lt (sk i) = lt (sk j) := e
  rw [e'] at a
  exact s.2.2.2.1 i j hij hj (sg_hi_inj h (s.1 i (by omega)) (s.1 j hj) e' (by omega))
theorem sg_SI_bound (s : sg_SI K A B top lt li S L bu sk (n + 1) d0 q) (e9 : S (sk n) ≠ 9) (e10 : S (sk n) ≠ 10) : li (sk n) ≤ q + 5 := by
  apply Nat.le_of_not_lt
  intro hlt
  have hc : ∀ i, ∃ v, i < 7 → v < 6 ∧ ∃ i', i' ≤ n ∧ sg_Wa S L v (q + i) (sk i') := by
    intro i
    by_cases hi : i < 7
    · obtain ⟨v, h1, h2⟩ := s.2.2.2.2.2 n (by omega) e9 e10 (q + i) (by omega) (by omega)
      exact ⟨v, fun _ => ⟨h1, h2⟩⟩
    · exact ⟨0, fun h => absurd h hi⟩
  obtain ⟨f, hf⟩ := Classical.axiomOfChoice hc
  have := sg_pig 6 7 f (fun i hi => (hf i hi).1) (fun i j hij hj e => by
    obtain ⟨_, i1, h1, w1⟩ := hf i (by omega)
    obtain ⟨_, i2, h2, w2⟩ := hf j hj
    rw [e] at w1
    have := sg_Wa_un w1 w2 (sg_SI_susp s e9 e10 (by omega)).1 (sg_SI_susp s e9 e10 (by omega)).1
    omega)
  omega
theorem sg_SI_push (W : sg_wf K A B) (h : sg_HI K A B top c lt li S L R N P) (s : sg_SI K A B top lt li S L bu sk (n + 1) d0 q) (e9 : S (sk n) ≠ 9) (e10 : S (sk n) ≠ 10) {w : Nat} (hw : w < top) (wt : sg_Wt K A B S L lt li (sk n) w) (hb : upd bu (sk n) 1 w = 0) : sg_SI K A B top lt li S L (upd bu (sk n) 1) (sg_u sk (n + 1) w) (n + 2) d0 q := by
  obtain ⟨⟨d, m, hd, hm, wa⟩, wn⟩ := wt
  have hs := fun {i} => @sg_SI_susp K A B top lt li S L bu sk n d0 q s e9 e10 i
  obtain ⟨s1, s2, s3, s4, s5, s6⟩ := s
  have ek : ∀ i, i < n + 1 → sg_u sk (n + 1) w i = sk i := fun i hi => sg_un (by omega)
  have eb : ∀ i, i < n + 1 → upd bu (sk n) 1 (sk i) = 1 := by
    intro i hi
    by_cases e : sk i = sk n
    · rw [e, pk_us]
    · rw [pk_un e]
      have : i ≠ n := by
        intro e'
        rw [e'] at e
        exact e rfl
      exact (s3 i (by omega)).2.2.1
  refine ⟨fun i hi => ?_, fun _ => ?_, fun i hi => ?_, fun i j hij hj => ?_, fun y hy => ?_, fun i hi f9 f10 z hz1 hz2 => ?_⟩
  · by_cases e : i = n + 1
    · rw [e, sg_us]
      exact hw
    · rw [ek i (by omega)]
      exact s1 i (by omega)
  · rw [ek 0 (by omega)]
    exact s2 (by omega)
  · rw [ek i (by omega)]
    refine ⟨(hs (by omega)).1, (hs (by omega)).2, eb i (by omega), ?_⟩
    by_cases e : i = n
    · rw [e, sg_us]
      exact wn
    · rw [ek (i + 1) (by omega)]
      exact (s3 i (by omega)).2.2.2
  · rw [ek i (by omega)]
    by_cases e : j = n + 1
    · rw [e, sg_us]
      intro e'
      have := eb i (by omega)
      rw [e', hb] at this
      exact absurd this (by decide)
    · rw [ek j (by omega)]
      exact s4 i j hij (by omega)
  · by_cases e : y = sk n
    · rw [e, pk_us]
      exact Or.inr ⟨rfl, e9, e10, n, by omega, ek n (by omega)⟩
    · rw [pk_un e]
      rcases s5 y hy with h1 | ⟨h1, h2, h3, i, hi, h4⟩
      · exact Or.inl h1
      · exact Or.inr ⟨h1, h2, h3, i, by omega, by rw [ek i hi]; exact h4⟩
  · by_cases e : i = n + 1
    · rw [e, sg_us] at hz2
      by_cases hz : z ≤ li (sk n)
      · obtain ⟨v, hv, i', hi', w'⟩ := s6 n (by omega) e9 e10 z hz1 hz
        exact ⟨v, hv, i', by omega, by rw [ek i' (by omega)]; exact w'⟩
      · obtain ⟨v, hv, w'⟩ := sg_Cov W h m d w z hd wa (by omega) hz2
        exact ⟨v, hv, n + 1, by omega, by rw [sg_us]; exact w'⟩
    · rw [ek i (by omega)] at f9 f10 hz2
      obtain ⟨v, hv, i', hi', w'⟩ := s6 i (by omega) f9 f10 z hz1 hz2
      exact ⟨v, hv, i', hi', by rw [ek i' (by omega)]; exact w'⟩
theorem sg_SI_stuck (W : sg_wf K A B) (h : sg_HI K A B top c lt li S L R N P) (hd0 : d0 < 6) (s : sg_SI K A B top lt li S L bu sk (n + 1) d0 q) (e9 : S (sk n) ≠ 9) (e10 : S (sk n) ≠ 10) {w : Nat} (hw : w < top) (wt : sg_Wt K A B S L lt li (sk n) w) (hb : ¬ upd bu (sk n) 1 w = 0) : ¬ ∃ v, sg_H K A B d0 q v := by
  have hin : ∃ i, i < n + 1 ∧ sk i = w := by
    by_cases e : w = sk n
    · exact ⟨n, by omega, e.symm⟩
    · rw [pk_un e] at hb
      rcases s.2.2.2.2.1 w hw with h1 | ⟨_, _, _, i, hi, h4⟩
      · exact absurd h1 hb
      · exact ⟨i, hi, h4⟩
  obtain ⟨iw, hiw, ew⟩ := hin
  have hu := sg_unf (K := K) (A := A) (B := B) (U := fun a b => ∃ i, i < n + 1 ∧ a = lt (sk i) ∧ b = li (sk i)) (by
    intro m a b v hU hT
    obtain ⟨i, hi, e1, e2⟩ := hU
    rw [e1, e2] at hT
    by_cases e : i = n
    · rw [e] at hT
      obtain ⟨v', hv'⟩ := wt.2 m v hT
      exact ⟨_, _, v', ⟨iw, hiw, by rw [ew], by rw [ew]⟩, hv'⟩
    · obtain ⟨v', hv'⟩ := (s.2.2.1 i (by omega)).2.2.2 m v hT
      exact ⟨_, _, v', ⟨i + 1, by omega, rfl, rfl⟩, hv'⟩)
  rintro ⟨v, m, hT⟩
  have hst := s.2.1 (by omega)
  have h0 := sg_SI_susp s e9 e10 (show 0 < n + 1 by omega)
  unfold sg_St at hst
  rw [sg_fo_n h0.2] at hst
  have := (sg_SL W h q d0 _ hd0 hst).1 m 0 v hT
  exact hu m _ _ v ⟨0, by omega, rfl, rfl⟩ this
theorem sg_SI_cmpL (h : sg_HI K A B top c lt li S L R N P) (s : sg_SI K A B top lt li S L bu sk n d0 q) {x : Nat} (hx : x < top) (e10 : S x ≠ 10) : sg_SI K A B top lt li S (sg_u L x (sg_fo S L (L x))) bu sk n d0 q := by
  unfold sg_SI
  rw [sg_cmp_St h hx e10, sg_cmp_Wa h hx e10]
  exact s
theorem sg_SI_cell (h : sg_HI K A B top c lt li S L R N P) (hd0 : d0 < 6) (s : sg_SI K A B top lt li S L bu sk (n + 1) d0 q) (e9 : S (sk n) ≠ 9) (e10 : S (sk n) ≠ 10) {kk l a b : Nat} {bu' : Nat → Int32} (hb : ∀ y, y < top → y ≠ sk n → bu' y = bu y) (hb0 : bu' (sk n) = 0) (hb1 : bu' top = 0) : sg_SI K A B (top + 1) (sg_u lt top a) (sg_u li top b) (sg_u (sg_u S top kk) (sk n) 9) (sg_u (sg_u L top l) (sk n) top) bu' sk (n + 1) d0 q := by
  have t6 := sg_hi_t6 h
  obtain ⟨ev, evS⟩ := sg_cell_ev h (s.1 n (by omega)) e9 e10 (kk := kk) (l := l)
  obtain ⟨s1, s2, s3, s4, s5, s6⟩ := s
  have eS : ∀ i, i < n → sg_u (sg_u S top kk) (sk n) 9 (sk i) = S (sk i) := by
    intro i hi
    have := s1 i (by omega)
    rw [sg_un (s4 i n hi (by omega)), sg_un (by omega)]
  have elt : ∀ i, i < n + 1 → sg_u lt top a (sk i) = lt (sk i) := by
    intro i hi
    have := s1 i hi
    exact sg_un (by omega)
  have eli : ∀ i, i < n + 1 → sg_u li top b (sk i) = li (sk i) := by
    intro i hi
    have := s1 i hi
    exact sg_un (by omega)
  refine ⟨fun i hi => ?_, fun hn => ?_, fun i hi => ?_, s4, fun y hy => ?_, fun i hi f9 f10 z hz1 hz2 => ?_⟩
  · have := s1 i hi
    omega
  · exact evS (s1 0 hn) (by omega) (s2 hn)
  · rw [eS i (by omega), elt i (by omega), eli i (by omega), elt (i + 1) (by omega), eli (i + 1) (by omega), hb _ (s1 i (by omega)) (s4 i n (by omega) (by omega))]
    exact s3 i hi
  · by_cases et : y = top
    · rw [et]
      exact Or.inl hb1
    · by_cases ex : y = sk n
      · rw [ex]
        exact Or.inl hb0
      · rw [hb y (by omega) ex, sg_un ex, sg_un et]
        exact s5 y (by omega)
  · by_cases e : i = n
    · rw [e, sg_us] at f9
      exact absurd rfl f9
    · rw [eS i (by omega)] at f9 f10
      rw [eli i hi] at hz2
      obtain ⟨v, hv, i', hi', w'⟩ := s6 i hi f9 f10 z hz1 hz2
      exact ⟨v, hv, i', hi', ev (by omega) w'⟩
theorem sg_SI_link (h : sg_HI K A B top c lt li S L R N P) (hd0 : d0 < 6) (s : sg_SI K A B top lt li S L bu sk (n + 1) d0 q) (e2 : S (sk n) = 2) {y0 : Nat} {bu' : Nat → Int32} (hb : ∀ y, y < top → y ≠ sk n → bu' y = bu y) (hb0 : bu' (sk n) = 0) : sg_SI K A B top lt li (sg_u S (sk n) 10) (sg_u L (sk n) y0) bu' sk (n + 1) d0 q := by
  have t6 := sg_hi_t6 h
  obtain ⟨ev, evS⟩ := sg_link_ev h (s.1 n (by omega)) e2 (y0 := y0)
  obtain ⟨s1, s2, s3, s4, s5, s6⟩ := s
  have eS : ∀ i, i < n → sg_u S (sk n) 10 (sk i) = S (sk i) := by
    intro i hi
    rw [sg_un (s4 i n hi (by omega))]
  refine ⟨s1, fun hn => ?_, fun i hi => ?_, s4, fun y hy => ?_, fun i hi f9 f10 z hz1 hz2 => ?_⟩
  · exact evS (s1 0 hn) (by omega) (s2 hn)
  · rw [eS i (by omega), hb _ (s1 i (by omega)) (s4 i n (by omega) (by omega))]
    exact s3 i hi
  · by_cases ex : y = sk n
    · rw [ex]
      exact Or.inl hb0
    · rw [hb y (by omega) ex, sg_un ex]
      exact s5 y (by omega)
  · by_cases e : i = n
    · rw [e, sg_us] at f10
      exact absurd rfl f10
    · rw [eS i (by omega)] at f9 f10
      obtain ⟨v, hv, i', hi', w'⟩ := s6 i hi f9 f10 z hz1 hz2
      exact ⟨v, hv, i', hi', ev (by omega) (s4 i' n (by omega) (by omega)) w'⟩
end
def sg_t1 (S : Nat → Nat) (s : Nat) : Nat := if S s = 2 then 1 else 0
def sg_tl (S : Nat → Nat) : Nat := sg_t1 S 0 + sg_t1 S 1 + sg_t1 S 2 + sg_t1 S 3 + sg_t1 S 4 + sg_t1 S 5
theorem sg_tl_link {S : Nat → Nat} {x : Nat} (hx : x < 6) (e : S x = 2) : sg_tl (sg_u S x 10) + 1 = sg_tl S := by
  have h : x = 0 ∨ x = 1 ∨ x = 2 ∨ x = 3 ∨ x = 4 ∨ x = 5 := by omega
  have a : sg_t1 (sg_u S x 10) x = 0 := by
    unfold sg_t1
    rw [sg_us]
    rfl
  have b : sg_t1 S x = 1 := if_pos e
  have d : ∀ y, y ≠ x → sg_t1 (sg_u S x 10) y = sg_t1 S y := by
    intro y hy
    unfold sg_t1
    rw [sg_un hy]
  unfold sg_tl
  rcases h with h | h | h | h | h | h <;> subst h
  · rw [a, d 1 (by omega), d 2 (by omega), d 3 (by omega), d 4 (by omega), d 5 (by omega)]
    omega
  · rw [a, d 0 (by omega), d 2 (by omega), d 3 (by omega), d 4 (by omega), d 5 (by omega)]
    omega
  · rw [a, d 0 (by omega), d 1 (by omega), d 3 (by omega), d 4 (by omega), d 5 (by omega)]
    omega
  · rw [a, d 0 (by omega), d 1 (by omega), d 2 (by omega), d 4 (by omega), d 5 (by omega)]
    omega
  · rw [a, d 0 (by omega), d 1 (by omega), d 2 (by omega), d 3 (by omega), d 5 (by omega)]
    omega
  · rw [a, d 0 (by omega), d 1 (by omega), d 2 (by omega), d 3 (by omega), d 4 (by omega)]
    omega
theorem sg_tl_cell {S : Nat → Nat} {x top kk : Nat} (h6 : 6 ≤ top) : sg_tl (sg_u (sg_u S top kk) x 9) ≤ sg_tl S := by
  have d : ∀ y, y < 6 → sg_t1 (sg_u (sg_u S top kk) x 9) y ≤ sg_t1 S y := by
    intro y hy
    by_cases e : y = x
    · subst e
      unfold sg_t1
      rw [sg_us]
      exact Nat.zero_le _
    · unfold sg_t1
      rw [sg_un e, sg_un (by omega)]
      exact Nat.le_refl _
  have d0 := d 0 (by omega)
  have d1 := d 1 (by omega)
  have d2 := d 2 (by omega)
  have d3 := d 3 (by omega)
  have d4 := d 4 (by omega)
  have d5 := d 5 (by omega)
  unfold sg_tl
  omega
/-- what falls from round to round; z: the node that the stack's upper entry leads to -/
def sg_m5 (S L sk : Nat → Nat) (n : Nat) : Nat := if 0 < n ∧ S (sg_fo S L (sk (n - 1))) = 9 then 5 else 0
def sg_mu (top : Nat) (S L sk : Nat → Nat) (n : Nat) : Nat := 40 * ((132 - top) + sg_tl S) + 2 * (10 - n) + sg_m5 S L sk n
theorem sg_m5_le (S L sk : Nat → Nat) (n : Nat) : sg_m5 S L sk n ≤ 5 := by
  unfold sg_m5
  split <;> omega
end
section
/-! the component's walks: follow, wantedBy -/
def sg_LK (top : Nat) (S L R : Nat → Nat) (so lf ri : Nat → Int32) : Prop := ∀ x, x < top → so x = nI (S x) ∧ lf x = nI (L x) ∧ ri x = nI (R x)
/-- all that a computation wants is there -/
def sg_Rd (S L R : Nat → Nat) (x : Nat) : Prop :=
  S x = 0 ∨ (S x = 2 ∧ S (L x) = 9 ∧ S (sg_fo S L (L (L x))) = 9) ∨ ((S x = 3 ∨ S x = 4 ∨ S x = 8) ∧ S (L x) = 9 ∧ S (R x) = 9) ∨ ((S x = 5 ∨ S x = 6 ∨ S x = 7) ∧ S (L x) = 9)
section
variable {fb fa ft fn : Int32} {dA dB dC so nu st lf ri bu mv ro ka : Nat → Int32}
theorem sg_fol0 {post : Int32 → Prop} {p : Nat} (hp : p < 512) (e : so p ≠ 10) (h : post (nI p)) : wpX_follow post (fb, fa, ft, fn, dA, dB, dC, so, nu, st, lf, ri, bu, mv, ro, ka) (nI p) := by
  have cl : (nI p).toNatClampNeg = p := nI_clamp (by omega)
  refine Exists.intro 1 ?_
  rw [wX_follow_2]
  dsimp only
  rw [cl]
  exact ⟨vp_in_nI hp (by omega), br_f e h⟩
theorem sg_fol1 {post : Int32 → Prop} {p y : Nat} (hp : p < 512) (hy : y < 512) (e : so p = 10) (el : lf p = nI y) (ey : so y ≠ 10) (h : post (nI y)) : wpX_follow post (fb, fa, ft, fn, dA, dB, dC, so, nu, st, lf, ri, bu, mv, ro, ka) (nI p) := by
  have cl : (nI p).toNatClampNeg = p := nI_clamp (by omega)
  have cly : (nI y).toNatClampNeg = y := nI_clamp (by omega)
  refine Exists.intro 2 ?_
  rw [wX_follow_2]
  dsimp only
  rw [cl]
  refine ⟨vp_in_nI hp (by omega), br_t e ⟨vp_in_nI hp (by omega), nm_r el ?_⟩⟩
  rw [wX_follow_2]
  dsimp only
  rw [cly]
  exact ⟨vp_in_nI hy (by omega), br_f ey h⟩
variable {K A B : Nat → Int32} {top : Nat} {c lt li S L R : Nat → Nat}
theorem sg_nI10 {a : Nat} (h : a ≤ 10) : nI a = 10 ↔ a = 10 := nI_eq (b := 10) (by omega) (by decide)
theorem sg_x_follow (W : sg_wf K A B) (h : sg_HI K A B top c lt li S L R nu st) (lk : sg_LK top S L R so lf ri) {post : Int32 → Prop} {p : Nat} (hp : p < top) (g : post (nI (sg_fo S L p))) : wpX_follow post (fb, fa, ft, fn, dA, dB, dC, so, nu, st, lf, ri, bu, mv, ro, ka) (nI p) := by
  have t := sg_hi_le h
  by_cases e : S p = 10
  · rw [sg_fo_10 e] at g
    have hL := sg_hi_L h hp
    refine sg_fol1 (by omega) (show L p < 512 by omega) ?_ (lk p hp).2.1 ?_ g
    · rw [(lk p hp).1, e]
      rfl
    · rw [(lk _ hL).1, (sg_hi_link h hp e).2.2.1]
      decide
  · rw [sg_fo_n e] at g
    refine sg_fol0 (by omega) ?_ g
    rw [(lk p hp).1, Ne, sg_nI10 (sg_hi_S W h hp)]
    exact e
theorem sg_LK_L (lk : sg_LK top S L R so lf ri) (x v : Nat) : sg_LK top S (sg_u L x v) R so (upd lf x (nI v)) ri := by
  intro y hy
  obtain ⟨h1, h2, h3⟩ := lk y hy
  refine ⟨h1, ?_, h3⟩
  by_cases e : y = x
  · rw [e, sg_us, pk_us]
  · rw [sg_un e, pk_un e]
    exact h2
theorem sg_LK_R (lk : sg_LK top S L R so lf ri) (x v : Nat) : sg_LK top S L (sg_u R x v) so lf (upd ri x (nI v)) := by
  intro y hy
  obtain ⟨h1, h2, h3⟩ := lk y hy
  refine ⟨h1, h2, ?_⟩
  by_cases e : y = x
  · rw [e, sg_us, pk_us]
  · rw [sg_un e, pk_un e]
    exact h3
theorem sg_x_want99 (W : sg_wf K A B) (h : sg_HI K A B top c lt li S L R nu st) (lk : sg_LK top S L R so lf ri) {post : Int32 → SX → Prop} {x : Nat} (hx : x < top) (e3 : S x = 3 ∨ S x = 4 ∨ S x = 8) (el : S (L x) = 9)
    (hneg : ∀ (R' : Nat → Nat) (ri' : Nat → Int32), sg_HI K A B top c lt li S L R' nu st → sg_LK top S L R' so lf ri' → sg_Rd S L R' x → post (-1) (fb, fa, ft, fn, dA, dB, dC, so, nu, st, lf, ri', bu, mv, ro, ka))
    (hpos : ∀ (R' : Nat → Nat) (ri' : Nat → Int32) (w : Nat), sg_HI K A B top c lt li S L R' nu st → sg_LK top S L R' so lf ri' → w < top → S w ≠ 9 → S w ≠ 10 → sg_Wt K A B S L lt li x w → post (nI w) (fb, fa, ft, fn, dA, dB, dC, so, nu, st, lf, ri', bu, mv, ro, ka)) :
    wX_wantedBy_99 post (nI x) fb fa ft fn dA dB dC so nu st lf ri bu mv ro ka := by
  have t := sg_hi_le h
  have cl : (nI x).toNatClampNeg = x := nI_clamp (by omega)
  have hr := sg_fo_lt h (sg_hi_R h hx)
  have clr : (nI (sg_fo S L (R x))).toNatClampNeg = sg_fo S L (R x) := nI_clamp (by omega)
  have h' := sg_HI_cmpR W h hx (by omega) (by omega)
  have lk' := sg_LK_R lk x (sg_fo S L (R x))
  have hw := sg_wantR W h hx e3
  have hS := sg_hi_S W h hr
  unfold wX_wantedBy_99
  rw [cl, (lk x hx).2.2]
  refine ⟨vp_in_nI (by omega) (by omega), sg_x_follow W h lk (sg_hi_R h hx) ⟨vp_in_nI (by omega) (by omega), ?_⟩⟩
  rw [clr, sg_shortT _ (show sg_fo S L (R x) < 512 by omega), (lk _ hr).1]
  refine nm_e ⟨vp_in_nI (by omega) (by omega), pk_eq (S (sg_fo S L (R x))) 9 (fun e => ?_) (fun e => ?_)⟩
  · exact hneg _ _ h' lk' (Or.inr (Or.inr (Or.inl ⟨e3, el, by rw [sg_us]; exact e⟩)))
  · exact hpos _ _ _ h' lk' hr e (sg_fo_S h (sg_hi_R h hx)) hw
theorem sg_x_want (W : sg_wf K A B) (h : sg_HI K A B top c lt li S L R nu st) (lk : sg_LK top S L R so lf ri) {post : Int32 → SX → Prop} {x : Nat} (hx : x < top) (e9 : S x ≠ 9) (e10 : S x ≠ 10)
    (hneg : ∀ (L' R' : Nat → Nat) (lf' ri' : Nat → Int32), sg_HI K A B top c lt li S L' R' nu st → sg_LK top S L' R' so lf' ri' → sg_Wa S L' = sg_Wa S L → sg_St S L' = sg_St S L → sg_Rd S L' R' x → post (-1) (fb, fa, ft, fn, dA, dB, dC, so, nu, st, lf', ri', bu, mv, ro, ka))
    (hpos : ∀ (L' R' : Nat → Nat) (lf' ri' : Nat → Int32) (w : Nat), sg_HI K A B top c lt li S L' R' nu st → sg_LK top S L' R' so lf' ri' → sg_Wa S L' = sg_Wa S L → sg_St S L' = sg_St S L → w < top → S w ≠ 9 → S w ≠ 10 → sg_Wt K A B S L' lt li x w → post (nI w) (fb, fa, ft, fn, dA, dB, dC, so, nu, st, lf', ri', bu, mv, ro, ka)) :
    wpX_wantedBy post (fb, fa, ft, fn, dA, dB, dC, so, nu, st, lf, ri, bu, mv, ro, ka) (nI x) := by
  have t := sg_hi_le h
  have hSx := sg_hi_S W h hx
  have cl : (nI x).toNatClampNeg = x := nI_clamp (by omega)
  have hl := sg_fo_lt h (sg_hi_L h hx)
  have hSl := sg_hi_S W h hl
  have hf10 := sg_fo_S h (sg_hi_L h hx)
  have h' := sg_HI_cmpL W h hx e9 e10
  have lk' := sg_LK_L lk x (sg_fo S L (L x))
  have eW := sg_cmp_Wa h hx e10
  have eSt := sg_cmp_St h hx e10
  have efo := sg_cmp_fo (S := S) (L := L) (x := x) (v := sg_fo S L (L x)) e10
  have hwL : S x ≠ 0 → sg_Wt K A B S (sg_u L x (sg_fo S L (L x))) lt li x (sg_fo S L (L x)) := by
    intro e0
    have := sg_wantL W h' hx e9 e10 e0
    rw [sg_us, efo, sg_fo_n hf10] at this
    exact this
  have hLl : S (sg_fo S L (L x)) = 9 → sg_u L x (sg_fo S L (L x)) (sg_fo S L (L x)) = L (sg_fo S L (L x)) := by
    intro e
    refine sg_un ?_
    intro e'
    rw [e'] at e
    exact e9 e
  have eus : sg_u L x (sg_fo S L (L x)) x = sg_fo S L (L x) := sg_us
  generalize hgl : sg_fo S L (L x) = l at *
  generalize hgL : sg_u L x l = L' at *
  have cll : (nI l).toNatClampNeg = l := nI_clamp (by omega)
  unfold wpX_wantedBy
  dsimp only
  rw [cl, (lk x hx).1, (lk x hx).2.1]
  refine ⟨vp_in_nI (by omega) (by omega), nm_e (pk_eq (S x) 0 (fun e0 => ?_) (fun e0 => ?_))⟩
  · exact hneg _ _ _ _ h lk rfl rfl (Or.inl e0)
  · refine ⟨vp_in_nI (by omega) (by omega), sg_x_follow W h lk (sg_hi_L h hx) ?_⟩
    rw [hgl]
    refine ⟨vp_in_nI (by omega) (by omega), ?_⟩
    rw [cll, sg_shortT _ (show l < 512 by omega), (lk l hl).1]
    refine nm_e ⟨vp_in_nI (by omega) (by omega), pk_eq (S l) 9 (fun f9 => ?_) (fun f9 => ?_)⟩
    · have hn99 := fun (e3 : S x = 3 ∨ S x = 4 ∨ S x = 8) => sg_x_want99 (fb := fb) (fa := fa) (ft := ft) (fn := fn) (dA := dA) (dB := dB) (dC := dC) (bu := bu) (mv := mv) (ro := ro) (ka := ka) (post := post) W h' lk' hx e3 (by rw [eus]; exact f9) (fun R' ri' a b d => hneg _ _ _ _ a b eW eSt d) (fun R' ri' w a b d e f g => hpos _ _ _ _ w a b eW eSt d e f g)
      refine pk_eq (S x) 2 (fun e2 => ?_) (fun e2 => pk_eq (S x) 3 (fun e3 => hn99 (by omega)) (fun e3 => pk_eq (S x) 4 (fun e4 => hn99 (by omega)) (fun e4 => pk_eq (S x) 8 (fun e8 => hn99 (by omega)) (fun e8 => ?_))))
      · have hLl' := sg_hi_L h' hl
        have hr := sg_fo_lt h' hLl'
        have hSr := sg_hi_S W h' hr
        have hwT := sg_wantT W h' hx e2 (by rw [eus]; exact f9)
        have hr10 := sg_fo_S h' hLl'
        rw [eus] at hwT
        refine ⟨vp_in_nI (by omega) (by omega), ?_⟩
        rw [(lk' l hl).2.1]
        refine sg_x_follow W h' lk' hLl' ⟨vp_in_nI (by omega) (by omega), ?_⟩
        rw [nI_clamp (show sg_fo S L' (L' l) < 2 ^ 31 by omega), (lk' _ hr).1]
        refine pk_eq (S (sg_fo S L' (L' l))) 9 (fun g9 => ?_) (fun g9 => ?_)
        · exact hneg _ _ _ _ h' lk' eW eSt (Or.inr (Or.inl ⟨e2, by rw [eus]; exact f9, by rw [eus]; exact g9⟩))
        · exact hpos _ _ _ _ _ h' lk' eW eSt hr g9 hr10 hwT
      · refine hneg _ _ _ _ h' lk' eW eSt (Or.inr (Or.inr (Or.inr ⟨?_, by rw [eus]; exact f9⟩)))
        have hk := (sg_hi_susp h hx e9 e10).1
        have hs := (sg_hi_susp h hx e9 e10).2.2.2
        have h1 : S x ≠ 1 := by
          intro e1
          rw [e1] at hs
          exact hs
        omega
    · exact hpos _ _ _ _ _ h' lk' eW eSt hl f9 hf10 (hwL e0)
end
end
section
/-! the component's walks: allocate, finish -/
section
variable {fb fa ft fn : Int32} {dA dB dC so nu st lf ri bu mv ro ka : Nat → Int32}
theorem sg_x_alloc {post : Int32 → SX → Prop} {top what l r : Nat} {n' p' : Int32} (ht : top < 512) (hw : what < 11) (hl : l < 512) (hr : r < 512) (g : post (nI top) (fb, fa, nI (top + 1), fn, dA, dB, dC, upd so top (nI what), upd nu top n', upd st top p', upd lf top (nI l), upd ri top (nI r), upd bu top 0, mv, ro, ka)) : wpX_allocate post (fb, fa, nI top, fn, dA, dB, dC, so, nu, st, lf, ri, bu, mv, ro, ka) (nI what) n' p' (nI l) (nI r) := by
  have cl : (nI top).toNatClampNeg = top := nI_clamp (by omega)
  have hi : vp_in (nI top) 512 := vp_in_nI ht (by omega)
  unfold wpX_allocate
  dsimp only
  rw [cl, nI_1, sg_byteT what hw, sg_shortT l hl, sg_shortT r hr, sg_n0]
  exact nm_e ⟨hi, nm_e ⟨hi, nm_e ⟨hi, nm_e ⟨hi, nm_e ⟨hi, nm_e ⟨hi, nm_e g⟩⟩⟩⟩⟩⟩
theorem sg_x_269 {post : SX → Prop} {x y : Nat} {v : Int32} (hx : x < 512) (hy : y < 512) (g : post (fb, fa, ft, fn, dA, dB, dC, upd so x (nI 9), upd nu x v, st, upd lf x (nI y), ri, bu, mv, ro, ka)) : wX_finish_269 post (nI x) v (nI y) fb fa ft fn dA dB dC so nu st lf ri bu mv ro ka := by
  have cl : (nI x).toNatClampNeg = x := nI_clamp (by omega)
  have hi : vp_in (nI x) 512 := vp_in_nI hx (by omega)
  unfold wX_finish_269
  rw [cl, sg_shortT y hy, sg_b9]
  exact ⟨hi, nm_e ⟨hi, nm_e ⟨hi, nm_e g⟩⟩⟩
theorem sg_x_restn {post : Int32 → SX → Prop} {kk l r a b : Nat} (hk : kk < 8) (hl : l < 512) (hr : r < 512) (el : lf l = nI a) (er : lf r = nI b) (g : wX_restOfTwo_88 post (nI kk) (nI a) (nI b) fb fa ft fn dA dB dC so nu st lf ri bu mv ro ka) : wpX_restOfTwo post (fb, fa, ft, fn, dA, dB, dC, so, nu, st, lf, ri, bu, mv, ro, ka) (nI kk) (nI l) (nI r) := by
  have cl : (nI l).toNatClampNeg = l := nI_clamp (by omega)
  have cr : (nI r).toNatClampNeg = r := nI_clamp (by omega)
  have n8 : ¬ nI kk = 8 := by
    intro e
    have := (nI_eq (a := kk) (b := 8) (by omega) (by decide)).mp e
    omega
  have i1 : vp_in (nI l) 512 := vp_in_nI hl (by omega)
  have i2 : vp_in (nI r) 512 := vp_in_nI hr (by omega)
  have one : ¬ (1 : Int32) = 0 := by decide
  unfold wpX_restOfTwo
  refine br_f n8 ?_
  unfold wX_restOfTwo_21 wX_restOfTwo_26
  refine br_f n8 ?_
  unfold wX_restOfTwo_49 wX_restOfTwo_54
  refine br_f one ⟨i1, ?_⟩
  rw [cl, el]
  unfold wX_restOfTwo_71
  refine br_f one ⟨i2, ?_⟩
  rw [cr, er]
  exact g
theorem sg_x_rest71 {post : Int32 → SX → Prop} {r b z : Nat} {x1 : Int32} (x5 : Int32) (hr : r < 512) (er : lf r = nI b) (l : Nat) (h5 : x5 = if nu r ≤ nu l then 1 else 0) (g : wX_restOfTwo_88 post x1 (nI z) (nI (if nu r ≤ nu l then b else r)) fb fa ft fn dA dB dC so nu st lf ri bu mv ro ka) : wX_restOfTwo_71 post x1 (nI r) x5 (nI z) fb fa ft fn dA dB dC so nu st lf ri bu mv ro ka := by
  have cr : (nI r).toNatClampNeg = r := nI_clamp (by omega)
  have i2 : vp_in (nI r) 512 := vp_in_nI hr (by omega)
  unfold wX_restOfTwo_71
  rw [cr, er]
  by_cases hc : nu r ≤ nu l
  · rw [if_pos hc] at h5 g
    rw [h5]
    exact br_f (by decide) ⟨i2, g⟩
  · rw [if_neg hc] at h5 g
    rw [h5]
    exact br_t rfl g
theorem sg_x_rest8 {post : Int32 → SX → Prop} {l r a b : Nat} (hl : l < 512) (hr : r < 512) (el : lf l = nI a) (er : lf r = nI b) (g : wX_restOfTwo_88 post (nI 8) (nI (if nu l ≤ nu r then a else l)) (nI (if nu r ≤ nu l then b else r)) fb fa ft fn dA dB dC so nu st lf ri bu mv ro ka) : wpX_restOfTwo post (fb, fa, ft, fn, dA, dB, dC, so, nu, st, lf, ri, bu, mv, ro, ka) (nI 8) (nI l) (nI r) := by
  have cl : (nI l).toNatClampNeg = l := nI_clamp (by omega)
  have cr : (nI r).toNatClampNeg = r := nI_clamp (by omega)
  have e8 : nI 8 = 8 := rfl
  have i1 : vp_in (nI l) 512 := vp_in_nI hl (by omega)
  have i2 : vp_in (nI r) 512 := vp_in_nI hr (by omega)
  have k54 : ∀ z0 : Int32, z0 = (if nu r ≤ nu l then 1 else 0) → ∀ x4 : Int32, x4 = (if nu l ≤ nu r then 1 else 0) → wX_restOfTwo_54 post (nI 8) (nI l) (nI r) x4 z0 fb fa ft fn dA dB dC so nu st lf ri bu mv ro ka := by
    intro z0 ez x4 e4
    unfold wX_restOfTwo_54
    rw [cl, el]
    by_cases hc : nu l ≤ nu r
    · rw [if_pos hc] at e4 g
      rw [e4]
      exact br_f (by decide) ⟨i1, sg_x_rest71 z0 hr er l ez g⟩
    · rw [if_neg hc] at e4 g
      rw [e4]
      exact br_t rfl (sg_x_rest71 z0 hr er l ez g)
  have k26 : ∀ x4 : Int32, x4 = (if nu l ≤ nu r then 1 else 0) → wX_restOfTwo_26 post (nI 8) (nI l) (nI r) x4 fb fa ft fn dA dB dC so nu st lf ri bu mv ro ka := by
    intro x4 e4
    unfold wX_restOfTwo_26
    rw [cl, cr]
    refine br_t e8 ⟨i2, i1, br_c (fun h => ?_) (fun h => ?_)⟩
    · exact k54 0 (if_neg (fun h' => absurd h (Int32.not_lt.mpr h'))).symm x4 e4
    · unfold wX_restOfTwo_49
      exact k54 1 (if_pos (Int32.not_lt.mp h)).symm x4 e4
  unfold wpX_restOfTwo
  dsimp only
  rw [cl, cr]
  refine br_t e8 ⟨i1, i2, br_c (fun h => ?_) (fun h => ?_)⟩
  · exact k26 0 (if_neg (fun h' => absurd h (Int32.not_lt.mpr h'))).symm
  · unfold wX_restOfTwo_21
    exact k26 1 (if_pos (Int32.not_lt.mp h)).symm
variable {K A B : Nat → Int32} {top : Nat} {c lt li S L R : Nat → Nat}
theorem sg_LK_cell (lk : sg_LK top S L R so lf ri) {x : Nat} (hx : x < top) (kk l r : Nat) : sg_LK (top + 1) (sg_u (sg_u S top kk) x 9) (sg_u (sg_u L top l) x top) (sg_u R top r) (upd (upd so top (nI kk)) x (nI 9)) (upd (upd lf top (nI l)) x (nI top)) (upd ri top (nI r)) := by
  intro y hy
  by_cases e : y = x
  · subst e
    have ne : y ≠ top := by omega
    rw [sg_us, pk_us, sg_us, pk_us, sg_un ne, pk_un ne]
    exact ⟨rfl, rfl, (lk y hx).2.2⟩
  · by_cases e2 : y = top
    · subst e2
      rw [sg_un e, pk_un e, sg_un e, pk_un e, sg_us, pk_us, sg_us, pk_us, sg_us, pk_us]
      exact ⟨rfl, rfl, rfl⟩
    · rw [sg_un e, pk_un e, sg_un e, pk_un e, sg_un e2, pk_un e2, sg_un e2, pk_un e2, sg_un e2, pk_un e2]
      exact lk y (by omega)
theorem sg_x_fc (W : sg_wf K A B) (h : sg_HI K A B top c lt li S L R nu st) (lk : sg_LK top S L R so lf ri) {post : SX → Prop} {x : Nat} (hx : x < top) (e9 : S x ≠ 9) (e10 : S x ≠ 10) (hb : li x ≤ 20) (e2 : S x ≠ 2) {v n' p' : Int32} {kk l r : Nat} (hl : l < top) (hr : r < top)
    (f : sg_H K A B (lt x) (li x) v ∧ sg_kd K (lt x) = kk ∧ sg_Su K A B (sg_St S L) (lt x) (li x + 1) l r n' p' (sg_kd K (lt x)))
    (hcell : ∀ (kk l r : Nat) (so' nu' st' lf' ri' bu' : Nat → Int32), sg_HI K A B (top + 1) (sg_u c (lt x) (c (lt x) + 1)) (sg_u lt top (lt x)) (sg_u li top (li x + 1)) (sg_u (sg_u S top kk) x 9) (sg_u (sg_u L top l) x top) (sg_u R top r) nu' st' → sg_LK (top + 1) (sg_u (sg_u S top kk) x 9) (sg_u (sg_u L top l) x top) (sg_u R top r) so' lf' ri' → (∀ y, y < top → y ≠ x → bu' y = bu y) → bu' x = 0 → bu' top = 0 → post (fb, fa, nI (top + 1), fn, dA, dB, dC, so', nu', st', lf', ri', bu', mv, ro, ka)) :
    wX_finish_269 post (nI x) v (nI top) fb fa (nI (top + 1)) fn dA dB dC (upd so top (nI kk)) (upd nu top n') (upd st top p') (upd lf top (nI l)) (upd ri top (nI r)) (upd (upd bu x 0) top 0) mv ro ka := by
  have t := sg_hi_le h
  obtain ⟨f1, f2, f3⟩ := f
  have a1 := (sg_hi_susp h hx e9 e10).1
  have k1 : sg_kd K (lt x) ≠ 1 := by
    intro e1
    rw [e1] at f3
    exact f3
  have k2 : sg_kd K (lt x) ≠ 2 := by omega
  have h' := sg_HI_cell W h hx e9 e10 f1 k1 k2 hb hl hr f3
  rw [f2] at h'
  refine sg_x_269 (by omega) (by omega) (hcell kk l r _ _ _ _ _ _ h' (sg_LK_cell lk hx kk l r) ?_ ?_ pk_us)
  · intro y hy ne
    rw [pk_un (by omega), pk_un ne]
  · rw [pk_un (by omega), pk_us]
theorem sg_x_finish (W : sg_wf K A B) (h : sg_HI K A B top c lt li S L R nu st) (lk : sg_LK top S L R so lf ri) {post : SX → Prop} {x : Nat} (hx : x < top) (e9 : S x ≠ 9) (e10 : S x ≠ 10) (rd : sg_Rd S L R x) (hb : li x ≤ 20)
    (hcell : ∀ (kk l r : Nat) (so' nu' st' lf' ri' bu' : Nat → Int32), sg_HI K A B (top + 1) (sg_u c (lt x) (c (lt x) + 1)) (sg_u lt top (lt x)) (sg_u li top (li x + 1)) (sg_u (sg_u S top kk) x 9) (sg_u (sg_u L top l) x top) (sg_u R top r) nu' st' → sg_LK (top + 1) (sg_u (sg_u S top kk) x 9) (sg_u (sg_u L top l) x top) (sg_u R top r) so' lf' ri' → (∀ y, y < top → y ≠ x → bu' y = bu y) → bu' x = 0 → bu' top = 0 → post (fb, fa, nI (top + 1), fn, dA, dB, dC, so', nu', st', lf', ri', bu', mv, ro, ka))
    (hlink : ∀ (y0 : Nat) (so' lf' bu' : Nat → Int32), S x = 2 → sg_HI K A B top c lt li (sg_u S x 10) (sg_u L x y0) R nu st → sg_LK top (sg_u S x 10) (sg_u L x y0) R so' lf' ri → (∀ y, y < top → y ≠ x → bu' y = bu y) → bu' x = 0 → post (fb, fa, nI top, fn, dA, dB, dC, so', nu, st, lf', ri, bu', mv, ro, ka)) :
    wpX_finish post (fb, fa, nI top, fn, dA, dB, dC, so, nu, st, lf, ri, bu, mv, ro, ka) (nI x) := by
  have t := sg_hi_le h
  have t6 := sg_hi_t6 h
  have hSx := sg_hi_S W h hx
  have hLx := sg_hi_L h hx
  have hRx := sg_hi_R h hx
  have hLL := sg_hi_L h hLx
  have hLR := sg_hi_L h hRx
  have cl : (nI x).toNatClampNeg = x := nI_clamp (by omega)
  have clL : (nI (L x)).toNatClampNeg = L x := nI_clamp (by omega)
  have clR : (nI (R x)).toNatClampNeg = R x := nI_clamp (by omega)
  have ix : vp_in (nI x) 512 := vp_in_nI (by omega) (by omega)
  have iL : vp_in (nI (L x)) 512 := vp_in_nI (by omega) (by omega)
  have iR : vp_in (nI (R x)) 512 := vp_in_nI (by omega) (by omega)
  unfold wpX_finish
  dsimp only
  rw [cl, (lk x hx).1, (lk x hx).2.1, (lk x hx).2.2, clL, (lk _ hLx).2.1, sg_n0, sg_b10]
  refine ⟨ix, nm_e ⟨ix, nm_e (pk_eq (S x) 2 (fun e2 => ?_) (fun e2 => ?_))⟩⟩
  · have rd2 : S (L x) = 9 ∧ S (sg_fo S L (L (L x))) = 9 := by
      rcases rd with r | r | r | r
      · omega
      · exact r.2
      · omega
      · omega
    have h' := sg_HI_link W h hx e2 rd2.1 rd2.2
    have hf := sg_fo_lt h hLL
    have lk' : sg_LK top (sg_u S x 10) (sg_u L x (sg_fo S L (L (L x)))) R (upd so x (nI 10)) (upd lf x (nI (sg_fo S L (L (L x))))) ri := by
      intro y hy
      by_cases e : y = x
      · rw [e, sg_us, pk_us, sg_us, pk_us]
        exact ⟨rfl, rfl, (lk x hx).2.2⟩
      · rw [sg_un e, pk_un e, sg_un e, pk_un e]
        exact lk y hy
    refine ⟨ix, nm_e ⟨ix, iL, ?_⟩⟩
    have fin : post (fb, fa, nI top, fn, dA, dB, dC, upd so x (nI 10), nu, st, upd lf x (nI (sg_fo S L (L (L x)))), ri, upd bu x 0, mv, ro, ka) :=
      hlink _ _ _ _ e2 h' lk' (fun y hy ne => pk_un ne) pk_us
    have fin2 : ∀ r : Int32, r = nI (sg_fo S L (L (L x))) → vp_in (nI x) 512 ∧ ∀ a : Nat → Int32, a = upd lf x (vp_nar .short r.toInt16.toInt32) → post (fb, fa, nI top, fn, dA, dB, dC, upd so x (nI 10), nu, st, a, ri, upd bu x 0, mv, ro, ka) := by
      intro r er
      rw [er, sg_shortT _ (show sg_fo S L (L (L x)) < 512 by omega)]
      exact ⟨ix, nm_e fin⟩
    have c9 : ∀ y, S y = 9 → y ≠ x := by
      intro y hy e'
      rw [e'] at hy
      omega
    by_cases f10 : S (L (L x)) = 10
    · have ne : L (L x) ≠ x := by
        intro e'
        rw [e'] at f10
        omega
      have g9 := (sg_hi_link h hLL f10).2.2.1
      have hLLL := sg_hi_L h hLL
      refine sg_fol1 (by omega) (show L (L (L x)) < 512 by omega) ?_ (lk _ hLL).2.1 ?_ (fin2 _ (by rw [sg_fo_10 f10]))
      · rw [pk_un ne, (lk _ hLL).1, f10]
        rfl
      · rw [pk_un (c9 _ g9), (lk _ hLLL).1, g9]
        decide
    · have g9 := rd2.2
      rw [sg_fo_n f10] at g9
      refine sg_fol0 (by omega) ?_ (fin2 _ (by rw [sg_fo_n f10]))
      rw [pk_un (c9 _ g9), (lk _ hLL).1, g9]
      decide
  · have hfc := fun {v n' p' : Int32} {kk l r : Nat} => sg_x_fc (fb := fb) (fa := fa) (fn := fn) (dA := dA) (dB := dB) (dC := dC) (mv := mv) (ro := ro) (ka := ka) (bu := bu) (post := post) (v := v) (n' := n') (p' := p') (kk := kk) (l := l) (r := r) W h lk hx e9 e10 hb e2
    refine ⟨ix, nm_e ⟨ix, nm_e (pk_eq (S x) 0 (fun e0 => ?_) (fun e0 => pk_eq (S x) 5 (fun e5 => ?_) (fun e5 => pk_eq (S x) 6 (fun e6 => ?_) (fun e6 => pk_eq (S x) 7 (fun e7 => ?_) (fun e7 => ?_)))))⟩⟩
    · obtain ⟨f1, f2, f3⟩ := sg_fin0 W h hx e0
      refine ⟨ix, ix, ix, sg_x_alloc (what := 0) (l := 0) (r := 0) (by omega) (by omega) (by omega) (by omega) ?_⟩
      exact hfc (by omega) (by omega) ⟨f1, f2, f3⟩ hcell
    · have rl : S (L x) = 9 := by
        unfold sg_Rd at rd
        omega
      obtain ⟨f1, f2, f3⟩ := sg_fin5 W h hx e5 rl
      rw [clL, (lk _ hLx).2.1]
      refine ⟨ix, iL, nm_e ⟨ix, iL, sg_x_alloc (what := 5) (l := L (L x)) (r := 0) (by omega) (by omega) (by omega) (by omega) ?_⟩⟩
      exact hfc (by omega) (by omega) ⟨f1, f2, f3⟩ hcell
    · have rl : S (L x) = 9 := by
        unfold sg_Rd at rd
        omega
      obtain ⟨f1, f2, f3⟩ := sg_fin6 W h hx e6 rl
      rw [clL, (lk _ hLx).2.1]
      refine ⟨ix, iL, nm_e ⟨iL, sg_x_alloc (what := 6) (l := L (L x)) (r := 0) (by omega) (by omega) (by omega) (by omega) ?_⟩⟩
      exact hfc (by omega) (by omega) ⟨f1, f2, f3⟩ hcell
    · have rl : S (L x) = 9 := by
        unfold sg_Rd at rd
        omega
      obtain ⟨f1, f2, f3⟩ := sg_fin7 W h hx e7 rl
      rw [clL, (lk _ hLx).2.1]
      refine ⟨iL, nm_e ⟨ix, iL, sg_x_alloc (what := 7) (l := R x) (r := L (L x)) (by omega) (by omega) (by omega) (by omega) ?_⟩⟩
      exact hfc (by omega) (by omega) ⟨f1, f2, f3⟩ hcell
    · have rr : (S x = 3 ∨ S x = 4 ∨ S x = 8) ∧ S (L x) = 9 ∧ S (R x) = 9 := by
        rcases rd with r | r | r | r
        · omega
        · omega
        · exact r
        · omega
      refine ⟨ix, nm_e ⟨iL, iR, ?_⟩⟩
      rw [clL, clR]
      by_cases e8 : S x = 8
      · obtain ⟨f1, f2, f3⟩ := sg_fin8 W h hx e8 rr.2.1 rr.2.2
        rw [e8]
        have hl8 : (if nu (L x) ≤ nu (R x) then L (L x) else L x) < top := by split <;> omega
        have hr8 : (if nu (R x) ≤ nu (L x) then L (R x) else R x) < top := by split <;> omega
        have key : ∀ v : Int32, v = (if nu (R x) ≤ nu (L x) then nu (R x) else nu (L x)) → wpX_restOfTwo (fun r_35 u => match u with | (a1, a2, a3, a4, a5, a6, a7, a8, a9, a10, a11, a12, a13, a14, a15, a16) => wX_finish_269 post (nI x) v r_35 a1 a2 a3 a4 a5 a6 a7 a8 a9 a10 a11 a12 a13 a14 a15 a16) (fb, fa, nI top, fn, dA, dB, dC, so, nu, st, lf, ri, upd bu x 0, mv, ro, ka) (nI 8) (nI (L x)) (nI (R x)) := by
          intro v ev
          rw [ev]
          refine sg_x_rest8 (by omega) (by omega) (lk _ hLx).2.1 (lk _ hRx).2.1 ?_
          unfold wX_restOfTwo_88
          refine sg_x_alloc (what := 8) (by omega) (by omega) (by omega) (by omega) ?_
          exact hfc hl8 hr8 ⟨f1, f2, f3⟩ hcell
        refine br_f (by decide) (br_f (by decide) (br_c (fun hc => ?_) (fun hc => ?_)))
        · exact key _ (if_pos hc).symm
        · exact key _ (if_neg hc).symm
      · obtain ⟨f1, f2, f3⟩ := sg_fin2 W h hx (by omega) rr.2.1 rr.2.2
        have key : wpX_restOfTwo (fun r_35 u => match u with | (a1, a2, a3, a4, a5, a6, a7, a8, a9, a10, a11, a12, a13, a14, a15, a16) => wX_finish_269 post (nI x) (if S x = 3 then nu (L x) + nu (R x) else nu (L x) * nu (R x)) r_35 a1 a2 a3 a4 a5 a6 a7 a8 a9 a10 a11 a12 a13 a14 a15 a16) (fb, fa, nI top, fn, dA, dB, dC, so, nu, st, lf, ri, upd bu x 0, mv, ro, ka) (nI (S x)) (nI (L x)) (nI (R x)) := by
          refine sg_x_restn (by omega) (by omega) (by omega) (lk _ hLx).2.1 (lk _ hRx).2.1 ?_
          unfold wX_restOfTwo_88
          refine sg_x_alloc (what := S x) (by omega) (by omega) (by omega) (by omega) ?_
          exact hfc hLL hLR ⟨f1, f2, f3⟩ hcell
        by_cases e3 : S x = 3
        · rw [if_pos e3] at key
          rw [e3] at key ⊢
          exact br_t rfl key
        · rw [if_neg e3] at key
          have e4 : S x = 4 := by omega
          rw [e4] at key ⊢
          exact br_f (by decide) (br_t rfl key)
end
end
section
/-! the component's walks: giveUp, push, force -/
def sg_Done (K A B : Nat → Int32) (d0 q : Nat) (r : Int32) (u : SX) : Prop :=
  ∃ top : Nat, ∃ c lt li S L R : Nat → Nat, ∃ so nu st lf ri bu mv ro ka : Nat → Int32, u = (1, 0, nI top, 0, K, A, B, so, nu, st, lf, ri, bu, mv, ro, ka) ∧ sg_HI K A B top c lt li S L R nu st ∧ sg_LK top S L R so lf ri ∧ (∀ s, s < 6 → ro s = nI s) ∧ (∀ y, y < top → bu y = 0) ∧ ((∃ y, r = nI y ∧ y < top ∧ S y = 9 ∧ sg_Wa S L d0 q y) ∨ (r = -1 ∧ ¬ ∃ v, sg_H K A B d0 q v))
section
variable {fb fa ft fn : Int32} {dA dB dC so nu st lf ri bu mv ro ka : Nat → Int32}
theorem sg_x_give2 {post : SX → Prop} {sk : Nat → Nat} {n : Nat} {bu0 : Nat → Int32} (hn : n ≤ 16) (hsk : ∀ i, i < n → sk i < 512 ∧ ka i = nI (sk i)) (g : ∀ bu' : Nat → Int32, (∀ y, bu' y = bu0 y ∨ bu' y = 0) → (∀ i, i < n → bu' (sk i) = 0) → post (fb, fa, ft, 0, dA, dB, dC, so, nu, st, lf, ri, bu', mv, ro, ka)) : ∀ (f i : Nat) (bu : Nat → Int32), i ≤ n → n - i < f → (∀ y, bu y = bu0 y ∨ bu y = 0) → (∀ j, j < i → bu (sk j) = 0) → wX_giveUp_2 post fb fa ft (nI n) f (nI i) dA dB dC so nu st lf ri bu mv ro ka := by
  intro f
  induction f with
  | zero =>
    intro i bu _ h
    omega
  | succ f ih =>
    intro i bu hi hf h1 h2
    rw [wX_giveUp_2]
    dsimp only
    refine pk_le n i (fun e => ?_) (fun e => ?_)
    · rw [show i = n by omega] at h2
      exact g bu h1 h2
    · obtain ⟨s1, s2⟩ := hsk i e
      rw [nI_clamp (show i < 2 ^ 31 by omega), s2, nI_clamp (show sk i < 2 ^ 31 by omega), sg_n0, nI_1]
      refine ⟨vp_in_nI (by omega) (by omega), vp_in_nI (by omega) (by omega), nm_e (nm_e ?_)⟩
      refine ih (i + 1) _ (by omega) (by omega) (fun y => ?_) (fun j hj => ?_)
      · by_cases e : y = sk i
        · rw [e, pk_us]
          exact Or.inr rfl
        · rw [pk_un e]
          exact h1 y
      · by_cases e : sk j = sk i
        · rw [e, pk_us]
        · rw [pk_un e]
          refine h2 j ?_
          have : j ≠ i := by
            intro e'
            rw [e'] at e
            exact e rfl
          omega
theorem sg_x_giveUp {post : SX → Prop} {sk : Nat → Nat} {n : Nat} (hn : n ≤ 16) (hsk : ∀ i, i < n → sk i < 512 ∧ ka i = nI (sk i)) (g : ∀ bu' : Nat → Int32, (∀ y, bu' y = bu y ∨ bu' y = 0) → (∀ i, i < n → bu' (sk i) = 0) → post (fb, fa, ft, 0, dA, dB, dC, so, nu, st, lf, ri, bu', mv, ro, ka)) : wpX_giveUp post (fb, fa, ft, nI n, dA, dB, dC, so, nu, st, lf, ri, bu, mv, ro, ka) :=
  Exists.intro (n + 1) (sg_x_give2 hn hsk g (n + 1) 0 bu (by omega) (by omega) (fun _ => Or.inl rfl) (fun j hj => absurd hj (Nat.not_lt_zero j)))
theorem sg_x_push {post : SX → Prop} {n w : Nat} (hn : n < 16) (hw : w < 512) (g : post (fb, fa, ft, nI (n + 1), dA, dB, dC, so, nu, st, lf, ri, bu, mv, ro, upd ka n (nI w))) : wpX_push post (fb, fa, ft, nI n, dA, dB, dC, so, nu, st, lf, ri, bu, mv, ro, ka) (nI w) := by
  unfold wpX_push
  dsimp only
  rw [nI_clamp (show n < 2 ^ 31 by omega), sg_shortT w hw, nI_1]
  exact ⟨vp_in_nI hn (by omega), nm_e (nm_e g)⟩
end
theorem sg_tail6 {K A B : Nat → Int32} {top : Nat} {c lt li S L R : Nat → Nat} {N P : Nat → Int32} (h : sg_HI K A B top c lt li S L R N P) {x : Nat} (hx : x < top) (e : S x = 2) : x < 6 := by
  have a := (sg_hi_susp h hx (by omega) (by omega)).2.2.2
  rw [e] at a
  rw [sg_li0 h hx a.1]
  exact sg_hi_lt h hx
section
variable {K A B : Nat → Int32} {mv ro : Nat → Int32} {d0 q : Nat}
theorem sg_x_loop (W : sg_wf K A B) (hd0 : d0 < 6) (hq : q ≤ 15) (hro : ∀ s, s < 6 → ro s = nI s) {post : Int32 → SX → Prop} (g : ∀ r u, sg_Done K A B d0 q r u → post r u) : ∀ (f top : Nat) (c lt li S L R : Nat → Nat) (so nu st lf ri bu ka : Nat → Int32) (sk : Nat → Nat) (n : Nat) (r : Int32), sg_HI K A B top c lt li S L R nu st → sg_LK top S L R so lf ri → sg_SI K A B top lt li S L bu sk n d0 q → (∀ i, i < n → ka i = nI (sk i)) → n ≤ 7 → (n = 0 → ∃ y, r = nI y ∧ y < top ∧ S y = 9 ∧ sg_Wa S L d0 q y) → sg_mu top S L sk n < f → wX_force_12 post f r 1 0 (nI top) (nI n) K A B so nu st lf ri bu mv ro ka := by
  intro f
  induction f with
  | zero =>
    intro top c lt li S L R so nu st lf ri bu ka sk n r _ _ _ _ _ _ hm
    omega
  | succ f ih =>
    intro top c lt li S L R so nu st lf ri bu ka sk n r h lk s hk hn h0 hm
    have t := sg_hi_le h
    rw [wX_force_12]
    dsimp only
    rcases n with _ | n
    · refine br_t (by decide) (g r _ ⟨top, c, lt, li, S, L, R, so, nu, st, lf, ri, bu, mv, ro, ka, rfl, h, lk, hro, fun y hy => ?_, Or.inl (h0 rfl)⟩)
      rcases s.2.2.2.2.1 y hy with h1 | ⟨_, _, _, i, hi, _⟩
      · exact h1
      · omega
    · have nt : ¬ nI top = (0 : Int32) + 256 := by
        intro e
        have := (nI_eq (a := top) (b := 256) (by omega) (by decide)).mp e
        omega
      refine br_f (nI_nle (by omega) (by omega)) (br_f nt ?_)
      have hp := s.1 n (by omega)
      have hx := sg_fo_lt h hp
      have hSx := sg_hi_S W h hx
      unfold wX_force_38
      rw [nI_pred, nI_clamp (show n < 2 ^ 31 by omega), hk n (by omega)]
      refine ⟨vp_in_nI (by omega) (by omega), sg_x_follow W h lk hp ⟨vp_in_nI (by omega) (by omega), ?_⟩⟩
      rw [nI_clamp (show sg_fo S L (sk n) < 2 ^ 31 by omega), sg_shortT _ (show sg_fo S L (sk n) < 512 by omega), sg_n1, (lk _ hx).1]
      refine nm_e ⟨vp_in_nI (by omega) (by omega), pk_eq (S (sg_fo S L (sk n))) 9 (fun e9 => ?_) (fun e9 => ?_)⟩
      · refine nm_e (ih top c lt li S L R so nu st lf ri bu _ sk n (nI (sg_fo S L (sk n))) h lk (sg_SI_pop h s e9) (fun i hi => ?_) (by omega) (fun e => ?_) ?_)
        · rw [pk_un (by omega)]
          exact hk i (by omega)
        · have := s.2.1 (by omega)
          subst e
          exact ⟨_, rfl, hx, e9, this⟩
        · have a : sg_m5 S L sk (n + 1) = 5 := if_pos ⟨by omega, e9⟩
          have b : sg_m5 S L sk n = 0 := by
            refine if_neg ?_
            rintro ⟨b1, b2⟩
            have b3 := s.2.2.1 (n - 1) (by omega)
            rw [sg_fo_n b3.2.1] at b2
            exact b3.1 b2
          unfold sg_mu at hm ⊢
          omega
      · obtain ⟨ex, e10⟩ := sg_fo_9 h hp e9
        rw [ex] at e9 ⊢
        have hbd := sg_SI_bound s e9 e10
        have hdp := sg_SI_depth h s e9 e10
        have hk' : ∀ i, i < n + 1 → upd ka n (nI (sk n)) i = nI (sk i) := by
          intro i hi
          by_cases e : i = n
          · rw [e, pk_us]
          · rw [pk_un e]
            exact hk i hi
        refine ⟨vp_in_nI (by omega) (by omega), nm_e (sg_x_want W h lk hp e9 e10 (fun L' R' lf' ri' h' lk' eW eSt rd => ?_) (fun L' R' lf' ri' w h' lk' eW eSt hw f9 f10 wt => ?_))⟩
        · have s' : sg_SI K A B top lt li S L' bu sk (n + 1) d0 q := by
            unfold sg_SI
            rw [eW, eSt]
            exact s
          refine br_f (by decide) (sg_x_finish W h' lk' hp e9 e10 rd (by omega) (fun kk l r' so' nu' st' lf'' ri'' bu' h'' lk'' b1 b2 b3 => ?_) (fun y0 so' lf'' bu' e2 h'' lk'' b1 b2 => ?_))
          · refine ih (top + 1) _ _ _ _ _ _ so' nu' st' lf'' ri'' bu' _ sk (n + 1) r h'' lk'' (sg_SI_cell h' hd0 s' e9 e10 (fun y hy ne => ?_) b2 b3) hk' hn (fun e => absurd e (by omega)) ?_
            · rw [b1 y hy ne, pk_un ne]
            · have t2 := sg_hi_le h''
              have t3 := sg_tl_cell (S := S) (x := sk n) (top := top) (kk := kk) (sg_hi_t6 h)
              have t4 := sg_m5_le (sg_u (sg_u S top kk) (sk n) 9) (sg_u (sg_u L' top l) (sk n) top) sk (n + 1)
              unfold sg_mu at hm ⊢
              omega
          · refine ih top _ _ _ _ _ _ so' nu st lf'' ri' bu' _ sk (n + 1) r h'' lk'' (sg_SI_link h' hd0 s' e2 (fun y hy ne => ?_) b2) hk' hn (fun e => absurd e (by omega)) ?_
            · rw [b1 y hy ne, pk_un ne]
            · have t3 := sg_tl_link (S := S) (x := sk n) (sg_tail6 h hp e2) e2
              have t4 := sg_m5_le (sg_u S (sk n) 10) (sg_u L' (sk n) y0) sk (n + 1)
              unfold sg_mu at hm ⊢
              omega
        · have s' : sg_SI K A B top lt li S L' bu sk (n + 1) d0 q := by
            unfold sg_SI
            rw [eW, eSt]
            exact s
          refine br_t (nI_pos' (by omega)) ⟨vp_in_nI (by omega) (by omega), ?_⟩
          rw [nI_clamp (show w < 2 ^ 31 by omega)]
          refine br_c (fun hb => ?_) (fun hb => ?_)
          · refine sg_x_push (by omega) (by omega) ?_
            refine ih top c lt li S L' R' so nu st lf' ri' _ _ (sg_u sk (n + 1) w) (n + 2) r h' lk' (sg_SI_push W h' s' e9 e10 hw wt hb) (fun i hi => ?_) (by omega) (fun e => absurd e (by omega)) ?_
            · by_cases e : i = n + 1
              · rw [e, pk_us, sg_us]
              · rw [pk_un e, sg_un e]
                exact hk' i (by omega)
            · have a : sg_m5 S L' (sg_u sk (n + 1) w) (n + 2) = 0 := by
                refine if_neg ?_
                rintro ⟨_, b2⟩
                rw [show n + 2 - 1 = n + 1 by omega, sg_us, sg_fo_n f10] at b2
                exact f9 b2
              unfold sg_mu at hm ⊢
              omega
          · refine sg_x_giveUp (sk := sk) (by omega) (fun i hi => ⟨?_, hk' i hi⟩) (fun bu' b1 b2 => ?_)
            · have := s.1 i hi
              omega
            · refine g _ _ ⟨top, c, lt, li, S, L', R', so, nu, st, lf', ri', bu', mv, ro, _, rfl, h', lk', hro, fun y hy => ?_, Or.inr ⟨rfl, sg_SI_stuck W h' hd0 s' e9 e10 hw wt hb⟩⟩
              by_cases ey : y = sk n
              · rw [ey]
                exact b2 n (by omega)
              · rcases b1 y with c1 | c1
                · rw [pk_un ey] at c1
                  rcases s.2.2.2.2.1 y hy with d1 | ⟨_, _, _, i, hi, d2⟩
                  · rw [c1, d1]
                  · rw [← d2]
                    exact b2 i hi
                · exact c1
end
end
section
/-! the component's walks: force, build, reach -/
section
variable {K A B : Nat → Int32} {d0 q : Nat}
theorem sg_x_force (W : sg_wf K A B) (hd0 : d0 < 6) (hq : q ≤ 15) {top : Nat} {c lt li S L R : Nat → Nat} {so nu st lf ri bu mv ro ka : Nat → Int32} {fn : Int32} {p : Nat} (hro : ∀ s, s < 6 → ro s = nI s) {post : Int32 → SX → Prop} (g : ∀ r u, sg_Done K A B d0 q r u → post r u) (h : sg_HI K A B top c lt li S L R nu st) (lk : sg_LK top S L R so lf ri) (hb : ∀ y, y < top → bu y = 0) (hp : p < top) (w : sg_St S L p d0 q) : wpX_force post (1, 0, nI top, fn, K, A, B, so, nu, st, lf, ri, bu, mv, ro, ka) (nI p) := by
  have t := sg_hi_le h
  unfold wpX_force
  dsimp only
  refine sg_x_push (n := 0) (by omega) (by omega) ?_
  refine Exists.intro (sg_mu top S L (fun _ => p) 1 + 1) (sg_x_loop W hd0 hq hro g (sg_mu top S L (fun _ => p) 1 + 1) top c lt li S L R so nu st lf ri bu _ (fun _ => p) 1 (-1) h lk ⟨fun _ _ => hp, fun _ => w, fun i hi => absurd hi (by omega), fun i j hi hj => absurd hj (by omega), fun y hy => Or.inl (hb y hy), fun i hi f9 f10 z hz1 hz2 => ?_⟩ (fun i hi => ?_) (by omega) (fun e => absurd e (by omega)) (by omega))
  · unfold sg_St at w
    rw [sg_fo_n f10] at w
    obtain ⟨v, hv, w'⟩ := sg_Cov W h q d0 p z hd0 w hz1 hz2
    exact ⟨v, hv, 0, by omega, w'⟩
  · rw [show i = 0 by omega]
    exact (pk_us : upd ka 0 (nI p) 0 = nI p)
theorem sg_x_reach18 (W : sg_wf K A B) (hd0 : d0 < 6) {k : Nat} (hk : k ≤ 15) {post : Int32 → SX → Prop} (g : ∀ r u, sg_Done K A B d0 k r u → post r u) : ∀ (f j : Nat) (r : Int32) (u : SX), sg_Done K A B d0 j r u → j ≤ k → k - j < f → (match u with | (a1, a2, a3, a4, a5, a6, a7, a8, a9, a10, a11, a12, a13, a14, a15, a16) => wX_reach_18 post (nI k) f r (nI j) a1 a2 a3 a4 a5 a6 a7 a8 a9 a10 a11 a12 a13 a14 a15 a16) := by
  intro f
  induction f with
  | zero =>
    intro j r u _ _ hf
    omega
  | succ f ih =>
    intro j r u hD hj hf
    have hD' := hD
    obtain ⟨top, c, lt, li, S, L, R, so, nu, st, lf, ri, bu, mv, ro, ka, rfl, h, lk, hro, hb, hr⟩ := hD
    dsimp only
    rw [wX_reach_18]
    dsimp only
    refine pk_le k j (fun e => ?_) (fun e => ?_)
    · have ej : j = k := by omega
      subst ej
      exact g _ _ hD'
    · rcases hr with ⟨y, rfl, hy, e9, wy⟩ | ⟨rfl, hno⟩
      · have t := sg_hi_le h
        refine br_f (nI_pos (by omega)) ⟨vp_in_nI (by omega) (by omega), ?_⟩
        rw [nI_clamp (show y < 2 ^ 31 by omega), (lk y hy).2.1, nI_1]
        refine sg_x_force (q := j + 1) W hd0 (by omega) hro (fun r' u' hD2 => ?_) h lk hb (sg_hi_L h hy) (sg_Wa_next wy e9)
        have := ih (j + 1) r' u' hD2 (by omega) (by omega)
        obtain ⟨_, _, _, _, _, _, _, _, _, _, _, _, _, _, _, _, rfl, _⟩ := hD2
        exact nm_e this
      · refine br_t (by decide) (g _ _ ⟨top, c, lt, li, S, L, R, so, nu, st, lf, ri, bu, mv, ro, ka, rfl, h, lk, hro, hb, Or.inr ⟨rfl, ?_⟩⟩)
        rintro ⟨v, hv⟩
        exact hno (sg_H_le W hd0 hj hv)
end
/-! build -/
def sg_S0 (K : Nat → Int32) (s : Nat) : Nat := if sg_kd K s = 1 then 9 else sg_kd K s
def sg_L0 (K A B : Nat → Int32) (s : Nat) : Nat := if sg_kd K s = 0 then 0 else if sg_kd K s = 1 then sg_kd B s else if sg_kd K s = 5 then sg_kd B s else sg_kd A s
def sg_R0 (K B : Nat → Int32) (s : Nat) : Nat := if sg_kd K s = 3 ∨ sg_kd K s = 4 ∨ sg_kd K s = 7 ∨ sg_kd K s = 8 then sg_kd B s else 0
def sg_N0 (K A : Nat → Int32) (s : Nat) : Int32 := if sg_kd K s = 0 ∨ sg_kd K s = 1 ∨ sg_kd K s = 5 then A s else 0
def sg_P0 (K B : Nat → Int32) (s : Nat) : Int32 := if sg_kd K s = 0 then B s else 0
section
variable {fb fa ft fn : Int32} {dA dB dC so nu st lf ri bu mv ro ka : Nat → Int32} {K A B : Nat → Int32}
theorem sg_wA {post : Int32 → Prop} {k : Nat} (hk : k ≤ 8) (g1 : 2 ≤ k ∧ k ≠ 5 → post 1) (g0 : ¬ (2 ≤ k ∧ k ≠ 5) → post 0) : wpX_worksOnA post (fb, fa, ft, fn, dA, dB, dC, so, nu, st, lf, ri, bu, mv, ro, ka) (nI k) :=
  pk_lt k 2 (fun e => g0 (by omega)) (fun e => pk_eq k 5 (fun e => g0 (by omega)) (fun e => g1 (by omega)))
theorem sg_wB {post : Int32 → Prop} {k : Nat} (hk : k ≤ 8) (g1 : k = 1 ∨ k = 3 ∨ k = 4 ∨ k = 5 ∨ k = 7 ∨ k = 8 → post 1) (g0 : ¬ (k = 1 ∨ k = 3 ∨ k = 4 ∨ k = 5 ∨ k = 7 ∨ k = 8) → post 0) : wpX_worksOnB post (fb, fa, ft, fn, dA, dB, dC, so, nu, st, lf, ri, bu, mv, ro, ka) (nI k) :=
  pk_eq k 1 (fun e => g1 (by omega)) (fun e => pk_eq k 3 (fun e => g1 (by omega)) (fun e => pk_eq k 4 (fun e => g1 (by omega)) (fun e => pk_eq k 5 (fun e => g1 (by omega)) (fun e => pk_eq k 7 (fun e => g1 (by omega)) (fun e => pk_eq k 8 (fun e => g1 (by omega)) (fun e => g0 (by omega)))))))
end
end
section
/-! build, and reach as a whole -/
def sg_BI (K A B : Nat → Int32) (i : Nat) (so nu st lf ri bu ro : Nat → Int32) : Prop := ∀ x, x < i → so x = nI (sg_S0 K x) ∧ lf x = nI (sg_L0 K A B x) ∧ ri x = nI (sg_R0 K B x) ∧ nu x = sg_N0 K A x ∧ st x = sg_P0 K B x ∧ bu x = 0 ∧ ro x = nI x
section
variable {K A B : Nat → Int32}
theorem sg_L0_lt (W : sg_wf K A B) {s : Nat} (hs : s < 6) : sg_L0 K A B s < 6 := by
  obtain ⟨_, w2, wa, wb⟩ := W s hs
  unfold sg_L0
  split
  · omega
  · split
    · exact (wb (by omega)).2
    · split
      · exact (wb (by omega)).2
      · exact (wa (by omega)).2
theorem sg_R0_lt (W : sg_wf K A B) {s : Nat} (hs : s < 6) : sg_R0 K B s < 6 := by
  obtain ⟨_, w2, wa, wb⟩ := W s hs
  unfold sg_R0
  split
  · exact (wb (by omega)).2
  · omega
theorem sg_HI_0 (W : sg_wf K A B) {nu st : Nat → Int32} (hN : ∀ x, x < 6 → nu x = sg_N0 K A x) (hP : ∀ x, x < 6 → st x = sg_P0 K B x) : sg_HI K A B 6 (fun _ => 1) (fun x => x) (fun _ => 0) (sg_S0 K) (sg_L0 K A B) (sg_R0 K B) nu st := by
  refine ⟨by omega, rfl, fun t _ => show (1 : Nat) ≤ 22 by omega, fun s _ => ⟨rfl, rfl⟩, fun x y _ _ e _ => e, fun x hx => ?_⟩
  obtain ⟨w1, w2, wa, wb⟩ := W x hx
  have st0 : ∀ d, sg_St (sg_S0 K) (sg_L0 K A B) d d 0 := fun d => ⟨fun z hz => absurd hz (Nat.not_lt_zero z), rfl⟩
  unfold sg_Nd
  rw [hN x hx, hP x hx]
  refine ⟨hx, show (0 : Nat) < 1 by omega, sg_L0_lt W hx, sg_R0_lt W hx, fun e => ?_, fun e => ?_, fun e9 e10 => ?_⟩
  · have e1 : sg_kd K x = 1 := by
      unfold sg_S0 at e
      split at e
      · assumption
      · omega
    refine ⟨?_, Or.inl ⟨e1, rfl, ?_⟩⟩
    · have : sg_N0 K A x = A x := if_pos (by omega)
      rw [this]
      exact sg_cons0 W hx e1
    · unfold sg_L0
      rw [if_neg (by omega), if_pos e1]
  · unfold sg_S0 at e
    split at e
    · omega
    · omega
  · have e1 : sg_kd K x ≠ 1 := by
      intro e1
      exact e9 (if_pos e1)
    have eS : sg_S0 K x = sg_kd K x := if_neg e1
    refine ⟨eS, rfl, Or.inl rfl, ?_⟩
    rw [eS]
    rcases sg_k9 w2 with e | e | e | e | e | e | e | e | e
    · rw [e]
      have a : sg_N0 K A x = A x := if_pos (by omega)
      have b : sg_P0 K B x = B x := if_pos e
      refine And.intro ?_ b
      rw [a, nI_0]
      grind
    · exact absurd e e1
    · rw [e]
      refine And.intro rfl ?_
      have a : sg_L0 K A B x = sg_kd A x := by
        unfold sg_L0
        rw [if_neg (by omega), if_neg (by omega), if_neg (by omega)]
      rw [a]
      exact st0 _
    · rw [e]
      have a : sg_L0 K A B x = sg_kd A x := by
        unfold sg_L0
        rw [if_neg (by omega), if_neg (by omega), if_neg (by omega)]
      have b : sg_R0 K B x = sg_kd B x := if_pos (by omega)
      refine And.intro ?_ ?_
      · rw [a]
        exact st0 _
      · rw [b]
        exact st0 _
    · rw [e]
      have a : sg_L0 K A B x = sg_kd A x := by
        unfold sg_L0
        rw [if_neg (by omega), if_neg (by omega), if_neg (by omega)]
      have b : sg_R0 K B x = sg_kd B x := if_pos (by omega)
      refine And.intro ?_ ?_
      · rw [a]
        exact st0 _
      · rw [b]
        exact st0 _
    · rw [e]
      have a : sg_L0 K A B x = sg_kd B x := by
        unfold sg_L0
        rw [if_neg (by omega), if_neg (by omega), if_pos e]
      refine And.intro (if_pos (by omega)) ?_
      rw [a]
      exact st0 _
    · rw [e]
      have a : sg_L0 K A B x = sg_kd A x := by
        unfold sg_L0
        rw [if_neg (by omega), if_neg (by omega), if_neg (by omega)]
      refine And.intro (Or.inl ⟨rfl, if_neg (by omega)⟩) ?_
      rw [a]
      exact st0 _
    · rw [e]
      have a : sg_L0 K A B x = sg_kd A x := by
        unfold sg_L0
        rw [if_neg (by omega), if_neg (by omega), if_neg (by omega)]
      have b : sg_R0 K B x = sg_kd B x := if_pos (by omega)
      refine Or.inl ⟨rfl, ?_, ?_⟩
      · rw [a]
        show sg_St (sg_S0 K) (sg_L0 K A B) (sg_kd A x) (sg_kd A x) (0 / 2)
        exact st0 _
      · rw [b]
        show sg_St (sg_S0 K) (sg_L0 K A B) (sg_kd B x) (sg_kd B x) (0 / 2)
        exact st0 _
    · rw [e]
      have a : sg_L0 K A B x = sg_kd A x := by
        unfold sg_L0
        rw [if_neg (by omega), if_neg (by omega), if_neg (by omega)]
      have b : sg_R0 K B x = sg_kd B x := if_pos (by omega)
      refine Exists.intro 0 (Exists.intro 0 ⟨sg_Pl_0.mpr ⟨rfl, rfl⟩, ?_, ?_⟩)
      · rw [a]
        exact st0 _
      · rw [b]
        exact st0 _
end
section
variable {fn : Int32} {so nu st lf ri bu mv ro ka : Nat → Int32} {K A B : Nat → Int32}
theorem sg_x_b67 (W : sg_wf K A B) {post : SX → Prop} {J : Int32 → Int32 → Int32 → Int32 → Int32 → (Nat → Int32) → (Nat → Int32) → (Nat → Int32) → (Nat → Int32) → (Nat → Int32) → (Nat → Int32) → (Nat → Int32) → (Nat → Int32) → (Nat → Int32) → (Nat → Int32) → (Nat → Int32) → (Nat → Int32) → Prop} {i : Nat} (hi : i < 6) {z0 : Int32} (hz : sg_kd K i ≠ 0 → sg_kd K i ≠ 1 → sg_kd K i ≠ 5 → z0 = nI (sg_R0 K B i)) (g : J (nI (i + 1)) 1 0 (nI (i + 1)) fn K A B (upd so i (nI (sg_S0 K i))) (upd nu i (sg_N0 K A i)) (upd st i (sg_P0 K B i)) (upd lf i (nI (sg_L0 K A B i))) (upd ri i (nI (sg_R0 K B i))) (upd bu i 0) mv (upd ro i (nI i)) ka) : wX_build_67 post J (nI i) (nI (sg_kd K i)) (A i) (B i) z0 1 0 (nI i) fn K A B so nu st lf ri bu mv ro ka := by
  obtain ⟨w1, w2, wa, wb⟩ := W i hi
  unfold wX_build_67
  rw [nI_clamp (show i < 2 ^ 31 by omega), sg_shortT i (by omega), nI_1]
  refine ⟨vp_in_nI (by omega) (by omega), nm_e (pk_eq (sg_kd K i) 0 (fun e0 => ?_) (fun e0 => pk_eq (sg_kd K i) 1 (fun e1 => ?_) (fun e1 => pk_eq (sg_kd K i) 5 (fun e5 => ?_) (fun e5 => ?_))))⟩
  · have a1 : sg_S0 K i = 0 := by
      unfold sg_S0
      rw [if_neg (by omega)]
      exact e0
    have a2 : sg_L0 K A B i = 0 := if_pos e0
    have a3 : sg_R0 K B i = 0 := if_neg (by omega)
    have a4 : sg_N0 K A i = A i := if_pos (by omega)
    have a5 : sg_P0 K B i = B i := if_pos e0
    rw [a1, a2, a3, a4, a5] at g
    exact sg_x_alloc (what := 0) (l := 0) (r := 0) (by omega) (by omega) (by omega) (by omega) (nm_e g)
  · have a1 : sg_S0 K i = 9 := if_pos e1
    have a2 : sg_L0 K A B i = sg_kd B i := by
      unfold sg_L0
      rw [if_neg (by omega), if_pos e1]
    have a3 : sg_R0 K B i = 0 := if_neg (by omega)
    have a4 : sg_N0 K A i = A i := if_pos (by omega)
    have a5 : sg_P0 K B i = 0 := if_neg e0
    rw [a1, a2, a3, a4, a5] at g
    have hB := wb (by omega)
    rw [hB.1]
    exact sg_x_alloc (what := 9) (l := sg_kd B i) (r := 0) (by omega) (by omega) (by omega) (by omega) (nm_e g)
  · have a1 : sg_S0 K i = 5 := by
      unfold sg_S0
      rw [if_neg e1]
      exact e5
    have a2 : sg_L0 K A B i = sg_kd B i := by
      unfold sg_L0
      rw [if_neg e0, if_neg e1, if_pos e5]
    have a3 : sg_R0 K B i = 0 := if_neg (by omega)
    have a4 : sg_N0 K A i = A i := if_pos (by omega)
    have a5 : sg_P0 K B i = 0 := if_neg e0
    rw [a1, a2, a3, a4, a5] at g
    have hB := wb (by omega)
    rw [hB.1]
    exact sg_x_alloc (what := 5) (l := sg_kd B i) (r := 0) (by omega) (by omega) (by omega) (by omega) (nm_e g)
  · have a1 : sg_S0 K i = sg_kd K i := if_neg e1
    have a2 : sg_L0 K A B i = sg_kd A i := by
      unfold sg_L0
      rw [if_neg e0, if_neg e1, if_neg e5]
    have a4 : sg_N0 K A i = 0 := if_neg (by omega)
    have a5 : sg_P0 K B i = 0 := if_neg e0
    have hr := sg_R0_lt W hi
    rw [a1, a2, a4, a5] at g
    have hA := wa (by omega)
    rw [hA.1, hz e0 e1 e5]
    exact sg_x_alloc (what := sg_kd K i) (l := sg_kd A i) (r := sg_R0 K B i) (by omega) (by omega) (by omega) (by omega) (nm_e g)
end
section
variable {fn : Int32} {mv ka : Nat → Int32} {K A B : Nat → Int32}
theorem sg_x_b25 (W : sg_wf K A B) {post : SX → Prop} (g : ∀ so nu st lf ri bu ro : Nat → Int32, sg_BI K A B 6 so nu st lf ri bu ro → post (1, 0, nI 6, fn, K, A, B, so, nu, st, lf, ri, bu, mv, ro, ka)) : ∀ (f i : Nat) (so nu st lf ri bu ro : Nat → Int32), i ≤ 6 → 6 - i < f → sg_BI K A B i so nu st lf ri bu ro → wX_build_25 post f (nI i) 1 0 (nI i) fn K A B so nu st lf ri bu mv ro ka := by
  intro f
  induction f with
  | zero =>
    intro i so nu st lf ri bu ro _ hf
    omega
  | succ f ih =>
    intro i so nu st lf ri bu ro hi hf hB
    rw [wX_build_25]
    dsimp only
    refine pk_le 6 i (fun e => ?_) (fun e => ?_)
    · have ei : i = 6 := by omega
      subst ei
      exact g _ _ _ _ _ _ _ hB
    · obtain ⟨w1, w2, wa, wb⟩ := W i e
      rw [nI_clamp (show i < 2 ^ 31 by omega), w1]
      have ii : vp_in (nI i) 6 := vp_in_nI e (by omega)
      have fin : wX_build_25 post f (nI (i + 1)) 1 0 (nI (i + 1)) fn K A B (upd so i (nI (sg_S0 K i))) (upd nu i (sg_N0 K A i)) (upd st i (sg_P0 K B i)) (upd lf i (nI (sg_L0 K A B i))) (upd ri i (nI (sg_R0 K B i))) (upd bu i 0) mv (upd ro i (nI i)) ka := by
        refine ih (i + 1) _ _ _ _ _ _ _ (by omega) (by omega) (fun x hx => ?_)
        by_cases ex : x = i
        · rw [ex, pk_us, pk_us, pk_us, pk_us, pk_us, pk_us, pk_us]
          exact ⟨rfl, rfl, rfl, rfl, rfl, rfl, rfl⟩
        · rw [pk_un ex, pk_un ex, pk_un ex, pk_un ex, pk_un ex, pk_un ex, pk_un ex]
          exact hB x (by omega)
      refine ⟨ii, nm_e ⟨ii, nm_e ⟨ii, nm_e (sg_wB w2 (fun hk => ?_) (fun hk => ?_))⟩⟩⟩
      · refine br_f (by decide) (sg_x_b67 W e (fun e0 e1 e5 => ?_) fin)
        rw [show sg_R0 K B i = sg_kd B i from if_pos (by omega)]
        exact (wb hk).1
      · refine br_t rfl (sg_x_b67 W e (fun e0 e1 e5 => ?_) fin)
        rw [show sg_R0 K B i = 0 from if_neg (by omega)]
        rfl
end
end
section
/-! the reference's walks: hasAt, at, walk -/
def sg_Tb (ha va : Nat → Int32) (s k : Nat) (v : Int32) : Prop := k ≤ 20 ∧ ha (21 * s + k) ≠ 0 ∧ va (21 * s + k) = v
theorem sg_Tb_det {ha va : Nat → Int32} {s k : Nat} {v v' : Int32} (h : sg_Tb ha va s k v) (h' : sg_Tb ha va s k v') : v = v' := h.2.2.symm.trans h'.2.2
theorem sg_21 (s k : Nat) : (21 : Int32) * nI s + nI k = nI (21 * s + k) := by
  have e : (21 : Int32) * nI s = nI (21 * s) := pk_mul 21 s
  rw [e, nI_add]
section
variable {pA pB : Int32} {K A B ha va : Nat → Int32}
theorem sg_y_has {post : Int32 → Prop} {s k : Nat} (hs : s < 6) (hk : k < 100) (g1 : (∃ v, sg_Tb ha va s k v) → post 1) (g0 : ¬ (∃ v, sg_Tb ha va s k v) → post 0) : wpY_hasAt post (pA, pB, K, A, B, ha, va) (nI s) (nI k) := by
  unfold wpY_hasAt
  dsimp only
  rw [sg_21, nI_clamp (show 21 * s + k < 2 ^ 31 by omega)]
  refine br_f (nI_pos (by omega)) (pk_lt 20 k (fun e => ?_) (fun e => ⟨vp_in_nI (by omega) (by omega), br_c (fun h => ?_) (fun h => ?_)⟩))
  · refine g0 ?_
    rintro ⟨v, h, _⟩
    omega
  · refine g0 ?_
    rintro ⟨v, _, h', _⟩
    exact h' h
  · exact g1 ⟨_, e, h, rfl⟩
theorem sg_y_at {post : Int32 → Prop} {s k : Nat} {v : Int32} (hs : s < 6) (h : sg_Tb ha va s k v) (g : post v) : wpY_at post (pA, pB, K, A, B, ha, va) (nI s) (nI k) := by
  obtain ⟨h1, _, h3⟩ := h
  unfold wpY_at
  dsimp only
  rw [sg_21, nI_clamp (show 21 * s + k < 2 ^ 31 by omega), h3]
  exact ⟨vp_in_nI (by omega) (by omega), g⟩
end
theorem sg_Pl_dn {A B : Nat → Int32} {T : Nat → Nat → Int32 → Prop} {s j : Nat} : ∀ d p q, sg_Pl A B T s (j + d) p q → ∃ p' q', sg_Pl A B T s j p' q' := by
  intro d
  induction d with
  | zero =>
    intro p q h
    exact ⟨p, q, h⟩
  | succ d ih =>
    intro p q h
    obtain ⟨p', q', x, y, h1, _⟩ := sg_Pl_s.mp h
    exact ih p' q' h1
section
variable {K A B ha va : Nat → Int32}
theorem sg_y_walk12 {post : SY → Prop} {s k P Q : Nat} (hs : s < 6) (hk : k < 100) (ea : A s = nI (sg_kd A s)) (la : sg_kd A s < 6) (eb : B s = nI (sg_kd B s)) (lb : sg_kd B s < 6) (hP : sg_Pl A B (sg_Tb ha va) s k P Q) (g : post (nI P, nI Q, K, A, B, ha, va)) : ∀ f j p q, j ≤ k → k - j < f → sg_Pl A B (sg_Tb ha va) s j p q → wY_walk_12 post (nI s) (nI k) K A B ha va f (nI j) (nI p) (nI q) := by
  intro f
  induction f with
  | zero =>
    intro j p q _ hf
    omega
  | succ f ih =>
    intro j p q hj hf hp
    have det := fun {k p q p' q'} => @sg_Pl_det A B (sg_Tb ha va) s (fun _ _ _ => sg_Tb_det) (fun _ _ _ => sg_Tb_det) k p q p' q'
    rw [wY_walk_12]
    dsimp only
    refine pk_le k j (fun e => ?_) (fun e => ?_)
    · have ej : j = k := by omega
      subst ej
      obtain ⟨e1, e2⟩ := det hp hP
      rw [e1, e2]
      exact g
    · obtain ⟨p1, q1, h1⟩ := sg_Pl_dn (j := j + 1) (k - (j + 1)) P Q (by rw [show j + 1 + (k - (j + 1)) = k by omega]; exact hP)
      obtain ⟨p', q', x, y, h2, h3, h4, h5, h6⟩ := sg_Pl_s.mp h1
      obtain ⟨e1, e2⟩ := det h2 hp
      subst e1 e2
      rw [nI_clamp (show s < 2 ^ 31 by omega), ea, eb, nI_1]
      have is : vp_in (nI s) 6 := vp_in_nI hs (by omega)
      refine ⟨is, sg_y_at la h3 ⟨is, sg_y_at lb h4 ?_⟩⟩
      have fin : ∀ p2 q2, p2 = (if x ≤ y then p' + 1 else p') → q2 = (if y ≤ x then q' + 1 else q') → wY_walk_12 post (nI s) (nI k) K A B ha va f (nI (j + 1)) (nI p2) (nI q2) := by
        intro p2 q2 e1 e2
        exact ih (j + 1) p2 q2 (by omega) (by omega) (sg_Pl_s.mpr ⟨p', q', x, y, hp, h3, h4, e1, e2⟩)
      refine br_c (fun c1 => ?_) (fun c1 => ?_)
      · have n1 : ¬ x ≤ y := fun h => absurd c1 (Int32.not_lt.mpr h)
        unfold wY_walk_66
        rw [nI_1]
        refine br_c (fun c2 => ?_) (fun c2 => ?_)
        · exact nm_e (fin _ _ (if_neg n1).symm (if_neg (fun h => absurd c2 (Int32.not_lt.mpr h))).symm)
        · rw [nI_1]
          exact nm_e (nm_e (fin _ _ (if_neg n1).symm (if_pos (Int32.not_lt.mp c2)).symm))
      · have n1 : x ≤ y := Int32.not_lt.mp c1
        refine nm_e ?_
        unfold wY_walk_66
        rw [nI_1]
        refine br_c (fun c2 => ?_) (fun c2 => ?_)
        · exact nm_e (fin _ _ (if_pos n1).symm (if_neg (fun h => absurd c2 (Int32.not_lt.mpr h))).symm)
        · rw [nI_1]
          exact nm_e (nm_e (fin _ _ (if_pos n1).symm (if_pos (Int32.not_lt.mp c2)).symm))
theorem sg_y_walk {pA pB : Int32} {post : SY → Prop} {s k P Q : Nat} (hs : s < 6) (hk : k < 100) (ea : A s = nI (sg_kd A s)) (la : sg_kd A s < 6) (eb : B s = nI (sg_kd B s)) (lb : sg_kd B s < 6) (hP : sg_Pl A B (sg_Tb ha va) s k P Q) (g : post (nI P, nI Q, K, A, B, ha, va)) : wpY_walk post (pA, pB, K, A, B, ha, va) (nI s) (nI k) :=
  Exists.intro (k + 1) (sg_y_walk12 hs hk ea la eb lb hP g (k + 1) 0 0 0 (by omega) (by omega) (sg_Pl_0.mpr ⟨rfl, rfl⟩))
end
end
section
/-! the reference's walks: needsMet, worth -/
section
variable {K A B ha va : Nat → Int32}
theorem sg_y_n108 {pA pB : Int32} {post : Int32 → SY → Prop} {s k : Nat} (hs : s < 6) (hk : k < 100) (ea : A s = nI (sg_kd A s)) (la : sg_kd A s < 6) (eb : B s = nI (sg_kd B s)) (lb : sg_kd B s < 6) (g1 : (∃ v, sg_Tb ha va (sg_kd A s) k v) ∧ (∃ v, sg_Tb ha va (sg_kd B s) k v) → post 1 (pA, pB, K, A, B, ha, va)) (g0 : ¬ ((∃ v, sg_Tb ha va (sg_kd A s) k v) ∧ (∃ v, sg_Tb ha va (sg_kd B s) k v)) → post 0 (pA, pB, K, A, B, ha, va)) : wY_needsMet_108 post (nI s) (nI k) pA pB K A B ha va := by
  have is : vp_in (nI s) 6 := vp_in_nI hs (by omega)
  unfold wY_needsMet_108
  rw [nI_clamp (show s < 2 ^ 31 by omega), ea, eb]
  refine ⟨is, sg_y_has la hk (fun h1 => br_f (by decide) ⟨is, sg_y_has lb hk (fun h2 => br_f (by decide) (g1 ⟨h1, h2⟩)) (fun h2 => br_t rfl (g0 (fun h => h2 h.2)))⟩) (fun h1 => br_t rfl (g0 (fun h => h1 h.1)))⟩
theorem sg_y_n17 (W : sg_wf K A B) {pA pB : Int32} {post : Int32 → SY → Prop} {s k : Nat} (hs : s < 6) (hk : k ≤ 20) (hsup : ∀ s k v, s < 6 → sg_Tb ha va s k v → sg_Ru K A B (sg_Tb ha va) s k v) (hpre : k = 0 ∨ ∃ w, sg_Tb ha va s (k - 1) w)
    (g1 : ∀ pA pB, (∃ v, sg_Ru K A B (sg_Tb ha va) s k v) → post 1 (pA, pB, K, A, B, ha, va)) (g0 : ∀ pA pB, ¬ (∃ v, sg_Ru K A B (sg_Tb ha va) s k v) → post 0 (pA, pB, K, A, B, ha, va)) :
    wY_needsMet_17 post (nI s) (nI k) pA pB K A B ha va := by
  obtain ⟨w1, w2, wa, wb⟩ := W s hs
  have is : vp_in (nI s) 6 := vp_in_nI hs (by omega)
  have cl : (nI s).toNatClampNeg = s := nI_clamp (by omega)
  have m2 : nI k - nI k / 2 * 2 = nI (k % 2) := pk_rem (d := 2) (by omega) (by omega) (by omega)
  have d2 : nI k / 2 = nI (k / 2) := pk_div (d := 2) (by omega) (by omega) (by omega)
  unfold wY_needsMet_17
  rw [cl, w1, m2, d2]
  refine ⟨is, pk_eq (sg_kd K s) 0 (fun e => ?_) (fun e0 => ⟨is, pk_eq (sg_kd K s) 1 (fun e => ?_) (fun e1 => ⟨is, pk_eq (sg_kd K s) 2 (fun e => ?_) (fun e2 => ⟨is, pk_eq (sg_kd K s) 3 (fun e => ?_) (fun e3 => ⟨is, pk_eq (sg_kd K s) 4 (fun e => ?_) (fun e4 => ⟨is, pk_eq (sg_kd K s) 5 (fun e => ?_) (fun e5 => ⟨is, pk_eq (sg_kd K s) 6 (fun e => ?_) (fun e6 => ⟨is, pk_eq (sg_kd K s) 7 (fun e => ?_) (fun e7 => ?_)⟩)⟩)⟩)⟩)⟩)⟩)⟩)⟩
  · exact g1 _ _ ⟨_, (sg_Ru_0 e).mpr ⟨hpre, rfl⟩⟩
  · refine pk_eq k 0 (fun f => ?_) (fun f => ⟨is, ?_⟩)
    · exact g1 _ _ ⟨_, (sg_Ru_1 e).mpr ⟨hpre, Or.inl ⟨f, rfl⟩⟩⟩
    · have hb := wb (by omega)
      have ek : nI k - 1 = nI (k - 1) := by
        rw [show k = k - 1 + 1 by omega, nI_pred]
        rfl
      rw [hb.1, ek]
      refine sg_y_has hb.2 (by omega) (fun h => br_f (by decide) ?_) (fun h => br_t rfl ?_)
      · obtain ⟨v, h⟩ := h
        exact g1 _ _ ⟨v, (sg_Ru_1 e).mpr ⟨hpre, Or.inr ⟨f, h⟩⟩⟩
      · refine g0 _ _ ?_
        rintro ⟨v, hv⟩
        rcases ((sg_Ru_1 e).mp hv).2 with ⟨h1, _⟩ | ⟨_, h1⟩
        · exact f h1
        · exact h ⟨v, h1⟩
  · have hb := wa (by omega)
    rw [hb.1, nI_1]
    refine ⟨is, sg_y_has hb.2 (by omega) (fun h => ⟨narrow_b1, ?_⟩) (fun h => ⟨narrow_b0, ?_⟩)⟩
    · obtain ⟨v, h⟩ := h
      exact g1 _ _ ⟨v, (sg_Ru_2 e).mpr ⟨hpre, h⟩⟩
    · refine g0 _ _ ?_
      rintro ⟨v, hv⟩
      exact h ⟨v, ((sg_Ru_2 e).mp hv).2⟩
  · have ha := wa (by omega)
    have hb := wb (by omega)
    refine sg_y_n108 hs (by omega) ha.1 ha.2 hb.1 hb.2 (fun h => ?_) (fun h => ?_)
    · obtain ⟨⟨x, h1⟩, ⟨y, h2⟩⟩ := h
      exact g1 _ _ ⟨_, (sg_Ru_3 e).mpr ⟨hpre, x, y, h1, h2, rfl⟩⟩
    · refine g0 _ _ ?_
      rintro ⟨v, hv⟩
      obtain ⟨x, y, h1, h2, _⟩ := ((sg_Ru_3 e).mp hv).2
      exact h ⟨⟨x, h1⟩, ⟨y, h2⟩⟩
  · have ha := wa (by omega)
    have hb := wb (by omega)
    refine sg_y_n108 hs (by omega) ha.1 ha.2 hb.1 hb.2 (fun h => ?_) (fun h => ?_)
    · obtain ⟨⟨x, h1⟩, ⟨y, h2⟩⟩ := h
      exact g1 _ _ ⟨_, (sg_Ru_4 e).mpr ⟨hpre, x, y, h1, h2, rfl⟩⟩
    · refine g0 _ _ ?_
      rintro ⟨v, hv⟩
      obtain ⟨x, y, h1, h2, _⟩ := ((sg_Ru_4 e).mp hv).2
      exact h ⟨⟨x, h1⟩, ⟨y, h2⟩⟩
  · have hb := wb (by omega)
    rw [hb.1]
    refine ⟨is, sg_y_has hb.2 (by omega) (fun h => ⟨narrow_b1, ?_⟩) (fun h => ⟨narrow_b0, ?_⟩)⟩
    · obtain ⟨v, h⟩ := h
      exact g1 _ _ ⟨_, (sg_Ru_5 e).mpr ⟨hpre, v, h, rfl⟩⟩
    · refine g0 _ _ ?_
      rintro ⟨v, hv⟩
      obtain ⟨y, h1, _⟩ := ((sg_Ru_5 e).mp hv).2
      exact h ⟨y, h1⟩
  · have hb := wa (by omega)
    rw [hb.1]
    refine ⟨is, sg_y_has hb.2 (by omega) (fun h => ⟨narrow_b1, ?_⟩) (fun h => ⟨narrow_b0, ?_⟩)⟩
    · obtain ⟨x, h⟩ := h
      rcases hpre with e0 | ⟨w, hw⟩
      · exact g1 _ _ ⟨_, (sg_Ru_6 e).mpr ⟨Or.inl e0, 0, x, Or.inl ⟨e0, rfl⟩, h, rfl⟩⟩
      · by_cases e0 : k = 0
        · exact g1 _ _ ⟨_, (sg_Ru_6 e).mpr ⟨Or.inl e0, 0, x, Or.inl ⟨e0, rfl⟩, h, rfl⟩⟩
        · exact g1 _ _ ⟨_, (sg_Ru_6 e).mpr ⟨Or.inr ⟨w, hw⟩, w, x, Or.inr ⟨e0, hw⟩, h, rfl⟩⟩
    · refine g0 _ _ ?_
      rintro ⟨v, hv⟩
      obtain ⟨w, y, _, h1, _⟩ := ((sg_Ru_6 e).mp hv).2
      exact h ⟨y, h1⟩
  · have ha := wa (by omega)
    have hb := wb (by omega)
    rw [ha.1, hb.1]
    refine ⟨by decide, pk_eq (k % 2) 0 (fun f => ⟨is, by decide, ?_⟩) (fun f => ⟨is, by decide, ?_⟩)⟩
    · refine sg_y_has ha.2 (by omega) (fun h => ⟨narrow_b1, ?_⟩) (fun h => ⟨narrow_b0, ?_⟩)
      · obtain ⟨v, h⟩ := h
        exact g1 _ _ ⟨v, (sg_Ru_7 e).mpr ⟨hpre, Or.inl ⟨f, h⟩⟩⟩
      · refine g0 _ _ ?_
        rintro ⟨v, hv⟩
        rcases ((sg_Ru_7 e).mp hv).2 with ⟨_, h1⟩ | ⟨h1, _⟩
        · exact h ⟨v, h1⟩
        · omega
    · refine sg_y_has hb.2 (by omega) (fun h => ⟨narrow_b1, ?_⟩) (fun h => ⟨narrow_b0, ?_⟩)
      · obtain ⟨v, h⟩ := h
        exact g1 _ _ ⟨v, (sg_Ru_7 e).mpr ⟨hpre, Or.inr ⟨by omega, h⟩⟩⟩
      · refine g0 _ _ ?_
        rintro ⟨v, hv⟩
        rcases ((sg_Ru_7 e).mp hv).2 with ⟨h1, _⟩ | ⟨_, h1⟩
        · exact f h1
        · exact h ⟨v, h1⟩
  · have e : sg_kd K s = 8 := by omega
    have ha' := wa (by omega)
    have hb' := wb (by omega)
    obtain ⟨P, Q, hP⟩ : ∃ P Q, sg_Pl A B (sg_Tb ha va) s k P Q := by
      rcases k with _ | k
      · exact ⟨0, 0, sg_Pl_0.mpr ⟨rfl, rfl⟩⟩
      · rcases hpre with h | ⟨w, h⟩
        · omega
        · obtain ⟨p, q, x, y, h1, h2, h3, _⟩ := ((sg_Ru_8 e).mp (hsup _ _ _ hs h)).2
          exact ⟨_, _, sg_Pl_s.mpr ⟨p, q, x, y, h1, h2, h3, rfl, rfl⟩⟩
    have hle := sg_Pl_le hP
    refine sg_y_walk hs (by omega) ha'.1 ha'.2 hb'.1 hb'.2 hP ⟨is, ?_⟩
    rw [ha'.1]
    refine sg_y_has ha'.2 (by omega) (fun h1 => br_f (by decide) ⟨is, ?_⟩) (fun h1 => br_t rfl ?_)
    · rw [hb'.1]
      refine sg_y_has hb'.2 (by omega) (fun h2 => br_f (by decide) ?_) (fun h2 => br_t rfl ?_)
      · obtain ⟨x, h1⟩ := h1
        obtain ⟨y, h2⟩ := h2
        exact g1 _ _ ⟨_, (sg_Ru_8 e).mpr ⟨hpre, P, Q, x, y, hP, h1, h2, rfl⟩⟩
      · refine g0 _ _ ?_
        rintro ⟨v, hv⟩
        obtain ⟨p, q, x, y, c1, c2, c3, _⟩ := ((sg_Ru_8 e).mp hv).2
        obtain ⟨d1, d2⟩ := sg_Pl_det (fun _ _ _ => sg_Tb_det) (fun _ _ _ => sg_Tb_det) c1 hP
        subst d1 d2
        exact h2 ⟨y, c3⟩
    · refine g0 _ _ ?_
      rintro ⟨v, hv⟩
      obtain ⟨p, q, x, y, c1, c2, c3, _⟩ := ((sg_Ru_8 e).mp hv).2
      obtain ⟨d1, d2⟩ := sg_Pl_det (fun _ _ _ => sg_Tb_det) (fun _ _ _ => sg_Tb_det) c1 hP
      subst d1 d2
      exact h1 ⟨x, c2⟩
theorem sg_y_needs (W : sg_wf K A B) {pA pB : Int32} {post : Int32 → SY → Prop} {s k : Nat} (hs : s < 6) (hk : k ≤ 20) (hsup : ∀ s k v, s < 6 → sg_Tb ha va s k v → sg_Ru K A B (sg_Tb ha va) s k v)
    (g1 : ∀ pA pB, (∃ v, sg_Ru K A B (sg_Tb ha va) s k v) → post 1 (pA, pB, K, A, B, ha, va)) (g0 : ∀ pA pB, ¬ (∃ v, sg_Ru K A B (sg_Tb ha va) s k v) → post 0 (pA, pB, K, A, B, ha, va)) :
    wpY_needsMet post (pA, pB, K, A, B, ha, va) (nI s) (nI k) := by
  refine pk_le k 0 (fun e => ?_) (fun e => ?_)
  · exact sg_y_n17 W hs hk hsup (Or.inl (by omega)) g1 g0
  · have ek : nI k - 1 = nI (k - 1) := by
      rw [show k = k - 1 + 1 by omega, nI_pred]
      rfl
    rw [ek]
    refine sg_y_has hs (by omega) (fun h => br_f (by decide) ?_) (fun h => br_t rfl ?_)
    · exact sg_y_n17 W hs hk hsup (Or.inr h) g1 g0
    · refine g0 _ _ ?_
      rintro ⟨v, hv⟩
      rcases hv.1 with h1 | h1
      · omega
      · exact h h1
end
end
section
/-! the reference's walks: worth -/
section
variable {K A B ha va : Nat → Int32}
theorem sg_y_w246 {pA pB : Int32} {post : Int32 → SY → Prop} {s k : Nat} {v : Int32} (hs : s < 6) (hk : k ≤ 20) (hsup : ∀ s k v, s < 6 → sg_Tb ha va s k v → sg_Ru K A B (sg_Tb ha va) s k v) (e6 : sg_kd K s = 6) (ea : A s = nI (sg_kd A s)) (la : sg_kd A s < 6) (hpt : ∀ j, j < k → ∃ w, sg_Tb ha va s j w) (hr : sg_Ru K A B (sg_Tb ha va) s k v) (g : post v (pA, pB, K, A, B, ha, va)) : ∀ f i w, i ≤ k + 1 → k + 1 - i < f → (i ≤ k → (i = 0 ∧ w = 0) ∨ (i ≠ 0 ∧ sg_Tb ha va s (i - 1) w)) → (i = k + 1 → w = v) → wY_worth_246 post (nI s) (nI k) pA pB K A B ha va f w (nI i) := by
  intro f
  induction f with
  | zero =>
    intro i w _ hf
    omega
  | succ f ih =>
    intro i w hi hf h1 h2
    rw [wY_worth_246]
    dsimp only
    refine pk_lt k i (fun e => ?_) (fun e => ?_)
    · rw [h2 (by omega)]
      exact g
    · have is : vp_in (nI s) 6 := vp_in_nI hs (by omega)
      rw [nI_clamp (show s < 2 ^ 31 by omega), ea, nI_1]
      have h1' := h1 e
      have step : ∀ v', sg_Ru K A B (sg_Tb ha va) s i v' → ∃ x, sg_Tb ha va (sg_kd A s) i x ∧ v' = w + x := by
        intro v' hv'
        obtain ⟨w', x, c1, c2, c3⟩ := ((sg_Ru_6 e6).mp hv').2
        have ew : w' = w := by
          rcases c1 with ⟨c1, c4⟩ | ⟨c1, c4⟩ <;> rcases h1' with ⟨d1, d4⟩ | ⟨d1, d4⟩
          · rw [c4, d4]
          · exact absurd c1 d1
          · exact absurd d1 c1
          · exact sg_Tb_det c4 d4
        rw [ew] at c3
        exact ⟨x, c2, c3⟩
      by_cases ek : i = k
      · subst ek
        obtain ⟨x, c1, c2⟩ := step v hr
        refine ⟨is, sg_y_at la c1 (nm_e (nm_e ?_))⟩
        exact ih (i + 1) (w + x) (by omega) (by omega) (fun h => absurd h (by omega)) (fun _ => c2.symm)
      · obtain ⟨v', hv'⟩ := hpt i (by omega)
        obtain ⟨x, c1, c2⟩ := step v' (hsup _ _ _ hs hv')
        refine ⟨is, sg_y_at la c1 (nm_e (nm_e ?_))⟩
        refine ih (i + 1) (w + x) (by omega) (by omega) (fun _ => Or.inr ⟨by omega, ?_⟩) (fun h => absurd h (by omega))
        rw [← c2]
        exact hv'
theorem sg_Tb_dn {s : Nat} (hs : s < 6) (hsup : ∀ s k v, s < 6 → sg_Tb ha va s k v → sg_Ru K A B (sg_Tb ha va) s k v) {k : Nat} {v : Int32} (h : sg_Tb ha va s (k + 1) v) : ∃ w, sg_Tb ha va s k w := by
  rcases (hsup _ _ _ hs h).1 with e | e
  · omega
  · exact e
theorem sg_Tb_le {s : Nat} (hs : s < 6) (hsup : ∀ s k v, s < 6 → sg_Tb ha va s k v → sg_Ru K A B (sg_Tb ha va) s k v) : ∀ {k : Nat} {v : Int32}, sg_Tb ha va s k v → ∀ j, j ≤ k → ∃ w, sg_Tb ha va s j w := by
  intro k
  induction k with
  | zero =>
    intro v h j hj
    rw [show j = 0 by omega]
    exact ⟨v, h⟩
  | succ k ih =>
    intro v h j hj
    by_cases e : j = k + 1
    · rw [e]
      exact ⟨v, h⟩
    · obtain ⟨w, h'⟩ := sg_Tb_dn hs hsup h
      exact ih h' j (by omega)
theorem sg_y_worth (W : sg_wf K A B) {pA pB : Int32} {post : Int32 → SY → Prop} {s k : Nat} {v : Int32} (hs : s < 6) (hk : k ≤ 20) (hsup : ∀ s k v, s < 6 → sg_Tb ha va s k v → sg_Ru K A B (sg_Tb ha va) s k v) (hr : sg_Ru K A B (sg_Tb ha va) s k v)
    (g : ∀ pA pB, post v (pA, pB, K, A, B, ha, va)) : wpY_worth post (pA, pB, K, A, B, ha, va) (nI s) (nI k) := by
  obtain ⟨w1, w2, wa, wb⟩ := W s hs
  have is : vp_in (nI s) 6 := vp_in_nI hs (by omega)
  have cl : (nI s).toNatClampNeg = s := nI_clamp (by omega)
  have m2 : nI k - nI k / 2 * 2 = nI (k % 2) := pk_rem (d := 2) (by omega) (by omega) (by omega)
  have d2 : nI k / 2 = nI (k / 2) := pk_div (d := 2) (by omega) (by omega) (by omega)
  unfold wpY_worth
  dsimp only
  rw [cl, w1, m2, d2]
  refine ⟨is, pk_eq (sg_kd K s) 0 (fun e => ?_) (fun e0 => ⟨is, pk_eq (sg_kd K s) 1 (fun e => ?_) (fun e1 => ⟨is, pk_eq (sg_kd K s) 2 (fun e => ?_) (fun e2 => ⟨is, pk_eq (sg_kd K s) 3 (fun e => ?_) (fun e3 => ⟨is, pk_eq (sg_kd K s) 4 (fun e => ?_) (fun e4 => ⟨is, pk_eq (sg_kd K s) 5 (fun e => ?_) (fun e5 => ⟨is, pk_eq (sg_kd K s) 7 (fun e => ?_) (fun e7 => ⟨is, pk_eq (sg_kd K s) 6 (fun e => ?_) (fun e6 => ?_)⟩)⟩)⟩)⟩)⟩)⟩)⟩)⟩
  · refine ⟨is, is, ?_⟩
    rw [← ((sg_Ru_0 e).mp hr).2]
    exact g _ _
  · rcases ((sg_Ru_1 e).mp hr).2 with ⟨f, h1⟩ | ⟨f, h1⟩
    · refine pk_eq k 0 (fun _ => ⟨is, ?_⟩) (fun f' => absurd f f')
      rw [← h1]
      exact g _ _
    · have hb := wb (by omega)
      have ek : nI k - 1 = nI (k - 1) := by
        rw [show k = k - 1 + 1 by omega, nI_pred]
        rfl
      rw [hb.1, ek]
      exact pk_eq k 0 (fun f' => absurd f' f) (fun _ => ⟨is, sg_y_at hb.2 h1 (g _ _)⟩)
  · have hb := wa (by omega)
    rw [hb.1, nI_1]
    exact ⟨is, sg_y_at hb.2 ((sg_Ru_2 e).mp hr).2 (g _ _)⟩
  · have ha' := wa (by omega)
    have hb' := wb (by omega)
    obtain ⟨x, y, h1, h2, h3⟩ := ((sg_Ru_3 e).mp hr).2
    rw [ha'.1, hb'.1]
    refine ⟨is, sg_y_at ha'.2 h1 ⟨is, sg_y_at hb'.2 h2 ?_⟩⟩
    rw [← h3]
    exact g _ _
  · have ha' := wa (by omega)
    have hb' := wb (by omega)
    obtain ⟨x, y, h1, h2, h3⟩ := ((sg_Ru_4 e).mp hr).2
    rw [ha'.1, hb'.1]
    refine ⟨is, sg_y_at ha'.2 h1 ⟨is, sg_y_at hb'.2 h2 ?_⟩⟩
    rw [← h3]
    exact g _ _
  · have hb' := wb (by omega)
    obtain ⟨y, h2, h3⟩ := ((sg_Ru_5 e).mp hr).2
    rw [hb'.1]
    refine ⟨is, is, sg_y_at hb'.2 h2 ?_⟩
    rw [← h3]
    exact g _ _
  · have ha' := wa (by omega)
    have hb' := wb (by omega)
    rw [ha'.1, hb'.1]
    rcases ((sg_Ru_7 e).mp hr).2 with ⟨f, h1⟩ | ⟨f, h1⟩
    · exact ⟨by decide, pk_eq (k % 2) 0 (fun _ => ⟨is, by decide, sg_y_at ha'.2 h1 (g _ _)⟩) (fun f' => absurd f f')⟩
    · exact ⟨by decide, pk_eq (k % 2) 0 (fun f' => absurd f' (by omega)) (fun _ => ⟨is, by decide, sg_y_at hb'.2 h1 (g _ _)⟩)⟩
  · have ha' := wa (by omega)
    refine Exists.intro (k + 2) (sg_y_w246 hs hk hsup e ha'.1 ha'.2 (fun j hj => ?_) hr (g _ _) (k + 2) 0 0 (by omega) (by omega) (fun _ => Or.inl ⟨rfl, rfl⟩) (fun h => absurd h (by omega)))
    rcases hr.1 with h1 | ⟨w, h1⟩
    · omega
    · exact sg_Tb_le hs hsup h1 j (by omega)
  · have e : sg_kd K s = 8 := by omega
    have ha' := wa (by omega)
    have hb' := wb (by omega)
    obtain ⟨P, Q, x, y, hP, h1, h2, h3⟩ := ((sg_Ru_8 e).mp hr).2
    refine sg_y_walk hs (by omega) ha'.1 ha'.2 hb'.1 hb'.2 hP ⟨is, ?_⟩
    dsimp only
    rw [ha'.1]
    refine sg_y_at ha'.2 h1 ⟨is, ?_⟩
    rw [hb'.1]
    refine sg_y_at hb'.2 h2 (br_c (fun c => ?_) (fun c => ?_))
    · rw [if_pos c] at h3
      rw [← h3]
      exact g _ _
    · rw [if_neg c] at h3
      rw [← h3]
      exact g _ _
end
end
section
/-! the reference's walks: sweep, fill -/
def sg_cn (ha : Nat → Int32) : Nat → Nat
  | 0 => 0
  | n + 1 => sg_cn ha n + (if ha n = 0 then 0 else 1)
theorem sg_cn_s {ha : Nat → Int32} {n : Nat} : sg_cn ha (n + 1) = sg_cn ha n + (if ha n = 0 then 0 else 1) := rfl
theorem sg_cn_le (ha : Nat → Int32) : ∀ n, sg_cn ha n ≤ n := by
  intro n
  induction n with
  | zero => exact Nat.le_refl _
  | succ n ih =>
    rw [sg_cn_s]
    split <;> omega
theorem sg_cn_upd {ha : Nat → Int32} {i : Nat} (h : ha i = 0) : ∀ n, sg_cn (upd ha i 1) n = sg_cn ha n + (if i < n then 1 else 0) := by
  intro n
  induction n with
  | zero =>
    rw [if_neg (Nat.not_lt_zero i)]
    rfl
  | succ n ih =>
    rw [sg_cn_s, sg_cn_s, ih]
    by_cases e : n = i
    · subst e
      rw [pk_us, h, if_neg (by omega), if_neg (by decide), if_pos rfl, if_pos (by omega)]
    · rw [pk_un e]
      by_cases e2 : i < n
      · rw [if_pos e2, if_pos (show i < n + 1 by omega)]
        omega
      · rw [if_neg e2, if_neg (show ¬ i < n + 1 by omega)]
        omega
def sg_YI (K A B ha va : Nat → Int32) : Prop := (∀ s k v, s < 6 → sg_Tb ha va s k v → sg_Ru K A B (sg_Tb ha va) s k v) ∧ (∀ s k v, s < 6 → sg_Tb ha va s k v → sg_H K A B s k v)
def sg_Cl (K A B ha va : Nat → Int32) : Prop := ∀ s k, s < 6 → k ≤ 20 → (∃ v, sg_Ru K A B (sg_Tb ha va) s k v) → ∃ v, sg_Tb ha va s k v
def sg_SW (K A B ha0 va0 : Nat → Int32) (x1 : Int32) (ha va : Nat → Int32) (k s : Nat) : Prop := sg_YI K A B ha va ∧ ((x1 = 0 ∧ ha = ha0 ∧ va = va0 ∧ ∀ s' k', s' < 6 → k' ≤ 20 → (k' < k ∨ (k' = k ∧ s' < s)) → (∃ v, sg_Ru K A B (sg_Tb ha0 va0) s' k' v) → ∃ v, sg_Tb ha0 va0 s' k' v) ∨ (x1 = 1 ∧ sg_cn ha0 126 < sg_cn ha 126))
section
variable {K A B : Nat → Int32}
theorem sg_YI_add (W : sg_wf K A B) {ha va : Nat → Int32} {s k : Nat} {v : Int32} (hs : s < 6) (hk : k ≤ 20) (h0 : ha (21 * s + k) = 0) (hI : sg_YI K A B ha va) (hr : sg_Ru K A B (sg_Tb ha va) s k v) : sg_YI K A B (upd ha (21 * s + k) 1) (upd va (21 * s + k) v) := by
  have up : ∀ s' k' v', sg_Tb ha va s' k' v' → sg_Tb (upd ha (21 * s + k) 1) (upd va (21 * s + k) v) s' k' v' := by
    intro s' k' v' ⟨h1, h2, h3⟩
    have ne : 21 * s' + k' ≠ 21 * s + k := by
      intro e
      rw [e] at h2
      exact h2 h0
    refine ⟨h1, ?_, ?_⟩
    · rw [pk_un ne]
      exact h2
    · rw [pk_un ne]
      exact h3
  have dn : ∀ s' k' v', sg_Tb (upd ha (21 * s + k) 1) (upd va (21 * s + k) v) s' k' v' → (s' = s ∧ k' = k ∧ v' = v) ∨ sg_Tb ha va s' k' v' := by
    intro s' k' v' ⟨h1, h2, h3⟩
    by_cases e : 21 * s' + k' = 21 * s + k
    · rw [e, pk_us] at h3
      exact Or.inl ⟨by omega, by omega, h3.symm⟩
    · rw [pk_un e] at h2 h3
      exact Or.inr ⟨h1, h2, h3⟩
  refine ⟨fun s' k' v' hs' h => ?_, fun s' k' v' hs' h => ?_⟩
  · rcases dn _ _ _ h with ⟨e1, e2, e3⟩ | h'
    · subst e1 e2 e3
      exact sg_Ru_mono W hs (fun d m x _ _ hx => up d m x hx) hr
    · exact sg_Ru_mono W hs' (fun d m x _ _ hx => up d m x hx) (hI.1 _ _ _ hs' h')
  · rcases dn _ _ _ h with ⟨e1, e2, e3⟩ | h'
    · subst e1 e2 e3
      exact sg_H_cl W hs (sg_Ru_mono W hs (fun d m x hd _ hx => hI.2 d m x hd hx) hr)
    · exact hI.2 _ _ _ hs' h'
theorem sg_y_s12 (W : sg_wf K A B) {ha0 va0 : Nat → Int32} {post : Int32 → SY → Prop} {J4 : Int32 → Int32 → Int32 → Int32 → (Nat → Int32) → (Nat → Int32) → (Nat → Int32) → (Nat → Int32) → (Nat → Int32) → Prop} {k : Nat} (hk : k ≤ 20) (g : ∀ x1 pA pB ha va, sg_SW K A B ha0 va0 x1 ha va (k + 1) 0 → J4 x1 (nI (k + 1)) pA pB K A B ha va) : ∀ (f s : Nat) (x1 pA pB : Int32) (ha va : Nat → Int32), s ≤ 6 → 6 - s < f → sg_SW K A B ha0 va0 x1 ha va k s → wY_sweep_12 post J4 (nI k) f x1 (nI s) pA pB K A B ha va := by
  intro f
  induction f with
  | zero =>
    intro s x1 pA pB ha va _ hf
    omega
  | succ f ih =>
    intro s x1 pA pB ha va hs hf hW
    rw [wY_sweep_12]
    dsimp only
    refine pk_le 6 s (fun e => ?_) (fun e => ?_)
    · rw [nI_1]
      refine nm_e (g _ _ _ _ _ ⟨hW.1, ?_⟩)
      rcases hW.2 with ⟨h1, h2, h3, h4⟩ | h1
      · refine Or.inl ⟨h1, h2, h3, fun s' k' hs' hk' hlt => h4 s' k' hs' hk' ?_⟩
        omega
      · exact Or.inr h1
    · rw [sg_21, nI_clamp (show 21 * s + k < 2 ^ 31 by omega), nI_1, sg_n1]
      refine ⟨vp_in_nI (by omega) (by omega), br_c (fun h0 => ?_) (fun h0 => ?_)⟩
      · refine sg_y_needs W e hk hW.1.1 (fun pA' pB' hr => br_f (by decide) ?_) (fun pA' pB' hr => br_t rfl (nm_e ?_))
        · obtain ⟨v, hr⟩ := hr
          refine sg_y_worth W e hk hW.1.1 hr (fun pA2 pB2 => ⟨vp_in_nI (by omega) (by omega), nm_e ⟨vp_in_nI (by omega) (by omega), nm_e (nm_e ?_)⟩⟩)
          refine ih (s + 1) 1 pA2 pB2 _ _ (by omega) (by omega) ⟨sg_YI_add W e hk h0 hW.1 hr, Or.inr ⟨rfl, ?_⟩⟩
          rw [sg_cn_upd h0, if_pos (by omega)]
          rcases hW.2 with ⟨_, h2, _⟩ | ⟨_, h1⟩
          · rw [h2]
            omega
          · omega
        · refine ih (s + 1) x1 pA' pB' ha va (by omega) (by omega) ⟨hW.1, ?_⟩
          rcases hW.2 with ⟨h1, h2, h3, h4⟩ | h1
          · refine Or.inl ⟨h1, h2, h3, fun s' k' hs' hk' hlt hv => ?_⟩
            by_cases en : k' = k ∧ s' = s
            · rw [en.1, en.2, ← h2, ← h3] at hv
              exact absurd hv hr
            · exact h4 s' k' hs' hk' (by omega) hv
          · exact Or.inr h1
      · refine nm_e (ih (s + 1) x1 pA pB ha va (by omega) (by omega) ⟨hW.1, ?_⟩)
        rcases hW.2 with ⟨h1, h2, h3, h4⟩ | h1
        · refine Or.inl ⟨h1, h2, h3, fun s' k' hs' hk' hlt hv => ?_⟩
          by_cases en : k' = k ∧ s' = s
          · rw [en.1, en.2, ← h2]
            exact ⟨_, hk, h0, rfl⟩
          · exact h4 s' k' hs' hk' (by omega) hv
        · exact Or.inr h1
theorem sg_y_s4 (W : sg_wf K A B) {ha0 va0 : Nat → Int32} {post : Int32 → SY → Prop} (g : ∀ x1 pA pB ha va, sg_SW K A B ha0 va0 x1 ha va 21 0 → post x1 (pA, pB, K, A, B, ha, va)) : ∀ (f k : Nat) (x1 pA pB : Int32) (ha va : Nat → Int32), k ≤ 21 → 21 - k < f → sg_SW K A B ha0 va0 x1 ha va k 0 → wY_sweep_4 post f x1 (nI k) pA pB K A B ha va := by
  intro f
  induction f with
  | zero =>
    intro k x1 pA pB ha va _ hf
    omega
  | succ f ih =>
    intro k x1 pA pB ha va hk hf hW
    rw [wY_sweep_4]
    dsimp only
    refine pk_lt 20 k (fun e => ?_) (fun e => ?_)
    · have ek : k = 21 := by omega
      subst ek
      refine ⟨?_, g _ _ _ _ _ hW⟩
      rcases hW.2 with ⟨h1, _⟩ | ⟨h1, _⟩
      · rw [h1]
        exact narrow_b0
      · rw [h1]
        exact narrow_b1
    · exact Exists.intro 7 (sg_y_s12 W e (fun x1 pA pB ha va hW' => ih (k + 1) x1 pA pB ha va (by omega) (by omega) hW') 7 0 x1 pA pB ha va (by omega) (by omega) hW)
theorem sg_y_sweep (W : sg_wf K A B) {pA pB : Int32} {ha va : Nat → Int32} (hI : sg_YI K A B ha va) {post : Int32 → SY → Prop} (g : ∀ x1 pA pB ha' va', sg_SW K A B ha va x1 ha' va' 21 0 → post x1 (pA, pB, K, A, B, ha', va')) : wpY_sweep post (pA, pB, K, A, B, ha, va) :=
  Exists.intro 22 (sg_y_s4 W g 22 0 0 pA pB ha va (by omega) (by omega) ⟨hI, Or.inl ⟨rfl, rfl, rfl, fun s' k' _ _ h => absurd h (by omega)⟩⟩)
theorem sg_y_f25 (W : sg_wf K A B) {post : SY → Prop} (g : ∀ pA pB ha va, sg_YI K A B ha va → sg_Cl K A B ha va → post (pA, pB, K, A, B, ha, va)) : ∀ (f r : Nat) (x1 pA pB : Int32) (ha va : Nat → Int32), r ≤ 127 → 127 - r < f → sg_YI K A B ha va → ((x1 = 0 ∧ sg_Cl K A B ha va) ∨ (x1 ≠ 0 ∧ r ≤ sg_cn ha 126)) → wY_fill_25 post f x1 (nI r) pA pB K A B ha va := by
  intro f
  induction f with
  | zero =>
    intro r x1 pA pB ha va _ hf
    omega
  | succ f ih =>
    intro r x1 pA pB ha va hr hf hI hx
    rw [wY_fill_25]
    dsimp only
    refine pk_le 127 r (fun e => ?_) (fun e => br_c (fun h0 => ?_) (fun h0 => ?_))
    · rcases hx with ⟨_, h⟩ | ⟨_, h⟩
      · exact g _ _ _ _ hI h
      · have := sg_cn_le ha 126
        omega
    · rcases hx with ⟨_, h⟩ | ⟨h, _⟩
      · exact g _ _ _ _ hI h
      · exact absurd h0 h
    · have hc : r ≤ sg_cn ha 126 := by
        rcases hx with ⟨h, _⟩ | ⟨_, h⟩
        · exact absurd h h0
        · exact h
      rw [nI_1]
      refine sg_y_sweep W hI (fun x1' pA' pB' ha' va' hW => nm_e (ih (r + 1) x1' pA' pB' ha' va' (by omega) (by omega) hW.1 ?_))
      rcases hW.2 with ⟨h1, h2, h3, h4⟩ | ⟨h1, h2⟩
      · refine Or.inl ⟨h1, fun s k hs hk => ?_⟩
        rw [h2, h3]
        exact h4 s k hs hk (by omega)
      · refine Or.inr ⟨?_, by omega⟩
        rw [h1]
        decide
def sg_Full (K A B ha va : Nat → Int32) : Prop := ∀ s k v, s < 6 → k ≤ 15 → (sg_H K A B s k v ↔ sg_Tb ha va s k v)
theorem sg_y_f2 (W : sg_wf K A B) {va : Nat → Int32} {pA pB : Int32} {post : SY → Prop} (g : ∀ pA pB ha va, sg_Full K A B ha va → post (pA, pB, K, A, B, ha, va)) : ∀ (f i : Nat) (ha : Nat → Int32), i ≤ 126 → 126 - i < f → (∀ j, j < i → ha j = 0) → wY_fill_2 post pA pB f (nI i) K A B ha va := by
  intro f
  induction f with
  | zero =>
    intro i ha _ hf
    omega
  | succ f ih =>
    intro i ha hi hf h0
    rw [wY_fill_2]
    dsimp only
    refine pk_le 126 i (fun e => ?_) (fun e => ?_)
    · have hno : ∀ s k v, s < 6 → ¬ sg_Tb ha va s k v := by
        intro s k v hs ⟨h1, h2, _⟩
        exact h2 (h0 _ (by omega))
      refine Exists.intro 128 (sg_y_f25 W (fun pA pB ha va hI hC => g _ _ _ _ (fun s k v hs hk => ⟨fun h => ?_, fun h => hI.2 s k v hs h⟩)) 128 0 1 pA pB ha va (by omega) (by omega) ⟨fun s k v hs h => absurd h (hno s k v hs), fun s k v hs h => absurd h (hno s k v hs)⟩ (Or.inr ⟨by decide, by omega⟩))
      exact sg_tab_full W (Tb := sg_Tb ha va) (fun s k v hs h => hI.2 s k v hs h) (fun s k v h => h.1) (fun s k v hs hk h => hC s k hs hk ⟨v, h⟩) (fun s k v hs h => sg_Tb_dn hs hI.1 h) hs hk h
    · rw [nI_clamp (show i < 2 ^ 31 by omega), nI_1, sg_n0]
      refine ⟨vp_in_nI e (by omega), nm_e (nm_e (ih (i + 1) _ (by omega) (by omega) (fun j hj => ?_)))⟩
      by_cases ej : j = i
      · rw [ej, pk_us]
      · rw [pk_un ej]
        exact h0 j (by omega)
theorem sg_y_fill (W : sg_wf K A B) {ha va : Nat → Int32} {pA pB : Int32} {post : SY → Prop} (g : ∀ pA pB ha va, sg_Full K A B ha va → post (pA, pB, K, A, B, ha, va)) : wpY_fill post (pA, pB, K, A, B, ha, va) :=
  Exists.intro 127 (sg_y_f2 W g 127 0 ha (by omega) (by omega) (fun j hj => absurd hj (Nat.not_lt_zero j)))
end
end
section
/-! the relation; reach as a whole; small tests of both sides -/
def sg_XG (K A B : Nat → Int32) (u : SX) : Prop :=
  (∃ fa ft fn : Int32, ∃ so nu st lf ri bu mv ro ka : Nat → Int32, u = (0, fa, ft, fn, K, A, B, so, nu, st, lf, ri, bu, mv, ro, ka)) ∨
  (∃ top : Nat, ∃ c lt li S L R : Nat → Nat, ∃ fn : Int32, ∃ so nu st lf ri bu mv ro ka : Nat → Int32, u = (1, 0, nI top, fn, K, A, B, so, nu, st, lf, ri, bu, mv, ro, ka) ∧ sg_HI K A B top c lt li S L R nu st ∧ sg_LK top S L R so lf ri ∧ (∀ s, s < 6 → ro s = nI s) ∧ (∀ y, y < top → bu y = 0))
section
variable {K A B : Nat → Int32}
theorem sg_x_reach (W : sg_wf K A B) {s k : Nat} (hs : s < 6) (hk : k ≤ 15) {post : Int32 → SX → Prop} {u : SX} (hX : sg_XG K A B u) (g : ∀ r u', sg_Done K A B s k r u' → post r u') : wpX_reach post u (nI s) (nI k) := by
  have key : ∀ (top : Nat) (c lt li S L R : Nat → Nat) (fn : Int32) (so nu st lf ri bu mv ro ka : Nat → Int32), sg_HI K A B top c lt li S L R nu st → sg_LK top S L R so lf ri → (∀ s, s < 6 → ro s = nI s) → (∀ y, y < top → bu y = 0) → vp_in (nI s) 6 ∧ wpX_force (fun r u => match u with | (a1, a2, a3, a4, a5, a6, a7, a8, a9, a10, a11, a12, a13, a14, a15, a16) => ∃ n18 : Nat, wX_reach_18 post (nI k) n18 r 0 a1 a2 a3 a4 a5 a6 a7 a8 a9 a10 a11 a12 a13 a14 a15 a16) (1, 0, nI top, fn, K, A, B, so, nu, st, lf, ri, bu, mv, ro, ka) (ro (nI s).toNatClampNeg) := by
    intro top c lt li S L R fn so nu st lf ri bu mv ro ka h lk hro hb
    have t6 := sg_hi_t6 h
    rw [nI_clamp (show s < 2 ^ 31 by omega), hro s hs]
    refine ⟨vp_in_nI hs (by omega), sg_x_force (q := 0) W hs (by omega) hro (fun r u' hD => ?_) h lk hb (by omega) ⟨fun z hz => absurd hz (Nat.not_lt_zero z), rfl⟩⟩
    have := sg_x_reach18 W hs hk g (k + 1) 0 r u' hD (by omega) (by omega)
    obtain ⟨_, _, _, _, _, _, _, _, _, _, _, _, _, _, _, _, rfl, _⟩ := hD
    exact Exists.intro (k + 1) this
  rcases hX with ⟨fa, ft, fn, so, nu, st, lf, ri, bu, mv, ro, ka, rfl⟩ | ⟨top, c, lt, li, S, L, R, fn, so, nu, st, lf, ri, bu, mv, ro, ka, rfl, h, lk, hro, hb⟩
  · unfold wpX_reach
    dsimp only
    refine br_t rfl (Exists.intro 7 (sg_x_b25 W (fun so nu st lf ri bu ro hB => ?_) 7 0 so nu st lf ri bu ro (by omega) (by omega) (fun x hx => absurd hx (Nat.not_lt_zero x))))
    exact key 6 _ _ _ _ _ _ fn so nu st lf ri bu mv ro ka (sg_HI_0 W (fun x hx => (hB x hx).2.2.2.1) (fun x hx => (hB x hx).2.2.2.2.1)) (fun x hx => ⟨(hB x hx).1, (hB x hx).2.1, (hB x hx).2.2.1⟩) (fun x hx => (hB x hx).2.2.2.2.2.2) (fun x hx => (hB x hx).2.2.2.2.2.1)
  · unfold wpX_reach
    dsimp only
    exact br_f (by decide) (key top c lt li S L R fn so nu st lf ri bu mv ro ka h lk hro hb)
/-- reach with the two answers apart -/
theorem sg_x_reach2 (W : sg_wf K A B) {s k : Nat} (hs : s < 6) (hk : k ≤ 15) {post : Int32 → SX → Prop} {u : SX} (hX : sg_XG K A B u)
    (gy : ∀ (y : Nat) (f3 : Int32) (so nu st lf ri bu mv ro ka : Nat → Int32), sg_XG K A B (1, 0, f3, 0, K, A, B, so, nu, st, lf, ri, bu, mv, ro, ka) → y < 512 → sg_H K A B s k (nu y) → post (nI y) (1, 0, f3, 0, K, A, B, so, nu, st, lf, ri, bu, mv, ro, ka))
    (gn : ∀ (f3 : Int32) (so nu st lf ri bu mv ro ka : Nat → Int32), sg_XG K A B (1, 0, f3, 0, K, A, B, so, nu, st, lf, ri, bu, mv, ro, ka) → (¬ ∃ v, sg_H K A B s k v) → post (-1) (1, 0, f3, 0, K, A, B, so, nu, st, lf, ri, bu, mv, ro, ka)) : wpX_reach post u (nI s) (nI k) := by
  refine sg_x_reach W hs hk hX (fun r u' hD => ?_)
  obtain ⟨top, c, lt, li, S, L, R, so, nu, st, lf, ri, bu, mv, ro, ka, rfl, h, lk, hro, hb, hr⟩ := hD
  have hX' : sg_XG K A B (1, 0, nI top, 0, K, A, B, so, nu, st, lf, ri, bu, mv, ro, ka) := Or.inr ⟨top, c, lt, li, S, L, R, 0, so, nu, st, lf, ri, bu, mv, ro, ka, rfl, h, lk, hro, hb⟩
  have t := sg_hi_le h
  rcases hr with ⟨y, rfl, hy, e9, wy⟩ | ⟨rfl, hno⟩
  · exact gy y _ _ _ _ _ _ _ _ _ _ hX' (by omega) ((sg_SL W h k s y hs wy).2 0 _ (sg_hi_cell h hy e9).1)
  · exact gn _ _ _ _ _ _ _ _ _ _ hX' hno
end
theorem sg_seq (x : Int32) : (∃ j, j < 6 ∧ x = nI j) ∨ (x < 0 ∨ (¬ x < 0 ∧ 5 < x)) := by
  rcases pk_ix x (n := 6) (by omega) with h | h | h
  · exact Or.inr (Or.inl h)
  · refine Or.inr (Or.inr ⟨?_, ?_⟩)
    · intro h0
      have := Int32.lt_of_le_of_lt h h0
      exact absurd this (by decide)
    · exact Int32.lt_of_lt_of_le (by decide) h
  · exact Or.inl h
theorem sg_nI_seq {x : Int32} (h : x < 0 ∨ (¬ x < 0 ∧ 5 < x)) : ¬ ∃ j, j < 6 ∧ x = nI j := by
  rintro ⟨j, hj, rfl⟩
  rcases h with h | ⟨_, h⟩
  · exact nI_pos (by omega) h
  · exact absurd ((nI_ltI (a := 5) (b := j) (by omega) (by omega)).mp h) (by omega)
section
variable {fb fa ft fn : Int32} {dA dB dC so nu st lf ri bu mv ro ka : Nat → Int32} {pA pB : Int32} {K A B ha va : Nat → Int32}
theorem sg_isX1 {post : Int32 → Prop} {j : Nat} (hj : j < 6) (g : post 1) : wpX_isSequence post (fb, fa, ft, fn, dA, dB, dC, so, nu, st, lf, ri, bu, mv, ro, ka) (nI j) :=
  br_f (nI_pos (by omega)) (pk_lt 5 j (fun h => absurd h (by omega)) (fun _ => g))
theorem sg_isX0 {post : Int32 → Prop} {x : Int32} (h : x < 0 ∨ (¬ x < 0 ∧ 5 < x)) (g : post 0) : wpX_isSequence post (fb, fa, ft, fn, dA, dB, dC, so, nu, st, lf, ri, bu, mv, ro, ka) x := by
  rcases h with h | ⟨h1, h2⟩
  · exact br_t h g
  · exact br_f h1 (br_t h2 g)
theorem sg_isY1 {post : Int32 → Prop} {j : Nat} (hj : j < 6) (g : post 1) : wpY_isSequence post (pA, pB, K, A, B, ha, va) (nI j) :=
  br_f (nI_pos (by omega)) (pk_lt 5 j (fun h => absurd h (by omega)) (fun _ => g))
theorem sg_isY0 {post : Int32 → Prop} {x : Int32} (h : x < 0 ∨ (¬ x < 0 ∧ 5 < x)) (g : post 0) : wpY_isSequence post (pA, pB, K, A, B, ha, va) x := by
  rcases h with h | ⟨h1, h2⟩
  · exact br_t h g
  · exact br_f h1 (br_t h2 g)
theorem sg_nA {post : Int32 → Prop} {k : Nat} (hk : k ≤ 8) (g1 : 2 ≤ k ∧ k ≠ 5 → post 1) (g0 : ¬ (2 ≤ k ∧ k ≠ 5) → post 0) : wpY_namesA post (pA, pB, K, A, B, ha, va) (nI k) :=
  pk_eq k 2 (fun e => g1 (by omega)) (fun e => pk_eq k 3 (fun e => g1 (by omega)) (fun e => pk_eq k 4 (fun e => g1 (by omega)) (fun e => pk_eq k 6 (fun e => g1 (by omega)) (fun e => pk_eq k 7 (fun e => g1 (by omega)) (fun e => pk_eq k 8 (fun e => g1 (by omega)) (fun e => g0 (by omega)))))))
theorem sg_nB {post : Int32 → Prop} {k : Nat} (hk : k ≤ 8) (g1 : k = 1 ∨ k = 3 ∨ k = 4 ∨ k = 5 ∨ k = 7 ∨ k = 8 → post 1) (g0 : ¬ (k = 1 ∨ k = 3 ∨ k = 4 ∨ k = 5 ∨ k = 7 ∨ k = 8) → post 0) : wpY_namesB post (pA, pB, K, A, B, ha, va) (nI k) :=
  pk_eq k 1 (fun e => g1 (by omega)) (fun e => pk_eq k 3 (fun e => g1 (by omega)) (fun e => pk_eq k 4 (fun e => g1 (by omega)) (fun e => pk_eq k 5 (fun e => g1 (by omega)) (fun e => pk_eq k 7 (fun e => g1 (by omega)) (fun e => pk_eq k 8 (fun e => g1 (by omega)) (fun e => g0 (by omega)))))))
/-- what define takes -/
def sg_D (v1 v2 v3 v4 : Int32) (s j : Nat) : Prop := s < 6 ∧ j ≤ 8 ∧ v1 = nI s ∧ v2 = nI j ∧ (2 ≤ j ∧ j ≠ 5 → ∃ a, a < 6 ∧ v3 = nI a) ∧ (j = 1 ∨ j = 3 ∨ j = 4 ∨ j = 5 ∨ j = 7 ∨ j = 8 → ∃ b, b < 6 ∧ v4 = nI b)
theorem sg_kind (x : Int32) : (∃ j, j ≤ 8 ∧ x = nI j) ∨ (x < 0 ∨ (¬ x < 0 ∧ ¬ x ≤ 8)) := by
  by_cases h0 : x < 0
  · exact Or.inr (Or.inl h0)
  · by_cases h8 : x ≤ 8
    · obtain ⟨j, h1, h2⟩ := nI_of2 (M := 8) (n := 8) (by decide) h0 h8
      exact Or.inl ⟨j, h1, h2⟩
    · exact Or.inr (Or.inr ⟨h0, h8⟩)
theorem sg_nI_kind {x : Int32} (h : x < 0 ∨ (¬ x < 0 ∧ ¬ x ≤ 8)) : ¬ ∃ j, j ≤ 8 ∧ x = nI j := by
  rintro ⟨j, hj, rfl⟩
  rcases h with h | ⟨_, h⟩
  · exact nI_pos (by omega) h
  · exact h (nI_le (b := 8) hj (by decide))
end
end
section
/-! define, reset -/
section
variable {fb fa ft fn : Int32} {dA dB dC so nu st lf ri bu mv ro ka : Nat → Int32} {pA pB : Int32} {K A B ha va : Nat → Int32}
theorem sg_D_kind {v1 v2 v3 v4 : Int32} (h : ¬ ∃ j, j ≤ 8 ∧ v2 = nI j) : ¬ ∃ s j, sg_D v1 v2 v3 v4 s j := by
  rintro ⟨s, j, _, d2, _, d4, _⟩
  exact h ⟨j, d2, d4⟩
theorem sg_D_seq {v1 v2 v3 v4 : Int32} (h : ¬ ∃ j, j < 6 ∧ v1 = nI j) : ¬ ∃ s j, sg_D v1 v2 v3 v4 s j := by
  rintro ⟨s, j, d1, _, d3, _⟩
  exact h ⟨s, d1, d3⟩
theorem sg_D_a {v1 v3 v4 : Int32} {j : Nat} (hj : j ≤ 8) (hA : 2 ≤ j ∧ j ≠ 5) (h : ¬ ∃ j, j < 6 ∧ v3 = nI j) : ¬ ∃ s j', sg_D v1 (nI j) v3 v4 s j' := by
  rintro ⟨s, j', _, d2, _, d4, d5, _⟩
  have e := (nI_eq (a := j) (b := j') (by omega) (by omega)).mp d4
  subst e
  exact h (d5 hA)
theorem sg_D_b {v1 v3 v4 : Int32} {j : Nat} (hj : j ≤ 8) (hB : j = 1 ∨ j = 3 ∨ j = 4 ∨ j = 5 ∨ j = 7 ∨ j = 8) (h : ¬ ∃ j, j < 6 ∧ v4 = nI j) : ¬ ∃ s j', sg_D v1 (nI j) v3 v4 s j' := by
  rintro ⟨s, j', _, d2, _, d4, _, d6⟩
  have e := (nI_eq (a := j) (b := j') (by omega) (by omega)).mp d4
  subst e
  exact h (d6 hB)
theorem sg_dX {post : Int32 → SX → Prop} {v1 v2 v3 v4 : Int32} (g1 : ∀ s j, sg_D v1 v2 v3 v4 s j → post 1 (0, fa, ft, fn, upd dA s (nI j), upd dB s v3, upd dC s v4, so, nu, st, lf, ri, bu, mv, ro, ka)) (g0 : (¬ ∃ s j, sg_D v1 v2 v3 v4 s j) → post 0 (fb, fa, ft, fn, dA, dB, dC, so, nu, st, lf, ri, bu, mv, ro, ka)) : wpX_define post (fb, fa, ft, fn, dA, dB, dC, so, nu, st, lf, ri, bu, mv, ro, ka) v1 v2 v3 v4 := by
  unfold wpX_define
  dsimp only
  rcases sg_seq v1 with ⟨s, hs, rfl⟩ | h1
  · refine sg_isX1 hs (br_f (by decide) ?_)
    rcases sg_kind v2 with ⟨j, hj, rfl⟩ | h2
    · refine br_f (nI_pos (by omega)) (br_t (nI_le (b := 8) hj (by decide)) ?_)
      have is : vp_in (nI s) 6 := vp_in_nI hs (by omega)
      have k57 : sg_D (nI s) (nI j) v3 v4 s j → wX_define_57 post (nI s) (nI j) v3 v4 fb fa ft fn dA dB dC so nu st lf ri bu mv ro ka := by
        intro hD
        unfold wX_define_57
        rw [nI_clamp (show s < 2 ^ 31 by omega), sg_byteT j (by omega)]
        exact ⟨is, nm_e ⟨is, nm_e ⟨is, nm_e (g1 s j hD)⟩⟩⟩
      have k38 : (2 ≤ j ∧ j ≠ 5 → ∃ a, a < 6 ∧ v3 = nI a) → wX_define_38 post (nI s) (nI j) v3 v4 fb fa ft fn dA dB dC so nu st lf ri bu mv ro ka := by
        intro hA
        unfold wX_define_38
        refine sg_wB hj (fun hB => br_f (by decide) ?_) (fun hB => br_t rfl (k57 ⟨hs, hj, rfl, rfl, hA, fun h => absurd h hB⟩))
        rcases sg_seq v4 with ⟨b, hb, rfl⟩ | h4
        · exact sg_isX1 hb (br_f (by decide) (k57 ⟨hs, hj, rfl, rfl, hA, fun _ => ⟨b, hb, rfl⟩⟩))
        · exact sg_isX0 h4 (br_t rfl (g0 (sg_D_b hj hB (sg_nI_seq h4))))
      refine sg_wA hj (fun hA => br_f (by decide) ?_) (fun hA => br_t rfl (k38 (fun h => absurd h hA)))
      rcases sg_seq v3 with ⟨a, ha, rfl⟩ | h3
      · exact sg_isX1 ha (br_f (by decide) (k38 (fun _ => ⟨a, ha, rfl⟩)))
      · exact sg_isX0 h3 (br_t rfl (g0 (sg_D_a hj hA (sg_nI_seq h3))))
    · have gg := g0 (sg_D_kind (sg_nI_kind h2))
      rcases h2 with h2 | ⟨h2, h3⟩
      · exact br_t h2 gg
      · exact br_f h2 (br_f h3 gg)
  · exact sg_isX0 h1 (br_t rfl (g0 (sg_D_seq (sg_nI_seq h1))))
theorem sg_dY {post : Int32 → SY → Prop} {v1 v2 v3 v4 : Int32} (g1 : ∀ s j, sg_D v1 v2 v3 v4 s j → post 1 (pA, pB, upd K s (nI j), upd A s v3, upd B s v4, ha, va)) (g0 : (¬ ∃ s j, sg_D v1 v2 v3 v4 s j) → post 0 (pA, pB, K, A, B, ha, va)) : wpY_define post (pA, pB, K, A, B, ha, va) v1 v2 v3 v4 := by
  unfold wpY_define
  dsimp only
  rcases sg_seq v1 with ⟨s, hs, rfl⟩ | h1
  · refine sg_isY1 hs (br_f (by decide) ?_)
    rcases sg_kind v2 with ⟨j, hj, rfl⟩ | h2
    · refine br_f (nI_pos (by omega)) (br_t (nI_le (b := 8) hj (by decide)) ?_)
      have is : vp_in (nI s) 6 := vp_in_nI hs (by omega)
      have k57 : sg_D (nI s) (nI j) v3 v4 s j → wY_define_55 post (nI s) (nI j) v3 v4 pA pB K A B ha va := by
        intro hD
        unfold wY_define_55
        rw [nI_clamp (show s < 2 ^ 31 by omega)]
        exact ⟨is, nm_e ⟨is, nm_e ⟨is, nm_e (g1 s j hD)⟩⟩⟩
      have k38 : (2 ≤ j ∧ j ≠ 5 → ∃ a, a < 6 ∧ v3 = nI a) → wY_define_36 post (nI s) (nI j) v3 v4 pA pB K A B ha va := by
        intro hA
        unfold wY_define_36
        refine sg_nB hj (fun hB => br_f (by decide) ?_) (fun hB => br_t rfl (k57 ⟨hs, hj, rfl, rfl, hA, fun h => absurd h hB⟩))
        rcases sg_seq v4 with ⟨b, hb, rfl⟩ | h4
        · exact sg_isY1 hb (br_f (by decide) (k57 ⟨hs, hj, rfl, rfl, hA, fun _ => ⟨b, hb, rfl⟩⟩))
        · exact sg_isY0 h4 (br_t rfl (g0 (sg_D_b hj hB (sg_nI_seq h4))))
      refine sg_nA hj (fun hA => br_f (by decide) ?_) (fun hA => br_t rfl (k38 (fun h => absurd h hA)))
      rcases sg_seq v3 with ⟨a, ha, rfl⟩ | h3
      · exact sg_isY1 ha (br_f (by decide) (k38 (fun _ => ⟨a, ha, rfl⟩)))
      · exact sg_isY0 h3 (br_t rfl (g0 (sg_D_a hj hA (sg_nI_seq h3))))
    · have gg := g0 (sg_D_kind (sg_nI_kind h2))
      rcases h2 with h2 | ⟨h2, h3⟩
      · exact br_t h2 gg
      · exact br_f h2 (br_f h3 gg)
  · exact sg_isY0 h1 (br_t rfl (g0 (sg_D_seq (sg_nI_seq h1))))
theorem sg_wf_D (W : sg_wf K A B) {v1 v2 v3 v4 : Int32} {s j : Nat} (hD : sg_D v1 v2 v3 v4 s j) : sg_wf (upd K s (nI j)) (upd A s v3) (upd B s v4) := by
  obtain ⟨d1, d2, d3, d4, d5, d6⟩ := hD
  intro s' hs'
  unfold sg_kd
  by_cases e : s' = s
  · rw [e, pk_us, pk_us, pk_us, nI_clamp (show j < 2 ^ 31 by omega)]
    refine ⟨rfl, d2, fun h => ?_, fun h => ?_⟩
    · obtain ⟨a, ha, rfl⟩ := d5 h
      rw [nI_clamp (show a < 2 ^ 31 by omega)]
      exact ⟨rfl, ha⟩
    · obtain ⟨a, ha, rfl⟩ := d6 h
      rw [nI_clamp (show a < 2 ^ 31 by omega)]
      exact ⟨rfl, ha⟩
  · rw [pk_un e, pk_un e, pk_un e]
    exact W s' hs'
end
def sg_rz (F : Nat → Int32) : Nat → Nat → Int32
  | 0 => F
  | i + 1 => upd (sg_rz F i) i 0
theorem sg_rz_0 {F : Nat → Int32} : ∀ {i s : Nat}, s < i → sg_rz F i s = 0 := by
  intro i
  induction i with
  | zero =>
    intro s h
    omega
  | succ i ih =>
    intro s h
    show upd (sg_rz F i) i 0 s = 0
    by_cases e : s = i
    · rw [e, pk_us]
    · rw [pk_un e]
      exact ih (by omega)
theorem sg_wf_rz (K A B : Nat → Int32) : sg_wf (sg_rz K 6) (sg_rz A 6) (sg_rz B 6) := by
  intro s hs
  have e : sg_kd (sg_rz K 6) s = 0 := by
    unfold sg_kd
    rw [sg_rz_0 hs]
    rfl
  rw [e, sg_rz_0 hs]
  exact ⟨rfl, by omega, fun h => absurd h (by omega), fun h => absurd h (by omega)⟩
section
variable {fb fa ft fn : Int32} {dA dB dC so nu st lf ri bu mv ro ka : Nat → Int32} {pA pB : Int32} {K A B ha va : Nat → Int32}
theorem sg_x_rs2 {post : SX → Prop} (g : post (0, fa, ft, fn, sg_rz K 6, sg_rz A 6, sg_rz B 6, so, nu, st, lf, ri, bu, mv, ro, ka)) : ∀ f i, i ≤ 6 → 6 - i < f → wX_reset_2 post fb fa ft fn f (nI i) (sg_rz K i) (sg_rz A i) (sg_rz B i) so nu st lf ri bu mv ro ka := by
  intro f
  induction f with
  | zero =>
    intro i _ hf
    omega
  | succ f ih =>
    intro i hi hf
    rw [wX_reset_2]
    dsimp only
    refine pk_le 6 i (fun e => ?_) (fun e => ?_)
    · have ei : i = 6 := by omega
      subst ei
      exact g
    · have is : vp_in (nI i) 6 := vp_in_nI e (by omega)
      rw [nI_clamp (show i < 2 ^ 31 by omega), nI_1, sg_by0]
      exact ⟨is, nm_e ⟨is, nm_e ⟨is, nm_e (nm_e (ih (i + 1) (by omega) (by omega)))⟩⟩⟩
theorem sg_x_reset {post : SX → Prop} (g : post (0, fa, ft, fn, sg_rz K 6, sg_rz A 6, sg_rz B 6, so, nu, st, lf, ri, bu, mv, ro, ka)) : wpX_reset post (fb, fa, ft, fn, K, A, B, so, nu, st, lf, ri, bu, mv, ro, ka) :=
  Exists.intro 7 (sg_x_rs2 g 7 0 (by omega) (by omega))
theorem sg_y_rs2 {post : SY → Prop} (g : post (pA, pB, sg_rz K 6, sg_rz A 6, sg_rz B 6, ha, va)) : ∀ f i, i ≤ 6 → 6 - i < f → wY_reset_2 post f (nI i) pA pB (sg_rz K i) (sg_rz A i) (sg_rz B i) ha va := by
  intro f
  induction f with
  | zero =>
    intro i _ hf
    omega
  | succ f ih =>
    intro i hi hf
    rw [wY_reset_2]
    dsimp only
    refine pk_le 6 i (fun e => ?_) (fun e => ?_)
    · have ei : i = 6 := by omega
      subst ei
      exact g
    · rw [nI_1]
      refine sg_dY (fun s j hD => nm_e ?_) (fun hD => ?_)
      · obtain ⟨d1, d2, d3, d4, d5⟩ := hD
        clear d5
        have e1 := (nI_eq (a := i) (b := s) (by omega) (by omega)).mp d3
        subst e1
        rw [← d4]
        exact ih (i + 1) (by omega) (by omega)
      · exact absurd ⟨i, 0, e, by omega, rfl, rfl, fun h => absurd h (by omega), fun h => absurd h (by omega)⟩ hD
theorem sg_y_reset {post : SY → Prop} (g : post (pA, pB, sg_rz K 6, sg_rz A 6, sg_rz B 6, ha, va)) : wpY_reset post (pA, pB, K, A, B, ha, va) :=
  Exists.intro 7 (sg_y_rs2 g 7 0 (by omega) (by omega))
end
end
section
/-! the questions: known, firstAbove, agree, on both sides against the least table -/
noncomputable def sg_b01 (p : Prop) : Nat := @ite Nat p (Classical.propDecidable p) 1 0
theorem sg_b1 {p : Prop} (h : p) : sg_b01 p = 1 := if_pos h
theorem sg_b0 {p : Prop} (h : ¬ p) : sg_b01 p = 0 := if_neg h
noncomputable def sg_ct (P : Nat → Prop) : Nat → Nat
  | 0 => 0
  | n + 1 => sg_ct P n + sg_b01 (P n)
theorem sg_ct_s {P : Nat → Prop} {n : Nat} : sg_ct P (n + 1) = sg_ct P n + sg_b01 (P n) := rfl
theorem sg_ct_stop {P : Nat → Prop} {k : Nat} : ∀ d, (∀ j, k ≤ j → ¬ P j) → sg_ct P (k + d) = sg_ct P k := by
  intro d h
  induction d with
  | zero => rfl
  | succ d ih =>
    show sg_ct P (k + d) + sg_b01 (P (k + d)) = _
    rw [ih, sg_b0 (h _ (by omega))]
    rfl
theorem sg_ct_all {P : Nat → Prop} : ∀ k, (∀ j, j < k → P j) → sg_ct P k = k := by
  intro k
  induction k with
  | zero =>
    intro _
    rfl
  | succ k ih =>
    intro h
    rw [sg_ct_s, ih (fun j hj => h j (by omega)), sg_b1 (h k (by omega))]
theorem sg_ct_le {P : Nat → Prop} : ∀ k, sg_ct P k ≤ k := by
  intro k
  induction k with
  | zero => exact Nat.le_refl _
  | succ k ih =>
    rw [sg_ct_s]
    by_cases h : P k
    · rw [sg_b1 h]
      omega
    · rw [sg_b0 h]
      omega
def sg_Pk (K A B : Nat → Int32) (s j : Nat) : Prop := ∃ v, sg_H K A B s j v
def sg_Pa (K A B : Nat → Int32) (s t j : Nat) : Prop := ∃ v, sg_H K A B s j v ∧ sg_H K A B t j v
/-- the answer of firstAbove -/
def sg_Fa (K A B : Nat → Int32) (s : Nat) (v r : Int32) : Prop := (∃ k w, k ≤ 15 ∧ r = nI k ∧ sg_H K A B s k w ∧ ¬ w ≤ v ∧ ∀ j, j < k → ∀ w', sg_H K A B s j w' → w' ≤ v) ∨ (r = -2 ∧ ∀ k, k ≤ 15 → ∀ w, sg_H K A B s k w → w ≤ v)
section
variable {K A B : Nat → Int32}
theorem sg_Pk_no (W : sg_wf K A B) {s k : Nat} (hs : s < 6) (h : ¬ ∃ v, sg_H K A B s k v) : ∀ j, k ≤ j → ¬ sg_Pk K A B s j := by
  rintro j hj ⟨v, hv⟩
  exact h (sg_H_le W hs hj hv)
theorem sg_x_kn12 (W : sg_wf K A B) {s : Nat} (hs : s < 6) {post : Int32 → SX → Prop} (g : ∀ u, sg_XG K A B u → post (nI (sg_ct (sg_Pk K A B s) 16)) u) : ∀ (f k : Nat) (u : SX), sg_XG K A B u → k ≤ 16 → 16 - k < f → (∀ j, j < k → sg_Pk K A B s j) → (match u with | (a1, a2, a3, a4, a5, a6, a7, a8, a9, a10, a11, a12, a13, a14, a15, a16) => wX_known_12 post (nI s) f (nI k) a1 a2 a3 a4 a5 a6 a7 a8 a9 a10 a11 a12 a13 a14 a15 a16) := by
  intro f
  induction f with
  | zero =>
    intro k u _ _ hf
    omega
  | succ f ih =>
    intro k u hX hk hf hall
    obtain ⟨a1, a2, a3, a4, a5, a6, a7, a8, a9, a10, a11, a12, a13, a14, a15, a16⟩ := u
    dsimp only
    rw [wX_known_12]
    dsimp only
    refine pk_le 16 k (fun e => ?_) (fun e => ?_)
    · have ek : k = 16 := by omega
      subst ek
      have := g _ hX
      rw [sg_ct_all 16 hall] at this
      exact this
    · rw [nI_1]
      refine sg_x_reach2 W hs (by omega) hX (fun y f3 so nu st lf ri bu mv ro ka hX' hy hv => ?_) (fun f3 so nu st lf ri bu mv ro ka hX' hno => ?_)
      · refine br_f (nI_pos (by omega)) (nm_e ?_)
        refine ih (k + 1) _ hX' (by omega) (by omega) (fun j hj => ?_)
        by_cases ej : j = k
        · rw [ej]
          exact ⟨_, hv⟩
        · exact hall j (by omega)
      · refine br_t (by decide) ?_
        have := g _ hX'
        have e2 := sg_ct_stop (P := sg_Pk K A B s) (k := k) (16 - k) (sg_Pk_no W hs hno)
        rw [show k + (16 - k) = 16 by omega, sg_ct_all k hall] at e2
        rw [e2] at this
        exact this
theorem sg_x_fa12 (W : sg_wf K A B) {s : Nat} (hs : s < 6) {v : Int32} {post : Int32 → SX → Prop} (g : ∀ r u, sg_Fa K A B s v r → sg_XG K A B u → post r u) : ∀ (f k : Nat) (u : SX), sg_XG K A B u → k ≤ 16 → 16 - k < f → (∀ j, j < k → ∀ w, sg_H K A B s j w → w ≤ v) → (match u with | (a1, a2, a3, a4, a5, a6, a7, a8, a9, a10, a11, a12, a13, a14, a15, a16) => wX_firstAbove_12 post (nI s) v f (nI k) a1 a2 a3 a4 a5 a6 a7 a8 a9 a10 a11 a12 a13 a14 a15 a16) := by
  intro f
  induction f with
  | zero =>
    intro k u _ _ hf
    omega
  | succ f ih =>
    intro k u hX hk hf hall
    obtain ⟨a1, a2, a3, a4, a5, a6, a7, a8, a9, a10, a11, a12, a13, a14, a15, a16⟩ := u
    dsimp only
    rw [wX_firstAbove_12]
    dsimp only
    refine pk_le 16 k (fun e => ?_) (fun e => ?_)
    · exact g _ _ (Or.inr ⟨rfl, fun j hj w hw => hall j (by omega) w hw⟩) hX
    · rw [nI_1]
      refine sg_x_reach2 W hs (by omega) hX (fun y f3 so nu st lf ri bu mv ro ka hX' hy hv => ?_) (fun f3 so nu st lf ri bu mv ro ka hX' hno => ?_)
      · refine br_t (nI_pos' (by omega)) ⟨vp_in_nI hy (by omega), ?_⟩
        rw [nI_clamp (show y < 2 ^ 31 by omega)]
        refine br_c (fun c => nm_e ?_) (fun c => ?_)
        · refine ih (k + 1) _ hX' (by omega) (by omega) (fun j hj w hw => ?_)
          by_cases ej : j = k
          · rw [ej] at hw
            rw [sg_H_det W hs hw hv]
            exact c
          · exact hall j (by omega) w hw
        · exact g _ _ (Or.inl ⟨k, _, by omega, rfl, hv, c, hall⟩) hX'
      · refine br_f (by decide) (g _ _ (Or.inr ⟨rfl, fun j hj w hw => ?_⟩) hX')
        by_cases ej : j < k
        · exact hall j ej w hw
        · exact absurd ⟨w, hw⟩ (sg_Pk_no W hs hno j (by omega))
theorem sg_x_ag23 (W : sg_wf K A B) {s t : Nat} (hs : s < 6) (ht : t < 6) {post : Int32 → SX → Prop} (g : ∀ u, sg_XG K A B u → post (nI (sg_ct (sg_Pa K A B s t) 16)) u) : ∀ (f k : Nat) (u : SX), sg_XG K A B u → k ≤ 16 → 16 - k < f → (match u with | (a1, a2, a3, a4, a5, a6, a7, a8, a9, a10, a11, a12, a13, a14, a15, a16) => wX_agree_23 post (nI s) (nI t) f (nI (sg_ct (sg_Pa K A B s t) k)) (nI k) a1 a2 a3 a4 a5 a6 a7 a8 a9 a10 a11 a12 a13 a14 a15 a16) := by
  have stop : ∀ k, k ≤ 16 → (∀ j, k ≤ j → ¬ sg_Pa K A B s t j) → ∀ u, sg_XG K A B u → post (nI (sg_ct (sg_Pa K A B s t) k)) u := by
    intro k hk hno u hX
    have := g _ hX
    have e2 := sg_ct_stop (P := sg_Pa K A B s t) (k := k) (16 - k) hno
    rw [show k + (16 - k) = 16 by omega] at e2
    rw [e2] at this
    exact this
  intro f
  induction f with
  | zero =>
    intro k u _ _ hf
    omega
  | succ f ih =>
    intro k u hX hk hf
    obtain ⟨a1, a2, a3, a4, a5, a6, a7, a8, a9, a10, a11, a12, a13, a14, a15, a16⟩ := u
    dsimp only
    rw [wX_agree_23]
    dsimp only
    refine pk_le 16 k (fun e => ?_) (fun e => ?_)
    · have ek : k = 16 := by omega
      subst ek
      exact g _ hX
    · rw [nI_1, nI_1]
      refine sg_x_reach2 W hs (by omega) hX (fun y f3 so nu st lf ri bu mv ro ka hX' hy hv => ?_) (fun f3 so nu st lf ri bu mv ro ka hX' hno => ?_)
      · refine br_t (nI_pos' (by omega)) ⟨vp_in_nI hy (by omega), ?_⟩
        rw [nI_clamp (show y < 2 ^ 31 by omega)]
        refine nm_e (sg_x_reach2 W ht (by omega) hX' (fun y2 f32 so2 nu2 st2 lf2 ri2 bu2 mv2 ro2 ka2 hX2 hy2 hv2 => ?_) (fun f32 so2 nu2 st2 lf2 ri2 bu2 mv2 ro2 ka2 hX2 hno => ?_))
        · refine br_t (nI_pos' (by omega)) ⟨vp_in_nI hy2 (by omega), ?_⟩
          rw [nI_clamp (show y2 < 2 ^ 31 by omega)]
          refine br_c (fun c => nm_e (nm_e ?_)) (fun c => nm_e ?_)
          · have := ih (k + 1) _ hX2 (by omega) (by omega)
            have c' : nu2 y2 = nu y := c
            rw [sg_ct_s, sg_b1 ⟨_, hv, by rw [← c']; exact hv2⟩] at this
            exact this
          · have hn : ¬ sg_Pa K A B s t k := by
              rintro ⟨w, h1, h2⟩
              exact c ((sg_H_det W ht hv2 h2).trans (sg_H_det W hs h1 hv))
            have := ih (k + 1) _ hX2 (by omega) (by omega)
            rw [sg_ct_s, sg_b0 hn] at this
            exact this
        · refine br_f (by decide) (stop k hk ?_ _ hX2)
          rintro j hj ⟨w, _, h2⟩
          exact sg_Pk_no W ht hno j hj ⟨w, h2⟩
      · refine br_f (by decide) (stop k hk ?_ _ hX')
        rintro j hj ⟨w, h1, _⟩
        exact sg_Pk_no W hs hno j hj ⟨w, h1⟩
end
section
variable {K A B ha va : Nat → Int32} {pA pB : Int32}
theorem sg_y_kn18 (F : sg_Full K A B ha va) {s : Nat} (hs : s < 6) {post : Int32 → SY → Prop} (g : post (nI (sg_ct (sg_Pk K A B s) 16)) (pA, pB, K, A, B, ha, va)) : ∀ f k, k ≤ 16 → 16 - k < f → wY_known_18 post (nI s) pA pB K A B ha va f (nI (sg_ct (sg_Pk K A B s) k)) (nI k) := by
  intro f
  induction f with
  | zero =>
    intro k _ hf
    omega
  | succ f ih =>
    intro k hk hf
    rw [wY_known_18]
    dsimp only
    refine pk_lt 15 k (fun e => ?_) (fun e => ?_)
    · have ek : k = 16 := by omega
      subst ek
      exact g
    · rw [nI_1, nI_1]
      have i1 := ih (k + 1) (by omega) (by omega)
      refine sg_y_has hs (by omega) (fun h => br_f (by decide) (nm_e (nm_e ?_))) (fun h => br_t rfl (nm_e ?_))
      · obtain ⟨v, h⟩ := h
        rw [sg_ct_s, sg_b1 ⟨v, (F s k v hs e).mpr h⟩] at i1
        exact i1
      · have hn : ¬ sg_Pk K A B s k := by
          rintro ⟨v, hv⟩
          exact h ⟨v, (F s k v hs e).mp hv⟩
        rw [sg_ct_s, sg_b0 hn] at i1
        exact i1
theorem sg_y_fa16 (W : sg_wf K A B) (F : sg_Full K A B ha va) {s : Nat} (hs : s < 6) {v r : Int32} (hr : sg_Fa K A B s v r) {post : Int32 → SY → Prop} (g : post r (pA, pB, K, A, B, ha, va)) : ∀ f k, k ≤ 16 → 16 - k < f → (∀ k' w, r = nI k' → k' ≤ 15 → sg_H K A B s k' w → ¬ w ≤ v → k ≤ k') → wY_firstAbove_16 post (nI s) v pA pB K A B ha va f (nI k) := by
  intro f
  induction f with
  | zero =>
    intro k _ hf
    omega
  | succ f ih =>
    intro k hk hf hle
    rw [wY_firstAbove_16]
    dsimp only
    refine pk_lt 15 k (fun e => ?_) (fun e => ?_)
    · rcases hr with ⟨k', w, c1, c2, c3, c4, _⟩ | ⟨c1, _⟩
      · have := hle k' w c2 c1 c3 c4
        omega
      · rw [← c1]
        exact g
    · rw [nI_1]
      have next : (∀ w, sg_H K A B s k w → w ≤ v) → wY_firstAbove_16 post (nI s) v pA pB K A B ha va f (nI (k + 1)) := by
        intro hkw
        refine ih (k + 1) (by omega) (by omega) (fun k' w c2 c1 c3 c4 => ?_)
        have := hle k' w c2 c1 c3 c4
        have ne : k ≠ k' := by
          intro e'
          rw [← e'] at c3
          exact c4 (hkw w c3)
        omega
      refine sg_y_has hs (by omega) (fun h => br_f (by decide) ?_) (fun h => br_t rfl (nm_e (next (fun w hw => absurd ⟨w, (F s k w hs e).mp hw⟩ h))))
      obtain ⟨w, h⟩ := h
      have hw := (F s k w hs e).mpr h
      refine sg_y_at hs h (br_c (fun c => nm_e (next (fun w' hw' => ?_))) (fun c => ?_))
      · rw [sg_H_det W hs hw' hw]
        exact c
      · rcases hr with ⟨k', w', c1, c2, c3, c4, c5⟩ | ⟨_, c1⟩
        · have h1 := hle k' w' c2 c1 c3 c4
          have h2 : ¬ k < k' := fun hlt => c (c5 k hlt w hw)
          rw [show k = k' by omega, ← c2]
          exact g
        · exact absurd (c1 k e w hw) c
theorem sg_y_ag27 (W : sg_wf K A B) (F : sg_Full K A B ha va) {s t : Nat} (hs : s < 6) (ht : t < 6) {post : Int32 → SY → Prop} (g : post (nI (sg_ct (sg_Pa K A B s t) 16)) (pA, pB, K, A, B, ha, va)) : ∀ f k, k ≤ 16 → 16 - k < f → wY_agree_27 post (nI s) (nI t) pA pB K A B ha va f (nI (sg_ct (sg_Pa K A B s t) k)) (nI k) := by
  intro f
  induction f with
  | zero =>
    intro k _ hf
    omega
  | succ f ih =>
    intro k hk hf
    rw [wY_agree_27]
    dsimp only
    refine pk_lt 15 k (fun e => ?_) (fun e => ?_)
    · have ek : k = 16 := by omega
      subst ek
      exact g
    · rw [nI_1, nI_1]
      have i1 := ih (k + 1) (by omega) (by omega)
      have no : ¬ sg_Pa K A B s t k → wY_agree_27 post (nI s) (nI t) pA pB K A B ha va f (nI (sg_ct (sg_Pa K A B s t) k)) (nI (k + 1)) := by
        intro hn
        rw [sg_ct_s, sg_b0 hn] at i1
        exact i1
      refine sg_y_has hs (by omega) (fun h => br_f (by decide) ?_) (fun h => br_t rfl (nm_e (no ?_)))
      · refine sg_y_has ht (by omega) (fun h2 => br_f (by decide) ?_) (fun h2 => br_t rfl (nm_e (no ?_)))
        · obtain ⟨w, h⟩ := h
          obtain ⟨w2, h2⟩ := h2
          have hw := (F s k w hs e).mpr h
          have hw2 := (F t k w2 ht e).mpr h2
          refine sg_y_at hs h (sg_y_at ht h2 (br_c (fun c => nm_e (nm_e ?_)) (fun c => nm_e (no ?_))))
          · rw [sg_ct_s, sg_b1 ⟨w, hw, by rw [c]; exact hw2⟩] at i1
            exact i1
          · rintro ⟨x, c1, c2⟩
            exact c ((sg_H_det W hs hw c1).trans (sg_H_det W ht c2 hw2))
        · rintro ⟨x, _, c2⟩
          exact h2 ⟨x, (F t k x ht e).mp c2⟩
      · rintro ⟨x, c1, _⟩
        exact h ⟨x, (F s k x hs e).mp c1⟩
end
end
section
/-! what is owed -/
def i_Rel (k : Nat) (u : SX) (v : SY) : Prop := ∃ K A B : Nat → Int32, sg_wf K A B ∧ sg_XG K A B u ∧ ∃ pA pB : Int32, ∃ ha va : Nat → Int32, v = (pA, pB, K, A, B, ha, va)
theorem i_up {k : Nat} {u : SX} {v : SY} (h : i_Rel k u v) : i_Rel (k + 5) u v := h
theorem i_vc0 : wpX_init (fun u => wpY_init (fun v => i_Rel 0 u v)) := by
  refine ⟨fun _ => 0, fun _ => 0, fun _ => 0, fun s hs => ?_, Or.inl ⟨0, 0, 0, _, _, _, _, _, _, _, _, _, rfl⟩, 0, 0, _, _, rfl⟩
  have e : sg_kd (fun _ => 0) s = 0 := rfl
  rw [e]
  exact ⟨rfl, by omega, fun h => absurd h (by omega), fun h => absurd h (by omega)⟩
theorem sg_XG_tup {K A B : Nat → Int32} {u : SX} (h : sg_XG K A B u) : ∃ fb fa ft fn : Int32, ∃ so nu st lf ri bu mv ro ka : Nat → Int32, u = (fb, fa, ft, fn, K, A, B, so, nu, st, lf, ri, bu, mv, ro, ka) := by
  rcases h with ⟨fa, ft, fn, so, nu, st, lf, ri, bu, mv, ro, ka, e⟩ | ⟨top, c, lt, li, S, L, R, fn, so, nu, st, lf, ri, bu, mv, ro, ka, e, _⟩
  · exact ⟨0, fa, ft, fn, so, nu, st, lf, ri, bu, mv, ro, ka, e⟩
  · exact ⟨1, 0, nI top, fn, so, nu, st, lf, ri, bu, mv, ro, ka, e⟩
theorem i_vc_define {k : Nat} {u : SX} {v : SY} (I : i_Rel k u v) (hk : k + 5 ≤ 2560) (v1 : Int32) (v2 : Int32) (v3 : Int32) (v4 : Int32) : wpX_define (fun r u' => wpY_define (fun r' v' => r' = r ∧ i_Rel (k + 5) u' v') v v1 v2 v3 v4) u v1 v2 v3 v4 := by
  obtain ⟨K, A, B, W, hX, pA, pB, ha, va, rfl⟩ := I
  obtain ⟨fb, fa, ft, fn, so, nu, st, lf, ri, bu, mv, ro, ka, rfl⟩ := sg_XG_tup hX
  refine sg_dX (fun s j hD => ?_) (fun hD => ?_)
  · refine sg_dY (fun s' j' hD' => ?_) (fun h => absurd ⟨s, j, hD⟩ h)
    have e1 : s' = s := (nI_eq (by have := hD'.1; omega) (by have := hD.1; omega)).mp (hD'.2.2.1.symm.trans hD.2.2.1)
    have e2 : j' = j := (nI_eq (by have := hD'.2.1; omega) (by have := hD.2.1; omega)).mp (hD'.2.2.2.1.symm.trans hD.2.2.2.1)
    subst e1 e2
    exact ⟨rfl, _, _, _, sg_wf_D W hD, Or.inl ⟨_, _, _, _, _, _, _, _, _, _, _, _, rfl⟩, _, _, _, _, rfl⟩
  · refine sg_dY (fun s' j' hD' => absurd ⟨s', j', hD'⟩ hD) (fun _ => ?_)
    exact ⟨rfl, K, A, B, W, hX, _, _, _, _, rfl⟩
theorem sg_idx (x : Int32) : (∃ k, k ≤ 15 ∧ x = nI k) ∨ (x < 0 ∨ (¬ x < 0 ∧ ¬ x ≤ 15)) := by
  by_cases h0 : x < 0
  · exact Or.inr (Or.inl h0)
  · by_cases h8 : x ≤ 15
    · obtain ⟨j, h1, h2⟩ := nI_of2 (M := 15) (n := 15) (by decide) h0 h8
      exact Or.inl ⟨j, h1, h2⟩
    · exact Or.inr (Or.inr ⟨h0, h8⟩)
section
variable {pA pB : Int32} {K A B ha va : Nat → Int32}
theorem sg_ask1 {post : Int32 → Prop} {s k : Nat} (hs : s < 6) (hk : k ≤ 15) (g : post 1) : wpY_asked post (pA, pB, K, A, B, ha, va) (nI s) (nI k) := by
  unfold wpY_asked
  dsimp only
  exact sg_isY1 hs (br_f (by decide) (br_f (nI_pos (by omega)) (pk_lt 15 k (fun h => absurd h (by omega)) (fun _ => g))))
theorem sg_ask0 {post : Int32 → Prop} {x y : Int32} (h : (x < 0 ∨ (¬ x < 0 ∧ 5 < x)) ∨ (∃ s, s < 6 ∧ x = nI s) ∧ (y < 0 ∨ (¬ y < 0 ∧ ¬ y ≤ 15))) (g : post 0) : wpY_asked post (pA, pB, K, A, B, ha, va) x y := by
  unfold wpY_asked
  dsimp only
  rcases h with h | ⟨⟨s, hs, rfl⟩, h | ⟨h1, h2⟩⟩
  · exact sg_isY0 h (br_t rfl g)
  · exact sg_isY1 hs (br_f (by decide) (br_t h g))
  · exact sg_isY1 hs (br_f (by decide) (br_f h1 (br_t (Int32.not_le.mp h2) g)))
end
theorem i_vc_ready {k : Nat} {u : SX} {v : SY} (I : i_Rel k u v) (hk : k + 5 ≤ 2560) (v1 : Int32) (v2 : Int32) : wpX_ready (fun r u' => wpY_ready (fun r' v' => r' = r ∧ i_Rel (k + 5) u' v') v v1 v2) u v1 v2 := by
  have I' := I
  obtain ⟨K, A, B, W, hX, pA, pB, ha, va, rfl⟩ := I
  obtain ⟨fb, fa, ft, fn, so, nu, st, lf, ri, bu, mv, ro, ka, rfl⟩ := sg_XG_tup hX
  unfold wpX_ready
  dsimp only
  rcases sg_seq v1 with ⟨s, hs, rfl⟩ | h1
  · refine sg_isX1 hs (br_f (by decide) ?_)
    rcases sg_idx v2 with ⟨j, hj, rfl⟩ | h2
    · refine br_f (nI_pos (by omega)) (br_t (nI_le (b := 15) hj (by decide)) ?_)
      refine sg_x_reach2 W hs hj hX (fun y f3 so nu st lf ri bu mv ro ka hX' hy hv => br_f (nI_pos (by omega)) ?_) (fun f3 so nu st lf ri bu mv ro ka hX' hno => br_t (by decide) ?_)
      · unfold wpY_ready
        dsimp only
        refine sg_ask1 hs hj (br_f (by decide) (sg_y_fill W (fun pA pB ha va F => ?_)))
        refine sg_y_has hs (by omega) (fun _ => ⟨narrow_b1, rfl, K, A, B, W, hX', _, _, _, _, rfl⟩) (fun h => absurd ⟨_, (F s j _ hs hj).mp hv⟩ h)
      · unfold wpY_ready
        dsimp only
        refine sg_ask1 hs hj (br_f (by decide) (sg_y_fill W (fun pA pB ha va F => ?_)))
        refine sg_y_has hs (by omega) (fun h => ?_) (fun _ => ⟨narrow_b0, rfl, K, A, B, W, hX', _, _, _, _, rfl⟩)
        obtain ⟨w, h⟩ := h
        exact absurd ⟨w, (F s j w hs hj).mpr h⟩ hno
    · have gg : wpY_ready (fun r' v' => r' = 0 ∧ i_Rel (k + 5) (fb, fa, ft, fn, K, A, B, so, nu, st, lf, ri, bu, mv, ro, ka) v') (pA, pB, K, A, B, ha, va) (nI s) v2 := by
        unfold wpY_ready
        dsimp only
        exact sg_ask0 (Or.inr ⟨⟨s, hs, rfl⟩, h2⟩) (br_t rfl ⟨rfl, I'⟩)
      rcases h2 with h2 | ⟨h2, h3⟩
      · exact br_t h2 gg
      · exact br_f h2 (br_f h3 gg)
  · refine sg_isX0 h1 (br_t rfl ?_)
    unfold wpY_ready
    dsimp only
    exact sg_ask0 (Or.inl h1) (br_t rfl ⟨rfl, I'⟩)
theorem i_vc_element {k : Nat} {u : SX} {v : SY} (I : i_Rel k u v) (hk : k + 5 ≤ 2560) (v1 : Int32) (v2 : Int32) : wpX_element (fun r u' => wpY_element (fun r' v' => r' = r ∧ i_Rel (k + 5) u' v') v v1 v2) u v1 v2 := by
  have I' := I
  obtain ⟨K, A, B, W, hX, pA, pB, ha, va, rfl⟩ := I
  obtain ⟨fb, fa, ft, fn, so, nu, st, lf, ri, bu, mv, ro, ka, rfl⟩ := sg_XG_tup hX
  unfold wpX_element
  dsimp only
  rcases sg_seq v1 with ⟨s, hs, rfl⟩ | h1
  · refine sg_isX1 hs (br_f (by decide) ?_)
    rcases sg_idx v2 with ⟨j, hj, rfl⟩ | h2
    · refine br_f (nI_pos (by omega)) (br_t (nI_le (b := 15) hj (by decide)) ?_)
      refine sg_x_reach2 W hs hj hX (fun y f3 so nu st lf ri bu mv ro ka hX' hy hv => br_t (nI_pos' (by omega)) ⟨vp_in_nI hy (by omega), ?_⟩) (fun f3 so nu st lf ri bu mv ro ka hX' hno => br_f (by decide) ?_)
      · unfold wpY_element
        dsimp only
        refine sg_ask1 hs hj (br_f (by decide) (sg_y_fill W (fun pA pB ha va F => ?_)))
        have hT := (F s j _ hs hj).mp hv
        refine sg_y_has hs (by omega) (fun _ => br_f (by decide) (sg_y_at hs hT ⟨?_, K, A, B, W, hX', _, _, _, _, rfl⟩)) (fun h => absurd ⟨_, hT⟩ h)
        show nu y = nu (nI y).toNatClampNeg
        rw [nI_clamp (show y < 2 ^ 31 by omega)]
      · unfold wpY_element
        dsimp only
        refine sg_ask1 hs hj (br_f (by decide) (sg_y_fill W (fun pA pB ha va F => ?_)))
        refine sg_y_has hs (by omega) (fun h => ?_) (fun _ => br_t rfl ⟨rfl, K, A, B, W, hX', _, _, _, _, rfl⟩)
        obtain ⟨w, h⟩ := h
        exact absurd ⟨w, (F s j w hs hj).mpr h⟩ hno
    · have gg : wpY_element (fun r' v' => r' = 0 ∧ i_Rel (k + 5) (fb, fa, ft, fn, K, A, B, so, nu, st, lf, ri, bu, mv, ro, ka) v') (pA, pB, K, A, B, ha, va) (nI s) v2 := by
        unfold wpY_element
        dsimp only
        exact sg_ask0 (Or.inr ⟨⟨s, hs, rfl⟩, h2⟩) (br_t rfl ⟨rfl, I'⟩)
      rcases h2 with h2 | ⟨h2, h3⟩
      · exact br_t h2 gg
      · exact br_f h2 (br_f h3 gg)
  · refine sg_isX0 h1 (br_t rfl ?_)
    unfold wpY_element
    dsimp only
    exact sg_ask0 (Or.inl h1) (br_t rfl ⟨rfl, I'⟩)
theorem i_vc_known {k : Nat} {u : SX} {v : SY} (I : i_Rel k u v) (hk : k + 5 ≤ 2560) (v1 : Int32) : wpX_known (fun r u' => wpY_known (fun r' v' => r' = r ∧ i_Rel (k + 5) u' v') v v1) u v1 := by
  have I' := I
  obtain ⟨K, A, B, W, hX, pA, pB, ha, va, rfl⟩ := I
  obtain ⟨fb, fa, ft, fn, so, nu, st, lf, ri, bu, mv, ro, ka, rfl⟩ := sg_XG_tup hX
  unfold wpX_known
  dsimp only
  rcases sg_seq v1 with ⟨s, hs, rfl⟩ | h1
  · refine sg_isX1 hs (br_f (by decide) (Exists.intro 17 (sg_x_kn12 W hs (fun u' hX' => ?_) 17 0 _ hX (by omega) (by omega) (fun j hj => absurd hj (Nat.not_lt_zero j)))))
    unfold wpY_known
    dsimp only
    refine sg_isY1 hs (br_f (by decide) (sg_y_fill W (fun pA pB ha va F => Exists.intro 17 (sg_y_kn18 F hs ?_ 17 0 (by omega) (by omega)))))
    exact ⟨rfl, K, A, B, W, hX', _, _, _, _, rfl⟩
  · refine sg_isX0 h1 (br_t rfl ?_)
    unfold wpY_known
    dsimp only
    exact sg_isY0 h1 (br_t rfl ⟨rfl, I'⟩)
theorem i_vc_firstAbove {k : Nat} {u : SX} {v : SY} (I : i_Rel k u v) (hk : k + 5 ≤ 2560) (v1 : Int32) (v2 : Int32) : wpX_firstAbove (fun r u' => wpY_firstAbove (fun r' v' => r' = r ∧ i_Rel (k + 5) u' v') v v1 v2) u v1 v2 := by
  have I' := I
  obtain ⟨K, A, B, W, hX, pA, pB, ha, va, rfl⟩ := I
  obtain ⟨fb, fa, ft, fn, so, nu, st, lf, ri, bu, mv, ro, ka, rfl⟩ := sg_XG_tup hX
  unfold wpX_firstAbove
  dsimp only
  rcases sg_seq v1 with ⟨s, hs, rfl⟩ | h1
  · refine sg_isX1 hs (br_f (by decide) (Exists.intro 17 (sg_x_fa12 W hs (fun r u' hr hX' => ?_) 17 0 _ hX (by omega) (by omega) (fun j hj => absurd hj (Nat.not_lt_zero j)))))
    unfold wpY_firstAbove
    dsimp only
    refine sg_isY1 hs (br_f (by decide) (sg_y_fill W (fun pA pB ha va F => Exists.intro 17 (sg_y_fa16 W F hs hr ?_ 17 0 (by omega) (by omega) (fun _ _ _ _ _ _ => Nat.zero_le _)))))
    exact ⟨rfl, K, A, B, W, hX', _, _, _, _, rfl⟩
  · refine sg_isX0 h1 (br_t rfl ?_)
    unfold wpY_firstAbove
    dsimp only
    exact sg_isY0 h1 (br_t rfl ⟨rfl, I'⟩)
theorem i_vc_agree {k : Nat} {u : SX} {v : SY} (I : i_Rel k u v) (hk : k + 5 ≤ 2560) (v1 : Int32) (v2 : Int32) : wpX_agree (fun r u' => wpY_agree (fun r' v' => r' = r ∧ i_Rel (k + 5) u' v') v v1 v2) u v1 v2 := by
  have I' := I
  obtain ⟨K, A, B, W, hX, pA, pB, ha, va, rfl⟩ := I
  obtain ⟨fb, fa, ft, fn, so, nu, st, lf, ri, bu, mv, ro, ka, rfl⟩ := sg_XG_tup hX
  unfold wpX_agree
  dsimp only
  rcases sg_seq v1 with ⟨s, hs, rfl⟩ | h1
  · refine sg_isX1 hs (br_f (by decide) ?_)
    rcases sg_seq v2 with ⟨t, ht, rfl⟩ | h2
    · refine sg_isX1 ht (br_f (by decide) (Exists.intro 17 (sg_x_ag23 W hs ht (fun u' hX' => ?_) 17 0 _ hX (by omega) (by omega))))
      unfold wpY_agree
      dsimp only
      refine sg_isY1 hs (br_f (by decide) (sg_isY1 ht (br_f (by decide) (sg_y_fill W (fun pA pB ha va F => Exists.intro 17 (sg_y_ag27 W F hs ht ?_ 17 0 (by omega) (by omega)))))))
      exact ⟨rfl, K, A, B, W, hX', _, _, _, _, rfl⟩
    · refine sg_isX0 h2 (br_t rfl ?_)
      unfold wpY_agree
      dsimp only
      exact sg_isY1 hs (br_f (by decide) (sg_isY0 h2 (br_t rfl ⟨rfl, I'⟩)))
  · refine sg_isX0 h1 (br_t rfl ?_)
    unfold wpY_agree
    dsimp only
    exact sg_isY0 h1 (br_t rfl ⟨rfl, I'⟩)
theorem i_vc_kind {k : Nat} {u : SX} {v : SY} (I : i_Rel k u v) (hk : k + 5 ≤ 2560) (v1 : Int32) : wpX_kind (fun r => wpY_kind (fun r' => r' = r ∧ i_Rel (k + 5) u v) v v1) u v1 := by
  have I' := I
  obtain ⟨K, A, B, W, hX, pA, pB, ha, va, rfl⟩ := I
  obtain ⟨fb, fa, ft, fn, so, nu, st, lf, ri, bu, mv, ro, ka, rfl⟩ := sg_XG_tup hX
  unfold wpX_kind
  dsimp only
  rcases sg_seq v1 with ⟨s, hs, rfl⟩ | h1
  · have is : vp_in (nI s) 6 := vp_in_nI hs (by omega)
    refine sg_isX1 hs (br_f (by decide) ⟨is, ?_⟩)
    unfold wpY_kind
    dsimp only
    exact sg_isY1 hs (br_f (by decide) ⟨is, rfl, I'⟩)
  · refine sg_isX0 h1 (br_t rfl ?_)
    unfold wpY_kind
    dsimp only
    exact sg_isY0 h1 (br_t rfl ⟨rfl, I'⟩)
theorem i_vc_reset {k : Nat} {u : SX} {v : SY} (I : i_Rel k u v) (hk : k + 5 ≤ 2560) : wpX_reset (fun u' => wpY_reset (fun v' => i_Rel (k + 5) u' v') v) u := by
  obtain ⟨K, A, B, W, hX, pA, pB, ha, va, rfl⟩ := I
  obtain ⟨fb, fa, ft, fn, so, nu, st, lf, ri, bu, mv, ro, ka, rfl⟩ := sg_XG_tup hX
  refine sg_x_reset (sg_y_reset ?_)
  exact ⟨_, _, _, sg_wf_rz K A B, Or.inl ⟨_, _, _, _, _, _, _, _, _, _, _, _, rfl⟩, _, _, _, _, rfl⟩
end
