section
theorem pk_us {f : Nat → Int32} {k : Nat} {x : Int32} : upd f k x k = x := if_pos rfl
theorem pk_un {f : Nat → Int32} {k j : Nat} {x : Int32} (h : j ≠ k) : upd f k x j = f j := if_neg h
theorem pk_sub {a b : Nat} (h : b ≤ a) : nI a - nI b = nI (a - b) := by
  obtain ⟨c, rfl⟩ : ∃ c, a = c + b := ⟨a - b, by omega⟩
  rw [← nI_add, Int32.add_sub_cancel, Nat.add_sub_cancel]
theorem pk_m1 (n : Nat) : nI (n + 1) + (-1) = nI n := by
  rw [← nI_1, Int32.add_assoc, show (1 : Int32) + (-1) = 0 from rfl, Int32.add_zero]
theorem pk_mul (a b : Nat) : nI a * nI b = nI (a * b) := (Int32.ofNat_mul a b).symm
theorem pk_div {a d : Nat} (ha : a < 2 ^ 31) (h0 : 0 < d) (hd : d < 2 ^ 31) : nI a / nI d = nI (a / d) := by
  apply Int32.toInt_inj.mp
  rw [lg_idiv_nonneg (by rw [nI_toInt ha]; omega) (by rw [nI_toInt hd]; omega), nI_toInt ha, nI_toInt hd, nI_toInt (Nat.lt_of_le_of_lt (Nat.div_le_self a d) ha)]
  first | rfl | exact (Int.natCast_ediv _ _).symm
theorem pk_rem {a d : Nat} (ha : a < 2 ^ 31) (h0 : 0 < d) (hd : d < 2 ^ 31) : nI a - nI a / nI d * nI d = nI (a % d) := by
  rw [pk_div ha h0 hd, pk_mul, pk_sub (Nat.div_mul_le_self a d)]
  exact congrArg nI (by have := Nat.div_add_mod' a d; omega)
theorem pk_sub_toInt {a b : Nat} (ha : a < 2 ^ 30) (hb : b < 2 ^ 30) : (nI a - nI b).toInt = (a : Int) - b := by
  rw [Int32.toInt_sub, nI_toInt (by omega), nI_toInt (by omega)]
  exact Int.bmod_eq_of_le (by omega) (by omega)
theorem pk_sneg {a b : Nat} (hb : b < 2 ^ 30) (h : a < b) : nI a - nI b < 0 := by
  rw [Int32.lt_iff_toInt_lt, pk_sub_toInt (by omega) hb, show (0 : Int32).toInt = 0 from by decide]
  omega
theorem pk_ix (x : Int32) {n : Nat} (hn : n < 2 ^ 31) : x < 0 ∨ nI n ≤ x ∨ ∃ j : Nat, j < n ∧ x = nI j := by
  by_cases h : x < 0
  · exact Or.inl h
  · obtain ⟨j, hj, rfl⟩ := nI_of h
    by_cases h2 : j < n
    · exact Or.inr (Or.inr ⟨j, h2, rfl⟩)
    · exact Or.inr (Or.inl (nI_le (by omega) hj))
theorem pk_le {x y : Int32} {A B : Prop} (a b : Nat) (f : a ≤ b → A) (g : b < a → B) (hx : x = nI a := by rfl) (hy : y = nI b := by rfl) (ha : a < 2 ^ 31 := by omega) (hb : b < 2 ^ 31 := by omega) : (x ≤ y → A) ∧ (¬ x ≤ y → B) := by
  subst hx hy
  rw [nI_leI ha hb]
  exact ⟨f, fun z => g (by omega)⟩
theorem pk_lt {x y : Int32} {A B : Prop} (a b : Nat) (f : a < b → A) (g : b ≤ a → B) (hx : x = nI a := by rfl) (hy : y = nI b := by rfl) (ha : a < 2 ^ 31 := by omega) (hb : b < 2 ^ 31 := by omega) : (x < y → A) ∧ (¬ x < y → B) := by
  subst hx hy
  rw [nI_ltI ha hb]
  exact ⟨f, fun z => g (by omega)⟩
theorem pk_eq {x y : Int32} {A B : Prop} (a b : Nat) (f : a = b → A) (g : a ≠ b → B) (hx : x = nI a := by rfl) (hy : y = nI b := by rfl) (ha : a < 2 ^ 31 := by omega) (hb : b < 2 ^ 31 := by omega) : (x = y → A) ∧ (¬ x = y → B) := by
  subst hx hy
  rw [nI_eq ha hb]
  exact ⟨f, g⟩
theorem pk_in {x : Int32} (n N : Nat) (h : n < N) (hx : x = nI n := by rfl) (hN : N < 2 ^ 31 := by omega) : vp_in x N := by
  subst hx
  exact vp_in_nI h hN
theorem pk_cl {x : Int32} (n : Nat) (hx : x = nI n := by rfl) (h : n < 2 ^ 31 := by omega) : x.toNatClampNeg = n := by
  subst hx
  exact nI_clamp h
theorem pk_tn {n : Nat} (h : n < 2 ^ 32) : (nI n).toBitVec.toNat = n := Nat.mod_eq_of_lt h
theorem pk_and (x : Int32) {m : Int32} (k : Nat) (hm : m.toBitVec.toNat = 2 ^ k - 1) : x &&& m = nI (x.toBitVec.toNat % 2 ^ k) := by
  apply Int32.toBitVec_inj.mp
  apply BitVec.eq_of_toNat_eq
  rw [Int32.toBitVec_and, BitVec.toNat_and, hm, Nat.and_two_pow_sub_one_eq_mod]
  show _ = (BitVec.ofNat 32 _).toNat
  rw [BitVec.toNat_ofNat]
  exact (Nat.mod_eq_of_lt (Nat.lt_of_le_of_lt (Nat.mod_le _ _) x.toBitVec.isLt)).symm
theorem pk_andN {n : Nat} (h : n < 2 ^ 32) {m : Int32} (k : Nat) (hm : m.toBitVec.toNat = 2 ^ k - 1) : nI n &&& m = nI (n % 2 ^ k) := by
  rw [pk_and _ k hm, pk_tn h]
theorem pk_shr (a s : Int32) (k : Nat) (hs : (s.toBitVec.smod 32).toNat = k) : (a >>> s).toInt = a.toInt >>> k := by
  show (a.toBitVec.sshiftRight (s.toBitVec.smod 32).toNat).toInt = _
  rw [hs, BitVec.toInt_sshiftRight]
  rfl
theorem pk_shrN {n : Nat} (h : n < 2 ^ 31) (s : Int32) (k : Nat) (hs : (s.toBitVec.smod 32).toNat = k) : nI n >>> s = nI (n / 2 ^ k) := by
  apply Int32.toInt_inj.mp
  have h2 : n / 2 ^ k ≤ n := Nat.div_le_self _ _
  rw [pk_shr _ _ k hs, nI_toInt h, nI_toInt (by omega), Int.shiftRight_eq_div_pow]
  rfl
end
section
/-! pure law: windows that compare alike, neighbours, longest matches -/
/-- the k values of f from p on compare with each other as those of g from q on -/
def om_al (f : Nat → Int32) (p : Nat) (g : Nat → Int32) (q k : Nat) : Prop :=
  ∀ i j : Nat, i < k → j < k → ((f (p + i)).toInt < (f (p + j)).toInt ↔ (g (q + i)).toInt < (g (q + j)).toInt)
theorem om_al_symm {f g : Nat → Int32} {p q k : Nat} (h : om_al f p g q k) : om_al g q f p k :=
  fun i j hi hj => (h i j hi hj).symm
theorem om_al_trans {f g e : Nat → Int32} {p q r k : Nat} (a : om_al f p g q k) (b : om_al g q e r k) : om_al f p e r k :=
  fun i j hi hj => (a i j hi hj).trans (b i j hi hj)
theorem om_al_pre {f g : Nat → Int32} {p q k b : Nat} (h : om_al f p g q k) (hb : b ≤ k) : om_al f p g q b :=
  fun i j hi hj => h i j (Nat.lt_of_lt_of_le hi hb) (Nat.lt_of_lt_of_le hj hb)
theorem om_al_0 {f g : Nat → Int32} {p q : Nat} : om_al f p g q 0 := fun i _ hi => absurd hi (Nat.not_lt_zero i)
theorem om_al_p {f g : Nat → Int32} {p q k p' q' k' : Nat} (h : om_al f p g q k) (e1 : p' = p) (e2 : q' = q) (e3 : k' = k) : om_al f p' g q' k' := by
  subst e1 e2 e3; exact h
theorem om_al_sub {f g : Nat → Int32} {p q k : Nat} (a b : Nat) (h : om_al f p g q k) (hab : a + b ≤ k) : om_al f (p + a) g (q + a) b := by
  intro i j hi hj
  have h2 := h (a + i) (a + j) (by omega) (by omega)
  simpa only [Nat.add_assoc] using h2
theorem om_al_f {f f' g : Nat → Int32} {p p' q k : Nat} (hf : ∀ i, i < k → f' (p' + i) = f (p + i)) (h : om_al f p g q k) : om_al f' p' g q k := by
  intro i j hi hj
  rw [hf i hi, hf j hj]
  exact h i j hi hj
theorem om_al_fg {f f' g g' : Nat → Int32} {p p' q q' k : Nat} (hf : ∀ i, i < k → f' (p' + i) = f (p + i)) (hg : ∀ i, i < k → g' (q' + i) = g (q + i)) : om_al f' p' g' q' k ↔ om_al f p g q k :=
  ⟨fun h => om_al_symm (om_al_f (fun i hi => (hg i hi).symm) (om_al_symm (om_al_f (fun i hi => (hf i hi).symm) h))),
   fun h => om_al_symm (om_al_f hg (om_al_symm (om_al_f hf h)))⟩
/-- the last k' of k values -/
theorem om_al_tail {f g : Nat → Int32} {e k k' : Nat} (h : om_al f (e - k) g 0 k) (h1 : k' ≤ k) (h2 : k ≤ e) : om_al f (e - k') g (k - k') k' :=
  om_al_p (om_al_sub (k - k') k' h (by omega)) (by omega) (by omega) rfl
/-! one value more -/
theorem om_ext_eq {f g : Nat → Int32} {q r k c : Nat} (h : om_al f q g r k) (hc : c < k) (he : (g (r + c)).toInt = (g (r + k)).toInt) :
    om_al f q g r (k + 1) ↔ (f (q + c)).toInt = (f (q + k)).toInt := by
  constructor
  · intro H
    have h1 := H c k (by omega) (by omega)
    have h2 := H k c (by omega) (by omega)
    omega
  · intro E i j hi hj
    by_cases ei : i = k
    · by_cases ej : j = k
      · rw [ei, ej]
        exact ⟨fun z => absurd z (Int.lt_irrefl _), fun z => absurd z (Int.lt_irrefl _)⟩
      · rw [ei, ← E, ← he]
        exact h c j hc (by omega)
    · by_cases ej : j = k
      · rw [ej, ← E, ← he]
        exact h i c (by omega) hc
      · exact h i j (by omega) (by omega)
theorem om_ext_ne {f g : Nat → Int32} {q r k : Nat} (h : om_al f q g r k) (hn : ∀ j, j < k → (g (r + j)).toInt ≠ (g (r + k)).toInt) :
    om_al f q g r (k + 1) ↔ (∀ j, j < k → (g (r + j)).toInt < (g (r + k)).toInt → (f (q + j)).toInt < (f (q + k)).toInt) ∧ (∀ j, j < k → (g (r + k)).toInt < (g (r + j)).toInt → (f (q + k)).toInt < (f (q + j)).toInt) := by
  constructor
  · intro H
    exact ⟨fun j hj => (H j k (by omega) (by omega)).mpr, fun j hj => (H k j (by omega) (by omega)).mpr⟩
  · rintro ⟨a, b⟩ i j hi hj
    by_cases ei : i = k
    · by_cases ej : j = k
      · rw [ei, ej]
        exact ⟨fun z => absurd z (Int.lt_irrefl _), fun z => absurd z (Int.lt_irrefl _)⟩
      · have h1 := a j (by omega)
        have h2 := b j (by omega)
        have h3 := hn j (by omega)
        rw [ei]
        omega
    · by_cases ej : j = k
      · have h1 := a i (by omega)
        have h2 := b i (by omega)
        have h3 := hn i (by omega)
        rw [ej]
        omega
      · exact h i j (by omega) (by omega)
theorem om_lo_c {f g : Nat → Int32} {q r k c : Nat} (h : om_al f q g r k) (hc : c < k) (hl : (g (r + c)).toInt < (g (r + k)).toInt)
    (hm : ∀ j, j < k → (g (r + j)).toInt ≤ (g (r + k)).toInt → (g (r + j)).toInt ≤ (g (r + c)).toInt) :
    (∀ j, j < k → (g (r + j)).toInt < (g (r + k)).toInt → (f (q + j)).toInt < (f (q + k)).toInt) ↔ (f (q + c)).toInt < (f (q + k)).toInt := by
  constructor
  · intro H; exact H c hc hl
  · intro H j hj hlt
    have h1 := hm j hj (by omega)
    have h2 := h c j hc hj
    omega
theorem om_hi_c {f g : Nat → Int32} {q r k c : Nat} (h : om_al f q g r k) (hc : c < k) (hl : (g (r + k)).toInt < (g (r + c)).toInt)
    (hm : ∀ j, j < k → (g (r + k)).toInt ≤ (g (r + j)).toInt → (g (r + c)).toInt ≤ (g (r + j)).toInt) :
    (∀ j, j < k → (g (r + k)).toInt < (g (r + j)).toInt → (f (q + k)).toInt < (f (q + j)).toInt) ↔ (f (q + k)).toInt < (f (q + c)).toInt := by
  constructor
  · intro H; exact H c hc hl
  · intro H j hj hlt
    have h1 := hm j hj (by omega)
    have h2 := h j c hj hc
    omega
/-! the neighbours of place i among the first n places -/
def om_lo (P : Nat → Int32) (i : Nat) (b : Int32) (n : Nat) : Prop :=
  (b = -1 ∧ ∀ j, j < n → (P i).toInt < (P j).toInt) ∨
  ∃ c, c < n ∧ b = nI c ∧ (P c).toInt ≤ (P i).toInt ∧ ∀ j, j < n → (P j).toInt ≤ (P i).toInt → (P j).toInt ≤ (P c).toInt
def om_hi (P : Nat → Int32) (i : Nat) (b : Int32) (n : Nat) : Prop :=
  (b = -1 ∧ ∀ j, j < n → (P j).toInt < (P i).toInt) ∨
  ∃ c, c < n ∧ b = nI c ∧ (P i).toInt ≤ (P c).toInt ∧ ∀ j, j < n → (P i).toInt ≤ (P j).toInt → (P c).toInt ≤ (P j).toInt
theorem om_n1 {c : Nat} (h : c < 2 ^ 31) : ¬ nI c = -1 := by
  intro e
  have e2 := congrArg Int32.toInt e
  rw [nI_toInt h, show (-1 : Int32).toInt = -1 from by decide] at e2
  omega
theorem om_lo_keep {P : Nat → Int32} {i n : Nat} {b : Int32} (h : om_lo P i b n) (hn : (P i).toInt < (P n).toInt) : om_lo P i b (n + 1) := by
  rcases h with ⟨e, ha⟩ | ⟨c, hc, e, hl, hm⟩
  · refine Or.inl ⟨e, fun j hj => ?_⟩
    by_cases ej : j = n
    · rw [ej]; exact hn
    · exact ha j (by omega)
  · refine Or.inr ⟨c, by omega, e, hl, fun j hj hle => ?_⟩
    by_cases ej : j = n
    · rw [ej] at hle; omega
    · exact hm j (by omega) hle
theorem om_lo_keep2 {P : Nat → Int32} {i n c : Nat} {b : Int32} (h : om_lo P i b n) (hb : b = nI c) (hc : c < 2 ^ 31) (hn31 : n < 2 ^ 31) (hn : (P n).toInt ≤ (P c).toInt) : om_lo P i b (n + 1) := by
  rcases h with ⟨e, ha⟩ | ⟨c', hc', e, hl, hm⟩
  · exact absurd (hb.symm.trans e) (om_n1 hc)
  · have ec : c' = c := (nI_eq (by omega) hc).mp (e.symm.trans hb)
    subst ec
    refine Or.inr ⟨c', by omega, e, hl, fun j hj hle => ?_⟩
    by_cases ej : j = n
    · rw [ej]; exact hn
    · exact hm j (by omega) hle
theorem om_lo_new1 {P : Nat → Int32} {i n : Nat} {b : Int32} (h : om_lo P i b n) (hb : b = -1) (hn31 : n < 2 ^ 31) (hn : (P n).toInt ≤ (P i).toInt) : om_lo P i (nI n) (n + 1) := by
  rcases h with ⟨e, ha⟩ | ⟨c', hc', e, hl, hm⟩
  · refine Or.inr ⟨n, by omega, rfl, hn, fun j hj hle => ?_⟩
    by_cases ej : j = n
    · rw [ej]; exact Int.le_refl _
    · have := ha j (by omega); omega
  · exact absurd (e.symm.trans hb) (om_n1 (by omega))
theorem om_lo_new2 {P : Nat → Int32} {i n c : Nat} {b : Int32} (h : om_lo P i b n) (hb : b = nI c) (hc : c < 2 ^ 31) (hn31 : n < 2 ^ 31) (hn : (P n).toInt ≤ (P i).toInt) (hn2 : (P c).toInt < (P n).toInt) : om_lo P i (nI n) (n + 1) := by
  rcases h with ⟨e, ha⟩ | ⟨c', hc', e, hl, hm⟩
  · exact absurd (hb.symm.trans e) (om_n1 hc)
  · have ec : c' = c := (nI_eq (by omega) hc).mp (e.symm.trans hb)
    subst ec
    refine Or.inr ⟨n, by omega, rfl, hn, fun j hj hle => ?_⟩
    by_cases ej : j = n
    · rw [ej]; exact Int.le_refl _
    · have := hm j (by omega) hle; omega
theorem om_hi_keep {P : Nat → Int32} {i n : Nat} {b : Int32} (h : om_hi P i b n) (hn : (P n).toInt < (P i).toInt) : om_hi P i b (n + 1) := by
  rcases h with ⟨e, ha⟩ | ⟨c, hc, e, hl, hm⟩
  · refine Or.inl ⟨e, fun j hj => ?_⟩
    by_cases ej : j = n
    · rw [ej]; exact hn
    · exact ha j (by omega)
  · refine Or.inr ⟨c, by omega, e, hl, fun j hj hle => ?_⟩
    by_cases ej : j = n
    · rw [ej] at hle; omega
    · exact hm j (by omega) hle
theorem om_hi_keep2 {P : Nat → Int32} {i n c : Nat} {b : Int32} (h : om_hi P i b n) (hb : b = nI c) (hc : c < 2 ^ 31) (hn31 : n < 2 ^ 31) (hn : (P c).toInt ≤ (P n).toInt) : om_hi P i b (n + 1) := by
  rcases h with ⟨e, ha⟩ | ⟨c', hc', e, hl, hm⟩
  · exact absurd (hb.symm.trans e) (om_n1 hc)
  · have ec : c' = c := (nI_eq (by omega) hc).mp (e.symm.trans hb)
    subst ec
    refine Or.inr ⟨c', by omega, e, hl, fun j hj hle => ?_⟩
    by_cases ej : j = n
    · rw [ej]; exact hn
    · exact hm j (by omega) hle
theorem om_hi_new1 {P : Nat → Int32} {i n : Nat} {b : Int32} (h : om_hi P i b n) (hb : b = -1) (hn31 : n < 2 ^ 31) (hn : (P i).toInt ≤ (P n).toInt) : om_hi P i (nI n) (n + 1) := by
  rcases h with ⟨e, ha⟩ | ⟨c', hc', e, hl, hm⟩
  · refine Or.inr ⟨n, by omega, rfl, hn, fun j hj hle => ?_⟩
    by_cases ej : j = n
    · rw [ej]; exact Int.le_refl _
    · have := ha j (by omega); omega
  · exact absurd (e.symm.trans hb) (om_n1 (by omega))
theorem om_hi_new2 {P : Nat → Int32} {i n c : Nat} {b : Int32} (h : om_hi P i b n) (hb : b = nI c) (hc : c < 2 ^ 31) (hn31 : n < 2 ^ 31) (hn : (P i).toInt ≤ (P n).toInt) (hn2 : (P n).toInt < (P c).toInt) : om_hi P i (nI n) (n + 1) := by
  rcases h with ⟨e, ha⟩ | ⟨c', hc', e, hl, hm⟩
  · exact absurd (hb.symm.trans e) (om_n1 hc)
  · have ec : c' = c := (nI_eq (by omega) hc).mp (e.symm.trans hb)
    subst ec
    refine Or.inr ⟨n, by omega, rfl, hn, fun j hj hle => ?_⟩
    by_cases ej : j = n
    · rw [ej]; exact Int.le_refl _
    · have := hm j (by omega) hle; omega
theorem om_lo_0 {P : Nat → Int32} {i : Nat} : om_lo P i (-1) 0 := Or.inl ⟨rfl, fun j hj => absurd hj (Nat.not_lt_zero j)⟩
theorem om_hi_0 {P : Nat → Int32} {i : Nat} : om_hi P i (-1) 0 := Or.inl ⟨rfl, fun j hj => absurd hj (Nat.not_lt_zero j)⟩
/-! the longest match that ends at e (the first place behind it), at most N -/
def om_mx (f : Nat → Int32) (e : Nat) (P : Nat → Int32) (N m : Nat) : Prop :=
  m ≤ N ∧ m ≤ e ∧ om_al f (e - m) P 0 m ∧ ∀ m', m < m' → m' ≤ N → m' ≤ e → ¬ om_al f (e - m') P 0 m'
theorem om_mx_u {f P : Nat → Int32} {e N m m' : Nat} (h : om_mx f e P N m) (h' : om_mx f e P N m') : m = m' := by
  obtain ⟨a, b, c, d⟩ := h
  obtain ⟨a', b', c', d'⟩ := h'
  rcases Nat.lt_trichotomy m m' with x | x | x
  · exact absurd c' (d m' x a' b')
  · exact x
  · exact absurd c (d' m x a b)
def om_iv (f : Nat → Int32) (e : Nat) (P : Nat → Int32) (N k : Nat) : Prop :=
  k < N ∧ k ≤ e ∧ om_al f (e - k) P 0 k ∧ ∀ k', k < k' → k' < N → k' ≤ e → ¬ om_al f (e - k') P 0 (k' + 1)
theorem om_iv_hit {f P : Nat → Int32} {e N k : Nat} (h : om_iv f e P N k) (ha : om_al f (e - k) P 0 (k + 1)) : om_mx f (e + 1) P N (k + 1) := by
  obtain ⟨a, b, c, d⟩ := h
  refine ⟨by omega, by omega, om_al_p ha (by omega) rfl rfl, fun m' h1 h2 h3 H => ?_⟩
  obtain ⟨k', rfl⟩ : ∃ k', m' = k' + 1 := ⟨m' - 1, by omega⟩
  exact d k' (by omega) (by omega) (by omega) (om_al_p H (by omega) rfl rfl)
theorem om_iv_0 {f P : Nat → Int32} {e N : Nat} (h : om_iv f e P N 0) (ha : ¬ om_al f (e - 0) P 0 (0 + 1)) : om_mx f (e + 1) P N 0 := by
  obtain ⟨a, b, c, d⟩ := h
  refine ⟨by omega, by omega, om_al_0, fun m' h1 h2 h3 H => ?_⟩
  obtain ⟨k', rfl⟩ : ∃ k', m' = k' + 1 := ⟨m' - 1, by omega⟩
  by_cases z : k' = 0
  · subst z; exact ha (om_al_p H (by omega) rfl rfl)
  · exact d k' (by omega) (by omega) (by omega) (om_al_p H (by omega) rfl rfl)
/-- a match of length k and the longest border b of k: the next shorter match is b -/
theorem om_step {f P : Nat → Int32} {e k b : Nat} (hk : om_al f (e - k) P 0 k) (hke : k ≤ e) (hb : om_mx P k P (k - 1) b) (h0 : 0 < k) :
    b < k ∧ om_al f (e - b) P 0 b ∧ ∀ k', b < k' → k' < k → ¬ om_al f (e - k') P 0 k' := by
  obtain ⟨b1, b2, b3, b4⟩ := hb
  refine ⟨by omega, om_al_trans (om_al_tail hk b2 hke) b3, fun k' h1 h2 H => ?_⟩
  exact b4 k' h1 (by omega) (by omega) (om_al_trans (om_al_symm (om_al_tail hk (by omega) hke)) H)
theorem om_iv_next {f P : Nat → Int32} {e N k b : Nat} (h : om_iv f e P N k) (h0 : 0 < k) (ha : ¬ om_al f (e - k) P 0 (k + 1)) (hb : om_mx P k P (k - 1) b) : b < k ∧ om_iv f e P N b := by
  obtain ⟨a, b', c, d⟩ := h
  obtain ⟨s1, s2, s3⟩ := om_step c b' hb h0
  refine ⟨s1, by omega, by omega, s2, fun k' h1 h2 h3 H => ?_⟩
  rcases Nat.lt_trichotomy k' k with x | x | x
  · exact s3 k' h1 x (om_al_pre H (by omega))
  · subst x; exact ha H
  · exact d k' x h2 h3 H
theorem om_iv_start {f P : Nat → Int32} {e N N' m : Nat} (h : om_mx f e P N' m) (h1 : m < N) (h2 : N ≤ N' + 1) : om_iv f e P N m := by
  obtain ⟨a, b, c, d⟩ := h
  exact ⟨h1, b, c, fun k' g1 g2 g3 H => d k' g1 (by omega) g3 (om_al_pre H (by omega))⟩
theorem om_iv_full {f P : Nat → Int32} {e Z b : Nat} (h : om_mx f e P Z Z) (h0 : 0 < Z) (hb : om_mx P Z P (Z - 1) b) : om_iv f e P Z b := by
  obtain ⟨a, b', c, d⟩ := h
  obtain ⟨s1, s2, s3⟩ := om_step c b' hb h0
  exact ⟨s1, by omega, s2, fun k' h1 h2 h3 H => s3 k' h1 h2 (om_al_pre H (by omega))⟩
theorem om_iv_00 {f P : Nat → Int32} {N : Nat} (h : 0 < N) : om_iv f 0 P N 0 :=
  ⟨h, Nat.le_refl 0, om_al_0, fun k' h1 _ h3 => absurd h3 (by omega)⟩
theorem om_mx_00 {f P : Nat → Int32} {e : Nat} : om_mx f e P 0 0 :=
  ⟨Nat.le_refl 0, Nat.zero_le e, om_al_0, fun m' h1 h2 _ => absurd h2 (by omega)⟩
/-- a match depends on the text before e alone -/
theorem om_mx_f {f f' P : Nat → Int32} {e N m : Nat} (hf : ∀ j, j < e → f' j = f j) (h : om_mx f e P N m) : om_mx f' e P N m := by
  obtain ⟨a, b, c, d⟩ := h
  refine ⟨a, b, om_al_f (fun i hi => hf _ (by omega)) c, fun m' h1 h2 h3 H => d m' h1 h2 h3 ?_⟩
  exact om_al_f (fun i hi => (hf _ (by omega)).symm) H
/-! what the tables hold -/
def om_nb (n : Nat) (P B A : Nat → Int32) : Prop := ∀ i, i < n → om_lo P i (B i) i ∧ om_hi P i (A i) i
def om_ft (n : Nat) (P F : Nat → Int32) : Prop := F 0 = -1 ∧ ∀ k, 0 < k → k ≤ n → ∃ b, F k = nI b ∧ om_mx P k P (k - 1) b
def om_cd (Z : Nat) (P B A F : Nat → Int32) : Prop := om_nb Z P B A ∧ om_ft Z P F
def om_mm (T P : Nat → Int32) (Z K : Nat) (M : Nat → Int32) : Prop := ∀ p, p < K → ∃ m, M p = nI m ∧ om_mx T (p + 1) P Z m
end
section
/-! X: compares, fitsPattern, fitsText -/
theorem om_c60 {post : Int32 → Prop} {L Z K C : Int32} {T M P B A F f : Nat → Int32} {k q : Nat} {value upper : Int32}
    (hk : k < 10) (hhi : om_hi P k (A k) k) (hal : om_al f q P 0 k) (hn : ∀ j, j < k → (P j).toInt ≠ (P k).toInt) (hv : value = f (q + k))
    (hu : ∀ c, c < k → A k = nI c → upper = f (q + c))
    (hlw : ∀ j, j < k → (P j).toInt < (P k).toInt → (f (q + j)).toInt < (f (q + k)).toInt)
    (h1 : om_al f q P 0 (k + 1) → post 1) (h0 : ¬ om_al f q P 0 (k + 1) → post 0) :
    wX_compares_60 post value upper (A k) L Z K C T M P B A F := by
  have hx := om_ext_ne hal (by simpa only [Nat.zero_add] using hn)
  simp only [Nat.zero_add] at hx
  unfold wX_compares_60
  rcases hhi with ⟨e, ha⟩ | ⟨c, hc, e, hl, hm⟩
  · refine br_t e (h1 (hx.mpr ⟨hlw, fun j hj hlt => ?_⟩))
    have h2 := ha j hj
    omega
  · have hne := hn c hc
    have hy := om_hi_c hal hc (by simp only [Nat.zero_add]; omega) (by simpa only [Nat.zero_add] using hm)
    simp only [Nat.zero_add] at hy
    have eu := hu c hc e
    refine br_f (by rw [e]; exact om_n1 (by omega)) (br_c (fun hle => h0 fun H => ?_) (fun hle => h1 (hx.mpr ⟨hlw, hy.mpr ?_⟩)))
    · have h2 := hy.mp (hx.mp H).2
      rw [eu, hv, Int32.le_iff_toInt_le] at hle
      omega
    · rw [eu, hv, Int32.le_iff_toInt_le] at hle
      omega
theorem om_c49 {post : Int32 → Prop} {L Z K C : Int32} {T M P B A F f : Nat → Int32} {k q : Nat} {value lower upper : Int32}
    (hk : k < 10) (hlo : om_lo P k (B k) k) (hhi : om_hi P k (A k) k) (hal : om_al f q P 0 k) (hn : ∀ j, j < k → (P j).toInt ≠ (P k).toInt) (hv : value = f (q + k))
    (hl : ∀ c, c < k → B k = nI c → lower = f (q + c)) (hu : ∀ c, c < k → A k = nI c → upper = f (q + c))
    (h1 : om_al f q P 0 (k + 1) → post 1) (h0 : ¬ om_al f q P 0 (k + 1) → post 0) :
    wX_compares_49 post value lower upper (B k) (A k) L Z K C T M P B A F := by
  unfold wX_compares_49
  rcases hlo with ⟨e, ha⟩ | ⟨c, hc, e, hle, hm⟩
  · exact br_t e (om_c60 hk hhi hal hn hv hu (fun j hj hlt => absurd (ha j hj) (by omega)) h1 h0)
  · have hne := hn c hc
    have hy := om_lo_c hal hc (by simp only [Nat.zero_add]; omega) (by simpa only [Nat.zero_add] using hm)
    simp only [Nat.zero_add] at hy
    have el := hl c hc e
    refine br_f (by rw [e]; exact om_n1 (by omega)) (br_c (fun hh => h0 fun H => ?_) (fun hh => om_c60 hk hhi hal hn hv hu (hy.mpr ?_) h1 h0))
    · have hx := om_ext_ne hal (by simpa only [Nat.zero_add] using hn)
      simp only [Nat.zero_add] at hx
      have h2 := hy.mp (hx.mp H).1
      rw [el, hv, Int32.le_iff_toInt_le] at hh
      omega
    · rw [el, hv, Int32.le_iff_toInt_le] at hh
      omega
theorem om_cmp {post : Int32 → Prop} {L Z K C : Int32} {T M P B A F f : Nat → Int32} {k q : Nat} {value lower upper : Int32}
    (hk : k < 10) (hlo : om_lo P k (B k) k) (hhi : om_hi P k (A k) k) (hal : om_al f q P 0 k) (hv : value = f (q + k))
    (hl : ∀ c, c < k → B k = nI c → lower = f (q + c)) (hu : ∀ c, c < k → A k = nI c → upper = f (q + c))
    (h1 : om_al f q P 0 (k + 1) → post 1) (h0 : ¬ om_al f q P 0 (k + 1) → post 0) :
    wpX_compares post (L, Z, K, C, T, M, P, B, A, F) (nI k) value lower upper := by
  have hin : vp_in (nI k) 10 := vp_in_nI hk (by decide)
  have hc : (nI k).toNatClampNeg = k := nI_clamp (by omega)
  have hlo2 := hlo
  unfold wpX_compares
  dsimp only
  rw [hc]
  refine ⟨hin, nm_e ⟨hin, nm_e ?_⟩⟩
  rcases hlo with ⟨e, ha⟩ | ⟨c, hck, e, hle, hm⟩
  · exact br_t e (om_c49 hk hlo2 hhi hal (fun j hj => by have h2 := ha j hj; omega) hv hl hu h1 h0)
  · have hcin : vp_in (B k) 10 := by rw [e]; exact vp_in_nI (by omega) (by decide)
    have hcc : (B k).toNatClampNeg = c := by rw [e]; exact nI_clamp (by omega)
    refine br_f (by rw [e]; exact om_n1 (by omega)) ⟨hcin, hin, ?_⟩
    rw [hcc]
    by_cases he : P c = P k
    · have hx := om_ext_eq hal hck (by simp only [Nat.zero_add]; rw [he])
      have el := hl c hck e
      refine br_t he (br_c (fun h => h1 (hx.mpr ?_)) (fun h => h0 fun H => h ?_))
      · rw [← el, ← hv, h]
      · rw [el, hv]; exact Int32.toInt_inj.mp (hx.mp H)
    · refine br_f he (om_c49 hk hlo2 hhi hal (fun j hj E => ?_) hv hl hu h1 h0)
      have h2 := hm j hj (by omega)
      exact he (Int32.toInt_inj.mp (by omega))
theorem om_fP {post : Int32 → Prop} {L Z K C : Int32} {T M P B A F : Nat → Int32} {k i : Nat}
    (hk : k < 10) (hki : k ≤ i) (hi : i < 10) (hlo : om_lo P k (B k) k) (hhi : om_hi P k (A k) k) (hal : om_al P (i - k) P 0 k)
    (h1 : om_al P (i - k) P 0 (k + 1) → post 1) (h0 : ¬ om_al P (i - k) P 0 (k + 1) → post 0) :
    wpX_fitsPattern post (L, Z, K, C, T, M, P, B, A, F) (nI k) (nI i) := by
  have hin : vp_in (nI k) 10 := vp_in_nI hk (by decide)
  have hc : (nI k).toNatClampNeg = k := nI_clamp (by omega)
  have hci : (nI i).toNatClampNeg = i := nI_clamp (by omega)
  have hsub : nI i - nI k = nI (i - k) := pk_sub hki
  have J59 : ∀ lower upper : Int32, (∀ c, c < k → B k = nI c → lower = P (i - k + c)) → (∀ c, c < k → A k = nI c → upper = P (i - k + c)) →
      wX_fitsPattern_59 post (nI k) (nI i) lower upper L Z K C T M P B A F := by
    intro lower upper hl hu
    unfold wX_fitsPattern_59
    rw [hci]
    refine ⟨vp_in_nI hi (by decide), om_cmp hk hlo hhi hal ?_ hl hu (fun h => ⟨narrow_b1, h1 h⟩) (fun h => ⟨narrow_b0, h0 h⟩)⟩
    exact congrArg P (by omega)
  have J29 : ∀ lower : Int32, (∀ c, c < k → B k = nI c → lower = P (i - k + c)) → wX_fitsPattern_29 post (nI k) (nI i) lower L Z K C T M P B A F := by
    intro lower hl
    unfold wX_fitsPattern_29
    rw [hc, hsub]
    refine ⟨hin, ?_⟩
    rcases hhi with ⟨e, ha⟩ | ⟨c, hck, e, hle, hm⟩
    · exact br_t e (J59 lower 0 hl (fun c hc2 e2 => absurd (e2.symm.trans e) (om_n1 (by omega))))
    · refine br_f (by rw [e]; exact om_n1 (by omega)) ⟨hin, ?_⟩
      rw [e, nI_add, nI_clamp (by omega)]
      refine ⟨vp_in_nI (by omega) (by decide), J59 lower _ hl (fun c2 h2 e2 => ?_)⟩
      rw [(nI_eq (by omega) (by omega)).mp (e2.symm.trans e)]
  unfold wpX_fitsPattern
  dsimp only
  rw [hc, hsub]
  refine ⟨hin, ?_⟩
  rcases hlo with ⟨e, ha⟩ | ⟨c, hck, e, hle, hm⟩
  · exact br_t e (J29 0 (fun c hc2 e2 => absurd (e2.symm.trans e) (om_n1 (by omega))))
  · refine br_f (by rw [e]; exact om_n1 (by omega)) ⟨hin, ?_⟩
    rw [e, nI_add, nI_clamp (by omega)]
    refine ⟨vp_in_nI (by omega) (by decide), J29 _ (fun c2 h2 e2 => ?_)⟩
    rw [(nI_eq (by omega) (by omega)).mp (e2.symm.trans e)]
theorem om_fT {post : Int32 → Prop} {L Z K C : Int32} {T M P B A F : Nat → Int32} {k i : Nat}
    (hk : k < 10) (hki : k ≤ i) (hi : i < 60) (hlo : om_lo P k (B k) k) (hhi : om_hi P k (A k) k) (hal : om_al T (i - k) P 0 k)
    (h1 : om_al T (i - k) P 0 (k + 1) → post 1) (h0 : ¬ om_al T (i - k) P 0 (k + 1) → post 0) :
    wpX_fitsText post (L, Z, K, C, T, M, P, B, A, F) (nI k) (nI i) := by
  have hin : vp_in (nI k) 10 := vp_in_nI hk (by decide)
  have hc : (nI k).toNatClampNeg = k := nI_clamp (by omega)
  have hci : (nI i).toNatClampNeg = i := nI_clamp (by omega)
  have hsub : nI i - nI k = nI (i - k) := pk_sub hki
  have J59 : ∀ lower upper : Int32, (∀ c, c < k → B k = nI c → lower = T (i - k + c)) → (∀ c, c < k → A k = nI c → upper = T (i - k + c)) →
      wX_fitsText_59 post (nI k) (nI i) lower upper L Z K C T M P B A F := by
    intro lower upper hl hu
    unfold wX_fitsText_59
    rw [hci]
    refine ⟨vp_in_nI hi (by decide), om_cmp hk hlo hhi hal ?_ hl hu (fun h => ⟨narrow_b1, h1 h⟩) (fun h => ⟨narrow_b0, h0 h⟩)⟩
    exact congrArg T (by omega)
  have J29 : ∀ lower : Int32, (∀ c, c < k → B k = nI c → lower = T (i - k + c)) → wX_fitsText_29 post (nI k) (nI i) lower L Z K C T M P B A F := by
    intro lower hl
    unfold wX_fitsText_29
    rw [hc, hsub]
    refine ⟨hin, ?_⟩
    rcases hhi with ⟨e, ha⟩ | ⟨c, hck, e, hle, hm⟩
    · exact br_t e (J59 lower 0 hl (fun c hc2 e2 => absurd (e2.symm.trans e) (om_n1 (by omega))))
    · refine br_f (by rw [e]; exact om_n1 (by omega)) ⟨hin, ?_⟩
      rw [e, nI_add, nI_clamp (by omega)]
      refine ⟨vp_in_nI (by omega) (by decide), J59 lower _ hl (fun c2 h2 e2 => ?_)⟩
      rw [(nI_eq (by omega) (by omega)).mp (e2.symm.trans e)]
  unfold wpX_fitsText
  dsimp only
  rw [hc, hsub]
  refine ⟨hin, ?_⟩
  rcases hlo with ⟨e, ha⟩ | ⟨c, hck, e, hle, hm⟩
  · exact br_t e (J29 0 (fun c hc2 e2 => absurd (e2.symm.trans e) (om_n1 (by omega))))
  · refine br_f (by rw [e]; exact om_n1 (by omega)) ⟨hin, ?_⟩
    rw [e, nI_add, nI_clamp (by omega)]
    refine ⟨vp_in_nI (by omega) (by decide), J29 _ (fun c2 h2 e2 => ?_)⟩
    rw [(nI_eq (by omega) (by omega)).mp (e2.symm.trans e)]
/-! X: findNeighbours -/
theorem om_f73 {post : SX → Prop} {J : Int32 → (Nat → Int32) → (Nat → Int32) → (Nat → Int32) → (Nat → Int32) → (Nat → Int32) → (Nat → Int32) → Prop}
    {L Z K C : Int32} {T M P B A F : Nat → Int32} {i j : Nat} (hi : i < 10) (hj : j < i) (hh : om_hi P i (A i) j)
    (hJ : ∀ A' : Nat → Int32, (∀ t, t ≠ i → A' t = A t) → om_hi P i (A' i) (j + 1) → J (nI (j + 1)) T M P B A' F) :
    wX_findNeighbours_73 post J (nI i) (nI j) L Z K C T M P B A F := by
  have hini : vp_in (nI i) 10 := vp_in_nI hi (by decide)
  have hinj : vp_in (nI j) 10 := vp_in_nI (by omega) (by decide)
  have hci : (nI i).toNatClampNeg = i := nI_clamp (by omega)
  have hcj : (nI j).toNatClampNeg = j := nI_clamp (by omega)
  have hup : ∀ t, t ≠ i → upd A i (nI j) t = A t := fun t ht => pk_un ht
  unfold wX_findNeighbours_73
  rw [hci, hcj]
  refine ⟨hinj, hini, br_c (fun h => nm_r (nI_1 j) (hJ A (fun _ _ => rfl) (om_hi_keep hh (Int32.lt_iff_toInt_lt.mp h)))) (fun h => ⟨hini, ?_⟩)⟩
  have hle : (P i).toInt ≤ (P j).toInt := by rw [Int32.lt_iff_toInt_lt] at h; omega
  by_cases e : A i = -1
  · refine br_t e ⟨hini, nm_e (nm_r (nI_1 j) (hJ _ hup ?_))⟩
    rw [pk_us]; exact om_hi_new1 hh e (by omega) hle
  · obtain ⟨c, hc, ec⟩ : ∃ c, c < j ∧ A i = nI c := by
      rcases hh with ⟨e', _⟩ | ⟨c, hc, e', _, _⟩
      · exact absurd e' e
      · exact ⟨c, hc, e'⟩
    refine br_f e ⟨hinj, hini, ?_⟩
    rw [ec, nI_clamp (show c < 2 ^ 31 by omega)]
    refine ⟨vp_in_nI (by omega) (by decide), br_c (fun h2 => nm_r (nI_1 j) (hJ A (fun _ _ => rfl) (om_hi_keep2 hh ec (by omega) (by omega) (Int32.le_iff_toInt_le.mp h2)))) (fun h2 => ⟨hini, nm_e (nm_r (nI_1 j) (hJ _ hup ?_))⟩)⟩
    rw [pk_us]; exact om_hi_new2 hh ec (by omega) (by omega) hle (by rw [Int32.le_iff_toInt_le] at h2; omega)
theorem om_f16 {post : SX → Prop} {L Z K C : Int32} {T M P F : Nat → Int32} {i : Nat} (hi : i < 10) :
    ∀ (d n j : Nat) (B A : Nat → Int32), j + d = i → d < n → om_lo P i (B i) j → om_hi P i (A i) j →
    (∀ B' A' : Nat → Int32, (∀ t, t ≠ i → B' t = B t) → (∀ t, t ≠ i → A' t = A t) → om_lo P i (B' i) i → om_hi P i (A' i) i → post (L, Z, K, C, T, M, P, B', A', F)) →
    wX_findNeighbours_16 post (nI i) L Z K C n (nI j) T M P B A F := by
  intro d
  induction d with
  | zero =>
    intro n j B A hj hn hlo hhi hp
    obtain ⟨n, rfl⟩ : ∃ n', n = n' + 1 := ⟨n - 1, by omega⟩
    have ej : j = i := by omega
    subst ej
    exact br_t (nI_le (Nat.le_refl _) (by omega)) (hp B A (fun _ _ => rfl) (fun _ _ => rfl) hlo hhi)
  | succ d ih =>
    intro n j B A hj hn hlo hhi hp
    obtain ⟨n, rfl⟩ : ∃ n', n = n' + 1 := ⟨n - 1, by omega⟩
    have hji : j < i := by omega
    have hini : vp_in (nI i) 10 := vp_in_nI hi (by decide)
    have hinj : vp_in (nI j) 10 := vp_in_nI (by omega) (by decide)
    have hci : (nI i).toNatClampNeg = i := nI_clamp (by omega)
    have hcj : (nI j).toNatClampNeg = j := nI_clamp (by omega)
    have hJ : ∀ B' : Nat → Int32, (∀ t, t ≠ i → B' t = B t) → om_lo P i (B' i) (j + 1) →
        wX_findNeighbours_73 post (wX_findNeighbours_16 post (nI i) L Z K C n) (nI i) (nI j) L Z K C T M P B' A F := by
      intro B' hB' hlo'
      refine om_f73 hi hji hhi (fun A' hA' hhi' => ih n (j + 1) B' A' (by omega) (by omega) hlo' hhi' ?_)
      intro B2 A2 g1 g2 g3 g4
      exact hp B2 A2 (fun t ht => (g1 t ht).trans (hB' t ht)) (fun t ht => (g2 t ht).trans (hA' t ht)) g3 g4
    have hJ6 : om_lo P i (nI j) (j + 1) →
        wX_findNeighbours_66 post (wX_findNeighbours_16 post (nI i) L Z K C n) (nI i) (nI j) L Z K C T M P B A F := by
      intro h
      unfold wX_findNeighbours_66
      rw [hci]
      exact ⟨hini, nm_e (hJ _ (fun t ht => pk_un ht) (by rw [pk_us]; exact h))⟩
    rw [wX_findNeighbours_16]
    dsimp only
    rw [hci, hcj]
    refine br_f (nI_ge hji (by omega)) ⟨hinj, hini, br_c (fun h => hJ B (fun _ _ => rfl) (om_lo_keep hlo (Int32.lt_iff_toInt_lt.mp h))) (fun h => ⟨hini, ?_⟩)⟩
    have hle : (P j).toInt ≤ (P i).toInt := by rw [Int32.lt_iff_toInt_lt] at h; omega
    by_cases e : B i = -1
    · exact br_t e (hJ6 (om_lo_new1 hlo e (by omega) hle))
    · obtain ⟨c, hc, ec⟩ : ∃ c, c < j ∧ B i = nI c := by
        rcases hlo with ⟨e', _⟩ | ⟨c, hc, e', _, _⟩
        · exact absurd e' e
        · exact ⟨c, hc, e'⟩
      refine br_f e ⟨hinj, hini, ?_⟩
      rw [ec, nI_clamp (show c < 2 ^ 31 by omega)]
      exact ⟨vp_in_nI (by omega) (by decide), br_c (fun h2 => hJ B (fun _ _ => rfl) (om_lo_keep2 hlo ec (by omega) (by omega) (Int32.le_iff_toInt_le.mp h2)))
        (fun h2 => hJ6 (om_lo_new2 hlo ec (by omega) (by omega) hle (by rw [Int32.le_iff_toInt_le] at h2; omega)))⟩
theorem om_fn {post : SX → Prop} {L Z K C : Int32} {T M P B A F : Nat → Int32} {i : Nat} (hi : i < 10)
    (hp : ∀ B' A' : Nat → Int32, (∀ t, t ≠ i → B' t = B t) → (∀ t, t ≠ i → A' t = A t) → om_lo P i (B' i) i → om_hi P i (A' i) i → post (L, Z, K, C, T, M, P, B', A', F)) :
    wpX_findNeighbours post (L, Z, K, C, T, M, P, B, A, F) (nI i) := by
  have hini : vp_in (nI i) 10 := vp_in_nI hi (by decide)
  have hci : (nI i).toNatClampNeg = i := nI_clamp (by omega)
  unfold wpX_findNeighbours
  dsimp only
  rw [hci]
  refine ⟨hini, nm_e ⟨hini, nm_e ⟨i + 1, om_f16 hi i (i + 1) 0 _ _ (by omega) (by omega) (by rw [pk_us]; exact om_lo_0) (by rw [pk_us]; exact om_hi_0) ?_⟩⟩⟩
  intro B' A' g1 g2 g3 g4
  exact hp B' A' (fun t ht => (g1 t ht).trans (pk_un ht)) (fun t ht => (g2 t ht).trans (pk_un ht)) g3 g4
end
section
/-! X: code -/
theorem om_c95 {post : SX → Prop} {J : Int32 → (Nat → Int32) → (Nat → Int32) → (Nat → Int32) → (Nat → Int32) → (Nat → Int32) → (Nat → Int32) → Prop}
    {L Z K C : Int32} {T M P B A F : Nat → Int32} {i m : Nat} {x2 : Int32} (hi : i < 10) (hx : x2 + 1 = nI m)
    (h : J (nI (i + 1)) T M P B A (upd F (i + 1) (nI m))) : wX_code_95 post J (nI i) x2 L Z K C T M P B A F := by
  unfold wX_code_95
  rw [nI_1 i, hx, nI_clamp (by omega)]
  exact ⟨vp_in_nI (by omega) (by decide), nm_e (nm_e h)⟩
theorem om_d60m {post : SX → Prop} {J : Int32 → (Nat → Int32) → (Nat → Int32) → (Nat → Int32) → (Nat → Int32) → (Nat → Int32) → (Nat → Int32) → Prop}
    {L Z K C : Int32} {T M P B A F : Nat → Int32} {n : Nat} {x1 x3 : Int32}
    (h : wX_code_95 post J x1 (-1) L Z K C T M P B A F) : wX_code_60 post J x1 L Z K C T M P B A F (n + 1) (-1) x3 :=
  br_c (fun _ => h) (fun _ => br_t (by decide) h)
theorem om_d60 {post : SX → Prop} {J : Int32 → (Nat → Int32) → (Nat → Int32) → (Nat → Int32) → (Nat → Int32) → (Nat → Int32) → (Nat → Int32) → Prop}
    {L Z K C : Int32} {T M P B A F : Nat → Int32} {i N : Nat} (hi : i < 10) (hiN : i ≤ N) (hnb : om_nb N P B A) (hft : om_ft i P F)
    (hJ : ∀ m, om_mx P (i + 1) P i m → J (nI (i + 1)) T M P B A (upd F (i + 1) (nI m))) :
    ∀ n k t : Nat, k + 1 < n → t + k ≤ 10 → om_iv P i P i k → wX_code_60 post J (nI i) L Z K C T M P B A F n (nI k) (nI t) := by
  intro n
  induction n with
  | zero => intro k t h; omega
  | succ n ih =>
    intro k t hn ht hiv
    have hk : k < i := hiv.1
    rw [wX_code_60]
    dsimp only
    refine br_f (nI_nlt (a := 10) (by omega) (by decide)) (br_f (nI_pos (by omega)) (om_fP (by omega) (by omega) (by omega) (hnb k (by omega)).1 (hnb k (by omega)).2 hiv.2.2.1
      (fun h => br_f (by decide) (om_c95 hi (nI_1 k) (hJ _ (om_iv_hit hiv h)))) (fun h => br_t rfl ⟨vp_in_nI (by omega) (by decide), ?_⟩)))
    rw [nI_clamp (show k < 2 ^ 31 by omega)]
    by_cases z : k = 0
    · subst z
      obtain ⟨n, rfl⟩ : ∃ n', n = n' + 1 := ⟨n - 1, by omega⟩
      exact nm_r hft.1 (nm_e (om_d60m (om_c95 hi (by decide) (hJ _ (om_iv_0 hiv h)))))
    · obtain ⟨b, eb, hb⟩ := hft.2 k (by omega) (by omega)
      obtain ⟨hbk, hiv'⟩ := om_iv_next hiv (by omega) h hb
      exact nm_r eb (nm_r (nI_1 t) (ih b (t + 1) (by omega) (by omega) hiv'))
theorem om_ft_s {P F : Nat → Int32} {i m : Nat} (h : om_ft i P F) (hm : om_mx P (i + 1) P i m) : om_ft (i + 1) P (upd F (i + 1) (nI m)) := by
  refine ⟨(pk_un (by omega)).trans h.1, fun k h0 hk => ?_⟩
  by_cases e : k = i + 1
  · subst e
    exact ⟨m, pk_us, hm⟩
  · obtain ⟨b, eb, hb⟩ := h.2 k h0 (by omega)
    exact ⟨b, (pk_un e).trans eb, hb⟩
theorem om_c43 {post : SX → Prop} {L K C : Int32} {T M P B A : Nat → Int32} {Z : Nat} (hZ : Z ≤ 10) (hnb : om_nb Z P B A) :
    ∀ (d n i : Nat) (F : Nat → Int32), i + d = Z → d < n → om_ft i P F → (∀ F' : Nat → Int32, om_ft Z P F' → post (L, nI Z, K, C, T, M, P, B, A, F')) →
    wX_code_43 post L (nI Z) K C n (nI i) T M P B A F := by
  intro d
  induction d with
  | zero =>
    intro n i F hi hn hft hp
    obtain ⟨n, rfl⟩ : ∃ n', n = n' + 1 := ⟨n - 1, by omega⟩
    have ei : i = Z := by omega
    subst ei
    exact br_t (nI_le (Nat.le_refl _) (by omega)) (hp F hft)
  | succ d ih =>
    intro n i F hi hn hft hp
    obtain ⟨n, rfl⟩ : ∃ n', n = n' + 1 := ⟨n - 1, by omega⟩
    have hJ : ∀ m, om_mx P (i + 1) P i m → wX_code_43 post L (nI Z) K C n (nI (i + 1)) T M P B A (upd F (i + 1) (nI m)) :=
      fun m hm => ih n (i + 1) _ (by omega) (by omega) (om_ft_s hft hm) hp
    rw [wX_code_43]
    dsimp only
    rw [nI_clamp (show i < 2 ^ 31 by omega)]
    refine br_f (nI_ge (by omega) (by omega)) ⟨vp_in_nI (by omega) (by decide), ?_⟩
    by_cases z : i = 0
    · subst z
      exact nm_r hft.1 ⟨1, om_d60m (om_c95 (by omega) (by decide) (hJ _ om_mx_00))⟩
    · obtain ⟨b, eb, hb⟩ := hft.2 i (by omega) (Nat.le_refl _)
      have hb1 := hb.1
      exact nm_r eb ⟨b + 2, om_d60 (by omega) (by omega) hnb hft hJ (b + 2) b 0 (by omega) (by omega) (om_iv_start hb (by omega) (by omega))⟩
theorem om_nb_s {P B A B' A' : Nat → Int32} {i : Nat} (h : om_nb i P B A) (hB : ∀ t, t ≠ i → B' t = B t) (hA : ∀ t, t ≠ i → A' t = A t)
    (h1 : om_lo P i (B' i) i) (h2 : om_hi P i (A' i) i) : om_nb (i + 1) P B' A' := by
  intro t ht
  by_cases e : t = i
  · subst e; exact ⟨h1, h2⟩
  · rw [hB t e, hA t e]; exact h t (by omega)
theorem om_c15 {post : SX → Prop} {L K C : Int32} {T M P F : Nat → Int32} {Z : Nat} (hZ : Z ≤ 10)
    (hp : ∀ B' A' F' : Nat → Int32, om_cd Z P B' A' F' → post (L, nI Z, K, C, T, M, P, B', A', F')) :
    ∀ (d n i : Nat) (B A : Nat → Int32), i + d = Z → d < n → om_nb i P B A → wX_code_15 post n (nI i) L (nI Z) K C T M P B A F := by
  intro d
  induction d with
  | zero =>
    intro n i B A hi hn hnb
    obtain ⟨n, rfl⟩ : ∃ n', n = n' + 1 := ⟨n - 1, by omega⟩
    have ei : i = Z := by omega
    subst ei
    refine br_t (nI_le (Nat.le_refl _) (by omega)) (nm_e (Exists.intro (i + 1) (om_c43 hZ hnb i (i + 1) 0 _ (by omega) (by omega) ?_ (fun F' hF' => hp B A F' ⟨hnb, hF'⟩))))
    exact ⟨pk_us, fun k h0 hk => absurd h0 (by omega)⟩
  | succ d ih =>
    intro n i B A hi hn hnb
    obtain ⟨n, rfl⟩ : ∃ n', n = n' + 1 := ⟨n - 1, by omega⟩
    rw [wX_code_15]
    dsimp only
    exact br_f (nI_ge (by omega) (by omega)) (om_fn (by omega) (fun B' A' g1 g2 g3 g4 => nm_r (nI_1 i) (ih n (i + 1) B' A' (by omega) (by omega) (om_nb_s hnb g1 g2 g3 g4))))
theorem om_code {post : SX → Prop} {L K C : Int32} {T M P B A F : Nat → Int32} {Z : Nat} (hZ : Z ≤ 10) (hC : C = 0 ∨ om_cd Z P B A F)
    (hp : ∀ (C' : Int32) (B' A' F' : Nat → Int32), om_cd Z P B' A' F' → post (L, nI Z, K, C', T, M, P, B', A', F')) :
    wpX_code post (L, nI Z, K, C, T, M, P, B, A, F) := by
  unfold wpX_code
  dsimp only
  by_cases e : C = 0
  · exact br_t e ⟨Z + 1, om_c15 hZ (hp 1) Z (Z + 1) 0 B A (by omega) (by omega) (fun t ht => absurd ht (Nat.not_lt_zero t))⟩
  · exact br_f e (hp C B A F (hC.resolve_left e))
/-! X: refresh -/
theorem om_r86 {post : SX → Prop} {J : Int32 → (Nat → Int32) → (Nat → Int32) → (Nat → Int32) → (Nat → Int32) → (Nat → Int32) → (Nat → Int32) → Prop}
    {L K C : Int32} {T M P B A F : Nat → Int32} {p m Z : Nat} {x2 : Int32} (hp : p < 60) (hZ : Z ≤ 10) (hx : (Z = 0 ∧ m = 0) ∨ (0 < Z ∧ x2 + 1 = nI m))
    (h : J (nI (p + 1)) T (upd M p (nI m)) P B A F) : wX_refresh_86 post J (nI p) x2 L (nI Z) K C T M P B A F := by
  unfold wX_refresh_86
  rw [nI_1 p, nI_clamp (show p < 2 ^ 31 by omega)]
  rcases hx with ⟨e, e2⟩ | ⟨e, e2⟩
  · subst e e2
    exact br_t nI_0 ⟨vp_in_nI hp (by decide), nm_e (nm_e h)⟩
  · refine br_f (nI_ne0 e (by omega)) ⟨vp_in_nI hp (by decide), ?_⟩
    rw [e2]
    exact nm_e (nm_e h)
theorem om_r51m {post : SX → Prop} {J : Int32 → (Nat → Int32) → (Nat → Int32) → (Nat → Int32) → (Nat → Int32) → (Nat → Int32) → (Nat → Int32) → Prop}
    {L Z K C : Int32} {T M P B A F : Nat → Int32} {n : Nat} {x1 x3 : Int32}
    (h : wX_refresh_86 post J x1 (-1) L Z K C T M P B A F) : wX_refresh_51 post J x1 L Z K C T M P B A F (n + 1) (-1) x3 :=
  br_c (fun _ => h) (fun _ => br_t (by decide) h)
theorem om_r51 {post : SX → Prop} {J : Int32 → (Nat → Int32) → (Nat → Int32) → (Nat → Int32) → (Nat → Int32) → (Nat → Int32) → (Nat → Int32) → Prop}
    {L K C : Int32} {T M P B A F : Nat → Int32} {p Z : Nat} (hp : p < 60) (hZ : Z ≤ 10) (hnb : om_nb Z P B A) (hft : om_ft Z P F)
    (hJ : ∀ m, om_mx T (p + 1) P Z m → J (nI (p + 1)) T (upd M p (nI m)) P B A F) :
    ∀ n k t : Nat, k + 1 < n → t + k ≤ 10 → om_iv T p P Z k → wX_refresh_51 post J (nI p) L (nI Z) K C T M P B A F n (nI k) (nI t) := by
  intro n
  induction n with
  | zero => intro k t h; omega
  | succ n ih =>
    intro k t hn ht hiv
    have hk : k < Z := hiv.1
    have hkp : k ≤ p := hiv.2.1
    rw [wX_refresh_51]
    dsimp only
    refine br_f (nI_nlt (a := 10) (by omega) (by decide)) (br_f (nI_pos (by omega)) (om_fT (by omega) hkp hp (hnb k hk).1 (hnb k hk).2 hiv.2.2.1
      (fun h => br_f (by decide) (om_r86 hp hZ (Or.inr ⟨by omega, nI_1 k⟩) (hJ _ (om_iv_hit hiv h)))) (fun h => br_t rfl ⟨vp_in_nI (by omega) (by decide), ?_⟩)))
    rw [nI_clamp (show k < 2 ^ 31 by omega)]
    by_cases z : k = 0
    · subst z
      obtain ⟨n, rfl⟩ : ∃ n', n = n' + 1 := ⟨n - 1, by omega⟩
      exact nm_r hft.1 (nm_e (om_r51m (om_r86 hp hZ (Or.inr ⟨by omega, by decide⟩) (hJ _ (om_iv_0 hiv h)))))
    · obtain ⟨b, eb, hb⟩ := hft.2 k (by omega) (by omega)
      obtain ⟨hbk, hiv'⟩ := om_iv_next hiv (by omega) h hb
      exact nm_r eb (nm_r (nI_1 t) (ih b (t + 1) (by omega) (by omega) hiv'))
theorem om_r33 {post : SX → Prop} {J : Int32 → (Nat → Int32) → (Nat → Int32) → (Nat → Int32) → (Nat → Int32) → (Nat → Int32) → (Nat → Int32) → Prop}
    {L K C : Int32} {T M P B A F : Nat → Int32} {p Z m : Nat} (hp : p < 60) (hZ : Z ≤ 10) (hnb : om_nb Z P B A) (hft : om_ft Z P F) (hm : om_mx T p P Z m)
    (hJ : ∀ m, om_mx T (p + 1) P Z m → J (nI (p + 1)) T (upd M p (nI m)) P B A F) :
    wX_refresh_33 post J (nI p) (nI m) L (nI Z) K C T M P B A F := by
  have hmZ : m ≤ Z := hm.1
  unfold wX_refresh_33
  rw [nI_clamp (show m < 2 ^ 31 by omega)]
  by_cases e : m = Z
  · subst e
    refine br_t rfl ⟨vp_in_nI (by omega) (by decide), ?_⟩
    by_cases z : m = 0
    · subst z
      exact nm_r hft.1 ⟨1, om_r51m (om_r86 hp hZ (Or.inl ⟨rfl, rfl⟩) (hJ _ om_mx_00))⟩
    · obtain ⟨b, eb, hb⟩ := hft.2 m (by omega) (Nat.le_refl _)
      have hb1 := hb.1
      exact nm_r eb ⟨b + 2, om_r51 hp hZ hnb hft hJ (b + 2) b 0 (by omega) (by omega) (om_iv_full hm (by omega) hb)⟩
  · refine br_f (fun h => e ((nI_eq (by omega) (by omega)).mp h)) ⟨m + 2, om_r51 hp hZ hnb hft hJ (m + 2) m 0 (by omega) (by omega) (om_iv_start hm (by omega) (by omega))⟩
theorem om_mm_s {T M P : Nat → Int32} {Z p m : Nat} (h : om_mm T P Z p M) (hm : om_mx T (p + 1) P Z m) : om_mm T P Z (p + 1) (upd M p (nI m)) := by
  intro t ht
  by_cases e : t = p
  · subst e; exact ⟨m, pk_us, hm⟩
  · obtain ⟨m', e1, e2⟩ := h t (by omega)
    exact ⟨m', (pk_un e).trans e1, e2⟩
theorem om_mx_e0 {f P : Nat → Int32} {N : Nat} : om_mx f 0 P N 0 :=
  ⟨Nat.zero_le N, Nat.le_refl 0, om_al_0, fun m' h1 _ h3 => absurd h3 (by omega)⟩
theorem om_r9 {post : SX → Prop} {K C : Int32} {T P B A F : Nat → Int32} {L Z : Nat} (hL : L ≤ 60) (hZ : Z ≤ 10) (hcd : om_cd Z P B A F)
    (hp : ∀ M' : Nat → Int32, om_mm T P Z L M' → post (nI L, nI Z, nI L, C, T, M', P, B, A, F)) :
    ∀ (d n p : Nat) (M : Nat → Int32), p + d = L → d < n → om_mm T P Z p M → wX_refresh_9 post (nI L) (nI Z) K C n (nI p) T M P B A F := by
  intro d
  induction d with
  | zero =>
    intro n p M hi hn hmm
    obtain ⟨n, rfl⟩ : ∃ n', n = n' + 1 := ⟨n - 1, by omega⟩
    have ei : p = L := by omega
    subst ei
    exact br_t (nI_le (Nat.le_refl _) (by omega)) (hp M hmm)
  | succ d ih =>
    intro n p M hi hn hmm
    obtain ⟨n, rfl⟩ : ∃ n', n = n' + 1 := ⟨n - 1, by omega⟩
    have hJ : ∀ m, om_mx T (p + 1) P Z m → wX_refresh_9 post (nI L) (nI Z) K C n (nI (p + 1)) T (upd M p (nI m)) P B A F :=
      fun m hm => ih n (p + 1) _ (by omega) (by omega) (om_mm_s hmm hm)
    rw [wX_refresh_9]
    dsimp only
    refine br_f (nI_ge (by omega) (by omega)) ?_
    by_cases z : p = 0
    · subst z
      exact br_t (nI_le (Nat.le_refl 0) (by decide)) (om_r33 (m := 0) (by omega) hZ hcd.1 hcd.2 om_mx_e0 hJ)
    · obtain ⟨q, rfl⟩ : ∃ q, p = q + 1 := ⟨p - 1, by omega⟩
      obtain ⟨m, em, hm⟩ := hmm q (by omega)
      refine br_f (nI_nle (by omega) (by omega)) ?_
      rw [nI_pred, nI_clamp (show q < 2 ^ 31 by omega), em]
      exact ⟨vp_in_nI (by omega) (by decide), om_r33 (by omega) hZ hcd.1 hcd.2 hm hJ⟩
theorem om_refresh {post : SX → Prop} {C : Int32} {T M P B A F : Nat → Int32} {L Z K : Nat} (hL : L ≤ 60) (hZ : Z ≤ 10) (hK : K ≤ L) (hC : C = 0 ∨ om_cd Z P B A F) (hmm : om_mm T P Z K M)
    (hp : ∀ (C' : Int32) (M' B' A' F' : Nat → Int32), om_cd Z P B' A' F' → om_mm T P Z L M' → post (nI L, nI Z, nI L, C', T, M', P, B', A', F')) :
    wpX_refresh post (nI L, nI Z, nI K, C, T, M, P, B, A, F) := by
  unfold wpX_refresh
  dsimp only
  refine om_code hZ hC (fun C' B' A' F' hcd => Exists.intro (L - K + 1) ?_)
  exact om_r9 hL hZ hcd (fun M' h => hp C' M' B' A' F' hcd h) (L - K) (L - K + 1) K M (by omega) (by omega) hmm
end
section
/-! Y: order, alike, occurs -/
theorem om_leS {p L Z : Nat} (hp : p < 2 ^ 31) (hL : L < 2 ^ 30) (hZ : Z < 2 ^ 30) : nI p ≤ nI L - nI Z ↔ p + Z ≤ L := by
  rw [Int32.le_iff_toInt_le, pk_sub_toInt hL hZ, nI_toInt hp]
  omega
def om_or (x y : Int32) : Int32 := if y ≤ x then (if x ≤ y then 0 else 1) else -1
theorem om_or_0 {x y : Int32} (h1 : y ≤ x) (h2 : x ≤ y) : om_or x y = 0 := by unfold om_or; rw [if_pos h1, if_pos h2]
theorem om_or_1 {x y : Int32} (h1 : y ≤ x) (h2 : ¬ x ≤ y) : om_or x y = 1 := by unfold om_or; rw [if_pos h1, if_neg h2]
theorem om_or_m {x y : Int32} (h1 : ¬ y ≤ x) : om_or x y = -1 := by unfold om_or; rw [if_neg h1]
theorem om_or_c (x y : Int32) : (om_or x y = 0 ∧ x.toInt = y.toInt) ∨ (om_or x y = 1 ∧ y.toInt < x.toInt) ∨ (om_or x y = -1 ∧ x.toInt < y.toInt) := by
  by_cases h1 : y ≤ x
  · by_cases h2 : x ≤ y
    · refine Or.inl ⟨om_or_0 h1 h2, ?_⟩
      rw [Int32.le_iff_toInt_le] at h1 h2
      omega
    · refine Or.inr (Or.inl ⟨om_or_1 h1 h2, ?_⟩)
      rw [Int32.le_iff_toInt_le] at h1 h2
      omega
  · refine Or.inr (Or.inr ⟨om_or_m h1, ?_⟩)
    rw [Int32.le_iff_toInt_le] at h1
    omega
theorem om_or_eq {x y x' y' : Int32} : om_or x y = om_or x' y' ↔ ((x.toInt < y.toInt ↔ x'.toInt < y'.toInt) ∧ (y.toInt < x.toInt ↔ y'.toInt < x'.toInt)) := by
  rcases om_or_c x y with ⟨e, h⟩ | ⟨e, h⟩ | ⟨e, h⟩ <;> rcases om_or_c x' y' with ⟨e', h'⟩ | ⟨e', h'⟩ | ⟨e', h'⟩ <;> rw [e, e'] <;>
    refine ⟨fun E => ?_, fun E => ?_⟩ <;> first | omega | rfl | exact absurd E (by decide)
theorem om_ord {post : Int32 → Prop} {L Z : Int32} {V Q : Nat → Int32} {i j : Nat} (hi : i < 70) (hj : j < 70) (h : post (om_or (V i) (V j))) :
    wpY_order post (L, Z, V, Q) (nI i) (nI j) := by
  have hii : vp_in (nI i) 70 := vp_in_nI hi (by decide)
  have hij : vp_in (nI j) 70 := vp_in_nI hj (by decide)
  unfold wpY_order
  dsimp only
  rw [nI_clamp (show i < 2 ^ 31 by omega), nI_clamp (show j < 2 ^ 31 by omega)]
  refine ⟨hii, hij, br_c (fun h1 => ⟨hii, hij, br_c (fun h2 => ?_) (fun h2 => ?_)⟩) (fun h1 => ?_)⟩
  · rw [om_or_0 h1 h2] at h; exact h
  · rw [om_or_1 h1 h2] at h; exact h
  · rw [om_or_m h1] at h; exact h
def om_rw (V : Nat → Int32) (p q i n : Nat) : Prop :=
  ∀ j, j < n → ((V (p + i)).toInt < (V (p + j)).toInt ↔ (V (q + i)).toInt < (V (q + j)).toInt) ∧ ((V (p + j)).toInt < (V (p + i)).toInt ↔ (V (q + j)).toInt < (V (q + i)).toInt)
theorem om_rw_al {V : Nat → Int32} {p q i : Nat} (h : om_al V p V q (i + 1)) : om_rw V p q i i :=
  fun j hj => ⟨h i j (by omega) (by omega), h j i (by omega) (by omega)⟩
theorem om_al_rw {V : Nat → Int32} {p q i : Nat} (h : om_al V p V q i) (hr : om_rw V p q i i) : om_al V p V q (i + 1) := by
  intro a b ha hb
  by_cases ea : a = i
  · by_cases eb : b = i
    · rw [ea, eb]
      exact ⟨fun z => absurd z (Int.lt_irrefl _), fun z => absurd z (Int.lt_irrefl _)⟩
    · rw [ea]; exact (hr b (by omega)).1
  · by_cases eb : b = i
    · rw [eb]; exact (hr a (by omega)).2
    · exact h a b (by omega) (by omega)
theorem om_a12 {post J : Int32 → Prop} {L Z : Int32} {V Q : Nat → Int32} {p q k i : Nat} (hp : p + k ≤ 70) (hq : q + k ≤ 70) (hi : i < k)
    (hJ : om_rw V p q i i → J (nI (i + 1))) (h0 : ¬ om_rw V p q i i → post 0) :
    ∀ d n j : Nat, j + d = i → d < n → om_rw V p q i j → wY_alike_12 post J (nI p) (nI q) (nI k) (nI i) L Z V Q n (nI j) := by
  intro d
  induction d with
  | zero =>
    intro n j hj hn hr
    obtain ⟨n, rfl⟩ : ∃ n', n = n' + 1 := ⟨n - 1, by omega⟩
    have ej : j = i := by omega
    subst ej
    exact br_t (nI_le (Nat.le_refl _) (by omega)) (nm_r (nI_1 j) (hJ hr))
  | succ d ih =>
    intro n j hj hn hr
    obtain ⟨n, rfl⟩ : ∃ n', n = n' + 1 := ⟨n - 1, by omega⟩
    rw [wY_alike_12]
    dsimp only
    rw [nI_add p i, nI_add p j, nI_add q i, nI_add q j]
    refine br_f (nI_ge (by omega) (by omega)) (om_ord (by omega) (by omega) (om_ord (by omega) (by omega) ?_))
    by_cases e : om_or (V (p + i)) (V (p + j)) = om_or (V (q + i)) (V (q + j))
    · refine br_t e (nm_r (nI_1 j) (ih n (j + 1) (by omega) (by omega) ?_))
      intro t ht
      by_cases et : t = j
      · rw [et]; exact om_or_eq.mp e
      · exact hr t (by omega)
    · exact br_f e (h0 fun H => e (om_or_eq.mpr (H j (by omega))))
theorem om_a3 {post : Int32 → Prop} {L Z : Int32} {V Q : Nat → Int32} {p q k : Nat} (hp : p + k ≤ 70) (hq : q + k ≤ 70)
    (h1 : om_al V p V q k → post 1) (h0 : ¬ om_al V p V q k → post 0) :
    ∀ d n i : Nat, i + d = k → d < n → om_al V p V q i → wY_alike_3 post (nI p) (nI q) (nI k) L Z V Q n (nI i) := by
  intro d
  induction d with
  | zero =>
    intro n i hi hn ha
    obtain ⟨n, rfl⟩ : ∃ n', n = n' + 1 := ⟨n - 1, by omega⟩
    have ei : i = k := by omega
    subst ei
    exact br_t (nI_le (Nat.le_refl _) (by omega)) (h1 ha)
  | succ d ih =>
    intro n i hi hn ha
    obtain ⟨n, rfl⟩ : ∃ n', n = n' + 1 := ⟨n - 1, by omega⟩
    exact br_f (nI_ge (by omega) (by omega)) (Exists.intro (i + 1) (om_a12 hp hq (by omega) (fun hr => ih n (i + 1) (by omega) (by omega) (om_al_rw ha hr))
      (fun hr => h0 fun H => hr (om_rw_al (om_al_pre H (by omega)))) i (i + 1) 0 (by omega) (by omega) (fun j hj => absurd hj (Nat.not_lt_zero j))))
theorem om_alike {post : Int32 → Prop} {L Z : Int32} {V Q : Nat → Int32} {p q k : Nat} (hp : p + k ≤ 70) (hq : q + k ≤ 70)
    (h1 : om_al V p V q k → post 1) (h0 : ¬ om_al V p V q k → post 0) : wpY_alike post (L, Z, V, Q) (nI p) (nI q) (nI k) :=
  Exists.intro (k + 1) (om_a3 hp hq h1 h0 k (k + 1) 0 (by omega) (by omega) om_al_0)
/-! the text and the pattern inside V -/
def om_vv (T P V : Nat → Int32) : Prop := (∀ j, j < 60 → V j = T j) ∧ ∀ j, j < 10 → V (60 + j) = P j
theorem om_vT {T P V : Nat → Int32} (h : om_vv T P V) {p k : Nat} (hp : p + k ≤ 60) (hk : k ≤ 10) : om_al V p V 60 k ↔ om_al T p P 0 k :=
  om_al_fg (fun i hi => h.1 _ (by omega)) (fun i hi => by rw [Nat.zero_add]; exact h.2 i (by omega))
theorem om_vP {T P V : Nat → Int32} (h : om_vv T P V) {a k : Nat} (ha : a + k ≤ 10) : om_al V (60 + a) V 60 k ↔ om_al P a P 0 k :=
  om_al_fg (fun i hi => by rw [Nat.add_assoc]; exact h.2 _ (by omega)) (fun i hi => by rw [Nat.zero_add]; exact h.2 i (by omega))
def om_oc (T P : Nat → Int32) (L Z s : Nat) : Prop := 0 < Z ∧ s + Z ≤ L ∧ om_al T s P 0 Z
theorem om_ocs {post : Int32 → Prop} {T P V Q : Nat → Int32} {L Z p : Nat} (hv : om_vv T P V) (hL : L ≤ 60) (hZ : Z ≤ 10) (hp : p < 2 ^ 31)
    (h1 : om_oc T P L Z p → post 1) (h0 : ¬ om_oc T P L Z p → post 0) : wpY_occurs post (nI L, nI Z, V, Q) (nI p) := by
  unfold wpY_occurs
  dsimp only
  by_cases z : Z = 0
  · subst z
    exact br_t nI_0 (h0 fun h => absurd h.1 (by omega))
  · refine br_f (nI_ne0 (by omega) (by omega)) (br_f (nI_pos hp) ?_)
    by_cases e : p + Z ≤ L
    · have hx := om_vT hv (p := p) (k := Z) (by omega) hZ
      exact br_t ((om_leS hp (by omega) (by omega)).mpr e) (om_alike (q := 60) (by omega) (by omega)
        (fun h => ⟨narrow_b1, h1 ⟨by omega, e, hx.mp h⟩⟩) (fun h => ⟨narrow_b0, h0 fun H => h (hx.mpr H.2.2)⟩))
    · exact br_f (fun h => e ((om_leS hp (by omega) (by omega)).mp h)) (h0 fun h => e h.2.1)
/-! X: endsAt -/
def om_en (T P : Nat → Int32) (Z p : Nat) : Prop := 0 < Z ∧ Z ≤ p + 1 ∧ om_al T (p + 1 - Z) P 0 Z
theorem om_ends {post : Int32 → Prop} {L K C : Int32} {T M P B A F : Nat → Int32} {Z p : Nat} (hZ : Z ≤ 10) (hp : p < 60)
    (hm : ∃ m, M p = nI m ∧ om_mx T (p + 1) P Z m) (h1 : om_en T P Z p → post 1) (h0 : ¬ om_en T P Z p → post 0) :
    wpX_endsAt post (L, nI Z, K, C, T, M, P, B, A, F) (nI p) := by
  obtain ⟨m, em, hm⟩ := hm
  have hmZ := hm.1
  unfold wpX_endsAt
  dsimp only
  rw [nI_clamp (show p < 2 ^ 31 by omega), em]
  by_cases z : Z = 0
  · subst z
    exact br_t (nI_le (Nat.le_refl 0) (by decide)) (h0 fun h => absurd h.1 (by omega))
  · refine br_f (nI_nle (by omega) (by omega)) ⟨vp_in_nI hp (by decide), ?_⟩
    by_cases e : m = Z
    · subst e
      exact br_t rfl (h1 ⟨by omega, hm.2.1, hm.2.2.1⟩)
    · exact br_f (fun h => e ((nI_eq (by omega) (by omega)).mp h)) (h0 fun h => hm.2.2.2 Z (by omega) (Nat.le_refl _) h.2.1 h.2.2)
theorem om_en_oc {T P : Nat → Int32} {L Z p : Nat} (hp : p < L) : om_en T P Z p ↔ Z ≤ p + 1 ∧ om_oc T P L Z (p + 1 - Z) := by
  constructor
  · rintro ⟨a, b, c⟩; exact ⟨b, a, by omega, c⟩
  · rintro ⟨b, a, _, c⟩; exact ⟨a, b, c⟩
end
section
/-! stores in a row -/
def om_wr (f : Nat → Int32) (b : Nat) (g : Nat → Int32) (c : Nat) : Nat → Int32 := fun j => if b ≤ j ∧ j < b + c then g (j - b) else f j
theorem om_wr_lt {f g : Nat → Int32} {b c j : Nat} (h : j < b) : om_wr f b g c j = f j := if_neg (by omega)
theorem om_wr_ge {f g : Nat → Int32} {b c j : Nat} (h : b + c ≤ j) : om_wr f b g c j = f j := if_neg (by omega)
theorem om_wr_in {f g : Nat → Int32} {b c j : Nat} (h1 : b ≤ j) (h2 : j < b + c) : om_wr f b g c j = g (j - b) := if_pos ⟨h1, h2⟩
theorem om_wr_0 (f g : Nat → Int32) (b : Nat) : om_wr f b g 0 = f := funext fun j => if_neg (by omega)
theorem om_wr_s (f g : Nat → Int32) (b c : Nat) : upd (om_wr f b g c) (b + c) (g c) = om_wr f b g (c + 1) := by
  funext j
  by_cases e : j = b + c
  · subst e
    rw [pk_us, om_wr_in (by omega) (by omega)]
    exact congrArg g (by omega)
  · rw [pk_un e]
    by_cases h1 : j < b
    · rw [om_wr_lt h1, om_wr_lt h1]
    · by_cases h2 : j < b + c
      · rw [om_wr_in (by omega) h2, om_wr_in (by omega) (by omega)]
      · rw [om_wr_ge (by omega), om_wr_ge (by omega)]
theorem om_xtake {post : Int32 → SX → Prop} {L Z K C : Int32} {T M P B A F : Nat → Int32} {a c : Nat} (ha : a + c ≤ 60) (hc : c ≤ 10)
    (hp : post (nI c) (L, nI c, 0, 0, T, M, om_wr P 0 (fun j => T (a + j)) c, B, A, F)) :
    ∀ d n j : Nat, j + d = c → d < n → wX_take_31 post (nI a) (nI c) L Z K C n (nI j) T M (om_wr P 0 (fun j => T (a + j)) j) B A F := by
  intro d
  induction d with
  | zero =>
    intro n j hj hn
    obtain ⟨n, rfl⟩ : ∃ n', n = n' + 1 := ⟨n - 1, by omega⟩
    have ej : j = c := by omega
    subst ej
    exact br_t (nI_le (Nat.le_refl _) (by omega)) hp
  | succ d ih =>
    intro n j hj hn
    obtain ⟨n, rfl⟩ : ∃ n', n = n' + 1 := ⟨n - 1, by omega⟩
    have hw := om_wr_s P (fun j => T (a + j)) 0 j
    rw [Nat.zero_add] at hw
    rw [wX_take_31]
    dsimp only
    rw [nI_add a j, nI_clamp (show a + j < 2 ^ 31 by omega), nI_clamp (show j < 2 ^ 31 by omega)]
    exact br_f (nI_ge (by omega) (by omega)) ⟨vp_in_nI (by omega) (by decide), vp_in_nI (by omega) (by decide), nm_r hw (nm_r (nI_1 j) (ih n (j + 1) (by omega) (by omega)))⟩
theorem om_ytake {post : Int32 → SY → Prop} {L Z : Int32} {V Q : Nat → Int32} {a c : Nat} (ha : a + c ≤ 60) (hc : c ≤ 10)
    (hp : post (nI c) (L, nI c, om_wr V 60 (fun j => V (a + j)) c, Q)) :
    ∀ d n j : Nat, j + d = c → d < n → wY_take_31 post (nI a) (nI c) L Z n (nI j) (om_wr V 60 (fun j => V (a + j)) j) Q := by
  intro d
  induction d with
  | zero =>
    intro n j hj hn
    obtain ⟨n, rfl⟩ : ∃ n', n = n' + 1 := ⟨n - 1, by omega⟩
    have ej : j = c := by omega
    subst ej
    exact br_t (nI_le (Nat.le_refl _) (by omega)) hp
  | succ d ih =>
    intro n j hj hn
    obtain ⟨n, rfl⟩ : ∃ n', n = n' + 1 := ⟨n - 1, by omega⟩
    have hw := om_wr_s V (fun j => V (a + j)) 60 j
    have h60 : (60 : Int32) + nI j = nI (60 + j) := nI_add 60 j
    rw [wY_take_31]
    dsimp only
    rw [nI_add a j, h60, nI_clamp (show a + j < 2 ^ 31 by omega), nI_clamp (show 60 + j < 2 ^ 31 by omega), om_wr_lt (show a + j < 60 by omega)]
    exact br_f (nI_ge (by omega) (by omega)) ⟨vp_in_nI (by omega) (by decide), vp_in_nI (by omega) (by decide), nm_r hw (nm_r (nI_1 j) (ih n (j + 1) (by omega) (by omega)))⟩
theorem om_xramp {post : Int32 → SX → Prop} {Z K C x1 x2 : Int32} {T M P B A F : Nat → Int32} {L c : Nat} (hL : L + c ≤ 60)
    (hp : post (nI (L + c)) (nI (L + c), Z, K, C, om_wr T L (fun j => x1 + nI j * x2) c, M, P, B, A, F)) :
    ∀ d n j : Nat, j + d = c → d < n → wX_ramp_30 post x1 x2 (nI c) (nI L) Z K C n (nI j) (om_wr T L (fun j => x1 + nI j * x2) j) M P B A F := by
  intro d
  induction d with
  | zero =>
    intro n j hj hn
    obtain ⟨n, rfl⟩ : ∃ n', n = n' + 1 := ⟨n - 1, by omega⟩
    have ej : j = c := by omega
    subst ej
    exact br_t (nI_le (Nat.le_refl _) (by omega)) (nm_r (nI_add L j) hp)
  | succ d ih =>
    intro n j hj hn
    obtain ⟨n, rfl⟩ : ∃ n', n = n' + 1 := ⟨n - 1, by omega⟩
    have hw := om_wr_s T (fun j => x1 + nI j * x2) L j
    rw [wX_ramp_30]
    dsimp only
    rw [nI_add L j, nI_clamp (show L + j < 2 ^ 31 by omega)]
    exact br_f (nI_ge (by omega) (by omega)) ⟨vp_in_nI (by omega) (by decide), nm_r hw (nm_r (nI_1 j) (ih n (j + 1) (by omega) (by omega)))⟩
theorem om_yramp {post : Int32 → SY → Prop} {Z x1 x2 : Int32} {V Q : Nat → Int32} {L c : Nat} (hL : L + c ≤ 60)
    (hp : post (nI (L + c)) (nI (L + c), Z, om_wr V L (fun j => x1 + nI j * x2) c, Q)) :
    ∀ d n j : Nat, j + d = c → d < n → wY_ramp_30 post x1 x2 (nI c) (nI L) Z n (nI j) (om_wr V L (fun j => x1 + nI j * x2) j) Q := by
  intro d
  induction d with
  | zero =>
    intro n j hj hn
    obtain ⟨n, rfl⟩ : ∃ n', n = n' + 1 := ⟨n - 1, by omega⟩
    have ej : j = c := by omega
    subst ej
    exact br_t (nI_le (Nat.le_refl _) (by omega)) (nm_r (nI_add L j) hp)
  | succ d ih =>
    intro n j hj hn
    obtain ⟨n, rfl⟩ : ∃ n', n = n' + 1 := ⟨n - 1, by omega⟩
    have hw := om_wr_s V (fun j => x1 + nI j * x2) L j
    rw [wY_ramp_30]
    dsimp only
    rw [nI_add L j, nI_clamp (show L + j < 2 ^ 31 by omega)]
    exact br_f (nI_ge (by omega) (by omega)) ⟨vp_in_nI (by omega) (by decide), nm_r hw (nm_r (nI_1 j) (ih n (j + 1) (by omega) (by omega)))⟩
theorem om_xecho {post : Int32 → SX → Prop} {Z K C x2 x3 : Int32} {T M P B A F : Nat → Int32} {L a c : Nat} (hL : L + c ≤ 60) (ha : a + c ≤ L)
    (hp : post (nI (L + c)) (nI (L + c), Z, K, C, om_wr T L (fun j => T (a + j) * x2 + x3) c, M, P, B, A, F)) :
    ∀ d n j : Nat, j + d = c → d < n → wX_echo_60 post x2 x3 (nI c) (nI a) (nI L) Z K C n (nI j) (om_wr T L (fun j => T (a + j) * x2 + x3) j) M P B A F := by
  intro d
  induction d with
  | zero =>
    intro n j hj hn
    obtain ⟨n, rfl⟩ : ∃ n', n = n' + 1 := ⟨n - 1, by omega⟩
    have ej : j = c := by omega
    subst ej
    exact br_t (nI_le (Nat.le_refl _) (by omega)) (nm_r (nI_add L j) hp)
  | succ d ih =>
    intro n j hj hn
    obtain ⟨n, rfl⟩ : ∃ n', n = n' + 1 := ⟨n - 1, by omega⟩
    have hw := om_wr_s T (fun j => T (a + j) * x2 + x3) L j
    rw [wX_echo_60]
    dsimp only
    rw [nI_add L j, nI_add a j, nI_clamp (show L + j < 2 ^ 31 by omega), nI_clamp (show a + j < 2 ^ 31 by omega), om_wr_lt (show a + j < L by omega)]
    exact br_f (nI_ge (by omega) (by omega)) ⟨vp_in_nI (by omega) (by decide), vp_in_nI (by omega) (by decide), nm_r hw (nm_r (nI_1 j) (ih n (j + 1) (by omega) (by omega)))⟩
theorem om_yecho {post : Int32 → SY → Prop} {Z x2 x3 : Int32} {V Q : Nat → Int32} {L a c : Nat} (hL : L + c ≤ 60) (ha : a + c ≤ L)
    (hp : post (nI (L + c)) (nI (L + c), Z, om_wr V L (fun j => V (a + j) * x2 + x3) c, Q)) :
    ∀ d n j : Nat, j + d = c → d < n → wY_echo_66 post x2 x3 (nI c) (nI a) (nI L) Z n (nI j) (om_wr V L (fun j => V (a + j) * x2 + x3) j) Q := by
  intro d
  induction d with
  | zero =>
    intro n j hj hn
    obtain ⟨n, rfl⟩ : ∃ n', n = n' + 1 := ⟨n - 1, by omega⟩
    have ej : j = c := by omega
    subst ej
    exact br_t (nI_le (Nat.le_refl _) (by omega)) (nm_r (nI_add L j) hp)
  | succ d ih =>
    intro n j hj hn
    obtain ⟨n, rfl⟩ : ∃ n', n = n' + 1 := ⟨n - 1, by omega⟩
    have hw := om_wr_s V (fun j => V (a + j) * x2 + x3) L j
    rw [wY_echo_66]
    dsimp only
    rw [nI_add L j, nI_add a j, nI_clamp (show L + j < 2 ^ 31 by omega), nI_clamp (show a + j < 2 ^ 31 by omega), om_wr_lt (show a + j < L by omega)]
    exact br_f (nI_ge (by omega) (by omega)) ⟨vp_in_nI (by omega) (by decide), vp_in_nI (by omega) (by decide), nm_r hw (nm_r (nI_1 j) (ih n (j + 1) (by omega) (by omega)))⟩
end
section
/-! the relation -/
def om_St (L Z K : Nat) (C : Int32) (T M P B A F V : Nat → Int32) : Prop :=
  L ≤ 60 ∧ Z ≤ 10 ∧ K ≤ L ∧ (C = 0 ∨ om_cd Z P B A F) ∧ om_mm T P Z K M ∧ om_vv T P V
/-- the relation at the head of a turn whose first cell is k -/
def i_Rel (k : Nat) (u : SX) (v : SY) : Prop :=
  ∃ (L Z K : Nat) (C : Int32) (T M P B A F V Q : Nat → Int32), u = (nI L, nI Z, nI K, C, T, M, P, B, A, F) ∧ v = (nI L, nI Z, V, Q) ∧ om_St L Z K C T M P B A F V
theorem om_el {k : Nat} {u : SX} {v : SY} {R : SX → SY → Prop}
    (h : ∀ (L Z K : Nat) (C : Int32) (T M P B A F V Q : Nat → Int32), om_St L Z K C T M P B A F V → R (nI L, nI Z, nI K, C, T, M, P, B, A, F) (nI L, nI Z, V, Q))
    (I : i_Rel k u v) : R u v := by
  obtain ⟨L, Z, K, C, T, M, P, B, A, F, V, Q, e1, e2, hS⟩ := I
  rw [e1, e2]
  exact h L Z K C T M P B A F V Q hS
theorem om_mk {k L Z K : Nat} {C : Int32} {T M P B A F V Q : Nat → Int32} (h : om_St L Z K C T M P B A F V) :
    i_Rel k (nI L, nI Z, nI K, C, T, M, P, B, A, F) (nI L, nI Z, V, Q) := ⟨L, Z, K, C, T, M, P, B, A, F, V, Q, rfl, rfl, h⟩
theorem om_mm_0 {T M P : Nat → Int32} {Z : Nat} : om_mm T P Z 0 M := fun p hp => absurd hp (Nat.not_lt_zero p)
theorem om_mm_f {T T' M P : Nat → Int32} {Z K : Nat} (hf : ∀ j, j < K → T' j = T j) (h : om_mm T P Z K M) : om_mm T' P Z K M := by
  intro p hp
  obtain ⟨m, e, hm⟩ := h p hp
  exact ⟨m, e, om_mx_f (fun j hj => hf j (by omega)) hm⟩
theorem om_mm_le {T M P : Nat → Int32} {Z K K' : Nat} (h : om_mm T P Z K M) (hk : K' ≤ K) : om_mm T P Z K' M := fun p hp => h p (by omega)
theorem om_vvP {T P V : Nat → Int32} {Z : Nat} {x : Int32} (h : om_vv T P V) : om_vv T (upd P Z x) (upd V (60 + Z) x) := by
  refine ⟨fun j hj => (pk_un (by omega)).trans (h.1 j hj), fun j hj => ?_⟩
  by_cases e : j = Z
  · subst e; rw [pk_us, pk_us]
  · rw [pk_un e, pk_un (by omega)]; exact h.2 j hj
theorem om_vvT {T P V : Nat → Int32} {L : Nat} {x : Int32} (h : om_vv T P V) (hL : L < 60) : om_vv (upd T L x) P (upd V L x) := by
  refine ⟨fun j hj => ?_, fun j hj => (pk_un (by omega)).trans (h.2 j hj)⟩
  by_cases e : j = L
  · subst e; rw [pk_us, pk_us]
  · rw [pk_un e, pk_un e]; exact h.1 j hj
theorem om_vvW {T P V : Nat → Int32} {L c : Nat} {g g' : Nat → Int32} (h : om_vv T P V) (hL : L + c ≤ 60) (hg : ∀ j, j < c → g' j = g j) : om_vv (om_wr T L g c) P (om_wr V L g' c) := by
  refine ⟨fun j hj => ?_, fun j hj => (om_wr_ge (by omega)).trans (h.2 j hj)⟩
  by_cases h1 : j < L
  · rw [om_wr_lt h1, om_wr_lt h1]; exact h.1 j hj
  · by_cases h2 : j < L + c
    · rw [om_wr_in (by omega) h2, om_wr_in (by omega) h2]; exact hg _ (by omega)
    · rw [om_wr_ge (by omega), om_wr_ge (by omega)]; exact h.1 j hj
theorem om_vvK {T P V : Nat → Int32} {c : Nat} {g g' : Nat → Int32} (h : om_vv T P V) (hg : ∀ j, j < c → g' j = g j) : om_vv T (om_wr P 0 g c) (om_wr V 60 g' c) := by
  refine ⟨fun j hj => (om_wr_lt (by omega)).trans (h.1 j hj), fun j hj => ?_⟩
  by_cases h2 : j < c
  · rw [om_wr_in (by omega) (by omega), om_wr_in (by omega) (by omega), show 60 + j - 60 = j by omega, Nat.sub_zero]; exact hg j h2
  · rw [om_wr_ge (by omega), om_wr_ge (by omega)]; exact h.2 j hj
theorem i_up {k : Nat} {u : SX} {v : SY} (h : i_Rel k u v) : i_Rel (k + 4) u v := h
theorem i_vc0 : wpX_init (fun u => wpY_init (fun v => i_Rel 0 u v)) :=
  om_mk (k := 0) (L := 0) (Z := 0) (K := 0) (C := 0) (T := fun _ => 0) (M := fun _ => 0) (P := fun _ => 0) (B := fun _ => 0) (A := fun _ => 0) (F := fun _ => 0) (V := fun _ => 0) (Q := fun _ => 0)
    ⟨by omega, by omega, by omega, Or.inl rfl, om_mm_0, fun _ _ => rfl, fun _ _ => rfl⟩
theorem i_vc_pattern {k : Nat} {u : SX} {v : SY} (I : i_Rel k u v) (hk : k + 4 ≤ 2048) (v1 : Int32) : wpX_pattern (fun r u' => wpY_pattern (fun r' v' => r' = r ∧ i_Rel (k + 4) u' v') v v1) u v1 := by
  refine om_el (R := fun u v => wpX_pattern (fun r u' => wpY_pattern (fun r' v' => r' = r ∧ i_Rel (k + 4) u' v') v v1) u v1) ?_ I
  intro L Z K C T M P B A F V Q hS
  have hS2 := hS
  obtain ⟨hL, hZ, hK, hC, hmm, hv⟩ := hS
  unfold wpX_pattern wpX_changed wpY_pattern
  dsimp only
  have h60 : (60 : Int32) + nI Z = nI (60 + Z) := nI_add 60 Z
  rw [h60, nI_clamp (show Z < 2 ^ 31 by omega), nI_clamp (show 60 + Z < 2 ^ 31 by omega)]
  refine pk_eq Z 10 (fun e => pk_lt Z 10 (fun h => absurd h (by omega)) (fun _ => ⟨rfl, om_mk hS2⟩)) (fun e => ⟨vp_in_nI (by omega) (by decide), nm_e (nm_r (nI_1 Z) ?_)⟩)
  refine pk_lt Z 10 (fun h => ⟨vp_in_nI (by omega) (by decide), nm_e (nm_r (nI_1 Z) ⟨rfl, ?_⟩)⟩) (fun h => absurd h (by omega))
  exact om_mk (K := 0) ⟨hL, by omega, by omega, Or.inl rfl, om_mm_0, om_vvP hv⟩
theorem i_vc_clearPattern {k : Nat} {u : SX} {v : SY} (I : i_Rel k u v) (hk : k + 4 ≤ 2048) : wpX_clearPattern (fun r u' => wpY_clearPattern (fun r' v' => r' = r ∧ i_Rel (k + 4) u' v') v) u := by
  refine om_el (R := fun u v => wpX_clearPattern (fun r u' => wpY_clearPattern (fun r' v' => r' = r ∧ i_Rel (k + 4) u' v') v) u) ?_ I
  intro L Z K C T M P B A F V Q hS
  obtain ⟨hL, hZ, hK, hC, hmm, hv⟩ := hS
  unfold wpX_clearPattern wpX_changed wpY_clearPattern
  dsimp only
  exact ⟨rfl, om_mk (Z := 0) (K := 0) ⟨hL, by omega, by omega, Or.inl rfl, om_mm_0, hv⟩⟩
theorem i_vc_take {k : Nat} {u : SX} {v : SY} (I : i_Rel k u v) (hk : k + 4 ≤ 2048) (v1 : Int32) (v2 : Int32) : wpX_take (fun r u' => wpY_take (fun r' v' => r' = r ∧ i_Rel (k + 4) u' v') v v1 v2) u v1 v2 := by
  refine om_el (R := fun u v => wpX_take (fun r u' => wpY_take (fun r' v' => r' = r ∧ i_Rel (k + 4) u' v') v v1 v2) u v1 v2) ?_ I
  intro L Z K C T M P B A F V Q hS
  have hS2 := hS
  obtain ⟨hL, hZ, hK, hC, hmm, hv⟩ := hS
  unfold wpX_take wpY_take
  dsimp only
  by_cases h2 : v2 < 0
  · exact br_t h2 (br_t h2 ⟨rfl, om_mk hS2⟩)
  · refine br_f h2 ?_
    by_cases h3 : v2 ≤ 10
    · refine br_t h3 ?_
      by_cases h1 : v1 < 0
      · exact br_t h1 (br_f h2 (br_t h3 (br_t h1 ⟨rfl, om_mk hS2⟩)))
      · refine br_f h1 ?_
        by_cases h4 : v1 ≤ nI L - v2
        · refine br_t h4 ?_
          have h4' := h4
          obtain ⟨a, ha, rfl⟩ := nI_of h1
          obtain ⟨c, hc, rfl⟩ := nI_of2 (n := 10) (by decide) h2 h3
          have hac : a + c ≤ L := (om_leS ha (by omega) (by omega)).mp h4
          have hx := om_xtake (post := fun r u' => wpY_take (fun r' v' => r' = r ∧ i_Rel (k + 4) u' v') (nI L, nI Z, V, Q) (nI a) (nI c)) (L := nI L) (Z := nI Z) (K := nI K) (C := C) (T := T) (M := M) (P := P) (B := B) (A := A) (F := F) (a := a) (c := c) (by omega) hc ?_ c (c + 1) 0 (by omega) (by omega)
          · rw [om_wr_0] at hx
            exact ⟨c + 1, hx⟩
          · unfold wpY_take
            dsimp only
            refine br_f h2 (br_t h3 (br_f h1 (br_t h4' ⟨c + 1, ?_⟩)))
            have hy := om_ytake (post := fun r' v' => r' = nI c ∧ i_Rel (k + 4) (nI L, nI c, 0, 0, T, M, om_wr P 0 (fun j => T (a + j)) c, B, A, F) v') (L := nI L) (Z := nI Z) (V := V) (Q := Q) (a := a) (c := c) (by omega) hc ⟨rfl, ?_⟩ c (c + 1) 0 (by omega) (by omega)
            · rw [om_wr_0] at hy
              exact hy
            · exact om_mk (K := 0) ⟨hL, hc, by omega, Or.inl rfl, om_mm_0, om_vvK hv (fun j hj => hv.1 _ (by omega))⟩
        · exact br_f h4 (br_f h2 (br_t h3 (br_f h1 (br_f h4 ⟨rfl, om_mk hS2⟩))))
    · exact br_f h3 (br_f h2 (br_f h3 ⟨rfl, om_mk hS2⟩))
theorem i_vc_feed {k : Nat} {u : SX} {v : SY} (I : i_Rel k u v) (hk : k + 4 ≤ 2048) (v1 : Int32) : wpX_feed (fun r u' => wpY_feed (fun r' v' => r' = r ∧ i_Rel (k + 4) u' v') v v1) u v1 := by
  refine om_el (R := fun u v => wpX_feed (fun r u' => wpY_feed (fun r' v' => r' = r ∧ i_Rel (k + 4) u' v') v v1) u v1) ?_ I
  intro L Z K C T M P B A F V Q hS
  have hS2 := hS
  obtain ⟨hL, hZ, hK, hC, hmm, hv⟩ := hS
  unfold wpX_feed wpY_feed
  dsimp only
  rw [nI_clamp (show L < 2 ^ 31 by omega)]
  refine pk_eq L 60 (fun e => pk_lt L 60 (fun h => absurd h (by omega)) (fun _ => ⟨rfl, om_mk hS2⟩)) (fun e => ⟨vp_in_nI (by omega) (by decide), nm_e (nm_r (nI_1 L) ?_)⟩)
  refine pk_lt L 60 (fun h => ⟨vp_in_nI (by omega) (by decide), nm_e (nm_r (nI_1 L) ⟨rfl, ?_⟩)⟩) (fun h => absurd h (by omega))
  exact om_mk ⟨by omega, hZ, by omega, hC, om_mm_f (fun j hj => pk_un (by omega)) hmm, om_vvT hv (by omega)⟩
theorem i_vc_ramp {k : Nat} {u : SX} {v : SY} (I : i_Rel k u v) (hk : k + 4 ≤ 2048) (v1 : Int32) (v2 : Int32) (v3 : Int32) : wpX_ramp (fun r u' => wpY_ramp (fun r' v' => r' = r ∧ i_Rel (k + 4) u' v') v v1 v2 v3) u v1 v2 v3 := by
  refine om_el (R := fun u v => wpX_ramp (fun r u' => wpY_ramp (fun r' v' => r' = r ∧ i_Rel (k + 4) u' v') v v1 v2 v3) u v1 v2 v3) ?_ I
  intro L Z K C T M P B A F V Q hS
  have hS2 := hS
  obtain ⟨hL, hZ, hK, hC, hmm, hv⟩ := hS
  unfold wpX_ramp wpY_ramp
  dsimp only
  by_cases h1 : v3 < 1
  · exact br_t h1 (br_t h1 ⟨rfl, om_mk hS2⟩)
  · refine br_f h1 ?_
    by_cases h2 : v3 ≤ 60
    · refine br_t h2 ?_
      by_cases h3 : nI L + v3 ≤ 60
      · refine br_t h3 ?_
        have h3' := h3
        have h0 : ¬ v3 < 0 := fun h => h1 (Int32.lt_trans h (by decide))
        obtain ⟨c, hc, rfl⟩ := nI_of2 (n := 60) (by decide) h0 h2
        have hLc : L + c ≤ 60 := by
          rw [nI_add] at h3
          exact (nI_leI (b := 60) (by omega) (by decide)).mp h3
        have hx := om_xramp (post := fun r u' => wpY_ramp (fun r' v' => r' = r ∧ i_Rel (k + 4) u' v') (nI L, nI Z, V, Q) v1 v2 (nI c)) (Z := nI Z) (K := nI K) (C := C) (x1 := v1) (x2 := v2) (T := T) (M := M) (P := P) (B := B) (A := A) (F := F) (L := L) (c := c) hLc ?_ c (c + 1) 0 (by omega) (by omega)
        · rw [om_wr_0] at hx
          exact ⟨c + 1, hx⟩
        · unfold wpY_ramp
          dsimp only
          refine br_f h1 (br_t h2 (br_t h3' ⟨c + 1, ?_⟩))
          have hy := om_yramp (post := fun r' v' => r' = nI (L + c) ∧ i_Rel (k + 4) (nI (L + c), nI Z, nI K, C, om_wr T L (fun j => v1 + nI j * v2) c, M, P, B, A, F) v') (Z := nI Z) (x1 := v1) (x2 := v2) (V := V) (Q := Q) (L := L) (c := c) hLc ⟨rfl, ?_⟩ c (c + 1) 0 (by omega) (by omega)
          · rw [om_wr_0] at hy
            exact hy
          · exact om_mk ⟨hLc, hZ, by omega, hC, om_mm_f (fun j hj => om_wr_lt (by omega)) hmm, om_vvW hv hLc (fun j hj => rfl)⟩
      · exact br_f h3 (br_f h1 (br_t h2 (br_f h3 ⟨rfl, om_mk hS2⟩)))
    · exact br_f h2 (br_f h1 (br_f h2 ⟨rfl, om_mk hS2⟩))
end
section
theorem i_vc_echo {k : Nat} {u : SX} {v : SY} (I : i_Rel k u v) (hk : k + 4 ≤ 2048) (v1 : Int32) (v2 : Int32) (v3 : Int32) : wpX_echo (fun r u' => wpY_echo (fun r' v' => r' = r ∧ i_Rel (k + 4) u' v') v v1 v2 v3) u v1 v2 v3 := by
  refine om_el (R := fun u v => wpX_echo (fun r u' => wpY_echo (fun r' v' => r' = r ∧ i_Rel (k + 4) u' v') v v1 v2 v3) u v1 v2 v3) ?_ I
  intro L Z K C T M P B A F V Q hS
  have hS2 := hS
  obtain ⟨hL, hZ, hK, hC, hmm, hv⟩ := hS
  by_cases h0 : v1 < 0
  · have hn : ¬ (0 : Int32) ≤ v1 := fun h => absurd h0 (Int32.not_lt.mpr h)
    have hs : v1 >>> ((6 : Int32) &&& 31) < 1 := by
      rw [Int32.lt_iff_toInt_lt, pk_shr v1 _ 6 (by decide), show (1 : Int32).toInt = 1 from by decide, Int.shiftRight_eq_div_pow]
      rw [Int32.lt_iff_toInt_lt, show (0 : Int32).toInt = 0 from by decide] at h0
      have e : ((2 ^ 6 : Nat) : Int) = 64 := by decide
      rw [e]
      omega
    unfold wpX_echo
    dsimp only
    refine nm_e (nm_e (br_t hs ?_))
    unfold wpY_echo
    dsimp only
    exact br_f hn ⟨rfl, om_mk hS2⟩
  · obtain ⟨s, hs, rfl⟩ := nI_of h0
    have hp : (0 : Int32) ≤ nI s := Int32.not_lt.mp h0
    have e1 : nI s >>> ((6 : Int32) &&& 31) = nI (s / 64) := pk_shrN hs _ 6 (by decide)
    have e2 : nI s &&& 63 = nI (s % 64) := pk_andN (by omega) 6 (by decide)
    have e3 : nI s / 64 = nI (s / 64) := pk_div (d := 64) hs (by decide) (by decide)
    have e4 : nI s - nI s / 64 * 64 = nI (s % 64) := pk_rem (d := 64) hs (by decide) (by decide)
    have h64 : ¬ (64 : Int32) = 0 := by decide
    have ha : s % 64 < 64 := Nat.mod_lt _ (by decide)
    have hq : s / 64 < 2 ^ 31 := by omega
    generalize hc : s / 64 = c at *
    generalize hf : s % 64 = a at *
    have HY : ∀ post : Int32 → SY → Prop, ((nI c < 1 → post (-1) (nI L, nI Z, V, Q)) ∧ (¬ nI c < 1 → ((nI c ≤ 20 → ((nI a ≤ nI L - nI c → ((nI L + nI c ≤ 60 → ∃ n66 : Nat, wY_echo_66 post v2 v3 (nI c) (nI a) (nI L) (nI Z) n66 0 V Q) ∧ (¬ nI L + nI c ≤ 60 → post (-3) (nI L, nI Z, V, Q)))) ∧ (¬ nI a ≤ nI L - nI c → post (-2) (nI L, nI Z, V, Q)))) ∧ (¬ nI c ≤ 20 → post (-1) (nI L, nI Z, V, Q))))) →
        wpY_echo post (nI L, nI Z, V, Q) (nI s) v2 v3 := by
      intro post h
      unfold wpY_echo
      dsimp only
      exact br_t hp ⟨h64, nm_r e3 ⟨h64, nm_r e4 h⟩⟩
    unfold wpX_echo
    dsimp only
    refine nm_r e1 (nm_r e2 ?_)
    by_cases c1 : nI c < 1
    · exact br_t c1 (HY _ (br_t c1 ⟨rfl, om_mk hS2⟩))
    · refine br_f c1 ?_
      by_cases c2 : nI c ≤ 20
      · refine br_t c2 ?_
        have hc20 : c ≤ 20 := (nI_leI (b := 20) hq (by decide)).mp c2
        by_cases c3 : nI a ≤ nI L - nI c
        · refine br_t c3 ?_
          have hac : a + c ≤ L := (om_leS (by omega) (by omega) (by omega)).mp c3
          by_cases c4 : nI L + nI c ≤ 60
          · refine br_t c4 ?_
            have hLc : L + c ≤ 60 := by
              have c5 := c4
              rw [nI_add] at c5
              exact (nI_leI (b := 60) (by omega) (by decide)).mp c5
            have hx := om_xecho (post := fun r u' => wpY_echo (fun r' v' => r' = r ∧ i_Rel (k + 4) u' v') (nI L, nI Z, V, Q) (nI s) v2 v3) (Z := nI Z) (K := nI K) (C := C) (x2 := v2) (x3 := v3) (T := T) (M := M) (P := P) (B := B) (A := A) (F := F) (L := L) (a := a) (c := c) hLc hac ?_ c (c + 1) 0 (by omega) (by omega)
            · rw [om_wr_0] at hx
              exact ⟨c + 1, hx⟩
            · refine HY _ (br_f c1 (br_t c2 (br_t c3 (br_t c4 ⟨c + 1, ?_⟩))))
              have hy := om_yecho (post := fun r' v' => r' = nI (L + c) ∧ i_Rel (k + 4) (nI (L + c), nI Z, nI K, C, om_wr T L (fun j => T (a + j) * v2 + v3) c, M, P, B, A, F) v') (Z := nI Z) (x2 := v2) (x3 := v3) (V := V) (Q := Q) (L := L) (a := a) (c := c) hLc hac ⟨rfl, ?_⟩ c (c + 1) 0 (by omega) (by omega)
              · rw [om_wr_0] at hy
                exact hy
              · refine om_mk ⟨hLc, hZ, by omega, hC, om_mm_f (fun j hj => om_wr_lt (by omega)) hmm, om_vvW hv hLc (fun j hj => ?_)⟩
                show V (a + j) * v2 + v3 = T (a + j) * v2 + v3
                rw [hv.1 _ (by omega)]
          · exact br_f c4 (HY _ (br_f c1 (br_t c2 (br_t c3 (br_f c4 ⟨rfl, om_mk hS2⟩)))))
        · exact br_f c3 (HY _ (br_f c1 (br_t c2 (br_f c3 ⟨rfl, om_mk hS2⟩))))
      · exact br_f c2 (HY _ (br_f c1 (br_f c2 ⟨rfl, om_mk hS2⟩)))
theorem i_vc_undo {k : Nat} {u : SX} {v : SY} (I : i_Rel k u v) (hk : k + 4 ≤ 2048) (v1 : Int32) : wpX_undo (fun r u' => wpY_undo (fun r' v' => r' = r ∧ i_Rel (k + 4) u' v') v v1) u v1 := by
  refine om_el (R := fun u v => wpX_undo (fun r u' => wpY_undo (fun r' v' => r' = r ∧ i_Rel (k + 4) u' v') v v1) u v1) ?_ I
  intro L Z K C T M P B A F V Q hS
  have hS2 := hS
  obtain ⟨hL, hZ, hK, hC, hmm, hv⟩ := hS
  unfold wpX_undo wpY_undo
  dsimp only
  by_cases h0 : v1 < 0
  · exact br_t h0 (br_t h0 ⟨rfl, om_mk hS2⟩)
  · by_cases h1 : v1 ≤ nI L
    · obtain ⟨c, hc, rfl⟩ := nI_of h0
      have hcL : c ≤ L := (nI_leI hc (by omega)).mp h1
      have es : nI L - nI c = nI (L - c) := pk_sub hcL
      refine br_f h0 (br_t h1 (nm_r es (pk_le K (L - c) (fun g => ?_) (fun g => ?_))))
      · exact br_f h0 (br_t h1 (nm_r es ⟨rfl, om_mk ⟨by omega, hZ, g, hC, hmm, hv⟩⟩))
      · exact br_f h0 (br_t h1 (nm_r es ⟨rfl, om_mk ⟨by omega, hZ, by omega, hC, om_mm_le hmm (by omega), hv⟩⟩))
    · exact br_f h0 (br_f h1 (br_f h0 (br_f h1 ⟨rfl, om_mk hS2⟩)))
theorem i_vc_length {k : Nat} {u : SX} {v : SY} (I : i_Rel k u v) (hk : k + 4 ≤ 2048) : wpX_length (fun r => wpY_length (fun r' => r' = r ∧ i_Rel (k + 4) u v) v) u := by
  refine om_el (R := fun u v => wpX_length (fun r => wpY_length (fun r' => r' = r ∧ i_Rel (k + 4) u v) v) u) ?_ I
  intro L Z K C T M P B A F V Q hS
  exact And.intro rfl (om_mk hS)
theorem i_vc_patternLength {k : Nat} {u : SX} {v : SY} (I : i_Rel k u v) (hk : k + 4 ≤ 2048) : wpX_patternLength (fun r => wpY_patternLength (fun r' => r' = r ∧ i_Rel (k + 4) u v) v) u := by
  refine om_el (R := fun u v => wpX_patternLength (fun r => wpY_patternLength (fun r' => r' = r ∧ i_Rel (k + 4) u v) v) u) ?_ I
  intro L Z K C T M P B A F V Q hS
  exact And.intro rfl (om_mk hS)
theorem i_vc_valueAt {k : Nat} {u : SX} {v : SY} (I : i_Rel k u v) (hk : k + 4 ≤ 2048) (v1 : Int32) : wpX_valueAt (fun r => wpY_valueAt (fun r' => r' = r ∧ i_Rel (k + 4) u v) v v1) u v1 := by
  refine om_el (R := fun u v => wpX_valueAt (fun r => wpY_valueAt (fun r' => r' = r ∧ i_Rel (k + 4) u v) v v1) u v1) ?_ I
  intro L Z K C T M P B A F V Q hS
  have hS2 := hS
  obtain ⟨hL, hZ, hK, hC, hmm, hv⟩ := hS
  unfold wpX_valueAt wpY_valueAt
  dsimp only
  by_cases h0 : v1 < 0
  · exact br_t h0 (br_t h0 ⟨rfl, om_mk hS2⟩)
  · obtain ⟨p, hp, rfl⟩ := nI_of h0
    rw [nI_clamp hp]
    refine br_f h0 (pk_le L p (fun g => br_f h0 (pk_lt p L (fun g2 => absurd g2 (by omega)) (fun _ => ⟨rfl, om_mk hS2⟩)))
      (fun g => ⟨vp_in_nI (by omega) (by decide), br_f h0 (pk_lt p L (fun _ => ⟨vp_in_nI (by omega) (by decide), hv.1 p (by omega), om_mk hS2⟩) (fun g2 => absurd g2 (by omega)))⟩))
theorem om_rank {L Z K C L' Z' : Int32} {T M P B A F V Q : Nat → Int32} {i : Nat} (hi : i < 10) (hv : om_vv T P V) :
    ∀ (d j : Nat) (a b : Int32), j + d = i → ∃ r : Int32, (∀ post : Int32 → Prop, post r → wX_rank_21 post (nI i) L Z K C T M P B A F (d + 1) a b (nI j)) ∧
      (∀ post : Int32 → Prop, post r → wY_rank_18 post (nI i) L' Z' V Q (d + 1) (a + 16 * b) (nI j)) := by
  intro d
  induction d with
  | zero =>
    intro j a b hj
    have h : nI i ≤ nI j := nI_le (by omega) (by omega)
    exact ⟨a + 16 * b, fun post hp => br_t h hp, fun post hp => br_t h hp⟩
  | succ d ih =>
    intro j a b hj
    have h : ¬ nI i ≤ nI j := nI_ge (by omega) (by omega)
    have hini : vp_in (nI i) 10 := vp_in_nI hi (by decide)
    have hinj : vp_in (nI j) 10 := vp_in_nI (by omega) (by decide)
    have hci : (nI i).toNatClampNeg = i := nI_clamp (by omega)
    have hcj : (nI j).toNatClampNeg = j := nI_clamp (by omega)
    have h6i : (60 : Int32) + nI i = nI (60 + i) := nI_add 60 i
    have h6j : (60 : Int32) + nI j = nI (60 + j) := nI_add 60 j
    have HY : ∀ (post : Int32 → Prop) (s : Int32), ((0 ≤ om_or (P j) (P i) → wY_rank_45 post (wY_rank_18 post (nI i) L' Z' V Q (d + 1)) (nI i) s (nI j) (om_or (P j) (P i)) L' Z' V Q) ∧
        (¬ 0 ≤ om_or (P j) (P i) → ∀ x2_14 : Int32, x2_14 = s + 1 → wY_rank_45 post (wY_rank_18 post (nI i) L' Z' V Q (d + 1)) (nI i) x2_14 (nI j) (om_or (P j) (P i)) L' Z' V Q)) →
        wY_rank_18 post (nI i) L' Z' V Q (d + 1 + 1) s (nI j) := by
      intro post s H
      rw [wY_rank_18]
      dsimp only
      rw [h6i, h6j]
      refine br_f h (om_ord (by omega) (by omega) ?_)
      rw [hv.2 j (by omega), hv.2 i hi]
      exact H
    have HX : ∀ post : Int32 → Prop, ((P i ≤ P j → ((P j = P i → wX_rank_21 post (nI i) L Z K C T M P B A F (d + 1) a (b + 1) (nI (j + 1))) ∧ (¬ P j = P i → wX_rank_21 post (nI i) L Z K C T M P B A F (d + 1) a b (nI (j + 1))))) ∧
        (¬ P i ≤ P j → wX_rank_21 post (nI i) L Z K C T M P B A F (d + 1) (a + 1) b (nI (j + 1)))) →
        wX_rank_21 post (nI i) L Z K C T M P B A F (d + 1 + 1) a b (nI j) := by
      intro post H
      rw [wX_rank_21]
      dsimp only
      rw [hci, hcj]
      refine br_f h ⟨hinj, hini, br_c (fun g => ⟨hinj, hini, br_c (fun g2 => nm_e (nm_r (nI_1 j) ((H.1 g).1 g2))) (fun g2 => nm_r (nI_1 j) ((H.1 g).2 g2))⟩) (fun g => nm_e (nm_r (nI_1 j) (H.2 g)))⟩
    rcases om_or_c (P j) (P i) with ⟨e, g⟩ | ⟨e, g⟩ | ⟨e, g⟩
    · obtain ⟨r, hX, hY⟩ := ih (j + 1) a (b + 1) (by omega)
      have e16 : a + 16 * b + 16 = a + 16 * (b + 1) := by grind
      refine ⟨r, fun post hp => HX post (br_t (Int32.le_iff_toInt_le.mpr (by omega)) (br_t (Int32.toInt_inj.mp g) (hX post hp))), fun post hp => HY post _ ?_⟩
      rw [e]
      refine br_t (by decide) ?_
      unfold wY_rank_45
      exact br_t rfl (nm_r e16 (nm_r (nI_1 j) (hY post hp)))
    · obtain ⟨r, hX, hY⟩ := ih (j + 1) a b (by omega)
      refine ⟨r, fun post hp => HX post (br_t (Int32.le_iff_toInt_le.mpr (by omega)) (br_f (fun z => by rw [z] at g; omega) (hX post hp))), fun post hp => HY post _ ?_⟩
      rw [e]
      refine br_t (by decide) ?_
      unfold wY_rank_45
      exact br_f (by decide) (nm_r (nI_1 j) (hY post hp))
    · obtain ⟨r, hX, hY⟩ := ih (j + 1) (a + 1) b (by omega)
      have e1 : a + 16 * b + 1 = a + 1 + 16 * b := by grind
      refine ⟨r, fun post hp => HX post (br_f (fun z => by rw [Int32.le_iff_toInt_le] at z; omega) (hX post hp)), fun post hp => HY post _ ?_⟩
      rw [e]
      refine br_f (by decide) (nm_r e1 ?_)
      unfold wY_rank_45
      exact br_f (by decide) (nm_r (nI_1 j) (hY post hp))
theorem i_vc_rank {k : Nat} {u : SX} {v : SY} (I : i_Rel k u v) (hk : k + 4 ≤ 2048) (v1 : Int32) : wpX_rank (fun r => wpY_rank (fun r' => r' = r ∧ i_Rel (k + 4) u v) v v1) u v1 := by
  refine om_el (R := fun u v => wpX_rank (fun r => wpY_rank (fun r' => r' = r ∧ i_Rel (k + 4) u v) v v1) u v1) ?_ I
  intro L Z K C T M P B A F V Q hS
  have hS2 := hS
  obtain ⟨hL, hZ, hK, hC, hmm, hv⟩ := hS
  unfold wpX_rank wpY_rank
  dsimp only
  by_cases h0 : v1 < 0
  · exact br_t h0 (br_t h0 ⟨rfl, om_mk hS2⟩)
  · refine br_f h0 ?_
    by_cases h1 : v1 < nI Z
    · have h0' := h0
      have h1' := h1
      obtain ⟨i, hi, rfl⟩ := nI_of h0
      have hiZ : i < Z := (nI_ltI hi (by omega)).mp h1
      obtain ⟨r, hX, hY⟩ := om_rank (L := nI L) (Z := nI Z) (K := nI K) (C := C) (L' := nI L) (Z' := nI Z) (T := T) (M := M) (P := P) (B := B) (A := A) (F := F) (V := V) (Q := Q) (i := i) (by omega) hv i 0 0 0 (by omega)
      exact br_t h1 ⟨i + 1, hX _ (br_f h0' (br_t h1' ⟨i + 1, hY _ ⟨rfl, om_mk hS2⟩⟩))⟩
    · exact br_f h1 (br_f h0 (br_f h1 ⟨rfl, om_mk hS2⟩))
end
section
/-! counts and searches -/
noncomputable def om_b (p : Prop) : Nat := @ite Nat p (Classical.propDecidable p) 1 0
theorem om_b1 {p : Prop} (h : p) : om_b p = 1 := if_pos h
theorem om_b0 {p : Prop} (h : ¬ p) : om_b p = 0 := if_neg h
noncomputable def om_ct (q : Nat → Prop) : Nat → Nat
  | 0 => 0
  | n + 1 => om_ct q n + om_b (q n)
theorem om_ct1 {q : Nat → Prop} {n : Nat} (h : q n) : om_ct q (n + 1) = om_ct q n + 1 := by rw [om_ct, om_b1 h]
theorem om_ct0 {q : Nat → Prop} {n : Nat} (h : ¬ q n) : om_ct q (n + 1) = om_ct q n := by rw [om_ct, om_b0 h]; rfl
theorem om_ct_le (q : Nat → Prop) : ∀ n, om_ct q n ≤ n := by
  intro n
  induction n with
  | zero => exact Nat.le_refl 0
  | succ n ih =>
    by_cases h : q n
    · rw [om_ct1 h]; omega
    · rw [om_ct0 h]; omega
theorem om_ct_ext {q : Nat → Prop} {a : Nat} (h : ∀ j, a ≤ j → ¬ q j) : ∀ d, om_ct q (a + d) = om_ct q a := by
  intro d
  induction d with
  | zero => rfl
  | succ d ih =>
    have h2 := om_ct0 (h (a + d) (by omega))
    rw [← ih]
    exact h2
theorem om_ct_en {T P : Nat → Int32} {L Z : Nat} (hZ : 0 < Z) : ∀ n, n ≤ L → om_ct (om_en T P Z) n = om_ct (om_oc T P L Z) (n + 1 - Z) := by
  intro n
  induction n with
  | zero =>
    intro _
    rw [show 0 + 1 - Z = 0 by omega]
    rfl
  | succ n ih =>
    intro hn
    have ih2 := ih (by omega)
    by_cases hz : Z ≤ n + 1
    · have e : n + 1 + 1 - Z = (n + 1 - Z) + 1 := by omega
      rw [e]
      by_cases h : om_en T P Z n
      · rw [om_ct1 h, om_ct1 ((om_en_oc (by omega)).mp h).2, ih2]
      · rw [om_ct0 h, om_ct0 (fun H => h ((om_en_oc (by omega)).mpr ⟨hz, H⟩)), ih2]
    · have e : n + 1 + 1 - Z = n + 1 - Z := by omega
      rw [e, om_ct0 (fun h => hz h.2.1), ih2]
theorem om_ct_L {T P : Nat → Int32} {L Z : Nat} (hZ : 0 < Z) : om_ct (om_en T P Z) L = om_ct (om_oc T P L Z) L := by
  rw [om_ct_en hZ L (Nat.le_refl _)]
  have h := om_ct_ext (q := om_oc T P L Z) (a := L + 1 - Z) (fun j hj H => by have h2 := H.2.1; omega) (L - (L + 1 - Z))
  rw [show L + 1 - Z + (L - (L + 1 - Z)) = L by omega] at h
  exact h.symm
theorem om_ct_z {q : Nat → Prop} (h : ∀ j, ¬ q j) (n : Nat) : om_ct q n = 0 := by
  have h2 := om_ct_ext (q := q) (a := 0) (fun j _ => h j) n
  rw [Nat.zero_add] at h2
  exact h2
theorem om_ct_LL {T P : Nat → Int32} {L Z : Nat} : om_ct (om_en T P Z) L = om_ct (om_oc T P L Z) L := by
  by_cases z : Z = 0
  · rw [om_ct_z (fun j h => absurd h.1 (by omega)), om_ct_z (fun j h => absurd h.1 (by omega))]
  · exact om_ct_L (by omega)
/-! occurrences -/
theorem om_xoccs {post : Int32 → SX → Prop} {K C : Int32} {T M P B A F : Nat → Int32} {L Z : Nat} (hL : L ≤ 60) (hZ : Z ≤ 10) (hmm : om_mm T P Z L M)
    (hp : post (nI (om_ct (om_en T P Z) L)) (nI L, nI Z, K, C, T, M, P, B, A, F)) :
    ∀ d n p : Nat, p + d = L → d < n → wX_occurrences_8 post (nI L) (nI Z) K C T M P B A F n (nI (om_ct (om_en T P Z) p)) (nI p) := by
  intro d
  induction d with
  | zero =>
    intro n p hi hn
    obtain ⟨n, rfl⟩ : ∃ n', n = n' + 1 := ⟨n - 1, by omega⟩
    have ei : p = L := by omega
    subst ei
    exact br_t (nI_le (Nat.le_refl _) (by omega)) hp
  | succ d ih =>
    intro n p hi hn
    obtain ⟨n, rfl⟩ : ∃ n', n = n' + 1 := ⟨n - 1, by omega⟩
    have hx := ih n (p + 1) (by omega) (by omega)
    rw [wX_occurrences_8]
    dsimp only
    refine br_f (nI_ge (by omega) (by omega)) (om_ends hZ (by omega) (hmm p (by omega)) (fun h => br_f (by decide) ?_) (fun h => br_t rfl ?_))
    · rw [om_ct1 h] at hx
      exact nm_r (nI_1 _) (nm_r (nI_1 p) hx)
    · rw [om_ct0 h] at hx
      exact nm_r (nI_1 p) hx
theorem om_yoccs {post : Int32 → Prop} {T P V Q : Nat → Int32} {L Z : Nat} (hL : L ≤ 60) (hZ : Z ≤ 10) (hv : om_vv T P V)
    (hp : post (nI (om_ct (om_oc T P L Z) L))) :
    ∀ d n p : Nat, p + d = L → d < n → wY_occurrences_4 post (nI L) (nI Z) V Q n (nI (om_ct (om_oc T P L Z) p)) (nI p) := by
  intro d
  induction d with
  | zero =>
    intro n p hi hn
    obtain ⟨n, rfl⟩ : ∃ n', n = n' + 1 := ⟨n - 1, by omega⟩
    have ei : p = L := by omega
    subst ei
    exact br_t (nI_le (Nat.le_refl _) (by omega)) hp
  | succ d ih =>
    intro n p hi hn
    obtain ⟨n, rfl⟩ : ∃ n', n = n' + 1 := ⟨n - 1, by omega⟩
    have hx := ih n (p + 1) (by omega) (by omega)
    rw [wY_occurrences_4]
    dsimp only
    refine br_f (nI_ge (by omega) (by omega)) (om_ocs hv hL hZ (by omega) (fun h => br_f (by decide) ?_) (fun h => br_t rfl ?_))
    · rw [om_ct1 h] at hx
      exact nm_r (nI_1 _) (nm_r (nI_1 p) hx)
    · rw [om_ct0 h] at hx
      exact nm_r (nI_1 p) hx
theorem i_vc_occurrences {k : Nat} {u : SX} {v : SY} (I : i_Rel k u v) (hk : k + 4 ≤ 2048) : wpX_occurrences (fun r u' => wpY_occurrences (fun r' => r' = r ∧ i_Rel (k + 4) u' v) v) u := by
  refine om_el (R := fun u v => wpX_occurrences (fun r u' => wpY_occurrences (fun r' => r' = r ∧ i_Rel (k + 4) u' v) v) u) ?_ I
  intro L Z K C T M P B A F V Q hS
  obtain ⟨hL, hZ, hK, hC, hmm, hv⟩ := hS
  unfold wpX_occurrences
  dsimp only
  refine om_refresh hL hZ hK hC hmm (fun C' M' B' A' F' hcd hm' => Exists.intro (L + 1) (om_xoccs hL hZ hm' ?_ L (L + 1) 0 (by omega) (by omega)))
  refine Exists.intro (L + 1) (om_yoccs hL hZ hv ⟨?_, ?_⟩ L (L + 1) 0 (by omega) (by omega))
  · rw [om_ct_LL]
  · exact om_mk ⟨hL, hZ, Nat.le_refl _, Or.inr hcd, hm', hv⟩
/-! the first place below L -/
def om_an (L : Nat) (q : Nat → Prop) (r : Int32) : Prop :=
  (∃ s, s < L ∧ q s ∧ (∀ t, t < s → ¬ q t) ∧ r = nI s) ∨ (r = -1 ∧ ∀ s, s < L → ¬ q s)
theorem om_an_u {L : Nat} {q : Nat → Prop} {r r' : Int32} (h : om_an L q r) (h' : om_an L q r') : r' = r := by
  rcases h with ⟨s, hs, q1, q2, e⟩ | ⟨e, ha⟩
  · rcases h' with ⟨s', hs', q1', q2', e'⟩ | ⟨e', ha'⟩
    · rcases Nat.lt_trichotomy s s' with x | x | x
      · exact absurd q1 (q2' s x)
      · rw [e, e', x]
      · exact absurd q1' (q2 s' x)
    · exact absurd q1 (ha' s hs)
  · rcases h' with ⟨s', hs', q1', q2', e'⟩ | ⟨e', ha'⟩
    · exact absurd q1' (ha s' hs')
    · rw [e, e']
theorem om_start {p Z : Nat} (h : Z ≤ p + 1) : nI p - nI Z + 1 = nI (p + 1 - Z) := by
  rw [← pk_sub h, ← nI_1]
  grind
/-! occurrence -/
def om_q (T P : Nat → Int32) (L Z : Nat) (x : Int32) (s : Nat) : Prop := om_oc T P L Z s ∧ x = nI (om_ct (om_oc T P L Z) s)
theorem om_xocc {post : Int32 → SX → Prop} {K C x : Int32} {T M P B A F : Nat → Int32} {L Z : Nat} (hL : L ≤ 60) (hZ : Z ≤ 10) (hmm : om_mm T P Z L M)
    (hp : ∀ r, om_an L (om_q T P L Z x) r → post r (nI L, nI Z, K, C, T, M, P, B, A, F)) :
    ∀ d n p : Nat, p + d = L → d < n → (∀ t, t < p + 1 - Z → ¬ om_q T P L Z x t) → wX_occurrence_8 post (nI L) (nI Z) K C T M P B A F n (x - nI (om_ct (om_en T P Z) p)) (nI p) := by
  intro d
  induction d with
  | zero =>
    intro n p hi hn hq
    obtain ⟨n, rfl⟩ : ∃ n', n = n' + 1 := ⟨n - 1, by omega⟩
    have ei : p = L := by omega
    subst ei
    refine br_t (nI_le (Nat.le_refl _) (by omega)) (hp _ (Or.inr ⟨rfl, fun s hs H => ?_⟩))
    have h1 := H.1.1
    have h2 := H.1.2.1
    exact hq s (by omega) H
  | succ d ih =>
    intro n p hi hn hq
    obtain ⟨n, rfl⟩ : ∃ n', n = n' + 1 := ⟨n - 1, by omega⟩
    have hx := ih n (p + 1) (by omega) (by omega)
    rw [wX_occurrence_8]
    dsimp only
    refine br_f (nI_ge (by omega) (by omega)) (om_ends hZ (by omega) (hmm p (by omega)) (fun h => br_f (by decide) ?_) (fun h => br_t rfl (nm_r (nI_1 p) ?_)))
    · obtain ⟨hz, ho⟩ := (om_en_oc (L := L) (by omega)).mp h
      have hz0 : 0 < Z := h.1
      have hc := om_ct_en (T := T) (P := P) (L := L) h.1 p (by omega)
      by_cases e : x = nI (om_ct (om_oc T P L Z) (p + 1 - Z))
      · refine br_t (by rw [hc, ← e]; exact Int32.sub_self x) ?_
        rw [om_start hz]
        exact hp _ (Or.inl ⟨p + 1 - Z, by omega, ⟨ho, e⟩, hq, rfl⟩)
      · refine br_f (fun z => e ?_) ?_
        · rw [← hc]; grind
        · rw [om_ct1 h, ← nI_1] at hx
          refine nm_r (e' := x - (nI (om_ct (om_en T P Z) p) + 1)) (by grind) (nm_r (nI_1 p) (hx ?_))
          intro t ht
          by_cases et : t = p + 1 - Z
          · subst et; exact fun H => e H.2
          · exact hq t (by omega)
    · rw [om_ct0 h] at hx
      refine hx ?_
      intro t ht H
      by_cases et : t < p + 1 - Z
      · exact hq t et H
      · have et2 : t = p + 1 - Z := by omega
        exact h ((om_en_oc (L := L) (by omega)).mpr ⟨by omega, by rw [← et2]; exact H.1⟩)
theorem om_yocc {post : Int32 → Prop} {x : Int32} {T P V Q : Nat → Int32} {L Z : Nat} (hL : L ≤ 60) (hZ : Z ≤ 10) (hv : om_vv T P V)
    (hp : ∀ r, om_an L (om_q T P L Z x) r → post r) :
    ∀ d n p : Nat, p + d = L → d < n → (∀ t, t < p → ¬ om_q T P L Z x t) → wY_occurrence_4 post x (nI L) (nI Z) V Q n (nI (om_ct (om_oc T P L Z) p)) (nI p) := by
  intro d
  induction d with
  | zero =>
    intro n p hi hn hq
    obtain ⟨n, rfl⟩ : ∃ n', n = n' + 1 := ⟨n - 1, by omega⟩
    have ei : p = L := by omega
    subst ei
    exact br_t (nI_le (Nat.le_refl _) (by omega)) (hp _ (Or.inr ⟨rfl, hq⟩))
  | succ d ih =>
    intro n p hi hn hq
    obtain ⟨n, rfl⟩ : ∃ n', n = n' + 1 := ⟨n - 1, by omega⟩
    have hx := ih n (p + 1) (by omega) (by omega)
    rw [wY_occurrence_4]
    dsimp only
    refine br_f (nI_ge (by omega) (by omega)) (om_ocs hv hL hZ (by omega) (fun h => br_f (by decide) ?_) (fun h => br_t rfl (nm_r (nI_1 p) ?_)))
    · by_cases e : nI (om_ct (om_oc T P L Z) p) = x
      · exact br_t e (hp _ (Or.inl ⟨p, by omega, ⟨h, e.symm⟩, hq, rfl⟩))
      · rw [om_ct1 h] at hx
        refine br_f e (nm_r (nI_1 _) (nm_r (nI_1 p) (hx ?_)))
        intro t ht
        by_cases et : t = p
        · subst et; exact fun H => e H.2.symm
        · exact hq t (by omega)
    · rw [om_ct0 h] at hx
      refine hx ?_
      intro t ht
      by_cases et : t = p
      · subst et; exact fun H => h H.1
      · exact hq t (by omega)
theorem i_vc_occurrence {k : Nat} {u : SX} {v : SY} (I : i_Rel k u v) (hk : k + 4 ≤ 2048) (v1 : Int32) : wpX_occurrence (fun r u' => wpY_occurrence (fun r' => r' = r ∧ i_Rel (k + 4) u' v) v v1) u v1 := by
  refine om_el (R := fun u v => wpX_occurrence (fun r u' => wpY_occurrence (fun r' => r' = r ∧ i_Rel (k + 4) u' v) v v1) u v1) ?_ I
  intro L Z K C T M P B A F V Q hS
  obtain ⟨hL, hZ, hK, hC, hmm, hv⟩ := hS
  unfold wpX_occurrence
  dsimp only
  refine om_refresh hL hZ hK hC hmm (fun C' M' B' A' F' hcd hm' => Exists.intro (L + 1) ?_)
  have hx := om_xocc (post := fun r u' => wpY_occurrence (fun r' => r' = r ∧ i_Rel (k + 4) u' (nI L, nI Z, V, Q)) (nI L, nI Z, V, Q) v1) (K := nI L) (C := C') (x := v1) (T := T) (M := M') (P := P) (B := B') (A := A') (F := F') (L := L) (Z := Z) hL hZ hm' ?_ L (L + 1) 0 (by omega) (by omega) ?_
  · rw [show v1 - nI (om_ct (om_en T P Z) 0) = v1 from Int32.sub_zero v1] at hx
    exact hx
  · intro r hr
    exact Exists.intro (L + 1) (om_yocc hL hZ hv (fun r' hr' => ⟨om_an_u hr hr', om_mk ⟨hL, hZ, Nat.le_refl _, Or.inr hcd, hm', hv⟩⟩) L (L + 1) 0 (by omega) (by omega) (fun t ht => absurd ht (Nat.not_lt_zero t)))
  · intro t ht H
    have h1 := H.1.1
    omega
/-! occursAt -/
theorem i_vc_occursAt {k : Nat} {u : SX} {v : SY} (I : i_Rel k u v) (hk : k + 4 ≤ 2048) (v1 : Int32) : wpX_occursAt (fun r u' => wpY_occursAt (fun r' => r' = r ∧ i_Rel (k + 4) u' v) v v1) u v1 := by
  refine om_el (R := fun u v => wpX_occursAt (fun r u' => wpY_occursAt (fun r' => r' = r ∧ i_Rel (k + 4) u' v) v v1) u v1) ?_ I
  intro L Z K C T M P B A F V Q hS
  have hS2 := hS
  obtain ⟨hL, hZ, hK, hC, hmm, hv⟩ := hS
  unfold wpX_occursAt wpY_occursAt
  dsimp only
  by_cases h0 : v1 < 0
  · refine br_t h0 ?_
    unfold wpY_occurs
    dsimp only
    exact br_c (fun _ => br_t rfl ⟨rfl, om_mk hS2⟩) (fun _ => br_t h0 (br_t rfl ⟨rfl, om_mk hS2⟩))
  · refine br_f h0 ?_
    have h0' := h0
    obtain ⟨p, hp, rfl⟩ := nI_of h0
    by_cases h1 : nI p ≤ nI L - nI Z
    · have hpZ : p + Z ≤ L := (om_leS hp (by omega) (by omega)).mp h1
      refine br_t h1 (om_refresh hL hZ hK hC hmm (fun C' M' B' A' F' hcd hm' => ?_))
      have hR : i_Rel (k + 4) (nI L, nI Z, nI L, C', T, M', P, B', A', F') (nI L, nI Z, V, Q) := om_mk ⟨hL, hZ, Nat.le_refl _, Or.inr hcd, hm', hv⟩
      by_cases z : Z = 0
      · subst z
        exact br_t (nI_le (Nat.le_refl 0) (by decide)) (om_ocs hv hL hZ hp (fun h => absurd h.1 (by omega)) (fun _ => br_t rfl ⟨rfl, hR⟩))
      · have ei : nI p + nI Z - 1 = nI (p + Z - 1) := by
          rw [nI_add]
          obtain ⟨q, hq⟩ : ∃ q, p + Z = q + 1 := ⟨p + Z - 1, by omega⟩
          rw [hq, nI_pred]
          rfl
        refine br_f (nI_nle (by omega) (by omega)) ?_
        rw [ei]
        have hx : om_en T P Z (p + Z - 1) ↔ om_oc T P L Z p := by
          have h2 := om_en_oc (T := T) (P := P) (L := L) (Z := Z) (p := p + Z - 1) (by omega)
          rw [show p + Z - 1 + 1 - Z = p by omega] at h2
          exact ⟨fun h => (h2.mp h).2, fun h => h2.mpr ⟨by omega, h⟩⟩
        exact om_ends hZ (by omega) (hm' _ (by omega))
          (fun h => br_f (by decide) (om_ocs hv hL hZ hp (fun _ => br_f (by decide) ⟨rfl, hR⟩) (fun g => absurd (hx.mp h) g)))
          (fun h => br_t rfl (om_ocs hv hL hZ hp (fun g => absurd (hx.mpr g) h) (fun _ => br_t rfl ⟨rfl, hR⟩)))
    · exact br_f h1 (om_ocs hv hL hZ hp (fun h => absurd ((om_leS hp (by omega) (by omega)).mpr h.2.1) h1) (fun _ => br_t rfl ⟨rfl, om_mk hS2⟩))
end
section
/-! nextFrom -/
def om_nq (T P : Nat → Int32) (L Z a s : Nat) : Prop := a ≤ s ∧ om_oc T P L Z s
theorem om_xnext {post : Int32 → SX → Prop} {K C : Int32} {T M P B A F : Nat → Int32} {L Z a : Nat} (hL : L ≤ 60) (hZ : Z ≤ 10) (hmm : om_mm T P Z L M)
    (hp : ∀ r, om_an L (om_nq T P L Z a) r → post r (nI L, nI Z, K, C, T, M, P, B, A, F)) :
    ∀ d n p : Nat, p + d = L → d < n → a + Z ≤ p + 1 → (∀ t, t < p + 1 - Z → ¬ om_nq T P L Z a t) → wX_nextFrom_45 post (nI L) (nI Z) K C T M P B A F n (nI p) := by
  intro d
  induction d with
  | zero =>
    intro n p hi hn ha hq
    obtain ⟨n, rfl⟩ : ∃ n', n = n' + 1 := ⟨n - 1, by omega⟩
    have ei : p = L := by omega
    subst ei
    refine br_t (nI_le (Nat.le_refl _) (by omega)) (hp _ (Or.inr ⟨rfl, fun s hs H => ?_⟩))
    have h1 := H.2.1
    have h2 := H.2.2.1
    exact hq s (by omega) H
  | succ d ih =>
    intro n p hi hn ha hq
    obtain ⟨n, rfl⟩ : ∃ n', n = n' + 1 := ⟨n - 1, by omega⟩
    rw [wX_nextFrom_45]
    dsimp only
    refine br_f (nI_ge (by omega) (by omega)) (om_ends hZ (by omega) (hmm p (by omega)) (fun h => br_f (by decide) ?_) (fun h => br_t rfl (nm_r (nI_1 p) (ih n (p + 1) (by omega) (by omega) (by omega) ?_))))
    · obtain ⟨hz, ho⟩ := (om_en_oc (L := L) (by omega)).mp h
      have hz0 : 0 < Z := h.1
      rw [om_start hz]
      exact hp _ (Or.inl ⟨p + 1 - Z, by omega, ⟨by omega, ho⟩, hq, rfl⟩)
    · intro t ht H
      by_cases et : t < p + 1 - Z
      · exact hq t et H
      · have et2 : t = p + 1 - Z := by omega
        exact h ((om_en_oc (L := L) (by omega)).mpr ⟨by omega, by rw [← et2]; exact H.2⟩)
theorem om_x13 {post : Int32 → SX → Prop} {K C : Int32} {T M P B A F : Nat → Int32} {L Z a : Nat} (hL : L ≤ 60) (hZ : Z ≤ 10) (ha : a < 2 ^ 31) (hmm : om_mm T P Z L M)
    (hp : ∀ r, om_an L (om_nq T P L Z a) r → post r (nI L, nI Z, K, C, T, M, P, B, A, F)) :
    wX_nextFrom_13 post (nI a) (nI L) (nI Z) K C T M P B A F := by
  unfold wX_nextFrom_13
  by_cases z : Z = 0
  · subst z
    exact br_t nI_0 (hp _ (Or.inr ⟨rfl, fun s _ H => absurd H.2.1 (by omega)⟩))
  · refine br_f (nI_ne0 (by omega) (by omega)) ?_
    by_cases e : a + Z ≤ L
    · have ei : nI a + nI Z - 1 = nI (a + Z - 1) := by
        rw [nI_add]
        obtain ⟨q, hq⟩ : ∃ q, a + Z = q + 1 := ⟨a + Z - 1, by omega⟩
        rw [hq, nI_pred]
        rfl
      refine br_t ((om_leS ha (by omega) (by omega)).mpr e) (nm_r ei (Exists.intro (L + 1) (om_xnext hL hZ hmm hp (L - (a + Z - 1)) (L + 1) (a + Z - 1) (by omega) (by omega) (by omega) ?_)))
      intro t ht H
      have h1 := H.1
      omega
    · refine br_f (fun h => e ((om_leS ha (by omega) (by omega)).mp h)) (hp _ (Or.inr ⟨rfl, fun s _ H => ?_⟩))
      have h1 := H.1
      have h2 := H.2.2.1
      omega
theorem om_ynext {post : Int32 → Prop} {x : Int32} {T P V Q : Nat → Int32} {L Z a : Nat} (hL : L ≤ 60) (hZ : Z ≤ 10) (hv : om_vv T P V) (hx : ∀ s, s < 60 → (nI s < x ↔ s < a))
    (hp : ∀ r, om_an L (om_nq T P L Z a) r → post r) :
    ∀ d n p : Nat, p + d = L → d < n → (∀ t, t < p → ¬ om_nq T P L Z a t) → wY_nextFrom_2 post x (nI L) (nI Z) V Q n (nI p) := by
  intro d
  induction d with
  | zero =>
    intro n p hi hn hq
    obtain ⟨n, rfl⟩ : ∃ n', n = n' + 1 := ⟨n - 1, by omega⟩
    have ei : p = L := by omega
    subst ei
    exact br_t (nI_le (Nat.le_refl _) (by omega)) (hp _ (Or.inr ⟨rfl, hq⟩))
  | succ d ih =>
    intro n p hi hn hq
    obtain ⟨n, rfl⟩ : ∃ n', n = n' + 1 := ⟨n - 1, by omega⟩
    have hS : ¬ om_nq T P L Z a p → wY_nextFrom_2 post x (nI L) (nI Z) V Q n (nI (p + 1)) := by
      intro h
      refine ih n (p + 1) (by omega) (by omega) (fun t ht => ?_)
      by_cases et : t = p
      · subst et; exact h
      · exact hq t (by omega)
    rw [wY_nextFrom_2]
    dsimp only
    refine br_f (nI_ge (by omega) (by omega)) (br_c (fun h => nm_r (nI_1 p) (hS fun H => ?_)) (fun h => om_ocs hv hL hZ (by omega) (fun g => br_f (by decide) (hp _ (Or.inl ⟨p, by omega, ⟨?_, g⟩, hq, rfl⟩))) (fun g => br_t rfl (nm_r (nI_1 p) (hS fun H => g H.2)))))
    · have h1 := (hx p (by omega)).mp h
      have h2 := H.1
      omega
    · exact Nat.le_of_not_lt (fun h2 => h ((hx p (by omega)).mpr h2))
theorem i_vc_nextFrom {k : Nat} {u : SX} {v : SY} (I : i_Rel k u v) (hk : k + 4 ≤ 2048) (v1 : Int32) : wpX_nextFrom (fun r u' => wpY_nextFrom (fun r' => r' = r ∧ i_Rel (k + 4) u' v) v v1) u v1 := by
  refine om_el (R := fun u v => wpX_nextFrom (fun r u' => wpY_nextFrom (fun r' => r' = r ∧ i_Rel (k + 4) u' v) v v1) u v1) ?_ I
  intro L Z K C T M P B A F V Q hS
  obtain ⟨hL, hZ, hK, hC, hmm, hv⟩ := hS
  unfold wpX_nextFrom
  dsimp only
  refine om_refresh hL hZ hK hC hmm (fun C' M' B' A' F' hcd hm' => ?_)
  have hR : i_Rel (k + 4) (nI L, nI Z, nI L, C', T, M', P, B', A', F') (nI L, nI Z, V, Q) := om_mk ⟨hL, hZ, Nat.le_refl _, Or.inr hcd, hm', hv⟩
  have HY : ∀ a : Nat, (∀ s, s < 60 → (nI s < v1 ↔ s < a)) → ∀ r, om_an L (om_nq T P L Z a) r → wpY_nextFrom (fun r' => r' = r ∧ i_Rel (k + 4) (nI L, nI Z, nI L, C', T, M', P, B', A', F') (nI L, nI Z, V, Q)) (nI L, nI Z, V, Q) v1 := by
    intro a ha r hr
    exact Exists.intro (L + 1) (om_ynext hL hZ hv ha (fun r' hr' => ⟨om_an_u hr hr', hR⟩) L (L + 1) 0 (by omega) (by omega) (fun t ht => absurd ht (Nat.not_lt_zero t)))
  by_cases h0 : 0 ≤ v1
  · refine br_t h0 ?_
    obtain ⟨a, ha, rfl⟩ := nI_of (Int32.not_lt.mpr h0)
    exact om_x13 hL hZ ha hm' (HY a (fun s hs => nI_ltI (by omega) ha))
  · refine br_f h0 (om_x13 (a := 0) hL hZ (by decide) hm' (HY 0 (fun s hs => ⟨fun h => absurd (Int32.le_of_lt (Int32.lt_of_le_of_lt (nI_pos' (by omega)) h)) h0, fun h => absurd h (Nat.not_lt_zero s)⟩)))
/-! matchedAt -/
theorem om_y19 {post : Int32 → Prop} {T P V Q : Nat → Int32} {L Z p : Nat} (hp : p < 60) (hZ : Z ≤ 10) (hv : om_vv T P V)
    (h : ∀ m, om_mx T (p + 1) P Z m → post (nI m)) :
    ∀ m n : Nat, m ≤ Z → m < n → (∀ m', m < m' → m' ≤ Z → m' ≤ p + 1 → ¬ om_al T (p + 1 - m') P 0 m') → wY_matchedAt_19 post (nI p) (nI L) (nI Z) V Q n (nI m) := by
  intro m
  induction m with
  | zero =>
    intro n hm hn hq
    obtain ⟨n, rfl⟩ : ∃ n', n = n' + 1 := ⟨n - 1, by omega⟩
    exact br_t (nI_le (Nat.le_refl 0) (by decide)) (h 0 ⟨by omega, by omega, om_al_0, hq⟩)
  | succ m ih =>
    intro n hm hn hq
    obtain ⟨n, rfl⟩ : ∃ n', n = n' + 1 := ⟨n - 1, by omega⟩
    rw [wY_matchedAt_19]
    dsimp only
    rw [nI_1 p]
    refine br_f (nI_nle (by omega) (by omega)) ?_
    have hS : (m + 1 ≤ p + 1 → ¬ om_al T (p + 1 - (m + 1)) P 0 (m + 1)) → wY_matchedAt_19 post (nI p) (nI L) (nI Z) V Q n (nI m) := by
      intro g
      refine ih n (by omega) (by omega) (fun m' h1 h2 h3 => ?_)
      by_cases e : m' = m + 1
      · subst e; exact g h3
      · exact hq m' (by omega) h2 h3
    by_cases e : p + 1 < m + 1
    · exact br_t (nI_lt e (by omega)) (nm_r (pk_m1 m) (hS (fun g => absurd g (by omega))))
    · refine br_f (nI_nlt (by omega) (by omega)) ?_
      rw [pk_sub (show m + 1 ≤ p + 1 by omega)]
      have hx := om_vT hv (p := p + 1 - (m + 1)) (k := m + 1) (by omega) (by omega)
      exact om_alike (q := 60) (by omega) (by omega) (fun g => br_f (by decide) (h (m + 1) ⟨hm, by omega, hx.mp g, hq⟩)) (fun g => br_t rfl (nm_r (pk_m1 m) (hS (fun _ H => g (hx.mpr H)))))
theorem i_vc_matchedAt {k : Nat} {u : SX} {v : SY} (I : i_Rel k u v) (hk : k + 4 ≤ 2048) (v1 : Int32) : wpX_matchedAt (fun r u' => wpY_matchedAt (fun r' => r' = r ∧ i_Rel (k + 4) u' v) v v1) u v1 := by
  refine om_el (R := fun u v => wpX_matchedAt (fun r u' => wpY_matchedAt (fun r' => r' = r ∧ i_Rel (k + 4) u' v) v v1) u v1) ?_ I
  intro L Z K C T M P B A F V Q hS
  have hS2 := hS
  obtain ⟨hL, hZ, hK, hC, hmm, hv⟩ := hS
  unfold wpX_matchedAt wpY_matchedAt
  dsimp only
  by_cases h0 : v1 < 0
  · exact br_t h0 (br_t h0 ⟨rfl, om_mk hS2⟩)
  · refine br_f h0 ?_
    by_cases h1 : v1 < nI L
    · refine br_t h1 ?_
      have h0' := h0
      have h1' := h1
      obtain ⟨p, hp, rfl⟩ := nI_of h0
      have hpL : p < L := (nI_ltI hp (by omega)).mp h1
      refine om_refresh hL hZ hK hC hmm (fun C' M' B' A' F' hcd hm' => ?_)
      have hR : i_Rel (k + 4) (nI L, nI Z, nI L, C', T, M', P, B', A', F') (nI L, nI Z, V, Q) := om_mk ⟨hL, hZ, Nat.le_refl _, Or.inr hcd, hm', hv⟩
      obtain ⟨m, em, hm⟩ := hm' p hpL
      dsimp only
      rw [nI_clamp hp, em]
      refine ⟨vp_in_nI (by omega) (by decide), br_f h0' (br_t h1' (Exists.intro (Z + 1) (om_y19 (by omega) hZ hv (fun m' h' => ⟨?_, hR⟩) Z (Z + 1) (Nat.le_refl _) (by omega) (fun m' a b _ => absurd b (by omega)))))⟩
      rw [om_mx_u h' hm]
    · exact br_f h1 (br_f h0 (br_f h1 ⟨rfl, om_mk hS2⟩))
/-! border, period -/
theorem om_yw4 {post : Int32 → Prop} {T P V Q : Nat → Int32} {L Z : Int32} {j : Nat} (hj0 : 0 < j) (hj : j ≤ 10) (hv : om_vv T P V)
    (h : ∀ m, om_mx P j P (j - 1) m → post (nI m)) :
    ∀ m n : Nat, m ≤ j - 1 → m < n → (∀ m', m < m' → m' ≤ j - 1 → m' ≤ j → ¬ om_al P (j - m') P 0 m') → wY_widest_4 post (nI j) L Z V Q n (nI m) := by
  intro m
  induction m with
  | zero =>
    intro n hm hn hq
    obtain ⟨n, rfl⟩ : ∃ n', n = n' + 1 := ⟨n - 1, by omega⟩
    exact br_t (nI_le (Nat.le_refl 0) (by decide)) (h 0 ⟨by omega, by omega, om_al_0, hq⟩)
  | succ m ih =>
    intro n hm hn hq
    obtain ⟨n, rfl⟩ : ∃ n', n = n' + 1 := ⟨n - 1, by omega⟩
    have h60 : (60 : Int32) + nI j = nI (60 + j) := nI_add 60 j
    have e6 : 60 + j - (m + 1) = 60 + (j - (m + 1)) := by omega
    rw [wY_widest_4]
    dsimp only
    rw [h60, pk_sub (show m + 1 ≤ 60 + j by omega), e6]
    have hx := om_vP hv (a := j - (m + 1)) (k := m + 1) (by omega)
    refine br_f (nI_nle (by omega) (by omega)) (om_alike (p := 60) (by omega) (by omega) (fun g => br_f (by decide) (h (m + 1) ⟨hm, by omega, hx.mp (om_al_symm g), hq⟩)) (fun g => br_t rfl (nm_r (pk_m1 m) (ih n (by omega) (by omega) (fun m' h1 h2 h3 => ?_)))))
    by_cases e : m' = m + 1
    · subst e; exact fun H => g (om_al_symm (hx.mpr H))
    · exact hq m' (by omega) h2 h3
theorem i_vc_border {k : Nat} {u : SX} {v : SY} (I : i_Rel k u v) (hk : k + 4 ≤ 2048) (v1 : Int32) : wpX_border (fun r u' => wpY_border (fun r' => r' = r ∧ i_Rel (k + 4) u' v) v v1) u v1 := by
  refine om_el (R := fun u v => wpX_border (fun r u' => wpY_border (fun r' => r' = r ∧ i_Rel (k + 4) u' v) v v1) u v1) ?_ I
  intro L Z K C T M P B A F V Q hS
  have hS2 := hS
  obtain ⟨hL, hZ, hK, hC, hmm, hv⟩ := hS
  unfold wpX_border wpY_border wpY_widest
  dsimp only
  by_cases h0 : v1 < 1
  · exact br_t h0 (br_t h0 ⟨rfl, om_mk hS2⟩)
  · refine br_f h0 ?_
    by_cases h1 : v1 ≤ nI Z
    · refine br_t h1 ?_
      have h0' := h0
      have h1' := h1
      obtain ⟨j, hj, rfl⟩ := nI_of (x := v1) (fun h => h0 (Int32.lt_trans h (by decide)))
      have hjZ : j ≤ Z := (nI_leI hj (by omega)).mp h1
      have hj0 : 0 < j := Nat.pos_of_ne_zero (fun z => h0 (by rw [z]; decide))
      refine om_code hZ hC (fun C' B' A' F' hcd => ?_)
      have hR : i_Rel (k + 4) (nI L, nI Z, nI K, C', T, M, P, B', A', F') (nI L, nI Z, V, Q) := om_mk ⟨hL, hZ, hK, Or.inr hcd, hmm, hv⟩
      obtain ⟨b, eb, hb⟩ := hcd.2.2 j hj0 hjZ
      have ej : nI j - 1 = nI (j - 1) := by
        obtain ⟨q, rfl⟩ : ∃ q, j = q + 1 := ⟨j - 1, by omega⟩
        exact nI_pred q
      dsimp only
      rw [nI_clamp hj, eb]
      refine ⟨vp_in_nI (by omega) (by decide), br_f h0' (br_t h1' (nm_r ej (Exists.intro j (om_yw4 hj0 (by omega) hv (fun m' h' => ⟨?_, hR⟩) (j - 1) j (Nat.le_refl _) (by omega) (fun m' a b _ => absurd b (by omega))))))⟩
      rw [om_mx_u h' hb]
    · exact br_f h1 (br_f h0 (br_f h1 ⟨rfl, om_mk hS2⟩))
theorem om_yper {post : Int32 → Prop} {T P V Q : Nat → Int32} {L : Int32} {Z : Nat} (hZ0 : 0 < Z) (hZ : Z ≤ 10) (hv : om_vv T P V)
    (h : ∀ s, s ≤ Z → om_mx P Z P (Z - 1) (Z - s) → post (nI s)) :
    ∀ d n s : Nat, s + d = Z → d < n → 0 < s → (∀ s', 0 < s' → s' < s → ¬ om_al P s' P 0 (Z - s')) → wY_period_2 post L (nI Z) V Q n (nI s) := by
  intro d
  induction d with
  | zero =>
    intro n s hs hn h0 hq
    obtain ⟨n, rfl⟩ : ∃ n', n = n' + 1 := ⟨n - 1, by omega⟩
    have es : s = Z := by omega
    subst es
    have h60 : (60 : Int32) + nI s = nI (60 + s) := nI_add 60 s
    rw [wY_period_2]
    dsimp only
    rw [h60, pk_sub (Nat.le_refl s)]
    have hz : s - s = 0 := by omega
    refine br_f (nI_nlt (Nat.le_refl _) (by omega)) (om_alike (q := 60) (by omega) (by omega) (fun g => br_f (by decide) (h s (Nat.le_refl _) ⟨by omega, by omega, ?_, fun m' h1 h2 h3 H => ?_⟩)) (fun g => absurd (by rw [hz]; exact om_al_0) g))
    · rw [hz]; exact om_al_0
    · exact hq (s - m') (by omega) (by omega) (om_al_p H rfl rfl (by omega))
  | succ d ih =>
    intro n s hs hn h0 hq
    obtain ⟨n, rfl⟩ : ∃ n', n = n' + 1 := ⟨n - 1, by omega⟩
    have h60 : (60 : Int32) + nI s = nI (60 + s) := nI_add 60 s
    rw [wY_period_2]
    dsimp only
    rw [h60, pk_sub (show s ≤ Z by omega)]
    have hx := om_vP hv (a := s) (k := Z - s) (by omega)
    refine br_f (nI_nlt (by omega) (by omega)) (om_alike (q := 60) (by omega) (by omega) (fun g => br_f (by decide) (h s (by omega) ⟨by omega, by omega, ?_, fun m' h1 h2 h3 H => ?_⟩)) (fun g => br_t rfl (nm_r (nI_1 s) (ih n (s + 1) (by omega) (by omega) (by omega) (fun s' g1 g2 => ?_)))))
    · exact om_al_p (hx.mp g) (by omega) rfl rfl
    · exact hq (Z - m') (by omega) (by omega) (om_al_p H rfl rfl (by omega))
    · by_cases e : s' = s
      · subst e; exact fun H => g (hx.mpr H)
      · exact hq s' g1 (by omega)
theorem i_vc_period {k : Nat} {u : SX} {v : SY} (I : i_Rel k u v) (hk : k + 4 ≤ 2048) : wpX_period (fun r u' => wpY_period (fun r' => r' = r ∧ i_Rel (k + 4) u' v) v) u := by
  refine om_el (R := fun u v => wpX_period (fun r u' => wpY_period (fun r' => r' = r ∧ i_Rel (k + 4) u' v) v) u) ?_ I
  intro L Z K C T M P B A F V Q hS
  have hS2 := hS
  obtain ⟨hL, hZ, hK, hC, hmm, hv⟩ := hS
  unfold wpX_period
  dsimp only
  by_cases z : Z = 0
  · subst z
    exact br_t nI_0 (Exists.intro 1 (br_t (nI_lt (a := 0) (b := 1) (by decide) (by decide)) ⟨rfl, om_mk hS2⟩))
  · refine br_f (nI_ne0 (by omega) (by omega)) (om_code hZ hC (fun C' B' A' F' hcd => ?_))
    have hR : i_Rel (k + 4) (nI L, nI Z, nI K, C', T, M, P, B', A', F') (nI L, nI Z, V, Q) := om_mk ⟨hL, hZ, hK, Or.inr hcd, hmm, hv⟩
    obtain ⟨b, eb, hb⟩ := hcd.2.2 Z (by omega) (Nat.le_refl _)
    have hb1 := hb.1
    dsimp only
    rw [nI_clamp (show Z < 2 ^ 31 by omega), eb, pk_sub (show b ≤ Z by omega)]
    refine ⟨vp_in_nI (by omega) (by decide), Exists.intro Z (om_yper (by omega) hZ hv (fun s hs h' => ⟨?_, hR⟩) (Z - 1) Z 1 (by omega) (by omega) (by omega) (fun s' a b => absurd b (by omega)))⟩
    have e := om_mx_u h' hb
    exact congrArg nI (by omega)
end
section
/-! disjoint: b is the table of the most that lie at a place or after it, right from a on -/
def om_dp (T P : Nat → Int32) (L Z : Nat) (b : Nat → Nat) (a : Nat) : Prop :=
  (∀ j, L ≤ j → b j = 0) ∧ ∀ j, a ≤ j → j < L → (¬ om_oc T P L Z j → b j = b (j + 1)) ∧
    (om_oc T P L Z j → (b j = b (j + 1) ∧ 1 + b (j + Z) ≤ b (j + 1)) ∨ (b j = 1 + b (j + Z) ∧ b (j + 1) < 1 + b (j + Z)))
theorem om_dp_n {T P : Nat → Int32} {L Z : Nat} {b : Nat → Nat} (h : om_dp T P L Z b 0) {j : Nat} (hn : ¬ om_oc T P L Z j) : b j = b (j + 1) := by
  by_cases e : j < L
  · exact (h.2 j (Nat.zero_le j) e).1 hn
  · rw [h.1 j (by omega), h.1 (j + 1) (by omega)]
theorem om_dp_a {T P : Nat → Int32} {L Z : Nat} {b : Nat → Nat} (h : om_dp T P L Z b 0) (j : Nat) : b (j + 1) ≤ b j := by
  by_cases o : om_oc T P L Z j
  · have hj : j < L := by have h1 := o.1; have h2 := o.2.1; omega
    rcases (h.2 j (Nat.zero_le j) hj).2 o with ⟨e, _⟩ | ⟨e, g⟩
    · omega
    · omega
  · rw [om_dp_n h o]; exact Nat.le_refl _
theorem om_dp_z {T P : Nat → Int32} {L Z : Nat} {b : Nat → Nat} (h : om_dp T P L Z b 0) : ∀ d j : Nat, L ≤ j + d → b j ≤ 1 + b (j + Z) := by
  intro d
  induction d with
  | zero => intro j hj; rw [h.1 j (by omega)]; omega
  | succ d ih =>
    intro j hj
    have h1 := ih (j + 1) (by omega)
    have h2 := om_dp_a h (j + Z)
    rw [show j + 1 + Z = j + Z + 1 by omega] at h1
    by_cases o : om_oc T P L Z j
    · have hjL : j < L := by have h3 := o.1; have h4 := o.2.1; omega
      rcases (h.2 j (Nat.zero_le j) hjL).2 o with ⟨e, _⟩ | ⟨e, g⟩
      · omega
      · omega
    · have h3 := om_dp_n h o
      omega
theorem om_dp_t {T P : Nat → Int32} {L Z : Nat} {b : Nat → Nat} (h : om_dp T P L Z b 0) {j : Nat} (o : om_oc T P L Z j) : b j = 1 + b (j + Z) := by
  have hjL : j < L := by have h3 := o.1; have h4 := o.2.1; omega
  have h1 := om_dp_z h L (j + 1) (by omega)
  have h2 := om_dp_a h (j + Z)
  rw [show j + 1 + Z = j + Z + 1 by omega] at h1
  rcases (h.2 j (Nat.zero_le j) hjL).2 o with ⟨e, g⟩ | ⟨e, g⟩
  · omega
  · omega
theorem om_dp_e {T P : Nat → Int32} {L Z : Nat} {b : Nat → Nat} (h : om_dp T P L Z b 0) : ∀ d j : Nat, L ≤ j + d → (∀ i, j ≤ i → ¬ om_oc T P L Z i) → b j = 0 := by
  intro d
  induction d with
  | zero => intro j hj _; exact h.1 j (by omega)
  | succ d ih =>
    intro j hj hn
    rw [om_dp_n h (hn j (Nat.le_refl _))]
    exact ih (j + 1) (by omega) (fun i hi => hn i (by omega))
def om_hg (fr a g : Nat) : Prop := (fr ≤ a ∧ g = a) ∨ (a < fr ∧ g = fr)
theorem om_xdis {post : Int32 → SX → Prop} {K C : Int32} {T M P B A F : Nat → Int32} {L Z : Nat} (hL : L ≤ 60) (hZ : Z ≤ 10) (hmm : om_mm T P Z L M)
    (hp : ∀ s, (∀ b, om_dp T P L Z b 0 → b 0 = s) → post (nI s) (nI L, nI Z, K, C, T, M, P, B, A, F)) :
    ∀ d n p s fr g : Nat, p + d = L → d < n → fr ≤ p → om_hg fr (p + 1 - Z) g → (∀ b, om_dp T P L Z b 0 → s + b g = b 0) →
      wX_disjoint_10 post (nI L) (nI Z) K C T M P B A F n (nI s) (nI fr) (nI p) := by
  intro d
  induction d with
  | zero =>
    intro n p s fr g hi hn hfr hg hb
    obtain ⟨n, rfl⟩ : ∃ n', n = n' + 1 := ⟨n - 1, by omega⟩
    have ei : p = L := by omega
    subst ei
    refine br_t (nI_le (Nat.le_refl _) (by omega)) (hp s (fun b h => ?_))
    have h1 := hb b h
    have h2 := om_dp_e h p g (by omega) (fun i hi o => by
      have h3 := o.1
      have h4 := o.2.1
      rcases hg with ⟨g1, g2⟩ | ⟨g1, g2⟩ <;> omega)
    omega
  | succ d ih =>
    intro n p s fr g hi hn hfr hg hb
    obtain ⟨n, rfl⟩ : ∃ n', n = n' + 1 := ⟨n - 1, by omega⟩
    rw [wX_disjoint_10]
    dsimp only
    refine br_f (nI_ge (by omega) (by omega)) (om_ends hZ (by omega) (hmm p (by omega)) (fun h => br_f (by decide) ?_) (fun h => br_t rfl (nm_r (nI_1 p) ?_)))
    · obtain ⟨hz, ho⟩ := (om_en_oc (L := L) (by omega)).mp h
      have hz0 : 0 < Z := h.1
      rw [om_start hz]
      by_cases e : p + 1 - Z < fr
      · refine br_t (nI_lt e (by omega)) (nm_r (nI_1 p) (ih n (p + 1) s fr g (by omega) (by omega) (by omega) ?_ hb))
        rcases hg with ⟨g1, g2⟩ | ⟨g1, g2⟩
        · omega
        · by_cases e2 : fr ≤ p + 1 + 1 - Z
          · exact Or.inl ⟨e2, by omega⟩
          · exact Or.inr ⟨by omega, g2⟩
      · refine br_f (nI_nlt (by omega) (by omega)) (nm_r (nI_1 s) (nm_r (nI_1 p) (nm_r (nI_1 p) (ih n (p + 1) (s + 1) (p + 1) (p + 1) (by omega) (by omega) (by omega) ?_ (fun b h2 => ?_)))))
        · by_cases e2 : p + 1 ≤ p + 1 + 1 - Z
          · exact Or.inl ⟨e2, by omega⟩
          · exact Or.inr ⟨by omega, rfl⟩
        · have h3 := hb b h2
          have h4 := om_dp_t h2 ho
          have hgs : g = p + 1 - Z := by rcases hg with ⟨g1, g2⟩ | ⟨g1, g2⟩ <;> omega
          rw [hgs] at h3
          rw [show p + 1 - Z + Z = p + 1 by omega] at h4
          omega
    · by_cases e : Z ≤ p + 1
      · rcases hg with ⟨g1, g2⟩ | ⟨g1, g2⟩
        · refine ih n (p + 1) s fr (g + 1) (by omega) (by omega) (by omega) (Or.inl ⟨by omega, by omega⟩) (fun b h2 => ?_)
          have h3 := hb b h2
          have h4 := om_dp_n h2 (j := g) (fun o => h ((om_en_oc (L := L) (by omega)).mpr ⟨e, by rw [← g2]; exact o⟩))
          omega
        · refine ih n (p + 1) s fr g (by omega) (by omega) (by omega) ?_ hb
          by_cases e2 : fr ≤ p + 1 + 1 - Z
          · exact Or.inl ⟨e2, by omega⟩
          · exact Or.inr ⟨by omega, g2⟩
      · refine ih n (p + 1) s fr g (by omega) (by omega) (by omega) ?_ hb
        rw [show p + 1 + 1 - Z = p + 1 - Z by omega]
        exact hg
/-! Y's table -/
def om_bu (b : Nat → Nat) (a x : Nat) : Nat → Nat := fun j => if j = a then x else b j
theorem om_bu_s {b : Nat → Nat} {a x : Nat} : om_bu b a x a = x := if_pos rfl
theorem om_bu_n {b : Nat → Nat} {a x j : Nat} (h : j ≠ a) : om_bu b a x j = b j := if_neg h
theorem om_bu_q {Q : Nat → Int32} {b : Nat → Nat} {a x : Nat} {y : Int32} (h : ∀ j, j ≤ 60 → Q j = nI (b j)) (hy : y = nI x) : ∀ j, j ≤ 60 → upd Q a y j = nI (om_bu b a x j) := by
  intro j hj
  by_cases e : j = a
  · subst e; rw [pk_us, om_bu_s]; exact hy
  · rw [pk_un e, om_bu_n e]; exact h j hj
theorem om_dp_s {T P : Nat → Int32} {L Z : Nat} {b : Nat → Nat} {a x : Nat} (h : om_dp T P L Z b (a + 1)) (ha : a < L) (h1 : ¬ om_oc T P L Z a → x = b (a + 1))
    (h2 : om_oc T P L Z a → (x = b (a + 1) ∧ 1 + b (a + Z) ≤ b (a + 1)) ∨ (x = 1 + b (a + Z) ∧ b (a + 1) < 1 + b (a + Z))) : om_dp T P L Z (om_bu b a x) a := by
  refine ⟨fun j hj => (om_bu_n (by omega)).trans (h.1 j hj), fun j hj hjL => ?_⟩
  by_cases e : j = a
  · subst e
    rw [om_bu_s, om_bu_n (show j + 1 ≠ j by omega)]
    refine ⟨h1, fun o => ?_⟩
    have hz := o.1
    rw [om_bu_n (show j + Z ≠ j by omega)]
    exact h2 o
  · rw [om_bu_n e, om_bu_n (show j + 1 ≠ a by omega), om_bu_n (show j + Z ≠ a by omega)]
    exact h.2 j (by omega) hjL
theorem om_bu_b {b : Nat → Nat} {a x L : Nat} (h : ∀ j, b j ≤ L - j) (hx : x ≤ L - a) : ∀ j, om_bu b a x j ≤ L - j := by
  intro j
  by_cases e : j = a
  · subst e; rw [om_bu_s]; exact hx
  · rw [om_bu_n e]; exact h j
theorem om_y28 {post : Int32 → SY → Prop} {T P V : Nat → Int32} {L Z : Nat} (hL : L ≤ 60) (hZ : Z ≤ 10) (hv : om_vv T P V)
    (hp : ∀ (b : Nat → Nat) (Q' : Nat → Int32), om_dp T P L Z b 0 → post (nI (b 0)) (nI L, nI Z, V, Q')) :
    ∀ (a n : Nat) (Q : Nat → Int32) (b : Nat → Nat), a < n → a ≤ L → (∀ j, j ≤ 60 → Q j = nI (b j)) → (∀ j, b j ≤ L - j) → om_dp T P L Z b a →
      wY_disjoint_28 post (nI L) (nI Z) n (nI a - 1) V Q := by
  intro a
  induction a with
  | zero =>
    intro n Q b hn ha hQ hb hd
    obtain ⟨n, rfl⟩ : ∃ n', n = n' + 1 := ⟨n - 1, by omega⟩
    rw [wY_disjoint_28]
    dsimp only
    rw [hQ 0 (by omega)]
    exact br_t (by decide) (hp b Q hd)
  | succ a ih =>
    intro n Q b hn ha hQ hb hd
    obtain ⟨n, rfl⟩ : ∃ n', n = n' + 1 := ⟨n - 1, by omega⟩
    have hina : vp_in (nI a) 61 := vp_in_nI (by omega) (by decide)
    have em : nI a + (-1) = nI a - 1 := (Int32.sub_eq_add_neg (nI a) 1).symm
    have hb1 := hb (a + 1)
    rw [nI_pred, wY_disjoint_28]
    dsimp only
    rw [nI_1 a, nI_clamp (show a < 2 ^ 31 by omega), nI_clamp (show a + 1 < 2 ^ 31 by omega), em]
    refine br_f (nI_pos (by omega)) ⟨vp_in_nI (by omega) (by decide), hina, nm_e ?_⟩
    have hQ1 := om_bu_q (a := a) (x := b (a + 1)) hQ (hQ (a + 1) (by omega))
    have hB1 := om_bu_b (b := b) (a := a) (x := b (a + 1)) (L := L) hb (by omega)
    refine om_ocs hv hL hZ (by omega) (fun o => br_f (by decide) ?_) (fun o => br_t rfl (nm_e (ih n _ _ (by omega) (by omega) hQ1 hB1 (om_dp_s hd (by omega) (fun _ => rfl) (fun o2 => absurd o2 o)))))
    have hz := o.1
    have hzL := o.2.1
    have hbZ := hb (a + Z)
    have e1 : (1 : Int32) + upd Q a (Q (a + 1)) (a + Z) = nI (1 + b (a + Z)) := by
      rw [pk_un (by omega), hQ (a + Z) (by omega)]
      exact nI_add 1 _
    have e2 : upd Q a (Q (a + 1)) a = nI (b (a + 1)) := pk_us.trans (hQ (a + 1) (by omega))
    rw [nI_add a Z, nI_clamp (show a + Z < 2 ^ 31 by omega), e2]
    refine ⟨vp_in_nI (by omega) (by decide), nm_r e1 ⟨hina, ?_⟩⟩
    refine pk_le (1 + b (a + Z)) (b (a + 1)) (fun g => nm_e (ih n _ _ (by omega) (by omega) hQ1 hB1 (om_dp_s hd (by omega) (fun _ => rfl) (fun _ => Or.inl ⟨rfl, g⟩))))
      (fun g => ⟨hina, nm_e (nm_e (ih n _ (om_bu b a (1 + b (a + Z))) (by omega) (by omega) ?_ (om_bu_b hb (by omega)) (om_dp_s hd (by omega) (fun no => absurd o no) (fun _ => Or.inr ⟨rfl, g⟩))))⟩)
    intro j hj
    by_cases e : j = a
    · subst e; rw [pk_us, om_bu_s]
    · rw [pk_un e, pk_un e, om_bu_n e]; exact hQ j hj
theorem om_y2 {post : Int32 → SY → Prop} {V : Nat → Int32} {L Z : Int32}
    (hp : ∀ Q' : Nat → Int32, (∀ j, j < 61 → Q' j = 0) → ∃ n28 : Nat, wY_disjoint_28 post L Z n28 (L - 1) V Q') :
    ∀ (d n p : Nat) (Q : Nat → Int32), p + d = 61 → d < n → (∀ j, j < p → Q j = 0) → wY_disjoint_2 post L Z n (nI p) V Q := by
  intro d
  induction d with
  | zero =>
    intro n p Q hi hn hq
    obtain ⟨n, rfl⟩ : ∃ n', n = n' + 1 := ⟨n - 1, by omega⟩
    have ei : p = 61 := by omega
    subst ei
    exact br_t (nI_le (a := 61) (Nat.le_refl _) (by decide)) (nm_e (hp Q hq))
  | succ d ih =>
    intro n p Q hi hn hq
    obtain ⟨n, rfl⟩ : ∃ n', n = n' + 1 := ⟨n - 1, by omega⟩
    rw [wY_disjoint_2]
    dsimp only
    rw [nI_clamp (show p < 2 ^ 31 by omega)]
    refine br_f (nI_ge (b := 61) (by omega) (by decide)) ⟨vp_in_nI (by omega) (by decide), nm_e (nm_r (nI_1 p) (ih n (p + 1) _ (by omega) (by omega) (fun j hj => ?_)))⟩
    by_cases e : j = p
    · subst e; exact pk_us
    · rw [pk_un e]; exact hq j (by omega)
theorem i_vc_disjoint {k : Nat} {u : SX} {v : SY} (I : i_Rel k u v) (hk : k + 4 ≤ 2048) : wpX_disjoint (fun r u' => wpY_disjoint (fun r' v' => r' = r ∧ i_Rel (k + 4) u' v') v) u := by
  refine om_el (R := fun u v => wpX_disjoint (fun r u' => wpY_disjoint (fun r' v' => r' = r ∧ i_Rel (k + 4) u' v') v) u) ?_ I
  intro L Z K C T M P B A F V Q hS
  obtain ⟨hL, hZ, hK, hC, hmm, hv⟩ := hS
  unfold wpX_disjoint
  dsimp only
  refine om_refresh hL hZ hK hC hmm (fun C' M' B' A' F' hcd hm' => Exists.intro (L + 1) (om_xdis hL hZ hm' (fun s hs => ?_) L (L + 1) 0 0 0 (0 + 1 - Z) (by omega) (by omega) (Nat.le_refl 0) (Or.inl ⟨Nat.zero_le _, rfl⟩) (fun b h => ?_)))
  · refine Exists.intro 62 (om_y2 (fun Q' hQ' => Exists.intro (L + 1) (om_y28 hL hZ hv (fun b Q2 hd => ⟨?_, ?_⟩) L (L + 1) Q' (fun _ => 0) (by omega) (Nat.le_refl _) (fun j hj => hQ' j (by omega)) (fun j => Nat.zero_le _) ⟨fun _ _ => rfl, fun j h1 h2 => absurd h2 (by omega)⟩)) 61 62 0 Q (by omega) (by omega) (fun j hj => absurd hj (Nat.not_lt_zero j)))
    · rw [hs b hd]
    · exact om_mk ⟨hL, hZ, Nat.le_refl _, Or.inr hcd, hm', hv⟩
  · by_cases z : Z = 0
    · rw [z, om_dp_e h L (0 + 1 - 0) (by omega) (fun i _ o => by have h2 := o.1; omega), om_dp_e h L 0 (by omega) (fun i _ o => by have h2 := o.1; omega)]
    · rw [show 0 + 1 - Z = 0 by omega]
      omega
end
