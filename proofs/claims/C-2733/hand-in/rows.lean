section
theorem pk_us {f : Nat → Int32} {k : Nat} {x : Int32} : upd f k x k = x := if_pos rfl
theorem pk_un {f : Nat → Int32} {k j : Nat} {x : Int32} (h : j ≠ k) : upd f k x j = f j := if_neg h
theorem pk_sub {a b : Nat} (h : b ≤ a) : nI a - nI b = nI (a - b) := by
  obtain ⟨c, rfl⟩ : ∃ c, a = c + b := ⟨a - b, by omega⟩
  rw [← nI_add, Int32.add_sub_cancel, Nat.add_sub_cancel]
theorem pk_m1 (n : Nat) : nI (n + 1) + (-1) = nI n := by
  rw [← nI_1, Int32.add_assoc, show (1 : Int32) + (-1) = 0 from rfl, Int32.add_zero]
theorem pk_mul (a b : Nat) : nI a * nI b = nI (a * b) := (Int32.ofNat_mul a b).symm
theorem pk_div {a d : Nat} (ha : a < 2 ^ 31) (h0 : 0 < d) (hd : d < 2 ^ 31) : nI a / nI d = nI (a / d) := by
  apply Int32.toInt_inj.mp
  rw [lg_idiv_nonneg (by rw [nI_toInt ha]; omega) (by rw [nI_toInt hd]; omega), nI_toInt ha, nI_toInt hd, nI_toInt (Nat.lt_of_le_of_lt (Nat.div_le_self a d) ha)]
  first | rfl | exact (Int.natCast_ediv _ _).symm
theorem pk_rem {a d : Nat} (ha : a < 2 ^ 31) (h0 : 0 < d) (hd : d < 2 ^ 31) : nI a - nI a / nI d * nI d = nI (a % d) := by
  rw [pk_div ha h0 hd, pk_mul, pk_sub (Nat.div_mul_le_self a d)]
  exact congrArg nI (by have := Nat.div_add_mod' a d; omega)
theorem pk_ix (x : Int32) {n : Nat} (hn : n < 2 ^ 31) : x < 0 ∨ nI n ≤ x ∨ ∃ j : Nat, j < n ∧ x = nI j := by
  by_cases h : x < 0
  · exact Or.inl h
  · obtain ⟨j, hj, rfl⟩ := nI_of h
    by_cases h2 : j < n
    · exact Or.inr (Or.inr ⟨j, h2, rfl⟩)
    · exact Or.inr (Or.inl (nI_le (by omega) hj))
theorem pk_le {x y : Int32} {A B : Prop} (a b : Nat) (f : a ≤ b → A) (g : b < a → B) (hx : x = nI a := by rfl) (hy : y = nI b := by rfl) (ha : a < 2 ^ 31 := by omega) (hb : b < 2 ^ 31 := by omega) : (x ≤ y → A) ∧ (¬ x ≤ y → B) := by
  subst hx hy
  rw [nI_leI ha hb]
  exact ⟨f, fun z => g (by omega)⟩
theorem pk_lt {x y : Int32} {A B : Prop} (a b : Nat) (f : a < b → A) (g : b ≤ a → B) (hx : x = nI a := by rfl) (hy : y = nI b := by rfl) (ha : a < 2 ^ 31 := by omega) (hb : b < 2 ^ 31 := by omega) : (x < y → A) ∧ (¬ x < y → B) := by
  subst hx hy
  rw [nI_ltI ha hb]
  exact ⟨f, fun z => g (by omega)⟩
theorem pk_eq {x y : Int32} {A B : Prop} (a b : Nat) (f : a = b → A) (g : a ≠ b → B) (hx : x = nI a := by rfl) (hy : y = nI b := by rfl) (ha : a < 2 ^ 31 := by omega) (hb : b < 2 ^ 31 := by omega) : (x = y → A) ∧ (¬ x = y → B) := by
  subst hx hy
  rw [nI_eq ha hb]
  exact ⟨f, g⟩
theorem pk_in {x : Int32} (n N : Nat) (h : n < N) (hx : x = nI n := by rfl) (hN : N < 2 ^ 31 := by omega) : vp_in x N := by
  subst hx
  exact vp_in_nI h hN
theorem pk_cl {x : Int32} (n : Nat) (hx : x = nI n := by rfl) (h : n < 2 ^ 31 := by omega) : x.toNatClampNeg = n := by
  subst hx
  exact nI_clamp h
def bt (x : Int32) (i : Nat) : Bool := x.toBitVec.getLsbD i
theorem b_ext {x y : Int32} (h : ∀ i, i < 32 → bt x i = bt y i) : x = y := Int32.toBitVec_inj.mp (BitVec.eq_of_getLsbD_eq (fun i hi => h i hi))
theorem b_or (x y : Int32) (i : Nat) : bt (x ||| y) i = (bt x i || bt y i) := by unfold bt; rw [Int32.toBitVec_or, BitVec.getLsbD_or]
theorem b_and (x y : Int32) (i : Nat) : bt (x &&& y) i = (bt x i && bt y i) := by unfold bt; rw [Int32.toBitVec_and, BitVec.getLsbD_and]
theorem b_0 (i : Nat) : bt 0 i = false := BitVec.getLsbD_zero
theorem s_l : ∀ n, n < 32 → ((nI n &&& 31).toBitVec.smod 32).toNat = n := by decide +kernel
theorem b_shl (n : Nat) (hn : n < 32) (x : Int32) {i : Nat} (hi : i < 32) : bt (x <<< (nI n &&& 31)) i = (decide (n ≤ i) && bt x (i - n)) := by
  unfold bt
  rw [Int32.toBitVec_shiftLeft]
  show (x.toBitVec <<< ((nI n &&& 31).toBitVec.smod 32).toNat).getLsbD i = _
  rw [s_l n hn, BitVec.getLsbD_shiftLeft]
  rcases Nat.lt_or_ge i n with h | h
  · simp [h, Nat.not_le.mpr h]
  · simp [hi, h, Nat.not_lt.mpr h]
theorem b_sshr (n : Nat) (hn : n < 32) (x : Int32) {i : Nat} (hi : i < 32) : bt (x >>> (nI n &&& 31)) i = if n + i < 32 then bt x (n + i) else bt x 31 := by
  unfold bt
  rw [Int32.toBitVec_shiftRight]
  show (x.toBitVec.sshiftRight ((nI n &&& 31).toBitVec.smod 32).toNat).getLsbD i = _
  rw [s_l n hn, BitVec.getLsbD_sshiftRight, BitVec.msb_eq_getLsbD_last]
  simp [hi]
end
section
/-! ints of any sign as values of Int -/
def ii_v (z : Int) : Int32 := Int32.ofInt z
theorem ii_t {z : Int} (h : -2000000000 ≤ z ∧ z ≤ 2000000000) : (ii_v z).toInt = z := Int32.toInt_ofInt_of_le (by omega) (by omega)
theorem ii_n (n : Nat) : nI n = ii_v (n : Int) := Int32.ofInt_eq_ofNat.symm
theorem ii_add (a b : Int) : ii_v a + ii_v b = ii_v (a + b) := (Int32.ofInt_add a b).symm
theorem ii_sub (a b : Int) : ii_v a - ii_v b = ii_v (a - b) := (Int32.ofInt_sub a b).symm
theorem ii_leI {a b : Int} (ha : -2000000000 ≤ a ∧ a ≤ 2000000000) (hb : -2000000000 ≤ b ∧ b ≤ 2000000000) : ii_v a ≤ ii_v b ↔ a ≤ b := by
  rw [Int32.le_iff_toInt_le, ii_t ha, ii_t hb]
theorem ii_ltI {a b : Int} (ha : -2000000000 ≤ a ∧ a ≤ 2000000000) (hb : -2000000000 ≤ b ∧ b ≤ 2000000000) : ii_v a < ii_v b ↔ a < b := by
  rw [Int32.lt_iff_toInt_lt, ii_t ha, ii_t hb]
theorem ii_eqI {a b : Int} (ha : -2000000000 ≤ a ∧ a ≤ 2000000000) (hb : -2000000000 ≤ b ∧ b ≤ 2000000000) : ii_v a = ii_v b ↔ a = b := by
  rw [← Int32.toInt_inj, ii_t ha, ii_t hb]
theorem ii_le {x y : Int32} {A B : Prop} {a b : Int} (hx : x = ii_v a) (hy : y = ii_v b) (ha : -2000000000 ≤ a ∧ a ≤ 2000000000) (hb : -2000000000 ≤ b ∧ b ≤ 2000000000) (f : a ≤ b → A) (g : b < a → B) : (x ≤ y → A) ∧ (¬ x ≤ y → B) := by
  subst hx hy
  rw [ii_leI ha hb]
  exact ⟨f, fun z => g (by omega)⟩
theorem ii_lt {x y : Int32} {A B : Prop} {a b : Int} (hx : x = ii_v a) (hy : y = ii_v b) (ha : -2000000000 ≤ a ∧ a ≤ 2000000000) (hb : -2000000000 ≤ b ∧ b ≤ 2000000000) (f : a < b → A) (g : b ≤ a → B) : (x < y → A) ∧ (¬ x < y → B) := by
  subst hx hy
  rw [ii_ltI ha hb]
  exact ⟨f, fun z => g (by omega)⟩
theorem ii_eq {x y : Int32} {A B : Prop} {a b : Int} (hx : x = ii_v a) (hy : y = ii_v b) (ha : -2000000000 ≤ a ∧ a ≤ 2000000000) (hb : -2000000000 ≤ b ∧ b ≤ 2000000000) (f : a = b → A) (g : ¬ a = b → B) : (x = y → A) ∧ (¬ x = y → B) := by
  subst hx hy
  rw [ii_eqI ha hb]
  exact ⟨f, g⟩
theorem ii_0 : (0 : Int32) = ii_v 0 := by decide
theorem ii_M : (1000000 : Int32) = ii_v 1000000 := by decide
theorem ii_mM : (-1000000 : Int32) = ii_v (-1000000) := by decide
theorem ii_H : (100000 : Int32) = ii_v 100000 := by decide
theorem ii_K : (1000 : Int32) = ii_v 1000 := by decide
theorem ii_m5 : (-5 : Int32) = ii_v (-5) := by decide
/-! one bit -/
theorem bb_1 : ∀ i, i < 32 → bt 1 i = decide (i = 0) := by decide +kernel
theorem bb_get (b : Int32) {s : Nat} (hs : s < 8) : ((b >>> (nI s &&& 31)) &&& 1) = 1 ↔ bt b s = true := by
  have key : ∀ i, i < 32 → bt ((b >>> (nI s &&& 31)) &&& 1) i = (decide (i = 0) && bt b s) := by
    intro i hi
    rw [b_and, bb_1 i hi]
    by_cases h : i = 0
    · subst h
      rw [b_sshr s (by omega) b hi, if_pos (by omega)]
      simp
    · simp [h]
  constructor
  · intro h
    have k0 := key 0 (by omega)
    rw [h, bb_1 0 (by omega)] at k0
    simpa using k0.symm
  · intro h
    apply b_ext
    intro i hi
    rw [key i hi, h, bb_1 i hi]
    simp
theorem bb_set (b : Int32) {s q : Nat} (hs : s < 8) (hq : q < 8) : bt (b ||| ((1 : Int32) <<< (nI s &&& 31))) q = (bt b q || decide (q = s)) := by
  rw [b_or, b_shl s (by omega) 1 (show q < 32 by omega)]
  congr 1
  by_cases h : s ≤ q
  · rw [bb_1 _ (by omega)]
    by_cases e : q = s
    · subst e; simp
    · have : ¬ q - s = 0 := by omega
      simp [h, e, this]
  · have e : ¬ q = s := by omega
    simp [h, e]
theorem bb_0 {b : Int32} (h : b = 0) (s : Nat) : bt b s = false := by rw [h]; exact b_0 s
end
section
/-! journeys: W one footpath or none, R one ride, C k: k rides; all closed upwards in the end and downwards in the start -/
def jr_mon (P : Nat → Int → Nat → Int → Prop) : Prop := ∀ s t v z t' z', P s t v z → t' ≤ t → z ≤ z' → P s t' v z'
def jr_C (W R : Nat → Int → Nat → Int → Prop) : Nat → Nat → Int → Nat → Int → Prop
  | 0 => fun s t v z => W s t v z
  | k + 1 => fun s t v z => ∃ u y x w, u < 8 ∧ x < 8 ∧ jr_C W R k s t u y ∧ R u y x w ∧ W x w v z
def jr_P (W R : Nat → Int → Nat → Int → Prop) (k s : Nat) (t : Int) (v : Nat) (z : Int) : Prop := ∃ j, j ≤ k ∧ jr_C W R j s t v z
def jr_Q (W R : Nat → Int → Nat → Int → Prop) (k s : Nat) (t : Int) (v : Nat) (z : Int) : Prop := ∃ j, j < k ∧ jr_C W R j s t v z
/-- the same roads backwards in time -/
def jr_op (P : Nat → Int → Nat → Int → Prop) : Nat → Int → Nat → Int → Prop := fun s t v z => P v (-z) s (-t)
section
variable {W R : Nat → Int → Nat → Int → Prop}
theorem jr_succ {k s : Nat} {t : Int} {v : Nat} {z : Int} {u : Nat} {y : Int} {x : Nat} {w : Int} (hu : u < 8) (hx : x < 8) (hC : jr_C W R k s t u y) (hR : R u y x w) (hW : W x w v z) : jr_C W R (k + 1) s t v z := ⟨u, y, x, w, hu, hx, hC, hR, hW⟩
theorem jr_Cm (hW : jr_mon W) : ∀ k, jr_mon (jr_C W R k)
  | 0 => hW
  | k + 1 => by
    intro s t v z t' z' h ht hz
    obtain ⟨u, y, x, w, hu, hx, hC, hR, hw⟩ := h
    exact ⟨u, y, x, w, hu, hx, jr_Cm hW k _ _ _ _ _ _ hC ht (Int.le_refl _), hR, hW _ _ _ _ _ _ hw (Int.le_refl _) hz⟩
theorem jr_Ct (hWt : ∀ s t v z, W s t v z → t ≤ z) (hRt : ∀ s t v z, R s t v z → t < z) : ∀ k s t v z, jr_C W R k s t v z → t ≤ z
  | 0 => fun s t v z h => hWt s t v z h
  | k + 1 => by
    intro s t v z h
    obtain ⟨u, y, x, w, hu, hx, hC, hR, hw⟩ := h
    have a := jr_Ct hWt hRt k _ _ _ _ hC
    have b := hRt _ _ _ _ hR
    have c := hWt _ _ _ _ hw
    omega
theorem jr_front : ∀ k s t v z, jr_C W R (k + 1) s t v z ↔ ∃ x w u y, x < 8 ∧ u < 8 ∧ W s t x w ∧ R x w u y ∧ jr_C W R k u y v z := by
  intro k
  induction k with
  | zero =>
    intro s t v z
    constructor
    · rintro ⟨u, y, x, w, hu, hx, hC, hR, hw⟩
      exact ⟨u, y, x, w, hu, hx, hC, hR, hw⟩
    · rintro ⟨u, y, x, w, hu, hx, hC, hR, hw⟩
      exact ⟨u, y, x, w, hu, hx, hC, hR, hw⟩
  | succ k ih =>
    intro s t v z
    constructor
    · rintro ⟨u, y, x, w, hu, hx, hC, hR, hw⟩
      obtain ⟨x', w', u', y', hx', hu', hW', hR', hC'⟩ := (ih s t u y).mp hC
      exact ⟨x', w', u', y', hx', hu', hW', hR', u, y, x, w, hu, hx, hC', hR, hw⟩
    · rintro ⟨x', w', u', y', hx', hu', hW', hR', u, y, x, w, hu, hx, hC', hR, hw⟩
      exact ⟨u, y, x, w, hu, hx, (ih s t u y).mpr ⟨x', w', u', y', hx', hu', hW', hR', hC'⟩, hR, hw⟩
theorem jr_opC : ∀ k s t v z, jr_C (jr_op W) (jr_op R) k s t v z ↔ jr_C W R k v (-z) s (-t) := by
  intro k
  induction k with
  | zero => intro s t v z; exact Iff.rfl
  | succ k ih =>
    intro s t v z
    rw [jr_front]
    constructor
    · rintro ⟨x, w, u, y, hx, hu, hw, hR, hC⟩
      exact ⟨u, -y, x, -w, hu, hx, (ih u y v z).mp hC, hR, hw⟩
    · rintro ⟨u, y, x, w, hu, hx, hC, hR, hw⟩
      refine ⟨x, -w, u, -y, hx, hu, ?_, ?_, (ih u (-y) v z).mpr ?_⟩
      · show W x (- -w) s (-t)
        rw [Int.neg_neg]; exact hw
      · show R u (- -y) x (- -w)
        rw [Int.neg_neg, Int.neg_neg]; exact hR
      · rw [Int.neg_neg]; exact hC
theorem jr_opP (k s : Nat) (t : Int) (v : Nat) (z : Int) : jr_P (jr_op W) (jr_op R) k s t v z ↔ jr_P W R k v (-z) s (-t) :=
  ⟨fun ⟨j, hj, h⟩ => ⟨j, hj, (jr_opC j s t v z).mp h⟩, fun ⟨j, hj, h⟩ => ⟨j, hj, (jr_opC j s t v z).mpr h⟩⟩
theorem jr_opm {P : Nat → Int → Nat → Int → Prop} (h : jr_mon P) : jr_mon (jr_op P) := fun s t v z t' z' hp h1 h2 => h v (-z) s (-t) (-z') (-t') hp (by omega) (by omega)
theorem jr_opt {P : Nat → Int → Nat → Int → Prop} (h : ∀ s t v z, P s t v z → t ≤ z) : ∀ s t v z, jr_op P s t v z → t ≤ z := fun s t v z hp => by have := h _ _ _ _ hp; omega
theorem jr_opu {P : Nat → Int → Nat → Int → Prop} (h : ∀ s t v z, P s t v z → t < z) : ∀ s t v z, jr_op P s t v z → t < z := fun s t v z hp => by have := h _ _ _ _ hp; omega
/-- what the rounds keep: g the best so far with at most k rides, m the stops that got better in round k, F the far end -/
def jr_I (W R : Nat → Int → Nat → Int → Prop) (F : Int) (a : Nat) (t : Int) (k : Nat) (g : Nat → Int) (m : Nat → Prop) : Prop :=
  (∀ s, s < 8 → ∀ z, z < F → (g s ≤ z ↔ jr_P W R k a t s z)) ∧ (∀ s, s < 8 → ¬ m s → ∀ z, z < F → jr_P W R k a t s z → jr_Q W R k a t s z)
theorem jr_I0 {F : Int} {a : Nat} {t : Int} {g : Nat → Int} {m : Nat → Prop} (h1 : ∀ s, s < 8 → ∀ z, z < F → (g s ≤ z ↔ W a t s z)) (h2 : ∀ s, s < 8 → ¬ m s → F ≤ g s) : jr_I W R F a t 0 g m := by
  have e : ∀ s z, jr_P W R 0 a t s z ↔ W a t s z := by
    intro s z
    constructor
    · rintro ⟨j, hj, h⟩
      have : j = 0 := by omega
      subst this
      exact h
    · intro h; exact ⟨0, Nat.le_refl _, h⟩
  refine ⟨fun s hs z hz => (h1 s hs z hz).trans (e s z).symm, fun s hs hm z hz hP => ?_⟩
  have a1 := (h1 s hs z hz).mpr ((e s z).mp hP)
  have a2 := h2 s hs hm
  omega
theorem jr_IS (hR : jr_mon R) (hWt : ∀ s t v z, W s t v z → t ≤ z) (hRt : ∀ s t v z, R s t v z → t < z) {F : Int} {a : Nat} {t : Int} {k : Nat} {g g' : Nat → Int} {m m' : Nat → Prop} (I : jr_I W R F a t k g m)
    (h1 : ∀ s, s < 8 → ∀ z, z < F → (g' s ≤ z ↔ g s ≤ z ∨ ∃ u x w, u < 8 ∧ x < 8 ∧ m u ∧ R u (g u) x w ∧ W x w s z)) (h2 : ∀ s, s < 8 → ¬ m' s → g' s = g s) : jr_I W R F a t (k + 1) g' m' := by
  obtain ⟨I1, I2⟩ := I
  have key : ∀ s, s < 8 → ∀ z, z < F → (g' s ≤ z ↔ jr_P W R (k + 1) a t s z) := by
    intro s hs z hz
    rw [h1 s hs z hz]
    constructor
    · rintro (h | ⟨u, x, w, hu, hx, hm, hr, hw⟩)
      · obtain ⟨j, hj, hc⟩ := (I1 s hs z hz).mp h
        exact ⟨j, by omega, hc⟩
      · have a1 := hWt _ _ _ _ hw
        have a2 := hRt _ _ _ _ hr
        obtain ⟨j, hj, hc⟩ := (I1 u hu (g u) (by omega)).mp (Int.le_refl _)
        exact ⟨j + 1, by omega, jr_succ hu hx hc hr hw⟩
    · rintro ⟨j, hj, hc⟩
      by_cases hjk : j ≤ k
      · exact Or.inl ((I1 s hs z hz).mpr ⟨j, hjk, hc⟩)
      · have e : j = k + 1 := by omega
        subst e
        obtain ⟨u, y, x, w, hu, hx, hC, hr, hw⟩ := hc
        have a1 := hWt _ _ _ _ hw
        have a2 := hRt _ _ _ _ hr
        have hP : jr_P W R k a t u y := ⟨k, Nat.le_refl _, hC⟩
        have hg := (I1 u hu y (by omega)).mpr hP
        by_cases hm : m u
        · exact Or.inr ⟨u, x, w, hu, hx, hm, hR _ _ _ _ _ _ hr hg (Int.le_refl _), hw⟩
        · obtain ⟨i, hi, hci⟩ := I2 u hu hm y (by omega) hP
          exact Or.inl ((I1 s hs z hz).mpr ⟨i + 1, by omega, jr_succ hu hx hci hr hw⟩)
  refine ⟨key, fun s hs hm z hz hP => ?_⟩
  have a1 := (key s hs z hz).mpr hP
  rw [h2 s hs hm] at a1
  obtain ⟨j, hj, hc⟩ := (I1 s hs z hz).mp a1
  exact ⟨j, by omega, hc⟩
theorem jr_stop (hWt : ∀ s t v z, W s t v z → t ≤ z) (hRt : ∀ s t v z, R s t v z → t < z) {F : Int} {a : Nat} {t : Int} {k : Nat} (h : ∀ s, s < 8 → ∀ z, z < F → jr_P W R k a t s z → jr_Q W R k a t s z) : ∀ j s z, s < 8 → z < F → jr_C W R j a t s z → jr_Q W R k a t s z := by
  intro j
  induction j with
  | zero => intro s z hs hz hc; exact h s hs z hz ⟨0, Nat.zero_le _, hc⟩
  | succ j ih =>
    intro s z hs hz hc
    obtain ⟨u, y, x, w, hu, hx, hC, hr, hw⟩ := hc
    have a1 := hWt _ _ _ _ hw
    have a2 := hRt _ _ _ _ hr
    obtain ⟨i, hi, hci⟩ := ih u y hu (by omega) hC
    exact h s hs z hz ⟨i + 1, by omega, jr_succ hu hx hci hr hw⟩
theorem jr_end (hWt : ∀ s t v z, W s t v z → t ≤ z) (hRt : ∀ s t v z, R s t v z → t < z) {F : Int} {a : Nat} {t : Int} {k K : Nat} {g : Nat → Int} {m : Nat → Prop} (I : jr_I W R F a t k g m) (hK : k ≤ K) (hm : ∀ s, s < 8 → ¬ m s) : ∀ s, s < 8 → ∀ z, z < F → (g s ≤ z ↔ jr_P W R K a t s z) := by
  intro s hs z hz
  rw [I.1 s hs z hz]
  constructor
  · rintro ⟨j, hj, hc⟩; exact ⟨j, by omega, hc⟩
  · rintro ⟨j, hj, hc⟩
    obtain ⟨i, hi, hci⟩ := jr_stop hWt hRt (fun s hs z hz => I.2 s hs (hm s hs) z hz) j s z hs hz hc
    exact ⟨i, by omega, hci⟩
end
/-! counting -/
noncomputable def jr_b (P : Prop) : Nat := @ite Nat P (Classical.propDecidable P) 1 0
theorem jr_bt {P : Prop} (h : P) : jr_b P = 1 := by unfold jr_b; rw [if_pos h]
theorem jr_bf {P : Prop} (h : ¬ P) : jr_b P = 0 := by unfold jr_b; rw [if_neg h]
theorem jr_bm {P Q : Prop} (h : P → Q) : jr_b P ≤ jr_b Q := by
  rcases Classical.em P with hp | hp
  · rw [jr_bt hp, jr_bt (h hp)]; exact Nat.le_refl _
  · rw [jr_bf hp]; omega
noncomputable def jr_n (P : Nat → Prop) : Nat → Nat
  | 0 => 0
  | k + 1 => jr_n P k + jr_b (P k)
theorem jr_nm {P Q : Nat → Prop} (h : ∀ k, P k → Q k) : ∀ n, jr_n P n ≤ jr_n Q n
  | 0 => Nat.le_refl _
  | n + 1 => by
    have a := jr_nm h n
    have b := jr_bm (h n)
    show jr_n P n + jr_b (P n) ≤ jr_n Q n + jr_b (Q n)
    omega
theorem jr_nl {P Q : Nat → Prop} (h : ∀ k, P k → Q k) {a : Nat} (hp : ¬ P a) (hq : Q a) : ∀ n, a < n → jr_n P n < jr_n Q n
  | 0 => fun ha => absurd ha (Nat.not_lt_zero _)
  | n + 1 => by
    intro ha
    show jr_n P n + jr_b (P n) < jr_n Q n + jr_b (Q n)
    rcases Nat.lt_or_ge a n with z | z
    · have x := jr_nl h hp hq n z
      have b := jr_bm (h n)
      omega
    · have e : a = n := by omega
      subst e
      have x := jr_nm h a
      rw [jr_bt hq, jr_bf hp]
      omega
theorem jr_nle (P : Nat → Prop) : ∀ n, jr_n P n ≤ n
  | 0 => Nat.le_refl _
  | n + 1 => by
    have a := jr_nle P n
    have b : jr_b (P n) ≤ jr_b True := jr_bm (fun _ => trivial)
    rw [jr_bt trivial] at b
    show jr_n P n + jr_b (P n) ≤ n + 1
    omega
theorem jr_min {P : Int → Prop} {lo : Int} (hlo : ∀ z, P z → lo ≤ z) : ∀ (n : Nat) (z : Int), z - lo ≤ n → P z → ∃ m, P m ∧ m ≤ z ∧ ∀ y, P y → m ≤ y := by
  intro n
  induction n with
  | zero =>
    intro z hn hz
    exact ⟨z, hz, Int.le_refl _, fun y hy => by have := hlo y hy; omega⟩
  | succ n ih =>
    intro z hn hz
    by_cases h : ∃ y, P y ∧ y < z
    · obtain ⟨y, hy, hyz⟩ := h
      obtain ⟨m, h1, h2, h3⟩ := ih y (by omega) hy
      exact ⟨m, h1, by omega, h3⟩
    · refine ⟨z, hz, Int.le_refl _, fun y hy => ?_⟩
      rcases Int.lt_or_le y z with c | c
      · exact absurd ⟨y, hy, c⟩ h
      · exact c
section
variable {W R : Nat → Int → Nat → Int → Prop}
theorem jr_cnt (hW : jr_mon W) (hR : jr_mon R) (hWt : ∀ s t v z, W s t v z → t ≤ z) (hRt : ∀ s t v z, R s t v z → t < z) (a : Nat) (t : Int) : ∀ k v z, jr_C W R k a t v z → ¬ jr_Q W R k a t v z → k ≤ jr_n (fun u => ∃ y, y < z ∧ jr_P W R k a t u y) 8 := by
  intro k
  induction k with
  | zero => intro v z _ _; exact Nat.zero_le _
  | succ k ih =>
    intro v z hc hq
    obtain ⟨u, y, x, w, hu, hx, hC, hr, hw⟩ := hc
    have a1 := hWt _ _ _ _ hw
    have a2 := hRt _ _ _ _ hr
    have a3 := jr_Ct hWt hRt k _ _ _ _ hC
    obtain ⟨y0, hC0, hy0, hmin⟩ := jr_min (P := fun y => jr_C W R k a t u y) (lo := t) (fun z hz => jr_Ct hWt hRt k _ _ _ _ hz) (y - t).toNat y (by omega) hC
    have hq0 : ∀ y', y' ≤ y0 → ¬ jr_Q W R k a t u y' := by
      rintro y' hy' ⟨j, hj, hcj⟩
      refine hq ⟨j + 1, by omega, jr_succ hu hx hcj (hR _ _ _ _ _ _ hr (by omega) (Int.le_refl _)) hw⟩
    have i1 := ih u y0 hC0 (hq0 y0 (Int.le_refl _))
    have i2 := jr_nl (P := fun u => ∃ y, y < y0 ∧ jr_P W R k a t u y) (Q := fun u => ∃ y, y < z ∧ jr_P W R (k + 1) a t u y) (fun q hq' => by
        obtain ⟨y', h1, j, hj, hcj⟩ := hq'
        exact ⟨y', by omega, j, by omega, hcj⟩) (a := u) (by
        rintro ⟨y', h1, j, hj, hcj⟩
        by_cases e : j = k
        · subst e
          have := hmin y' hcj
          omega
        · exact hq0 y' (by omega) ⟨j, by omega, hcj⟩) ⟨y0, by omega, k, by omega, hC0⟩ 8 hu
    omega
/-- with eight stops the eighth ride and all further ones bring nothing -/
theorem jr_8 (hW : jr_mon W) (hR : jr_mon R) (hWt : ∀ s t v z, W s t v z → t ≤ z) (hRt : ∀ s t v z, R s t v z → t < z) {a : Nat} {t : Int} {v : Nat} {z : Int} (hv : v < 8) (hc : jr_C W R 8 a t v z) : jr_Q W R 8 a t v z := by
  rcases Classical.em (jr_Q W R 8 a t v z) with h | h
  · exact h
  · exfalso
    have a3 := jr_Ct hWt hRt 8 _ _ _ _ hc
    obtain ⟨z0, hC0, hz0, hmin⟩ := jr_min (P := fun y => jr_C W R 8 a t v y) (lo := t) (fun z hz => jr_Ct hWt hRt 8 _ _ _ _ hz) (z - t).toNat z (by omega) hc
    have hq0 : ∀ y', y' ≤ z0 → ¬ jr_Q W R 8 a t v y' := by
      rintro y' hy' ⟨j, hj, hcj⟩
      exact h ⟨j, hj, jr_Cm hW j _ _ _ _ _ _ hcj (Int.le_refl _) (by omega)⟩
    have i1 := jr_cnt hW hR hWt hRt a t 8 v z0 hC0 (hq0 z0 (Int.le_refl _))
    have i2 := jr_nl (P := fun u => ∃ y, y < z0 ∧ jr_P W R 8 a t u y) (Q := fun _ => True) (fun _ _ => trivial) (a := v) (by
        rintro ⟨y', h1, j, hj, hcj⟩
        by_cases e : j = 8
        · subst e
          have := hmin y' hcj
          omega
        · exact hq0 y' (by omega) ⟨j, by omega, hcj⟩) trivial 8 hv
    have i3 := jr_nle (fun _ => True) 8
    omega
theorem jr_12 (hW : jr_mon W) (hR : jr_mon R) (hWt : ∀ s t v z, W s t v z → t ≤ z) (hRt : ∀ s t v z, R s t v z → t < z) {a : Nat} {t : Int} {v : Nat} {z : Int} (hv : v < 8) : jr_P W R 12 a t v z ↔ jr_P W R 8 a t v z := by
  constructor
  · rintro ⟨j, hj, hc⟩
    obtain ⟨i, hi, hci⟩ := jr_stop hWt hRt (F := z + 1) (k := 8) (a := a) (t := t) (fun s hs y _ hP => by
      obtain ⟨i, hi, hci⟩ := hP
      by_cases e : i = 8
      · subst e
        exact jr_8 hW hR hWt hRt hs hci
      · exact ⟨i, by omega, hci⟩) j v z hv (by omega) hc
    exact ⟨i, by omega, hci⟩
  · rintro ⟨j, hj, hc⟩; exact ⟨j, by omega, hc⟩
end
end
section
/-! the timetable: what both sides keep alike -/
def ar_n (f : Nat → Nat) : Nat → Int32 := fun j => nI (f j)
theorem ar_at (f : Nat → Nat) {x : Nat} (h : x < 2 ^ 31) : ar_n f (nI x).toNatClampNeg = nI (f x) := by rw [nI_clamp h]; rfl
theorem ar_up (f : Nat → Nat) (k v : Nat) : upd (ar_n f) k (nI v) = ar_n (fun j => if j = k then v else f j) := by
  funext j
  show (if j = k then nI v else nI (f j)) = nI (if j = k then v else f j)
  by_cases h : j = k
  · rw [if_pos h, if_pos h]
  · rw [if_neg h, if_neg h]
theorem ix_6 (l i : Nat) : nI l * 6 + nI i = nI (l * 6 + i) := by
  rw [show (6 : Int32) = nI 6 from rfl, pk_mul, nI_add]
theorem ix_8 (l i : Nat) : nI l * 8 + nI i = nI (l * 8 + i) := by
  rw [show (8 : Int32) = nI 8 from rfl, pk_mul, nI_add]
theorem ar_6 (f : Nat → Nat) {l i : Nat} (hl : l < 5) (hi : i < 6) : ar_n f (nI l * 6 + nI i).toNatClampNeg = nI (f (l * 6 + i)) := by
  rw [ix_6]; exact ar_at f (by omega)
theorem ar_8 (f : Nat → Nat) {l i : Nat} (hl : l < 8) (hi : i < 8) : ar_n f (nI l * 8 + nI i).toNatClampNeg = nI (f (l * 8 + i)) := by
  rw [ix_8]; exact ar_at f (by omega)
theorem in_6 {l i : Nat} (hl : l < 5) (hi : i < 6) : vp_in (nI l * 6 + nI i) 30 := pk_in (l * 6 + i) 30 (by omega) (ix_6 l i)
theorem in_8 {l i : Nat} (hl : l < 8) (hi : i < 8) : vp_in (nI l * 8 + nI i) 64 := pk_in (l * 8 + i) 64 (by omega) (ix_8 l i)
theorem in_s {s : Nat} (h : s < 8) : vp_in (nI s) 8 := vp_in_nI h (by omega)
theorem in_x {x : Nat} (h : x < 12) : vp_in (nI x) 12 := vp_in_nI h (by omega)
theorem in_l {l : Nat} (h : l < 5) : vp_in (nI l) 5 := vp_in_nI h (by omega)
def tt_ok (L N : Nat) (sz sp og lo sa wk : Nat → Nat) : Prop :=
  (L ≤ 5 ∧ N ≤ 12) ∧ (∀ j, sz j ≤ 6 ∧ sp j < 8 ∧ og j ≤ 30 * (j % 6) ∧ lo j < 5 ∧ sa j ≤ 500 ∧ wk j ≤ 30) ∧ (∀ l, l < L → 1 ≤ sz l) ∧ (∀ l i, l < L → i + 1 < sz l → og (l * 6 + i) < og (l * 6 + (i + 1))) ∧ (∀ x, x < N → lo x < L)
def tt_W (wk : Nat → Nat) (s : Nat) (t : Int) (v : Nat) (z : Int) : Prop := (v = s ∧ t ≤ z) ∨ (0 < wk (s * 8 + v) ∧ t + (wk (s * 8 + v) : Int) ≤ z)
def tt_R (N : Nat) (sz sp og lo sa : Nat → Nat) (u : Nat) (t : Int) (v : Nat) (z : Int) : Prop := ∃ x i j, x < N ∧ i < j ∧ j < sz (lo x) ∧ sp (lo x * 6 + i) = u ∧ t ≤ (sa x : Int) + (og (lo x * 6 + i) : Int) ∧ sp (lo x * 6 + j) = v ∧ (sa x : Int) + (og (lo x * 6 + j) : Int) ≤ z
section
variable {L N : Nat} {sz sp og lo sa wk : Nat → Nat}
theorem tt_L (T : tt_ok L N sz sp og lo sa wk) : L ≤ 5 := T.1.1
theorem tt_N (T : tt_ok L N sz sp og lo sa wk) : N ≤ 12 := T.1.2
theorem tt_sz (T : tt_ok L N sz sp og lo sa wk) (j : Nat) : sz j ≤ 6 := (T.2.1 j).1
theorem tt_sp (T : tt_ok L N sz sp og lo sa wk) (j : Nat) : sp j < 8 := (T.2.1 j).2.1
theorem tt_og (T : tt_ok L N sz sp og lo sa wk) (j : Nat) : og j ≤ 150 := by have := (T.2.1 j).2.2.1; omega
theorem tt_lo (T : tt_ok L N sz sp og lo sa wk) (j : Nat) : lo j < 5 := (T.2.1 j).2.2.2.1
theorem tt_sa (T : tt_ok L N sz sp og lo sa wk) (j : Nat) : sa j ≤ 500 := (T.2.1 j).2.2.2.2.1
theorem tt_wk (T : tt_ok L N sz sp og lo sa wk) (j : Nat) : wk j ≤ 30 := (T.2.1 j).2.2.2.2.2
theorem tt_1 (T : tt_ok L N sz sp og lo sa wk) {l : Nat} (h : l < L) : 1 ≤ sz l := T.2.2.1 l h
theorem tt_up (T : tt_ok L N sz sp og lo sa wk) {l : Nat} (h : l < L) : ∀ d i, i + (d + 1) < sz l → og (l * 6 + i) < og (l * 6 + (i + (d + 1))) := by
  intro d
  induction d with
  | zero => intro i hi; exact T.2.2.2.1 l i h hi
  | succ d ih =>
    intro i hi
    have a := ih i (by omega)
    have b := T.2.2.2.1 l (i + (d + 1)) h (by omega)
    have e : i + (d + 1) + 1 = i + (d + 1 + 1) := by omega
    rw [e] at b
    omega
theorem tt_lt (T : tt_ok L N sz sp og lo sa wk) {l i j : Nat} (h : l < L) (hij : i < j) (hj : j < sz l) : og (l * 6 + i) < og (l * 6 + j) := by
  have e : i + (j - i - 1 + 1) = j := by omega
  have := tt_up T h (j - i - 1) i (by omega)
  rw [e] at this
  exact this
theorem tt_lL (T : tt_ok L N sz sp og lo sa wk) {x : Nat} (h : x < N) : lo x < L := T.2.2.2.2 x h
theorem tt_Wm : jr_mon (tt_W wk) := by
  intro s t v z t' z' h ht hz
  rcases h with ⟨e, h⟩ | ⟨e, h⟩
  · exact Or.inl ⟨e, by omega⟩
  · exact Or.inr ⟨e, by omega⟩
theorem tt_Rm : jr_mon (tt_R N sz sp og lo sa) := by
  intro s t v z t' z' h ht hz
  obtain ⟨x, i, j, h1, h2, h3, h4, h5, h6, h7⟩ := h
  exact ⟨x, i, j, h1, h2, h3, h4, by omega, h6, by omega⟩
theorem tt_Wt : ∀ s t v z, tt_W wk s t v z → t ≤ z := by
  intro s t v z h
  rcases h with ⟨e, h⟩ | ⟨e, h⟩ <;> omega
theorem tt_Rt (T : tt_ok L N sz sp og lo sa wk) : ∀ s t v z, tt_R N sz sp og lo sa s t v z → t < z := by
  intro s t v z h
  obtain ⟨x, i, j, h1, h2, h3, h4, h5, h6, h7⟩ := h
  have := tt_lt T (tt_lL T h1) h2 h3
  omega
end
/-- the relation: the same timetable on both sides, whatever the searches have left behind -/
def i_Rel (k : Nat) (u : SX) (v : SY) : Prop :=
  ∃ (L N : Nat) (sz sp og lo sa wk : Nat → Nat) (b : Int32) (rid rea bef off th : Nat → Int32), tt_ok L N sz sp og lo sa wk ∧ u = (nI L, nI N, b, ar_n sz, ar_n sp, ar_n og, ar_n lo, ar_n sa, ar_n wk, rid, rea, bef) ∧ v = (nI L, nI N, ar_n sz, ar_n sp, ar_n og, ar_n lo, ar_n sa, ar_n wk, off, th)
theorem i_up {k : Nat} {u : SX} {v : SY} (h : i_Rel k u v) : i_Rel (k + 5) u v := h
theorem rl_mk {k L N : Nat} {sz sp og lo sa wk : Nat → Nat} {b : Int32} {rid rea bef off th : Nat → Int32} (T : tt_ok L N sz sp og lo sa wk) : i_Rel k (nI L, nI N, b, ar_n sz, ar_n sp, ar_n og, ar_n lo, ar_n sa, ar_n wk, rid, rea, bef) (nI L, nI N, ar_n sz, ar_n sp, ar_n og, ar_n lo, ar_n sa, ar_n wk, off, th) :=
  ⟨L, N, sz, sp, og, lo, sa, wk, b, rid, rea, bef, off, th, T, rfl, rfl⟩
theorem rl_el {k : Nat} {u : SX} {v : SY} {Q : SX → SY → Prop} (I : i_Rel k u v) (h : ∀ (L N : Nat) (sz sp og lo sa wk : Nat → Nat) (b : Int32) (rid rea bef off th : Nat → Int32), tt_ok L N sz sp og lo sa wk → Q (nI L, nI N, b, ar_n sz, ar_n sp, ar_n og, ar_n lo, ar_n sa, ar_n wk, rid, rea, bef) (nI L, nI N, ar_n sz, ar_n sp, ar_n og, ar_n lo, ar_n sa, ar_n wk, off, th)) : Q u v := by
  obtain ⟨L, N, sz, sp, og, lo, sa, wk, b, rid, rea, bef, off, th, T, e1, e2⟩ := I
  rw [e1, e2]
  exact h L N sz sp og lo sa wk b rid rea bef off th T
theorem i_vc0 : wpX_init (fun u => wpY_init (fun v => i_Rel 0 u v)) :=
  rl_mk (k := 0) (L := 0) (N := 0) (sz := fun _ => 0) (sp := fun _ => 0) (og := fun _ => 0) (lo := fun _ => 0) (sa := fun _ => 0) (wk := fun _ => 0)
    ⟨⟨by omega, by omega⟩, fun j => ⟨Nat.zero_le 6, Nat.zero_lt_succ 7, Nat.zero_le _, Nat.zero_lt_succ 4, Nat.zero_le 500, Nat.zero_le 30⟩, fun l h => absurd h (Nat.not_lt_zero _), fun l i h => absurd h (Nat.not_lt_zero _), fun x h => absurd h (Nat.not_lt_zero _)⟩
end
section
/-! X.catchTrip and X.meetTrip -/
def ct_s (og lo sa : Nat → Nat) (l i : Nat) (t : Int) (n : Nat) (c : Int) : Prop := 0 ≤ c ∧ c ≤ 1000000 ∧ ∀ z, z < 1000000 → (c ≤ z ↔ ∃ x, x < n ∧ lo x = l ∧ t ≤ (sa x : Int) + (og (l * 6 + i) : Int) ∧ (sa x : Int) ≤ z)
def mt_s (og lo sa : Nat → Nat) (l i : Nat) (t : Int) (n : Nat) (c : Int) : Prop := -1000000 ≤ c ∧ c ≤ 1000000 ∧ ∀ z, -1000000 < z → (z ≤ c ↔ ∃ x, x < n ∧ lo x = l ∧ (sa x : Int) + (og (l * 6 + i) : Int) ≤ t ∧ z ≤ (sa x : Int))
section
variable {og lo sa : Nat → Nat} {l i n : Nat} {t c : Int}
theorem ct_0 : ct_s og lo sa l i t 0 1000000 := by
  refine ⟨by omega, by omega, fun z hz => ⟨fun h => by omega, ?_⟩⟩
  rintro ⟨x, hx, _⟩
  omega
theorem ct_skip (h : ct_s og lo sa l i t n c) (hs : ¬ lo n = l ∨ (sa n : Int) + (og (l * 6 + i) : Int) < t ∨ c ≤ (sa n : Int)) : ct_s og lo sa l i t (n + 1) c := by
  obtain ⟨h1, h2, h3⟩ := h
  refine ⟨h1, h2, fun z hz => ?_⟩
  rw [h3 z hz]
  constructor
  · rintro ⟨x, hx, r⟩
    exact ⟨x, by omega, r⟩
  · rintro ⟨x, hx, r1, r2, r3⟩
    by_cases e : x = n
    · subst e
      rcases hs with q | q | q
      · exact absurd r1 q
      · omega
      · exact (h3 z hz).mp (by omega)
    · exact ⟨x, by omega, r1, r2, r3⟩
theorem ct_take (h : ct_s og lo sa l i t n c) (e1 : lo n = l) (e2 : t ≤ (sa n : Int) + (og (l * 6 + i) : Int)) (e3 : (sa n : Int) < c) : ct_s og lo sa l i t (n + 1) (sa n : Int) := by
  obtain ⟨h1, h2, h3⟩ := h
  refine ⟨by omega, by omega, fun z hz => ?_⟩
  constructor
  · intro hz2
    exact ⟨n, by omega, e1, e2, hz2⟩
  · rintro ⟨x, hx, r1, r2, r3⟩
    by_cases e : x = n
    · subst e
      exact r3
    · have := (h3 z hz).mpr ⟨x, by omega, r1, r2, r3⟩
      omega
theorem mt_0 : mt_s og lo sa l i t 0 (-1000000) := by
  refine ⟨by omega, by omega, fun z hz => ⟨fun h => by omega, ?_⟩⟩
  rintro ⟨x, hx, _⟩
  omega
theorem mt_skip (h : mt_s og lo sa l i t n c) (hs : ¬ lo n = l ∨ t < (sa n : Int) + (og (l * 6 + i) : Int) ∨ (sa n : Int) ≤ c) : mt_s og lo sa l i t (n + 1) c := by
  obtain ⟨h1, h2, h3⟩ := h
  refine ⟨h1, h2, fun z hz => ?_⟩
  rw [h3 z hz]
  constructor
  · rintro ⟨x, hx, r⟩
    exact ⟨x, by omega, r⟩
  · rintro ⟨x, hx, r1, r2, r3⟩
    by_cases e : x = n
    · subst e
      rcases hs with q | q | q
      · exact absurd r1 q
      · omega
      · exact (h3 z hz).mp (by omega)
    · exact ⟨x, by omega, r1, r2, r3⟩
theorem mt_take (h : mt_s og lo sa l i t n c) (e0 : sa n ≤ 500) (e1 : lo n = l) (e2 : (sa n : Int) + (og (l * 6 + i) : Int) ≤ t) (e3 : c < (sa n : Int)) : mt_s og lo sa l i t (n + 1) (sa n : Int) := by
  obtain ⟨h1, h2, h3⟩ := h
  refine ⟨by omega, by omega, fun z hz => ?_⟩
  constructor
  · intro hz2
    exact ⟨n, by omega, e1, e2, hz2⟩
  · rintro ⟨x, hx, r1, r2, r3⟩
    by_cases e : x = n
    · subst e
      exact r3
    · have := (h3 z hz).mpr ⟨x, by omega, r1, r2, r3⟩
      omega
end
section
variable {L N : Nat} {sz sp og lo sa wk : Nat → Nat} {b : Int32} {rid rea bef : Nat → Int32}
theorem ct_sum {x l i : Nat} (hx : x < 12) (hl : l < 5) (hi : i < 6) : ar_n sa (nI x).toNatClampNeg + ar_n og (nI l * 6 + nI i).toNatClampNeg = ii_v ((sa x : Int) + (og (l * 6 + i) : Int)) := by
  rw [ar_at sa (by omega), ar_6 og hl hi, ii_n, ii_n, ii_add]
theorem ct_sax {x : Nat} (hx : x < 12) : ar_n sa (nI x).toNatClampNeg = ii_v (sa x : Int) := by
  rw [ar_at sa (by omega), ii_n]
theorem xw_ct7 (T : tt_ok L N sz sp og lo sa wk) {l i : Nat} (hl : l < 5) (hi : i < 6) {t : Int} (ht : -2000000 ≤ t ∧ t ≤ 2000000) (post : Int32 → Prop) (hp : ∀ c : Int, ct_s og lo sa l i t N c → post (ii_v c)) :
    ∀ d x (c : Int), x + d = N → ct_s og lo sa l i t x c → wX_catchTrip_7 post (nI l) (nI i) (ii_v t) (nI L) (nI N) b (ar_n sz) (ar_n sp) (ar_n og) (ar_n lo) (ar_n sa) (ar_n wk) rid rea bef (d + 1) (ii_v c) (nI x) := by
  have hN := tt_N T
  intro d
  induction d with
  | zero =>
    intro x c hx hc
    have e : x = N := by omega
    exact br_t (nI_le (a := N) (b := x) (by omega) (by omega)) (hp c (e ▸ hc))
  | succ d ih =>
    intro x c hx hc
    have hx12 : x < 12 := by omega
    have hs := tt_sa T x
    have ho := tt_og T (l * 6 + i)
    have hlo := tt_lo T x
    obtain ⟨c1, c2, _⟩ := id hc
    refine br_f (nI_ge (by omega) (by omega)) ⟨in_x hx12, pk_eq (lo x) l (fun e => ?_) (fun e => ?_) (ar_at lo (by omega)) rfl⟩
    · refine ⟨in_x hx12, in_6 hl hi, ii_lt (ct_sum hx12 hl hi) rfl (by omega) (by omega) (fun h => ?_) (fun h => ?_)⟩
      · exact nm_r (nI_1 x) (ih (x + 1) c (by omega) (ct_skip hc (Or.inr (Or.inl h))))
      · refine ⟨in_x hx12, ii_le rfl (ct_sax hx12) (by omega) (by omega) (fun h2 => ?_) (fun h2 => ?_)⟩
        · exact nm_r (nI_1 x) (ih (x + 1) c (by omega) (ct_skip hc (Or.inr (Or.inr h2))))
        · exact ⟨in_x hx12, nm_r (ct_sax hx12) (nm_r (nI_1 x) (ih (x + 1) (sa x : Int) (by omega) (ct_take hc e h h2)))⟩
    · exact nm_r (nI_1 x) (ih (x + 1) c (by omega) (ct_skip hc (Or.inl e)))
theorem xw_ct (T : tt_ok L N sz sp og lo sa wk) {l i : Nat} (hl : l < 5) (hi : i < 6) {t : Int} (ht : -2000000 ≤ t ∧ t ≤ 2000000) (post : Int32 → Prop) (hp : ∀ c : Int, ct_s og lo sa l i t N c → post (ii_v c)) :
    wpX_catchTrip post (nI L, nI N, b, ar_n sz, ar_n sp, ar_n og, ar_n lo, ar_n sa, ar_n wk, rid, rea, bef) (nI l) (nI i) (ii_v t) :=
  ⟨N + 1, by
    have h := xw_ct7 (b := b) (rid := rid) (rea := rea) (bef := bef) T hl hi ht post hp N 0 1000000 (by omega) ct_0
    rw [← ii_M] at h
    exact h⟩
theorem xw_mt7 (T : tt_ok L N sz sp og lo sa wk) {l i : Nat} (hl : l < 5) (hi : i < 6) {t : Int} (ht : -2000000 ≤ t ∧ t ≤ 2000000) (post : Int32 → Prop) (hp : ∀ c : Int, mt_s og lo sa l i t N c → post (ii_v c)) :
    ∀ d x (c : Int), x + d = N → mt_s og lo sa l i t x c → wX_meetTrip_7 post (nI l) (nI i) (ii_v t) (nI L) (nI N) b (ar_n sz) (ar_n sp) (ar_n og) (ar_n lo) (ar_n sa) (ar_n wk) rid rea bef (d + 1) (ii_v c) (nI x) := by
  have hN := tt_N T
  intro d
  induction d with
  | zero =>
    intro x c hx hc
    have e : x = N := by omega
    exact br_t (nI_le (a := N) (b := x) (by omega) (by omega)) (hp c (e ▸ hc))
  | succ d ih =>
    intro x c hx hc
    have hx12 : x < 12 := by omega
    have hs := tt_sa T x
    have ho := tt_og T (l * 6 + i)
    have hlo := tt_lo T x
    obtain ⟨c1, c2, _⟩ := id hc
    refine br_f (nI_ge (by omega) (by omega)) ⟨in_x hx12, pk_eq (lo x) l (fun e => ?_) (fun e => ?_) (ar_at lo (by omega)) rfl⟩
    · refine ⟨in_x hx12, in_6 hl hi, ii_lt rfl (ct_sum hx12 hl hi) (by omega) (by omega) (fun h => ?_) (fun h => ?_)⟩
      · exact nm_r (nI_1 x) (ih (x + 1) c (by omega) (mt_skip hc (Or.inr (Or.inl h))))
      · refine ⟨in_x hx12, ii_le (ct_sax hx12) rfl (by omega) (by omega) (fun h2 => ?_) (fun h2 => ?_)⟩
        · exact nm_r (nI_1 x) (ih (x + 1) c (by omega) (mt_skip hc (Or.inr (Or.inr h2))))
        · exact ⟨in_x hx12, nm_r (ct_sax hx12) (nm_r (nI_1 x) (ih (x + 1) (sa x : Int) (by omega) (mt_take hc hs e h h2)))⟩
    · exact nm_r (nI_1 x) (ih (x + 1) c (by omega) (mt_skip hc (Or.inl e)))
theorem xw_mt (T : tt_ok L N sz sp og lo sa wk) {l i : Nat} (hl : l < 5) (hi : i < 6) {t : Int} (ht : -2000000 ≤ t ∧ t ≤ 2000000) (post : Int32 → Prop) (hp : ∀ c : Int, mt_s og lo sa l i t N c → post (ii_v c)) :
    wpX_meetTrip post (nI L, nI N, b, ar_n sz, ar_n sp, ar_n og, ar_n lo, ar_n sa, ar_n wk, rid, rea, bef) (nI l) (nI i) (ii_v t) :=
  ⟨N + 1, by
    have h := xw_mt7 (b := b) (rid := rid) (rea := rea) (bef := bef) T hl hi ht post hp N 0 (-1000000) (by omega) mt_0
    rw [← ii_mM] at h
    exact h⟩
end
end
section
/-! X.rideLine: pure rows -/
/-- trip x of line l can be boarded at place i, from a marked stop -/
def rf_b (N : Nat) (sp og lo sa : Nat → Nat) (mk : Nat → Prop) (bf : Nat → Int) (l i x : Nat) : Prop := mk (sp (l * 6 + i)) ∧ x < N ∧ lo x = l ∧ bf (sp (l * 6 + i)) ≤ (sa x : Int) + (og (l * 6 + i) : Int)
def rf_c (N : Nat) (sp og lo sa : Nat → Nat) (mk : Nat → Prop) (bf : Nat → Int) (l n : Nat) (c : Int) : Prop := 0 ≤ c ∧ c ≤ 1000000 ∧ ∀ z, z < 1000000 → (c ≤ z ↔ ∃ i x, i < n ∧ rf_b N sp og lo sa mk bf l i x ∧ (sa x : Int) ≤ z)
def rf_f (N : Nat) (sp og lo sa : Nat → Nat) (mk : Nat → Prop) (bf : Nat → Int) (l : Nat) (f0 : Nat → Int) (n : Nat) (f : Nat → Int) : Prop := ∀ s, s < 8 → (0 ≤ f s ∧ f s ≤ 1000000) ∧ ∀ z, z < 1000000 → (f s ≤ z ↔ f0 s ≤ z ∨ ∃ j i x, i < j ∧ j < n ∧ rf_b N sp og lo sa mk bf l i x ∧ sp (l * 6 + j) = s ∧ (sa x : Int) + (og (l * 6 + j) : Int) ≤ z)
section
variable {N : Nat} {sp og lo sa : Nat → Nat} {mk : Nat → Prop} {bf f0 f : Nat → Int} {l n : Nat} {c : Int}
theorem rf_c0 : rf_c N sp og lo sa mk bf l 0 1000000 := by
  refine ⟨by omega, by omega, fun z hz => ⟨fun h => by omega, ?_⟩⟩
  rintro ⟨i, x, hi, _⟩
  omega
theorem rf_ck (h : rf_c N sp og lo sa mk bf l n c) (hs : ∀ x, rf_b N sp og lo sa mk bf l n x → c ≤ (sa x : Int)) : rf_c N sp og lo sa mk bf l (n + 1) c := by
  obtain ⟨h1, h2, h3⟩ := h
  refine ⟨h1, h2, fun z hz => ?_⟩
  rw [h3 z hz]
  constructor
  · rintro ⟨i, x, hi, r⟩
    exact ⟨i, x, by omega, r⟩
  · rintro ⟨i, x, hi, r1, r2⟩
    by_cases e : i = n
    · subst e
      have := hs x r1
      exact (h3 z hz).mp (by omega)
    · exact ⟨i, x, by omega, r1, r2⟩
theorem rf_ct {o : Int} (h : rf_c N sp og lo sa mk bf l n c) (hm : mk (sp (l * 6 + n))) (ho : ct_s og lo sa l n (bf (sp (l * 6 + n))) N o) (hoc : o < c) : rf_c N sp og lo sa mk bf l (n + 1) o := by
  obtain ⟨h1, h2, h3⟩ := h
  obtain ⟨o1, o2, o3⟩ := ho
  refine ⟨o1, o2, fun z hz => ?_⟩
  constructor
  · intro hz2
    obtain ⟨x, q1, q2, q3, q4⟩ := (o3 z hz).mp hz2
    exact ⟨n, x, by omega, ⟨hm, q1, q2, q3⟩, q4⟩
  · rintro ⟨i, x, hi, r1, r2⟩
    by_cases e : i = n
    · subst e
      obtain ⟨p1, p2, p3, p4⟩ := r1
      exact (o3 z hz).mpr ⟨x, p2, p3, p4, r2⟩
    · have := (h3 z hz).mpr ⟨i, x, by omega, r1, r2⟩
      omega
theorem rf_cu {o : Int} (h : rf_c N sp og lo sa mk bf l n c) (ho : ct_s og lo sa l n (bf (sp (l * 6 + n))) N o) (hoc : c ≤ o) : rf_c N sp og lo sa mk bf l (n + 1) c := by
  refine rf_ck h (fun x hx => ?_)
  obtain ⟨p1, p2, p3, p4⟩ := hx
  obtain ⟨o1, o2, o3⟩ := ho
  by_cases hz : (sa x : Int) < 1000000
  · have := (o3 (sa x : Int) hz).mpr ⟨x, p2, p3, p4, Int.le_refl _⟩
    omega
  · have := h.2.1
    omega
theorem rf_f0 (h : ∀ s, s < 8 → 0 ≤ f0 s ∧ f0 s ≤ 1000000) : rf_f N sp og lo sa mk bf l f0 0 f0 := by
  intro s hs
  refine ⟨h s hs, fun z hz => ⟨Or.inl, ?_⟩⟩
  rintro (h | ⟨j, i, x, h1, h2, _⟩)
  · exact h
  · omega
theorem rf_fk (hc : rf_c N sp og lo sa mk bf l n c) (h : rf_f N sp og lo sa mk bf l f0 n f) (hk : c < 1000000 → f (sp (l * 6 + n)) ≤ c + (og (l * 6 + n) : Int)) : rf_f N sp og lo sa mk bf l f0 (n + 1) f := by
  intro s hs
  obtain ⟨h1, h2⟩ := h s hs
  refine ⟨h1, fun z hz => ?_⟩
  rw [h2 z hz]
  constructor
  · rintro (q | ⟨j, i, x, q1, q2, q3⟩)
    · exact Or.inl q
    · exact Or.inr ⟨j, i, x, q1, by omega, q3⟩
  · rintro (q | ⟨j, i, x, q1, q2, q3, q4, q5⟩)
    · exact Or.inl q
    · by_cases e : j = n
      · subst e
        have a := (hc.2.2 (z - (og (l * 6 + j) : Int)) (by omega)).mpr ⟨i, x, q1, q3, by omega⟩
        have b := hk (by omega)
        rw [q4] at b
        exact (h2 z hz).mp (by omega)
      · exact Or.inr ⟨j, i, x, q1, by omega, q3, q4, q5⟩
theorem rf_fu (hog : og (l * 6 + n) ≤ 150) (hc : rf_c N sp og lo sa mk bf l n c) (h : rf_f N sp og lo sa mk bf l f0 n f) (hs8 : sp (l * 6 + n) < 8) (hc1 : c < 1000000) (hk : c + (og (l * 6 + n) : Int) < f (sp (l * 6 + n))) : rf_f N sp og lo sa mk bf l f0 (n + 1) (fun q => if q = sp (l * 6 + n) then c + (og (l * 6 + n) : Int) else f q) := by
  intro s hs
  obtain ⟨h1, h2⟩ := h s hs
  have c1 := hc.1
  by_cases e : s = sp (l * 6 + n)
  · subst e
    show (0 ≤ (if sp (l * 6 + n) = sp (l * 6 + n) then c + (og (l * 6 + n) : Int) else f (sp (l * 6 + n))) ∧ _) ∧ _
    simp only [if_true]
    refine ⟨by omega, fun z hz => ?_⟩
    constructor
    · intro q
      obtain ⟨i, x, r1, r2, r3⟩ := (hc.2.2 (z - (og (l * 6 + n) : Int)) (by omega)).mp (by omega)
      exact Or.inr ⟨n, i, x, r1, by omega, r2, rfl, by omega⟩
    · rintro (q | ⟨j, i, x, q1, q2, q3, q4, q5⟩)
      · have := (h2 z hz).mpr (Or.inl q)
        omega
      · by_cases e : j = n
        · subst e
          have a := (hc.2.2 (z - (og (l * 6 + j) : Int)) (by omega)).mpr ⟨i, x, q1, q3, by omega⟩
          omega
        · have := (h2 z hz).mpr (Or.inr ⟨j, i, x, q1, by omega, q3, q4, q5⟩)
          omega
  · simp only [if_neg e]
    refine ⟨h1, fun z hz => ?_⟩
    rw [h2 z hz]
    constructor
    · rintro (q | ⟨j, i, x, q1, q2, q3⟩)
      · exact Or.inl q
      · exact Or.inr ⟨j, i, x, q1, by omega, q3⟩
    · rintro (q | ⟨j, i, x, q1, q2, q3, q4, q5⟩)
      · exact Or.inl q
      · by_cases e2 : j = n
        · subst e2
          exact absurd q4.symm e
        · exact Or.inr ⟨j, i, x, q1, by omega, q3, q4, q5⟩
end
/-! X.rideLine: the walk -/
section
variable {L N : Nat} {sz sp og lo sa wk : Nat → Nat} {b : Int32} {rid rea bef : Nat → Int32} {bf f0 : Nat → Int}
theorem xw_upd {a : Nat → Int32} {f : Nat → Int} (h : ∀ s, s < 8 → a s = ii_v (f s)) {q : Nat} {v : Int} (hq : q < 8) : ∀ s, s < 8 → upd a (nI q).toNatClampNeg (ii_v v) s = ii_v (if s = q then v else f s) := by
  intro s hs
  rw [nI_clamp (by omega)]
  by_cases e : s = q
  · rw [if_pos e, e, pk_us]
  · rw [if_neg e, pk_un e, h s hs]
theorem xw_rd {a : Nat → Int32} {f : Nat → Int} (h : ∀ s, s < 8 → a s = ii_v (f s)) {q : Nat} (hq : q < 8) : a (nI q).toNatClampNeg = ii_v (f q) := by
  rw [nI_clamp (by omega)]
  exact h q hq
theorem xw_rl113 (T : tt_ok L N sz sp og lo sa wk) {l i : Nat} (hl : l < 5) (hi : i < 6) (hB : ∀ s, s < 8 → bef s = ii_v (bf s)) (hb : ∀ s, s < 8 → 0 ≤ bf s ∧ bf s ≤ 1000000) {c : Int} (hc : rf_c N sp og lo sa (fun s => bt b s = true) bf l i c) (hm : bt b (sp (l * 6 + i)) = true)
    (post : SX → Prop) (J5 : Int32 → Int32 → (Nat → Int32) → (Nat → Int32) → (Nat → Int32) → (Nat → Int32) → (Nat → Int32) → (Nat → Int32) → (Nat → Int32) → (Nat → Int32) → (Nat → Int32) → Prop) (hJ : ∀ c', rf_c N sp og lo sa (fun s => bt b s = true) bf l (i + 1) c' → J5 (ii_v c') (nI (i + 1)) (ar_n sz) (ar_n sp) (ar_n og) (ar_n lo) (ar_n sa) (ar_n wk) rid rea bef) :
    wX_rideLine_113 post J5 (nI l) (ii_v c) (nI i) (nI (sp (l * 6 + i))) (nI L) (nI N) b (ar_n sz) (ar_n sp) (ar_n og) (ar_n lo) (ar_n sa) (ar_n wk) rid rea bef := by
  have hs := tt_sp T (l * 6 + i)
  have hbs := hb _ hs
  unfold wX_rideLine_113
  refine ⟨in_s hs, ?_⟩
  rw [xw_rd hB hs]
  refine xw_ct T hl hi (by omega) _ (fun o ho => ?_)
  obtain ⟨o1, o2, _⟩ := id ho
  obtain ⟨c1, c2, _⟩ := id hc
  exact ii_le rfl rfl (by omega) (by omega) (fun h => nm_r (nI_1 i) (hJ c (rf_cu hc ho h))) (fun h => nm_r (nI_1 i) (hJ o (rf_ct hc hm ho h)))
theorem xw_rl70 (T : tt_ok L N sz sp og lo sa wk) {l i : Nat} (hl : l < 5) (hi : i < 6) (hB : ∀ s, s < 8 → bef s = ii_v (bf s)) (hb : ∀ s, s < 8 → 0 ≤ bf s ∧ bf s ≤ 1000000) {c : Int} (hc : rf_c N sp og lo sa (fun s => bt b s = true) bf l i c)
    (post : SX → Prop) (J5 : Int32 → Int32 → (Nat → Int32) → (Nat → Int32) → (Nat → Int32) → (Nat → Int32) → (Nat → Int32) → (Nat → Int32) → (Nat → Int32) → (Nat → Int32) → (Nat → Int32) → Prop) (hJ : ∀ c', rf_c N sp og lo sa (fun s => bt b s = true) bf l (i + 1) c' → J5 (ii_v c') (nI (i + 1)) (ar_n sz) (ar_n sp) (ar_n og) (ar_n lo) (ar_n sa) (ar_n wk) rid rea bef) :
    wX_rideLine_70 post J5 (nI l) (ii_v c) (nI i) (nI (sp (l * 6 + i))) (ii_v (c + (og (l * 6 + i) : Int))) (nI L) (nI N) b (ar_n sz) (ar_n sp) (ar_n og) (ar_n lo) (ar_n sa) (ar_n wk) rid rea bef := by
  have hs := tt_sp T (l * 6 + i)
  have ho := tt_og T (l * 6 + i)
  have hbs := hb _ hs
  obtain ⟨c1, c2, _⟩ := id hc
  by_cases hm : bt b (sp (l * 6 + i)) = true
  · refine br_t ((bb_get b hs).mpr hm) ?_
    unfold wX_rideLine_88
    refine br_f (by decide) ?_
    have h113 := xw_rl113 (rid := rid) (rea := rea) T hl hi hB hb hc hm post J5 hJ
    refine ii_eq rfl ii_M (by omega) (by omega) (fun _ => h113) (fun h => ⟨in_s hs, ?_⟩)
    refine ii_le rfl (xw_rd hB hs) (by omega) (by omega) (fun h2 => nm_r (nI_1 i) (hJ c (rf_ck hc (fun x hx => ?_)))) (fun _ => h113)
    have := hx.2.2.2
    omega
  · refine br_f (fun z => hm ((bb_get b hs).mp z)) ?_
    unfold wX_rideLine_88
    exact br_t rfl (nm_r (nI_1 i) (hJ c (rf_ck hc (fun x hx => absurd hx.1 hm))))
theorem xw_rl5 (T : tt_ok L N sz sp og lo sa wk) {l : Nat} (hl : l < 5) (hB : ∀ s, s < 8 → bef s = ii_v (bf s)) (hb : ∀ s, s < 8 → 0 ≤ bf s ∧ bf s ≤ 1000000)
    (post : SX → Prop) (hp : ∀ rid' f', rf_f N sp og lo sa (fun s => bt b s = true) bf l f0 (sz l) f' → (∀ s, s < 8 → rid' s = ii_v (f' s)) → post (nI L, nI N, b, ar_n sz, ar_n sp, ar_n og, ar_n lo, ar_n sa, ar_n wk, rid', rea, bef)) :
    ∀ d i (c : Int) (f : Nat → Int) (rid : Nat → Int32), i + d = sz l → rf_c N sp og lo sa (fun s => bt b s = true) bf l i c → rf_f N sp og lo sa (fun s => bt b s = true) bf l f0 i f → (∀ s, s < 8 → rid s = ii_v (f s)) →
      wX_rideLine_5 post (nI l) (nI L) (nI N) b (d + 1) (ii_v c) (nI i) (ar_n sz) (ar_n sp) (ar_n og) (ar_n lo) (ar_n sa) (ar_n wk) rid rea bef := by
  have hsz := tt_sz T l
  intro d
  induction d with
  | zero =>
    intro i c f rid hi hc hf hr
    have e : i = sz l := by omega
    exact And.intro (in_l hl) (br_t (by rw [ar_at sz (by omega), e]; exact Int32.le_refl _) (hp rid f (e ▸ hf) hr))
  | succ d ih =>
    intro i c f rid hi hc hf hr
    have hi6 : i < 6 := by omega
    have hs := tt_sp T (l * 6 + i)
    have ho := tt_og T (l * 6 + i)
    obtain ⟨c1, c2, _⟩ := id hc
    have hf1 := (hf _ hs).1
    refine And.intro (in_l hl) (br_f (by rw [ar_at sz (by omega)]; exact nI_ge (by omega) (by omega)) ?_)
    refine ⟨in_6 hl hi6, nm_r (ar_6 sp hl hi6) ⟨in_6 hl hi6, nm_r (e' := ii_v (c + (og (l * 6 + i) : Int))) (by rw [ar_6 og hl hi6, ii_n, ii_add]) ?_⟩⟩
    refine ii_le ii_M rfl (by omega) (by omega) (fun h => ?_) (fun h => ⟨in_s hs, ?_⟩)
    · exact xw_rl70 T hl hi6 hB hb hc post _ (fun c' hc' => ih (i + 1) c' f rid (by omega) hc' (rf_fk hc hf (fun z => by omega)) hr)
    · refine ii_le (xw_rd hr hs) rfl (by omega) (by omega) (fun h2 => ?_) (fun h2 => ⟨in_s hs, nm_e ?_⟩)
      · exact xw_rl70 T hl hi6 hB hb hc post _ (fun c' hc' => ih (i + 1) c' f rid (by omega) hc' (rf_fk hc hf (fun _ => h2)) hr)
      · exact xw_rl70 T hl hi6 hB hb hc post _ (fun c' hc' => ih (i + 1) c' _ _ (by omega) hc' (rf_fu ho hc hf hs h h2) (xw_upd hr hs))
theorem xw_rl (T : tt_ok L N sz sp og lo sa wk) {l : Nat} (hl : l < 5) (hB : ∀ s, s < 8 → bef s = ii_v (bf s)) (hb : ∀ s, s < 8 → 0 ≤ bf s ∧ bf s ≤ 1000000) (hf : ∀ s, s < 8 → 0 ≤ f0 s ∧ f0 s ≤ 1000000) (hr : ∀ s, s < 8 → rid s = ii_v (f0 s))
    (post : SX → Prop) (hp : ∀ rid' f', rf_f N sp og lo sa (fun s => bt b s = true) bf l f0 (sz l) f' → (∀ s, s < 8 → rid' s = ii_v (f' s)) → post (nI L, nI N, b, ar_n sz, ar_n sp, ar_n og, ar_n lo, ar_n sa, ar_n wk, rid', rea, bef)) :
    wpX_rideLine post (nI L, nI N, b, ar_n sz, ar_n sp, ar_n og, ar_n lo, ar_n sa, ar_n wk, rid, rea, bef) (nI l) :=
  ⟨sz l + 1, by
    have h := xw_rl5 (rea := rea) T hl hB hb post hp (sz l) 0 1000000 f0 rid (by omega) rf_c0 (rf_f0 hf) hr
    rw [← ii_M] at h
    exact h⟩
end
end
section
/-! footpaths: pure rows (X.walkOn and Y.walk) -/
def wo_i (wk : Nat → Nat) (f : Nat → Int) (s n : Nat) (c : Int) : Prop := ∀ z, c ≤ z ↔ f s ≤ z ∨ ∃ u, u < n ∧ 0 < wk (u * 8 + s) ∧ f u + (wk (u * 8 + s) : Int) ≤ z
/-- and backwards (X.walkBack) -/
def wz_i (wk : Nat → Nat) (f : Nat → Int) (s n : Nat) (c : Int) : Prop := ∀ z, z ≤ c ↔ z ≤ f s ∨ ∃ u, u < n ∧ 0 < wk (s * 8 + u) ∧ z ≤ f u - (wk (s * 8 + u) : Int)
section
variable {wk : Nat → Nat} {f : Nat → Int} {s n : Nat} {c : Int}
theorem wo_0 : wo_i wk f s 0 (f s) := by
  intro z
  refine ⟨Or.inl, ?_⟩
  rintro (h | ⟨u, hu, _⟩)
  · exact h
  · omega
theorem wo_skip (h : wo_i wk f s n c) (hs : ¬ 0 < wk (n * 8 + s) ∨ c ≤ f n + (wk (n * 8 + s) : Int)) : wo_i wk f s (n + 1) c := by
  intro z
  rw [h z]
  constructor
  · rintro (q | ⟨u, q1, q2⟩)
    · exact Or.inl q
    · exact Or.inr ⟨u, by omega, q2⟩
  · rintro (q | ⟨u, q1, q2, q3⟩)
    · exact Or.inl q
    · by_cases e : u = n
      · subst e
        rcases hs with r | r
        · exact absurd q2 r
        · exact (h z).mp (by omega)
      · exact Or.inr ⟨u, by omega, q2, q3⟩
theorem wo_take (h : wo_i wk f s n c) (h1 : 0 < wk (n * 8 + s)) (h2 : f n + (wk (n * 8 + s) : Int) < c) : wo_i wk f s (n + 1) (f n + (wk (n * 8 + s) : Int)) := by
  intro z
  constructor
  · intro hz
    exact Or.inr ⟨n, by omega, h1, hz⟩
  · rintro (q | ⟨u, q1, q2, q3⟩)
    · have := (h z).mpr (Or.inl q)
      omega
    · by_cases e : u = n
      · subst e
        exact q3
      · have := (h z).mpr (Or.inr ⟨u, by omega, q2, q3⟩)
        omega
theorem wo_b {F : Int} (h : wo_i wk f s n c) (hf : ∀ q, q < 8 → 0 ≤ f q ∧ f q ≤ F) (hs : s < 8) (hn : n ≤ 8) : 0 ≤ c ∧ c ≤ F := by
  have a := (h (f s)).mpr (Or.inl (Int.le_refl _))
  have b := hf s hs
  rcases (h c).mp (Int.le_refl _) with q | ⟨u, q1, q2, q3⟩
  · omega
  · have := hf u (by omega)
    omega
theorem wo_e (h : wo_i wk f s 8 c) (hs : s < 8) (z : Int) : c ≤ z ↔ ∃ u, u < 8 ∧ tt_W wk u (f u) s z := by
  rw [h z]
  constructor
  · rintro (q | ⟨u, q1, q2, q3⟩)
    · exact ⟨s, hs, Or.inl ⟨rfl, q⟩⟩
    · exact ⟨u, q1, Or.inr ⟨q2, q3⟩⟩
  · rintro ⟨u, hu, (⟨e, q⟩ | ⟨q1, q2⟩)⟩
    · subst e
      exact Or.inl q
    · exact Or.inr ⟨u, hu, q1, q2⟩
theorem wz_0 : wz_i wk f s 0 (f s) := by
  intro z
  refine ⟨Or.inl, ?_⟩
  rintro (h | ⟨u, hu, _⟩)
  · exact h
  · omega
theorem wz_skip (h : wz_i wk f s n c) (hs : ¬ 0 < wk (s * 8 + n) ∨ f n - (wk (s * 8 + n) : Int) ≤ c) : wz_i wk f s (n + 1) c := by
  intro z
  rw [h z]
  constructor
  · rintro (q | ⟨u, q1, q2⟩)
    · exact Or.inl q
    · exact Or.inr ⟨u, by omega, q2⟩
  · rintro (q | ⟨u, q1, q2, q3⟩)
    · exact Or.inl q
    · by_cases e : u = n
      · subst e
        rcases hs with r | r
        · exact absurd q2 r
        · exact (h z).mp (by omega)
      · exact Or.inr ⟨u, by omega, q2, q3⟩
theorem wz_take (h : wz_i wk f s n c) (h1 : 0 < wk (s * 8 + n)) (h2 : c < f n - (wk (s * 8 + n) : Int)) : wz_i wk f s (n + 1) (f n - (wk (s * 8 + n) : Int)) := by
  intro z
  constructor
  · intro hz
    exact Or.inr ⟨n, by omega, h1, hz⟩
  · rintro (q | ⟨u, q1, q2, q3⟩)
    · have := (h z).mpr (Or.inl q)
      omega
    · by_cases e : u = n
      · subst e
        exact q3
      · have := (h z).mpr (Or.inr ⟨u, by omega, q2, q3⟩)
        omega
theorem wz_b (h : wz_i wk f s n c) (hf : ∀ q, q < 8 → -1000000 ≤ f q ∧ f q ≤ 1000000) (hs : s < 8) (hn : n ≤ 8) : -1000000 ≤ c ∧ c ≤ 1000000 := by
  have a := (h (f s)).mpr (Or.inl (Int.le_refl _))
  have b := hf s hs
  rcases (h c).mp (Int.le_refl _) with q | ⟨u, q1, q2, q3⟩
  · omega
  · have := hf u (by omega)
    omega
theorem wz_e (h : wz_i wk f s 8 c) (hs : s < 8) (z : Int) : z ≤ c ↔ ∃ u, u < 8 ∧ tt_W wk s z u (f u) := by
  rw [h z]
  constructor
  · rintro (q | ⟨u, q1, q2, q3⟩)
    · exact ⟨s, hs, Or.inl ⟨rfl, q⟩⟩
    · exact ⟨u, q1, Or.inr ⟨q2, by omega⟩⟩
  · rintro ⟨u, hu, (⟨e, q⟩ | ⟨q1, q2⟩)⟩
    · subst e
      exact Or.inl q
    · exact Or.inr ⟨u, hu, q1, by omega⟩
end
/-- X.walkOn's outer loop at stop n: g what was reached before, g' now -/
def wo_o (wk : Nat → Nat) (f g : Nat → Int) (n : Nat) (g' : Nat → Int) (b : Int32) : Prop := ∀ q, q < 8 → (q < n → (∀ z, g' q ≤ z ↔ g q ≤ z ∨ ∃ u, u < 8 ∧ tt_W wk u (f u) q z) ∧ (bt b q = false → g' q = g q)) ∧ (n ≤ q → g' q = g q)
def wz_o (wk : Nat → Nat) (f g : Nat → Int) (n : Nat) (g' : Nat → Int) (b : Int32) : Prop := ∀ q, q < 8 → (q < n → (∀ z, z ≤ g' q ↔ z ≤ g q ∨ ∃ u, u < 8 ∧ tt_W wk q z u (f u)) ∧ (bt b q = false → g' q = g q)) ∧ (n ≤ q → g' q = g q)
section
variable {wk : Nat → Nat} {f g g' : Nat → Int} {n : Nat} {c : Int} {b : Int32}
theorem wo_o0 : wo_o wk f g 0 g b := fun q _ => ⟨fun h => absurd h (Nat.not_lt_zero _), fun _ => rfl⟩
theorem wz_o0 : wz_o wk f g 0 g b := fun q _ => ⟨fun h => absurd h (Nat.not_lt_zero _), fun _ => rfl⟩
theorem wo_ok (hn : n < 8) (h : wo_o wk f g n g' b) (hc : wo_i wk f n 8 c) (hk : g' n ≤ c) : wo_o wk f g (n + 1) g' b := by
  intro q hq
  refine ⟨fun hqn => ?_, fun hqn => (h q hq).2 (by omega)⟩
  by_cases e : q = n
  · subst e
    have eg := (h q hq).2 (Nat.le_refl _)
    refine ⟨fun z => ?_, fun _ => eg⟩
    rw [← wo_e hc hq z, eg]
    rw [eg] at hk
    exact ⟨Or.inl, fun r => r.elim id (fun r => by omega)⟩
  · exact (h q hq).1 (by omega)
theorem wo_ou (hn : n < 8) (h : wo_o wk f g n g' b) (hc : wo_i wk f n 8 c) (hk : c < g' n) : wo_o wk f g (n + 1) (fun q => if q = n then c else g' q) (b ||| ((1 : Int32) <<< (nI n &&& 31))) := by
  intro q hq
  by_cases e : q = n
  · subst e
    refine ⟨fun hqn => ⟨fun z => ?_, fun hb => ?_⟩, fun hqn => by omega⟩
    · show (if q = q then c else g' q) ≤ z ↔ _
      rw [if_pos rfl, ← wo_e hc hq z]
      have eg := (h q hq).2 (Nat.le_refl _)
      exact ⟨Or.inr, fun r => r.elim (fun r => by omega) id⟩
    · rw [bb_set b hn hq] at hb
      simp at hb
  · show (q < n + 1 → (∀ z, (if q = n then c else g' q) ≤ z ↔ _) ∧ (_ → (if q = n then c else g' q) = g q)) ∧ (n + 1 ≤ q → (if q = n then c else g' q) = g q)
    rw [if_neg e]
    refine ⟨fun hqn => ?_, fun hqn => (h q hq).2 (by omega)⟩
    obtain ⟨h1, h2⟩ := (h q hq).1 (by omega)
    refine ⟨h1, fun hb => h2 ?_⟩
    rw [bb_set b hn hq] at hb
    simp only [Bool.or_eq_false_iff] at hb
    exact hb.1
theorem wz_ok (hn : n < 8) (h : wz_o wk f g n g' b) (hc : wz_i wk f n 8 c) (hk : c ≤ g' n) : wz_o wk f g (n + 1) g' b := by
  intro q hq
  refine ⟨fun hqn => ?_, fun hqn => (h q hq).2 (by omega)⟩
  by_cases e : q = n
  · subst e
    have eg := (h q hq).2 (Nat.le_refl _)
    refine ⟨fun z => ?_, fun _ => eg⟩
    rw [← wz_e hc hq z, eg]
    rw [eg] at hk
    exact ⟨Or.inl, fun r => r.elim id (fun r => by omega)⟩
  · exact (h q hq).1 (by omega)
theorem wz_ou (hn : n < 8) (h : wz_o wk f g n g' b) (hc : wz_i wk f n 8 c) (hk : g' n < c) : wz_o wk f g (n + 1) (fun q => if q = n then c else g' q) (b ||| ((1 : Int32) <<< (nI n &&& 31))) := by
  intro q hq
  by_cases e : q = n
  · subst e
    refine ⟨fun hqn => ⟨fun z => ?_, fun hb => ?_⟩, fun hqn => by omega⟩
    · show z ≤ (if q = q then c else g' q) ↔ _
      rw [if_pos rfl, ← wz_e hc hq z]
      have eg := (h q hq).2 (Nat.le_refl _)
      exact ⟨Or.inr, fun r => r.elim (fun r => by omega) id⟩
    · rw [bb_set b hn hq] at hb
      simp at hb
  · show (q < n + 1 → (∀ z, z ≤ (if q = n then c else g' q) ↔ _) ∧ (_ → (if q = n then c else g' q) = g q)) ∧ (n + 1 ≤ q → (if q = n then c else g' q) = g q)
    rw [if_neg e]
    refine ⟨fun hqn => ?_, fun hqn => (h q hq).2 (by omega)⟩
    obtain ⟨h1, h2⟩ := (h q hq).1 (by omega)
    refine ⟨h1, fun hb => h2 ?_⟩
    rw [bb_set b hn hq] at hb
    simp only [Bool.or_eq_false_iff] at hb
    exact hb.1
end
/-! X.walkOn: the walk -/
section
variable {L N : Nat} {sz sp og lo sa wk : Nat → Nat} {b : Int32} {rid rea bef : Nat → Int32} {f g : Nat → Int}
theorem xw_wo22 (T : tt_ok L N sz sp og lo sa wk) {s : Nat} (hs : s < 8) (hr : ∀ s, s < 8 → rid s = ii_v (f s)) (hf : ∀ s, s < 8 → 0 ≤ f s ∧ f s ≤ 1000000) {gs : Int} (hg : rea s = ii_v gs) (hgb : 0 ≤ gs ∧ gs ≤ 1000000)
    (post : SX → Prop) (J7 : Int32 → Int32 → (Nat → Int32) → (Nat → Int32) → (Nat → Int32) → (Nat → Int32) → (Nat → Int32) → (Nat → Int32) → (Nat → Int32) → (Nat → Int32) → (Nat → Int32) → Prop)
    (h1 : ∀ c, wo_i wk f s 8 c → gs ≤ c → J7 (nI (s + 1)) b (ar_n sz) (ar_n sp) (ar_n og) (ar_n lo) (ar_n sa) (ar_n wk) rid rea bef) (h2 : ∀ c, wo_i wk f s 8 c → c < gs → J7 (nI (s + 1)) (b ||| ((1 : Int32) <<< (nI s &&& 31))) (ar_n sz) (ar_n sp) (ar_n og) (ar_n lo) (ar_n sa) (ar_n wk) rid (upd rea (nI s).toNatClampNeg (ii_v c)) bef) :
    ∀ d u (c : Int), u + d = 8 → wo_i wk f s u c → wX_walkOn_22 post J7 (nI s) (nI L) (nI N) b (ar_n sz) (ar_n sp) (ar_n og) (ar_n lo) (ar_n sa) (ar_n wk) rid rea bef (d + 1) (ii_v c) (nI u) := by
  intro d
  induction d with
  | zero =>
    intro u c hu hc
    have e : u = 8 := by omega
    have hc8 : wo_i wk f s 8 c := e ▸ hc
    have hcb := wo_b hc hf hs (by omega)
    refine br_t (nI_le (a := 8) (b := u) (by omega) (by omega)) ⟨in_s hs, ?_⟩
    refine ii_le (by rw [nI_clamp (by omega)]; exact hg) rfl (by omega) (by omega) (fun h => ?_) (fun h => ⟨in_s hs, nm_e (nm_e ?_)⟩)
    · exact nm_r (nI_1 s) (h1 c hc8 h)
    · exact nm_r (nI_1 s) (h2 c hc8 h)
  | succ d ih =>
    intro u c hu hc
    have hu8 : u < 8 := by omega
    have hcb := wo_b hc hf hs (by omega)
    have hfu := hf u hu8
    have hw := tt_wk T (u * 8 + s)
    refine br_f (nI_ge (b := 8) hu8 (by decide)) ⟨in_8 hu8 hs, nm_r (ar_8 wk hu8 hs) ?_⟩
    have es : rid (nI u).toNatClampNeg + nI (wk (u * 8 + s)) = ii_v (f u + (wk (u * 8 + s) : Int)) := by rw [xw_rd hr hu8, ii_n, ii_add]
    refine pk_le (wk (u * 8 + s)) 0 (fun h => ?_) (fun h => ⟨in_s hu8, ?_⟩)
    · exact nm_r (nI_1 u) (ih (u + 1) c (by omega) (wo_skip hc (Or.inl (by omega))))
    · refine ii_le rfl es (by omega) (by omega) (fun h3 => ?_) (fun h3 => ⟨in_s hu8, nm_r es ?_⟩)
      · exact nm_r (nI_1 u) (ih (u + 1) c (by omega) (wo_skip hc (Or.inr h3)))
      · exact nm_r (nI_1 u) (ih (u + 1) _ (by omega) (wo_take hc h h3))
theorem xw_wo7 (T : tt_ok L N sz sp og lo sa wk) (hr : ∀ s, s < 8 → rid s = ii_v (f s)) (hf : ∀ s, s < 8 → 0 ≤ f s ∧ f s ≤ 1000000)
    (post : SX → Prop) (hp : ∀ b' rea' g', wo_o wk f g 8 g' b' → (∀ s, s < 8 → 0 ≤ g' s ∧ g' s ≤ 1000000) → (∀ s, s < 8 → rea' s = ii_v (g' s)) → post (nI L, nI N, b', ar_n sz, ar_n sp, ar_n og, ar_n lo, ar_n sa, ar_n wk, rid, rea', bef)) :
    ∀ d s (b : Int32) (g' : Nat → Int) (rea : Nat → Int32), s + d = 8 → wo_o wk f g s g' b → (∀ s, s < 8 → 0 ≤ g' s ∧ g' s ≤ 1000000) → (∀ s, s < 8 → rea s = ii_v (g' s)) → wX_walkOn_7 post (nI L) (nI N) (d + 1) (nI s) b (ar_n sz) (ar_n sp) (ar_n og) (ar_n lo) (ar_n sa) (ar_n wk) rid rea bef := by
  intro d
  induction d with
  | zero =>
    intro s b g' rea hs hw hg hra
    have e : s = 8 := by omega
    exact br_t (nI_le (a := 8) (b := s) (by omega) (by omega)) (hp b rea g' (e ▸ hw) hg hra)
  | succ d ih =>
    intro s b g' rea hs hw hg hra
    have hs8 : s < 8 := by omega
    refine br_f (nI_ge (b := 8) hs8 (by decide)) ⟨in_s hs8, nm_r (xw_rd hr hs8) ⟨9, ?_⟩⟩
    refine xw_wo22 T hs8 hr hf (hra s hs8) (hg s hs8) post _ (fun c hc h => ?_) (fun c hc h => ?_) 8 0 (f s) (by omega) wo_0
    · exact ih (s + 1) b g' rea (by omega) (wo_ok hs8 hw hc h) hg hra
    · refine ih (s + 1) _ _ _ (by omega) (wo_ou hs8 hw hc h) (fun q hq => ?_) (xw_upd hra hs8)
      have hcb := wo_b hc hf hs8 (by omega)
      show 0 ≤ (if q = s then c else g' q) ∧ (if q = s then c else g' q) ≤ 1000000
      by_cases e : q = s
      · rw [if_pos e]; exact hcb
      · rw [if_neg e]; exact hg q hq
theorem xw_wo (T : tt_ok L N sz sp og lo sa wk) (hr : ∀ s, s < 8 → rid s = ii_v (f s)) (hf : ∀ s, s < 8 → 0 ≤ f s ∧ f s ≤ 1000000) (hra : ∀ s, s < 8 → rea s = ii_v (g s)) (hg : ∀ s, s < 8 → 0 ≤ g s ∧ g s ≤ 1000000)
    (post : SX → Prop) (hp : ∀ b' rea' g', wo_o wk f g 8 g' b' → (∀ s, s < 8 → 0 ≤ g' s ∧ g' s ≤ 1000000) → (∀ s, s < 8 → rea' s = ii_v (g' s)) → post (nI L, nI N, b', ar_n sz, ar_n sp, ar_n og, ar_n lo, ar_n sa, ar_n wk, rid, rea', bef)) :
    wpX_walkOn post (nI L, nI N, b, ar_n sz, ar_n sp, ar_n og, ar_n lo, ar_n sa, ar_n wk, rid, rea, bef) :=
  ⟨9, xw_wo7 T hr hf post hp 8 0 0 g rea (by omega) wo_o0 hg hra⟩
theorem xw_wb22 (T : tt_ok L N sz sp og lo sa wk) {s : Nat} (hs : s < 8) (hr : ∀ s, s < 8 → rid s = ii_v (f s)) (hf : ∀ s, s < 8 → -1000000 ≤ f s ∧ f s ≤ 1000000) {gs : Int} (hg : rea s = ii_v gs) (hgb : -1000000 ≤ gs ∧ gs ≤ 1000000)
    (post : SX → Prop) (J7 : Int32 → Int32 → (Nat → Int32) → (Nat → Int32) → (Nat → Int32) → (Nat → Int32) → (Nat → Int32) → (Nat → Int32) → (Nat → Int32) → (Nat → Int32) → (Nat → Int32) → Prop)
    (h1 : ∀ c, wz_i wk f s 8 c → c ≤ gs → J7 (nI (s + 1)) b (ar_n sz) (ar_n sp) (ar_n og) (ar_n lo) (ar_n sa) (ar_n wk) rid rea bef) (h2 : ∀ c, wz_i wk f s 8 c → gs < c → J7 (nI (s + 1)) (b ||| ((1 : Int32) <<< (nI s &&& 31))) (ar_n sz) (ar_n sp) (ar_n og) (ar_n lo) (ar_n sa) (ar_n wk) rid (upd rea (nI s).toNatClampNeg (ii_v c)) bef) :
    ∀ d u (c : Int), u + d = 8 → wz_i wk f s u c → wX_walkBack_22 post J7 (nI s) (nI L) (nI N) b (ar_n sz) (ar_n sp) (ar_n og) (ar_n lo) (ar_n sa) (ar_n wk) rid rea bef (d + 1) (ii_v c) (nI u) := by
  intro d
  induction d with
  | zero =>
    intro u c hu hc
    have e : u = 8 := by omega
    have hc8 : wz_i wk f s 8 c := e ▸ hc
    have hcb := wz_b hc hf hs (by omega)
    refine br_t (nI_le (a := 8) (b := u) (by omega) (by omega)) ⟨in_s hs, ?_⟩
    refine ii_le rfl (by rw [nI_clamp (by omega)]; exact hg) (by omega) (by omega) (fun h => ?_) (fun h => ⟨in_s hs, nm_e (nm_e ?_)⟩)
    · exact nm_r (nI_1 s) (h1 c hc8 h)
    · exact nm_r (nI_1 s) (h2 c hc8 h)
  | succ d ih =>
    intro u c hu hc
    have hu8 : u < 8 := by omega
    have hcb := wz_b hc hf hs (by omega)
    have hfu := hf u hu8
    have hw := tt_wk T (s * 8 + u)
    refine br_f (nI_ge (b := 8) hu8 (by decide)) ⟨in_8 hs hu8, nm_r (ar_8 wk hs hu8) ?_⟩
    have es : rid (nI u).toNatClampNeg - nI (wk (s * 8 + u)) = ii_v (f u - (wk (s * 8 + u) : Int)) := by rw [xw_rd hr hu8, ii_n, ii_sub]
    refine pk_le (wk (s * 8 + u)) 0 (fun h => ?_) (fun h => ⟨in_s hu8, ?_⟩)
    · exact nm_r (nI_1 u) (ih (u + 1) c (by omega) (wz_skip hc (Or.inl (by omega))))
    · refine ii_le es rfl (by omega) (by omega) (fun h3 => ?_) (fun h3 => ⟨in_s hu8, nm_r es ?_⟩)
      · exact nm_r (nI_1 u) (ih (u + 1) c (by omega) (wz_skip hc (Or.inr h3)))
      · exact nm_r (nI_1 u) (ih (u + 1) _ (by omega) (wz_take hc h h3))
theorem xw_wb7 (T : tt_ok L N sz sp og lo sa wk) (hr : ∀ s, s < 8 → rid s = ii_v (f s)) (hf : ∀ s, s < 8 → -1000000 ≤ f s ∧ f s ≤ 1000000)
    (post : SX → Prop) (hp : ∀ b' rea' g', wz_o wk f g 8 g' b' → (∀ s, s < 8 → -1000000 ≤ g' s ∧ g' s ≤ 1000000) → (∀ s, s < 8 → rea' s = ii_v (g' s)) → post (nI L, nI N, b', ar_n sz, ar_n sp, ar_n og, ar_n lo, ar_n sa, ar_n wk, rid, rea', bef)) :
    ∀ d s (b : Int32) (g' : Nat → Int) (rea : Nat → Int32), s + d = 8 → wz_o wk f g s g' b → (∀ s, s < 8 → -1000000 ≤ g' s ∧ g' s ≤ 1000000) → (∀ s, s < 8 → rea s = ii_v (g' s)) → wX_walkBack_7 post (nI L) (nI N) (d + 1) (nI s) b (ar_n sz) (ar_n sp) (ar_n og) (ar_n lo) (ar_n sa) (ar_n wk) rid rea bef := by
  intro d
  induction d with
  | zero =>
    intro s b g' rea hs hw hg hra
    have e : s = 8 := by omega
    exact br_t (nI_le (a := 8) (b := s) (by omega) (by omega)) (hp b rea g' (e ▸ hw) hg hra)
  | succ d ih =>
    intro s b g' rea hs hw hg hra
    have hs8 : s < 8 := by omega
    refine br_f (nI_ge (b := 8) hs8 (by decide)) ⟨in_s hs8, nm_r (xw_rd hr hs8) ⟨9, ?_⟩⟩
    refine xw_wb22 T hs8 hr hf (hra s hs8) (hg s hs8) post _ (fun c hc h => ?_) (fun c hc h => ?_) 8 0 (f s) (by omega) wz_0
    · exact ih (s + 1) b g' rea (by omega) (wz_ok hs8 hw hc h) hg hra
    · refine ih (s + 1) _ _ _ (by omega) (wz_ou hs8 hw hc h) (fun q hq => ?_) (xw_upd hra hs8)
      have hcb := wz_b hc hf hs8 (by omega)
      show -1000000 ≤ (if q = s then c else g' q) ∧ (if q = s then c else g' q) ≤ 1000000
      by_cases e : q = s
      · rw [if_pos e]; exact hcb
      · rw [if_neg e]; exact hg q hq
theorem xw_wb (T : tt_ok L N sz sp og lo sa wk) (hr : ∀ s, s < 8 → rid s = ii_v (f s)) (hf : ∀ s, s < 8 → -1000000 ≤ f s ∧ f s ≤ 1000000) (hra : ∀ s, s < 8 → rea s = ii_v (g s)) (hg : ∀ s, s < 8 → -1000000 ≤ g s ∧ g s ≤ 1000000)
    (post : SX → Prop) (hp : ∀ b' rea' g', wz_o wk f g 8 g' b' → (∀ s, s < 8 → -1000000 ≤ g' s ∧ g' s ≤ 1000000) → (∀ s, s < 8 → rea' s = ii_v (g' s)) → post (nI L, nI N, b', ar_n sz, ar_n sp, ar_n og, ar_n lo, ar_n sa, ar_n wk, rid, rea', bef)) :
    wpX_walkBack post (nI L, nI N, b, ar_n sz, ar_n sp, ar_n og, ar_n lo, ar_n sa, ar_n wk, rid, rea, bef) :=
  ⟨9, xw_wb7 T hr hf post hp 8 0 0 g rea (by omega) wz_o0 hg hra⟩
end
end
section
/-! X.begin, X.nextRound, X.plan -/
/-- what X holds after k rounds from stop a at time t -/
def xs_I (N : Nat) (sz sp og lo sa wk : Nat → Nat) (a : Nat) (t : Int) (k : Nat) (b : Int32) (rea : Nat → Int32) (g : Nat → Int) : Prop :=
  (∀ s, s < 8 → rea s = ii_v (g s)) ∧ (∀ s, s < 8 → 0 ≤ g s ∧ g s ≤ 1000000) ∧ jr_I (tt_W wk) (tt_R N sz sp og lo sa) 1000000 a t k g (fun s => bt b s = true)
/-- the ridden times after lines below n -/
def rd_s (N : Nat) (sz sp og lo sa : Nat → Nat) (mk : Nat → Prop) (bf : Nat → Int) (n : Nat) (f : Nat → Int) : Prop := ∀ s, s < 8 → (0 ≤ f s ∧ f s ≤ 1000000) ∧ ∀ z, z < 1000000 → (f s ≤ z ↔ ∃ l j i x, l < n ∧ i < j ∧ j < sz l ∧ rf_b N sp og lo sa mk bf l i x ∧ sp (l * 6 + j) = s ∧ (sa x : Int) + (og (l * 6 + j) : Int) ≤ z)
section
variable {L N : Nat} {sz sp og lo sa wk : Nat → Nat} {mk : Nat → Prop} {bf f f' : Nat → Int} {n : Nat}
theorem rd_0 : rd_s N sz sp og lo sa mk bf 0 (fun _ => 1000000) := by
  intro s hs
  dsimp only
  refine ⟨⟨by omega, by omega⟩, fun z hz => ⟨fun h => by omega, ?_⟩⟩
  rintro ⟨l, j, i, x, h, _⟩
  omega
theorem rd_S (h : rd_s N sz sp og lo sa mk bf n f) (h2 : rf_f N sp og lo sa mk bf n f (sz n) f') : rd_s N sz sp og lo sa mk bf (n + 1) f' := by
  intro s hs
  obtain ⟨a1, a2⟩ := h s hs
  obtain ⟨b1, b2⟩ := h2 s hs
  refine ⟨b1, fun z hz => ?_⟩
  rw [b2 z hz, a2 z hz]
  constructor
  · rintro (⟨l, j, i, x, q1, q⟩ | ⟨j, i, x, q1, q2, q3⟩)
    · exact ⟨l, j, i, x, by omega, q⟩
    · exact ⟨n, j, i, x, by omega, q1, q2, q3⟩
  · rintro ⟨l, j, i, x, q1, q2, q3, q⟩
    by_cases e : l = n
    · subst e
      exact Or.inr ⟨j, i, x, q2, q3, q⟩
    · exact Or.inl ⟨l, j, i, x, by omega, q2, q3, q⟩
theorem rd_e (T : tt_ok L N sz sp og lo sa wk) (h : rd_s N sz sp og lo sa mk bf L f) {s : Nat} (hs : s < 8) {z : Int} (hz : z < 1000000) : f s ≤ z ↔ ∃ u, u < 8 ∧ mk u ∧ tt_R N sz sp og lo sa u (bf u) s z := by
  rw [(h s hs).2 z hz]
  constructor
  · rintro ⟨l, j, i, x, q1, q2, q3, ⟨r1, r2, r3, r4⟩, q5, q6⟩
    subst r3
    exact ⟨_, tt_sp T _, r1, x, i, j, r2, q2, q3, rfl, r4, q5, q6⟩
  · rintro ⟨u, hu, hm, x, i, j, r1, r2, r3, r4, r5, r6, r7⟩
    subst r4
    exact ⟨lo x, j, i, x, tt_lL T r1, r2, r3, ⟨hm, r1, rfl, r5⟩, r6, r7⟩
theorem xs_0 {a : Nat} {t : Int} (ha : a < 8) (ht : 0 ≤ t ∧ t ≤ 1000) {b : Int32} {rea : Nat → Int32} {g : Nat → Int} (h : wo_o wk (fun q => if q = a then t else 1000000) (fun _ => 1000000) 8 g b) (hg : ∀ s, s < 8 → 0 ≤ g s ∧ g s ≤ 1000000) (hr : ∀ s, s < 8 → rea s = ii_v (g s)) : xs_I N sz sp og lo sa wk a t 0 b rea g := by
  refine ⟨hr, hg, jr_I0 (fun s hs z hz => ?_) (fun s hs hm => ?_)⟩
  · rw [((h s hs).1 hs).1 z]
    constructor
    · rintro (q | ⟨u, hu, q⟩)
      · dsimp only at q
        omega
      · have := tt_Wt _ _ _ _ q
        dsimp only at q this
        by_cases e : u = a
        · subst e
          rw [if_pos rfl] at q
          exact q
        · rw [if_neg e] at this
          omega
    · intro q
      refine Or.inr ⟨a, ha, ?_⟩
      dsimp only
      rw [if_pos rfl]
      exact q
  · have := ((h s hs).1 hs).2 (by simpa using hm)
    dsimp only at this ⊢
    omega
theorem xs_S (T : tt_ok L N sz sp og lo sa wk) {a : Nat} {t : Int} {k : Nat} {b b' : Int32} {rea rea' : Nat → Int32} {g g' : Nat → Int} (I : xs_I N sz sp og lo sa wk a t k b rea g) (hf : rd_s N sz sp og lo sa (fun s => bt b s = true) g L f) (h : wo_o wk f g 8 g' b') (hg : ∀ s, s < 8 → 0 ≤ g' s ∧ g' s ≤ 1000000) (hr : ∀ s, s < 8 → rea' s = ii_v (g' s)) : xs_I N sz sp og lo sa wk a t (k + 1) b' rea' g' := by
  refine ⟨hr, hg, jr_IS tt_Rm tt_Wt (tt_Rt T) I.2.2 (fun s hs z hz => ?_) (fun s hs hm => ((h s hs).1 hs).2 (by simpa using hm))⟩
  rw [((h s hs).1 hs).1 z]
  constructor
  · rintro (q | ⟨x, hx, q⟩)
    · exact Or.inl q
    · have h1 := tt_Wt _ _ _ _ q
      obtain ⟨u, hu, hm, hR⟩ := (rd_e T hf hx (z := f x) (by omega)).mp (Int.le_refl _)
      exact Or.inr ⟨u, x, f x, hu, hx, hm, hR, q⟩
  · rintro (q | ⟨u, x, w, hu, hx, hm, hR, q⟩)
    · exact Or.inl q
    · have h1 := tt_Wt _ _ _ _ q
      have h2 := (rd_e T hf hx (z := w) (by omega)).mpr ⟨u, hu, hm, hR⟩
      exact Or.inr ⟨x, hx, tt_Wm _ _ _ _ _ _ q h2 (Int.le_refl _)⟩
theorem xs_stop (T : tt_ok L N sz sp og lo sa wk) {a : Nat} {t : Int} {k K : Nat} {b : Int32} {rea : Nat → Int32} {g : Nat → Int} (I : xs_I N sz sp og lo sa wk a t k b rea g) (hk : k ≤ K) (hb : b = 0) : ∀ s, s < 8 → ∀ z, z < 1000000 → (g s ≤ z ↔ jr_P (tt_W wk) (tt_R N sz sp og lo sa) K a t s z) :=
  jr_end tt_Wt (tt_Rt T) I.2.2 hk (fun s _ h => by rw [bb_0 hb s] at h; exact absurd h (by decide))
end
section
variable {L N : Nat} {sz sp og lo sa wk : Nat → Nat} {b : Int32} {rid rea bef : Nat → Int32}
theorem xw_bg2 (T : tt_ok L N sz sp og lo sa wk) {a : Nat} (ha : a < 8) {t : Int} (ht : 0 ≤ t ∧ t ≤ 1000) (post : SX → Prop) (hp : ∀ b' rid' rea' g, xs_I N sz sp og lo sa wk a t 0 b' rea' g → post (nI L, nI N, b', ar_n sz, ar_n sp, ar_n og, ar_n lo, ar_n sa, ar_n wk, rid', rea', bef)) :
    ∀ d s (rid rea : Nat → Int32), s + d = 8 → (∀ q, q < s → rid q = ii_v 1000000 ∧ rea q = ii_v 1000000) → wX_begin_2 post (nI a) (ii_v t) (nI L) (nI N) b (d + 1) (nI s) (ar_n sz) (ar_n sp) (ar_n og) (ar_n lo) (ar_n sa) (ar_n wk) rid rea bef := by
  intro d
  induction d with
  | zero =>
    intro s rid rea hs h
    refine br_t (nI_le (a := 8) (b := s) (by omega) (by omega)) ⟨in_s ha, nm_e ?_⟩
    refine xw_wo (f := fun q => if q = a then t else 1000000) (g := fun _ => 1000000) T (xw_upd (f := fun _ => 1000000) (fun q hq => (h q (by omega)).1) ha) (fun q hq => ?_) (fun q hq => (h q (by omega)).2) (fun q hq => ⟨by omega, by omega⟩) _ (fun b' rea' g' h1 h2 h3 => hp b' _ rea' g' (xs_0 ha ht h1 h2 h3))
    show 0 ≤ (if q = a then t else 1000000) ∧ (if q = a then t else 1000000) ≤ 1000000
    by_cases e : q = a
    · rw [if_pos e]; omega
    · rw [if_neg e]; omega
  | succ d ih =>
    intro s rid rea hs h
    have hs8 : s < 8 := by omega
    refine br_f (nI_ge (b := 8) hs8 (by decide)) ⟨in_s hs8, nm_e ⟨in_s hs8, nm_e (nm_r (nI_1 s) (ih (s + 1) _ _ (by omega) (fun q hq => ?_)))⟩⟩
    rw [nI_clamp (by omega)]
    by_cases e : q = s
    · rw [e, pk_us, pk_us]; exact ⟨ii_M, ii_M⟩
    · rw [pk_un e, pk_un e]; exact h q (by omega)
theorem xw_bg (T : tt_ok L N sz sp og lo sa wk) {a : Nat} (ha : a < 8) {t : Int} (ht : 0 ≤ t ∧ t ≤ 1000) (post : SX → Prop) (hp : ∀ b' rid' rea' g, xs_I N sz sp og lo sa wk a t 0 b' rea' g → post (nI L, nI N, b', ar_n sz, ar_n sp, ar_n og, ar_n lo, ar_n sa, ar_n wk, rid', rea', bef)) :
    wpX_begin post (nI L, nI N, b, ar_n sz, ar_n sp, ar_n og, ar_n lo, ar_n sa, ar_n wk, rid, rea, bef) (nI a) (ii_v t) :=
  ⟨9, xw_bg2 T ha ht post hp 8 0 rid rea (by omega) (fun q hq => absurd hq (Nat.not_lt_zero _))⟩
theorem xw_nr36 (T : tt_ok L N sz sp og lo sa wk) {a : Nat} {t : Int} {k : Nat} {g : Nat → Int} (I : xs_I N sz sp og lo sa wk a t k b rea g) (hB : ∀ s, s < 8 → bef s = ii_v (g s)) (post : SX → Prop) (hp : ∀ b' rid' rea' g', xs_I N sz sp og lo sa wk a t (k + 1) b' rea' g' → post (nI L, nI N, b', ar_n sz, ar_n sp, ar_n og, ar_n lo, ar_n sa, ar_n wk, rid', rea', bef)) :
    ∀ d l (rid : Nat → Int32) (f : Nat → Int), l + d = L → (∀ s, s < 8 → rid s = ii_v (f s)) → rd_s N sz sp og lo sa (fun s => bt b s = true) g l f → wX_nextRound_36 post (d + 1) (nI l) (nI L) (nI N) b (ar_n sz) (ar_n sp) (ar_n og) (ar_n lo) (ar_n sa) (ar_n wk) rid rea bef := by
  have hL := tt_L T
  intro d
  induction d with
  | zero =>
    intro l rid f hl hr hd
    have e : l = L := by omega
    refine br_t (nI_le (a := L) (b := l) (by omega) (by omega)) ?_
    exact xw_wo T hr (fun s hs => (hd s hs).1) I.1 I.2.1 _ (fun b' rea' g' h1 h2 h3 => hp b' rid rea' g' (xs_S T I (e ▸ hd) h1 h2 h3))
  | succ d ih =>
    intro l rid f hl hr hd
    refine br_f (nI_ge (by omega) (by omega)) ?_
    exact xw_rl T (by omega) hB I.2.1 (fun s hs => (hd s hs).1) hr _ (fun rid' f' h1 h2 => nm_r (nI_1 l) (ih (l + 1) rid' f' (by omega) h2 (rd_S hd h1)))
theorem xw_nr2 (T : tt_ok L N sz sp og lo sa wk) {a : Nat} {t : Int} {k : Nat} {g : Nat → Int} (I : xs_I N sz sp og lo sa wk a t k b rea g) (post : SX → Prop) (hp : ∀ b' rid' rea' bef' g', xs_I N sz sp og lo sa wk a t (k + 1) b' rea' g' → post (nI L, nI N, b', ar_n sz, ar_n sp, ar_n og, ar_n lo, ar_n sa, ar_n wk, rid', rea', bef')) :
    ∀ d s (rid bef : Nat → Int32), s + d = 8 → (∀ q, q < s → rid q = ii_v 1000000 ∧ bef q = ii_v (g q)) → wX_nextRound_2 post (nI L) (nI N) b (d + 1) (nI s) (ar_n sz) (ar_n sp) (ar_n og) (ar_n lo) (ar_n sa) (ar_n wk) rid rea bef := by
  intro d
  induction d with
  | zero =>
    intro s rid bef hs h
    refine br_t (nI_le (a := 8) (b := s) (by omega) (by omega)) ⟨L + 1, ?_⟩
    exact xw_nr36 T I (fun q hq => (h q (by omega)).2) post (fun b' rid' rea' g' h1 => hp b' rid' rea' bef g' h1) L 0 rid (fun _ => 1000000) (by omega) (fun q hq => (h q (by omega)).1) rd_0
  | succ d ih =>
    intro s rid bef hs h
    have hs8 : s < 8 := by omega
    refine br_f (nI_ge (b := 8) hs8 (by decide)) ⟨in_s hs8, in_s hs8, nm_e ⟨in_s hs8, nm_e (nm_r (nI_1 s) (ih (s + 1) _ _ (by omega) (fun q hq => ?_)))⟩⟩
    rw [nI_clamp (by omega)]
    by_cases e : q = s
    · rw [e, pk_us, pk_us]; exact ⟨ii_M, I.1 s hs8⟩
    · rw [pk_un e, pk_un e]; exact h q (by omega)
theorem xw_nr (T : tt_ok L N sz sp og lo sa wk) {a : Nat} {t : Int} {k : Nat} {g : Nat → Int} (I : xs_I N sz sp og lo sa wk a t k b rea g) (post : SX → Prop) (hp : ∀ b' rid' rea' bef' g', xs_I N sz sp og lo sa wk a t (k + 1) b' rea' g' → post (nI L, nI N, b', ar_n sz, ar_n sp, ar_n og, ar_n lo, ar_n sa, ar_n wk, rid', rea', bef')) :
    wpX_nextRound post (nI L, nI N, b, ar_n sz, ar_n sp, ar_n og, ar_n lo, ar_n sa, ar_n wk, rid, rea, bef) :=
  ⟨9, xw_nr2 T I post hp 8 0 rid bef (by omega) (fun q hq => absurd hq (Nat.not_lt_zero _))⟩
/-- what a search with at most K rides has found -/
def xs_E (N : Nat) (sz sp og lo sa wk : Nat → Nat) (a : Nat) (t : Int) (K : Nat) (rea : Nat → Int32) (g : Nat → Int) : Prop :=
  (∀ s, s < 8 → rea s = ii_v (g s)) ∧ (∀ s, s < 8 → 0 ≤ g s ∧ g s ≤ 1000000) ∧ ∀ s, s < 8 → ∀ z, z < 1000000 → (g s ≤ z ↔ jr_P (tt_W wk) (tt_R N sz sp og lo sa) K a t s z)
theorem xw_pl9 (T : tt_ok L N sz sp og lo sa wk) {a : Nat} {t : Int} {K : Nat} (hK : K ≤ 12) (post : SX → Prop) (hp : ∀ b' rid' rea' bef' g', xs_E N sz sp og lo sa wk a t K rea' g' → post (nI L, nI N, b', ar_n sz, ar_n sp, ar_n og, ar_n lo, ar_n sa, ar_n wk, rid', rea', bef')) :
    ∀ d k (b : Int32) (rid rea bef : Nat → Int32) (g : Nat → Int), k + d = K → xs_I N sz sp og lo sa wk a t k b rea g → wX_plan_9 post (nI K) (d + 1) (nI k) (nI L) (nI N) b (ar_n sz) (ar_n sp) (ar_n og) (ar_n lo) (ar_n sa) (ar_n wk) rid rea bef := by
  intro d
  induction d with
  | zero =>
    intro k b rid rea bef g hk I
    have e : k = K := by omega
    subst e
    exact br_t (Int32.le_refl _) (hp b rid rea bef g ⟨I.1, I.2.1, I.2.2.1⟩)
  | succ d ih =>
    intro k b rid rea bef g hk I
    refine br_f (nI_ge (by omega) (by omega)) (br_c (fun hb => ?_) (fun hb => ?_))
    · exact hp b rid rea bef g ⟨I.1, I.2.1, xs_stop T I (by omega) hb⟩
    · exact xw_nr T I _ (fun b' rid' rea' bef' g' I' => nm_r (nI_1 k) (ih (k + 1) b' rid' rea' bef' g' (by omega) I'))
theorem xw_pl (T : tt_ok L N sz sp og lo sa wk) {a : Nat} (ha : a < 8) {t : Int} (ht : 0 ≤ t ∧ t ≤ 1000) {K : Nat} (hK : K ≤ 12) (post : SX → Prop) (hp : ∀ b' rid' rea' bef' g', xs_E N sz sp og lo sa wk a t K rea' g' → post (nI L, nI N, b', ar_n sz, ar_n sp, ar_n og, ar_n lo, ar_n sa, ar_n wk, rid', rea', bef')) :
    wpX_plan post (nI L, nI N, b, ar_n sz, ar_n sp, ar_n og, ar_n lo, ar_n sa, ar_n wk, rid, rea, bef) (nI a) (ii_v t) (nI K) := by
  unfold wpX_plan
  refine xw_bg T ha ht _ (fun b' rid' rea' g' I => ⟨K + 1, ?_⟩)
  exact xw_pl9 T hK post hp K 0 b' rid' rea' bef g' (by omega) I
end
end
section
/-! X.rideLineBack, X.planBack: pure rows -/
def rb_b (N : Nat) (sp og lo sa : Nat → Nat) (mk : Nat → Prop) (bf : Nat → Int) (l j x : Nat) : Prop := mk (sp (l * 6 + j)) ∧ x < N ∧ lo x = l ∧ (sa x : Int) + (og (l * 6 + j) : Int) ≤ bf (sp (l * 6 + j))
def rb_c (N : Nat) (sp og lo sa : Nat → Nat) (mk : Nat → Prop) (bf : Nat → Int) (l m n : Nat) (c : Int) : Prop := -1000000 ≤ c ∧ c ≤ 1000000 ∧ ∀ z, -1000000 < z → (z ≤ c ↔ ∃ j x, n ≤ j ∧ j < m ∧ rb_b N sp og lo sa mk bf l j x ∧ z ≤ (sa x : Int))
def rb_f (N : Nat) (sp og lo sa : Nat → Nat) (mk : Nat → Prop) (bf : Nat → Int) (l m : Nat) (f0 : Nat → Int) (n : Nat) (f : Nat → Int) : Prop := ∀ s, s < 8 → (-1000000 ≤ f s ∧ f s ≤ 1000000) ∧ ∀ z, -1000000 < z → (z ≤ f s ↔ z ≤ f0 s ∨ ∃ i j x, n ≤ i ∧ i < j ∧ j < m ∧ rb_b N sp og lo sa mk bf l j x ∧ sp (l * 6 + i) = s ∧ z ≤ (sa x : Int) + (og (l * 6 + i) : Int))
section
variable {N : Nat} {sp og lo sa : Nat → Nat} {mk : Nat → Prop} {bf f0 f : Nat → Int} {l m n : Nat} {c : Int}
theorem rb_c0 : rb_c N sp og lo sa mk bf l m m (-1000000) := by
  refine ⟨by omega, by omega, fun z hz => ⟨fun h => by omega, ?_⟩⟩
  rintro ⟨j, x, h1, h2, _⟩
  omega
theorem rb_ck (h : rb_c N sp og lo sa mk bf l m (n + 1) c) (hs : ∀ x, rb_b N sp og lo sa mk bf l n x → (sa x : Int) ≤ c) : rb_c N sp og lo sa mk bf l m n c := by
  obtain ⟨h1, h2, h3⟩ := h
  refine ⟨h1, h2, fun z hz => ?_⟩
  rw [h3 z hz]
  constructor
  · rintro ⟨j, x, hi, r⟩
    exact ⟨j, x, by omega, r⟩
  · rintro ⟨j, x, hi, hj, r1, r2⟩
    by_cases e : j = n
    · subst e
      have := hs x r1
      exact (h3 z hz).mp (by omega)
    · exact ⟨j, x, by omega, hj, r1, r2⟩
theorem rb_ct {o : Int} (hn : n < m) (h : rb_c N sp og lo sa mk bf l m (n + 1) c) (hm : mk (sp (l * 6 + n))) (ho : mt_s og lo sa l n (bf (sp (l * 6 + n))) N o) (hoc : c < o) : rb_c N sp og lo sa mk bf l m n o := by
  obtain ⟨h1, h2, h3⟩ := h
  obtain ⟨o1, o2, o3⟩ := ho
  refine ⟨o1, o2, fun z hz => ?_⟩
  constructor
  · intro hz2
    obtain ⟨x, q1, q2, q3, q4⟩ := (o3 z hz).mp hz2
    exact ⟨n, x, Nat.le_refl _, hn, ⟨hm, q1, q2, q3⟩, q4⟩
  · rintro ⟨j, x, hi, hj, r1, r2⟩
    by_cases e : j = n
    · subst e
      obtain ⟨p1, p2, p3, p4⟩ := r1
      exact (o3 z hz).mpr ⟨x, p2, p3, p4, r2⟩
    · have := (h3 z hz).mpr ⟨j, x, by omega, hj, r1, r2⟩
      omega
theorem rb_cu {o : Int} (h : rb_c N sp og lo sa mk bf l m (n + 1) c) (ho : mt_s og lo sa l n (bf (sp (l * 6 + n))) N o) (hoc : o ≤ c) : rb_c N sp og lo sa mk bf l m n c := by
  refine rb_ck h (fun x hx => ?_)
  obtain ⟨p1, p2, p3, p4⟩ := hx
  obtain ⟨o1, o2, o3⟩ := ho
  have := (o3 (sa x : Int) (by omega)).mpr ⟨x, p2, p3, p4, Int.le_refl _⟩
  omega
theorem rb_f0 (h : ∀ s, s < 8 → -1000000 ≤ f0 s ∧ f0 s ≤ 1000000) : rb_f N sp og lo sa mk bf l m f0 m f0 := by
  intro s hs
  refine ⟨h s hs, fun z hz => ⟨Or.inl, ?_⟩⟩
  rintro (h | ⟨i, j, x, h1, h2, h3, _⟩)
  · exact h
  · omega
theorem rb_fk (hc : rb_c N sp og lo sa mk bf l m (n + 1) c) (h : rb_f N sp og lo sa mk bf l m f0 (n + 1) f) (hk : -1000000 < c → c + (og (l * 6 + n) : Int) ≤ f (sp (l * 6 + n))) : rb_f N sp og lo sa mk bf l m f0 n f := by
  intro s hs
  obtain ⟨h1, h2⟩ := h s hs
  refine ⟨h1, fun z hz => ?_⟩
  rw [h2 z hz]
  constructor
  · rintro (q | ⟨i, j, x, q1, q3⟩)
    · exact Or.inl q
    · exact Or.inr ⟨i, j, x, by omega, q3⟩
  · rintro (q | ⟨i, j, x, q0, q1, q2, q3, q4, q5⟩)
    · exact Or.inl q
    · by_cases e : i = n
      · subst e
        have a := (hc.2.2 (sa x : Int) (by omega)).mpr ⟨j, x, q1, q2, q3, Int.le_refl _⟩
        have b := hk (by omega)
        rw [q4] at b
        exact (h2 z hz).mp (by omega)
      · exact Or.inr ⟨i, j, x, by omega, q1, q2, q3, q4, q5⟩
theorem rb_fu (hog : og (l * 6 + n) ≤ 150) (hc5 : c ≤ 500) (hc : rb_c N sp og lo sa mk bf l m (n + 1) c) (h : rb_f N sp og lo sa mk bf l m f0 (n + 1) f) (hs8 : sp (l * 6 + n) < 8) (hc1 : -1000000 < c) (hk : f (sp (l * 6 + n)) < c + (og (l * 6 + n) : Int)) : rb_f N sp og lo sa mk bf l m f0 n (fun q => if q = sp (l * 6 + n) then c + (og (l * 6 + n) : Int) else f q) := by
  intro s hs
  obtain ⟨h1, h2⟩ := h s hs
  have c1 := hc.1
  by_cases e : s = sp (l * 6 + n)
  · subst e
    show (-1000000 ≤ (if sp (l * 6 + n) = sp (l * 6 + n) then c + (og (l * 6 + n) : Int) else f (sp (l * 6 + n))) ∧ _) ∧ _
    simp only [if_true]
    refine ⟨by omega, fun z hz => ?_⟩
    constructor
    · intro q
      obtain ⟨j, x, r0, r1, r2, r3⟩ := (hc.2.2 c hc1).mp (Int.le_refl _)
      exact Or.inr ⟨n, j, x, Nat.le_refl _, r0, r1, r2, rfl, by omega⟩
    · rintro (q | ⟨i, j, x, q0, q1, q2, q3, q4, q5⟩)
      · have := (h2 z hz).mpr (Or.inl q)
        omega
      · by_cases e : i = n
        · subst e
          have a := (hc.2.2 (sa x : Int) (by omega)).mpr ⟨j, x, q1, q2, q3, Int.le_refl _⟩
          omega
        · have := (h2 z hz).mpr (Or.inr ⟨i, j, x, by omega, q1, q2, q3, q4, q5⟩)
          omega
  · simp only [if_neg e]
    refine ⟨h1, fun z hz => ?_⟩
    rw [h2 z hz]
    constructor
    · rintro (q | ⟨i, j, x, q1, q3⟩)
      · exact Or.inl q
      · exact Or.inr ⟨i, j, x, by omega, q3⟩
    · rintro (q | ⟨i, j, x, q0, q1, q2, q3, q4, q5⟩)
      · exact Or.inl q
      · by_cases e2 : i = n
        · subst e2
          exact absurd q4.symm e
        · exact Or.inr ⟨i, j, x, by omega, q1, q2, q3, q4, q5⟩
theorem rb_c5 (hsa : ∀ x, sa x ≤ 500) (hc : rb_c N sp og lo sa mk bf l m n c) : c ≤ 500 := by
  rcases Int.lt_or_le (-1000000) c with h | h
  · obtain ⟨j, x, _, _, _, r⟩ := (hc.2.2 c h).mp (Int.le_refl _)
    have := hsa x
    omega
  · omega
end
/-- the latest boardings after lines below n -/
def db_s (N : Nat) (sz sp og lo sa : Nat → Nat) (mk : Nat → Prop) (bf : Nat → Int) (n : Nat) (f : Nat → Int) : Prop := ∀ s, s < 8 → (-1000000 ≤ f s ∧ f s ≤ 1000000) ∧ ∀ z, -1000000 < z → (z ≤ f s ↔ ∃ l i j x, l < n ∧ i < j ∧ j < sz l ∧ rb_b N sp og lo sa mk bf l j x ∧ sp (l * 6 + i) = s ∧ z ≤ (sa x : Int) + (og (l * 6 + i) : Int))
/-- what X holds after k rounds backwards from stop a at time t -/
def xb_I (N : Nat) (sz sp og lo sa wk : Nat → Nat) (a : Nat) (t : Int) (k : Nat) (b : Int32) (rea : Nat → Int32) (g : Nat → Int) : Prop :=
  (∀ s, s < 8 → rea s = ii_v (g s)) ∧ (∀ s, s < 8 → -1000000 ≤ g s ∧ g s ≤ 1000000) ∧ jr_I (jr_op (tt_W wk)) (jr_op (tt_R N sz sp og lo sa)) 1000000 a (-t) k (fun s => - g s) (fun s => bt b s = true)
def xb_E (N : Nat) (sz sp og lo sa wk : Nat → Nat) (a : Nat) (t : Int) (K : Nat) (rea : Nat → Int32) (g : Nat → Int) : Prop :=
  (∀ s, s < 8 → rea s = ii_v (g s)) ∧ (∀ s, s < 8 → -1000000 ≤ g s ∧ g s ≤ 1000000) ∧ ∀ s, s < 8 → ∀ z, -1000000 < z → (z ≤ g s ↔ jr_P (tt_W wk) (tt_R N sz sp og lo sa) K s z a t)
section
variable {L N : Nat} {sz sp og lo sa wk : Nat → Nat} {mk : Nat → Prop} {bf f f' : Nat → Int} {n : Nat}
theorem db_0 : db_s N sz sp og lo sa mk bf 0 (fun _ => -1000000) := by
  intro s hs
  dsimp only
  refine ⟨⟨by omega, by omega⟩, fun z hz => ⟨fun h => by omega, ?_⟩⟩
  rintro ⟨l, j, i, x, h, _⟩
  omega
theorem db_S (h : db_s N sz sp og lo sa mk bf n f) (h2 : rb_f N sp og lo sa mk bf n (sz n) f 0 f') : db_s N sz sp og lo sa mk bf (n + 1) f' := by
  intro s hs
  obtain ⟨a1, a2⟩ := h s hs
  obtain ⟨b1, b2⟩ := h2 s hs
  refine ⟨b1, fun z hz => ?_⟩
  rw [b2 z hz, a2 z hz]
  constructor
  · rintro (⟨l, i, j, x, q1, q⟩ | ⟨i, j, x, q0, q1, q2, q3⟩)
    · exact ⟨l, i, j, x, by omega, q⟩
    · exact ⟨n, i, j, x, by omega, q1, q2, q3⟩
  · rintro ⟨l, i, j, x, q1, q2, q3, q⟩
    by_cases e : l = n
    · subst e
      exact Or.inr ⟨i, j, x, Nat.zero_le _, q2, q3, q⟩
    · exact Or.inl ⟨l, i, j, x, by omega, q2, q3, q⟩
theorem db_e (T : tt_ok L N sz sp og lo sa wk) (h : db_s N sz sp og lo sa mk bf L f) {s : Nat} (hs : s < 8) {z : Int} (hz : -1000000 < z) : z ≤ f s ↔ ∃ u, u < 8 ∧ mk u ∧ tt_R N sz sp og lo sa s z u (bf u) := by
  rw [(h s hs).2 z hz]
  constructor
  · rintro ⟨l, i, j, x, q1, q2, q3, ⟨r1, r2, r3, r4⟩, q5, q6⟩
    subst r3
    exact ⟨_, tt_sp T _, r1, x, i, j, r2, q2, q3, q5, q6, rfl, r4⟩
  · rintro ⟨u, hu, hm, x, i, j, r1, r2, r3, r4, r5, r6, r7⟩
    subst r6
    exact ⟨lo x, i, j, x, tt_lL T r1, r2, r3, ⟨hm, r1, rfl, r7⟩, r4, r5⟩
theorem xb_0 {a : Nat} {t : Int} (ha : a < 8) (ht : 0 ≤ t ∧ t ≤ 1000) {b : Int32} {rea : Nat → Int32} {g : Nat → Int} (h : wz_o wk (fun q => if q = a then t else -1000000) (fun _ => -1000000) 8 g b) (hg : ∀ s, s < 8 → -1000000 ≤ g s ∧ g s ≤ 1000000) (hr : ∀ s, s < 8 → rea s = ii_v (g s)) : xb_I N sz sp og lo sa wk a t 0 b rea g := by
  refine ⟨hr, hg, jr_I0 (fun s hs z hz => ?_) (fun s hs hm => ?_)⟩
  · have e1 : - g s ≤ z ↔ -z ≤ g s := by omega
    show - g s ≤ z ↔ tt_W wk s (-z) a (- -t)
    rw [e1, ((h s hs).1 hs).1 (-z), Int.neg_neg]
    constructor
    · rintro (q | ⟨u, hu, q⟩)
      · dsimp only at q
        omega
      · have := tt_Wt _ _ _ _ q
        dsimp only at q this
        by_cases e : u = a
        · subst e
          rw [if_pos rfl] at q
          exact q
        · rw [if_neg e] at this
          omega
    · intro q
      refine Or.inr ⟨a, ha, ?_⟩
      dsimp only
      rw [if_pos rfl]
      exact q
  · have := ((h s hs).1 hs).2 (by simpa using hm)
    dsimp only at this ⊢
    omega
theorem xb_S (T : tt_ok L N sz sp og lo sa wk) {a : Nat} {t : Int} {k : Nat} {b b' : Int32} {rea rea' : Nat → Int32} {g g' : Nat → Int} (I : xb_I N sz sp og lo sa wk a t k b rea g) (hf : db_s N sz sp og lo sa (fun s => bt b s = true) g L f) (h : wz_o wk f g 8 g' b') (hg : ∀ s, s < 8 → -1000000 ≤ g' s ∧ g' s ≤ 1000000) (hr : ∀ s, s < 8 → rea' s = ii_v (g' s)) : xb_I N sz sp og lo sa wk a t (k + 1) b' rea' g' := by
  refine ⟨hr, hg, jr_IS (jr_opm tt_Rm) (jr_opt tt_Wt) (jr_opu (tt_Rt T)) I.2.2 (fun s hs z hz => ?_) (fun s hs hm => ?_)⟩
  · have e1 : - g' s ≤ z ↔ -z ≤ g' s := by omega
    have e2 : - g s ≤ z ↔ -z ≤ g s := by omega
    show - g' s ≤ z ↔ - g s ≤ z ∨ ∃ u x w, u < 8 ∧ x < 8 ∧ bt b u = true ∧ tt_R N sz sp og lo sa x (-w) u (- - g u) ∧ tt_W wk s (-z) x (-w)
    rw [e1, e2, ((h s hs).1 hs).1 (-z)]
    constructor
    · rintro (q | ⟨x, hx, q⟩)
      · exact Or.inl q
      · have h1 := tt_Wt _ _ _ _ q
        obtain ⟨u, hu, hm, hR⟩ := (db_e T hf hx (z := f x) (by omega)).mp (Int.le_refl _)
        exact Or.inr ⟨u, x, -(f x), hu, hx, hm, by rw [Int.neg_neg, Int.neg_neg]; exact hR, by rw [Int.neg_neg]; exact q⟩
    · rintro (q | ⟨u, x, w, hu, hx, hm, hR, q⟩)
      · exact Or.inl q
      · have h1 := tt_Wt _ _ _ _ q
        rw [Int.neg_neg] at hR
        have h2 := (db_e T hf hx (z := -w) (by omega)).mpr ⟨u, hu, hm, hR⟩
        exact Or.inr ⟨x, hx, tt_Wm _ _ _ _ _ _ q (Int.le_refl _) h2⟩
  · have := ((h s hs).1 hs).2 (by simpa using hm)
    show - g' s = - g s
    rw [this]
theorem xb_stop (T : tt_ok L N sz sp og lo sa wk) {a : Nat} {t : Int} {k K : Nat} {b : Int32} {rea : Nat → Int32} {g : Nat → Int} (I : xb_I N sz sp og lo sa wk a t k b rea g) (hk : k ≤ K) (hb : b = 0 ∨ k = K) : xb_E N sz sp og lo sa wk a t K rea g := by
  refine ⟨I.1, I.2.1, fun s hs z hz => ?_⟩
  have key : - g s ≤ -z ↔ jr_P (jr_op (tt_W wk)) (jr_op (tt_R N sz sp og lo sa)) K a (-t) s (-z) := by
    rcases hb with hb | hb
    · exact jr_end (jr_opt tt_Wt) (jr_opu (tt_Rt T)) I.2.2 hk (fun s _ h => by rw [bb_0 hb s] at h; exact absurd h (by decide)) s hs (-z) (by omega)
    · subst hb
      exact I.2.2.1 s hs (-z) (by omega)
  rw [jr_opP, Int.neg_neg, Int.neg_neg] at key
  rw [← key]
  omega
end
/-! the walk -/
section
variable {L N : Nat} {sz sp og lo sa wk : Nat → Nat} {b : Int32} {rid rea bef : Nat → Int32} {bf f0 : Nat → Int}
theorem xw_rb114 (T : tt_ok L N sz sp og lo sa wk) {l i m : Nat} (hl : l < 5) (hi : i < 6) (him : i < m) (hB : ∀ s, s < 8 → bef s = ii_v (bf s)) (hb : ∀ s, s < 8 → -1000000 ≤ bf s ∧ bf s ≤ 1000000) {c : Int} (hc : rb_c N sp og lo sa (fun s => bt b s = true) bf l m (i + 1) c) (hm : bt b (sp (l * 6 + i)) = true)
    (post : SX → Prop) (J5 : Int32 → Int32 → (Nat → Int32) → (Nat → Int32) → (Nat → Int32) → (Nat → Int32) → (Nat → Int32) → (Nat → Int32) → (Nat → Int32) → (Nat → Int32) → (Nat → Int32) → Prop) (hJ : ∀ c', rb_c N sp og lo sa (fun s => bt b s = true) bf l m i c' → J5 (ii_v c') (nI i - 1) (ar_n sz) (ar_n sp) (ar_n og) (ar_n lo) (ar_n sa) (ar_n wk) rid rea bef) :
    wX_rideLineBack_114 post J5 (nI l) (ii_v c) (nI i) (nI (sp (l * 6 + i))) (nI L) (nI N) b (ar_n sz) (ar_n sp) (ar_n og) (ar_n lo) (ar_n sa) (ar_n wk) rid rea bef := by
  have hs := tt_sp T (l * 6 + i)
  have hbs := hb _ hs
  have e1 : nI i + (-1) = nI i - 1 := (Int32.sub_eq_add_neg _ _).symm
  unfold wX_rideLineBack_114
  refine ⟨in_s hs, ?_⟩
  rw [xw_rd hB hs]
  refine xw_mt T hl hi (by omega) _ (fun o ho => ?_)
  obtain ⟨o1, o2, _⟩ := id ho
  obtain ⟨c1, c2, _⟩ := id hc
  exact ii_le rfl rfl (by omega) (by omega) (fun h => nm_r e1 (hJ c (rb_cu hc ho h))) (fun h => nm_r e1 (hJ o (rb_ct him hc hm ho h)))
theorem xw_rb71 (T : tt_ok L N sz sp og lo sa wk) {l i m : Nat} (hl : l < 5) (hi : i < 6) (him : i < m) (hB : ∀ s, s < 8 → bef s = ii_v (bf s)) (hb : ∀ s, s < 8 → -1000000 ≤ bf s ∧ bf s ≤ 1000000) {c : Int} (hc : rb_c N sp og lo sa (fun s => bt b s = true) bf l m (i + 1) c)
    (post : SX → Prop) (J5 : Int32 → Int32 → (Nat → Int32) → (Nat → Int32) → (Nat → Int32) → (Nat → Int32) → (Nat → Int32) → (Nat → Int32) → (Nat → Int32) → (Nat → Int32) → (Nat → Int32) → Prop) (hJ : ∀ c', rb_c N sp og lo sa (fun s => bt b s = true) bf l m i c' → J5 (ii_v c') (nI i - 1) (ar_n sz) (ar_n sp) (ar_n og) (ar_n lo) (ar_n sa) (ar_n wk) rid rea bef) :
    wX_rideLineBack_71 post J5 (nI l) (ii_v c) (nI i) (nI (sp (l * 6 + i))) (ii_v (c + (og (l * 6 + i) : Int))) (nI L) (nI N) b (ar_n sz) (ar_n sp) (ar_n og) (ar_n lo) (ar_n sa) (ar_n wk) rid rea bef := by
  have hs := tt_sp T (l * 6 + i)
  have ho := tt_og T (l * 6 + i)
  have hbs := hb _ hs
  have e1 : nI i + (-1) = nI i - 1 := (Int32.sub_eq_add_neg _ _).symm
  obtain ⟨c1, c2, _⟩ := id hc
  by_cases hm : bt b (sp (l * 6 + i)) = true
  · refine br_t ((bb_get b hs).mpr hm) ?_
    unfold wX_rideLineBack_89
    refine br_f (by decide) ?_
    have h114 := xw_rb114 (rid := rid) (rea := rea) T hl hi him hB hb hc hm post J5 hJ
    refine ii_eq rfl ii_mM (by omega) (by omega) (fun _ => h114) (fun h => ⟨in_s hs, ?_⟩)
    refine ii_le (xw_rd hB hs) rfl (by omega) (by omega) (fun h2 => nm_r e1 (hJ c (rb_ck hc (fun x hx => ?_)))) (fun _ => h114)
    have := hx.2.2.2
    omega
  · refine br_f (fun z => hm ((bb_get b hs).mp z)) ?_
    unfold wX_rideLineBack_89
    exact br_t rfl (nm_r e1 (hJ c (rb_ck hc (fun x hx => absurd hx.1 hm))))
theorem xw_rb12 (T : tt_ok L N sz sp og lo sa wk) {l : Nat} (hl : l < 5) (hB : ∀ s, s < 8 → bef s = ii_v (bf s)) (hb : ∀ s, s < 8 → -1000000 ≤ bf s ∧ bf s ≤ 1000000)
    (post : SX → Prop) (hp : ∀ rid' f', rb_f N sp og lo sa (fun s => bt b s = true) bf l (sz l) f0 0 f' → (∀ s, s < 8 → rid' s = ii_v (f' s)) → post (nI L, nI N, b, ar_n sz, ar_n sp, ar_n og, ar_n lo, ar_n sa, ar_n wk, rid', rea, bef)) :
    ∀ n (c : Int) (f : Nat → Int) (rid : Nat → Int32), n ≤ sz l → rb_c N sp og lo sa (fun s => bt b s = true) bf l (sz l) n c → rb_f N sp og lo sa (fun s => bt b s = true) bf l (sz l) f0 n f → (∀ s, s < 8 → rid s = ii_v (f s)) →
      wX_rideLineBack_12 post (nI l) (nI L) (nI N) b (n + 1) (ii_v c) (nI n - 1) (ar_n sz) (ar_n sp) (ar_n og) (ar_n lo) (ar_n sa) (ar_n wk) rid rea bef := by
  have hsz := tt_sz T l
  intro n
  induction n with
  | zero =>
    intro c f rid hi hc hf hr
    exact br_t (by decide) (hp rid f hf hr)
  | succ i ih =>
    intro c f rid hi hc hf hr
    have hi6 : i < 6 := by omega
    have hs := tt_sp T (l * 6 + i)
    have ho := tt_og T (l * 6 + i)
    obtain ⟨c1, c2, _⟩ := id hc
    have c5 := rb_c5 (tt_sa T) hc
    have hf1 := (hf _ hs).1
    rw [nI_pred]
    refine br_f (nI_pos (by omega)) ?_
    refine ⟨in_6 hl hi6, nm_r (ar_6 sp hl hi6) ⟨in_6 hl hi6, nm_r (e' := ii_v (c + (og (l * 6 + i) : Int))) (by rw [ar_6 og hl hi6, ii_n, ii_add]) ?_⟩⟩
    refine ii_le rfl ii_mM (by omega) (by omega) (fun h => ?_) (fun h => ⟨in_s hs, ?_⟩)
    · exact xw_rb71 T hl hi6 (by omega) hB hb hc post _ (fun c' hc' => ih c' f rid (by omega) hc' (rb_fk hc hf (fun z => by omega)) hr)
    · refine ii_le rfl (xw_rd hr hs) (by omega) (by omega) (fun h2 => ?_) (fun h2 => ⟨in_s hs, nm_e ?_⟩)
      · exact xw_rb71 T hl hi6 (by omega) hB hb hc post _ (fun c' hc' => ih c' f rid (by omega) hc' (rb_fk hc hf (fun _ => h2)) hr)
      · exact xw_rb71 T hl hi6 (by omega) hB hb hc post _ (fun c' hc' => ih c' _ _ (by omega) hc' (rb_fu ho c5 hc hf hs h h2) (xw_upd hr hs))
theorem xw_rb (T : tt_ok L N sz sp og lo sa wk) {l : Nat} (hl : l < 5) (hB : ∀ s, s < 8 → bef s = ii_v (bf s)) (hb : ∀ s, s < 8 → -1000000 ≤ bf s ∧ bf s ≤ 1000000) (hf : ∀ s, s < 8 → -1000000 ≤ f0 s ∧ f0 s ≤ 1000000) (hr : ∀ s, s < 8 → rid s = ii_v (f0 s))
    (post : SX → Prop) (hp : ∀ rid' f', rb_f N sp og lo sa (fun s => bt b s = true) bf l (sz l) f0 0 f' → (∀ s, s < 8 → rid' s = ii_v (f' s)) → post (nI L, nI N, b, ar_n sz, ar_n sp, ar_n og, ar_n lo, ar_n sa, ar_n wk, rid', rea, bef)) :
    wpX_rideLineBack post (nI L, nI N, b, ar_n sz, ar_n sp, ar_n og, ar_n lo, ar_n sa, ar_n wk, rid, rea, bef) (nI l) := by
  have h := xw_rb12 (rea := rea) T hl hB hb post hp (sz l) (-1000000) f0 rid (Nat.le_refl _) rb_c0 (rb_f0 hf) hr
  rw [← ii_mM] at h
  exact And.intro (in_l hl) (nm_r (e' := nI (sz l) - 1) (by rw [ar_at sz (by omega)]) ⟨_, h⟩)
theorem xw_pb98 (T : tt_ok L N sz sp og lo sa wk) {a : Nat} {t : Int} {k : Nat} {g : Nat → Int} (I : xb_I N sz sp og lo sa wk a t k b rea g) (hB : ∀ s, s < 8 → bef s = ii_v (g s)) (post : SX → Prop) (J43 : Int32 → Int32 → Int32 → Int32 → (Nat → Int32) → (Nat → Int32) → (Nat → Int32) → (Nat → Int32) → (Nat → Int32) → (Nat → Int32) → (Nat → Int32) → (Nat → Int32) → (Nat → Int32) → Prop)
    (hp : ∀ b' rid' rea' g', xb_I N sz sp og lo sa wk a t (k + 1) b' rea' g' → J43 (nI (k + 1)) (nI L) (nI N) b' (ar_n sz) (ar_n sp) (ar_n og) (ar_n lo) (ar_n sa) (ar_n wk) rid' rea' bef) :
    ∀ d l (rid : Nat → Int32) (f : Nat → Int), l + d = L → (∀ s, s < 8 → rid s = ii_v (f s)) → db_s N sz sp og lo sa (fun s => bt b s = true) g l f → wX_planBack_98 post J43 (nI k) (d + 1) (nI l) (nI L) (nI N) b (ar_n sz) (ar_n sp) (ar_n og) (ar_n lo) (ar_n sa) (ar_n wk) rid rea bef := by
  have hL := tt_L T
  intro d
  induction d with
  | zero =>
    intro l rid f hl hr hd
    have e : l = L := by omega
    refine br_t (nI_le (a := L) (b := l) (by omega) (by omega)) ?_
    exact xw_wb T hr (fun s hs => (hd s hs).1) I.1 I.2.1 _ (fun b' rea' g' h1 h2 h3 => nm_r (nI_1 k) (hp b' rid rea' g' (xb_S T I (e ▸ hd) h1 h2 h3)))
  | succ d ih =>
    intro l rid f hl hr hd
    refine br_f (nI_ge (by omega) (by omega)) ?_
    exact xw_rb T (by omega) hB I.2.1 (fun s hs => (hd s hs).1) hr _ (fun rid' f' h1 h2 => nm_r (nI_1 l) (ih (l + 1) rid' f' (by omega) h2 (db_S hd h1)))
theorem xw_pb59 (T : tt_ok L N sz sp og lo sa wk) {a : Nat} {t : Int} {k : Nat} {g : Nat → Int} (I : xb_I N sz sp og lo sa wk a t k b rea g) (post : SX → Prop) (J43 : Int32 → Int32 → Int32 → Int32 → (Nat → Int32) → (Nat → Int32) → (Nat → Int32) → (Nat → Int32) → (Nat → Int32) → (Nat → Int32) → (Nat → Int32) → (Nat → Int32) → (Nat → Int32) → Prop)
    (hp : ∀ b' rid' rea' bef' g', xb_I N sz sp og lo sa wk a t (k + 1) b' rea' g' → J43 (nI (k + 1)) (nI L) (nI N) b' (ar_n sz) (ar_n sp) (ar_n og) (ar_n lo) (ar_n sa) (ar_n wk) rid' rea' bef') :
    ∀ d s (rid bef : Nat → Int32), s + d = 8 → (∀ q, q < s → rid q = ii_v (-1000000) ∧ bef q = ii_v (g q)) → wX_planBack_59 post J43 (nI k) (nI L) (nI N) b (d + 1) (nI s) (ar_n sz) (ar_n sp) (ar_n og) (ar_n lo) (ar_n sa) (ar_n wk) rid rea bef := by
  intro d
  induction d with
  | zero =>
    intro s rid bef hs h
    refine br_t (nI_le (a := 8) (b := s) (by omega) (by omega)) ⟨L + 1, ?_⟩
    exact xw_pb98 T I (fun q hq => (h q (by omega)).2) post J43 (fun b' rid' rea' g' h1 => hp b' rid' rea' bef g' h1) L 0 rid (fun _ => -1000000) (by omega) (fun q hq => (h q (by omega)).1) db_0
  | succ d ih =>
    intro s rid bef hs h
    have hs8 : s < 8 := by omega
    refine br_f (nI_ge (b := 8) hs8 (by decide)) ⟨in_s hs8, in_s hs8, nm_e ⟨in_s hs8, nm_e (nm_r (nI_1 s) (ih (s + 1) _ _ (by omega) (fun q hq => ?_)))⟩⟩
    rw [nI_clamp (by omega)]
    by_cases e : q = s
    · rw [e, pk_us, pk_us]; exact ⟨ii_mM, I.1 s hs8⟩
    · rw [pk_un e, pk_un e]; exact h q (by omega)
theorem xw_pb43 (T : tt_ok L N sz sp og lo sa wk) {a : Nat} {t : Int} (post : SX → Prop) (hp : ∀ b' rid' rea' bef' g', xb_E N sz sp og lo sa wk a t 12 rea' g' → post (nI L, nI N, b', ar_n sz, ar_n sp, ar_n og, ar_n lo, ar_n sa, ar_n wk, rid', rea', bef')) :
    ∀ d k (b : Int32) (rid rea bef : Nat → Int32) (g : Nat → Int), k + d = 12 → xb_I N sz sp og lo sa wk a t k b rea g → wX_planBack_43 post (d + 1) (nI k) (nI L) (nI N) b (ar_n sz) (ar_n sp) (ar_n og) (ar_n lo) (ar_n sa) (ar_n wk) rid rea bef := by
  intro d
  induction d with
  | zero =>
    intro k b rid rea bef g hk I
    exact br_t (nI_le (a := 12) (b := k) (by omega) (by omega)) (hp b rid rea bef g (xb_stop T I (by omega) (Or.inr (by omega))))
  | succ d ih =>
    intro k b rid rea bef g hk I
    refine br_f (nI_ge (b := 12) (by omega) (by decide)) (br_c (fun hb => ?_) (fun hb => ⟨9, ?_⟩))
    · exact hp b rid rea bef g (xb_stop T I (by omega) (Or.inl hb))
    · exact xw_pb59 T I post _ (fun b' rid' rea' bef' g' I' => ih (k + 1) b' rid' rea' bef' g' (by omega) I') 8 0 rid bef (by omega) (fun q hq => absurd hq (Nat.not_lt_zero _))
theorem xw_pb2 (T : tt_ok L N sz sp og lo sa wk) {a : Nat} (ha : a < 8) {t : Int} (ht : 0 ≤ t ∧ t ≤ 1000) (post : SX → Prop) (hp : ∀ b' rid' rea' bef' g', xb_E N sz sp og lo sa wk a t 12 rea' g' → post (nI L, nI N, b', ar_n sz, ar_n sp, ar_n og, ar_n lo, ar_n sa, ar_n wk, rid', rea', bef')) :
    ∀ d s (rid rea : Nat → Int32), s + d = 8 → (∀ q, q < s → rid q = ii_v (-1000000) ∧ rea q = ii_v (-1000000)) → wX_planBack_2 post (nI a) (ii_v t) (nI L) (nI N) b (d + 1) (nI s) (ar_n sz) (ar_n sp) (ar_n og) (ar_n lo) (ar_n sa) (ar_n wk) rid rea bef := by
  intro d
  induction d with
  | zero =>
    intro s rid rea hs h
    refine br_t (nI_le (a := 8) (b := s) (by omega) (by omega)) ⟨in_s ha, nm_e ?_⟩
    refine xw_wb (f := fun q => if q = a then t else -1000000) (g := fun _ => -1000000) T (xw_upd (f := fun _ => -1000000) (fun q hq => (h q (by omega)).1) ha) (fun q hq => ?_) (fun q hq => (h q (by omega)).2) (fun q hq => ⟨by omega, by omega⟩) _ (fun b' rea' g' h1 h2 h3 => ⟨13, ?_⟩)
    · show -1000000 ≤ (if q = a then t else -1000000) ∧ (if q = a then t else -1000000) ≤ 1000000
      by_cases e : q = a
      · rw [if_pos e]; omega
      · rw [if_neg e]; omega
    · exact xw_pb43 T post hp 12 0 b' _ rea' bef g' (by omega) (xb_0 ha ht h1 h2 h3)
  | succ d ih =>
    intro s rid rea hs h
    have hs8 : s < 8 := by omega
    refine br_f (nI_ge (b := 8) hs8 (by decide)) ⟨in_s hs8, nm_e ⟨in_s hs8, nm_e (nm_r (nI_1 s) (ih (s + 1) _ _ (by omega) (fun q hq => ?_)))⟩⟩
    rw [nI_clamp (by omega)]
    by_cases e : q = s
    · rw [e, pk_us, pk_us]; exact ⟨ii_mM, ii_mM⟩
    · rw [pk_un e, pk_un e]; exact h q (by omega)
theorem xw_pb (T : tt_ok L N sz sp og lo sa wk) {a : Nat} (ha : a < 8) {t : Int} (ht : 0 ≤ t ∧ t ≤ 1000) (post : SX → Prop) (hp : ∀ b' rid' rea' bef' g', xb_E N sz sp og lo sa wk a t 12 rea' g' → post (nI L, nI N, b', ar_n sz, ar_n sp, ar_n og, ar_n lo, ar_n sa, ar_n wk, rid', rea', bef')) :
    wpX_planBack post (nI L, nI N, b, ar_n sz, ar_n sp, ar_n og, ar_n lo, ar_n sa, ar_n wk, rid, rea, bef) (nI a) (ii_v t) :=
  ⟨9, xw_pb2 T ha ht post hp 8 0 rid rea (by omega) (fun q hq => absurd hq (Nat.not_lt_zero _))⟩
end
end
section
/-! Y.walk, Y.ride -/
theorem in_104 {k s : Nat} (hk : k < 13) (hs : s < 8) : vp_in (nI k * 8 + nI s) 104 := pk_in (k * 8 + s) 104 (by omega) (ix_8 k s)
theorem ak_8 {k s : Nat} (hk : k < 13) (hs : s < 8) : (nI k * 8 + nI s).toNatClampNeg = k * 8 + s := by rw [ix_8, nI_clamp (by omega)]
section
variable {L N : Nat} {sz sp og lo sa wk : Nat → Nat} {off th : Nat → Int32} {f : Nat → Int}
theorem yw_wk32 (T : tt_ok L N sz sp og lo sa wk) {k s : Nat} (hk : k < 13) (hs : s < 8) (ho : ∀ u, u < 8 → off (k * 8 + u) = ii_v (f u)) (hf : ∀ u, u < 8 → 0 ≤ f u ∧ f u ≤ 100000) {th0 : Nat → Int32}
    (post : SY → Prop) (J2 : Int32 → (Nat → Int32) → (Nat → Int32) → (Nat → Int32) → (Nat → Int32) → (Nat → Int32) → (Nat → Int32) → (Nat → Int32) → (Nat → Int32) → Prop)
    (hJ : ∀ c th, wo_i wk f s 8 c → th (k * 8 + s) = ii_v c → (∀ j, j ≠ k * 8 + s → th j = th0 j) → J2 (nI (s + 1)) (ar_n sz) (ar_n sp) (ar_n og) (ar_n lo) (ar_n sa) (ar_n wk) off th) :
    ∀ d u (c : Int) (th : Nat → Int32), u + d = 8 → wo_i wk f s u c → th (k * 8 + s) = ii_v c → (∀ j, j ≠ k * 8 + s → th j = th0 j) → wY_walk_32 post J2 (nI k) (nI s) (nI L) (nI N) (d + 1) (nI u) (ar_n sz) (ar_n sp) (ar_n og) (ar_n lo) (ar_n sa) (ar_n wk) off th := by
  intro d
  induction d with
  | zero =>
    intro u c th hu hc ht hj
    have e : u = 8 := by omega
    exact br_t (nI_le (a := 8) (b := u) (by omega) (by omega)) (nm_r (nI_1 s) (hJ c th (e ▸ hc) ht hj))
  | succ d ih =>
    intro u c th hu hc ht hj
    have hu8 : u < 8 := by omega
    have hcb := wo_b hc hf hs (by omega)
    have hfu := hf u hu8
    have hw := tt_wk T (u * 8 + s)
    refine br_f (nI_ge (b := 8) hu8 (by decide)) ⟨in_8 hu8 hs, nm_r (ar_8 wk hu8 hs) ?_⟩
    have es : off (nI k * 8 + nI u).toNatClampNeg + nI (wk (u * 8 + s)) = ii_v (f u + (wk (u * 8 + s) : Int)) := by rw [ak_8 hk hu8, ho u hu8, ii_n, ii_add]
    have et : th (nI k * 8 + nI s).toNatClampNeg = ii_v c := by rw [ak_8 hk hs]; exact ht
    refine pk_le (wk (u * 8 + s)) 0 (fun h => ?_) (fun h => ⟨in_104 hk hu8, in_104 hk hs, ?_⟩)
    · exact nm_r (nI_1 u) (ih (u + 1) c th (by omega) (wo_skip hc (Or.inl (by omega))) ht hj)
    · refine ii_le et es (by omega) (by omega) (fun h3 => ?_) (fun h3 => ⟨in_104 hk hu8, in_104 hk hs, nm_e (nm_r (nI_1 u) (ih (u + 1) _ _ (by omega) (wo_take hc h h3) ?_ ?_))⟩)
      · exact nm_r (nI_1 u) (ih (u + 1) c th (by omega) (wo_skip hc (Or.inr h3)) ht hj)
      · rw [es, ak_8 hk hs, pk_us]
      · intro j hj2
        rw [ak_8 hk hs, pk_un hj2]
        exact hj j hj2
theorem yw_wk2 (T : tt_ok L N sz sp og lo sa wk) {k : Nat} (hk : k < 13) (ho : ∀ u, u < 8 → off (k * 8 + u) = ii_v (f u)) (hf : ∀ u, u < 8 → 0 ≤ f u ∧ f u ≤ 100000) {th0 : Nat → Int32}
    (post : SY → Prop) (hp : ∀ th, (∀ j, j < k * 8 → th j = th0 j) → (∀ q, q < 8 → ∃ c, th (k * 8 + q) = ii_v c ∧ wo_i wk f q 8 c) → post (nI L, nI N, ar_n sz, ar_n sp, ar_n og, ar_n lo, ar_n sa, ar_n wk, off, th)) :
    ∀ d s (th : Nat → Int32), s + d = 8 → (∀ j, j < k * 8 → th j = th0 j) → (∀ q, q < s → ∃ c, th (k * 8 + q) = ii_v c ∧ wo_i wk f q 8 c) → wY_walk_2 post (nI k) (nI L) (nI N) (d + 1) (nI s) (ar_n sz) (ar_n sp) (ar_n og) (ar_n lo) (ar_n sa) (ar_n wk) off th := by
  intro d
  induction d with
  | zero =>
    intro s th hs hj hq
    exact br_t (nI_le (a := 8) (b := s) (by omega) (by omega)) (hp th hj (fun q h => hq q (by omega)))
  | succ d ih =>
    intro s th hs hj hq
    have hs8 : s < 8 := by omega
    refine br_f (nI_ge (b := 8) hs8 (by decide)) ⟨in_104 hk hs8, in_104 hk hs8, nm_e ⟨9, ?_⟩⟩
    refine yw_wk32 (th0 := th) T hk hs8 ho hf post _ (fun c th' hc ht hj' => ?_) 8 0 (f s) _ (by omega) wo_0 ?_ ?_
    · refine ih (s + 1) th' (by omega) (fun j h => ?_) (fun q h => ?_)
      · rw [hj' j (by omega)]
        exact hj j h
      · by_cases e : q = s
        · rw [e]
          exact ⟨c, ht, hc⟩
        · rw [hj' (k * 8 + q) (by omega)]
          exact hq q (by omega)
    · rw [ak_8 hk hs8, pk_us]
      exact ho s hs8
    · intro j h
      rw [ak_8 hk hs8, pk_un h]
theorem yw_wk (T : tt_ok L N sz sp og lo sa wk) {k : Nat} (hk : k < 13) (ho : ∀ u, u < 8 → off (k * 8 + u) = ii_v (f u)) (hf : ∀ u, u < 8 → 0 ≤ f u ∧ f u ≤ 100000)
    (post : SY → Prop) (hp : ∀ th', (∀ j, j < k * 8 → th' j = th j) → (∀ q, q < 8 → ∃ c, th' (k * 8 + q) = ii_v c ∧ wo_i wk f q 8 c) → post (nI L, nI N, ar_n sz, ar_n sp, ar_n og, ar_n lo, ar_n sa, ar_n wk, off, th')) :
    wpY_walk post (nI L, nI N, ar_n sz, ar_n sp, ar_n og, ar_n lo, ar_n sa, ar_n wk, off, th) (nI k) :=
  ⟨9, yw_wk2 (th0 := th) T hk ho hf post hp 8 0 th (by omega) (fun _ _ => rfl) (fun q h => absurd h (Nat.not_lt_zero _))⟩
end
/-- what trip x, boarded at place i, brings up to place n -/
def yr_f (sp og lo sa : Nat → Nat) (x i : Nat) (f0 : Nat → Int) (n : Nat) (f : Nat → Int) : Prop := ∀ q, q < 8 → (0 ≤ f q ∧ f q ≤ 100000) ∧ ∀ z, f q ≤ z ↔ f0 q ≤ z ∨ ∃ j, i < j ∧ j < n ∧ sp (lo x * 6 + j) = q ∧ (sa x : Int) + (og (lo x * 6 + j) : Int) ≤ z
section
variable {sp og lo sa : Nat → Nat} {x i n : Nat} {f0 f : Nat → Int}
theorem yr_0 (h : ∀ u, u < 8 → 0 ≤ f0 u ∧ f0 u ≤ 100000) : yr_f sp og lo sa x i f0 (i + 1) f0 := by
  intro q hq
  refine ⟨h q hq, fun z => ⟨Or.inl, ?_⟩⟩
  rintro (h | ⟨j, h1, h2, _⟩)
  · exact h
  · omega
theorem yr_k (h : yr_f sp og lo sa x i f0 n f) (hk : f (sp (lo x * 6 + n)) ≤ (sa x : Int) + (og (lo x * 6 + n) : Int)) : yr_f sp og lo sa x i f0 (n + 1) f := by
  intro q hq
  obtain ⟨h1, h2⟩ := h q hq
  refine ⟨h1, fun z => ?_⟩
  rw [h2 z]
  constructor
  · rintro (r | ⟨j, r1, r2, r3⟩)
    · exact Or.inl r
    · exact Or.inr ⟨j, r1, by omega, r3⟩
  · rintro (r | ⟨j, r1, r2, r3, r4⟩)
    · exact Or.inl r
    · by_cases e : j = n
      · subst e
        rw [r3] at hk
        exact (h2 z).mp (by omega)
      · exact Or.inr ⟨j, r1, by omega, r3, r4⟩
theorem yr_u (hin : i < n) (h : yr_f sp og lo sa x i f0 n f) (hb : (sa x : Int) + (og (lo x * 6 + n) : Int) ≤ 100000) (hk : (sa x : Int) + (og (lo x * 6 + n) : Int) < f (sp (lo x * 6 + n))) : yr_f sp og lo sa x i f0 (n + 1) (fun q => if q = sp (lo x * 6 + n) then (sa x : Int) + (og (lo x * 6 + n) : Int) else f q) := by
  intro q hq
  obtain ⟨h1, h2⟩ := h q hq
  by_cases e : q = sp (lo x * 6 + n)
  · subst e
    simp only [if_true]
    refine ⟨by omega, fun z => ?_⟩
    constructor
    · intro hz
      exact Or.inr ⟨n, hin, by omega, rfl, hz⟩
    · rintro (r | ⟨j, r1, r2, r3, r4⟩)
      · have := (h2 z).mpr (Or.inl r)
        omega
      · by_cases e : j = n
        · subst e
          exact r4
        · have := (h2 z).mpr (Or.inr ⟨j, r1, by omega, r3, r4⟩)
          omega
  · simp only [if_neg e]
    refine ⟨h1, fun z => ?_⟩
    rw [h2 z]
    constructor
    · rintro (r | ⟨j, r1, r2, r3⟩)
      · exact Or.inl r
      · exact Or.inr ⟨j, r1, by omega, r3⟩
    · rintro (r | ⟨j, r1, r2, r3, r4⟩)
      · exact Or.inl r
      · by_cases e2 : j = n
        · subst e2
          exact absurd r3.symm e
        · exact Or.inr ⟨j, r1, by omega, r3, r4⟩
end
section
variable {L N : Nat} {sz sp og lo sa wk : Nat → Nat} {off th : Nat → Int32} {f0 h : Nat → Int}
theorem yw_row {a : Nat → Int32} {f : Nat → Int} {k : Nat} (hk : k < 13) (h : ∀ q, q < 8 → a (k * 8 + q) = ii_v (f q)) {s : Nat} {v : Int} (hs : s < 8) : ∀ q, q < 8 → upd a (nI (k * 8 + s)).toNatClampNeg (ii_v v) (k * 8 + q) = ii_v (if q = s then v else f q) := by
  intro q hq
  rw [nI_clamp (by omega)]
  by_cases e : q = s
  · rw [if_pos e, e, pk_us]
  · rw [if_neg e, pk_un (by omega), h q hq]
theorem yw_rd63 (T : tt_ok L N sz sp og lo sa wk) {k x i : Nat} (hk : k < 13) (hx : x < 12)
    (post : SY → Prop) (hp : ∀ off' f', yr_f sp og lo sa x i f0 (sz (lo x)) f' → (∀ q, q < 8 → off' (k * 8 + q) = ii_v (f' q)) → post (nI L, nI N, ar_n sz, ar_n sp, ar_n og, ar_n lo, ar_n sa, ar_n wk, off', th)) :
    ∀ d j (f : Nat → Int) (off : Nat → Int32), j + d = sz (lo x) → i < j → yr_f sp og lo sa x i f0 j f → (∀ q, q < 8 → off (k * 8 + q) = ii_v (f q)) → wY_ride_63 post (nI k) (nI x) (nI (lo x) * 6) 1 (nI L) (nI N) (d + 1) (nI j) (ar_n sz) (ar_n sp) (ar_n og) (ar_n lo) (ar_n sa) (ar_n wk) off th := by
  have hl := tt_lo T x
  have hsz := tt_sz T (lo x)
  have elo : ar_n lo (nI x).toNatClampNeg = nI (lo x) := ar_at lo (by omega)
  have esz : ar_n sz (ar_n lo (nI x).toNatClampNeg).toNatClampNeg = nI (sz (lo x)) := by rw [elo, ar_at sz (by omega)]
  have hlv : vp_in (ar_n lo (nI x).toNatClampNeg) 5 := by rw [elo]; exact in_l hl
  intro d
  induction d with
  | zero =>
    intro j f off hj hij hf ho
    have e : j = sz (lo x) := by omega
    exact br_f (by decide) ⟨in_x hx, hlv, br_t (by rw [esz, e]; exact Int32.le_refl _) (hp off f (e ▸ hf) ho)⟩
  | succ d ih =>
    intro j f off hj hij hf ho
    have hj6 : j < 6 := by omega
    have hs := tt_sp T (lo x * 6 + j)
    have hg := tt_og T (lo x * 6 + j)
    have ha := tt_sa T x
    have hfb := (hf _ hs).1
    refine br_f (by decide) ⟨in_x hx, hlv, br_f (by rw [esz]; exact nI_ge (by omega) (by omega)) ⟨in_6 hl hj6, nm_r (e' := nI (k * 8 + sp (lo x * 6 + j))) (by rw [ar_6 sp hl hj6, ix_8]) ⟨in_x hx, in_6 hl hj6, nm_r (ct_sum hx hl hj6) ⟨vp_in_nI (by omega) (by omega), ?_⟩⟩⟩⟩
    have er : off (nI (k * 8 + sp (lo x * 6 + j))).toNatClampNeg = ii_v (f (sp (lo x * 6 + j))) := by rw [nI_clamp (by omega)]; exact ho _ hs
    refine ii_le er rfl (by omega) (by omega) (fun h => ?_) (fun h => ⟨vp_in_nI (by omega) (by omega), nm_e ?_⟩)
    · exact nm_r (nI_1 j) (ih (j + 1) f off (by omega) (by omega) (yr_k hf h) ho)
    · exact nm_r (nI_1 j) (ih (j + 1) _ _ (by omega) (by omega) (yr_u hij hf (by omega) h) (yw_row hk ho hs))
theorem yw_rd (T : tt_ok L N sz sp og lo sa wk) {k x i : Nat} (hk : k + 1 < 13) (hx : x < 12) (hi : i < sz (lo x)) (ho : ∀ q, q < 8 → off ((k + 1) * 8 + q) = ii_v (f0 q)) (hf : ∀ q, q < 8 → 0 ≤ f0 q ∧ f0 q ≤ 100000) (ht : ∀ q, q < 8 → th (k * 8 + q) = ii_v (h q)) (hh : ∀ q, q < 8 → 0 ≤ h q ∧ h q ≤ 100000)
    (post : SY → Prop) (hp : ∀ (off' : Nat → Int32) (f' : Nat → Int), (∀ q, q < 8 → (0 ≤ f' q ∧ f' q ≤ 100000) ∧ ∀ z, f' q ≤ z ↔ f0 q ≤ z ∨ (h (sp (lo x * 6 + i)) ≤ (sa x : Int) + (og (lo x * 6 + i) : Int) ∧ ∃ j, i < j ∧ j < sz (lo x) ∧ sp (lo x * 6 + j) = q ∧ (sa x : Int) + (og (lo x * 6 + j) : Int) ≤ z)) → (∀ q, q < 8 → off' ((k + 1) * 8 + q) = ii_v (f' q)) → post (nI L, nI N, ar_n sz, ar_n sp, ar_n og, ar_n lo, ar_n sa, ar_n wk, off', th)) :
    wpY_ride post (nI L, nI N, ar_n sz, ar_n sp, ar_n og, ar_n lo, ar_n sa, ar_n wk, off, th) (nI (k + 1)) (nI x) (nI i) := by
  have hl := tt_lo T x
  have hsz := tt_sz T (lo x)
  have hi6 : i < 6 := by omega
  have hs := tt_sp T (lo x * 6 + i)
  have hg := tt_og T (lo x * 6 + i)
  have ha := tt_sa T x
  have hhb := hh _ hs
  have e1 : (nI (k + 1) - 1) * 8 + ar_n sp (nI (lo x) * 6 + nI i).toNatClampNeg = nI (k * 8 + sp (lo x * 6 + i)) := by rw [nI_pred, ar_6 sp hl hi6, ix_8]
  refine And.intro (in_x hx) (nm_r (e' := nI (lo x) * 6) (by rw [ar_at lo (by omega)]) ⟨in_6 hl hi6, pk_in (k * 8 + sp (lo x * 6 + i)) 104 (by omega) e1, in_x hx, in_6 hl hi6, ?_⟩)
  refine ii_lt (ct_sum hx hl hi6) (b := h (sp (lo x * 6 + i))) (by rw [e1, nI_clamp (by omega)]; exact ht _ hs) (by omega) (by omega) (fun q => ?_) (fun q => ?_)
  · refine nm_r (nI_1 i) ⟨1, br_t rfl (hp off f0 (fun r hr => ⟨hf r hr, fun z => ⟨Or.inl, ?_⟩⟩) ho)⟩
    rintro (w | ⟨w, _⟩)
    · exact w
    · omega
  · refine nm_r (nI_1 i) ⟨_, yw_rd63 (i := i) (f0 := f0) T hk hx post (fun off' f' h1 h2 => hp off' f' (fun r hr => ⟨(h1 r hr).1, fun z => ?_⟩) h2) (sz (lo x) - (i + 1)) (i + 1) f0 off (by omega) (by omega) (yr_0 hf) ho⟩
    rw [(h1 r hr).2 z]
    constructor
    · rintro (w | w)
      · exact Or.inl w
      · exact Or.inr ⟨q, w⟩
    · rintro (w | ⟨_, w⟩)
      · exact Or.inl w
      · exact Or.inr w
end
end
section
/-! Y.search, Y.best -/
/-- row k of Y's table after a search from a at t -/
def ys_R (N : Nat) (sz sp og lo sa wk : Nat → Nat) (a : Nat) (t : Int) (th : Nat → Int32) (k : Nat) : Prop := ∀ v, v < 8 → (0 ≤ (th (k * 8 + v)).toInt ∧ (th (k * 8 + v)).toInt ≤ 100000) ∧ ∀ z, z < 100000 → ((th (k * 8 + v)).toInt ≤ z ↔ jr_C (tt_W wk) (tt_R N sz sp og lo sa) k a t v z)
/-- what the boardings below m bring -/
def ys_f (sz sp og lo sa : Nat → Nat) (h : Nat → Int) (m : Nat) (f : Nat → Int) : Prop := ∀ q, q < 8 → (0 ≤ f q ∧ f q ≤ 100000) ∧ ∀ z, z < 100000 → (f q ≤ z ↔ ∃ x i j, x * 6 + i < m ∧ i < 6 ∧ i < j ∧ j < sz (lo x) ∧ h (sp (lo x * 6 + i)) ≤ (sa x : Int) + (og (lo x * 6 + i) : Int) ∧ sp (lo x * 6 + j) = q ∧ (sa x : Int) + (og (lo x * 6 + j) : Int) ≤ z)
theorem ii_self (x : Int32) : x = ii_v x.toInt := (Int32.ofInt_toInt x).symm
section
variable {L N : Nat} {sz sp og lo sa wk : Nat → Nat} {off th : Nat → Int32} {f f' h : Nat → Int} {m : Nat} {a : Nat} {t : Int}
theorem ys_0 : ys_f sz sp og lo sa h 0 (fun _ => 100000) := by
  intro q hq
  dsimp only
  refine ⟨⟨by omega, by omega⟩, fun z hz => ⟨fun h => by omega, ?_⟩⟩
  rintro ⟨x, i, j, h, _⟩
  omega
theorem ys_k (hf : ys_f sz sp og lo sa h m f) (hk : sz (lo (m / 6)) ≤ m % 6) : ys_f sz sp og lo sa h (m + 1) f := by
  intro q hq
  obtain ⟨h1, h2⟩ := hf q hq
  refine ⟨h1, fun z hz => ?_⟩
  rw [h2 z hz]
  constructor
  · rintro ⟨x, i, j, r1, r⟩
    exact ⟨x, i, j, by omega, r⟩
  · rintro ⟨x, i, j, r1, r2, r3, r4, r⟩
    by_cases e : x * 6 + i = m
    · exfalso
      have e1 : m / 6 = x := by omega
      have e2 : m % 6 = i := by omega
      rw [e1, e2] at hk
      omega
    · exact ⟨x, i, j, by omega, r2, r3, r4, r⟩
theorem ys_u (hf : ys_f sz sp og lo sa h m f) (hu : ∀ q, q < 8 → (0 ≤ f' q ∧ f' q ≤ 100000) ∧ ∀ z, f' q ≤ z ↔ f q ≤ z ∨ (h (sp (lo (m / 6) * 6 + m % 6)) ≤ (sa (m / 6) : Int) + (og (lo (m / 6) * 6 + m % 6) : Int) ∧ ∃ j, m % 6 < j ∧ j < sz (lo (m / 6)) ∧ sp (lo (m / 6) * 6 + j) = q ∧ (sa (m / 6) : Int) + (og (lo (m / 6) * 6 + j) : Int) ≤ z)) : ys_f sz sp og lo sa h (m + 1) f' := by
  intro q hq
  obtain ⟨h1, h2⟩ := hf q hq
  obtain ⟨u1, u2⟩ := hu q hq
  refine ⟨u1, fun z hz => ?_⟩
  rw [u2 z, h2 z hz]
  constructor
  · rintro (⟨x, i, j, r1, r⟩ | ⟨r1, j, r⟩)
    · exact ⟨x, i, j, by omega, r⟩
    · obtain ⟨r2, r3, r4, r5⟩ := r
      exact ⟨m / 6, m % 6, j, by omega, by omega, r2, r3, r1, r4, r5⟩
  · rintro ⟨x, i, j, r1, r2, r3, r4, r5, r6, r7⟩
    by_cases e : x * 6 + i = m
    · have e1 : m / 6 = x := by omega
      have e2 : m % 6 = i := by omega
      rw [e1, e2]
      exact Or.inr ⟨r5, j, r3, r4, r6, r7⟩
    · exact Or.inl ⟨x, i, j, by omega, r2, r3, r4, r5, r6, r7⟩
theorem ys_e (T : tt_ok L N sz sp og lo sa wk) (hf : ys_f sz sp og lo sa h (N * 6) f) {q : Nat} (hq : q < 8) {z : Int} (hz : z < 100000) : f q ≤ z ↔ ∃ u, u < 8 ∧ tt_R N sz sp og lo sa u (h u) q z := by
  rw [(hf q hq).2 z hz]
  constructor
  · rintro ⟨x, i, j, r1, r2, r3, r4, r5, r6, r7⟩
    exact ⟨_, tt_sp T _, x, i, j, by omega, r3, r4, rfl, r5, r6, r7⟩
  · rintro ⟨u, hu, x, i, j, r1, r2, r3, r4, r5, r6, r7⟩
    subst r4
    have := tt_sz T (lo x)
    exact ⟨x, i, j, by omega, by omega, r2, r3, r5, r6, r7⟩
theorem ys_row0 (ha : a < 8) (ht : 0 ≤ t ∧ t ≤ 1000) (hw : ∀ q, q < 8 → ∃ c, th (0 * 8 + q) = ii_v c ∧ wo_i wk (fun q => if q = a then t else 100000) q 8 c) : ys_R N sz sp og lo sa wk a t th 0 := by
  intro v hv
  obtain ⟨c, e, hc⟩ := hw v hv
  have hb := wo_b (F := 100000) hc (fun q _ => by
    show 0 ≤ (if q = a then t else 100000) ∧ (if q = a then t else 100000) ≤ 100000
    by_cases e : q = a
    · rw [if_pos e]; omega
    · rw [if_neg e]; omega) hv (by omega)
  rw [e, ii_t (by omega)]
  refine ⟨hb, fun z hz => ?_⟩
  rw [wo_e hc hv z]
  constructor
  · rintro ⟨u, hu, q⟩
    have := tt_Wt _ _ _ _ q
    by_cases e : u = a
    · subst e
      rw [if_pos rfl] at q
      exact q
    · rw [if_neg e] at this
      omega
  · intro q
    refine ⟨a, ha, ?_⟩
    rw [if_pos rfl]
    exact q
theorem ys_rowS (T : tt_ok L N sz sp og lo sa wk) {k : Nat} (hk : ys_R N sz sp og lo sa wk a t th k) {th' : Nat → Int32} (hf : ys_f sz sp og lo sa (fun q => (th (k * 8 + q)).toInt) (N * 6) f) (hw : ∀ q, q < 8 → ∃ c, th' ((k + 1) * 8 + q) = ii_v c ∧ wo_i wk f q 8 c) : ys_R N sz sp og lo sa wk a t th' (k + 1) := by
  intro v hv
  obtain ⟨c, e, hc⟩ := hw v hv
  have hb := wo_b (F := 100000) hc (fun q hq => (hf q hq).1) hv (by omega)
  rw [e, ii_t (by omega)]
  refine ⟨hb, fun z hz => ?_⟩
  rw [wo_e hc hv z]
  constructor
  · rintro ⟨x, hx, q⟩
    have h1 := tt_Wt _ _ _ _ q
    obtain ⟨u, hu, hR⟩ := (ys_e T hf hx (z := f x) (by omega)).mp (Int.le_refl _)
    have h2 := tt_Rt T _ _ _ _ hR
    exact jr_succ hu hx (((hk u hu).2 _ (by omega)).mp (Int.le_refl _)) hR q
  · rintro ⟨u, y, x, w, hu, hx, hC, hR, q⟩
    have h1 := tt_Wt _ _ _ _ q
    have h2 := tt_Rt T _ _ _ _ hR
    have h3 := ((hk u hu).2 y (by omega)).mpr hC
    have h4 := (ys_e T hf hx (z := w) (by omega)).mpr ⟨u, hu, tt_Rm _ _ _ _ _ _ hR h3 (Int.le_refl _)⟩
    exact ⟨x, hx, tt_Wm _ _ _ _ _ _ q h4 (Int.le_refl _)⟩
end
section
variable {L N : Nat} {sz sp og lo sa wk : Nat → Nat} {off th : Nat → Int32} {a : Nat} {t : Int}
theorem yw_se83 (T : tt_ok L N sz sp og lo sa wk) {k K : Nat} (hk : k + 1 < 13) (hR : ∀ j, j ≤ k → ys_R N sz sp og lo sa wk a t th j)
    (post : SY → Prop) (J43 : Int32 → Int32 → Int32 → (Nat → Int32) → (Nat → Int32) → (Nat → Int32) → (Nat → Int32) → (Nat → Int32) → (Nat → Int32) → (Nat → Int32) → (Nat → Int32) → Prop)
    (hJ : ∀ off' th', (∀ j, j ≤ k + 1 → ys_R N sz sp og lo sa wk a t th' j) → J43 (nI (k + 1 + 1)) (nI L) (nI N) (ar_n sz) (ar_n sp) (ar_n og) (ar_n lo) (ar_n sa) (ar_n wk) off' th') :
    ∀ d m (f : Nat → Int) (off : Nat → Int32), m + d = N * 6 → ys_f sz sp og lo sa (fun q => (th (k * 8 + q)).toInt) m f → (∀ q, q < 8 → off ((k + 1) * 8 + q) = ii_v (f q)) → wY_search_83 post J43 (nI K) (nI (k + 1)) (d + 1) (nI m) (nI L) (nI N) (ar_n sz) (ar_n sp) (ar_n og) (ar_n lo) (ar_n sa) (ar_n wk) off th := by
  have hN := tt_N T
  have eN : nI N * 6 = nI (N * 6) := pk_mul N 6
  intro d
  induction d with
  | zero =>
    intro m f off hm hf ho
    have e : m = N * 6 := by omega
    have hf' : ys_f sz sp og lo sa (fun q => (th (k * 8 + q)).toInt) (N * 6) f := e ▸ hf
    refine br_t (by rw [eN]; exact nI_le (by omega) (by omega)) ?_
    refine yw_wk T hk ho (fun q hq => (hf q hq).1) _ (fun th' h1 h2 => nm_r (nI_1 (k + 1)) (hJ off th' (fun j hj => ?_)))
    by_cases e : j = k + 1
    · rw [e]
      exact ys_rowS T (hR k (Nat.le_refl _)) hf' h2
    · intro v hv
      rw [h1 (j * 8 + v) (by omega)]
      exact hR j (by omega) v hv
  | succ d ih =>
    intro m f off hm hf ho
    have e1 : nI m / 6 = nI (m / 6) := pk_div (d := 6) (by omega) (by omega) (by omega)
    have e2 : nI m - nI m / 6 * 6 = nI (m % 6) := pk_rem (d := 6) (by omega) (by omega) (by omega)
    have hx : m / 6 < 12 := by omega
    have hl := tt_lo T (m / 6)
    have hsz := tt_sz T (lo (m / 6))
    have elo : ar_n lo (nI m / 6).toNatClampNeg = nI (lo (m / 6)) := by rw [e1, ar_at lo (by omega)]
    refine br_f (by rw [eN]; exact nI_ge (by omega) (by omega)) ⟨by decide, by decide, pk_in (m / 6) 12 hx e1, by rw [elo]; exact in_l hl, ?_⟩
    refine pk_le (sz (lo (m / 6))) (m % 6) (fun h => ?_) (fun h => ⟨by decide, by decide, ?_⟩) (by rw [elo, ar_at sz (by omega)]) e2
    · exact nm_r (nI_1 m) (ih (m + 1) f off (by omega) (ys_k hf h) ho)
    · rw [e2, e1]
      refine yw_rd T hk hx h ho (fun q hq => (hf q hq).1) (fun q hq => ii_self _) (fun q hq => (hR k (Nat.le_refl _) q hq).1) _ (fun off' f' h1 h2 => nm_r (nI_1 m) (ih (m + 1) f' off' (by omega) (ys_u hf h1) h2))
theorem yw_se52 (T : tt_ok L N sz sp og lo sa wk) {k K : Nat} (hk : k + 1 < 13) (hR : ∀ j, j ≤ k → ys_R N sz sp og lo sa wk a t th j)
    (post : SY → Prop) (J43 : Int32 → Int32 → Int32 → (Nat → Int32) → (Nat → Int32) → (Nat → Int32) → (Nat → Int32) → (Nat → Int32) → (Nat → Int32) → (Nat → Int32) → (Nat → Int32) → Prop)
    (hJ : ∀ off' th', (∀ j, j ≤ k + 1 → ys_R N sz sp og lo sa wk a t th' j) → J43 (nI (k + 1 + 1)) (nI L) (nI N) (ar_n sz) (ar_n sp) (ar_n og) (ar_n lo) (ar_n sa) (ar_n wk) off' th') :
    ∀ d s (off : Nat → Int32), s + d = 8 → (∀ q, q < s → off ((k + 1) * 8 + q) = ii_v 100000) → wY_search_52 post J43 (nI K) (nI (k + 1)) (nI L) (nI N) (d + 1) (nI s) (ar_n sz) (ar_n sp) (ar_n og) (ar_n lo) (ar_n sa) (ar_n wk) off th := by
  intro d
  induction d with
  | zero =>
    intro s off hs h
    refine br_t (nI_le (a := 8) (b := s) (by omega) (by omega)) ⟨N * 6 + 1, ?_⟩
    exact yw_se83 T hk hR post J43 hJ (N * 6) 0 (fun _ => 100000) off (by omega) ys_0 (fun q hq => h q (by omega))
  | succ d ih =>
    intro s off hs h
    have hs8 : s < 8 := by omega
    refine br_f (nI_ge (b := 8) hs8 (by decide)) ⟨in_104 hk hs8, nm_e (nm_r (nI_1 s) (ih (s + 1) _ (by omega) (fun q hq => ?_)))⟩
    rw [ak_8 hk hs8]
    by_cases e : q = s
    · rw [e, pk_us]; exact ii_H
    · rw [pk_un (by omega)]; exact h q (by omega)
theorem yw_se43 (T : tt_ok L N sz sp og lo sa wk) {K : Nat} (hK : K < 13) (post : SY → Prop) (hp : ∀ off' th', (∀ j, j ≤ K → ys_R N sz sp og lo sa wk a t th' j) → post (nI L, nI N, ar_n sz, ar_n sp, ar_n og, ar_n lo, ar_n sa, ar_n wk, off', th')) :
    ∀ d k (off th : Nat → Int32), k + d = K → (∀ j, j ≤ k → ys_R N sz sp og lo sa wk a t th j) → wY_search_43 post (nI K) (d + 1) (nI (k + 1)) (nI L) (nI N) (ar_n sz) (ar_n sp) (ar_n og) (ar_n lo) (ar_n sa) (ar_n wk) off th := by
  intro d
  induction d with
  | zero =>
    intro k off th hk hR
    have e : k = K := by omega
    exact br_t (nI_lt (by omega) (by omega)) (hp off th (fun j hj => hR j (by omega)))
  | succ d ih =>
    intro k off th hk hR
    refine br_f (nI_nlt (by omega) (by omega)) ⟨9, ?_⟩
    exact yw_se52 T (by omega) hR post _ (fun off' th' h => ih (k + 1) off' th' (by omega) h) 8 0 off (by omega) (fun q hq => absurd hq (Nat.not_lt_zero _))
theorem yw_se3 (T : tt_ok L N sz sp og lo sa wk) {K : Nat} (hK : K < 13) (ha : a < 8) (ht : 0 ≤ t ∧ t ≤ 1000) (post : SY → Prop) (hp : ∀ off' th', (∀ j, j ≤ K → ys_R N sz sp og lo sa wk a t th' j) → post (nI L, nI N, ar_n sz, ar_n sp, ar_n og, ar_n lo, ar_n sa, ar_n wk, off', th')) :
    ∀ d s (off : Nat → Int32), s + d = 8 → (∀ q, q < s → off q = ii_v (if q = a then t else 100000)) → wY_search_3 post (nI a) (ii_v t) (nI K) (nI L) (nI N) (d + 1) (nI s) (ar_n sz) (ar_n sp) (ar_n og) (ar_n lo) (ar_n sa) (ar_n wk) off th := by
  intro d
  induction d with
  | zero =>
    intro s off hs h
    refine br_t (nI_le (a := 8) (b := s) (by omega) (by omega)) ?_
    refine yw_wk (k := 0) (f := fun q => if q = a then t else 100000) T (by omega) (fun q hq => ?_) (fun q hq => ?_) _ (fun th' h1 h2 => ⟨K + 1, ?_⟩)
    · rw [Nat.zero_mul, Nat.zero_add]
      exact h q (by omega)
    · show 0 ≤ (if q = a then t else 100000) ∧ (if q = a then t else 100000) ≤ 100000
      by_cases e : q = a
      · rw [if_pos e]; omega
      · rw [if_neg e]; omega
    · refine yw_se43 T hK post hp K 0 off th' (by omega) (fun j hj => ?_)
      have e : j = 0 := by omega
      rw [e]
      exact ys_row0 ha ht h2
  | succ d ih =>
    intro s off hs h
    have hs8 : s < 8 := by omega
    refine br_f (nI_ge (b := 8) hs8 (by decide)) (pk_eq s a (fun e => ⟨vp_in_nI (by omega) (by omega), nm_e (nm_r (nI_1 s) (ih (s + 1) _ (by omega) (fun q hq => ?_)))⟩) (fun e => ⟨vp_in_nI (by omega) (by omega), nm_e (nm_r (nI_1 s) (ih (s + 1) _ (by omega) (fun q hq => ?_)))⟩))
    · rw [nI_clamp (by omega)]
      by_cases e2 : q = s
      · rw [e2, pk_us, if_pos e]
      · rw [pk_un e2]; exact h q (by omega)
    · rw [nI_clamp (by omega)]
      by_cases e2 : q = s
      · rw [e2, pk_us, if_neg e]; exact ii_H
      · rw [pk_un e2]; exact h q (by omega)
theorem yw_se (T : tt_ok L N sz sp og lo sa wk) {K : Nat} (hK : K < 13) (ha : a < 8) (ht : 0 ≤ t ∧ t ≤ 1000) (post : SY → Prop) (hp : ∀ off' th', (∀ j, j ≤ K → ys_R N sz sp og lo sa wk a t th' j) → post (nI L, nI N, ar_n sz, ar_n sp, ar_n og, ar_n lo, ar_n sa, ar_n wk, off', th')) :
    wpY_search post (nI L, nI N, ar_n sz, ar_n sp, ar_n og, ar_n lo, ar_n sa, ar_n wk, off, th) (nI a) (ii_v t) (nI K) :=
  ⟨9, yw_se3 T hK ha ht post hp 8 0 off (by omega) (fun q hq => absurd hq (Nat.not_lt_zero _))⟩
/-- Y's best of stop v with at most K rides -/
def yb_E (N : Nat) (sz sp og lo sa wk : Nat → Nat) (a : Nat) (t : Int) (v K : Nat) (c : Int) : Prop := 0 ≤ c ∧ c ≤ 100000 ∧ ∀ z, z < 100000 → (c ≤ z ↔ jr_P (tt_W wk) (tt_R N sz sp og lo sa) K a t v z)
theorem yw_be6 {v K : Nat} (hK : K < 13) (hv : v < 8) (hR : ∀ j, j ≤ K → ys_R N sz sp og lo sa wk a t th j) (post : Int32 → Prop) (hp : ∀ c, yb_E N sz sp og lo sa wk a t v K c → post (ii_v c)) :
    ∀ d k (c : Int), k + d = K + 1 → 0 ≤ c ∧ c ≤ 100000 → (∀ z, z < 100000 → (c ≤ z ↔ jr_Q (tt_W wk) (tt_R N sz sp og lo sa) k a t v z)) → wY_best_6 post (nI v) (nI K) (nI L) (nI N) (ar_n sz) (ar_n sp) (ar_n og) (ar_n lo) (ar_n sa) (ar_n wk) off th (d + 1) (ii_v c) (nI k) := by
  intro d
  induction d with
  | zero =>
    intro k c hk hc hq
    refine br_t (nI_lt (by omega) (by omega)) (hp c ⟨hc.1, hc.2, fun z hz => ?_⟩)
    rw [hq z hz]
    constructor
    · rintro ⟨j, hj, r⟩; exact ⟨j, by omega, r⟩
    · rintro ⟨j, hj, r⟩; exact ⟨j, by omega, r⟩
  | succ d ih =>
    intro k c hk hc hq
    obtain ⟨b1, b2⟩ := hR k (by omega) v hv
    have er : th (nI k * 8 + nI v).toNatClampNeg = ii_v (th (k * 8 + v)).toInt := by rw [ak_8 (by omega) hv]; exact ii_self _
    refine br_f (nI_nlt (by omega) (by omega)) ⟨in_104 (by omega) hv, ?_⟩
    refine ii_le rfl er (by omega) (by omega) (fun h => ?_) (fun h => ⟨in_104 (by omega) hv, nm_r er ?_⟩)
    · refine nm_r (nI_1 k) (ih (k + 1) c (by omega) hc (fun z hz => ?_))
      rw [hq z hz]
      constructor
      · rintro ⟨j, hj, r⟩; exact ⟨j, by omega, r⟩
      · rintro ⟨j, hj, r⟩
        by_cases e : j = k
        · subst e
          have := (b2 z hz).mpr r
          exact (hq z hz).mp (by omega)
        · exact ⟨j, by omega, r⟩
    · refine nm_r (nI_1 k) (ih (k + 1) _ (by omega) b1 (fun z hz => ?_))
      rw [b2 z hz]
      constructor
      · intro r; exact ⟨k, by omega, r⟩
      · rintro ⟨j, hj, r⟩
        by_cases e : j = k
        · subst e
          exact r
        · have := (hq z hz).mpr ⟨j, by omega, r⟩
          exact (b2 z hz).mp (by omega)
theorem yw_be {v K : Nat} (hK : K < 13) (hv : v < 8) (hR : ∀ j, j ≤ K → ys_R N sz sp og lo sa wk a t th j) (post : Int32 → Prop) (hp : ∀ c, yb_E N sz sp og lo sa wk a t v K c → post (ii_v c)) :
    wpY_best post (nI L, nI N, ar_n sz, ar_n sp, ar_n og, ar_n lo, ar_n sa, ar_n wk, off, th) (nI v) (nI K) :=
  ⟨K + 1 + 1, by
    have h := yw_be6 (L := L) (off := off) hK hv hR post hp (K + 1) 0 100000 (by omega) (by omega) (fun z hz => ⟨fun h => by omega, fun ⟨j, hj, _⟩ => absurd hj (Nat.not_lt_zero _)⟩)
    rw [← ii_H] at h
    exact h⟩
end
end
section
/-! the plain methods: line, extend, trip, footpath, delay -/
def fu_ (f : Nat → Nat) (k v : Nat) : Nat → Nat := fun j => if j = k then v else f j
theorem fu_s {f : Nat → Nat} {k v : Nat} : fu_ f k v k = v := if_pos rfl
theorem fu_n {f : Nat → Nat} {k v j : Nat} (h : j ≠ k) : fu_ f k v j = f j := if_neg h
theorem fu_a {f : Nat → Nat} {k v : Nat} {P : Nat → Prop} (h1 : P v) {j : Nat} (h2 : P (f j)) : P (fu_ f k v j) := by
  by_cases e : j = k
  · subst e; rw [fu_s]; exact h1
  · rw [fu_n e]; exact h2
theorem fu_up {f : Nat → Nat} {k v : Nat} {x y : Int32} (hx : x = nI k) (hy : y = nI v) (hk : k < 2 ^ 31) : upd (ar_n f) x.toNatClampNeg y = ar_n (fu_ f k v) := by
  rw [hx, hy, nI_clamp hk, ar_up]
  rfl
theorem bs_ix (v : Int32) : (v < 0 ∨ (8 : Int32) ≤ v) ∨ ∃ j : Nat, j < 8 ∧ v = nI j := by
  rcases pk_ix v (n := 8) (by omega) with h | h | h
  · exact Or.inl (Or.inl h)
  · exact Or.inl (Or.inr h)
  · exact Or.inr h
theorem xw_bst {post : Int32 → Prop} {j : Nat} (h : j < 8) (hp : post 0) : wpX_badStop post (nI j) := br_f (nI_pos (by omega)) (br_t (nI_lt (b := 8) h (by decide)) hp)
theorem xw_bsf {post : Int32 → Prop} {v : Int32} (h : v < 0 ∨ (8 : Int32) ≤ v) (hp : post 1) : wpX_badStop post v :=
  br_c (fun _ => hp) (fun h0 => br_f (Int32.not_lt.mpr (h.elim (fun z => absurd z h0) id)) hp)
section
variable {L N : Nat} {sz sp og lo sa wk : Nat → Nat} {b : Int32} {rid rea bef off th : Nat → Int32}
theorem yw_ist {post : Int32 → Prop} {j : Nat} (h : j < 8) (hp : post 1) : wpY_isStop post (nI L, nI N, ar_n sz, ar_n sp, ar_n og, ar_n lo, ar_n sa, ar_n wk, off, th) (nI j) := br_f (nI_pos (by omega)) (br_f (nI_ge (b := 8) h (by decide)) hp)
theorem yw_isf {post : Int32 → Prop} {v : Int32} (h : v < 0 ∨ (8 : Int32) ≤ v) (hp : post 0) : wpY_isStop post (nI L, nI N, ar_n sz, ar_n sp, ar_n og, ar_n lo, ar_n sa, ar_n wk, off, th) v :=
  br_c (fun _ => hp) (fun h0 => br_t (h.elim (fun z => absurd z h0) id) hp)
theorem xw_blt {post : Int32 → Prop} {l : Nat} (hL : L ≤ 5) (h : l < L) (hp : post 0) : wpX_badLine post (nI L, nI N, b, ar_n sz, ar_n sp, ar_n og, ar_n lo, ar_n sa, ar_n wk, rid, rea, bef) (nI l) := br_f (nI_pos (by omega)) (br_t (nI_lt h (by omega)) hp)
theorem xw_blf {post : Int32 → Prop} {v : Int32} (h : v < 0 ∨ nI L ≤ v) (hp : post 1) : wpX_badLine post (nI L, nI N, b, ar_n sz, ar_n sp, ar_n og, ar_n lo, ar_n sa, ar_n wk, rid, rea, bef) v :=
  br_c (fun _ => hp) (fun h0 => br_f (Int32.not_lt.mpr (h.elim (fun z => absurd z h0) id)) hp)
theorem yw_ilt {post : Int32 → Prop} {l : Nat} (hL : L ≤ 5) (h : l < L) (hp : post 1) : wpY_isLine post (nI L, nI N, ar_n sz, ar_n sp, ar_n og, ar_n lo, ar_n sa, ar_n wk, off, th) (nI l) := br_f (nI_pos (by omega)) (br_f (nI_ge h (by omega)) hp)
theorem yw_ilf {post : Int32 → Prop} {v : Int32} (h : v < 0 ∨ nI L ≤ v) (hp : post 0) : wpY_isLine post (nI L, nI N, ar_n sz, ar_n sp, ar_n og, ar_n lo, ar_n sa, ar_n wk, off, th) v :=
  br_c (fun _ => hp) (fun h0 => br_t (h.elim (fun z => absurd z h0) id) hp)
theorem bl_ix (v : Int32) (hL : L ≤ 5) : (v < 0 ∨ nI L ≤ v) ∨ ∃ j : Nat, j < L ∧ v = nI j := by
  rcases pk_ix v (n := L) (by omega) with h | h | h
  · exact Or.inl (Or.inl h)
  · exact Or.inl (Or.inr h)
  · exact Or.inr h
theorem tt_line (T : tt_ok L N sz sp og lo sa wk) (hL : L < 5) {j : Nat} (hj : j < 8) : tt_ok (L + 1) N (fu_ sz L 1) (fu_ sp (L * 6) j) (fu_ og (L * 6) 0) lo sa wk := by
  obtain ⟨⟨h1, h2⟩, h3, h4, h5, h6⟩ := T
  refine ⟨⟨by omega, h2⟩, fun q => ?_, fun l hl => ?_, fun l i hl hi => ?_, fun x hx => by have := h6 x hx; omega⟩
  · obtain ⟨q1, q2, q3, q4⟩ := h3 q
    exact ⟨fu_a (P := fun z => z ≤ 6) (by omega) q1, fu_a (P := fun z => z < 8) hj q2, fu_a (P := fun z => z ≤ 30 * (q % 6)) (by omega) q3, q4⟩
  · by_cases e : l = L
    · subst e; rw [fu_s]; omega
    · rw [fu_n e]; exact h4 l (by omega)
  · by_cases e : l = L
    · subst e; rw [fu_s] at hi; omega
    · rw [fu_n e] at hi
      have := (h3 l).1
      rw [fu_n (by omega), fu_n (by omega)]
      exact h5 l i (by omega) hi
theorem tt_trip (T : tt_ok L N sz sp og lo sa wk) (hN : N < 12) {l s : Nat} (hl : l < L) (hs : s ≤ 500) : tt_ok L (N + 1) sz sp og (fu_ lo N l) (fu_ sa N s) wk := by
  obtain ⟨⟨h1, h2⟩, h3, h4, h5, h6⟩ := T
  refine ⟨⟨h1, by omega⟩, fun q => ?_, h4, h5, fun x hx => ?_⟩
  · obtain ⟨q1, q2, q3, q4, q5, q6⟩ := h3 q
    exact ⟨q1, q2, q3, fu_a (P := fun z => z < 5) (by omega) q4, fu_a (P := fun z => z ≤ 500) hs q5, q6⟩
  · by_cases e : x = N
    · subst e; rw [fu_s]; exact hl
    · rw [fu_n e]; exact h6 x (by omega)
theorem tt_delay (T : tt_ok L N sz sp og lo sa wk) {x s : Nat} (hs : s ≤ 500) : tt_ok L N sz sp og lo (fu_ sa x s) wk := by
  obtain ⟨h1, h3, h4, h5, h6⟩ := T
  refine ⟨h1, fun q => ?_, h4, h5, h6⟩
  obtain ⟨q1, q2, q3, q4, q5, q6⟩ := h3 q
  exact ⟨q1, q2, q3, q4, fu_a (P := fun z => z ≤ 500) hs q5, q6⟩
theorem tt_foot (T : tt_ok L N sz sp og lo sa wk) {x s : Nat} (hs : s ≤ 30) : tt_ok L N sz sp og lo sa (fu_ wk x s) := by
  obtain ⟨h1, h3, h4, h5, h6⟩ := T
  refine ⟨h1, fun q => ?_, h4, h5, h6⟩
  obtain ⟨q1, q2, q3, q4, q5, q6⟩ := h3 q
  exact ⟨q1, q2, q3, q4, q5, fu_a (P := fun z => z ≤ 30) hs q6⟩
theorem tt_ext (T : tt_ok L N sz sp og lo sa wk) {l p j m : Nat} (hl : l < L) (hp : sz l = p + 1) (hp5 : p < 5) (hj : j < 8) (hm : 1 ≤ m ∧ m ≤ 30) : tt_ok L N (fu_ sz l (p + 1 + 1)) (fu_ sp (l * 6 + (p + 1)) j) (fu_ og (l * 6 + (p + 1)) (og (l * 6 + p) + m)) lo sa wk := by
  obtain ⟨⟨h1, h2⟩, h3, h4, h5, h6⟩ := T
  refine ⟨⟨h1, h2⟩, fun q => ?_, fun l' hl' => ?_, fun l' i hl' hi => ?_, h6⟩
  · obtain ⟨q1, q2, q3, q4⟩ := h3 q
    refine ⟨fu_a (P := fun z => z ≤ 6) (by omega) q1, fu_a (P := fun z => z < 8) hj q2, ?_, q4⟩
    by_cases e : q = l * 6 + (p + 1)
    · subst e
      rw [fu_s]
      have := (h3 (l * 6 + p)).2.2.1
      omega
    · rw [fu_n e]; exact q3
  · by_cases e : l' = l
    · subst e; rw [fu_s]; omega
    · rw [fu_n e]; exact h4 l' hl'
  · by_cases e : l' = l
    · subst e
      rw [fu_s] at hi
      rw [fu_n (show l' * 6 + i ≠ l' * 6 + (p + 1) by omega)]
      by_cases e2 : i = p
      · subst e2
        rw [fu_s]
        omega
      · rw [fu_n (by omega)]
        exact h5 l' i hl' (by omega)
    · rw [fu_n e] at hi
      have := (h3 l').1
      rw [fu_n (by omega), fu_n (by omega)]
      exact h5 l' i hl' hi
theorem xw_ht (T : tt_ok L N sz sp og lo sa wk) {l : Nat} (hl : l < 5) (post : Int32 → Prop) (h1 : (∃ x, x < N ∧ lo x = l) → post 1) (h0 : (¬ ∃ x, x < N ∧ lo x = l) → post 0) : wpX_hasTrips post (nI L, nI N, b, ar_n sz, ar_n sp, ar_n og, ar_n lo, ar_n sa, ar_n wk, rid, rea, bef) (nI l) := by
  have hN := tt_N T
  have key : ∀ d x, x + d = N → (¬ ∃ y, y < x ∧ lo y = l) → wX_hasTrips_2 post (nI l) (nI L) (nI N) b (ar_n sz) (ar_n sp) (ar_n og) (ar_n lo) (ar_n sa) (ar_n wk) rid rea bef (d + 1) (nI x) := by
    intro d
    induction d with
    | zero =>
      intro x hx hn
      have e : x = N := by omega
      exact br_t (nI_le (a := N) (b := x) (by omega) (by omega)) (h0 (e ▸ hn))
    | succ d ih =>
      intro x hx hn
      have hlo := tt_lo T x
      refine br_f (nI_ge (by omega) (by omega)) ⟨in_x (by omega), pk_eq (lo x) l (fun e => h1 ⟨x, by omega, e⟩) (fun e => ?_) (ar_at lo (by omega)) rfl⟩
      refine nm_r (nI_1 x) (ih (x + 1) (by omega) ?_)
      rintro ⟨y, hy, he⟩
      by_cases e2 : y = x
      · subst e2; exact e he
      · exact hn ⟨y, by omega, he⟩
  exact ⟨N + 1, key N 0 (by omega) (fun ⟨y, hy, _⟩ => absurd hy (Nat.not_lt_zero _))⟩
theorem yw_ht (T : tt_ok L N sz sp og lo sa wk) {l : Nat} (hl : l < 5) (post : Int32 → Prop) (h1 : (∃ x, x < N ∧ lo x = l) → post 1) (h0 : (¬ ∃ x, x < N ∧ lo x = l) → post 0) : wpY_hasTrips post (nI L, nI N, ar_n sz, ar_n sp, ar_n og, ar_n lo, ar_n sa, ar_n wk, off, th) (nI l) := by
  have hN := tt_N T
  have key : ∀ d x, x + d = N → (¬ ∃ y, y < x ∧ lo y = l) → wY_hasTrips_2 post (nI l) (nI L) (nI N) (ar_n sz) (ar_n sp) (ar_n og) (ar_n lo) (ar_n sa) (ar_n wk) off th (d + 1) (nI x) := by
    intro d
    induction d with
    | zero =>
      intro x hx hn
      have e : x = N := by omega
      exact br_t (nI_le (a := N) (b := x) (by omega) (by omega)) (h0 (e ▸ hn))
    | succ d ih =>
      intro x hx hn
      have hlo := tt_lo T x
      refine br_f (nI_ge (by omega) (by omega)) ⟨in_x (by omega), pk_eq (lo x) l (fun e => h1 ⟨x, by omega, e⟩) (fun e => ?_) (ar_at lo (by omega)) rfl⟩
      refine nm_r (nI_1 x) (ih (x + 1) (by omega) ?_)
      rintro ⟨y, hy, he⟩
      by_cases e2 : y = x
      · subst e2; exact e he
      · exact hn ⟨y, by omega, he⟩
  exact ⟨N + 1, key N 0 (by omega) (fun ⟨y, hy, _⟩ => absurd hy (Nat.not_lt_zero _))⟩
theorem yw_ol (T : tt_ok L N sz sp og lo sa wk) {l j : Nat} (hl : l < 5) (hj : j < 8) (post : Int32 → Prop) (h1 : (∃ i, i < sz l ∧ sp (l * 6 + i) = j) → post 1) (h0 : (¬ ∃ i, i < sz l ∧ sp (l * 6 + i) = j) → post 0) : wpY_onLine post (nI L, nI N, ar_n sz, ar_n sp, ar_n og, ar_n lo, ar_n sa, ar_n wk, off, th) (nI l) (nI j) := by
  have hsz := tt_sz T l
  have esz : ar_n sz (nI l).toNatClampNeg = nI (sz l) := ar_at sz (by omega)
  have key : ∀ d i, i + d = sz l → (¬ ∃ y, y < i ∧ sp (l * 6 + y) = j) → wY_onLine_2 post (nI l) (nI j) (nI L) (nI N) (ar_n sz) (ar_n sp) (ar_n og) (ar_n lo) (ar_n sa) (ar_n wk) off th (d + 1) (nI i) := by
    intro d
    induction d with
    | zero =>
      intro i hi hn
      have e : i = sz l := by omega
      exact And.intro (in_l hl) (br_t (by rw [esz, e]; exact Int32.le_refl _) (h0 (e ▸ hn)))
    | succ d ih =>
      intro i hi hn
      have hs := tt_sp T (l * 6 + i)
      refine And.intro (in_l hl) (br_f (by rw [esz]; exact nI_ge (by omega) (by omega)) ⟨in_6 hl (by omega), pk_eq (sp (l * 6 + i)) j (fun e => h1 ⟨i, by omega, e⟩) (fun e => ?_) (ar_6 sp hl (by omega)) rfl⟩)
      refine nm_r (nI_1 i) (ih (i + 1) (by omega) ?_)
      rintro ⟨y, hy, he⟩
      by_cases e2 : y = i
      · subst e2; exact e he
      · exact hn ⟨y, by omega, he⟩
  exact ⟨sz l + 1, key (sz l) 0 (by omega) (fun ⟨y, hy, _⟩ => absurd hy (Nat.not_lt_zero _))⟩
theorem xw_ex31 (T : tt_ok L N sz sp og lo sa wk) {l j : Nat} (hl : l < 5) (hj : j < 8) {v3 : Int32} (post : Int32 → SX → Prop) (h1 : (∃ i, i < sz l ∧ sp (l * 6 + i) = j) → post (-1) (nI L, nI N, b, ar_n sz, ar_n sp, ar_n og, ar_n lo, ar_n sa, ar_n wk, rid, rea, bef)) (h0 : (¬ ∃ i, i < sz l ∧ sp (l * 6 + i) = j) → wX_extend_31 post (nI l) (nI j) v3 (nI (sz l)) (nI L) (nI N) b (ar_n sz) (ar_n sp) (ar_n og) (ar_n lo) (ar_n sa) (ar_n wk) rid rea bef 1 (nI (sz l))) :
    ∀ d i, i + d = sz l → (¬ ∃ y, y < i ∧ sp (l * 6 + y) = j) → wX_extend_31 post (nI l) (nI j) v3 (nI (sz l)) (nI L) (nI N) b (ar_n sz) (ar_n sp) (ar_n og) (ar_n lo) (ar_n sa) (ar_n wk) rid rea bef (d + 1) (nI i) := by
  have hsz := tt_sz T l
  intro d
  induction d with
  | zero =>
    intro i hi hn
    have e : i = sz l := by omega
    rw [e] at hn ⊢
    exact h0 hn
  | succ d ih =>
    intro i hi hn
    have hs := tt_sp T (l * 6 + i)
    refine br_f (nI_ge (by omega) (by omega)) ⟨in_6 hl (by omega), pk_eq (sp (l * 6 + i)) j (fun e => h1 ⟨i, by omega, e⟩) (fun e => ?_) (ar_6 sp hl (by omega)) rfl⟩
    refine nm_r (nI_1 i) (ih (i + 1) (by omega) ?_)
    rintro ⟨y, hy, he⟩
    by_cases e2 : y = i
    · subst e2; exact e he
    · exact hn ⟨y, by omega, he⟩
end
theorem i_vc_line {k : Nat} {u : SX} {v : SY} (I : i_Rel k u v) (hk : k + 5 ≤ 2560) (v1 : Int32) : wpX_line (fun r u' => wpY_line (fun r' v' => r' = r ∧ i_Rel (k + 5) u' v') v v1) u v1 := by
  refine rl_el (Q := fun u v => wpX_line (fun r u' => wpY_line (fun r' v' => r' = r ∧ i_Rel (k + 5) u' v') v v1) u v1) I ?_
  intro L N sz sp og lo sa wk b rid rea bef off th T
  have hL := tt_L T
  unfold wpX_line
  rcases bs_ix v1 with h | ⟨j, hj, rfl⟩
  · refine xw_bsf h (br_f (by decide) ?_)
    unfold wpY_line
    exact yw_isf h (br_t rfl ⟨rfl, rl_mk T⟩)
  · refine xw_bst hj (br_t rfl (pk_lt L 5 (fun h => ?_) (fun h => ?_)))
    · have e0 : nI L * 6 = nI (L * 6) := pk_mul L 6
      have i1 : vp_in (nI L * 6) 30 := pk_in (L * 6) 30 (by omega) e0
      refine ⟨in_l h, nm_r (fu_up (k := L) (v := 1) rfl rfl (by omega)) ⟨i1, nm_r (fu_up (k := L * 6) (v := j) e0 rfl (by omega)) ⟨i1, nm_r (fu_up (k := L * 6) (v := 0) e0 rfl (by omega)) (nm_r (nI_1 L) ?_)⟩⟩⟩
      unfold wpY_line
      refine yw_ist hj (br_f (by decide) (br_f (fun z => absurd ((nI_eq (b := 5) (by omega) (by omega)).mp z) (by omega)) ⟨i1, nm_r (fu_up (k := L * 6) (v := j) e0 rfl (by omega)) ⟨i1, nm_r (fu_up (k := L * 6) (v := 0) e0 rfl (by omega)) ⟨in_l h, nm_r (fu_up (k := L) (v := 1) rfl rfl (by omega)) (nm_r (nI_1 L) ⟨rfl, ?_⟩)⟩⟩⟩))
      exact rl_mk (tt_line T h hj)
    · unfold wpY_line
      have e : L = 5 := by omega
      exact yw_ist hj (br_f (by decide) (br_t (congrArg nI e) ⟨rfl, rl_mk T⟩))
theorem i_vc_trip {k : Nat} {u : SX} {v : SY} (I : i_Rel k u v) (hk : k + 5 ≤ 2560) (v1 : Int32) (v2 : Int32) : wpX_trip (fun r u' => wpY_trip (fun r' v' => r' = r ∧ i_Rel (k + 5) u' v') v v1 v2) u v1 v2 := by
  refine rl_el (Q := fun u v => wpX_trip (fun r u' => wpY_trip (fun r' v' => r' = r ∧ i_Rel (k + 5) u' v') v v1 v2) u v1 v2) I ?_
  intro L N sz sp og lo sa wk b rid rea bef off th T
  have hL := tt_L T
  have hN := tt_N T
  unfold wpX_trip
  rcases bl_ix (L := L) v1 hL with h | ⟨l, hl, rfl⟩
  · refine xw_blf h (br_f (by decide) ?_)
    unfold wpY_trip
    exact yw_ilf h (br_t rfl ⟨rfl, rl_mk T⟩)
  · refine xw_blt hL hl (br_t rfl (br_c (fun h0 => ?_) (fun h0 => br_c (fun h5 => ?_) (fun h5 => ?_))))
    · unfold wpY_trip
      exact yw_ilt hL hl (br_f (by decide) (br_t h0 ⟨rfl, rl_mk T⟩))
    · obtain ⟨s, hs, rfl⟩ := nI_of2 (n := 500) (by decide) h0 h5
      refine pk_lt N 12 (fun h => ?_) (fun h => ?_)
      · refine ⟨in_x h, nm_r (fu_up (k := N) (v := l) rfl rfl (by omega)) ⟨in_x h, nm_r (fu_up (k := N) (v := s) rfl rfl (by omega)) (nm_r (nI_1 N) ?_)⟩⟩
        unfold wpY_trip
        refine yw_ilt hL hl (br_f (by decide) (br_f h0 (br_t h5 (br_f (fun z => absurd ((nI_eq (b := 12) (by omega) (by omega)).mp z) (by omega)) ⟨in_x h, nm_r (fu_up (k := N) (v := l) rfl rfl (by omega)) ⟨in_x h, nm_r (fu_up (k := N) (v := s) rfl rfl (by omega)) (nm_r (nI_1 N) ⟨rfl, ?_⟩)⟩⟩))))
        exact rl_mk (tt_trip T h hl hs)
      · unfold wpY_trip
        have e : N = 12 := by omega
        exact yw_ilt hL hl (br_f (by decide) (br_f h0 (br_t h5 (br_t (congrArg nI e) ⟨rfl, rl_mk T⟩))))
    · unfold wpY_trip
      exact yw_ilt hL hl (br_f (by decide) (br_f h0 (br_f h5 ⟨rfl, rl_mk T⟩)))
theorem i_vc_delay {k : Nat} {u : SX} {v : SY} (I : i_Rel k u v) (hk : k + 5 ≤ 2560) (v1 : Int32) (v2 : Int32) : wpX_delay (fun r u' => wpY_delay (fun r' v' => r' = r ∧ i_Rel (k + 5) u' v') v v1 v2) u v1 v2 := by
  refine rl_el (Q := fun u v => wpX_delay (fun r u' => wpY_delay (fun r' v' => r' = r ∧ i_Rel (k + 5) u' v') v v1 v2) u v1 v2) I ?_
  intro L N sz sp og lo sa wk b rid rea bef off th T
  have hN := tt_N T
  refine br_c (fun h0 => br_t h0 ⟨rfl, rl_mk T⟩) (fun h0 => br_c (fun h1 => ?_) (fun h1 => br_f h0 (br_f h1 ⟨rfl, rl_mk T⟩)))
  obtain ⟨x, hx, rfl⟩ := nI_of h0
  have hxN : x < N := (nI_ltI hx (by omega)).mp h1
  have hx12 : x < 12 := by omega
  refine br_c (fun h2 => br_f h0 (br_t h1 (br_t h2 ⟨rfl, rl_mk T⟩))) (fun h2 => br_c (fun h5 => ?_) (fun h5 => br_f h0 (br_t h1 (br_f h2 (br_f h5 ⟨rfl, rl_mk T⟩)))))
  obtain ⟨s, hs, rfl⟩ := nI_of2 (n := 500) (by decide) h2 h5
  refine ⟨in_x hx12, nm_e ⟨in_x hx12, nm_r (fu_up (k := x) (v := s) rfl rfl hx) ?_⟩⟩
  exact br_f h0 (br_t h1 (br_f h2 (br_t h5 ⟨in_x hx12, nm_e ⟨in_x hx12, nm_r (fu_up (k := x) (v := s) rfl rfl hx) ⟨rfl, rl_mk (tt_delay T hs)⟩⟩⟩)))
theorem i_vc_footpath {k : Nat} {u : SX} {v : SY} (I : i_Rel k u v) (hk : k + 5 ≤ 2560) (v1 : Int32) (v2 : Int32) (v3 : Int32) : wpX_footpath (fun r u' => wpY_footpath (fun r' v' => r' = r ∧ i_Rel (k + 5) u' v') v v1 v2 v3) u v1 v2 v3 := by
  refine rl_el (Q := fun u v => wpX_footpath (fun r u' => wpY_footpath (fun r' v' => r' = r ∧ i_Rel (k + 5) u' v') v v1 v2 v3) u v1 v2 v3) I ?_
  intro L N sz sp og lo sa wk b rid rea bef off th T
  unfold wpX_footpath
  rcases bs_ix v1 with h | ⟨p, hp, rfl⟩
  · refine xw_bsf h (br_f (by decide) ?_)
    unfold wpY_footpath
    exact yw_isf h (br_t rfl ⟨rfl, rl_mk T⟩)
  · refine xw_bst hp (br_t rfl ?_)
    rcases bs_ix v2 with h | ⟨q, hq, rfl⟩
    · refine xw_bsf h (br_f (by decide) ?_)
      unfold wpY_footpath
      exact yw_ist hp (br_f (by decide) (yw_isf h (br_t rfl ⟨rfl, rl_mk T⟩)))
    · refine xw_bst hq (br_t rfl (br_c (fun hpq => ?_) (fun hpq => br_c (fun h0 => ?_) (fun h0 => br_c (fun h3 => ?_) (fun h3 => ?_)))))
      · unfold wpY_footpath
        exact yw_ist hp (br_f (by decide) (yw_ist hq (br_f (by decide) (br_t hpq ⟨rfl, rl_mk T⟩))))
      · unfold wpY_footpath
        exact yw_ist hp (br_f (by decide) (yw_ist hq (br_f (by decide) (br_f hpq (br_t h0 ⟨rfl, rl_mk T⟩)))))
      · obtain ⟨s, hs, rfl⟩ := nI_of2 (n := 30) (by decide) h0 h3
        have e1 := ix_8 p q
        have e2 := ix_8 q p
        refine ⟨in_8 hp hq, nm_e ⟨in_8 hp hq, nm_r (fu_up (k := p * 8 + q) (v := s) e1 rfl (by omega)) ⟨in_8 hq hp, nm_r (fu_up (k := q * 8 + p) (v := s) e2 rfl (by omega)) ?_⟩⟩⟩
        unfold wpY_footpath
        refine yw_ist hp (br_f (by decide) (yw_ist hq (br_f (by decide) (br_f hpq (br_f h0 (br_t h3 ⟨in_8 hp hq, nm_e ⟨in_8 hp hq, nm_r (fu_up (k := p * 8 + q) (v := s) e1 rfl (by omega)) ⟨in_8 hq hp, nm_r (fu_up (k := q * 8 + p) (v := s) e2 rfl (by omega)) ⟨rfl, ?_⟩⟩⟩⟩))))))
        exact rl_mk (tt_foot (tt_foot T hs) hs)
      · unfold wpY_footpath
        exact yw_ist hp (br_f (by decide) (yw_ist hq (br_f (by decide) (br_f hpq (br_f h0 (br_f h3 ⟨rfl, rl_mk T⟩))))))
theorem i_vc_extend {k : Nat} {u : SX} {v : SY} (I : i_Rel k u v) (hk : k + 5 ≤ 2560) (v1 : Int32) (v2 : Int32) (v3 : Int32) : wpX_extend (fun r u' => wpY_extend (fun r' v' => r' = r ∧ i_Rel (k + 5) u' v') v v1 v2 v3) u v1 v2 v3 := by
  refine rl_el (Q := fun u v => wpX_extend (fun r u' => wpY_extend (fun r' v' => r' = r ∧ i_Rel (k + 5) u' v') v v1 v2 v3) u v1 v2 v3) I ?_
  intro L N sz sp og lo sa wk b rid rea bef off th T
  have hL := tt_L T
  unfold wpX_extend
  rcases bl_ix (L := L) v1 hL with h | ⟨l, hl, rfl⟩
  · refine xw_blf h (br_f (by decide) ?_)
    unfold wpY_extend
    exact yw_ilf h (br_t rfl ⟨rfl, rl_mk T⟩)
  · refine xw_blt hL hl (br_t rfl ?_)
    have hl5 : l < 5 := by omega
    have hsz := tt_sz T l
    have hs1 := tt_1 T hl
    have esz : ar_n sz (nI l).toNatClampNeg = nI (sz l) := ar_at sz (by omega)
    rcases bs_ix v2 with h | ⟨j, hj, rfl⟩
    · refine xw_bsf h (br_f (by decide) ?_)
      unfold wpY_extend
      exact yw_ilt hL hl (br_f (by decide) (yw_isf h (br_t rfl ⟨rfl, rl_mk T⟩)))
    · refine xw_bst hj (br_t rfl ⟨in_l hl5, nm_r esz ⟨sz l + 1, ?_⟩⟩)
      refine xw_ex31 T hl5 hj _ (fun hon => ?_) (fun hon => ?_) (sz l) 0 (by omega) (fun ⟨y, hy, _⟩ => absurd hy (Nat.not_lt_zero _))
      · unfold wpY_extend
        exact yw_ilt hL hl (br_f (by decide) (yw_ist hj (br_f (by decide) (yw_ol T hl5 hj _ (fun _ => br_f (by decide) ⟨rfl, rl_mk T⟩) (fun z => absurd hon z)))))
      · obtain ⟨p, hp⟩ : ∃ p, sz l = p + 1 := ⟨sz l - 1, by omega⟩
        refine br_t (Int32.le_refl _) (br_c (fun h1 => ?_) (fun h1 => br_c (fun h3 => ?_) (fun h3 => ?_)))
        · unfold wpY_extend
          exact yw_ilt hL hl (br_f (by decide) (yw_ist hj (br_f (by decide) (yw_ol T hl5 hj _ (fun z => absurd z hon) (fun _ => br_t rfl (br_t h1 ⟨rfl, rl_mk T⟩))))))
        · obtain ⟨m, hm, rfl⟩ := nI_of2 (n := 30) (by decide) (fun z => h1 (Int32.lt_trans z (by decide))) h3
          have hm1 : 1 ≤ m := by
            rcases Nat.lt_or_ge m 1 with q | q
            · exact absurd (nI_lt (b := 1) q (by decide)) h1
            · exact q
          refine xw_ht T hl5 _ (fun ht => ?_) (fun hnt => ?_)
          · have h4 : wpY_extend (fun r' v' => r' = -4 ∧ i_Rel (k + 5) (nI L, nI N, b, ar_n sz, ar_n sp, ar_n og, ar_n lo, ar_n sa, ar_n wk, rid, rea, bef) v') (nI L, nI N, ar_n sz, ar_n sp, ar_n og, ar_n lo, ar_n sa, ar_n wk, off, th) (nI l) (nI j) (nI m) := by
              unfold wpY_extend
              exact yw_ilt hL hl (br_f (by decide) (yw_ist hj (br_f (by decide) (yw_ol T hl5 hj _ (fun z => absurd z hon) (fun _ => br_t rfl (br_f h1 (br_t h3 ⟨in_l hl5, br_c (fun _ => ⟨rfl, rl_mk T⟩) (fun _ => yw_ht T hl5 _ (fun _ => br_f (by decide) ⟨rfl, rl_mk T⟩) (fun z => absurd ht z))⟩)))))))
            exact br_c (fun _ => h4) (fun _ => br_f (by decide) h4)
          · refine pk_le 6 (sz l) (fun h6 => ?_) (fun h6 => br_t rfl ?_)
            · have e6 : sz l = 6 := by omega
              unfold wpY_extend
              exact yw_ilt hL hl (br_f (by decide) (yw_ist hj (br_f (by decide) (yw_ol T hl5 hj _ (fun z => absurd z hon) (fun _ => br_t rfl (br_f h1 (br_t h3 ⟨in_l hl5, br_t (by rw [esz, e6]; rfl) ⟨rfl, rl_mk T⟩⟩)))))))
            · have e1 : nI l * 6 + nI (sz l) = nI (l * 6 + (p + 1)) := by rw [hp, ix_6]
              have e2 : nI l * 6 + nI (sz l) - 1 = nI (l * 6 + p) := by rw [e1, show l * 6 + (p + 1) = l * 6 + p + 1 by omega, nI_pred]
              have e3 : nI (l * 6 + (p + 1)) - 1 = nI (l * 6 + p) := by rw [show l * 6 + (p + 1) = l * 6 + p + 1 by omega, nI_pred]
              have e4 : ar_n og (nI (l * 6 + p)).toNatClampNeg + nI m = nI (og (l * 6 + p) + m) := by rw [ar_at og (by omega), nI_add]
              have i1 : vp_in (nI l * 6 + nI (sz l)) 30 := in_6 hl5 h6
              have i2 : vp_in (nI l * 6 + nI (sz l) - 1) 30 := pk_in (l * 6 + p) 30 (by omega) e2
              have e5 : nI (sz l) + 1 = nI (p + 1 + 1) := by rw [hp, nI_1]
              refine ⟨i1, nm_r (fu_up (k := l * 6 + (p + 1)) (v := j) e1 rfl (by omega)) ⟨i2, i1, nm_r (fu_up (k := l * 6 + (p + 1)) (v := og (l * 6 + p) + m) e1 (by rw [e2]; exact e4) (by omega)) ⟨in_l hl5, nm_r (fu_up (k := l) (v := p + 1 + 1) rfl e5 (by omega)) ?_⟩⟩⟩
              unfold wpY_extend
              refine yw_ilt hL hl (br_f (by decide) (yw_ist hj (br_f (by decide) (yw_ol T hl5 hj _ (fun z => absurd z hon) (fun _ => br_t rfl (br_f h1 (br_t h3 ⟨in_l hl5, br_f ?_ (yw_ht T hl5 _ (fun z => absurd z hnt) (fun _ => br_t rfl ?_))⟩)))))))
              · intro z
                rw [esz] at z
                exact absurd ((nI_eq (b := 6) (by omega) (by omega)).mp z) (by omega)
              · refine And.intro (in_l hl5) (nm_r (e' := nI (l * 6 + (p + 1))) (by rw [esz]; exact e1) ⟨vp_in_nI (by omega) (by omega), nm_r (fu_up (k := l * 6 + (p + 1)) (v := j) rfl rfl (by omega)) ⟨pk_in (l * 6 + p) 30 (by omega) e3, vp_in_nI (by omega) (by omega), nm_r (fu_up (k := l * 6 + (p + 1)) (v := og (l * 6 + p) + m) rfl (by rw [e3]; exact e4) (by omega)) ⟨in_l hl5, in_l hl5, nm_r (fu_up (k := l) (v := p + 1 + 1) rfl (by rw [esz]; exact e5) (by omega)) ⟨in_l hl5, ?_, ?_⟩⟩⟩⟩)
                · rw [ar_at _ (by omega), fu_s, e5]
                · exact rl_mk (tt_ext T hl hp (by omega) hj ⟨hm1, hm⟩)
        · unfold wpY_extend
          exact yw_ilt hL hl (br_f (by decide) (yw_ist hj (br_f (by decide) (yw_ol T hl5 hj _ (fun z => absurd z hon) (fun _ => br_t rfl (br_f h1 (br_f h3 ⟨rfl, rl_mk T⟩)))))))
end
section
/-! the questions: refusal, earliest, earliestWith -/
section
variable {L N : Nat} {sz sp og lo sa wk : Nat → Nat} {b : Int32} {rid rea bef off th : Nat → Int32}
theorem bt_ix (v : Int32) : (v < 0 ∨ (1000 : Int32) < v) ∨ ∃ t : Nat, t ≤ 1000 ∧ v = nI t := by
  by_cases h : v < 0
  · exact Or.inl (Or.inl h)
  · by_cases h2 : v ≤ 1000
    · obtain ⟨t, ht, e⟩ := nI_of2 (n := 1000) (by decide) h h2
      exact Or.inr ⟨t, ht, e⟩
    · exact Or.inl (Or.inr (Int32.not_le.mp h2))
theorem xw_tmt {post : Int32 → Prop} {t : Nat} (h : t ≤ 1000) (hp : post 0) : wpX_badTime post (nI t) := br_f (nI_pos (by omega)) (br_t (nI_le (b := 1000) h (by decide)) hp)
theorem xw_tmf {post : Int32 → Prop} {v : Int32} (h : v < 0 ∨ (1000 : Int32) < v) (hp : post 1) : wpX_badTime post v :=
  br_c (fun _ => hp) (fun h0 => br_f (Int32.not_le.mpr (h.elim (fun z => absurd z h0) id)) hp)
theorem yw_tmt {post : Int32 → Prop} {t : Nat} (h : t ≤ 1000) (hp : post 1) : wpY_isTime post (nI L, nI N, ar_n sz, ar_n sp, ar_n og, ar_n lo, ar_n sa, ar_n wk, off, th) (nI t) := br_f (nI_pos (by omega)) (br_f (nI_nlt (b := t) (a := 1000) h (by decide)) hp)
theorem yw_tmf {post : Int32 → Prop} {v : Int32} (h : v < 0 ∨ (1000 : Int32) < v) (hp : post 0) : wpY_isTime post (nI L, nI N, ar_n sz, ar_n sp, ar_n og, ar_n lo, ar_n sa, ar_n wk, off, th) v :=
  br_c (fun _ => hp) (fun h0 => br_t (h.elim (fun z => absurd z h0) id) hp)
theorem xw_rfo {post : Int32 → Prop} {p q t : Nat} (hp : p < 8) (hq : q < 8) (ht : t ≤ 1000) (h : post 0) : wpX_refusal post (nI L, nI N, b, ar_n sz, ar_n sp, ar_n og, ar_n lo, ar_n sa, ar_n wk, rid, rea, bef) (nI p) (nI q) (nI t) := by
  unfold wpX_refusal
  exact xw_bst hp (br_t rfl (xw_bst hq (br_t rfl (xw_tmt ht (br_t rfl h)))))
theorem yw_rfo {post : Int32 → Prop} {p q t : Nat} (hp : p < 8) (hq : q < 8) (ht : t ≤ 1000) (h : post 0) : wpY_refusal post (nI L, nI N, ar_n sz, ar_n sp, ar_n og, ar_n lo, ar_n sa, ar_n wk, off, th) (nI p) (nI q) (nI t) := by
  unfold wpY_refusal
  exact yw_ist hp (br_f (by decide) (yw_ist hq (br_f (by decide) (yw_tmt ht (br_f (by decide) h)))))
/-- either all is well, or both refuse with one answer -/
theorem rf_ix (v1 v2 v3 : Int32) : (∃ p q t : Nat, p < 8 ∧ q < 8 ∧ t ≤ 1000 ∧ v1 = nI p ∧ v2 = nI q ∧ v3 = nI t) ∨
    ∃ r : Int32, ¬ r = 0 ∧ ¬ 0 ≤ r ∧ (∀ (L N : Nat) (sz sp og lo sa wk : Nat → Nat) (b : Int32) (rid rea bef : Nat → Int32) (post : Int32 → Prop), post r → wpX_refusal post (nI L, nI N, b, ar_n sz, ar_n sp, ar_n og, ar_n lo, ar_n sa, ar_n wk, rid, rea, bef) v1 v2 v3) ∧ (∀ (L N : Nat) (sz sp og lo sa wk : Nat → Nat) (off th : Nat → Int32) (post : Int32 → Prop), post r → wpY_refusal post (nI L, nI N, ar_n sz, ar_n sp, ar_n og, ar_n lo, ar_n sa, ar_n wk, off, th) v1 v2 v3) := by
  rcases bs_ix v1 with h | ⟨p, hp, rfl⟩
  · refine Or.inr ⟨-1, by decide, by decide, fun L N sz sp og lo sa wk b rid rea bef post hr => ?_, fun L N sz sp og lo sa wk off th post hr => ?_⟩
    · unfold wpX_refusal
      exact xw_bsf h (br_f (by decide) hr)
    · unfold wpY_refusal
      exact yw_isf h (br_t rfl hr)
  · rcases bs_ix v2 with h | ⟨q, hq, rfl⟩
    · refine Or.inr ⟨-1, by decide, by decide, fun L N sz sp og lo sa wk b rid rea bef post hr => ?_, fun L N sz sp og lo sa wk off th post hr => ?_⟩
      · unfold wpX_refusal
        exact xw_bst hp (br_t rfl (xw_bsf h (br_f (by decide) hr)))
      · unfold wpY_refusal
        exact yw_ist hp (br_f (by decide) (yw_isf h (br_t rfl hr)))
    · rcases bt_ix v3 with h | ⟨t, ht, rfl⟩
      · refine Or.inr ⟨-3, by decide, by decide, fun L N sz sp og lo sa wk b rid rea bef post hr => ?_, fun L N sz sp og lo sa wk off th post hr => ?_⟩
        · unfold wpX_refusal
          exact xw_bst hp (br_t rfl (xw_bst hq (br_t rfl (xw_tmf h (br_f (by decide) hr)))))
        · unfold wpY_refusal
          exact yw_ist hp (br_f (by decide) (yw_ist hq (br_f (by decide) (yw_tmf h (br_t rfl hr)))))
      · exact Or.inl ⟨p, q, t, hp, hq, ht, rfl, rfl, rfl⟩
/-- an arrival is never late -/
theorem tt_fin (T : tt_ok L N sz sp og lo sa wk) {a : Nat} {t : Int} (ht : t ≤ 1000) {k v : Nat} {z : Int} (h : jr_C (tt_W wk) (tt_R N sz sp og lo sa) k a t v z) : jr_C (tt_W wk) (tt_R N sz sp og lo sa) k a t v 2000 := by
  have fW : ∀ s (y : Int) v z, y ≤ 1000 → tt_W wk s y v z → tt_W wk s y v 2000 := by
    intro s y v z hy hw
    rcases hw with ⟨e, _⟩ | ⟨e, _⟩
    · exact Or.inl ⟨e, by omega⟩
    · have := tt_wk T (s * 8 + v)
      exact Or.inr ⟨e, by omega⟩
  cases k with
  | zero => exact fW a t v z ht h
  | succ k =>
    obtain ⟨u, y, x, w, hu, hx, hC, hR, hw⟩ := h
    obtain ⟨q, i, j, r1, r2, r3, r4, r5, r6, r7⟩ := hR
    have a1 := tt_sa T q
    have a2 := tt_og T (lo q * 6 + j)
    exact jr_succ hu hx hC ⟨q, i, j, r1, r2, r3, r4, r5, r6, Int.le_refl _⟩ (fW x _ v z (by omega) (tt_Wm _ _ _ _ _ _ hw (by omega) (Int.le_refl _)))
/-- an answer out of a best time -/
def an_v (F g : Int) : Int32 := if g < F then ii_v g else -5
theorem an_eq (T : tt_ok L N sz sp og lo sa wk) {a : Nat} {t : Int} (ht : t ≤ 1000) {v K : Nat} {g c : Int} (hg : g ≤ 1000000) (h1 : ∀ z, z < 1000000 → (g ≤ z ↔ jr_P (tt_W wk) (tt_R N sz sp og lo sa) K a t v z)) (h2 : yb_E N sz sp og lo sa wk a t v K c) : (g = c ∧ c ≤ 2000) ∨ (g = 1000000 ∧ c = 100000) := by
  obtain ⟨c1, c2, c3⟩ := h2
  by_cases hlt : g < 1000000
  · obtain ⟨j, hj, hc⟩ := (h1 g hlt).mp (Int.le_refl _)
    have f1 : g ≤ 2000 := (h1 2000 (by omega)).mpr ⟨j, hj, tt_fin T ht hc⟩
    have f2 : c ≤ 2000 := (c3 2000 (by omega)).mpr ⟨j, hj, tt_fin T ht hc⟩
    have f3 := (c3 g (by omega)).mpr ((h1 g hlt).mp (Int.le_refl _))
    have f4 := (h1 c (by omega)).mpr ((c3 c (by omega)).mp (Int.le_refl _))
    exact Or.inl ⟨by omega, f2⟩
  · refine Or.inr ⟨by omega, ?_⟩
    rcases Int.lt_or_le c 100000 with q | q
    · have := (h1 c (by omega)).mpr ((c3 c q).mp (Int.le_refl _))
      omega
    · omega
theorem an_an (T : tt_ok L N sz sp og lo sa wk) {a : Nat} {t : Int} (ht : t ≤ 1000) {v K : Nat} {g c : Int} (hg : g ≤ 1000000) (h1 : ∀ z, z < 1000000 → (g ≤ z ↔ jr_P (tt_W wk) (tt_R N sz sp og lo sa) K a t v z)) (h2 : yb_E N sz sp og lo sa wk a t v K c) : an_v 100000 c = an_v 1000000 g := by
  unfold an_v
  rcases an_eq T ht hg h1 h2 with ⟨e1, e2⟩ | ⟨e1, e2⟩
  · rw [if_pos (by omega), if_pos (by omega), e1]
  · rw [if_neg (by omega), if_neg (by omega)]
theorem xw_arr {g : Nat → Int} (hr : ∀ s, s < 8 → rea s = ii_v (g s)) (hg : ∀ s, s < 8 → 0 ≤ g s ∧ g s ≤ 1000000) {v : Nat} (hv : v < 8) (post : Int32 → Prop) (hp : post (an_v 1000000 (g v))) : wpX_arrivalAt post (nI L, nI N, b, ar_n sz, ar_n sp, ar_n og, ar_n lo, ar_n sa, ar_n wk, rid, rea, bef) (nI v) := by
  have hgv := hg v hv
  have er := xw_rd hr hv
  unfold an_v at hp
  refine And.intro (in_s hv) (ii_lt er ii_M (by omega) (by omega) (fun h => ⟨in_s hv, ?_⟩) (fun h => ?_))
  · rw [if_pos h] at hp
    rw [er]
    exact hp
  · rw [if_neg (by omega)] at hp
    exact hp
theorem xw_ew47 (T : tt_ok L N sz sp og lo sa wk) {p q t K : Nat} (hp : p < 8) (hq : q < 8) (ht : t ≤ 1000) (hK : K ≤ 12) (post : Int32 → SX → Prop) (h : ∀ b' rid' rea' bef' g', xs_E N sz sp og lo sa wk p (t : Int) K rea' g' → post (an_v 1000000 (g' q)) (nI L, nI N, b', ar_n sz, ar_n sp, ar_n og, ar_n lo, ar_n sa, ar_n wk, rid', rea', bef')) :
    wX_earliestWith_47 post (nI q) (nI K) (nI t) (nI p) (nI L) (nI N) b (ar_n sz) (ar_n sp) (ar_n og) (ar_n lo) (ar_n sa) (ar_n wk) rid rea bef := by
  unfold wX_earliestWith_47
  rw [ii_n t]
  exact xw_pl T hp (by omega) hK _ (fun b' rid' rea' bef' g' E => xw_arr E.1 E.2.1 hq _ (h b' rid' rea' bef' g' E))
theorem yw_ew40 (T : tt_ok L N sz sp og lo sa wk) {p q t K : Nat} (hp : p < 8) (hq : q < 8) (ht : t ≤ 1000) (hK : K ≤ 12) (post : Int32 → SY → Prop) (h : ∀ off' th' c, (∀ j, j ≤ K → ys_R N sz sp og lo sa wk p (t : Int) th' j) → yb_E N sz sp og lo sa wk p (t : Int) q K c → post (an_v 100000 c) (nI L, nI N, ar_n sz, ar_n sp, ar_n og, ar_n lo, ar_n sa, ar_n wk, off', th')) :
    wY_earliestWith_40 post (nI p) (nI q) (nI t) (nI K) (nI L) (nI N) (ar_n sz) (ar_n sp) (ar_n og) (ar_n lo) (ar_n sa) (ar_n wk) off th := by
  unfold wY_earliestWith_40
  rw [ii_n t]
  refine yw_se T (by omega) hp (by omega) _ (fun off' th' hR => yw_be (by omega) hq hR _ (fun c hc => ?_))
  have := hc.1
  have := hc.2.1
  have hh := h off' th' c hR hc
  unfold an_v at hh
  refine ii_eq rfl ii_H (by omega) (by omega) (fun e => ?_) (fun e => ?_)
  · rw [if_neg (by omega)] at hh
    exact hh
  · rw [if_pos (by omega)] at hh
    exact hh
/-- the number of rides that is asked for, cut to 0 .. 12: both sides alike -/
theorem ew_ix (v4 : Int32) : ∃ K : Nat, K ≤ 12 ∧
    (∀ (L N : Nat) (sz sp og lo sa wk : Nat → Nat) (b : Int32) (rid rea bef : Nat → Int32) (post : Int32 → SX → Prop) (p q t : Nat), p < 8 → q < 8 → t ≤ 1000 → wX_earliestWith_47 post (nI q) (nI K) (nI t) (nI p) (nI L) (nI N) b (ar_n sz) (ar_n sp) (ar_n og) (ar_n lo) (ar_n sa) (ar_n wk) rid rea bef → wpX_earliestWith post (nI L, nI N, b, ar_n sz, ar_n sp, ar_n og, ar_n lo, ar_n sa, ar_n wk, rid, rea, bef) (nI p) (nI q) (nI t) v4) ∧
    (∀ (L N : Nat) (sz sp og lo sa wk : Nat → Nat) (off th : Nat → Int32) (post : Int32 → SY → Prop) (p q t : Nat), p < 8 → q < 8 → t ≤ 1000 → wY_earliestWith_40 post (nI p) (nI q) (nI t) (nI K) (nI L) (nI N) (ar_n sz) (ar_n sp) (ar_n og) (ar_n lo) (ar_n sa) (ar_n wk) off th → wpY_earliestWith post (nI L, nI N, ar_n sz, ar_n sp, ar_n og, ar_n lo, ar_n sa, ar_n wk, off, th) (nI p) (nI q) (nI t) v4) := by
  by_cases h0 : 0 ≤ v4
  · by_cases h12 : v4 ≤ 12
    · obtain ⟨K, hK, rfl⟩ := nI_of2 (n := 12) (by decide) (Int32.not_lt.mpr h0) h12
      refine ⟨K, hK, fun L N sz sp og lo sa wk b rid rea bef post p q t hp hq ht h => ?_, fun L N sz sp og lo sa wk off th post p q t hp hq ht h => ?_⟩
      · unfold wpX_earliestWith
        refine xw_rfo hp hq ht (br_t rfl (br_t h0 ?_))
        unfold wX_earliestWith_28
        exact br_t h12 h
      · unfold wpY_earliestWith
        exact yw_rfo hp hq ht (br_t (by decide) (br_t h0 (br_t h12 h)))
    · refine ⟨12, by omega, fun L N sz sp og lo sa wk b rid rea bef post p q t hp hq ht h => ?_, fun L N sz sp og lo sa wk off th post p q t hp hq ht h => ?_⟩
      · unfold wpX_earliestWith
        refine xw_rfo hp hq ht (br_t rfl (br_t h0 ?_))
        unfold wX_earliestWith_28
        exact br_f h12 h
      · unfold wpY_earliestWith
        exact yw_rfo hp hq ht (br_t (by decide) (br_t h0 (br_f h12 h)))
  · refine ⟨0, by omega, fun L N sz sp og lo sa wk b rid rea bef post p q t hp hq ht h => ?_, fun L N sz sp og lo sa wk off th post p q t hp hq ht h => ?_⟩
    · unfold wpX_earliestWith
      refine xw_rfo hp hq ht (br_t rfl (br_f h0 ?_))
      unfold wX_earliestWith_28
      exact br_t (by decide) h
    · unfold wpY_earliestWith
      exact yw_rfo hp hq ht (br_t (by decide) (br_f h0 h))
theorem yw_ea (T : tt_ok L N sz sp og lo sa wk) {p q t : Nat} (hp : p < 8) (hq : q < 8) (ht : t ≤ 1000) (post : Int32 → SY → Prop) (h : ∀ off' th' c, (∀ j, j ≤ 12 → ys_R N sz sp og lo sa wk p (t : Int) th' j) → yb_E N sz sp og lo sa wk p (t : Int) q 12 c → post (an_v 100000 c) (nI L, nI N, ar_n sz, ar_n sp, ar_n og, ar_n lo, ar_n sa, ar_n wk, off', th')) :
    wpY_earliest post (nI L, nI N, ar_n sz, ar_n sp, ar_n og, ar_n lo, ar_n sa, ar_n wk, off, th) (nI p) (nI q) (nI t) := by
  unfold wpY_earliest wpY_earliestWith
  exact yw_rfo hp hq ht (br_t (by decide) (br_t (by decide) (br_t (by decide) (yw_ew40 (K := 12) T hp hq ht (by omega) _ h))))
end
theorem i_vc_earliest {k : Nat} {u : SX} {v : SY} (I : i_Rel k u v) (hk : k + 5 ≤ 2560) (v1 : Int32) (v2 : Int32) (v3 : Int32) : wpX_earliest (fun r u' => wpY_earliest (fun r' v' => r' = r ∧ i_Rel (k + 5) u' v') v v1 v2 v3) u v1 v2 v3 := by
  refine rl_el (Q := fun u v => wpX_earliest (fun r u' => wpY_earliest (fun r' v' => r' = r ∧ i_Rel (k + 5) u' v') v v1 v2 v3) u v1 v2 v3) I ?_
  intro L N sz sp og lo sa wk b rid rea bef off th T
  unfold wpX_earliest
  rcases rf_ix v1 v2 v3 with ⟨p, q, t, hp, hq, ht, rfl, rfl, rfl⟩ | ⟨r, h0, h1, hX, hY⟩
  · refine xw_rfo hp hq ht (br_t rfl ?_)
    rw [ii_n t]
    refine xw_pl (K := 12) T hp (by omega) (by omega) _ (fun b' rid' rea' bef' g' E => xw_arr E.1 E.2.1 hq _ ?_)
    rw [← ii_n t]
    exact yw_ea T hp hq ht _ (fun off' th' c hR hc => ⟨an_an T (by omega) (E.2.1 q hq).2 (E.2.2 q hq) hc, rl_mk T⟩)
  · refine hX L N sz sp og lo sa wk b rid rea bef _ (br_f h0 ?_)
    unfold wpY_earliest wpY_earliestWith
    exact hY L N sz sp og lo sa wk off th _ (br_f h1 ⟨rfl, rl_mk T⟩)
theorem i_vc_earliestWith {k : Nat} {u : SX} {v : SY} (I : i_Rel k u v) (hk : k + 5 ≤ 2560) (v1 : Int32) (v2 : Int32) (v3 : Int32) (v4 : Int32) : wpX_earliestWith (fun r u' => wpY_earliestWith (fun r' v' => r' = r ∧ i_Rel (k + 5) u' v') v v1 v2 v3 v4) u v1 v2 v3 v4 := by
  refine rl_el (Q := fun u v => wpX_earliestWith (fun r u' => wpY_earliestWith (fun r' v' => r' = r ∧ i_Rel (k + 5) u' v') v v1 v2 v3 v4) u v1 v2 v3 v4) I ?_
  intro L N sz sp og lo sa wk b rid rea bef off th T
  rcases rf_ix v1 v2 v3 with ⟨p, q, t, hp, hq, ht, rfl, rfl, rfl⟩ | ⟨r, h0, h1, hX, hY⟩
  · obtain ⟨K, hK, eX, eY⟩ := ew_ix v4
    refine eX L N sz sp og lo sa wk b rid rea bef _ p q t hp hq ht (xw_ew47 T hp hq ht hK _ (fun b' rid' rea' bef' g' E => ?_))
    refine eY L N sz sp og lo sa wk off th _ p q t hp hq ht (yw_ew40 T hp hq ht hK _ (fun off' th' c hR hc => ?_))
    exact ⟨an_an T (by omega) (E.2.1 q hq).2 (E.2.2 q hq) hc, rl_mk T⟩
  · unfold wpX_earliestWith
    refine hX L N sz sp og lo sa wk b rid rea bef _ (br_f h0 ?_)
    unfold wpY_earliestWith
    exact hY L N sz sp og lo sa wk off th _ (br_f h1 ⟨rfl, rl_mk T⟩)
end
section
/-! rides, latest, within -/
/-- X's note of the last round that made stop v better -/
def xr_L (N : Nat) (sz sp og lo sa wk : Nat → Nat) (a : Nat) (t : Int) (v k : Nat) (gv : Int) (last : Int32) : Prop :=
  (gv < 1000000 → ∃ m : Nat, m ≤ k ∧ last = nI m ∧ jr_P (tt_W wk) (tt_R N sz sp og lo sa) m a t v gv ∧ ∀ j, j < m → ¬ jr_P (tt_W wk) (tt_R N sz sp og lo sa) j a t v gv) ∧ (¬ gv < 1000000 → last = -5)
section
variable {L N : Nat} {sz sp og lo sa wk : Nat → Nat} {b : Int32} {rid rea bef off th : Nat → Int32}
theorem xw_ri45 (T : tt_ok L N sz sp og lo sa wk) {a v : Nat} (hv : v < 8) {t : Int} (post : Int32 → SX → Prop) (hp : ∀ b' rid' rea' bef' g' k last, xs_E N sz sp og lo sa wk a t 12 rea' g' → k ≤ 12 → xr_L N sz sp og lo sa wk a t v k (g' v) last → post last (nI L, nI N, b', ar_n sz, ar_n sp, ar_n og, ar_n lo, ar_n sa, ar_n wk, rid', rea', bef')) :
    ∀ d k (last : Int32) (b : Int32) (rid rea bef : Nat → Int32) (g : Nat → Int), k + d = 12 → xs_I N sz sp og lo sa wk a t k b rea g → xr_L N sz sp og lo sa wk a t v k (g v) last → wX_rides_45 post (nI v) (d + 1) last (nI (k + 1)) (nI L) (nI N) b (ar_n sz) (ar_n sp) (ar_n og) (ar_n lo) (ar_n sa) (ar_n wk) rid rea bef := by
  intro d
  induction d with
  | zero =>
    intro k last b rid rea bef g hk I hl
    have e : k = 12 := by omega
    subst e
    exact br_t (by decide) (hp b rid rea bef g 12 last ⟨I.1, I.2.1, I.2.2.1⟩ (by omega) hl)
  | succ d ih =>
    intro k last b rid rea bef g hk I hl
    refine br_f (nI_nlt (a := 12) (b := k + 1) (by omega) (by decide)) (br_c (fun hb => ?_) (fun hb => ⟨in_s hv, nm_r (xw_rd I.1 hv) ?_⟩))
    · exact hp b rid rea bef g k last ⟨I.1, I.2.1, xs_stop T I (by omega) hb⟩ (by omega) hl
    · refine xw_nr T I _ (fun b' rid' rea' bef' g' I' => ⟨in_s hv, ?_⟩)
      have b1 := I.2.1 v hv
      have b2 := I'.2.1 v hv
      have hle : g' v ≤ g v := by
        by_cases h : g v < 1000000
        · obtain ⟨j, hj, hc⟩ := (I.2.2.1 v hv (g v) h).mp (Int.le_refl _)
          exact (I'.2.2.1 v hv (g v) h).mpr ⟨j, by omega, hc⟩
        · omega
      refine ii_le rfl (xw_rd I'.1 hv) (by omega) (by omega) (fun h => ?_) (fun h => ?_)
      · refine nm_r (nI_1 (k + 1)) (ih (k + 1) last b' rid' rea' bef' g' (by omega) I' ?_)
        have e : g' v = g v := by omega
        rw [e]
        refine ⟨fun z => ?_, hl.2⟩
        obtain ⟨m, hm, r⟩ := hl.1 z
        exact ⟨m, by omega, r⟩
      · refine nm_r (nI_1 (k + 1)) (ih (k + 1) (nI (k + 1)) b' rid' rea' bef' g' (by omega) I' ⟨fun z => ⟨k + 1, Nat.le_refl _, rfl, (I'.2.2.1 v hv (g' v) z).mp (Int.le_refl _), fun j hj hP => ?_⟩, fun z => by omega⟩)
        obtain ⟨i, hi, hc⟩ := hP
        have := (I.2.2.1 v hv (g' v) (by omega)).mpr ⟨i, by omega, hc⟩
        omega
theorem yw_ri20 {a v : Nat} (hv : v < 8) {t c : Int} (hc : yb_E N sz sp og lo sa wk a t v 12 c) (hc2 : c < 100000) (hR : ∀ j, j ≤ 12 → ys_R N sz sp og lo sa wk a t th j) (post : Int32 → SY → Prop) (hp : ∀ m : Nat, m ≤ 12 → jr_P (tt_W wk) (tt_R N sz sp og lo sa) m a t v c → (∀ j, j < m → ¬ jr_P (tt_W wk) (tt_R N sz sp og lo sa) j a t v c) → post (nI m) (nI L, nI N, ar_n sz, ar_n sp, ar_n og, ar_n lo, ar_n sa, ar_n wk, off, th)) :
    ∀ d k, k + d = 12 → (∀ j, j < k → ¬ jr_P (tt_W wk) (tt_R N sz sp og lo sa) j a t v c) → wY_rides_20 post (nI v) (ii_v c) (nI L) (nI N) (ar_n sz) (ar_n sp) (ar_n og) (ar_n lo) (ar_n sa) (ar_n wk) off th (d + 1) (nI k) := by
  obtain ⟨c1, c3, c4⟩ := hc
  intro d
  induction d with
  | zero =>
    intro k hk hn
    have e : k = 12 := by omega
    subst e
    exact br_t (by decide) (hp 12 (by omega) ((c4 c hc2).mp (Int.le_refl _)) hn)
  | succ d ih =>
    intro k hk hn
    refine br_f (nI_ge (b := 12) (by omega) (by decide)) ?_
    refine yw_be (K := k) (by omega) hv (fun j hj => hR j (by omega)) _ (fun ck hck => ?_)
    obtain ⟨e1, e2, e3⟩ := hck
    refine ii_eq rfl rfl (by omega) (by omega) (fun e => ?_) (fun e => ?_)
    · refine hp k (by omega) ?_ hn
      rw [← e]
      exact (e3 ck (by omega)).mp (Int.le_refl _)
    · refine nm_r (nI_1 k) (ih (k + 1) (by omega) (fun j hj hP => ?_))
      by_cases ej : j = k
      · subst ej
        have f1 := (e3 c hc2).mpr hP
        obtain ⟨i, hi, hci⟩ := (e3 ck (by omega)).mp (Int.le_refl _)
        have f2 := (c4 ck (by omega)).mpr ⟨i, by omega, hci⟩
        exact e (by omega)
      · exact hn j (by omega) hP
theorem yw_la20 (T : tt_ok L N sz sp og lo sa wk) {p q t : Nat} (hp : p < 8) (hq : q < 8) (ht : t ≤ 1000) {G : Int} (hG : ∀ s : Nat, s ≤ t → ((s : Int) ≤ G ↔ jr_P (tt_W wk) (tt_R N sz sp og lo sa) 8 p (s : Int) q (t : Int))) (post : Int32 → SY → Prop)
    (h1 : ∀ (s : Nat) off th, (s : Int) = G → post (nI s) (nI L, nI N, ar_n sz, ar_n sp, ar_n og, ar_n lo, ar_n sa, ar_n wk, off, th)) (h2 : ∀ off th, G < 0 → post (-5) (nI L, nI N, ar_n sz, ar_n sp, ar_n og, ar_n lo, ar_n sa, ar_n wk, off, th)) :
    ∀ n (off th : Nat → Int32), n ≤ t + 1 → G < (n : Int) → wY_latest_20 post (nI p) (nI q) (nI t) (n + 1) (nI n - 1) (nI L) (nI N) (ar_n sz) (ar_n sp) (ar_n og) (ar_n lo) (ar_n sa) (ar_n wk) off th := by
  intro n
  induction n with
  | zero =>
    intro off th hn hg
    exact br_t (by decide) (h2 off th (by omega))
  | succ s ih =>
    intro off th hn hg
    rw [nI_pred]
    refine br_f (nI_pos (by omega)) ?_
    rw [ii_n s]
    refine yw_se (K := 8) T (by omega) hp (by omega) _ (fun off' th' hR => yw_be (K := 8) (by omega) hq hR _ (fun c hc => ?_))
    have c1 := hc.1
    have c2 := hc.2.1
    refine ii_lt (ii_n t) rfl (by omega) (by omega) (fun h => ?_) (fun h => ?_)
    · refine nm_r (e' := nI s - 1) (by rw [← ii_n s]; exact (Int32.sub_eq_add_neg _ _).symm) (ih off' th' (by omega) ?_)
      rcases Int.lt_or_le G (s : Int) with z | z
      · exact z
      · have := (hc.2.2 (t : Int) (by omega)).mpr ((hG s (by omega)).mp z)
        omega
    · rw [← ii_n s]
      have := (hG s (by omega)).mpr ((hc.2.2 (t : Int) (by omega)).mp h)
      exact h1 s off' th' (by omega)
theorem xw_wi41 {a : Nat} {t : Int} {w : Nat} (hw : w ≤ 1000) {g : Nat → Int} (E : xs_E N sz sp og lo sa wk a t 12 rea g) (post : Int32 → SX → Prop) (hp : post (nI (jr_n (fun s => jr_P (tt_W wk) (tt_R N sz sp og lo sa) 12 a t s (w : Int)) 8)) (nI L, nI N, b, ar_n sz, ar_n sp, ar_n og, ar_n lo, ar_n sa, ar_n wk, rid, rea, bef)) :
    ∀ d s, s + d = 8 → wX_within_41 post (nI w) (nI L) (nI N) b (ar_n sz) (ar_n sp) (ar_n og) (ar_n lo) (ar_n sa) (ar_n wk) rid rea bef (d + 1) (nI (jr_n (fun s => jr_P (tt_W wk) (tt_R N sz sp og lo sa) 12 a t s (w : Int)) s)) (nI s) := by
  intro d
  induction d with
  | zero =>
    intro s hs
    have e : s = 8 := by omega
    subst e
    exact br_t (by decide) hp
  | succ d ih =>
    intro s hs
    have hs8 : s < 8 := by omega
    have gb := E.2.1 s hs8
    have hE := E.2.2 s hs8 (w : Int) (by omega)
    have ihs := ih (s + 1) (by omega)
    refine br_f (nI_ge (b := 8) hs8 (by decide)) ⟨in_s hs8, ii_lt (ii_n w) (xw_rd E.1 hs8) (by omega) (by omega) (fun h => ?_) (fun h => ?_)⟩
    · rw [show jr_n (fun s => jr_P (tt_W wk) (tt_R N sz sp og lo sa) 12 a t s (w : Int)) (s + 1) = jr_n (fun s => jr_P (tt_W wk) (tt_R N sz sp og lo sa) 12 a t s (w : Int)) s + jr_b (jr_P (tt_W wk) (tt_R N sz sp og lo sa) 12 a t s (w : Int)) from rfl, jr_bf (fun z => by have := hE.mpr z; omega), Nat.add_zero] at ihs
      exact nm_r (nI_1 s) ihs
    · rw [show jr_n (fun s => jr_P (tt_W wk) (tt_R N sz sp og lo sa) 12 a t s (w : Int)) (s + 1) = jr_n (fun s => jr_P (tt_W wk) (tt_R N sz sp og lo sa) 12 a t s (w : Int)) s + jr_b (jr_P (tt_W wk) (tt_R N sz sp og lo sa) 12 a t s (w : Int)) from rfl, jr_bt (hE.mp h)] at ihs
      exact nm_r (nI_1 _) (nm_r (nI_1 s) ihs)
theorem yw_wi42 {a : Nat} {t : Int} {w : Nat} (hw : w ≤ 1000) (hR : ∀ j, j ≤ 12 → ys_R N sz sp og lo sa wk a t th j) (post : Int32 → SY → Prop) (hp : post (nI (jr_n (fun s => jr_P (tt_W wk) (tt_R N sz sp og lo sa) 12 a t s (w : Int)) 8)) (nI L, nI N, ar_n sz, ar_n sp, ar_n og, ar_n lo, ar_n sa, ar_n wk, off, th)) :
    ∀ d s, s + d = 8 → wY_within_42 post (nI w) (nI L) (nI N) (ar_n sz) (ar_n sp) (ar_n og) (ar_n lo) (ar_n sa) (ar_n wk) off th (d + 1) (nI (jr_n (fun s => jr_P (tt_W wk) (tt_R N sz sp og lo sa) 12 a t s (w : Int)) s)) (nI s) := by
  intro d
  induction d with
  | zero =>
    intro s hs
    have e : s = 8 := by omega
    subst e
    exact br_t (by decide) hp
  | succ d ih =>
    intro s hs
    have hs8 : s < 8 := by omega
    have ihs := ih (s + 1) (by omega)
    refine br_f (nI_ge (b := 8) hs8 (by decide)) ?_
    refine yw_be (K := 12) (by omega) hs8 hR _ (fun c hc => ?_)
    obtain ⟨c1, c2, c3⟩ := hc
    have hE := c3 (w : Int) (by omega)
    refine ii_lt (ii_n w) rfl (by omega) (by omega) (fun h => ?_) (fun h => ?_)
    · rw [show jr_n (fun s => jr_P (tt_W wk) (tt_R N sz sp og lo sa) 12 a t s (w : Int)) (s + 1) = jr_n (fun s => jr_P (tt_W wk) (tt_R N sz sp og lo sa) 12 a t s (w : Int)) s + jr_b (jr_P (tt_W wk) (tt_R N sz sp og lo sa) 12 a t s (w : Int)) from rfl, jr_bf (fun z => by have := hE.mpr z; omega), Nat.add_zero] at ihs
      exact nm_r (nI_1 s) ihs
    · rw [show jr_n (fun s => jr_P (tt_W wk) (tt_R N sz sp og lo sa) 12 a t s (w : Int)) (s + 1) = jr_n (fun s => jr_P (tt_W wk) (tt_R N sz sp og lo sa) 12 a t s (w : Int)) s + jr_b (jr_P (tt_W wk) (tt_R N sz sp og lo sa) 12 a t s (w : Int)) from rfl, jr_bt (hE.mp h)] at ihs
      exact nm_r (nI_1 _) (nm_r (nI_1 s) ihs)
end
theorem i_vc_rides {k : Nat} {u : SX} {v : SY} (I : i_Rel k u v) (hk : k + 5 ≤ 2560) (v1 : Int32) (v2 : Int32) (v3 : Int32) : wpX_rides (fun r u' => wpY_rides (fun r' v' => r' = r ∧ i_Rel (k + 5) u' v') v v1 v2 v3) u v1 v2 v3 := by
  refine rl_el (Q := fun u v => wpX_rides (fun r u' => wpY_rides (fun r' v' => r' = r ∧ i_Rel (k + 5) u' v') v v1 v2 v3) u v1 v2 v3) I ?_
  intro L N sz sp og lo sa wk b rid rea bef off th T
  unfold wpX_rides
  rcases rf_ix v1 v2 v3 with ⟨p, q, t, hp, hq, ht, rfl, rfl, rfl⟩ | ⟨r, h0, h1, hX, hY⟩
  · refine xw_rfo hp hq ht (br_t rfl ?_)
    rw [ii_n t]
    have fin : ∀ b' rid' rea' bef' g' k' last, xs_E N sz sp og lo sa wk p (t : Int) 12 rea' g' → k' ≤ 12 → xr_L N sz sp og lo sa wk p (t : Int) q k' (g' q) last → wpY_rides (fun r' v' => r' = last ∧ i_Rel (k + 5) (nI L, nI N, b', ar_n sz, ar_n sp, ar_n og, ar_n lo, ar_n sa, ar_n wk, rid', rea', bef') v') (nI L, nI N, ar_n sz, ar_n sp, ar_n og, ar_n lo, ar_n sa, ar_n wk, off, th) (nI p) (nI q) (ii_v (t : Int)) := by
      intro b' rid' rea' bef' g' k' last E hk' hl
      rw [← ii_n t]
      unfold wpY_rides
      refine yw_ea T hp hq ht _ (fun off' th' c hR hc => ?_)
      have c1 := hc.1
      rcases an_eq T (by omega) (E.2.1 q hq).2 (E.2.2 q hq) hc with ⟨e1, e2⟩ | ⟨e1, e2⟩
      · rw [show an_v 100000 c = ii_v c from if_pos (by omega)]
        refine br_t (by rw [ii_0]; exact (ii_leI (by omega) (by omega)).mpr c1) ⟨13, ?_⟩
        refine yw_ri20 hq hc (by omega) hR _ (fun m hm hP hn => ⟨?_, rl_mk T⟩) 12 0 (by omega) (fun j hj => absurd hj (Nat.not_lt_zero _))
        obtain ⟨m', hm', el, hP', hn'⟩ := hl.1 (by omega)
        rw [e1] at hP' hn'
        rw [el]
        rcases Nat.lt_trichotomy m m' with z | z | z
        · exact absurd hP (hn' m z)
        · rw [z]
        · exact absurd hP' (hn m' z)
      · rw [show an_v 100000 c = -5 from if_neg (by omega)]
        exact br_f (by decide) ⟨(hl.2 (by omega)).symm, rl_mk T⟩
    refine xw_bg T hp (by omega) _ (fun b' rid' rea' g' I' => ⟨in_s hq, ?_⟩)
    have gb := I'.2.1 q hq
    refine ii_le ii_M (xw_rd I'.1 hq) (by omega) (by omega) (fun h => ⟨13, ?_⟩) (fun h => ⟨13, ?_⟩)
    · exact xw_ri45 T hq _ fin 12 0 (-5) b' rid' rea' bef g' (by omega) I' ⟨fun z => by omega, fun _ => rfl⟩
    · exact xw_ri45 T hq _ fin 12 0 (nI 0) b' rid' rea' bef g' (by omega) I' ⟨fun z => ⟨0, Nat.le_refl _, rfl, (I'.2.2.1 q hq (g' q) z).mp (Int.le_refl _), fun j hj => absurd hj (Nat.not_lt_zero _)⟩, fun z => by omega⟩
  · refine hX L N sz sp og lo sa wk b rid rea bef _ (br_f h0 ?_)
    unfold wpY_rides wpY_earliest wpY_earliestWith
    exact hY L N sz sp og lo sa wk off th _ (br_f h1 (br_f h1 ⟨rfl, rl_mk T⟩))
theorem i_vc_latest {k : Nat} {u : SX} {v : SY} (I : i_Rel k u v) (hk : k + 5 ≤ 2560) (v1 : Int32) (v2 : Int32) (v3 : Int32) : wpX_latest (fun r u' => wpY_latest (fun r' v' => r' = r ∧ i_Rel (k + 5) u' v') v v1 v2 v3) u v1 v2 v3 := by
  refine rl_el (Q := fun u v => wpX_latest (fun r u' => wpY_latest (fun r' v' => r' = r ∧ i_Rel (k + 5) u' v') v v1 v2 v3) u v1 v2 v3) I ?_
  intro L N sz sp og lo sa wk b rid rea bef off th T
  unfold wpX_latest
  rcases rf_ix v1 v2 v3 with ⟨p, q, t, hp, hq, ht, rfl, rfl, rfl⟩ | ⟨r, h0, h1, hX, hY⟩
  · refine xw_rfo hp hq ht (br_t rfl ?_)
    rw [ii_n t]
    refine xw_pb T hq (by omega) _ (fun b' rid' rea' bef' g' E => ⟨in_s hp, ?_⟩)
    have gb := E.2.1 p hp
    have gt : g' p ≤ (t : Int) := by
      rcases Int.lt_or_le (t : Int) (g' p) with z | z
      · obtain ⟨j, hj, hc⟩ := (E.2.2 p hp ((t : Int) + 1) (by omega)).mp (by omega)
        have := jr_Ct tt_Wt (tt_Rt T) j _ _ _ _ hc
        omega
      · exact z
    have er := xw_rd E.1 hp
    have hG : ∀ s : Nat, s ≤ t → ((s : Int) ≤ g' p ↔ jr_P (tt_W wk) (tt_R N sz sp og lo sa) 8 p (s : Int) q (t : Int)) := by
      intro s hs
      rw [E.2.2 p hp (s : Int) (by omega)]
      exact jr_12 tt_Wm tt_Rm tt_Wt (tt_Rt T) hq
    have fin : ∀ r : Int32, (∀ s : Nat, (s : Int) = g' p → nI s = r) → (g' p < 0 → -5 = r) → wpY_latest (fun r' v' => r' = r ∧ i_Rel (k + 5) (nI L, nI N, b', ar_n sz, ar_n sp, ar_n og, ar_n lo, ar_n sa, ar_n wk, rid', rea', bef') v') (nI L, nI N, ar_n sz, ar_n sp, ar_n og, ar_n lo, ar_n sa, ar_n wk, off, th) (nI p) (nI q) (ii_v (t : Int)) := by
      intro r f1 f2
      rw [← ii_n t]
      unfold wpY_latest
      refine yw_rfo hp hq ht (br_t (by decide) ⟨t + 1 + 1, ?_⟩)
      have hh := yw_la20 T hp hq ht hG (fun r' v' => r' = r ∧ i_Rel (k + 5) (nI L, nI N, b', ar_n sz, ar_n sp, ar_n og, ar_n lo, ar_n sa, ar_n wk, rid', rea', bef') v') (fun s off th e => ⟨f1 s e, rl_mk T⟩) (fun off th e => ⟨f2 e, rl_mk T⟩) (t + 1) off th (Nat.le_refl _) (by omega)
      rw [nI_pred] at hh
      exact hh
    refine ii_le ii_0 er (by omega) (by omega) (fun h => ⟨in_s hp, ?_⟩) (fun h => ?_)
    · refine ii_le er ii_K (by omega) (by omega) (fun h2 => ⟨in_s hp, ?_⟩) (fun h2 => by omega)
      rw [er]
      exact fin _ (fun s e => by rw [ii_n, e]) (fun z => by omega)
    · exact fin _ (fun s e => by omega) (fun _ => rfl)
  · refine hX L N sz sp og lo sa wk b rid rea bef _ (br_f h0 ?_)
    unfold wpY_latest
    exact hY L N sz sp og lo sa wk off th _ (br_f h1 ⟨rfl, rl_mk T⟩)
theorem i_vc_within {k : Nat} {u : SX} {v : SY} (I : i_Rel k u v) (hk : k + 5 ≤ 2560) (v1 : Int32) (v2 : Int32) (v3 : Int32) : wpX_within (fun r u' => wpY_within (fun r' v' => r' = r ∧ i_Rel (k + 5) u' v') v v1 v2 v3) u v1 v2 v3 := by
  refine rl_el (Q := fun u v => wpX_within (fun r u' => wpY_within (fun r' v' => r' = r ∧ i_Rel (k + 5) u' v') v v1 v2 v3) u v1 v2 v3) I ?_
  intro L N sz sp og lo sa wk b rid rea bef off th T
  unfold wpX_within
  rcases rf_ix v1 v1 v2 with ⟨p, q, t, hp, hq, ht, rfl, e2, rfl⟩ | ⟨r, h0, h1, hX, hY⟩
  · refine xw_rfo hp hp ht (br_t rfl ?_)
    rcases bt_ix v3 with h | ⟨w, hw, rfl⟩
    · refine xw_tmf h (br_f (by decide) ?_)
      unfold wpY_within
      exact yw_rfo hp hp ht (br_t (by decide) (yw_tmf h (br_t rfl ⟨rfl, rl_mk T⟩)))
    · refine xw_tmt hw (br_t rfl ?_)
      rw [ii_n t]
      refine xw_pl (K := 12) T hp (by omega) (by omega) _ (fun b' rid' rea' bef' g' E => ⟨9, ?_⟩)
      refine xw_wi41 hw E _ ?_ 8 0 (by omega)
      unfold wpY_within
      rw [← ii_n t]
      refine yw_rfo hp hp ht (br_t (by decide) (yw_tmt hw (br_f (by decide) ?_)))
      rw [ii_n t]
      refine yw_se (K := 12) T (by omega) hp (by omega) _ (fun off' th' hR => ⟨9, ?_⟩)
      exact yw_wi42 hw hR _ ⟨rfl, rl_mk T⟩ 8 0 (by omega)
  · refine hX L N sz sp og lo sa wk b rid rea bef _ (br_f h0 ?_)
    unfold wpY_within
    exact hY L N sz sp og lo sa wk off th _ (br_f h1 ⟨rfl, rl_mk T⟩)
end
