section
/-! pure rows to paste: stores, nI and lN arithmetic, masks, shifts, narrowing, branches by naturals (pk_le, pk_lt, pk_eq), loops (lp1 .. lp16: the measure of the state; rp1 ..: recursion), negatives. Take what you need -/
theorem pk_us {f : Nat → Int32} {k : Nat} {x : Int32} : upd f k x k = x := if_pos rfl
theorem pk_un {f : Nat → Int32} {k j : Nat} {x : Int32} (h : j ≠ k) : upd f k x j = f j := if_neg h
theorem pk_sub {a b : Nat} (h : b ≤ a) : nI a - nI b = nI (a - b) := by
  obtain ⟨c, rfl⟩ : ∃ c, a = c + b := ⟨a - b, by omega⟩
  rw [← nI_add, Int32.add_sub_cancel, Nat.add_sub_cancel]
theorem pk_m1 (n : Nat) : nI (n + 1) + (-1) = nI n := by
  rw [← nI_1, Int32.add_assoc, show (1 : Int32) + (-1) = 0 from rfl, Int32.add_zero]
theorem pk_mul (a b : Nat) : nI a * nI b = nI (a * b) := (Int32.ofNat_mul a b).symm
theorem pk_div {a d : Nat} (ha : a < 2 ^ 31) (h0 : 0 < d) (hd : d < 2 ^ 31) : nI a / nI d = nI (a / d) := by
  apply Int32.toInt_inj.mp
  rw [lg_idiv_nonneg (by rw [nI_toInt ha]; omega) (by rw [nI_toInt hd]; omega), nI_toInt ha, nI_toInt hd, nI_toInt (Nat.lt_of_le_of_lt (Nat.div_le_self a d) ha)]
  first | rfl | exact (Int.natCast_ediv _ _).symm
theorem pk_rem {a d : Nat} (ha : a < 2 ^ 31) (h0 : 0 < d) (hd : d < 2 ^ 31) : nI a - nI a / nI d * nI d = nI (a % d) := by
  rw [pk_div ha h0 hd, pk_mul, pk_sub (Nat.div_mul_le_self a d)]
  exact congrArg nI (by have := Nat.div_add_mod' a d; omega)
theorem pk_sub_toInt {a b : Nat} (ha : a < 2 ^ 30) (hb : b < 2 ^ 30) : (nI a - nI b).toInt = (a : Int) - b := by
  rw [Int32.toInt_sub, nI_toInt (by omega), nI_toInt (by omega)]
  exact Int.bmod_eq_of_le (by omega) (by omega)
theorem pk_sneg {a b : Nat} (hb : b < 2 ^ 30) (h : a < b) : nI a - nI b < 0 := by
  rw [Int32.lt_iff_toInt_lt, pk_sub_toInt (by omega) hb, show (0 : Int32).toInt = 0 from by decide]
  omega
theorem pk_ix (x : Int32) {n : Nat} (hn : n < 2 ^ 31) : x < 0 ∨ nI n ≤ x ∨ ∃ j : Nat, j < n ∧ x = nI j := by
  by_cases h : x < 0
  · exact Or.inl h
  · obtain ⟨j, hj, rfl⟩ := nI_of h
    by_cases h2 : j < n
    · exact Or.inr (Or.inr ⟨j, h2, rfl⟩)
    · exact Or.inr (Or.inl (nI_le (by omega) hj))
theorem pk_le {x y : Int32} {A B : Prop} (a b : Nat) (f : a ≤ b → A) (g : b < a → B) (hx : x = nI a := by rfl) (hy : y = nI b := by rfl) (ha : a < 2 ^ 31 := by omega) (hb : b < 2 ^ 31 := by omega) : (x ≤ y → A) ∧ (¬ x ≤ y → B) := by
  subst hx hy
  rw [nI_leI ha hb]
  exact ⟨f, fun z => g (by omega)⟩
theorem pk_lt {x y : Int32} {A B : Prop} (a b : Nat) (f : a < b → A) (g : b ≤ a → B) (hx : x = nI a := by rfl) (hy : y = nI b := by rfl) (ha : a < 2 ^ 31 := by omega) (hb : b < 2 ^ 31 := by omega) : (x < y → A) ∧ (¬ x < y → B) := by
  subst hx hy
  rw [nI_ltI ha hb]
  exact ⟨f, fun z => g (by omega)⟩
theorem pk_eq {x y : Int32} {A B : Prop} (a b : Nat) (f : a = b → A) (g : a ≠ b → B) (hx : x = nI a := by rfl) (hy : y = nI b := by rfl) (ha : a < 2 ^ 31 := by omega) (hb : b < 2 ^ 31 := by omega) : (x = y → A) ∧ (¬ x = y → B) := by
  subst hx hy
  rw [nI_eq ha hb]
  exact ⟨f, g⟩
theorem pk_in {x : Int32} (n N : Nat) (h : n < N) (hx : x = nI n := by rfl) (hN : N < 2 ^ 31 := by omega) : vp_in x N := by
  subst hx
  exact vp_in_nI h hN
theorem pk_cl {x : Int32} (n : Nat) (hx : x = nI n := by rfl) (h : n < 2 ^ 31 := by omega) : x.toNatClampNeg = n := by
  subst hx
  exact nI_clamp h
theorem pk_tn {n : Nat} (h : n < 2 ^ 32) : (nI n).toBitVec.toNat = n := Nat.mod_eq_of_lt h
theorem pk_and (x : Int32) {m : Int32} (k : Nat) (hm : m.toBitVec.toNat = 2 ^ k - 1) : x &&& m = nI (x.toBitVec.toNat % 2 ^ k) := by
  apply Int32.toBitVec_inj.mp
  apply BitVec.eq_of_toNat_eq
  rw [Int32.toBitVec_and, BitVec.toNat_and, hm, Nat.and_two_pow_sub_one_eq_mod]
  show _ = (BitVec.ofNat 32 _).toNat
  rw [BitVec.toNat_ofNat]
  exact (Nat.mod_eq_of_lt (Nat.lt_of_le_of_lt (Nat.mod_le _ _) x.toBitVec.isLt)).symm
theorem pk_ushr (x s : Int32) (k : Nat) (hs : ((s.toUInt32 &&& Int32.toUInt32 31).toBitVec % 32).toNat = k) : (x.toUInt32 >>> (s.toUInt32 &&& Int32.toUInt32 31)).toInt32.toBitVec.toNat = x.toBitVec.toNat / 2 ^ k := by
  have e : (x.toUInt32 >>> (s.toUInt32 &&& Int32.toUInt32 31)).toInt32.toBitVec = x.toBitVec >>> k := by
    rw [← hs]
    exact UInt32.toBitVec_shiftRight _ _
  rw [e, BitVec.toNat_ushiftRight, Nat.shiftRight_eq_div_pow]
theorem pk_ushrN {n : Nat} (hn : n < 2 ^ 32) (s : Int32) (k : Nat) (hs : ((s.toUInt32 &&& Int32.toUInt32 31).toBitVec % 32).toNat = k) : ((nI n).toUInt32 >>> (s.toUInt32 &&& Int32.toUInt32 31)).toInt32 = nI (n / 2 ^ k) := by
  apply Int32.toBitVec_inj.mp
  apply BitVec.eq_of_toNat_eq
  rw [pk_ushr _ s k hs, pk_tn hn, pk_tn (Nat.lt_of_le_of_lt (Nat.div_le_self _ _) hn)]
/-! ===== Int32 by its bits: bt x i ===== -/
def bt (x : Int32) (i : Nat) : Bool := x.toBitVec.getLsbD i
theorem b_ext {x y : Int32} (h : ∀ i, i < 32 → bt x i = bt y i) : x = y := Int32.toBitVec_inj.mp (BitVec.eq_of_getLsbD_eq (fun i hi => h i hi))
theorem b_or (x y : Int32) (i : Nat) : bt (x ||| y) i = (bt x i || bt y i) := by unfold bt; rw [Int32.toBitVec_or, BitVec.getLsbD_or]
theorem b_and (x y : Int32) (i : Nat) : bt (x &&& y) i = (bt x i && bt y i) := by unfold bt; rw [Int32.toBitVec_and, BitVec.getLsbD_and]
theorem b_xor (x y : Int32) (i : Nat) : bt (x ^^^ y) i = (bt x i ^^ bt y i) := by unfold bt; rw [Int32.toBitVec_xor, BitVec.getLsbD_xor]
theorem b_big {x : Int32} {i : Nat} (h : 32 ≤ i) : bt x i = false := BitVec.getLsbD_of_ge _ _ h
theorem b_m1 : ∀ i, i < 32 → bt (-1) i = true := by decide +kernel
theorem b_0 (i : Nat) : bt 0 i = false := BitVec.getLsbD_zero
theorem s_l : ∀ n, n < 32 → ((nI n &&& 31).toBitVec.smod 32).toNat = n := by decide +kernel
theorem s_u : ∀ n, n < 32 → (((nI n).toUInt32 &&& Int32.toUInt32 31).toBitVec % 32).toNat = n := by decide +kernel
theorem b_shl (n : Nat) (hn : n < 32) (x : Int32) {i : Nat} (hi : i < 32) : bt (x <<< (nI n &&& 31)) i = (decide (n ≤ i) && bt x (i - n)) := by
  unfold bt
  rw [Int32.toBitVec_shiftLeft]
  show (x.toBitVec <<< ((nI n &&& 31).toBitVec.smod 32).toNat).getLsbD i = _
  rw [s_l n hn, BitVec.getLsbD_shiftLeft]
  rcases Nat.lt_or_ge i n with h | h
  · simp [h, Nat.not_le.mpr h]
  · simp [hi, h, Nat.not_lt.mpr h]
theorem b_ushr (n : Nat) (hn : n < 32) (x : Int32) (i : Nat) : bt ((x.toUInt32 >>> ((nI n).toUInt32 &&& Int32.toUInt32 31)).toInt32) i = bt x (n + i) := by
  show (x.toUInt32 >>> ((nI n).toUInt32 &&& Int32.toUInt32 31)).toBitVec.getLsbD i = x.toUInt32.toBitVec.getLsbD (n + i)
  rw [UInt32.toBitVec_shiftRight]
  show (x.toUInt32.toBitVec >>> (((nI n).toUInt32 &&& Int32.toUInt32 31).toBitVec % 32).toNat).getLsbD i = _
  rw [s_u n hn, BitVec.getLsbD_ushiftRight]
/-! ===== own small rows: indices, stores, one bit ===== -/
theorem za_4 (t s : Nat) : nI t * 4 + nI s = nI (t * 4 + s) := by
  rw [show (4 : Int32) = nI 4 from rfl, pk_mul, nI_add]
theorem za_8 (t k : Nat) : nI t * 8 + nI k = nI (t * 8 + k) := by
  rw [show (8 : Int32) = nI 8 from rfl, pk_mul, nI_add]
theorem za_32 (t k : Nat) : nI t * 32 + nI k = nI (t * 32 + k) := by
  rw [show (32 : Int32) = nI 32 from rfl, pk_mul, nI_add]
theorem za_m4 (t : Nat) : nI t * 4 = nI (t * 4) := by
  rw [show (4 : Int32) = nI 4 from rfl, pk_mul]
theorem za_m32 (t : Nat) : nI t * 32 = nI (t * 32) := by
  rw [show (32 : Int32) = nI 32 from rfl, pk_mul]
theorem za_e4 (t : Nat) : nI t * 4 + 4 = nI (t * 4 + 4) := by
  rw [za_m4, show (4 : Int32) = nI 4 from rfl, nI_add]
theorem za_p4 (k : Nat) : nI k + 4 = nI (k + 4) := by
  rw [show (4 : Int32) = nI 4 from rfl, nI_add]
theorem za_c4 {t s : Nat} (ht : t < 32) (hs : s < 4) : (nI t * 4 + nI s).toNatClampNeg = t * 4 + s := by rw [za_4, nI_clamp (by omega)]
theorem za_i4 {t s : Nat} (ht : t < 32) (hs : s < 4) : vp_in (nI t * 4 + nI s) 128 := by rw [za_4]; exact vp_in_nI (by omega) (by omega)
theorem za_c8 {t k : Nat} (ht : t < 32) (hk : k < 8) : (nI t * 8 + nI k).toNatClampNeg = t * 8 + k := by rw [za_8, nI_clamp (by omega)]
theorem za_i8 {t k : Nat} (ht : t < 32) (hk : k < 8) : vp_in (nI t * 8 + nI k) 256 := by rw [za_8]; exact vp_in_nI (by omega) (by omega)
theorem za_rem {k : Nat} (hk : k < 8) : nI k - nI k / 4 * 4 = nI (k % 4) := pk_rem (d := 4) (by omega) (by decide) (by decide)
theorem zu_id {f : Nat → Int32} {k : Nat} {x : Int32} (h : f k = x) : upd f k x = f := by
  funext j
  unfold upd
  split
  · next e => rw [e, h]
  · rfl
theorem zu_ne {a b : Nat} (ha : a < 2 ^ 31) (hb : b < 2 ^ 31) (h : a ≠ b) : nI a ≠ nI b := fun e => h ((nI_eq ha hb).mp e)
theorem zu_m1 {a : Nat} (ha : a < 2 ^ 31) : nI a ≠ -1 := by
  intro e
  have h := congrArg Int32.toInt e
  rw [nI_toInt ha, show (-1 : Int32).toInt = -1 from by decide] at h
  omega
theorem zi_le {a b : Int32} : a ≤ b ↔ a.toInt ≤ b.toInt := Int32.le_iff_toInt_le
theorem zi_lt {a b : Int32} : a < b ↔ a.toInt < b.toInt := Int32.lt_iff_toInt_lt
theorem zi_eq {a b : Int32} : a = b ↔ a.toInt = b.toInt := Int32.toInt_inj.symm
theorem zi_tot (a b : Int32) : a ≤ b ∨ b < a := by rw [zi_le, zi_lt]; omega
theorem zi_nle {a b : Int32} : ¬ a ≤ b ↔ b < a := by rw [zi_le, zi_lt]; omega
theorem zi_nlt {a b : Int32} : ¬ a < b ↔ b ≤ a := by rw [zi_le, zi_lt]; omega
/-- the bit of t -/
theorem zb_1 {t u : Nat} (ht : t < 32) (hu : u < 32) : bt ((1 : Int32) <<< (nI t &&& 31)) u = decide (u = t) := by
  rw [b_shl t ht 1 hu]
  rcases Nat.lt_trichotomy u t with h | h | h
  · rw [decide_eq_false (by omega), decide_eq_false (by omega)]; rfl
  · subst h
    rw [decide_eq_true (Nat.le_refl u), decide_eq_true rfl, Nat.sub_self]; rfl
  · obtain ⟨d, rfl⟩ : ∃ d, u = t + (d + 1) := ⟨u - t - 1, by omega⟩
    rw [decide_eq_true (by omega), decide_eq_false (by omega), Nat.add_sub_cancel_left]
    have : ∀ d, d < 32 → bt 1 (d + 1) = false := by decide +kernel
    rw [this d (by omega)]; rfl
theorem zb_and0 {x : Int32} {t : Nat} (ht : t < 32) : (x &&& ((1 : Int32) <<< (nI t &&& 31))) = 0 ↔ bt x t = false := by
  constructor
  · intro h
    have e : bt (x &&& ((1 : Int32) <<< (nI t &&& 31))) t = bt 0 t := by rw [h]
    rw [b_and, zb_1 ht ht, b_0, decide_eq_true rfl, Bool.and_true] at e
    exact e
  · intro h
    apply b_ext
    intro i hi
    rw [b_and, zb_1 ht hi, b_0]
    by_cases e : i = t
    · subst e; rw [h]; rfl
    · rw [decide_eq_false e, Bool.and_false]
theorem zb_clr {x : Int32} {t u : Nat} (ht : t < 32) (hu : u < 32) : bt (x &&& (((1 : Int32) <<< (nI t &&& 31)) ^^^ (-1))) u = (bt x u && decide (u ≠ t)) := by
  rw [b_and, b_xor, zb_1 ht hu, b_m1 u hu]
  by_cases e : u = t
  · rw [decide_eq_true e, decide_eq_false (fun h => h e)]; rfl
  · rw [decide_eq_false e, decide_eq_true e]; rfl
theorem zb_set {x : Int32} {t u : Nat} (ht : t < 32) (hu : u < 32) : bt (x ||| ((1 : Int32) <<< (nI t &&& 31))) u = (bt x u || decide (u = t)) := by
  rw [b_or, zb_1 ht hu]
theorem zb_clr0 {x : Int32} {t : Nat} (ht : t < 32) : (x &&& (((1 : Int32) <<< (nI t &&& 31)) ^^^ (-1))) = 0 ↔ ∀ u, u < 32 → u ≠ t → bt x u = false := by
  constructor
  · intro h u hu hn
    have e : bt (x &&& (((1 : Int32) <<< (nI t &&& 31)) ^^^ (-1))) u = bt 0 u := by rw [h]
    rw [zb_clr ht hu, b_0, decide_eq_true hn, Bool.and_true] at e
    exact e
  · intro h
    apply b_ext
    intro i hi
    rw [zb_clr ht hi, b_0]
    by_cases e : i = t
    · rw [decide_eq_false (fun h => h e), Bool.and_false]
    · rw [h i hi e, Bool.false_and]
end
section
/-! ===== counting ===== -/
theorem zp_f : ∀ (n m : Nat) (f : Nat → Nat), (∀ i, i < m → f i < n) → (∀ a b, a < b → b < m → f a ≠ f b) → m ≤ n
  | 0, m, f, h, _ => by
    rcases Nat.eq_zero_or_pos m with e | e
    · omega
    · have := h 0 e; omega
  | n + 1, m, f, h, hd => by
    by_cases hq : ∃ q, q < m ∧ f q = n
    · obtain ⟨q, hq, eq⟩ := hq
      have := zp_f n (m - 1) (fun i => if i < q then f i else f (i + 1)) (by
        intro i hi
        split
        · next z =>
          have h1 := h i (by omega)
          have h2 := hd i q z hq
          omega
        · next z =>
          have h1 := h (i + 1) (by omega)
          have h2 := hd q (i + 1) (by omega) (by omega)
          omega) (by
        intro a b hab hb
        by_cases za : a < q
        · rw [if_pos za]
          by_cases zb : b < q
          · rw [if_pos zb]; exact hd a b hab (by omega)
          · rw [if_neg zb]; exact hd a (b + 1) (by omega) (by omega)
        · rw [if_neg za, if_neg (by omega)]
          exact hd (a + 1) (b + 1) (by omega) (by omega))
      omega
    · have := zp_f n m f (fun i hi => by
        have h1 := h i hi
        have h2 : f i ≠ n := fun e => hq ⟨i, hi, e⟩
        omega) hd
      omega
theorem zp_R {n m : Nat} {R : Nat → Nat → Prop} (h : ∀ i, i < m → ∃ t, t < n ∧ R i t) (hd : ∀ a b t, a < b → b < m → R a t → R b t → False) : m ≤ n := by
  have hc : ∀ i, ∃ t, i < m → t < n ∧ R i t := fun i => by
    by_cases z : i < m
    · obtain ⟨t, ht⟩ := h i z
      exact ⟨t, fun _ => ht⟩
    · exact ⟨0, fun z' => absurd z' z⟩
  have hf : ∀ i, i < m → Classical.choose (hc i) < n ∧ R i (Classical.choose (hc i)) := fun i => Classical.choose_spec (hc i)
  refine zp_f n m (fun i => Classical.choose (hc i)) (fun i hi => (hf i hi).1) ?_
  intro a b hab hb e
  have h1 := (hf a (by omega)).2
  have h2 := (hf b hb).2
  rw [e] at h1
  exact hd a b _ hab hb h1 h2
theorem zp_lt {n m : Nat} {R : Nat → Nat → Prop} (h : ∀ i, i < m → ∃ t, t < n ∧ R i t) (hd : ∀ a b t, a < b → b < m → R a t → R b t → False) {t0 : Nat} (h0 : t0 < n) (hn : ∀ i, i < m → ¬ R i t0) : m < n := by
  have : m + 1 ≤ n := by
    refine zp_R (R := fun i t => (i < m ∧ R i t) ∨ (i = m ∧ t = t0)) ?_ ?_
    · intro i hi
      by_cases z : i < m
      · obtain ⟨t, ht, hr⟩ := h i z
        exact ⟨t, ht, Or.inl ⟨z, hr⟩⟩
      · exact ⟨t0, h0, Or.inr ⟨by omega, rfl⟩⟩
    · intro a b t hab hb h1 h2
      rcases h1 with ⟨_, h1⟩ | ⟨h1, _⟩
      · rcases h2 with ⟨z, h2⟩ | ⟨_, h2⟩
        · exact hd a b t hab z h1 h2
        · subst h2; exact hn a (by omega) h1
      · omega
  omega
/-! ===== ordered lists in the arrays lt, ls, ll: list j has m entries, exactly those t < n with P t, by key ===== -/
def zL (n : Nat) (lt ls ll key : Nat → Int32) (P : Nat → Prop) (j m : Nat) : Prop :=
  ll j = nI m ∧ (∀ i, i < m → ∃ t, t < n ∧ P t ∧ lt (j * 32 + i) = nI t ∧ ls (j * 32 + i) = key t) ∧
  (∀ a b, a < b → b < m → lt (j * 32 + a) ≠ lt (j * 32 + b) ∧ ls (j * 32 + a) ≤ ls (j * 32 + b)) ∧
  (∀ t, t < n → P t → ∃ i, i < m ∧ lt (j * 32 + i) = nI t)
theorem zL_le {n : Nat} {lt ls ll key : Nat → Int32} {P : Nat → Prop} {j m : Nat} (hn : n ≤ 32) (h : zL n lt ls ll key P j m) : m ≤ n := by
  refine zp_R (R := fun i t => lt (j * 32 + i) = nI t) ?_ ?_
  · intro i hi
    obtain ⟨t, ht, _, e, _⟩ := h.2.1 i hi
    exact ⟨t, ht, e⟩
  · intro a b t hab hb h1 h2
    exact (h.2.2.1 a b hab hb).1 (h1.trans h2.symm)
theorem zL_lt {n : Nat} {lt ls ll key : Nat → Int32} {P : Nat → Prop} {j m : Nat} (hn : n ≤ 32) (h : zL n lt ls ll key P j m) {t0 : Nat} (h0 : t0 < n) (hp : ¬ P t0) : m < n := by
  refine zp_lt (R := fun i t => lt (j * 32 + i) = nI t) ?_ ?_ h0 ?_
  · intro i hi
    obtain ⟨t, ht, _, e, _⟩ := h.2.1 i hi
    exact ⟨t, ht, e⟩
  · intro a b t hab hb h1 h2
    exact (h.2.2.1 a b hab hb).1 (h1.trans h2.symm)
  · intro i hi e
    obtain ⟨t, ht, pt, e', _⟩ := h.2.1 i hi
    have : t0 = t := (nI_eq (by omega) (by omega)).mp (e.symm.trans e')
    subst this
    exact hp pt
theorem zL_cg {n : Nat} {lt ls ll key lt' ls' ll' key' : Nat → Int32} {P P' : Nat → Prop} {j m : Nat} (h : zL n lt ls ll key P j m)
    (h1 : ∀ i, i < m → lt' (j * 32 + i) = lt (j * 32 + i)) (h2 : ∀ i, i < m → ls' (j * 32 + i) = ls (j * 32 + i)) (h3 : ll' j = ll j)
    (hP : ∀ t, t < n → (P' t ↔ P t)) (hk : ∀ t, t < n → P t → key' t = key t) : zL n lt' ls' ll' key' P' j m := by
  obtain ⟨a1, a2, a3, a4⟩ := h
  refine ⟨h3.trans a1, ?_, ?_, ?_⟩
  · intro i hi
    obtain ⟨t, ht, pt, e1, e2⟩ := a2 i hi
    exact ⟨t, ht, (hP t ht).mpr pt, (h1 i hi).trans e1, (h2 i hi).trans (e2.trans (hk t ht pt).symm)⟩
  · intro a b hab hb
    rw [h1 a (by omega), h1 b hb, h2 a (by omega), h2 b hb]
    exact a3 a b hab hb
  · intro t ht pt
    obtain ⟨i, hi, e⟩ := a4 t ht ((hP t ht).mp pt)
    exact ⟨i, hi, (h1 i hi).trans e⟩
/-! insertion: the tail from p on is shifted by one -/
def zsh (f : Nat → Int32) (B m p : Nat) : Nat → Int32 := fun j => if B + p < j ∧ j ≤ B + m then f (j - 1) else f j
def zins (f : Nat → Int32) (B m p : Nat) (x : Int32) : Nat → Int32 := fun j => if j = B + p then x else if B + p < j ∧ j ≤ B + m then f (j - 1) else f j
theorem zsh_0 {f : Nat → Int32} {B m : Nat} : zsh f B m m = f := by
  funext j; unfold zsh; rw [if_neg (by omega)]
theorem zsh_s {f : Nat → Int32} {B m p : Nat} (h : p + 1 ≤ m) : upd (zsh f B m (p + 1)) (B + p + 1) (zsh f B m (p + 1) (B + p)) = zsh f B m p := by
  funext j
  unfold zsh upd
  by_cases e : j = B + p + 1
  · rw [if_pos e, if_neg (by omega), if_pos (by omega)]
    rw [show j - 1 = B + p by omega]
  · rw [if_neg e]
    dsimp only
    by_cases z : B + (p + 1) < j ∧ j ≤ B + m
    · rw [if_pos z, if_pos (by omega)]
    · rw [if_neg z, if_neg (by omega)]
theorem zsh_at {f : Nat → Int32} {B m p i : Nat} (h : i ≤ p) : zsh f B m p (B + i) = f (B + i) := by
  unfold zsh; rw [if_neg (by omega)]
theorem zins_u {f : Nat → Int32} {B m p : Nat} {x : Int32} : upd (zsh f B m p) (B + p) x = zins f B m p x := by
  funext j; unfold zsh upd zins; rfl
theorem zins_l {f : Nat → Int32} {B m p i : Nat} {x : Int32} (h : i < p) : zins f B m p x (B + i) = f (B + i) := by
  unfold zins; rw [if_neg (by omega), if_neg (by omega)]
theorem zins_e {f : Nat → Int32} {B m p : Nat} {x : Int32} : zins f B m p x (B + p) = x := by
  unfold zins; rw [if_pos rfl]
theorem zins_g {f : Nat → Int32} {B m p i : Nat} {x : Int32} (h : p ≤ i) (hm : i < m) : zins f B m p x (B + (i + 1)) = f (B + i) := by
  unfold zins; rw [if_neg (by omega), if_pos (by omega), show B + (i + 1) - 1 = B + i by omega]
theorem zins_o {f : Nat → Int32} {B m p j : Nat} {x : Int32} (hp : p ≤ m) (h : j < B ∨ B + m < j) : zins f B m p x j = f j := by
  unfold zins; rw [if_neg (by omega), if_neg (by omega)]
theorem zL_ins {n : Nat} {lt ls ll key key' : Nat → Int32} {P P' : Nat → Prop} {j m p t0 : Nat} {x : Int32} (hn : n ≤ 32) (h : zL n lt ls ll key P j m) (h0 : t0 < n) (hp0 : ¬ P t0)
    (hpm : p ≤ m) (hg : ∀ i, p ≤ i → i < m → x < ls (j * 32 + i)) (hl : 0 < p → ls (j * 32 + (p - 1)) ≤ x)
    (hP : ∀ t, t < n → t ≠ t0 → (P' t ↔ P t)) (hk : ∀ t, t < n → t ≠ t0 → P t → key' t = key t) (hP0 : P' t0) (hk0 : key' t0 = x) :
    zL n (zins lt (j * 32) m p (nI t0)) (zins ls (j * 32) m p x) (upd ll j (nI (m + 1))) key' P' j (m + 1) := by
  obtain ⟨a1, a2, a3, a4⟩ := h
  have hne : ∀ i, i < m → lt (j * 32 + i) ≠ nI t0 := by
    intro i hi e
    obtain ⟨t, ht, pt, e1, _⟩ := a2 i hi
    have : t = t0 := (nI_eq (by omega) (by omega)).mp (e1.symm.trans e)
    subst this; exact hp0 pt
  have hlo : ∀ a, a < p → ls (j * 32 + a) ≤ x := by
    intro a ha
    have h1 := hl (by omega)
    by_cases e : a = p - 1
    · rw [e]; exact h1
    · exact Int32.le_trans (a3 a (p - 1) (by omega) (by omega)).2 h1
  refine ⟨pk_us, ?_, ?_, ?_⟩
  · have old : ∀ i, i < m → ∃ t, t < n ∧ P' t ∧ lt (j * 32 + i) = nI t ∧ ls (j * 32 + i) = key' t := by
      intro i hi
      obtain ⟨t, ht, pt, e1, e2⟩ := a2 i hi
      have hne' : t ≠ t0 := fun e => hp0 (e ▸ pt)
      exact ⟨t, ht, (hP t ht hne').mpr pt, e1, e2.trans (hk t ht hne' pt).symm⟩
    intro i hi
    rcases Nat.lt_trichotomy i p with z | z | z
    · rw [zins_l z, zins_l z]; exact old i (by omega)
    · subst z
      rw [zins_e, zins_e]; exact ⟨t0, h0, hP0, rfl, hk0.symm⟩
    · obtain ⟨i', rfl⟩ : ∃ i', i = i' + 1 := ⟨i - 1, by omega⟩
      rw [zins_g (by omega) (by omega), zins_g (by omega) (by omega)]; exact old i' (by omega)
  · intro a b hab hb
    rcases Nat.lt_trichotomy b p with zb | zb | zb
    · rw [zins_l zb, zins_l zb, zins_l (show a < p by omega), zins_l (show a < p by omega)]
      exact a3 a b hab (by omega)
    · subst zb
      rw [zins_e, zins_e, zins_l hab, zins_l hab]
      exact ⟨hne a (by omega), hlo a hab⟩
    · obtain ⟨b', rfl⟩ : ∃ b', b = b' + 1 := ⟨b - 1, by omega⟩
      rw [zins_g (by omega) (by omega), zins_g (by omega) (by omega)]
      rcases Nat.lt_trichotomy a p with za | za | za
      · rw [zins_l za, zins_l za]
        exact a3 a b' (by omega) (by omega)
      · subst za
        rw [zins_e, zins_e]
        exact ⟨fun e => hne b' (by omega) e.symm, Int32.le_of_lt (hg b' (by omega) (by omega))⟩
      · obtain ⟨a', rfl⟩ : ∃ a', a = a' + 1 := ⟨a - 1, by omega⟩
        rw [zins_g (by omega) (by omega), zins_g (by omega) (by omega)]
        exact a3 a' b' (by omega) (by omega)
  · intro t ht pt
    by_cases e : t = t0
    · subst e; exact ⟨p, by omega, zins_e⟩
    · obtain ⟨i, hi, e1⟩ := a4 t ht ((hP t ht e).mp pt)
      by_cases z : i < p
      · exact ⟨i, by omega, (zins_l z).trans e1⟩
      · exact ⟨i + 1, by omega, (zins_g (by omega) hi).trans e1⟩
/-! removal of the entry q -/
def zrm (f : Nat → Int32) (B q i : Nat) : Nat → Int32 := fun j => if B + q ≤ j ∧ j + 1 < B + i then f (j + 1) else f j
theorem zrm_0 {f : Nat → Int32} {B q : Nat} : zrm f B q (q + 1) = f := by
  funext j; unfold zrm; rw [if_neg (by omega)]
theorem zrm_at {f : Nat → Int32} {B q i : Nat} : zrm f B q i (B + i) = f (B + i) := by
  unfold zrm; rw [if_neg (by omega)]
theorem zrm_s {f : Nat → Int32} {B q i : Nat} (h : q < i) : upd (zrm f B q i) (B + (i - 1)) (f (B + i)) = zrm f B q (i + 1) := by
  funext j
  unfold zrm upd
  by_cases e : j = B + (i - 1)
  · rw [if_pos e, if_pos (by omega), show j + 1 = B + i by omega]
  · rw [if_neg e]
    dsimp only
    by_cases z : B + q ≤ j ∧ j + 1 < B + i
    · rw [if_pos z, if_pos (by omega)]
    · rw [if_neg z, if_neg (by omega)]
theorem zrm_l {f : Nat → Int32} {B q m i : Nat} (h : i < q) : zrm f B q m (B + i) = f (B + i) := by
  unfold zrm; rw [if_neg (by omega)]
theorem zrm_g {f : Nat → Int32} {B q m i : Nat} (h : q ≤ i) (hm : i + 1 < m) : zrm f B q m (B + i) = f (B + (i + 1)) := by
  unfold zrm; rw [if_pos (by omega), show B + i + 1 = B + (i + 1) by omega]
theorem zrm_o {f : Nat → Int32} {B q m j : Nat} (h : j < B ∨ B + m ≤ j) : zrm f B q m j = f j := by
  unfold zrm; rw [if_neg (by omega)]
theorem zL_rm {n : Nat} {lt ls ll key : Nat → Int32} {P P' : Nat → Prop} {j m q t0 : Nat} (hn : n ≤ 32) (h : zL n lt ls ll key P j m) (h0 : t0 < n)
    (hq : q < m) (hqt : lt (j * 32 + q) = nI t0) (hP : ∀ t, t < n → (P' t ↔ (P t ∧ t ≠ t0))) :
    zL n (zrm lt (j * 32) q m) (zrm ls (j * 32) q m) (upd ll j (nI (m - 1))) key P' j (m - 1) := by
  obtain ⟨a1, a2, a3, a4⟩ := h
  have old : ∀ i, i < m → i ≠ q → ∃ t, t < n ∧ P' t ∧ lt (j * 32 + i) = nI t ∧ ls (j * 32 + i) = key t := by
    intro i hi hne
    obtain ⟨t, ht, pt, e1, e2⟩ := a2 i hi
    refine ⟨t, ht, (hP t ht).mpr ⟨pt, fun e => ?_⟩, e1, e2⟩
    subst e
    rcases Nat.lt_or_gt_of_ne hne with z | z
    · exact (a3 i q z hq).1 (e1.trans hqt.symm)
    · exact (a3 q i z hi).1 (hqt.trans e1.symm)
  refine ⟨pk_us, ?_, ?_, ?_⟩
  · intro i hi
    by_cases z : i < q
    · rw [zrm_l z, zrm_l z]; exact old i (by omega) (by omega)
    · rw [zrm_g (by omega) (by omega), zrm_g (by omega) (by omega)]; exact old (i + 1) (by omega) (by omega)
  · intro a b hab hb
    by_cases zb : b < q
    · rw [zrm_l zb, zrm_l zb, zrm_l (show a < q by omega), zrm_l (show a < q by omega)]
      exact a3 a b hab (by omega)
    · rw [zrm_g (i := b) (by omega) (by omega), zrm_g (i := b) (by omega) (by omega)]
      by_cases za : a < q
      · rw [zrm_l za, zrm_l za]; exact a3 a (b + 1) (by omega) (by omega)
      · rw [zrm_g (i := a) (by omega) (by omega), zrm_g (i := a) (by omega) (by omega)]
        exact a3 (a + 1) (b + 1) (by omega) (by omega)
  · intro t ht pt
    obtain ⟨p1, p2⟩ := (hP t ht).mp pt
    obtain ⟨i, hi, e1⟩ := a4 t ht p1
    have hne : i ≠ q := by
      intro e; subst e
      exact p2 ((nI_eq (by omega) (by omega)).mp (e1.symm.trans hqt))
    by_cases z : i < q
    · exact ⟨i, by omega, (zrm_l z).trans e1⟩
    · obtain ⟨i', rfl⟩ : ∃ i', i = i' + 1 := ⟨i - 1, by omega⟩
      exact ⟨i', by omega, (zrm_g (by omega) (by omega)).trans e1⟩
/-! the first c entries dropped -/
def zdr (f : Nat → Int32) (B c i : Nat) : Nat → Int32 := fun j => if B ≤ j ∧ j + c < B + i then f (j + c) else f j
theorem zdr_0 {f : Nat → Int32} {B c : Nat} : zdr f B c c = f := by
  funext j; unfold zdr; rw [if_neg (by omega)]
theorem zdr_at {f : Nat → Int32} {B c i : Nat} : zdr f B c i (B + i) = f (B + i) := by
  unfold zdr; rw [if_neg (by omega)]
theorem zdr_s {f : Nat → Int32} {B c i : Nat} (h : c ≤ i) : upd (zdr f B c i) (B + (i - c)) (f (B + i)) = zdr f B c (i + 1) := by
  funext j
  unfold zdr upd
  by_cases e : j = B + (i - c)
  · rw [if_pos e, if_pos (by omega), show j + c = B + i by omega]
  · rw [if_neg e]
    dsimp only
    by_cases z : B ≤ j ∧ j + c < B + i
    · rw [if_pos z, if_pos (by omega)]
    · rw [if_neg z, if_neg (by omega)]
theorem zdr_g {f : Nat → Int32} {B c m i : Nat} (hm : i + c < m) : zdr f B c m (B + i) = f (B + (i + c)) := by
  unfold zdr; rw [if_pos (by omega), show B + i + c = B + (i + c) by omega]
theorem zdr_o {f : Nat → Int32} {B c m j : Nat} (h : j < B ∨ B + m ≤ j) : zdr f B c m j = f j := by
  unfold zdr; rw [if_neg (by omega)]
theorem zL_dr {n : Nat} {lt ls ll key : Nat → Int32} {P P' : Nat → Prop} {j m c : Nat} (h : zL n lt ls ll key P j m)
    (hc : c ≤ m) (hP : ∀ t, t < n → (P' t ↔ (P t ∧ ∀ i, i < c → lt (j * 32 + i) ≠ nI t))) :
    zL n (zdr lt (j * 32) c m) (zdr ls (j * 32) c m) (upd ll j (nI (m - c))) key P' j (m - c) := by
  obtain ⟨a1, a2, a3, a4⟩ := h
  refine ⟨pk_us, ?_, ?_, ?_⟩
  · intro i hi
    rw [zdr_g (by omega), zdr_g (by omega)]
    obtain ⟨t, ht, pt, e1, e2⟩ := a2 (i + c) (by omega)
    refine ⟨t, ht, (hP t ht).mpr ⟨pt, fun i' hi' e => ?_⟩, e1, e2⟩
    exact (a3 i' (i + c) (by omega) (by omega)).1 (e.trans e1.symm)
  · intro a b hab hb
    rw [zdr_g (i := a) (by omega), zdr_g (i := a) (by omega), zdr_g (i := b) (by omega), zdr_g (i := b) (by omega)]
    exact a3 (a + c) (b + c) (by omega) (by omega)
  · intro t ht pt
    obtain ⟨p1, p2⟩ := (hP t ht).mp pt
    obtain ⟨i, hi, e1⟩ := a4 t ht p1
    have hge : c ≤ i := by
      rcases Nat.lt_or_ge i c with z | z
      · exact absurd e1 (p2 i z)
      · exact z
    refine ⟨i - c, by omega, ?_⟩
    rw [zdr_g (by omega), show i - c + c = i by omega]
    exact e1
/-! ===== version chains ===== -/
def zV (n : Nat) (cs vs vv vc ma mv : Nat → Int32) (k m : Nat) : Prop :=
  vc k = nI m ∧ (∀ i, i < m → ∃ t, t < n ∧ ma (t * 8 + k) ≠ 0 ∧ vs (k * 32 + i) = cs t ∧ vv (k * 32 + i) = mv (t * 8 + k)) ∧
  (∀ a b, a < b → b < m → vs (k * 32 + a) < vs (k * 32 + b)) ∧
  (∀ t, t < n → ma (t * 8 + k) ≠ 0 → ∃ i, i < m ∧ vs (k * 32 + i) = cs t ∧ vv (k * 32 + i) = mv (t * 8 + k))
theorem zV_irr {a : Int32} : ¬ a < a := by rw [zi_lt]; omega
theorem zV_le {n : Nat} {cs vs vv vc ma mv : Nat → Int32} {k m : Nat} (h : zV n cs vs vv vc ma mv k m) : m ≤ n := by
  refine zp_R (R := fun i t => vs (k * 32 + i) = cs t) ?_ ?_
  · intro i hi
    obtain ⟨t, ht, _, e, _⟩ := h.2.1 i hi
    exact ⟨t, ht, e⟩
  · intro a b t hab hb h1 h2
    have := h.2.2.1 a b hab hb
    rw [h1, h2] at this
    exact zV_irr this
theorem zV_lt {n : Nat} {cs vs vv vc ma mv : Nat → Int32} {k m : Nat} (h : zV n cs vs vv vc ma mv k m) {t0 : Nat} (h0 : t0 < n) (hm : ma (t0 * 8 + k) = 0) : m < n := by
  refine zp_lt (R := fun i t => ma (t * 8 + k) ≠ 0 ∧ vs (k * 32 + i) = cs t) ?_ ?_ h0 ?_
  · intro i hi
    obtain ⟨t, ht, hma, e, _⟩ := h.2.1 i hi
    exact ⟨t, ht, hma, e⟩
  · intro a b t hab hb h1 h2
    have := h.2.2.1 a b hab hb
    rw [h1.2, h2.2] at this
    exact zV_irr this
  · intro i hi e
    exact e.1 hm
theorem zV_cg {n : Nat} {cs vs vv vc ma mv cs' vs' vv' vc' ma' mv' : Nat → Int32} {k m : Nat} (h : zV n cs vs vv vc ma mv k m)
    (h1 : ∀ i, i < m → vs' (k * 32 + i) = vs (k * 32 + i)) (h2 : ∀ i, i < m → vv' (k * 32 + i) = vv (k * 32 + i)) (h3 : vc' k = vc k)
    (h4 : ∀ t, t < n → ma' (t * 8 + k) = ma (t * 8 + k)) (h5 : ∀ t, t < n → mv' (t * 8 + k) = mv (t * 8 + k))
    (h6 : ∀ t, t < n → ma (t * 8 + k) ≠ 0 → cs' t = cs t) : zV n cs' vs' vv' vc' ma' mv' k m := by
  obtain ⟨a1, a2, a3, a4⟩ := h
  refine ⟨h3.trans a1, ?_, ?_, ?_⟩
  · intro i hi
    obtain ⟨t, ht, hm, e1, e2⟩ := a2 i hi
    exact ⟨t, ht, by rw [h4 t ht]; exact hm, by rw [h1 i hi, h6 t ht hm]; exact e1, by rw [h2 i hi, h5 t ht]; exact e2⟩
  · intro a b hab hb
    rw [h1 a (by omega), h1 b hb]
    exact a3 a b hab hb
  · intro t ht hm
    rw [h4 t ht] at hm
    obtain ⟨i, hi, e1, e2⟩ := a4 t ht hm
    exact ⟨i, hi, by rw [h1 i hi, h6 t ht hm]; exact e1, by rw [h2 i hi, h5 t ht]; exact e2⟩
theorem zV_app {n : Nat} {cs vs vv vc ma mv vs' vv' vc' ma' mv' : Nat → Int32} {k m t0 : Nat} (h : zV n cs vs vv vc ma mv k m)
    (h0 : t0 < n) (hm0 : ma (t0 * 8 + k) = 0) (hgt : ∀ t, t < n → ma (t * 8 + k) ≠ 0 → cs t < cs t0)
    (h1 : ∀ i, i < m → vs' (k * 32 + i) = vs (k * 32 + i)) (h2 : ∀ i, i < m → vv' (k * 32 + i) = vv (k * 32 + i)) (h3 : vc' k = nI (m + 1))
    (h4 : ∀ t, t < n → t ≠ t0 → ma' (t * 8 + k) = ma (t * 8 + k)) (h5 : ∀ t, t < n → t ≠ t0 → mv' (t * 8 + k) = mv (t * 8 + k))
    (h6 : vs' (k * 32 + m) = cs t0) (h7 : vv' (k * 32 + m) = mv' (t0 * 8 + k)) (h8 : ma' (t0 * 8 + k) ≠ 0) : zV n cs vs' vv' vc' ma' mv' k (m + 1) := by
  obtain ⟨a1, a2, a3, a4⟩ := h
  refine ⟨h3, ?_, ?_, ?_⟩
  · intro i hi
    by_cases z : i = m
    · subst z; exact ⟨t0, h0, h8, h6, h7⟩
    · obtain ⟨t, ht, hm, e1, e2⟩ := a2 i (by omega)
      have hne : t ≠ t0 := fun e => hm (e ▸ hm0)
      exact ⟨t, ht, by rw [h4 t ht hne]; exact hm, by rw [h1 i (by omega)]; exact e1, by rw [h2 i (by omega), h5 t ht hne]; exact e2⟩
  · intro a b hab hb
    by_cases z : b = m
    · subst z
      rw [h1 a hab, h6]
      obtain ⟨t, ht, hm, e1, e2⟩ := a2 a hab
      rw [e1]; exact hgt t ht hm
    · rw [h1 a (by omega), h1 b (by omega)]
      exact a3 a b hab (by omega)
  · intro t ht hm
    by_cases z : t = t0
    · subst z; exact ⟨m, by omega, h6, h7⟩
    · rw [h4 t ht z] at hm
      obtain ⟨i, hi, e1, e2⟩ := a4 t ht hm
      exact ⟨i, by omega, by rw [h1 i hi]; exact e1, by rw [h2 i hi, h5 t ht z]; exact e2⟩
/-- the value of the version with the greatest stamp not above ts -/
def zVal (n k : Nat) (ts : Int32) (cs ma mv : Nat → Int32) (r : Int32) : Prop :=
  (r = 0 ∧ ∀ t, t < n → ma (t * 8 + k) ≠ 0 → ¬ cs t ≤ ts) ∨
  (∃ f, f < n ∧ ma (f * 8 + k) ≠ 0 ∧ cs f ≤ ts ∧ (∀ t, t < n → ma (t * 8 + k) ≠ 0 → cs t ≤ ts → cs t ≤ cs f) ∧ r = mv (f * 8 + k))
theorem zVal_X {n : Nat} {cs vs vv vc ma mv : Nat → Int32} {k m : Nat} {ts : Int32} (h : zV n cs vs vv vc ma mv k m) {low : Nat} (hl : low ≤ m)
    (h1 : ∀ i, i < low → vs (k * 32 + i) ≤ ts) (h2 : ∀ i, low ≤ i → i < m → ts < vs (k * 32 + i)) :
    zVal n k ts cs ma mv (if low = 0 then 0 else vv (k * 32 + (low - 1))) := by
  obtain ⟨a1, a2, a3, a4⟩ := h
  by_cases z : low = 0
  · left
    refine ⟨if_pos z, fun t ht hm hle => ?_⟩
    obtain ⟨i, hi, e1, e2⟩ := a4 t ht hm
    have := h2 i (by omega) hi
    rw [e1] at this
    exact zi_nle.mpr this hle
  · right
    obtain ⟨f, hf, hm, e1, e2⟩ := a2 (low - 1) (by omega)
    refine ⟨f, hf, hm, ?_, ?_, ?_⟩
    · rw [← e1]; exact h1 _ (by omega)
    · intro t ht hmt hle
      obtain ⟨i, hi, e3, e4⟩ := a4 t ht hmt
      rw [← e3, ← e1]
      by_cases z2 : i = low - 1
      · rw [z2]; exact Int32.le_refl _
      · by_cases z3 : i < low - 1
        · exact Int32.le_of_lt (a3 i (low - 1) z3 (by omega))
        · have := h2 i (by omega) hi
          rw [e3] at this
          exact absurd hle (zi_nle.mpr this)
    · rw [if_neg z]; exact e2
theorem zVal_u {n : Nat} {cs vs vv vc ma mv : Nat → Int32} {k m : Nat} {ts r r' : Int32} (h : zV n cs vs vv vc ma mv k m)
    (h1 : zVal n k ts cs ma mv r) (h2 : zVal n k ts cs ma mv r') : r' = r := by
  obtain ⟨a1, a2, a3, a4⟩ := h
  have key : ∀ f g, f < n → g < n → ma (f * 8 + k) ≠ 0 → ma (g * 8 + k) ≠ 0 → cs f = cs g → mv (f * 8 + k) = mv (g * 8 + k) := by
    intro f g hf hg mf mg e
    obtain ⟨i, hi, e1, e2⟩ := a4 f hf mf
    obtain ⟨i', hi', e3, e4⟩ := a4 g hg mg
    have : i = i' := by
      rcases Nat.lt_trichotomy i i' with z | z | z
      · have := a3 i i' z hi'
        rw [e1, e3, e] at this
        exact absurd this zV_irr
      · exact z
      · have := a3 i' i z hi
        rw [e1, e3, e] at this
        exact absurd this zV_irr
    subst this
    rw [← e2, ← e4]
  rcases h1 with ⟨e1, h1⟩ | ⟨f, hf, mf, lf, gf, e1⟩
  · rcases h2 with ⟨e2, h2⟩ | ⟨g, hg, mg, lg, gg, e2⟩
    · rw [e1, e2]
    · exact absurd lg (h1 g hg mg)
  · rcases h2 with ⟨e2, h2⟩ | ⟨g, hg, mg, lg, gg, e2⟩
    · exact absurd lf (h2 f hf mf)
    · rw [e1, e2]
      exact (key f g hf hg mf mg (Int32.le_antisymm (gg f hf mf lf) (gf g hg mg lg))).symm
end
section
/-! ===== the invariant ===== -/
abbrev zPr (c : Int32) : Prop := c = 3 ∨ c = 4 ∨ c = 5 ∨ c = 7
abbrev zHd (c : Int32) : Prop := ¬ c = 0 ∧ ¬ c = 8 ∧ ¬ c = 9
abbrev zOk (a c : Int32) : Prop := (a = 0 ∧ (c = 0 ∨ c = 1 ∨ c = 8)) ∨ (a = 1 ∧ (c = 0 ∨ c = 2 ∨ c = 3 ∨ c = 4 ∨ c = 8)) ∨ (a = 2 ∧ (c = 0 ∨ c = 4)) ∨ (a = 3 ∧ (c = 0 ∨ c = 5 ∨ c = 9)) ∨ (a = 4 ∧ (c = 0 ∨ c = 6 ∨ c = 7 ∨ c = 9))
def zT (N : Nat) (st cs ln ps lo ma : Nat → Int32) (t : Nat) : Prop :=
  (∀ s, s < 4 → zOk (st t) (ln (t * 4 + s))) ∧
  (∀ k, k < 8 → lo (t * 8 + k) = 0 ∨ ((lo (t * 8 + k) = 1 ∨ lo (t * 8 + k) = 2) ∧ zHd (ln (t * 4 + k % 4)))) ∧
  (∀ k, k < 8 → ma (t * 8 + k) = 0 ∨ (st t = 3 ∧ ln (t * 4 + k % 4) = 9)) ∧
  (st t = 3 → (cs t).toInt < N) ∧
  (∀ s, s < 4 → zPr (ln (t * 4 + s)) → 0 ≤ (ps (t * 4 + s)).toInt ∧ ((st t = 2 ∨ st t = 3) → ps (t * 4 + s) ≤ cs t))
theorem zT_cg {N N' : Nat} {st cs ln ps lo ma st' cs' ln' ps' lo' ma' : Nat → Int32} {t : Nat} (h : zT N st cs ln ps lo ma t) (hN : N ≤ N')
    (e1 : st' t = st t) (e2 : cs' t = cs t) (e3 : ∀ s, s < 4 → ln' (t * 4 + s) = ln (t * 4 + s)) (e4 : ∀ s, s < 4 → ps' (t * 4 + s) = ps (t * 4 + s))
    (e5 : ∀ k, k < 8 → lo' (t * 8 + k) = lo (t * 8 + k)) (e6 : ∀ k, k < 8 → ma' (t * 8 + k) = ma (t * 8 + k)) : zT N' st' cs' ln' ps' lo' ma' t := by
  obtain ⟨a1, a2, a3, a4, a5⟩ := h
  refine ⟨fun s hs => ?_, fun k hk => ?_, fun k hk => ?_, fun z => ?_, fun s hs z => ?_⟩
  · rw [e1, e3 s hs]; exact a1 s hs
  · rw [e5 k hk, e3 _ (by omega)]; exact a2 k hk
  · rw [e6 k hk, e1, e3 _ (by omega)]; exact a3 k hk
  · rw [e1] at z; rw [e2]; have := a4 z; omega
  · rw [e3 s hs] at z; rw [e4 s hs, e1, e2]; exact a5 s hs z
def zO (n : Nat) (st ln lo ma : Nat → Int32) : Prop := ∀ t, n ≤ t → st t = 0 ∧ (∀ s, s < 4 → ln (t * 4 + s) = 0) ∧ (∀ k, k < 8 → lo (t * 8 + k) = 0 ∧ ma (t * 8 + k) = 0)
def zK (n : Nat) (sh ow px lo py : Nat → Int32) (k : Nat) : Prop :=
  (∀ t, t < 32 → (bt (sh k) t = true ↔ lo (t * 8 + k) = 1)) ∧
  ((ow k = -1 ∧ ∀ t, t < 32 → lo (t * 8 + k) ≠ 2) ∨ (∃ t, t < n ∧ ow k = nI t ∧ lo (t * 8 + k) = 2 ∧ px k = py (t * 8 + k) ∧ ∀ u, u < 32 → u ≠ t → lo (u * 8 + k) ≠ 2))
def zQ (cs ln ps lo ma : Nat → Int32) : Prop := ∀ t k, k < 8 → lo (t * 8 + k) = 2 → zPr (ln (t * 4 + k % 4)) → ∀ u, ma (u * 8 + k) ≠ 0 → cs u < ps (t * 4 + k % 4)
def zE (E N : Nat) (o e : Int32) : Prop := -(E : Int) ≤ o.toInt ∧ o.toInt ≤ E ∧ e.toInt ≤ N ∧ N + o.toInt - E ≤ e.toInt
def zA (E C N n : Nat) (off ear hom : Nat → Int32) : Prop := E ≤ 20 ∧ C ≤ 32 ∧ N ≤ 100000 ∧ n ≤ C ∧ (∀ s, s < 4 → zE E N (off s) (ear s)) ∧ (∀ t, t < n → ∃ h, h < 4 ∧ hom t = nI h)
def zP (n : Nat) (ln ps lt ls ll : Nat → Int32) : Prop := ∀ s, s < 4 → ∃ m, zL n lt ls ll (fun t => ps (t * 4 + s)) (fun t => zPr (ln (t * 4 + s))) s m
def zW (n : Nat) (hom st cs lt ls ll : Nat → Int32) : Prop := ∀ h, h < 4 → ∃ m, zL n lt ls ll cs (fun t => st t = 2 ∧ hom t = nI h) (4 + h) m
def zVs (n : Nat) (cs vs vv vc ma mv : Nat → Int32) : Prop := ∀ k, k < 8 → ∃ m, zV n cs vs vv vc ma mv k m
def zInv (E C N n : Nat) (off ear hom st cs ln ps sh ow px vs vv vc lt ls ll lo py ma mv : Nat → Int32) : Prop :=
  zA E C N n off ear hom ∧ (∀ t, zT N st cs ln ps lo ma t) ∧ zO n st ln lo ma ∧ (∀ k, k < 8 → zK n sh ow px lo py k) ∧ zQ cs ln ps lo ma ∧
  zP n ln ps lt ls ll ∧ zW n hom st cs lt ls ll ∧ zVs n cs vs vv vc ma mv
/-! frames -/
def zFr (f f' : Nat → Int32) (j : Nat) : Prop := ∀ i, (i < j * 32 ∨ j * 32 + 32 ≤ i) → f' i = f i
theorem zFr_ins {f : Nat → Int32} {j m p : Nat} {x : Int32} (hp : p ≤ m) (hm : m < 32) : zFr f (zins f (j * 32) m p x) j := fun i h => zins_o hp (by omega)
theorem zFr_rm {f : Nat → Int32} {j m q : Nat} (hm : m ≤ 32) : zFr f (zrm f (j * 32) q m) j := fun i h => zrm_o (by omega)
theorem zFr_dr {f : Nat → Int32} {j m c : Nat} (hm : m ≤ 32) : zFr f (zdr f (j * 32) c m) j := fun i h => zdr_o (by omega)
theorem zL_fr {n : Nat} {lt ls ll key lt' ls' ll' key' : Nat → Int32} {P P' : Nat → Prop} {j j0 m : Nat} (hn : n ≤ 32) (h : zL n lt ls ll key P j m) (hj : j ≠ j0)
    (f1 : zFr lt lt' j0) (f2 : zFr ls ls' j0) (f3 : ∀ i, i ≠ j0 → ll' i = ll i)
    (hP : ∀ t, t < n → (P' t ↔ P t)) (hk : ∀ t, t < n → P t → key' t = key t) : zL n lt' ls' ll' key' P' j m := by
  have hm := zL_le hn h
  refine zL_cg h (fun i hi => f1 _ ?_) (fun i hi => f2 _ ?_) (f3 j hj) hP hk
  · rcases Nat.lt_or_gt_of_ne hj with z | z <;> omega
  · rcases Nat.lt_or_gt_of_ne hj with z | z <;> omega
/-! release: what it leaves -/
def zrS (sh : Nat → Int32) (t s : Nat) : Nat → Int32 := fun k => if k < 8 ∧ k % 4 = s then sh k &&& (((1 : Int32) <<< (nI t &&& 31)) ^^^ (-1)) else sh k
def zrO (ow : Nat → Int32) (t s : Nat) : Nat → Int32 := fun k => if (k < 8 ∧ k % 4 = s) ∧ ow k = nI t then -1 else ow k
def zrP (px ow : Nat → Int32) (t s : Nat) : Nat → Int32 := fun k => if (k < 8 ∧ k % 4 = s) ∧ ow k = nI t then 0 else px k
def zrL (lo : Nat → Int32) (t s : Nat) : Nat → Int32 := fun i => if i / 8 = t ∧ i % 4 = s then 0 else lo i
theorem zrL_n {lo : Nat → Int32} {t s u k : Nat} (hk : k < 8) (h : ¬ (u = t ∧ k % 4 = s)) : zrL lo t s (u * 8 + k) = lo (u * 8 + k) := by
  unfold zrL; rw [if_neg (by omega)]
theorem zrL_y {lo : Nat → Int32} {t s k : Nat} (hk : k < 8) (h : k % 4 = s) : zrL lo t s (t * 8 + k) = 0 := by
  unfold zrL; rw [if_pos (by omega)]
theorem zrL_2 {lo : Nat → Int32} {t s u k : Nat} (hk : k < 8) (h : zrL lo t s (u * 8 + k) ≠ 0) : ¬ (u = t ∧ k % 4 = s) := by
  rintro ⟨rfl, e⟩
  exact h (zrL_y hk e)
theorem zK_rel {n : Nat} {sh ow px lo py : Nat → Int32} {t s k : Nat} (hn : n ≤ 32) (ht : t < n) (hk : k < 8) (h : zK n sh ow px lo py k) :
    zK n (zrS sh t s) (zrO ow t s) (zrP px ow t s) (zrL lo t s) (zrL py t s) k := by
  obtain ⟨h1, h2⟩ := h
  by_cases e : k % 4 = s
  · refine ⟨?_, ?_⟩
    · intro u hu
      unfold zrS
      rw [if_pos ⟨hk, e⟩, zb_clr (by omega) hu]
      by_cases z : u = t
      · subst z
        rw [zrL_y hk e]
        simp
      · rw [zrL_n hk (fun c => z c.1), ← h1 u hu]
        simp [z]
    · rcases h2 with ⟨o, h2⟩ | ⟨w, hw, o, h2, h3, h4⟩
      · left
        refine ⟨?_, ?_⟩
        · unfold zrO; rw [if_neg (fun c => zu_m1 (a := t) (by omega) (c.2.symm.trans o))]; exact o
        · intro u hu
          by_cases z : u = t
          · subst z; rw [zrL_y hk e]; decide
          · rw [zrL_n hk (fun c => z c.1)]; exact h2 u hu
      · by_cases z : w = t
        · subst z
          left
          refine ⟨?_, ?_⟩
          · unfold zrO; rw [if_pos ⟨⟨hk, e⟩, o⟩]
          · intro u hu
            by_cases z : u = w
            · subst z; rw [zrL_y hk e]; decide
            · rw [zrL_n hk (fun c => z c.1)]; exact h4 u hu z
        · right
          have ho : ¬ ow k = nI t := fun c => z ((nI_eq (by omega) (by omega)).mp (o.symm.trans c))
          refine ⟨w, hw, ?_, ?_, ?_, ?_⟩
          · unfold zrO; rw [if_neg (fun c => ho c.2)]; exact o
          · rw [zrL_n hk (fun c => z c.1)]; exact h2
          · unfold zrP; rw [if_neg (fun c => ho c.2), zrL_n hk (fun c => z c.1)]; exact h3
          · intro u hu hne
            by_cases z2 : u = t
            · subst z2; rw [zrL_y hk e]; decide
            · rw [zrL_n hk (fun c => z2 c.1)]; exact h4 u hu hne
  · have E1 : zrS sh t s k = sh k := by unfold zrS; rw [if_neg (fun c => e c.2)]
    have E2 : zrO ow t s k = ow k := by unfold zrO; rw [if_neg (fun c => e c.1.2)]
    have E3 : zrP px ow t s k = px k := by unfold zrP; rw [if_neg (fun c => e c.1.2)]
    refine ⟨?_, ?_⟩
    · intro u hu
      rw [E1, zrL_n hk (fun c => e c.2)]; exact h1 u hu
    · rcases h2 with ⟨o, h2⟩ | ⟨w, hw, o, h2, h3, h4⟩
      · exact Or.inl ⟨E2.trans o, fun u hu => by rw [zrL_n hk (fun c => e c.2)]; exact h2 u hu⟩
      · exact Or.inr ⟨w, hw, E2.trans o, by rw [zrL_n hk (fun c => e c.2)]; exact h2, by rw [E3, zrL_n hk (fun c => e c.2)]; exact h3, fun u hu hne => by rw [zrL_n hk (fun c => e c.2)]; exact h4 u hu hne⟩
/-! links of one transaction: a -> b; all that an abort does -/
def zcI (ln : Nat → Int32) (t : Nat) (a b : Int32) (i : Nat) : Nat → Int32 := fun j => if (t * 4 ≤ j ∧ j < t * 4 + i) ∧ ln j = a then b else ln j
abbrev zc (ln : Nat → Int32) (t : Nat) (a b : Int32) : Nat → Int32 := zcI ln t a b 4
theorem zc_0 {ln : Nat → Int32} {t : Nat} {a b : Int32} : zcI ln t a b 0 = ln := by
  funext j; unfold zcI; rw [if_neg (by omega)]
theorem zc_at {ln : Nat → Int32} {t i : Nat} {a b : Int32} : zcI ln t a b i (t * 4 + i) = ln (t * 4 + i) := by
  unfold zcI; rw [if_neg (by omega)]
theorem zc_t {ln : Nat → Int32} {t i : Nat} {a b : Int32} (h : ln (t * 4 + i) = a) : upd (zcI ln t a b i) (t * 4 + i) b = zcI ln t a b (i + 1) := by
  funext j
  unfold upd zcI
  by_cases e : j = t * 4 + i
  · rw [if_pos e, if_pos ⟨by omega, e ▸ h⟩]
  · rw [if_neg e]
    by_cases z : (t * 4 ≤ j ∧ j < t * 4 + i) ∧ ln j = a
    · rw [if_pos z, if_pos ⟨by omega, z.2⟩]
    · rw [if_neg z, if_neg (fun c => z ⟨by omega, c.2⟩)]
theorem zc_f {ln : Nat → Int32} {t i : Nat} {a b : Int32} (h : ¬ ln (t * 4 + i) = a) : zcI ln t a b i = zcI ln t a b (i + 1) := by
  funext j
  unfold zcI
  by_cases z : (t * 4 ≤ j ∧ j < t * 4 + i) ∧ ln j = a
  · rw [if_pos z, if_pos ⟨by omega, z.2⟩]
  · rw [if_neg z, if_neg (fun c => ?_)]
    by_cases e : j = t * 4 + i
    · exact h (e ▸ c.2)
    · exact z ⟨by omega, c.2⟩
theorem zc_n {ln : Nat → Int32} {t u s : Nat} {a b : Int32} (hs : s < 4) (h : u ≠ t) : zc ln t a b (u * 4 + s) = ln (u * 4 + s) := by
  unfold zc zcI; rw [if_neg (fun c => by omega)]
theorem zc_y {ln : Nat → Int32} {t s : Nat} {a b : Int32} (hs : s < 4) : zc ln t a b (t * 4 + s) = if ln (t * 4 + s) = a then b else ln (t * 4 + s) := by
  unfold zc zcI
  by_cases z : ln (t * 4 + s) = a
  · rw [if_pos ⟨by omega, z⟩, if_pos z]
  · rw [if_neg (fun c => z c.2), if_neg z]
/-- the condition of a link after an abort -/
def zab1 (c : Int32) : Int32 := if c = 1 ∨ c = 2 then 6 else if c = 3 ∨ c = 4 then 7 else if c = 8 then 9 else c
def zabI (ln : Nat → Int32) (t i : Nat) : Nat → Int32 := fun j => if t * 4 ≤ j ∧ j < t * 4 + i then zab1 (ln j) else ln j
abbrev zab (ln : Nat → Int32) (t : Nat) : Nat → Int32 := zabI ln t 4
theorem zab_0 {ln : Nat → Int32} {t : Nat} : zabI ln t 0 = ln := by
  funext j; unfold zabI; rw [if_neg (by omega)]
theorem zab_at {ln : Nat → Int32} {t i : Nat} : zabI ln t i (t * 4 + i) = ln (t * 4 + i) := by
  unfold zabI; rw [if_neg (by omega)]
theorem zab_s {ln : Nat → Int32} {t i : Nat} {x : Int32} (h : zab1 (ln (t * 4 + i)) = x) : upd (zabI ln t i) (t * 4 + i) x = zabI ln t (i + 1) := by
  funext j
  unfold upd zabI
  by_cases e : j = t * 4 + i
  · rw [if_pos e, if_pos (by omega), e, h]
  · rw [if_neg e]
    by_cases z : t * 4 ≤ j ∧ j < t * 4 + i
    · rw [if_pos z, if_pos (by omega)]
    · rw [if_neg z, if_neg (by omega)]
theorem zab_f {ln : Nat → Int32} {t i : Nat} (h : zab1 (ln (t * 4 + i)) = ln (t * 4 + i)) : zabI ln t i = zabI ln t (i + 1) := by
  funext j
  unfold zabI
  by_cases z : t * 4 ≤ j ∧ j < t * 4 + i
  · rw [if_pos z, if_pos (by omega)]
  · rw [if_neg z]
    by_cases e : j = t * 4 + i
    · rw [if_pos (by omega), e, h]
    · rw [if_neg (by omega)]
theorem zab_n {ln : Nat → Int32} {t u s : Nat} (hs : s < 4) (h : u ≠ t) : zab ln t (u * 4 + s) = ln (u * 4 + s) := by
  unfold zab zabI; rw [if_neg (fun c => by omega)]
theorem zab_y {ln : Nat → Int32} {t s : Nat} (hs : s < 4) : zab ln t (t * 4 + s) = zab1 (ln (t * 4 + s)) := by
  unfold zab zabI; rw [if_pos (by omega)]
theorem zab_chain {ln : Nat → Int32} {t : Nat} : zc (zc (zc (zc (zc ln t 1 6) t 2 6) t 3 7) t 4 7) t 8 9 = zab ln t := by
  funext j
  unfold zc zab zcI zabI
  by_cases z : t * 4 ≤ j ∧ j < t * 4 + 4
  · simp only [z, true_and, and_self, if_true]
    unfold zab1
    generalize ln j = c
    by_cases h1 : c = 1
    · subst h1; decide
    by_cases h2 : c = 2
    · subst h2; decide
    by_cases h3 : c = 3
    · subst h3; decide
    by_cases h4 : c = 4
    · subst h4; decide
    by_cases h8 : c = 8
    · subst h8; decide
    simp [h1, h2, h3, h4, h8]
  · simp [z]
end
section
/-! ===== pieces of the invariant under a change ===== -/
theorem zP_cg {n : Nat} {ln ln' ps lt ls ll : Nat → Int32} (h : zP n ln ps lt ls ll) (e : ∀ t s, t < n → s < 4 → (zPr (ln' (t * 4 + s)) ↔ zPr (ln (t * 4 + s)))) : zP n ln' ps lt ls ll := by
  intro s hs
  obtain ⟨m, h⟩ := h s hs
  exact ⟨m, zL_cg h (fun _ _ => rfl) (fun _ _ => rfl) rfl (fun t ht => e t s ht hs) (fun _ _ _ => rfl)⟩
theorem zP_u {n i : Nat} {x : Int32} {ln ps lt ls ll : Nat → Int32} (h : zP n ln ps lt ls ll) (e : zPr x ↔ zPr (ln i)) : zP n (upd ln i x) ps lt ls ll := by
  refine zP_cg h (fun t s ht hs => ?_)
  by_cases z : t * 4 + s = i
  · rw [z, pk_us]; exact e
  · rw [pk_un z]
theorem zW_cg {n : Nat} {hom st cs hom' st' cs' lt ls ll : Nat → Int32} (h : zW n hom st cs lt ls ll) (e : ∀ t, t < n → (st' t = 2 ↔ st t = 2)) (e2 : ∀ t, t < n → st t = 2 → cs' t = cs t) (e3 : ∀ t, t < n → hom' t = hom t) : zW n hom' st' cs' lt ls ll := by
  intro s hs
  obtain ⟨m, h⟩ := h s hs
  exact ⟨m, zL_cg h (fun _ _ => rfl) (fun _ _ => rfl) rfl (fun t ht => by show _ ∧ _ ↔ _ ∧ _; rw [e t ht, e3 t ht]) (fun t ht p => e2 t ht p.1)⟩
theorem zQ_cg {cs ln ps lo ma ln' lo' : Nat → Int32} (h : zQ cs ln ps lo ma) (e : ∀ t k, k < 8 → lo' (t * 8 + k) = 2 → zPr (ln' (t * 4 + k % 4)) → lo (t * 8 + k) = 2 ∧ zPr (ln (t * 4 + k % 4))) : zQ cs ln' ps lo' ma := by
  intro t k hk h2 hp u hu
  obtain ⟨h2', hp'⟩ := e t k hk h2 hp
  exact h t k hk h2' hp' u hu
theorem zO_cg {n n' : Nat} {st ln lo ma st' ln' lo' ma' : Nat → Int32} (h : zO n st ln lo ma) (hn : n ≤ n') (e1 : ∀ t, n' ≤ t → st' t = st t) (e2 : ∀ t s, n' ≤ t → s < 4 → ln' (t * 4 + s) = ln (t * 4 + s))
    (e3 : ∀ t k, n' ≤ t → k < 8 → lo' (t * 8 + k) = lo (t * 8 + k)) (e4 : ∀ t k, n' ≤ t → k < 8 → ma' (t * 8 + k) = ma (t * 8 + k)) : zO n' st' ln' lo' ma' := by
  intro t ht
  obtain ⟨b1, b2, b3⟩ := h t (by omega)
  refine ⟨(e1 t ht).trans b1, fun s hs => (e2 t s ht hs).trans (b2 s hs), fun k hk => ⟨(e3 t k ht hk).trans (b3 k hk).1, (e4 t k ht hk).trans (b3 k hk).2⟩⟩
theorem zK_cg {n n' : Nat} {sh ow px lo py sh' ow' px' lo' py' : Nat → Int32} {k : Nat} (h : zK n sh ow px lo py k) (hn : n ≤ n') (e1 : sh' k = sh k) (e2 : ow' k = ow k) (e3 : px' k = px k)
    (e4 : ∀ u, lo' (u * 8 + k) = lo (u * 8 + k)) (e5 : ∀ u, lo (u * 8 + k) = 2 → py' (u * 8 + k) = py (u * 8 + k)) : zK n' sh' ow' px' lo' py' k := by
  obtain ⟨h1, h2⟩ := h
  refine ⟨fun t ht => by rw [e1, e4]; exact h1 t ht, ?_⟩
  rcases h2 with ⟨o, h2⟩ | ⟨w, hw, o, h2, h3, h4⟩
  · exact Or.inl ⟨e2.trans o, fun t ht => by rw [e4]; exact h2 t ht⟩
  · exact Or.inr ⟨w, by omega, e2.trans o, by rw [e4]; exact h2, by rw [e3, e5 w h2]; exact h3, fun u hu hne => by rw [e4]; exact h4 u hu hne⟩
theorem zA_32 {E C N n : Nat} {off ear hom : Nat → Int32} (h : zA E C N n off ear hom) : n ≤ 32 := Nat.le_trans h.2.2.2.1 h.2.1
/-! finite facts on states and links -/
theorem zk_w {a c : Int32} (h : zOk a c) (hc : c = 1 ∨ c = 2 ∨ c = 6) (ha : ¬ a = 4) : zOk a 8 := by
  rcases h with ⟨rfl, rfl | rfl | rfl⟩ | ⟨rfl, rfl | rfl | rfl | rfl | rfl⟩ | ⟨rfl, rfl | rfl⟩ | ⟨rfl, rfl | rfl | rfl⟩ | ⟨rfl, rfl | rfl | rfl | rfl⟩ <;> revert hc ha <;> decide
theorem zk_a {a c : Int32} (h : zOk a c) (ha : a = 0 ∨ a = 1) : zOk 4 (zab1 c) := by
  rcases h with ⟨rfl, rfl | rfl | rfl⟩ | ⟨rfl, rfl | rfl | rfl | rfl | rfl⟩ | ⟨rfl, rfl | rfl⟩ | ⟨rfl, rfl | rfl | rfl⟩ | ⟨rfl, rfl | rfl | rfl | rfl⟩ <;> revert ha <;> decide
theorem zk_ap {a c : Int32} (h : zOk a c) (ha : a = 0 ∨ a = 1) : zPr (zab1 c) ↔ zPr c := by
  rcases h with ⟨rfl, rfl | rfl | rfl⟩ | ⟨rfl, rfl | rfl | rfl | rfl | rfl⟩ | ⟨rfl, rfl | rfl⟩ | ⟨rfl, rfl | rfl | rfl⟩ | ⟨rfl, rfl | rfl | rfl | rfl⟩ <;> revert ha <;> decide
theorem zk_ah {a c : Int32} (h : zOk a c) (ha : a = 0 ∨ a = 1) (hc : zHd c) : zHd (zab1 c) := by
  rcases h with ⟨rfl, rfl | rfl | rfl⟩ | ⟨rfl, rfl | rfl | rfl | rfl | rfl⟩ | ⟨rfl, rfl | rfl⟩ | ⟨rfl, rfl | rfl | rfl⟩ | ⟨rfl, rfl | rfl | rfl | rfl⟩ <;> revert ha hc <;> decide
theorem zk_9 {a c : Int32} (h : zOk a c) (hc : c = 5 ∨ c = 7) : zOk a 9 := by
  rcases h with ⟨rfl, rfl | rfl | rfl⟩ | ⟨rfl, rfl | rfl | rfl | rfl | rfl⟩ | ⟨rfl, rfl | rfl⟩ | ⟨rfl, rfl | rfl | rfl⟩ | ⟨rfl, rfl | rfl | rfl | rfl⟩ <;> revert hc <;> decide
theorem zk_5 {a : Int32} (h : zOk a 5) : a = 3 := by
  rcases h with ⟨rfl, h⟩ | ⟨rfl, h⟩ | ⟨rfl, h⟩ | ⟨rfl, h⟩ | ⟨rfl, h⟩ <;> first | rfl | (exfalso; revert h; decide)
theorem zk_2 {a : Int32} (h : zOk a 2) : a = 1 := by
  rcases h with ⟨rfl, h⟩ | ⟨rfl, h⟩ | ⟨rfl, h⟩ | ⟨rfl, h⟩ | ⟨rfl, h⟩ <;> first | rfl | (exfalso; revert h; decide)
theorem zk_3 {a : Int32} (h : zOk a 3) : a = 1 := by
  rcases h with ⟨rfl, h⟩ | ⟨rfl, h⟩ | ⟨rfl, h⟩ | ⟨rfl, h⟩ | ⟨rfl, h⟩ <;> first | rfl | (exfalso; revert h; decide)
theorem zk_8 {a : Int32} (h : zOk a 8) : a = 0 ∨ a = 1 := by
  rcases h with ⟨rfl, h⟩ | ⟨rfl, h⟩ | ⟨rfl, h⟩ | ⟨rfl, h⟩ | ⟨rfl, h⟩ <;> first | exact Or.inl rfl | exact Or.inr rfl | (exfalso; revert h; decide)
theorem zk_6 {a : Int32} (h : zOk a 6) : a = 4 := by
  rcases h with ⟨rfl, h⟩ | ⟨rfl, h⟩ | ⟨rfl, h⟩ | ⟨rfl, h⟩ | ⟨rfl, h⟩ <;> first | rfl | (exfalso; revert h; decide)
theorem zk_0 {c : Int32} (h : zOk 0 c) (hc : ¬ c = 8) : c = 0 ∨ c = 1 := by
  rcases h with ⟨_, h⟩ | ⟨h, _⟩ | ⟨h, _⟩ | ⟨h, _⟩ | ⟨h, _⟩
  · rcases h with h | h | h
    · exact Or.inl h
    · exact Or.inr h
    · exact absurd h hc
  all_goals (exfalso; revert h; decide)
theorem zk_np {a c : Int32} (h : zOk a c) (hh : zHd c) (hp : ¬ zPr c) : c = 1 ∨ c = 2 ∨ c = 6 := by
  rcases h with ⟨rfl, rfl | rfl | rfl⟩ | ⟨rfl, rfl | rfl | rfl | rfl | rfl⟩ | ⟨rfl, rfl | rfl⟩ | ⟨rfl, rfl | rfl | rfl⟩ | ⟨rfl, rfl | rfl | rfl | rfl⟩ <;> revert hh hp <;> decide
theorem zk_c {c : Int32} (h : zOk 0 c) : zOk 1 (if c = 1 then 2 else c) ∧ (zPr (if c = 1 then 2 else c) ↔ zPr c) ∧ (zHd c → zHd (if c = 1 then 2 else c)) ∧ ¬ zPr (if c = 1 then 2 else c) := by
  generalize e : (0 : Int32) = a at h
  rcases h with ⟨rfl, rfl | rfl | rfl⟩ | ⟨rfl, rfl | rfl | rfl | rfl | rfl⟩ | ⟨rfl, rfl | rfl⟩ | ⟨rfl, rfl | rfl | rfl⟩ | ⟨rfl, rfl | rfl | rfl | rfl⟩ <;> revert e <;> decide
theorem zk_d {c : Int32} (h : c = 0 ∨ c = 4) : zOk 2 c := by
  rcases h with rfl | rfl <;> decide
theorem zk_t {c : Int32} (h : zOk 2 c) : zOk 3 (if c = 4 then 5 else c) ∧ (zPr (if c = 4 then 5 else c) ↔ zPr c) ∧ (zHd c → zHd (if c = 4 then 5 else c)) := by
  generalize e : (2 : Int32) = a at h
  rcases h with ⟨rfl, rfl | rfl | rfl⟩ | ⟨rfl, rfl | rfl | rfl | rfl | rfl⟩ | ⟨rfl, rfl | rfl⟩ | ⟨rfl, rfl | rfl | rfl⟩ | ⟨rfl, rfl | rfl | rfl | rfl⟩ <;> revert e <;> decide
section
variable {E C N n : Nat} {off ear hom st cs ln ps sh ow px vs vv vc lt ls ll lo py ma mv : Nat → Int32}
/-- wound, and the end of an aborted link that was not prepared -/
theorem zq_wound {u s : Nat} {x : Int32} (H : zInv E C N n off ear hom st cs ln ps sh ow px vs vv vc lt ls ll lo py ma mv) (hu : u < n) (hs : s < 4) (hl : ln (u * 4 + s) = 1 ∨ ln (u * 4 + s) = 2 ∨ ln (u * 4 + s) = 6) (hx : (st u = 4 ∧ x = 9) ∨ (¬ st u = 4 ∧ x = 8)) :
    zInv E C N n off ear hom st cs (upd ln (u * 4 + s) x) ps (zrS sh u s) (zrO ow u s) (zrP px ow u s) vs vv vc lt ls ll (zrL lo u s) (zrL py u s) ma mv := by
  obtain ⟨hA, hT, hO, hK, hQ, hP, hW, hV⟩ := H
  have hn := zA_32 hA
  have hxp : ¬ zPr x := by rcases hx with ⟨_, e⟩ | ⟨_, e⟩ <;> (subst e; decide)
  have hlp : ¬ zPr (ln (u * 4 + s)) := by rcases hl with e | e | e <;> (rw [e]; decide)
  refine ⟨hA, ?_, ?_, fun k hk => zK_rel hn hu hk (hK k hk), ?_, zP_u hP ⟨fun c => absurd c hxp, fun c => absurd c hlp⟩, hW, hV⟩
  · intro t
    by_cases z : t = u
    · subst z
      obtain ⟨a1, a2, a3, a4, a5⟩ := hT t
      refine ⟨fun s' hs' => ?_, fun k hk => ?_, fun k hk => ?_, a4, fun s' hs' => ?_⟩
      · by_cases e : s' = s
        · subst e
          rw [pk_us]
          rcases hx with ⟨e1, e2⟩ | ⟨e1, e2⟩
          · rw [e1, e2]; decide
          · rw [e2]; exact zk_w (a1 s' hs) hl e1
        · rw [pk_un (by omega)]; exact a1 s' hs'
      · by_cases e : k % 4 = s
        · left; exact zrL_y hk e
        · rw [zrL_n hk (fun c => e c.2), pk_un (by omega)]; exact a2 k hk
      · rcases a3 k hk with h | ⟨h1, h2⟩
        · exact Or.inl h
        · by_cases e : k % 4 = s
          · rw [e] at h2; rw [h2] at hl; exact absurd hl (by decide)
          · right; rw [pk_un (by omega)]; exact ⟨h1, h2⟩
      · by_cases e : s' = s
        · subst e; rw [pk_us]; exact fun c => absurd c hxp
        · rw [pk_un (by omega)]; exact a5 s' hs'
    · exact zT_cg (hT t) (Nat.le_refl _) rfl rfl (fun s' hs' => pk_un (by omega)) (fun _ _ => rfl) (fun k hk => zrL_n hk (fun c => z c.1)) (fun _ _ => rfl)
  · exact zO_cg hO (Nat.le_refl _) (fun _ _ => rfl) (fun t s' ht hs' => pk_un (by omega)) (fun t k ht hk => zrL_n hk (fun c => by omega)) (fun _ _ _ _ => rfl)
  · refine zQ_cg hQ (fun t k hk h2 hp => ?_)
    have ne : ¬ (t = u ∧ k % 4 = s) := zrL_2 hk (by rw [h2]; decide)
    rw [zrL_n hk ne] at h2
    rw [pk_un (by omega)] at hp
    exact ⟨h2, hp⟩
/-- a lock taken: x = 1 shared, x = 2 exclusive -/
theorem zq_acq {t k : Nat} {x : Int32} {sh' ow' px' py' : Nat → Int32} (H : zInv E C N n off ear hom st cs ln ps sh ow px vs vv vc lt ls ll lo py ma mv) (ht : t < n) (hk : k < 8) (hst : st t = 0) (hl : ¬ ln (t * 4 + k % 4) = 8) (hx : x = 1 ∨ x = 2)
    (hKK : ∀ k', k' < 8 → zK n sh' ow' px' (upd lo (t * 8 + k) x) py' k') :
    zInv E C N n off ear hom st cs (upd ln (t * 4 + k % 4) 1) ps sh' ow' px' vs vv vc lt ls ll (upd lo (t * 8 + k) x) py' ma mv := by
  obtain ⟨hA, hT, hO, hK, hQ, hP, hW, hV⟩ := H
  have hn := zA_32 hA
  have h01 : ln (t * 4 + k % 4) = 0 ∨ ln (t * 4 + k % 4) = 1 := zk_0 (hst ▸ (hT t).1 (k % 4) (by omega)) hl
  have hlp : ¬ zPr (ln (t * 4 + k % 4)) := by rcases h01 with e | e <;> (rw [e]; decide)
  refine ⟨hA, ?_, ?_, hKK, ?_, zP_u hP ⟨fun c => absurd c (by decide), fun c => absurd c hlp⟩, hW, hV⟩
  · intro u
    by_cases z : u = t
    · subst z
      obtain ⟨a1, a2, a3, a4, a5⟩ := hT u
      refine ⟨fun s' hs' => ?_, fun k' hk' => ?_, fun k' hk' => ?_, a4, fun s' hs' => ?_⟩
      · by_cases e : s' = k % 4
        · subst e
          rw [pk_us, hst]; decide
        · rw [pk_un (by omega)]; exact a1 s' hs'
      · by_cases e : k' = k
        · subst e; rw [pk_us, pk_us]; exact Or.inr ⟨hx, by decide⟩
        · rw [pk_un (by omega)]
          by_cases e2 : k' % 4 = k % 4
          · rw [e2, pk_us]
            rcases a2 k' hk' with h | ⟨h, _⟩
            · exact Or.inl h
            · exact Or.inr ⟨h, by decide⟩
          · rw [pk_un (by omega)]; exact a2 k' hk'
      · rcases a3 k' hk' with h | ⟨h1, h2⟩
        · exact Or.inl h
        · rw [hst] at h1; exact absurd h1 (by decide)
      · by_cases e : s' = k % 4
        · subst e; rw [pk_us]; exact fun c => absurd c (by decide)
        · rw [pk_un (by omega)]; exact a5 s' hs'
    · exact zT_cg (hT u) (Nat.le_refl _) rfl rfl (fun s' hs' => pk_un (by omega)) (fun _ _ => rfl) (fun k hk => pk_un (by omega)) (fun _ _ => rfl)
  · exact zO_cg hO (Nat.le_refl _) (fun _ _ => rfl) (fun t s' ht hs' => pk_un (by omega)) (fun t k ht hk => pk_un (by omega)) (fun _ _ _ _ => rfl)
  · refine zQ_cg hQ (fun u k' hk' h2 hp => ?_)
    by_cases e : u * 4 + k' % 4 = t * 4 + k % 4
    · rw [e, pk_us] at hp; exact absurd hp (by decide)
    · rw [pk_un e] at hp
      rw [pk_un (by omega)] at h2
      exact ⟨h2, hp⟩
theorem zq_sh {t k : Nat} (H : zInv E C N n off ear hom st cs ln ps sh ow px vs vv vc lt ls ll lo py ma mv) (ht : t < n) (hk : k < 8) (hst : st t = 0) (hl : ¬ ln (t * 4 + k % 4) = 8) (hlo : ∀ u, u < 32 → lo (u * 8 + k) ≠ 2) :
    zInv E C N n off ear hom st cs (upd ln (t * 4 + k % 4) 1) ps (upd sh k (sh k ||| ((1 : Int32) <<< (nI t &&& 31)))) ow px vs vv vc lt ls ll (upd lo (t * 8 + k) 1) py ma mv := by
  have hn := zA_32 H.1
  refine zq_acq H ht hk hst hl (Or.inl rfl) (fun k' hk' => ?_)
  have hK := H.2.2.2.1 k' hk'
  by_cases e : k' = k
  · subst e
    obtain ⟨h1, h2⟩ := hK
    refine ⟨?_, ?_⟩
    · intro u hu
      rw [pk_us, zb_set (by omega) hu]
      by_cases z : u = t
      · subst z; rw [pk_us]; simp
      · rw [pk_un (by omega), ← h1 u hu]; simp [z]
    · rcases h2 with ⟨o, h2⟩ | ⟨w, hw, o, h2, h3, h4⟩
      · refine Or.inl ⟨o, fun u hu => ?_⟩
        by_cases z : u = t
        · subst z; rw [pk_us]; decide
        · rw [pk_un (by omega)]; exact h2 u hu
      · exact absurd h2 (hlo w (by omega))
  · exact zK_cg hK (Nat.le_refl _) (pk_un e) rfl rfl (fun u => pk_un (by omega)) (fun _ _ => rfl)
theorem zq_ex {t k : Nat} {v : Int32} (H : zInv E C N n off ear hom st cs ln ps sh ow px vs vv vc lt ls ll lo py ma mv) (ht : t < n) (hk : k < 8) (hst : st t = 0) (hl : ¬ ln (t * 4 + k % 4) = 8) (hlo : ∀ u, u < 32 → u ≠ t → lo (u * 8 + k) = 0) :
    zInv E C N n off ear hom st cs (upd ln (t * 4 + k % 4) 1) ps (upd sh k (sh k &&& (((1 : Int32) <<< (nI t &&& 31)) ^^^ (-1)))) (upd ow k (nI t)) (upd px k v) vs vv vc lt ls ll (upd lo (t * 8 + k) 2) (upd py (t * 8 + k) v) ma mv := by
  have hn := zA_32 H.1
  refine zq_acq H ht hk hst hl (Or.inr rfl) (fun k' hk' => ?_)
  have hK := H.2.2.2.1 k' hk'
  by_cases e : k' = k
  · subst e
    obtain ⟨h1, h2⟩ := hK
    refine ⟨?_, ?_⟩
    · intro u hu
      rw [pk_us, zb_clr (by omega) hu]
      by_cases z : u = t
      · subst z; rw [pk_us]; simp
      · rw [pk_un (by omega), ← h1 u hu]; simp [z]
    · refine Or.inr ⟨t, ht, pk_us, pk_us, ?_, ?_⟩
      · rw [pk_us, pk_us]
      · intro u hu hne
        rw [pk_un (by omega), hlo u hu hne]; decide
  · exact zK_cg hK (Nat.le_refl _) (pk_un e) (pk_un e) (pk_un e) (fun u => pk_un (by omega)) (fun u _ => pk_un (by omega))
/-- the start of a commit -/
theorem zq_com {t : Nat} (H : zInv E C N n off ear hom st cs ln ps sh ow px vs vv vc lt ls ll lo py ma mv) (ht : t < n) (hst : st t = 0) : zInv E C N n off ear hom (upd st t 1) cs (zc ln t 1 2) ps sh ow px vs vv vc lt ls ll lo py ma mv := by
  obtain ⟨hA, hT, hO, hK, hQ, hP, hW, hV⟩ := H
  have hn := zA_32 hA
  have hF : ∀ s, s < 4 → _ := fun s hs => zk_c (c := ln (t * 4 + s)) (hst ▸ (hT t).1 s hs)
  refine ⟨hA, ?_, ?_, hK, ?_, ?_, ?_, hV⟩
  · intro u
    by_cases z : u = t
    · subst z
      obtain ⟨a1, a2, a3, a4, a5⟩ := hT u
      refine ⟨fun s' hs' => ?_, fun k' hk' => ?_, fun k' hk' => ?_, fun c => ?_, fun s' hs' c => ?_⟩
      · rw [pk_us, zc_y hs']; exact (hF s' hs').1
      · rw [zc_y (by omega)]
        rcases a2 k' hk' with h | ⟨h, h2⟩
        · exact Or.inl h
        · exact Or.inr ⟨h, (hF _ (by omega)).2.2.1 h2⟩
      · rcases a3 k' hk' with h | ⟨h1, h2⟩
        · exact Or.inl h
        · rw [hst] at h1; exact absurd h1 (by decide)
      · rw [pk_us] at c; exact absurd c (by decide)
      · rw [zc_y hs'] at c; exact absurd c (hF s' hs').2.2.2
    · exact zT_cg (hT u) (Nat.le_refl _) (pk_un z) rfl (fun s' hs' => zc_n hs' z) (fun _ _ => rfl) (fun k hk => rfl) (fun _ _ => rfl)
  · exact zO_cg hO (Nat.le_refl _) (fun u hu => pk_un (by omega)) (fun u s' hu hs' => zc_n hs' (by omega)) (fun t k ht hk => rfl) (fun _ _ _ _ => rfl)
  · refine zQ_cg hQ (fun u k' hk' h2 hp => ⟨h2, ?_⟩)
    by_cases z : u = t
    · subst z; rw [zc_y (by omega)] at hp; exact absurd hp (hF _ (by omega)).2.2.2
    · rw [zc_n (by omega) z] at hp; exact hp
  · refine zP_cg hP (fun u s hu hs => ?_)
    by_cases z : u = t
    · subst z; rw [zc_y hs]; exact (hF s hs).2.1
    · rw [zc_n hs z]
  · refine zW_cg hW (fun u hu => ?_) (fun _ _ _ => rfl) (fun _ _ => rfl)
    by_cases z : u = t
    · subst z; rw [pk_us, hst]; decide
    · rw [pk_un z]
/-- an abort; the reference may have cleared pendings that are not held -/
theorem zq_ab {t : Nat} {py' : Nat → Int32} (H : zInv E C N n off ear hom st cs ln ps sh ow px vs vv vc lt ls ll lo py ma mv) (ht : t < n) (hst : st t = 0 ∨ st t = 1) (hpy : ∀ u k, k < 8 → lo (u * 8 + k) = 2 → py' (u * 8 + k) = py (u * 8 + k)) : zInv E C N n off ear hom (upd st t 4) cs (zab ln t) ps sh ow px vs vv vc lt ls ll lo py' ma mv := by
  obtain ⟨hA, hT, hO, hK, hQ, hP, hW, hV⟩ := H
  have hn := zA_32 hA
  have hn3 : ¬ st t = 3 := by rcases hst with e | e <;> (rw [e]; decide)
  have hn2 : ¬ st t = 2 := by rcases hst with e | e <;> (rw [e]; decide)
  refine ⟨hA, ?_, ?_, fun k hk => zK_cg (hK k hk) (Nat.le_refl _) rfl rfl rfl (fun _ => rfl) (fun u h => hpy u k hk h), ?_, ?_, ?_, hV⟩
  · intro u
    by_cases z : u = t
    · subst z
      obtain ⟨a1, a2, a3, a4, a5⟩ := hT u
      refine ⟨fun s' hs' => ?_, fun k' hk' => ?_, fun k' hk' => ?_, fun c => ?_, fun s' hs' c => ?_⟩
      · rw [pk_us, zab_y hs']; exact zk_a (a1 s' hs') hst
      · rw [zab_y (by omega)]
        rcases a2 k' hk' with h | ⟨h, h2⟩
        · exact Or.inl h
        · exact Or.inr ⟨h, zk_ah (a1 _ (by omega)) hst h2⟩
      · rcases a3 k' hk' with h | ⟨h1, h2⟩
        · exact Or.inl h
        · exact absurd h1 hn3
      · rw [pk_us] at c; exact absurd c (by decide)
      · rw [zab_y hs'] at c
        refine ⟨(a5 s' hs' ((zk_ap (a1 s' hs') hst).mp c)).1, fun d => ?_⟩
        rw [pk_us] at d; exact absurd d (by decide)
    · exact zT_cg (hT u) (Nat.le_refl _) (pk_un z) rfl (fun s' hs' => zab_n hs' z) (fun _ _ => rfl) (fun k hk => rfl) (fun _ _ => rfl)
  · exact zO_cg hO (Nat.le_refl _) (fun u hu => pk_un (by omega)) (fun u s' hu hs' => zab_n hs' (by omega)) (fun t k ht hk => rfl) (fun _ _ _ _ => rfl)
  · refine zQ_cg hQ (fun u k' hk' h2 hp => ⟨h2, ?_⟩)
    by_cases z : u = t
    · subst z; rw [zab_y (by omega)] at hp; exact (zk_ap ((hT u).1 _ (by omega)) hst).mp hp
    · rw [zab_n (by omega) z] at hp; exact hp
  · refine zP_cg hP (fun u s hu hs => ?_)
    by_cases z : u = t
    · subst z; rw [zab_y hs]; exact zk_ap ((hT u).1 s hs) hst
    · rw [zab_n hs z]
  · refine zW_cg hW (fun u hu => ?_) (fun _ _ _ => rfl) (fun _ _ => rfl)
    by_cases z : u = t
    · subst z; rw [pk_us]; exact ⟨fun c => absurd c (by decide), fun c => absurd c hn2⟩
    · rw [pk_un z]
/-- a vote taken -/
theorem zq_vote {t s : Nat} (H : zInv E C N n off ear hom st cs ln ps sh ow px vs vv vc lt ls ll lo py ma mv) (ht : t < n) (hs : s < 4) (hl : ln (t * 4 + s) = 3) : zInv E C N n off ear hom st cs (upd ln (t * 4 + s) 4) ps sh ow px vs vv vc lt ls ll lo py ma mv := by
  obtain ⟨hA, hT, hO, hK, hQ, hP, hW, hV⟩ := H
  have hst : st t = 1 := zk_3 (hl ▸ (hT t).1 s hs)
  have e34 : ∀ i, zPr (upd ln (t * 4 + s) 4 i) ↔ zPr (ln i) := by
    intro i
    by_cases z : i = t * 4 + s
    · rw [z, pk_us, hl]; decide
    · rw [pk_un z]
  refine ⟨hA, ?_, ?_, hK, zQ_cg hQ (fun u k' hk' h2 hp => ⟨h2, (e34 _).mp hp⟩), zP_cg hP (fun u s _ _ => e34 _), hW, hV⟩
  · intro u
    by_cases z : u = t
    · subst z
      obtain ⟨a1, a2, a3, a4, a5⟩ := hT u
      refine ⟨fun s' hs' => ?_, fun k' hk' => ?_, fun k' hk' => ?_, a4, fun s' hs' c => a5 s' hs' ((e34 _).mp c)⟩
      · by_cases e : s' = s
        · subst e; rw [pk_us, hst]; decide
        · rw [pk_un (by omega)]; exact a1 s' hs'
      · by_cases e : k' % 4 = s
        · rw [e, pk_us]
          rcases a2 k' hk' with h | ⟨h, h2⟩
          · exact Or.inl h
          · exact Or.inr ⟨h, by decide⟩
        · rw [pk_un (by omega)]; exact a2 k' hk'
      · rcases a3 k' hk' with h | ⟨h1, h2⟩
        · exact Or.inl h
        · rw [hst] at h1; exact absurd h1 (by decide)
    · exact zT_cg (hT u) (Nat.le_refl _) rfl rfl (fun s' hs' => pk_un (by omega)) (fun _ _ => rfl) (fun k hk => rfl) (fun _ _ => rfl)
  · exact zO_cg hO (Nat.le_refl _) (fun u hu => rfl) (fun u s' hu hs' => pk_un (by omega)) (fun t k ht hk => rfl) (fun _ _ _ _ => rfl)
/-- a new transaction -/
theorem zq_begin {h : Nat} (H : zInv E C N n off ear hom st cs ln ps sh ow px vs vv vc lt ls ll lo py ma mv) (hc : n < C) (hh : h < 4) : zInv E C N (n + 1) off ear (upd hom n (nI h)) st cs ln ps sh ow px vs vv vc lt ls ll lo py ma mv := by
  obtain ⟨hA, hT, hO, hK, hQ, hP, hW, hV⟩ := H
  have hn := zA_32 hA
  obtain ⟨A1, A2, A3, A4, A5, A6⟩ := hA
  have hOn := hO n (Nat.le_refl _)
  refine ⟨⟨A1, A2, A3, by omega, A5, ?_⟩, hT, zO_cg hO (by omega) (fun _ _ => rfl) (fun _ _ _ _ => rfl) (fun _ _ _ _ => rfl) (fun _ _ _ _ => rfl), fun k hk => zK_cg (hK k hk) (by omega) rfl rfl rfl (fun _ => rfl) (fun _ _ => rfl), hQ, ?_, ?_, ?_⟩
  · intro t ht
    by_cases z : t = n
    · subst z; exact ⟨h, hh, pk_us⟩
    · obtain ⟨h', h1, h2⟩ := A6 t (by omega)
      exact ⟨h', h1, (pk_un z).trans h2⟩
  · intro s hs
    obtain ⟨m, a1, a2, a3, a4⟩ := hP s hs
    refine ⟨m, a1, fun i hi => ?_, a3, fun t ht pt => ?_⟩
    · obtain ⟨t, ht, r⟩ := a2 i hi
      exact ⟨t, by omega, r⟩
    · by_cases z : t = n
      · subst z
        dsimp only at pt
        rw [hOn.2.1 s hs] at pt; exact absurd pt (by decide)
      · exact a4 t (by omega) pt
  · intro s hs
    obtain ⟨m, a1, a2, a3, a4⟩ := hW s hs
    refine ⟨m, a1, fun i hi => ?_, a3, fun t ht pt => ?_⟩
    · obtain ⟨t, ht, ⟨p1, p2⟩, r⟩ := a2 i hi
      exact ⟨t, by omega, ⟨p1, (pk_un (by omega)).trans p2⟩, r⟩
    · by_cases z : t = n
      · subst z
        have := pt.1
        rw [hOn.1] at this; exact absurd this (by decide)
      · exact a4 t (by omega) ⟨pt.1, (pk_un z).symm.trans pt.2⟩
  · intro k hk
    obtain ⟨m, a1, a2, a3, a4⟩ := hV k hk
    refine ⟨m, a1, fun i hi => ?_, a3, fun t ht pt => ?_⟩
    · obtain ⟨t, ht, r⟩ := a2 i hi
      exact ⟨t, by omega, r⟩
    · by_cases z : t = n
      · subst z; exact absurd (hOn.2.2 k hk).2 pt
      · exact a4 t (by omega) pt
/-- the clocks go on -/
theorem zq_clk {N' : Nat} {off' ear' : Nat → Int32} (H : zInv E C N n off ear hom st cs ln ps sh ow px vs vv vc lt ls ll lo py ma mv) (hN : N ≤ N') (hN' : N' ≤ 100000) (he : ∀ s, s < 4 → zE E N' (off' s) (ear' s)) : zInv E C N' n off' ear' hom st cs ln ps sh ow px vs vv vc lt ls ll lo py ma mv := by
  obtain ⟨hA, hT, hO, hK, hQ, hP, hW, hV⟩ := H
  obtain ⟨A1, A2, A3, A4, A5, A6⟩ := hA
  exact ⟨⟨A1, A2, hN', A4, he, A6⟩, fun t => zT_cg (hT t) hN rfl rfl (fun _ _ => rfl) (fun _ _ => rfl) (fun _ _ => rfl) (fun _ _ => rfl), hO, hK, hQ, hP, hW, hV⟩
end
end
section
/-! ===== the steps that change the lists ===== -/
noncomputable def zif (p : Prop) (a b : Int32) : Int32 := @ite Int32 p (Classical.propDecidable p) a b
theorem zif_t {p : Prop} {a b : Int32} (h : p) : zif p a b = a := @if_pos p (Classical.propDecidable p) h Int32 a b
theorem zif_f {p : Prop} {a b : Int32} (h : ¬ p) : zif p a b = b := @if_neg p (Classical.propDecidable p) h Int32 a b
noncomputable def zkS (D : Nat → Prop) (st : Nat → Int32) : Nat → Int32 := fun t => zif (D t) 3 (st t)
noncomputable def zkL (D : Nat → Prop) (ln : Nat → Int32) : Nat → Int32 := fun i => zif (D (i / 4) ∧ ln i = 4) 5 (ln i)
theorem zkL_y {D : Nat → Prop} {ln : Nat → Int32} {t s : Nat} (hs : s < 4) (h : D t) : zkL D ln (t * 4 + s) = if ln (t * 4 + s) = 4 then 5 else ln (t * 4 + s) := by
  unfold zkL
  have e : (t * 4 + s) / 4 = t := by omega
  rw [e]
  by_cases z : ln (t * 4 + s) = 4
  · rw [zif_t ⟨h, z⟩, if_pos z]
  · rw [zif_f (fun c => z c.2), if_neg z]
theorem zkL_n {D : Nat → Prop} {ln : Nat → Int32} {t s : Nat} (hs : s < 4) (h : ¬ D t) : zkL D ln (t * 4 + s) = ln (t * 4 + s) := by
  unfold zkL
  have e : (t * 4 + s) / 4 = t := by omega
  rw [e, zif_f (fun c => h c.1)]
section
variable {E C N n : Nat} {off ear hom st cs ln ps sh ow px vs vv vc lt ls ll lo py ma mv : Nat → Int32}
/-- the decision to commit -/
theorem zq_dec {t h m p : Nat} {D : Int32} (H : zInv E C N n off ear hom st cs ln ps sh ow px vs vv vc lt ls ll lo py ma mv) (ht : t < n) (hst : st t = 0 ∨ st t = 1) (hal : ∀ s, s < 4 → ln (t * 4 + s) = 0 ∨ ln (t * 4 + s) = 4)
    (hD : ∀ s, s < 4 → ln (t * 4 + s) = 4 → ps (t * 4 + s) ≤ D) (h4 : h < 4) (hh : hom t = nI h)
    (hm : zL n lt ls ll cs (fun t => st t = 2 ∧ hom t = nI h) (4 + h) m) (hp : p ≤ m) (hg : ∀ i, p ≤ i → i < m → D < ls ((4 + h) * 32 + i)) (hlo : 0 < p → ls ((4 + h) * 32 + (p - 1)) ≤ D) :
    zInv E C N n off ear hom (upd st t 2) (upd cs t D) ln ps sh ow px vs vv vc (zins lt ((4 + h) * 32) m p (nI t)) (zins ls ((4 + h) * 32) m p D) (upd ll (4 + h) (nI (m + 1))) lo py ma mv := by
  obtain ⟨hA, hT, hO, hK, hQ, hP, hW, hV⟩ := H
  have hn := zA_32 hA
  have hn3 : ¬ st t = 3 := by rcases hst with e | e <;> (rw [e]; decide)
  have hn2 : ¬ st t = 2 := by rcases hst with e | e <;> (rw [e]; decide)
  have hmade : ∀ u k, k < 8 → ma (u * 8 + k) ≠ 0 → u ≠ t := by
    intro u k hk h1 e
    subst e
    rcases (hT u).2.2.1 k hk with h2 | ⟨h2, _⟩
    · exact h1 h2
    · exact hn3 h2
  have hm32 : m < 32 := Nat.lt_of_lt_of_le (zL_lt hn hm ht (fun c => hn2 c.1)) hn
  have f1 : zFr lt (zins lt ((4 + h) * 32) m p (nI t)) (4 + h) := zFr_ins hp hm32
  have f2 : zFr ls (zins ls ((4 + h) * 32) m p D) (4 + h) := zFr_ins hp hm32
  have f3 : ∀ i, i ≠ 4 + h → upd ll (4 + h) (nI (m + 1)) i = ll i := fun i hi => pk_un hi
  refine ⟨hA, ?_, ?_, hK, ?_, ?_, ?_, ?_⟩
  · intro u
    by_cases z : u = t
    · subst z
      obtain ⟨a1, a2, a3, a4, a5⟩ := hT u
      refine ⟨fun s' hs' => ?_, a2, fun k' hk' => ?_, fun c => ?_, fun s' hs' c => ?_⟩
      · rw [pk_us]; exact zk_d (hal s' hs')
      · rcases a3 k' hk' with h | ⟨h1, h2⟩
        · exact Or.inl h
        · exact absurd h1 hn3
      · rw [pk_us] at c; exact absurd c (by decide)
      · refine ⟨(a5 s' hs' c).1, fun _ => ?_⟩
        rw [pk_us]
        rcases hal s' hs' with e | e
        · rw [e] at c; exact absurd c (by decide)
        · exact hD s' hs' e
    · exact zT_cg (hT u) (Nat.le_refl _) (pk_un z) (pk_un z) (fun s' hs' => rfl) (fun _ _ => rfl) (fun k hk => rfl) (fun _ _ => rfl)
  · exact zO_cg hO (Nat.le_refl _) (fun u hu => pk_un (by omega)) (fun u s' hu hs' => rfl) (fun t k ht hk => rfl) (fun _ _ _ _ => rfl)
  · intro u k hk h2 hpr w hw
    rw [pk_un (hmade w k hk hw)]
    exact hQ u k hk h2 hpr w hw
  · intro s hs
    obtain ⟨m', h'⟩ := hP s hs
    exact ⟨m', zL_fr hn h' (by omega) f1 f2 f3 (fun _ _ => Iff.rfl) (fun _ _ _ => rfl)⟩
  · intro h' hh'
    by_cases z : h' = h
    · subst z
      refine ⟨m + 1, zL_ins hn hm ht (fun c => hn2 c.1) hp hg hlo (fun u hu hne => ?_) (fun u hu hne _ => pk_un hne) ⟨pk_us, hh⟩ pk_us⟩
      show upd st t 2 u = 2 ∧ _ ↔ _
      rw [pk_un hne]
    · obtain ⟨m', hm'⟩ := hW h' hh'
      refine ⟨m', zL_fr hn hm' (by omega) f1 f2 f3 (fun u hu => ?_) (fun u hu pu => pk_un (fun e => hn2 (e ▸ pu.1)))⟩
      show upd st t 2 u = 2 ∧ _ ↔ _ ∧ _
      by_cases zu : u = t
      · subst zu
        refine ⟨fun c => absurd (hh.symm.trans c.2) (zu_ne (by omega) (by omega) (fun e => z e.symm)), fun c => absurd c.1 hn2⟩
      · rw [pk_un zu]
  · intro k hk
    obtain ⟨m', hm'⟩ := hV k hk
    exact ⟨m', zV_cg hm' (fun _ _ => rfl) (fun _ _ => rfl) rfl (fun _ _ => rfl) (fun _ _ => rfl) (fun u hu hma => pk_un (hmade u k hk hma))⟩
/-- a prepare delivered -/
theorem zq_prep {t s m p : Nat} {x : Int32} (H : zInv E C N n off ear hom st cs ln ps sh ow px vs vv vc lt ls ll lo py ma mv) (ht : t < n) (hs : s < 4) (hl : ln (t * 4 + s) = 2) (hx : (N : Int) < x.toInt)
    (hm : zL n lt ls ll (fun t => ps (t * 4 + s)) (fun t => zPr (ln (t * 4 + s))) s m) (hp : p ≤ m) (hg : ∀ i, p ≤ i → i < m → x < ls (s * 32 + i)) (hlo : 0 < p → ls (s * 32 + (p - 1)) ≤ x) :
    zInv E C N n off ear hom st cs (upd ln (t * 4 + s) 3) (upd ps (t * 4 + s) x) sh ow px vs vv vc (zins lt (s * 32) m p (nI t)) (zins ls (s * 32) m p x) (upd ll s (nI (m + 1))) lo py ma mv := by
  obtain ⟨hA, hT, hO, hK, hQ, hP, hW, hV⟩ := H
  have hn := zA_32 hA
  have hst : st t = 1 := zk_2 (hl ▸ (hT t).1 s hs)
  have hnp : ¬ zPr (ln (t * 4 + s)) := by rw [hl]; decide
  have hm32 : m < 32 := Nat.lt_of_lt_of_le (zL_lt hn hm ht hnp) hn
  have f1 : zFr lt (zins lt (s * 32) m p (nI t)) s := zFr_ins hp hm32
  have f2 : zFr ls (zins ls (s * 32) m p x) s := zFr_ins hp hm32
  have f3 : ∀ i, i ≠ s → upd ll s (nI (m + 1)) i = ll i := fun i hi => pk_un hi
  refine ⟨hA, ?_, ?_, hK, ?_, ?_, ?_, hV⟩
  · intro u
    by_cases z : u = t
    · subst z
      obtain ⟨a1, a2, a3, a4, a5⟩ := hT u
      refine ⟨fun s' hs' => ?_, fun k' hk' => ?_, fun k' hk' => ?_, a4, fun s' hs' c => ?_⟩
      · by_cases e : s' = s
        · subst e; rw [pk_us, hst]; decide
        · rw [pk_un (by omega)]; exact a1 s' hs'
      · by_cases e : k' % 4 = s
        · rw [e, pk_us]
          rcases a2 k' hk' with h | ⟨h, h2⟩
          · exact Or.inl h
          · exact Or.inr ⟨h, by decide⟩
        · rw [pk_un (by omega)]; exact a2 k' hk'
      · rcases a3 k' hk' with h | ⟨h1, h2⟩
        · exact Or.inl h
        · rw [hst] at h1; exact absurd h1 (by decide)
      · by_cases e : s' = s
        · subst e; rw [pk_us]
          refine ⟨by omega, fun c => ?_⟩
          rw [hst] at c; exact absurd c (by decide)
        · rw [pk_un (by omega)]; rw [pk_un (by omega)] at c; exact a5 s' hs' c
    · exact zT_cg (hT u) (Nat.le_refl _) rfl rfl (fun s' hs' => pk_un (by omega)) (fun s' hs' => pk_un (by omega)) (fun k hk => rfl) (fun _ _ => rfl)
  · exact zO_cg hO (Nat.le_refl _) (fun u hu => rfl) (fun u s' hu hs' => pk_un (by omega)) (fun t k ht hk => rfl) (fun _ _ _ _ => rfl)
  · intro u k hk h2 hpr w hw
    by_cases z : u * 4 + k % 4 = t * 4 + s
    · rw [z, pk_us, zi_lt]
      have h3 : st w = 3 := by
        rcases (hT w).2.2.1 k hk with h | h
        · exact absurd h hw
        · exact h.1
      have := (hT w).2.2.2.1 h3
      omega
    · rw [pk_un z] at hpr ⊢
      exact hQ u k hk h2 hpr w hw
  · intro s' hs'
    by_cases z : s' = s
    · subst z
      refine ⟨m + 1, zL_ins hn hm ht hnp hp hg hlo (fun u hu hne => ?_) (fun u hu hne _ => pk_un (by omega)) ?_ pk_us⟩
      · show zPr (upd ln (t * 4 + s') 3 (u * 4 + s')) ↔ _
        rw [pk_un (by omega)]
      · show zPr (upd ln (t * 4 + s') 3 (t * 4 + s'))
        rw [pk_us]; decide
    · obtain ⟨m', hm'⟩ := hP s' hs'
      refine ⟨m', zL_fr hn hm' z f1 f2 f3 (fun u hu => ?_) (fun u hu pu => pk_un (by omega))⟩
      show zPr (upd ln (t * 4 + s) 3 (u * 4 + s')) ↔ _
      rw [pk_un (by omega)]
  · intro h' hh'
    obtain ⟨m', hm'⟩ := hW h' hh'
    exact ⟨m', zL_fr hn hm' (by omega) f1 f2 f3 (fun u hu => Iff.rfl) (fun u hu pu => rfl)⟩
/-- the end of a prepared link -/
theorem zq_fin {t s m q : Nat} {vs' vv' vc' ma' mv' : Nat → Int32} (H : zInv E C N n off ear hom st cs ln ps sh ow px vs vv vc lt ls ll lo py ma mv) (ht : t < n) (hs : s < 4) (hl : ln (t * 4 + s) = 5 ∨ ln (t * 4 + s) = 7)
    (hm : zL n lt ls ll (fun t => ps (t * 4 + s)) (fun t => zPr (ln (t * 4 + s))) s m) (hq : q < m) (hqt : lt (s * 32 + q) = nI t)
    (hV' : zVs n cs vs' vv' vc' ma' mv') (hma : ∀ u k, k < 8 → ma' (u * 8 + k) = ma (u * 8 + k) ∨ (u = t ∧ k % 4 = s ∧ st t = 3 ∧ lo (t * 8 + k) = 2)) :
    zInv E C N n off ear hom st cs (upd ln (t * 4 + s) 9) ps (zrS sh t s) (zrO ow t s) (zrP px ow t s) vs' vv' vc' (zrm lt (s * 32) q m) (zrm ls (s * 32) q m) (upd ll s (nI (m - 1))) (zrL lo t s) (zrL py t s) ma' mv' := by
  obtain ⟨hA, hT, hO, hK, hQ, hP, hW, hV⟩ := H
  have hn := zA_32 hA
  have hlp : zPr (ln (t * 4 + s)) := by rcases hl with e | e <;> (rw [e]; decide)
  have hl9 : ¬ ln (t * 4 + s) = 9 := by rcases hl with e | e <;> (rw [e]; decide)
  have hmm := zL_le hn hm
  have f1 : zFr lt (zrm lt (s * 32) q m) s := zFr_rm (by omega)
  have f2 : zFr ls (zrm ls (s * 32) q m) s := zFr_rm (by omega)
  have f3 : ∀ i, i ≠ s → upd ll s (nI (m - 1)) i = ll i := fun i hi => pk_un hi
  have hma' : ∀ u k, k < 8 → ¬ (u = t ∧ k % 4 = s) → ma' (u * 8 + k) = ma (u * 8 + k) := by
    intro u k hk hne
    rcases hma u k hk with h | ⟨h1, h2, _⟩
    · exact h
    · exact absurd ⟨h1, h2⟩ hne
  refine ⟨hA, ?_, ?_, fun k hk => zK_rel hn ht hk (hK k hk), ?_, ?_, ?_, hV'⟩
  · intro u
    by_cases z : u = t
    · subst z
      obtain ⟨a1, a2, a3, a4, a5⟩ := hT u
      refine ⟨fun s' hs' => ?_, fun k hk => ?_, fun k hk => ?_, a4, fun s' hs' => ?_⟩
      · by_cases e : s' = s
        · subst e
          rw [pk_us]; exact zk_9 (a1 s' hs) hl
        · rw [pk_un (by omega)]; exact a1 s' hs'
      · by_cases e : k % 4 = s
        · left; exact zrL_y hk e
        · rw [zrL_n hk (fun c => e c.2), pk_un (by omega)]; exact a2 k hk
      · by_cases e : k % 4 = s
        · rcases hma u k hk with h | ⟨_, _, h3, _⟩
          · rcases a3 k hk with h' | ⟨h1, h2⟩
            · exact Or.inl (h.trans h')
            · rw [e] at h2; exact absurd h2 hl9
          · right; rw [e, pk_us]; exact ⟨h3, rfl⟩
        · rw [hma' u k hk (fun c => e c.2), pk_un (by omega)]; exact a3 k hk
      · by_cases e : s' = s
        · subst e; rw [pk_us]; exact fun c => absurd c (by decide)
        · rw [pk_un (by omega)]; exact a5 s' hs'
    · exact zT_cg (hT u) (Nat.le_refl _) rfl rfl (fun s' hs' => pk_un (by omega)) (fun _ _ => rfl) (fun k hk => zrL_n hk (fun c => z c.1)) (fun k hk => hma' u k hk (fun c => z c.1))
  · exact zO_cg hO (Nat.le_refl _) (fun _ _ => rfl) (fun t s' ht hs' => pk_un (by omega)) (fun t k ht hk => zrL_n hk (fun c => by omega)) (fun u k hu hk => hma' u k hk (fun c => by omega))
  · intro u k hk h2 hp w hw
    have ne : ¬ (u = t ∧ k % 4 = s) := zrL_2 hk (by rw [h2]; decide)
    rw [zrL_n hk ne] at h2
    rw [pk_un (by omega)] at hp
    rcases hma w k hk with h | ⟨h1, h3, _, h5⟩
    · rw [h] at hw; exact hQ u k hk h2 hp w hw
    · exfalso
      have hut : u ≠ t := fun c => ne ⟨c, h3⟩
      have hu32 : u < 32 := by
        rcases Nat.lt_or_ge u n with z | z
        · omega
        · have := ((hO u z).2.2 k hk).1
          rw [this] at h2; exact absurd h2 (by decide)
      rcases (hK k hk).2 with ⟨_, h6⟩ | ⟨y, hy, _, _, _, h6⟩
      · exact h6 u hu32 h2
      · by_cases zy : u = y
        · exact h6 t (by omega) (fun c => hut (zy.trans c.symm)) h5
        · exact h6 u hu32 zy h2
  · intro s' hs'
    by_cases z : s' = s
    · subst z
      refine ⟨m - 1, zL_rm hn hm ht hq hqt (fun u hu => ?_)⟩
      show zPr (upd ln (t * 4 + s') 9 (u * 4 + s')) ↔ zPr (ln (u * 4 + s')) ∧ u ≠ t
      by_cases zu : u = t
      · subst zu
        rw [pk_us]; exact ⟨fun c => absurd c (by decide), fun c => absurd rfl c.2⟩
      · rw [pk_un (by omega)]; exact ⟨fun c => ⟨c, zu⟩, fun c => c.1⟩
    · obtain ⟨m', hm'⟩ := hP s' hs'
      refine ⟨m', zL_fr hn hm' z f1 f2 f3 (fun u hu => ?_) (fun u hu pu => rfl)⟩
      show zPr (upd ln (t * 4 + s) 9 (u * 4 + s')) ↔ _
      rw [pk_un (by omega)]
  · intro h' hh'
    obtain ⟨m', hm'⟩ := hW h' hh'
    exact ⟨m', zL_fr hn hm' (by omega) f1 f2 f3 (fun u hu => Iff.rfl) (fun u hu pu => rfl)⟩
/-- the waits that are over at home h -/
theorem zq_tick {h m c : Nat} {D : Nat → Prop} (H : zInv E C N n off ear hom st cs ln ps sh ow px vs vv vc lt ls ll lo py ma mv) (h4 : h < 4) (hD : ∀ t, D t ↔ (t < n ∧ st t = 2 ∧ hom t = nI h ∧ cs t < ear h))
    (hm : zL n lt ls ll cs (fun t => st t = 2 ∧ hom t = nI h) (4 + h) m) (hc : c ≤ m) (hl : ∀ i, i < c → ls ((4 + h) * 32 + i) < ear h) (hr : ∀ i, c ≤ i → i < m → ¬ ls ((4 + h) * 32 + i) < ear h) :
    zInv E C N n off ear hom (zkS D st) cs (zkL D ln) ps sh ow px vs vv vc (zdr lt ((4 + h) * 32) c m) (zdr ls ((4 + h) * 32) c m) (upd ll (4 + h) (nI (m - c))) lo py ma mv := by
  obtain ⟨hA, hT, hO, hK, hQ, hP, hW, hV⟩ := H
  have hn := zA_32 hA
  have hmm := zL_le hn hm
  have f1 : zFr lt (zdr lt ((4 + h) * 32) c m) (4 + h) := zFr_dr (by omega)
  have f2 : zFr ls (zdr ls ((4 + h) * 32) c m) (4 + h) := zFr_dr (by omega)
  have f3 : ∀ i, i ≠ 4 + h → upd ll (4 + h) (nI (m - c)) i = ll i := fun i hi => pk_un hi
  have hS : ∀ t, ¬ D t → zkS D st t = st t := fun t h => zif_f h
  have hS3 : ∀ t, D t → zkS D st t = 3 := fun t h => zif_t h
  have hpr : ∀ t s, s < 4 → (zPr (zkL D ln (t * 4 + s)) ↔ zPr (ln (t * 4 + s))) := by
    intro t s hs
    by_cases z : D t
    · rw [zkL_y hs z]
      exact (zk_t (((hD t).mp z).2.1 ▸ (hT t).1 s hs)).2.1
    · rw [zkL_n hs z]
  refine ⟨hA, ?_, ?_, hK, ?_, ?_, ?_, hV⟩
  · intro u
    by_cases z : D u
    · obtain ⟨d1, d2, d3, d4⟩ := (hD u).mp z
      obtain ⟨a1, a2, a3, a4, a5⟩ := hT u
      refine ⟨fun s hs => ?_, fun k hk => ?_, fun k hk => ?_, fun _ => ?_, fun s hs pc => ?_⟩
      · rw [hS3 u z, zkL_y hs z]; exact (zk_t (d2 ▸ a1 s hs)).1
      · rw [zkL_y (by omega) z]
        rcases a2 k hk with h | ⟨h, h2⟩
        · exact Or.inl h
        · exact Or.inr ⟨h, (zk_t (d2 ▸ a1 _ (by omega))).2.2 h2⟩
      · rcases a3 k hk with h | ⟨h1, h2⟩
        · exact Or.inl h
        · rw [d2] at h1; exact absurd h1 (by decide)
      · have := (hA.2.2.2.2.1 h h4).2.2.1
        rw [zi_lt] at d4
        omega
      · obtain ⟨b1, b2⟩ := a5 s hs ((hpr u s hs).mp pc)
        exact ⟨b1, fun _ => b2 (Or.inl d2)⟩
    · exact zT_cg (hT u) (Nat.le_refl _) (hS u z) rfl (fun s hs => zkL_n hs z) (fun _ _ => rfl) (fun k hk => rfl) (fun _ _ => rfl)
  · have nd : ∀ u, n ≤ u → ¬ D u := fun u hu c => by have := ((hD u).mp c).1; omega
    exact zO_cg hO (Nat.le_refl _) (fun u hu => hS u (nd u hu)) (fun u s hu hs => zkL_n hs (nd u hu)) (fun _ _ _ _ => rfl) (fun _ _ _ _ => rfl)
  · exact zQ_cg hQ (fun u k hk h2 hp => ⟨h2, (hpr u _ (by omega)).mp hp⟩)
  · intro s hs
    obtain ⟨m', h'⟩ := hP s hs
    exact ⟨m', zL_fr hn h' (by omega) f1 f2 f3 (fun u hu => hpr u s hs) (fun _ _ _ => rfl)⟩
  · intro h' hh'
    by_cases z : h' = h
    · subst z
      refine ⟨m - c, zL_dr hm hc (fun u hu => ?_)⟩
      show zkS D st u = 2 ∧ hom u = nI h' ↔ (st u = 2 ∧ hom u = nI h') ∧ _
      obtain ⟨b1, b2, b3, b4⟩ := hm
      by_cases zd : D u
      · rw [hS3 u zd]
        refine ⟨fun c => absurd c.1 (by decide), fun ⟨c1, c2⟩ => ?_⟩
        exfalso
        obtain ⟨i, hi, e⟩ := b4 u hu c1
        have hic : ¬ i < c := fun z => c2 i z e
        obtain ⟨t', ht', _, e1, e2⟩ := b2 i hi
        have : t' = u := (nI_eq (by omega) (by omega)).mp (e1.symm.trans e)
        subst this
        have h5 := hr i (by omega) hi
        rw [e2] at h5
        exact h5 ((hD t').mp zd).2.2.2
      · rw [hS u zd]
        refine ⟨fun c => ⟨c, fun i hi e => ?_⟩, fun c => c.1⟩
        obtain ⟨t', ht', _, e1, e2⟩ := b2 i (by omega)
        have : t' = u := (nI_eq (by omega) (by omega)).mp (e1.symm.trans e)
        subst this
        have h5 := hl i hi
        rw [e2] at h5
        exact zd ((hD t').mpr ⟨hu, c.1, c.2, h5⟩)
    · obtain ⟨m', hm'⟩ := hW h' hh'
      refine ⟨m', zL_fr hn hm' (by omega) f1 f2 f3 (fun u hu => ?_) (fun u hu pu => rfl)⟩
      show zkS D st u = 2 ∧ hom u = nI h' ↔ (st u = 2 ∧ hom u = nI h')
      by_cases zd : D u
      · have e1 := ((hD u).mp zd).2.2.1
        refine ⟨fun c => ?_, fun c => ?_⟩
        · exact absurd (c.2.symm.trans e1) (zu_ne (by omega) (by omega) z)
        · exact absurd (c.2.symm.trans e1) (zu_ne (by omega) (by omega) z)
      · rw [hS u zd]
end
end
section
/-! ===== X: the small methods ===== -/
section
variable {fe fc fn fb : Int32} {off ear hom st cs ln ps sh ow px vs vv vc lt ls ll : Nat → Int32}
theorem xw_shard {post : Int32 → Prop} {s : Nat} (hs : s < 4) (h : post 1) : wpX_isShard post (fe, fc, fn, fb, off, ear, hom, st, cs, ln, ps, sh, ow, px, vs, vv, vc, lt, ls, ll) (nI s) :=
  br_f (nI_pos (by omega)) (br_f (nI_ge (b := 4) hs (by decide)) h)
theorem xw_shardB {post : Int32 → Prop} {v : Int32} (hv : v < 0 ∨ 4 ≤ v) (h : post 0) : wpX_isShard post (fe, fc, fn, fb, off, ear, hom, st, cs, ln, ps, sh, ow, px, vs, vv, vc, lt, ls, ll) v := by
  rcases hv with hv | hv
  · exact br_t hv h
  · exact br_c (fun _ => h) (fun _ => br_t hv h)
theorem xw_known {post : Int32 → Prop} {t n : Nat} (hn : n ≤ 32) (ht : t < n) (h : post 1) : wpX_isKnown post (fe, fc, fn, nI n, off, ear, hom, st, cs, ln, ps, sh, ow, px, vs, vv, vc, lt, ls, ll) (nI t) :=
  br_f (nI_pos (by omega)) (br_f (nI_ge ht (by omega)) h)
theorem xw_knownB {post : Int32 → Prop} {v : Int32} {n : Nat} (hv : v < 0 ∨ nI n ≤ v) (h : post 0) : wpX_isKnown post (fe, fc, fn, nI n, off, ear, hom, st, cs, ln, ps, sh, ow, px, vs, vv, vc, lt, ls, ll) v := by
  rcases hv with hv | hv
  · exact br_t hv h
  · exact br_c (fun _ => h) (fun _ => br_t hv h)
theorem xw_key {post : Int32 → Prop} {s : Nat} (hs : s < 8) (h : post 1) : wpX_isKey post (fe, fc, fn, fb, off, ear, hom, st, cs, ln, ps, sh, ow, px, vs, vv, vc, lt, ls, ll) (nI s) :=
  br_f (nI_pos (by omega)) (br_f (nI_ge (b := 8) hs (by decide)) h)
theorem xw_keyB {post : Int32 → Prop} {v : Int32} (hv : v < 0 ∨ 8 ≤ v) (h : post 0) : wpX_isKey post (fe, fc, fn, fb, off, ear, hom, st, cs, ln, ps, sh, ow, px, vs, vv, vc, lt, ls, ll) v := by
  rcases hv with hv | hv
  · exact br_t hv h
  · exact br_c (fun _ => h) (fun _ => br_t hv h)
theorem xw_prepY {post : Int32 → Prop} {t s : Nat} (ht : t < 32) (hs : s < 4) (hc : zPr (ln (t * 4 + s))) (h : post 1) : wpX_isPrepared post (fe, fc, fn, fb, off, ear, hom, st, cs, ln, ps, sh, ow, px, vs, vv, vc, lt, ls, ll) (nI t) (nI s) :=
  ⟨za_i4 ht hs, nm_r (congrArg ln (za_c4 ht hs)) (br_c (fun _ => h) fun h3 => br_c (fun _ => h) fun h4 => br_c (fun _ => h) fun h5 => br_c (fun _ => h) fun h7 => absurd hc (fun c => by
    rcases c with c | c | c | c
    · exact h3 c
    · exact h4 c
    · exact h5 c
    · exact h7 c))⟩
theorem xw_prepN {post : Int32 → Prop} {t s : Nat} (ht : t < 32) (hs : s < 4) (hc : ¬ zPr (ln (t * 4 + s))) (h : post 0) : wpX_isPrepared post (fe, fc, fn, fb, off, ear, hom, st, cs, ln, ps, sh, ow, px, vs, vv, vc, lt, ls, ll) (nI t) (nI s) :=
  ⟨za_i4 ht hs, nm_r (congrArg ln (za_c4 ht hs)) (br_f (fun e => hc (Or.inl e)) (br_f (fun e => hc (Or.inr (Or.inl e))) (br_f (fun e => hc (Or.inr (Or.inr (Or.inl e)))) (br_f (fun e => hc (Or.inr (Or.inr (Or.inr e)))) h))))⟩
theorem xw_latest {post : Int32 → Prop} {s : Nat} (hs : s < 4) (h : post (fn + off s + fe)) : wpX_latest post (fe, fc, fn, fb, off, ear, hom, st, cs, ln, ps, sh, ow, px, vs, vv, vc, lt, ls, ll) (nI s) :=
  ⟨vp_in_nI hs (by omega), by rw [nI_clamp (by omega)]; exact h⟩
end
/-! ===== X: release, wound, the first touch of a link ===== -/
def zrSB (sh : Nat → Int32) (t s b : Nat) : Nat → Int32 := fun k => if k < b ∧ k % 4 = s then sh k &&& (((1 : Int32) <<< (nI t &&& 31)) ^^^ (-1)) else sh k
def zrOB (ow : Nat → Int32) (t s b : Nat) : Nat → Int32 := fun k => if (k < b ∧ k % 4 = s) ∧ ow k = nI t then -1 else ow k
def zrPB (px ow : Nat → Int32) (t s b : Nat) : Nat → Int32 := fun k => if (k < b ∧ k % 4 = s) ∧ ow k = nI t then 0 else px k
theorem zrSB_0 {sh : Nat → Int32} {t s : Nat} (hs : s < 4) : zrSB sh t s s = sh := by
  funext k; unfold zrSB; rw [if_neg (by omega)]
theorem zrOB_0 {ow : Nat → Int32} {t s : Nat} (hs : s < 4) : zrOB ow t s s = ow := by
  funext k; unfold zrOB; rw [if_neg (fun c => by omega)]
theorem zrPB_0 {px ow : Nat → Int32} {t s : Nat} (hs : s < 4) : zrPB px ow t s s = px := by
  funext k; unfold zrPB; rw [if_neg (fun c => by omega)]
theorem zr_eq {k s : Nat} (hs : s < 4) : (k < s + 4 + 4 ∧ k % 4 = s) = (k < 8 ∧ k % 4 = s) := by
  apply propext; omega
theorem zrSB_8 {sh : Nat → Int32} {t s : Nat} (hs : s < 4) : zrSB sh t s (s + 4 + 4) = zrS sh t s := by
  funext k
  unfold zrSB zrS
  by_cases z : k < 8 ∧ k % 4 = s
  · rw [if_pos z, if_pos (by omega)]
  · rw [if_neg z, if_neg (by omega)]
theorem zrOB_8 {ow : Nat → Int32} {t s : Nat} (hs : s < 4) : zrOB ow t s (s + 4 + 4) = zrO ow t s := by
  funext k
  unfold zrOB zrO
  by_cases z : (k < 8 ∧ k % 4 = s) ∧ ow k = nI t
  · rw [if_pos z, if_pos ⟨by omega, z.2⟩]
  · rw [if_neg z, if_neg (fun c => z ⟨by omega, c.2⟩)]
theorem zrPB_8 {px ow : Nat → Int32} {t s : Nat} (hs : s < 4) : zrPB px ow t s (s + 4 + 4) = zrP px ow t s := by
  funext k
  unfold zrPB zrP
  by_cases z : (k < 8 ∧ k % 4 = s) ∧ ow k = nI t
  · rw [if_pos z, if_pos ⟨by omega, z.2⟩]
  · rw [if_neg z, if_neg (fun c => z ⟨by omega, c.2⟩)]
theorem zrSB_s {sh : Nat → Int32} {t s b : Nat} (hb : b % 4 = s) : upd (zrSB sh t s b) b (zrSB sh t s b b &&& (((1 : Int32) <<< (nI t &&& 31)) ^^^ (-1))) = zrSB sh t s (b + 4) := by
  funext k
  unfold upd zrSB
  by_cases e : k = b
  · rw [if_pos e, if_neg (by omega), if_pos (by omega), e]
  · rw [if_neg e]
    by_cases z : k < b ∧ k % 4 = s
    · rw [if_pos z, if_pos (by omega)]
    · rw [if_neg z, if_neg (by omega)]
theorem zrOB_at {ow : Nat → Int32} {t s b : Nat} : zrOB ow t s b b = ow b := by
  unfold zrOB; rw [if_neg (fun c => by omega)]
theorem zrOB_t {ow : Nat → Int32} {t s b : Nat} (hb : b % 4 = s) (h : ow b = nI t) : upd (zrOB ow t s b) b (-1) = zrOB ow t s (b + 4) := by
  funext k
  unfold upd zrOB
  by_cases e : k = b
  · subst e; rw [if_pos rfl, if_pos ⟨by omega, h⟩]
  · rw [if_neg e]
    by_cases z : (k < b ∧ k % 4 = s) ∧ ow k = nI t
    · rw [if_pos z, if_pos ⟨by omega, z.2⟩]
    · rw [if_neg z, if_neg (fun c => z ⟨by omega, c.2⟩)]
theorem zrPB_t {px ow : Nat → Int32} {t s b : Nat} (hb : b % 4 = s) (h : ow b = nI t) : upd (zrPB px ow t s b) b 0 = zrPB px ow t s (b + 4) := by
  funext k
  unfold upd zrPB
  by_cases e : k = b
  · subst e; rw [if_pos rfl, if_pos ⟨by omega, h⟩]
  · rw [if_neg e]
    by_cases z : (k < b ∧ k % 4 = s) ∧ ow k = nI t
    · rw [if_pos z, if_pos ⟨by omega, z.2⟩]
    · rw [if_neg z, if_neg (fun c => z ⟨by omega, c.2⟩)]
theorem zrOB_f {ow : Nat → Int32} {t s b : Nat} (hb : b % 4 = s) (h : ¬ ow b = nI t) : zrOB ow t s b = zrOB ow t s (b + 4) := by
  funext k
  unfold zrOB
  by_cases e : k = b
  · subst e; rw [if_neg (fun c => h c.2), if_neg (fun c => h c.2)]
  · by_cases z : (k < b ∧ k % 4 = s) ∧ ow k = nI t
    · rw [if_pos z, if_pos ⟨by omega, z.2⟩]
    · rw [if_neg z, if_neg (fun c => z ⟨by omega, c.2⟩)]
theorem zrPB_f {px ow : Nat → Int32} {t s b : Nat} (hb : b % 4 = s) (h : ¬ ow b = nI t) : zrPB px ow t s b = zrPB px ow t s (b + 4) := by
  funext k
  unfold zrPB
  by_cases e : k = b
  · subst e; rw [if_neg (fun c => h c.2), if_neg (fun c => h c.2)]
  · by_cases z : (k < b ∧ k % 4 = s) ∧ ow k = nI t
    · rw [if_pos z, if_pos ⟨by omega, z.2⟩]
    · rw [if_neg z, if_neg (fun c => z ⟨by omega, c.2⟩)]
section
variable {fe fc fn fb : Int32} {off ear hom st cs ln ps sh ow px vs vv vc lt ls ll : Nat → Int32}
theorem xw_rel1 {post : SX → Prop} {t s b d : Nat} (hb : b < 8) (hbs : b % 4 = s)
    (K : wX_release_2 post (nI t) fe fc fn fb d (nI (b + 4)) off ear hom st cs ln ps (zrSB sh t s (b + 4)) (zrOB ow t s (b + 4)) (zrPB px ow t s (b + 4)) vs vv vc lt ls ll) :
    wX_release_2 post (nI t) fe fc fn fb (d + 1) (nI b) off ear hom st cs ln ps (zrSB sh t s b) (zrOB ow t s b) (zrPB px ow t s b) vs vv vc lt ls ll := by
  have c : (nI b).toNatClampNeg = b := nI_clamp (by omega)
  have i : vp_in (nI b) 8 := vp_in_nI hb (by omega)
  by_cases h : ow b = nI t
  · exact br_f (nI_ge (b := 8) hb (by decide)) ⟨i, i, nm_r (e' := zrSB sh t s (b + 4)) (by rw [c]; exact zrSB_s hbs) ⟨i, br_t (by rw [c]; exact zrOB_at.trans h) ⟨i, nm_r (e' := zrOB ow t s (b + 4)) (by rw [c]; exact zrOB_t hbs h) ⟨i, nm_r (e' := zrPB px ow t s (b + 4)) (by rw [c]; exact zrPB_t hbs h) (nm_r (za_p4 b) K)⟩⟩⟩⟩
  · refine br_f (nI_ge (b := 8) hb (by decide)) ⟨i, i, nm_r (e' := zrSB sh t s (b + 4)) (by rw [c]; exact zrSB_s hbs) ⟨i, br_f (by rw [c]; exact fun e => h (zrOB_at.symm.trans e)) (nm_r (za_p4 b) ?_)⟩⟩
    rw [zrOB_f hbs h, zrPB_f hbs h]
    exact K
theorem xw_rel {post : SX → Prop} {t s : Nat} (hs : s < 4) (h : post (fe, fc, fn, fb, off, ear, hom, st, cs, ln, ps, zrS sh t s, zrO ow t s, zrP px ow t s, vs, vv, vc, lt, ls, ll)) : wpX_release post (fe, fc, fn, fb, off, ear, hom, st, cs, ln, ps, sh, ow, px, vs, vv, vc, lt, ls, ll) (nI t) (nI s) := by
  refine ⟨3, ?_⟩
  have K := xw_rel1 (post := post) (fe := fe) (fc := fc) (fn := fn) (fb := fb) (off := off) (ear := ear) (hom := hom) (st := st) (cs := cs) (ln := ln) (ps := ps) (sh := sh) (ow := ow) (px := px) (vs := vs) (vv := vv) (vc := vc) (lt := lt) (ls := ls) (ll := ll) (t := t) (s := s) (b := s) (d := 2) (by omega) (by omega) (xw_rel1 (by omega) (by omega) (by
    rw [zrSB_8 hs, zrOB_8 hs, zrPB_8 hs]
    exact br_t (nI_le (a := 8) (by omega) (by omega)) h))
  rw [zrSB_0 hs, zrOB_0 hs, zrPB_0 hs] at K
  exact K
theorem xw_wound {post : SX → Prop} {t s : Nat} {x : Int32} (ht : t < 32) (hs : s < 4) (hx : (st t = 4 ∧ x = 9) ∨ (¬ st t = 4 ∧ x = 8))
    (h : post (fe, fc, fn, fb, off, ear, hom, st, cs, upd ln (t * 4 + s) x, ps, zrS sh t s, zrO ow t s, zrP px ow t s, vs, vv, vc, lt, ls, ll)) : wpX_wound post (fe, fc, fn, fb, off, ear, hom, st, cs, ln, ps, sh, ow, px, vs, vv, vc, lt, ls, ll) (nI t) (nI s) := by
  unfold wpX_wound
  refine xw_rel hs ?_
  have i := za_i4 ht hs
  have c := za_c4 ht hs
  rcases hx with ⟨h1, rfl⟩ | ⟨h1, rfl⟩
  · exact ⟨vp_in_nI ht (by omega), br_t (by rw [nI_clamp (by omega)]; exact h1) ⟨i, nm_r (e' := upd ln (t * 4 + s) 9) (by rw [c]) h⟩⟩
  · exact ⟨vp_in_nI ht (by omega), br_f (by rw [nI_clamp (by omega)]; exact h1) ⟨i, nm_r (e' := upd ln (t * 4 + s) 8) (by rw [c]) h⟩⟩
/-- the first touch of a link: afterwards it stands at 1 -/
theorem xw_open {post : SX → Prop} {t s : Nat} (ht : t < 32) (hs : s < 4) (h01 : ln (t * 4 + s) = 0 ∨ ln (t * 4 + s) = 1) (h : post (fe, fc, fn, fb, off, ear, hom, st, cs, upd ln (t * 4 + s) 1, ps, sh, ow, px, vs, vv, vc, lt, ls, ll)) : wpX_open post (fe, fc, fn, fb, off, ear, hom, st, cs, ln, ps, sh, ow, px, vs, vv, vc, lt, ls, ll) (nI t) (nI s) := by
  have i := za_i4 ht hs
  have c := za_c4 ht hs
  rcases h01 with e | e
  · exact ⟨i, br_t (by rw [c]; exact e) ⟨i, nm_r (e' := upd ln (t * 4 + s) 1) (by rw [c]) h⟩⟩
  · refine ⟨i, br_f (by rw [c, e]; decide) ?_⟩
    rw [zu_id e] at h
    exact h
/-! ===== X: links ===== -/
theorem xw_chgL {post : SX → Prop} {t : Nat} {a b : Int32} (ht : t < 32) (h : post (fe, fc, fn, fb, off, ear, hom, st, cs, zc ln t a b, ps, sh, ow, px, vs, vv, vc, lt, ls, ll)) : ∀ d i, i + d = 4 → wX_changeLinks_5 post (nI t) a b fe fc fn fb (d + 1) (nI (t * 4 + i)) off ear hom st cs (zcI ln t a b i) ps sh ow px vs vv vc lt ls ll := by
  intro d
  induction d with
  | zero =>
    intro i hi
    obtain rfl : i = 4 := by omega
    exact br_t (by rw [za_e4]; exact nI_le (by omega) (by omega)) h
  | succ d ih =>
    intro i hi
    have v : vp_in (nI (t * 4 + i)) 128 := vp_in_nI (by omega) (by omega)
    have c : (nI (t * 4 + i)).toNatClampNeg = t * 4 + i := nI_clamp (by omega)
    have g : ¬ nI t * 4 + 4 ≤ nI (t * 4 + i) := by rw [za_e4]; exact nI_ge (by omega) (by omega)
    by_cases z : ln (t * 4 + i) = a
    · exact br_f g ⟨v, br_t (by rw [c, zc_at]; exact z) ⟨v, nm_r (e' := zcI ln t a b (i + 1)) (by rw [c]; exact zc_t z) (nm_r (nI_1 _) (ih (i + 1) (by omega)))⟩⟩
    · refine br_f g ⟨v, br_f (by rw [c, zc_at]; exact z) (nm_r (nI_1 _) ?_)⟩
      rw [zc_f z]
      exact ih (i + 1) (by omega)
theorem xw_chg {post : SX → Prop} {t : Nat} {a b : Int32} (ht : t < 32) (h : post (fe, fc, fn, fb, off, ear, hom, st, cs, zc ln t a b, ps, sh, ow, px, vs, vv, vc, lt, ls, ll)) : wpX_changeLinks post (fe, fc, fn, fb, off, ear, hom, st, cs, ln, ps, sh, ow, px, vs, vv, vc, lt, ls, ll) (nI t) a b := by
  refine nm_r (za_m4 t) ⟨5, ?_⟩
  have K := xw_chgL (a := a) (b := b) ht h 4 0 rfl
  rw [zc_0] at K
  exact K
theorem xw_abort {post : SX → Prop} {t : Nat} (ht : t < 32) (h : post (fe, fc, fn, fb, off, ear, hom, upd st t 4, cs, zab ln t, ps, sh, ow, px, vs, vv, vc, lt, ls, ll)) : wpX_abortNow post (fe, fc, fn, fb, off, ear, hom, st, cs, ln, ps, sh, ow, px, vs, vv, vc, lt, ls, ll) (nI t) := by
  refine ⟨vp_in_nI ht (by omega), nm_r (e' := upd st t 4) (by rw [nI_clamp (by omega)]) ?_⟩
  refine xw_chg ht ?_
  refine xw_chg ht ?_
  refine xw_chg ht ?_
  refine xw_chg ht ?_
  refine xw_chg ht ?_
  rw [← zab_chain] at h
  exact h
theorem xw_allL {post : Int32 → Prop} {t : Nat} {a : Int32} (ht : t < 32) (hy : (∀ s, s < 4 → ln (t * 4 + s) = 0 ∨ ln (t * 4 + s) = a) → post 1) (hn : ¬ (∀ s, s < 4 → ln (t * 4 + s) = 0 ∨ ln (t * 4 + s) = a) → post 0) :
    ∀ d i, i + d = 4 → (∀ s, s < i → ln (t * 4 + s) = 0 ∨ ln (t * 4 + s) = a) → wX_allLinksAre_4 post (nI t) a fe fc fn fb off ear hom st cs ln ps sh ow px vs vv vc lt ls ll (d + 1) (nI (t * 4 + i)) := by
  intro d
  induction d with
  | zero =>
    intro i hi hall
    obtain rfl : i = 4 := by omega
    exact br_t (by rw [za_e4]; exact nI_le (by omega) (by omega)) (hy hall)
  | succ d ih =>
    intro i hi hall
    have v : vp_in (nI (t * 4 + i)) 128 := vp_in_nI (by omega) (by omega)
    have c : (nI (t * 4 + i)).toNatClampNeg = t * 4 + i := nI_clamp (by omega)
    have g : ¬ nI t * 4 + 4 ≤ nI (t * 4 + i) := by rw [za_e4]; exact nI_ge (by omega) (by omega)
    have nx : (ln (t * 4 + i) = 0 ∨ ln (t * 4 + i) = a) → wX_allLinksAre_4 post (nI t) a fe fc fn fb off ear hom st cs ln ps sh ow px vs vv vc lt ls ll (d + 1) (nI (t * 4 + (i + 1))) := fun z => ih (i + 1) (by omega) (fun s hs => by
      by_cases e : s = i
      · subst e; exact z
      · exact hall s (by omega))
    by_cases z : ln (t * 4 + i) = 0
    · exact br_f g ⟨v, br_t (by rw [c]; exact z) (nm_r (nI_1 _) (nx (Or.inl z)))⟩
    · by_cases z2 : ln (t * 4 + i) = a
      · exact br_f g ⟨v, br_f (by rw [c]; exact z) ⟨v, br_t (by rw [c]; exact z2) (nm_r (nI_1 _) (nx (Or.inr z2)))⟩⟩
      · exact br_f g ⟨v, br_f (by rw [c]; exact z) ⟨v, br_f (by rw [c]; exact z2) (hn (fun c => by
          rcases c i (by omega) with e | e
          · exact z e
          · exact z2 e))⟩⟩
theorem xw_all {post : Int32 → Prop} {t : Nat} {a : Int32} (ht : t < 32) (hy : (∀ s, s < 4 → ln (t * 4 + s) = 0 ∨ ln (t * 4 + s) = a) → post 1) (hn : ¬ (∀ s, s < 4 → ln (t * 4 + s) = 0 ∨ ln (t * 4 + s) = a) → post 0) :
    wpX_allLinksAre post (fe, fc, fn, fb, off, ear, hom, st, cs, ln, ps, sh, ow, px, vs, vv, vc, lt, ls, ll) (nI t) a :=
  nm_r (za_m4 t) ⟨5, xw_allL ht hy hn 4 0 rfl (fun s hs => absurd hs (Nat.not_lt_zero s))⟩
end
end
section
/-! ===== X: ordered lists ===== -/
section
variable {fe fc fn fb : Int32} {off ear hom st cs ln ps sh ow px vs vv vc lt ls ll : Nat → Int32}
theorem xw_ins97 {post : SX → Prop} {j m p t : Nat} {x : Int32} (hj : j < 8) (hm : m < 32) (hp : p ≤ m) (h : post (fe, fc, fn, fb, off, ear, hom, st, cs, ln, ps, sh, ow, px, vs, vv, vc, zins lt (j * 32) m p (nI t), zins ls (j * 32) m p x, upd ll j (nI (m + 1)))) :
    wX_insertOrdered_97 post (nI j) (nI t) x (nI m) (nI (j * 32 + p)) fe fc fn fb off ear hom st cs ln ps sh ow px vs vv vc (zsh lt (j * 32) m p) (zsh ls (j * 32) m p) ll := by
  have v : vp_in (nI (j * 32 + p)) 256 := vp_in_nI (by omega) (by omega)
  have c : (nI (j * 32 + p)).toNatClampNeg = j * 32 + p := nI_clamp (by omega)
  exact ⟨v, nm_r (e' := zins ls (j * 32) m p x) (by rw [c]; exact zins_u) ⟨v, nm_r (e' := zins lt (j * 32) m p (nI t)) (by rw [c]; exact zins_u) ⟨vp_in_nI hj (by omega), nm_r (e' := upd ll j (nI (m + 1))) (by rw [nI_clamp (by omega), nI_1]) h⟩⟩⟩
theorem xw_insL {post : SX → Prop} {j m t : Nat} {x : Int32} (hj : j < 8) (hm : m < 32)
    (H : ∀ p, p ≤ m → (∀ i, p ≤ i → i < m → x < ls (j * 32 + i)) → (0 < p → ls (j * 32 + (p - 1)) ≤ x) → post (fe, fc, fn, fb, off, ear, hom, st, cs, ln, ps, sh, ow, px, vs, vv, vc, zins lt (j * 32) m p (nI t), zins ls (j * 32) m p x, upd ll j (nI (m + 1)))) :
    ∀ p, p ≤ m → (∀ i, p ≤ i → i < m → x < ls (j * 32 + i)) → wX_insertOrdered_33 post (nI j) (nI t) x (nI m) (nI (j * 32)) fe fc fn fb (p + 1) (nI (j * 32 + p)) (nI (j * 32 + p)) off ear hom st cs ln ps sh ow px vs vv vc (zsh lt (j * 32) m p) (zsh ls (j * 32) m p) ll := by
  intro p
  induction p with
  | zero =>
    intro hp hg
    exact br_t (nI_le (by omega) (by omega)) (xw_ins97 hj hm hp (H 0 hp hg (fun z => absurd z (Nat.lt_irrefl 0))))
  | succ p ih =>
    intro hp hg
    have e : nI (j * 32 + (p + 1)) - 1 = nI (j * 32 + p) := nI_pred (j * 32 + p)
    have v' : vp_in (nI (j * 32 + (p + 1)) - 1) 256 := by rw [e]; exact vp_in_nI (by omega) (by omega)
    have c' : (nI (j * 32 + (p + 1)) - 1).toNatClampNeg = j * 32 + p := by rw [e]; exact nI_clamp (by omega)
    have v : vp_in (nI (j * 32 + (p + 1))) 256 := vp_in_nI (by omega) (by omega)
    have c : (nI (j * 32 + (p + 1))).toNatClampNeg = j * 32 + p + 1 := nI_clamp (by omega)
    refine br_f (nI_ge (by omega) (by omega)) ⟨v', ?_⟩
    by_cases z : ls (j * 32 + p) ≤ x
    · exact br_t (by rw [c', zsh_at (by omega)]; exact z) (xw_ins97 hj hm hp (H (p + 1) hp hg (fun _ => z)))
    · refine br_f (by rw [c', zsh_at (by omega)]; exact z) ⟨v', v, nm_r (e' := zsh ls (j * 32) m p) (by rw [c, c']; exact zsh_s hp) ⟨v', v, nm_r (e' := zsh lt (j * 32) m p) (by rw [c, c']; exact zsh_s hp) (nm_r e (nm_r (pk_m1 (j * 32 + p)) (ih (by omega) ?_)))⟩⟩
      intro i h1 h2
      by_cases z2 : i = p
      · subst z2; exact zi_nle.mp z
      · exact hg i (by omega) h2
theorem xw_ins {post : SX → Prop} {j m t : Nat} {x : Int32} (hj : j < 8) (hm : m < 32) (hl : ll j = nI m)
    (H : ∀ p, p ≤ m → (∀ i, p ≤ i → i < m → x < ls (j * 32 + i)) → (0 < p → ls (j * 32 + (p - 1)) ≤ x) → post (fe, fc, fn, fb, off, ear, hom, st, cs, ln, ps, sh, ow, px, vs, vv, vc, zins lt (j * 32) m p (nI t), zins ls (j * 32) m p x, upd ll j (nI (m + 1)))) :
    wpX_insertOrdered post (fe, fc, fn, fb, off, ear, hom, st, cs, ln, ps, sh, ow, px, vs, vv, vc, lt, ls, ll) (nI j) (nI t) x := by
  have K := xw_insL hj hm H m (Nat.le_refl m) (fun i h1 h2 => absurd h2 (by omega))
  rw [zsh_0, zsh_0] at K
  exact ⟨vp_in_nI hj (by omega), nm_r (e' := nI m) (by rw [nI_clamp (by omega)]; exact hl) (br_t (nI_lt (b := 32) hm (by decide)) (nm_r (za_m32 j) (nm_r (nI_add _ _) ⟨m + 1, K⟩)))⟩
/-- removal: behind the entry q -/
theorem xw_rm2 {post : SX → Prop} {j m q t : Nat} (hj : j < 8) (hm : m ≤ 32) (hne : ∀ i, q < i → i < m → lt (j * 32 + i) ≠ nI t)
    (h : post (fe, fc, fn, fb, off, ear, hom, st, cs, ln, ps, sh, ow, px, vs, vv, vc, zrm lt (j * 32) q m, zrm ls (j * 32) q m, upd ll j (nI (m - 1)))) :
    ∀ d i, i + d = m → q < i → wX_removeFrom_19 post (nI j) (nI t) (nI (j * 32)) (nI m) fe fc fn fb (d + 1) (nI (i - 1)) (nI i) off ear hom st cs ln ps sh ow px vs vv vc (zrm lt (j * 32) q i) (zrm ls (j * 32) q i) ll := by
  intro d
  induction d with
  | zero =>
    intro i hi hq
    obtain rfl : i = m := by omega
    exact br_t (nI_le (Nat.le_refl i) (by omega)) ⟨vp_in_nI hj (by omega), nm_r (e' := upd ll j (nI (i - 1))) (by rw [nI_clamp (by omega)]) h⟩
  | succ d ih =>
    intro i hi hq
    have v : vp_in (nI (j * 32) + nI i) 256 := by rw [nI_add]; exact vp_in_nI (by omega) (by omega)
    have c : (nI (j * 32) + nI i).toNatClampNeg = j * 32 + i := by rw [nI_add]; exact nI_clamp (by omega)
    have v' : vp_in (nI (j * 32) + nI (i - 1)) 256 := by rw [nI_add]; exact vp_in_nI (by omega) (by omega)
    have c' : (nI (j * 32) + nI (i - 1)).toNatClampNeg = j * 32 + (i - 1) := by rw [nI_add]; exact nI_clamp (by omega)
    have e1 : nI (i - 1) + 1 = nI (i + 1 - 1) := by rw [nI_1, show i - 1 + 1 = i + 1 - 1 by omega]
    exact br_f (nI_ge (by omega) (by omega)) ⟨v, br_f (by rw [c, zrm_at]; exact hne i hq (by omega)) ⟨v, v', nm_r (e' := zrm lt (j * 32) q (i + 1)) (by rw [c, c', zrm_at]; exact zrm_s hq) ⟨v, v', nm_r (e' := zrm ls (j * 32) q (i + 1)) (by rw [c, c', zrm_at]; exact zrm_s hq) (nm_r e1 (nm_r (nI_1 i) (ih (i + 1) (by omega) (by omega))))⟩⟩⟩
theorem xw_rm1 {post : SX → Prop} {j m q t : Nat} (hj : j < 8) (hm : m ≤ 32) (hq : q < m) (hqt : lt (j * 32 + q) = nI t) (hne : ∀ i, i < m → i ≠ q → lt (j * 32 + i) ≠ nI t)
    (h : post (fe, fc, fn, fb, off, ear, hom, st, cs, ln, ps, sh, ow, px, vs, vv, vc, zrm lt (j * 32) q m, zrm ls (j * 32) q m, upd ll j (nI (m - 1)))) :
    ∀ d i, i + d = q → wX_removeFrom_19 post (nI j) (nI t) (nI (j * 32)) (nI m) fe fc fn fb (d + (m - q - 1) + 2) (nI i) (nI i) off ear hom st cs ln ps sh ow px vs vv vc lt ls ll := by
  intro d
  induction d with
  | zero =>
    intro i hi
    obtain rfl : i = q := by omega
    have v : vp_in (nI (j * 32) + nI i) 256 := by rw [nI_add]; exact vp_in_nI (by omega) (by omega)
    have c : (nI (j * 32) + nI i).toNatClampNeg = j * 32 + i := by rw [nI_add]; exact nI_clamp (by omega)
    have K := xw_rm2 hj hm (q := i) (fun k h1 h2 => hne k h2 (by omega)) h (m - i - 1) (i + 1) (by omega) (by omega)
    rw [zrm_0, zrm_0] at K
    rw [Nat.zero_add]
    exact br_f (nI_ge hq (by omega)) ⟨v, br_t (by rw [c]; exact hqt) (nm_r (nI_1 i) K)⟩
  | succ d ih =>
    intro i hi
    have v : vp_in (nI (j * 32) + nI i) 256 := by rw [nI_add]; exact vp_in_nI (by omega) (by omega)
    have c : (nI (j * 32) + nI i).toNatClampNeg = j * 32 + i := by rw [nI_add]; exact nI_clamp (by omega)
    rw [show d + 1 + (m - q - 1) + 2 = d + (m - q - 1) + 2 + 1 by omega]
    exact br_f (nI_ge (by omega) (by omega)) ⟨v, br_f (by rw [c]; exact hne i (by omega) (by omega)) ⟨v, v, nm_r (e' := lt) (by rw [c]; exact zu_id rfl) ⟨v, v, nm_r (e' := ls) (by rw [c]; exact zu_id rfl) (nm_r (nI_1 i) (nm_r (nI_1 i) (ih (i + 1) (by omega))))⟩⟩⟩
theorem xw_rm {post : SX → Prop} {j m q t : Nat} (hj : j < 8) (hm : m ≤ 32) (hl : ll j = nI m) (hq : q < m) (hqt : lt (j * 32 + q) = nI t) (hne : ∀ i, i < m → i ≠ q → lt (j * 32 + i) ≠ nI t)
    (h : post (fe, fc, fn, fb, off, ear, hom, st, cs, ln, ps, sh, ow, px, vs, vv, vc, zrm lt (j * 32) q m, zrm ls (j * 32) q m, upd ll j (nI (m - 1)))) : wpX_removeFrom post (fe, fc, fn, fb, off, ear, hom, st, cs, ln, ps, sh, ow, px, vs, vv, vc, lt, ls, ll) (nI j) (nI t) :=
  nm_r (za_m32 j) ⟨vp_in_nI hj (by omega), nm_r (e' := nI m) (by rw [nI_clamp (by omega)]; exact hl) ⟨_, xw_rm1 hj hm hq hqt hne h q 0 (by omega)⟩⟩
/-- the front of c entries dropped -/
theorem xw_drL {post : SX → Prop} {j m c : Nat} (hj : j < 8) (hm : m ≤ 32) (hc : c ≤ m)
    (h : post (fe, fc, fn, fb, off, ear, hom, st, cs, ln, ps, sh, ow, px, vs, vv, vc, zdr lt (j * 32) c m, zdr ls (j * 32) c m, upd ll j (nI (m - c)))) :
    ∀ d i, i + d = m → c ≤ i → wX_dropFront_16 post (nI j) (nI c) (nI (j * 32)) (nI m) fe fc fn fb (d + 1) (nI i) off ear hom st cs ln ps sh ow px vs vv vc (zdr lt (j * 32) c i) (zdr ls (j * 32) c i) ll := by
  intro d
  induction d with
  | zero =>
    intro i hi hq
    obtain rfl : i = m := by omega
    exact br_t (nI_le (Nat.le_refl i) (by omega)) ⟨vp_in_nI hj (by omega), nm_r (e' := upd ll j (nI (i - c))) (by rw [nI_clamp (by omega), pk_sub hc]) h⟩
  | succ d ih =>
    intro i hi hq
    have v : vp_in (nI (j * 32) + nI i) 256 := by rw [nI_add]; exact vp_in_nI (by omega) (by omega)
    have cc : (nI (j * 32) + nI i).toNatClampNeg = j * 32 + i := by rw [nI_add]; exact nI_clamp (by omega)
    have e : nI (j * 32) + nI i - nI c = nI (j * 32 + (i - c)) := by rw [nI_add, pk_sub (by omega), show j * 32 + i - c = j * 32 + (i - c) by omega]
    have v' : vp_in (nI (j * 32) + nI i - nI c) 256 := by rw [e]; exact vp_in_nI (by omega) (by omega)
    have c' : (nI (j * 32) + nI i - nI c).toNatClampNeg = j * 32 + (i - c) := by rw [e]; exact nI_clamp (by omega)
    exact br_f (nI_ge (by omega) (by omega)) ⟨v, v', nm_r (e' := zdr lt (j * 32) c (i + 1)) (by rw [cc, c', zdr_at]; exact zdr_s hq) ⟨v, v', nm_r (e' := zdr ls (j * 32) c (i + 1)) (by rw [cc, c', zdr_at]; exact zdr_s hq) (nm_r (nI_1 i) (ih (i + 1) (by omega) (by omega)))⟩⟩
theorem xw_dr {post : SX → Prop} {j m c : Nat} (hj : j < 8) (hm : m ≤ 32) (hc : c ≤ m) (hl : ll j = nI m)
    (h : post (fe, fc, fn, fb, off, ear, hom, st, cs, ln, ps, sh, ow, px, vs, vv, vc, zdr lt (j * 32) c m, zdr ls (j * 32) c m, upd ll j (nI (m - c)))) : wpX_dropFront post (fe, fc, fn, fb, off, ear, hom, st, cs, ln, ps, sh, ow, px, vs, vv, vc, lt, ls, ll) (nI j) (nI c) := by
  have K := xw_drL hj hm hc h (m - c) c (by omega) (Nat.le_refl c)
  rw [zdr_0, zdr_0] at K
  exact nm_r (za_m32 j) ⟨vp_in_nI hj (by omega), nm_r (e' := nI m) (by rw [nI_clamp (by omega)]; exact hl) ⟨_, K⟩⟩
end
/-! ===== the commit stamp ===== -/
def zdm (ln ps : Nat → Int32) (t : Nat) (b : Int32) : Nat → Int32
  | 0 => b
  | i + 1 => if ln (t * 4 + i) = 4 ∧ ¬ ps (t * 4 + i) ≤ zdm ln ps t b i then ps (t * 4 + i) else zdm ln ps t b i
theorem zdm_1 {ln ps : Nat → Int32} {t i : Nat} {b : Int32} (h : ln (t * 4 + i) = 4) (h2 : ¬ ps (t * 4 + i) ≤ zdm ln ps t b i) : zdm ln ps t b (i + 1) = ps (t * 4 + i) := if_pos ⟨h, h2⟩
theorem zdm_2 {ln ps : Nat → Int32} {t i : Nat} {b : Int32} (h2 : ps (t * 4 + i) ≤ zdm ln ps t b i) : zdm ln ps t b (i + 1) = zdm ln ps t b i := if_neg (fun c => c.2 h2)
theorem zdm_3 {ln ps : Nat → Int32} {t i : Nat} {b : Int32} (h : ¬ ln (t * 4 + i) = 4) : zdm ln ps t b (i + 1) = zdm ln ps t b i := if_neg (fun c => h c.1)
theorem zdm_m {ln ps : Nat → Int32} {t i : Nat} {b : Int32} : zdm ln ps t b i ≤ zdm ln ps t b (i + 1) := by
  by_cases h : ln (t * 4 + i) = 4
  · by_cases h2 : ps (t * 4 + i) ≤ zdm ln ps t b i
    · rw [zdm_2 h2]; exact Int32.le_refl _
    · rw [zdm_1 h h2]; exact Int32.le_of_lt (zi_nle.mp h2)
  · rw [zdm_3 h]; exact Int32.le_refl _
theorem zdm_ge {ln ps : Nat → Int32} {t : Nat} {b : Int32} : ∀ i s, s < i → ln (t * 4 + s) = 4 → ps (t * 4 + s) ≤ zdm ln ps t b i := by
  intro i
  induction i with
  | zero => intro s hs; exact absurd hs (Nat.not_lt_zero s)
  | succ i ih =>
    intro s hs h
    by_cases e : s = i
    · subst e
      by_cases h2 : ps (t * 4 + s) ≤ zdm ln ps t b s
      · rw [zdm_2 h2]; exact h2
      · rw [zdm_1 h h2]; exact Int32.le_refl _
    · exact Int32.le_trans (ih s (by omega) h) zdm_m
section
variable {fe fc fn fb : Int32} {off ear hom st cs ln ps sh ow px vs vv vc lt ls ll : Nat → Int32}
theorem xw_decL {post : SX → Prop} {t h m : Nat} {b : Int32} (ht : t < 32) (hh : h < 4) (hm : m < 32) (hl : ll (4 + h) = nI m)
    (H : ∀ p, p ≤ m → (∀ i, p ≤ i → i < m → zdm ln ps t b 4 < ls ((4 + h) * 32 + i)) → (0 < p → ls ((4 + h) * 32 + (p - 1)) ≤ zdm ln ps t b 4) → post (fe, fc, fn, fb, off, ear, hom, upd st t 2, upd cs t (zdm ln ps t b 4), ln, ps, sh, ow, px, vs, vv, vc, zins lt ((4 + h) * 32) m p (nI t), zins ls ((4 + h) * 32) m p (zdm ln ps t b 4), upd ll (4 + h) (nI (m + 1)))) :
    ∀ d i, i + d = 4 → wX_decide_20 post (nI t) (nI h) fe fc fn fb off ear hom st cs ln ps sh ow px vs vv vc lt ls ll (d + 1) (zdm ln ps t b i) (nI (t * 4 + i)) := by
  intro d
  induction d with
  | zero =>
    intro i hi
    obtain rfl : i = 4 := by omega
    have v : vp_in (nI t) 32 := vp_in_nI ht (by omega)
    have e : (4 : Int32) + nI h = nI (4 + h) := nI_add 4 h
    refine br_t (by rw [za_e4]; exact nI_le (by omega) (by omega)) ⟨v, nm_r (e' := upd cs t (zdm ln ps t b 4)) (by rw [nI_clamp (by omega)]) ⟨v, nm_r (e' := upd st t 2) (by rw [nI_clamp (by omega)]) ?_⟩⟩
    rw [e]
    exact xw_ins (by omega) hm hl H
  | succ d ih =>
    intro i hi
    have v : vp_in (nI (t * 4 + i)) 128 := vp_in_nI (by omega) (by omega)
    have c : (nI (t * 4 + i)).toNatClampNeg = t * 4 + i := nI_clamp (by omega)
    have g : ¬ nI t * 4 + 4 ≤ nI (t * 4 + i) := by rw [za_e4]; exact nI_ge (by omega) (by omega)
    have K := ih (i + 1) (by omega)
    by_cases z : ln (t * 4 + i) = 4
    · by_cases z2 : ps (t * 4 + i) ≤ zdm ln ps t b i
      · rw [zdm_2 z2] at K
        exact br_f g ⟨v, br_t (by rw [c]; exact z) ⟨v, br_t (by rw [c]; exact z2) (nm_r (nI_1 _) K)⟩⟩
      · rw [zdm_1 z z2] at K
        exact br_f g ⟨v, br_t (by rw [c]; exact z) ⟨v, br_f (by rw [c]; exact z2) ⟨v, nm_r (e' := ps (t * 4 + i)) (by rw [c]) (nm_r (nI_1 _) K)⟩⟩⟩
    · rw [zdm_3 z] at K
      exact br_f g ⟨v, br_f (by rw [c]; exact z) (nm_r (nI_1 _) K)⟩
theorem xw_dec {post : SX → Prop} {t h m : Nat} (ht : t < 32) (hh : h < 4) (hom' : hom t = nI h) (hm : m < 32) (hl : ll (4 + h) = nI m)
    (H : ∀ p, p ≤ m → (∀ i, p ≤ i → i < m → zdm ln ps t (fn + off h + fe + 1) 4 < ls ((4 + h) * 32 + i)) → (0 < p → ls ((4 + h) * 32 + (p - 1)) ≤ zdm ln ps t (fn + off h + fe + 1) 4) → post (fe, fc, fn, fb, off, ear, hom, upd st t 2, upd cs t (zdm ln ps t (fn + off h + fe + 1) 4), ln, ps, sh, ow, px, vs, vv, vc, zins lt ((4 + h) * 32) m p (nI t), zins ls ((4 + h) * 32) m p (zdm ln ps t (fn + off h + fe + 1) 4), upd ll (4 + h) (nI (m + 1)))) :
    wpX_decide post (fe, fc, fn, fb, off, ear, hom, st, cs, ln, ps, sh, ow, px, vs, vv, vc, lt, ls, ll) (nI t) := by
  refine ⟨vp_in_nI ht (by omega), nm_r (e' := nI h) (by rw [nI_clamp (by omega)]; exact hom') ?_⟩
  refine xw_latest hh ?_
  exact nm_e (nm_r (za_m4 t) ⟨5, xw_decL (b := fn + off h + fe + 1) ht hh hm hl H 4 0 rfl⟩)
theorem xw_prepAt {post : SX → Prop} {t s m : Nat} (ht : t < 32) (hs : s < 4) (hm : m < 32) (hl : ll s = nI m)
    (H : ∀ p, p ≤ m → (∀ i, p ≤ i → i < m → fn + off s + fe + 1 < ls (s * 32 + i)) → (0 < p → ls (s * 32 + (p - 1)) ≤ fn + off s + fe + 1) → post (fe, fc, fn, fb, off, ear, hom, st, cs, upd ln (t * 4 + s) 3, upd ps (t * 4 + s) (fn + off s + fe + 1), sh, ow, px, vs, vv, vc, zins lt (s * 32) m p (nI t), zins ls (s * 32) m p (fn + off s + fe + 1), upd ll s (nI (m + 1)))) :
    wpX_prepareAt post (fe, fc, fn, fb, off, ear, hom, st, cs, ln, ps, sh, ow, px, vs, vv, vc, lt, ls, ll) (nI t) (nI s) := by
  unfold wpX_prepareAt
  refine xw_latest hs ?_
  have i := za_i4 ht hs
  have c := za_c4 ht hs
  refine nm_e ⟨i, nm_r (e' := upd ps (t * 4 + s) (fn + off s + fe + 1)) (by rw [c]) ⟨i, nm_r (e' := upd ln (t * 4 + s) 3) (by rw [c]) ?_⟩⟩
  exact xw_ins (by omega) hm hl H
end
end
section
/-! ===== X: versions ===== -/
def zvC (vc ow : Nat → Int32) (t s b : Nat) : Nat → Int32 := fun k => if (k < b ∧ k % 4 = s) ∧ ow k = nI t then vc k + 1 else vc k
def zvA (f vc ow : Nat → Int32) (t s b : Nat) (g : Nat → Int32) : Nat → Int32 := fun i => if ((i / 32 < b ∧ i / 32 % 4 = s) ∧ ow (i / 32) = nI t) ∧ nI (i % 32) = vc (i / 32) then g (i / 32) else f i
theorem zvC_0 {vc ow : Nat → Int32} {t s : Nat} (hs : s < 4) : zvC vc ow t s s = vc := by
  funext k; unfold zvC; rw [if_neg (fun c => by omega)]
theorem zvA_0 {f vc ow g : Nat → Int32} {t s : Nat} (hs : s < 4) : zvA f vc ow t s s g = f := by
  funext k; unfold zvA; rw [if_neg (fun c => by omega)]
theorem zvC_at {vc ow : Nat → Int32} {t s b : Nat} : zvC vc ow t s b b = vc b := by
  unfold zvC; rw [if_neg (fun c => by omega)]
theorem zvC_t {vc ow : Nat → Int32} {t s b : Nat} (hb : b % 4 = s) (h : ow b = nI t) : upd (zvC vc ow t s b) b (vc b + 1) = zvC vc ow t s (b + 4) := by
  funext k
  unfold upd zvC
  by_cases e : k = b
  · subst e; rw [if_pos rfl, if_pos ⟨by omega, h⟩]
  · rw [if_neg e]
    by_cases z : (k < b ∧ k % 4 = s) ∧ ow k = nI t
    · rw [if_pos z, if_pos ⟨by omega, z.2⟩]
    · rw [if_neg z, if_neg (fun c => z ⟨by omega, c.2⟩)]
theorem zvC_f {vc ow : Nat → Int32} {t s b : Nat} (hb : b % 4 = s) (h : ¬ ow b = nI t) : zvC vc ow t s b = zvC vc ow t s (b + 4) := by
  funext k
  unfold zvC
  by_cases e : k = b
  · subst e; rw [if_neg (fun c => h c.2), if_neg (fun c => h c.2)]
  · by_cases z : (k < b ∧ k % 4 = s) ∧ ow k = nI t
    · rw [if_pos z, if_pos ⟨by omega, z.2⟩]
    · rw [if_neg z, if_neg (fun c => z ⟨by omega, c.2⟩)]
theorem zvA_t {f vc ow g : Nat → Int32} {t s b m : Nat} (hb : b % 4 = s) (h : ow b = nI t) (hv : vc b = nI m) (hm : m < 32) : upd (zvA f vc ow t s b g) (b * 32 + m) (g b) = zvA f vc ow t s (b + 4) g := by
  funext i
  unfold upd zvA
  by_cases e : i = b * 32 + m
  · have e1 : i / 32 = b := by omega
    have e2 : i % 32 = m := by omega
    rw [if_pos e, e1, e2, if_pos ⟨⟨by omega, h⟩, hv.symm⟩]
  · rw [if_neg e]
    by_cases z : ((i / 32 < b ∧ i / 32 % 4 = s) ∧ ow (i / 32) = nI t) ∧ nI (i % 32) = vc (i / 32)
    · rw [if_pos z, if_pos ⟨⟨by omega, z.1.2⟩, z.2⟩]
    · rw [if_neg z, if_neg (fun c => ?_)]
      by_cases e1 : i / 32 = b
      · have c2 := c.2
        rw [e1, hv] at c2
        have := (nI_eq (by omega) (by omega)).mp c2
        omega
      · exact z ⟨⟨by omega, c.1.2⟩, c.2⟩
theorem zvA_f {f vc ow g : Nat → Int32} {t s b : Nat} (hb : b % 4 = s) (h : ¬ ow b = nI t) : zvA f vc ow t s b g = zvA f vc ow t s (b + 4) g := by
  funext i
  unfold zvA
  by_cases e : i / 32 = b
  · rw [e, if_neg (fun c => h c.1.2), if_neg (fun c => h c.1.2)]
  · by_cases z : ((i / 32 < b ∧ i / 32 % 4 = s) ∧ ow (i / 32) = nI t) ∧ nI (i % 32) = vc (i / 32)
    · rw [if_pos z, if_pos ⟨⟨by omega, z.1.2⟩, z.2⟩]
    · rw [if_neg z, if_neg (fun c => z ⟨⟨by omega, c.1.2⟩, c.2⟩)]
section
variable {fe fc fn fb : Int32} {off ear hom st cs ln ps sh ow px vs vv vc lt ls ll : Nat → Int32}
theorem xw_inst1 {post : SX → Prop} {t s b d : Nat} (ht : t < 32) (hb : b < 8) (hbs : b % 4 = s) (hv : ow b = nI t → ∃ m, m < 32 ∧ vc b = nI m)
    (K : wX_installAt_2 post (nI t) d (nI (b + 4)) fe fc fn fb off ear hom st cs ln ps sh ow px (zvA vs vc ow t s (b + 4) (fun _ => cs t)) (zvA vv vc ow t s (b + 4) px) (zvC vc ow t s (b + 4)) lt ls ll) :
    wX_installAt_2 post (nI t) (d + 1) (nI b) fe fc fn fb off ear hom st cs ln ps sh ow px (zvA vs vc ow t s b (fun _ => cs t)) (zvA vv vc ow t s b px) (zvC vc ow t s b) lt ls ll := by
  have c : (nI b).toNatClampNeg = b := nI_clamp (by omega)
  have i : vp_in (nI b) 8 := vp_in_nI hb (by omega)
  by_cases h : ow b = nI t
  · obtain ⟨m, hm, hvm⟩ := hv h
    have e : nI b * 32 + nI m = nI (b * 32 + m) := za_32 b m
    have v : vp_in (nI b * 32 + nI m) 256 := by rw [e]; exact vp_in_nI (by omega) (by omega)
    have cc : (nI b * 32 + nI m).toNatClampNeg = b * 32 + m := by rw [e]; exact nI_clamp (by omega)
    refine br_f (nI_ge (b := 8) hb (by decide)) ⟨i, br_t (by rw [c]; exact h) ⟨vp_in_nI ht (by omega), i, ?_⟩⟩
    refine ⟨i, nm_r (e' := nI m) (by rw [c]; exact zvC_at.trans hvm) (br_f (nI_ge (b := 32) hm (by decide)) ⟨v, nm_r (e' := zvA vs vc ow t s (b + 4) (fun _ => cs t)) ?_ ⟨v, nm_r (e' := zvA vv vc ow t s (b + 4) px) ?_ ⟨i, nm_r (e' := zvC vc ow t s (b + 4)) ?_ (nm_r (za_p4 b) K)⟩⟩⟩)⟩
    · rw [cc, nI_clamp (by omega)]; exact zvA_t (g := fun _ => cs t) hbs h hvm hm
    · rw [cc, c]; exact zvA_t hbs h hvm hm
    · rw [c, ← hvm]; exact zvC_t hbs h
  · refine br_f (nI_ge (b := 8) hb (by decide)) ⟨i, br_f (by rw [c]; exact h) (nm_r (za_p4 b) ?_)⟩
    rw [zvA_f hbs h, zvA_f hbs h, zvC_f hbs h]
    exact K
theorem xw_inst {post : SX → Prop} {t s : Nat} (ht : t < 32) (hs : s < 4) (hv : ∀ k, k < 8 → k % 4 = s → ow k = nI t → ∃ m, m < 32 ∧ vc k = nI m)
    (h : post (fe, fc, fn, fb, off, ear, hom, st, cs, ln, ps, sh, ow, px, zvA vs vc ow t s (s + 4 + 4) (fun _ => cs t), zvA vv vc ow t s (s + 4 + 4) px, zvC vc ow t s (s + 4 + 4), lt, ls, ll)) : wpX_installAt post (fe, fc, fn, fb, off, ear, hom, st, cs, ln, ps, sh, ow, px, vs, vv, vc, lt, ls, ll) (nI t) (nI s) := by
  refine ⟨3, ?_⟩
  have K := xw_inst1 (post := post) (fe := fe) (fc := fc) (fn := fn) (fb := fb) (off := off) (ear := ear) (hom := hom) (st := st) (cs := cs) (ln := ln) (ps := ps) (sh := sh) (ow := ow) (px := px) (vs := vs) (vv := vv) (vc := vc) (lt := lt) (ls := ls) (ll := ll) (t := t) (s := s) (b := s) (d := 2) ht (by omega) (by omega) (hv s (by omega) (by omega)) (xw_inst1 ht (by omega) (by omega) (hv (s + 4) (by omega) (by omega)) (br_t (nI_le (a := 8) (by omega) (by omega)) h))
  rw [zvA_0 hs, zvA_0 hs, zvC_0 hs] at K
  exact K
theorem xw_fin {post : SX → Prop} {t s : Nat} (ht : t < 32) (hs : s < 4) (h : post (fe, fc, fn, fb, off, ear, hom, st, cs, upd ln (t * 4 + s) 9, ps, zrS sh t s, zrO ow t s, zrP px ow t s, vs, vv, vc, lt, ls, ll)) : wpX_finish post (fe, fc, fn, fb, off, ear, hom, st, cs, ln, ps, sh, ow, px, vs, vv, vc, lt, ls, ll) (nI t) (nI s) := by
  unfold wpX_finish
  refine xw_rel hs ?_
  exact ⟨za_i4 ht hs, nm_r (e' := upd ln (t * 4 + s) 9) (by rw [za_c4 ht hs]) h⟩
theorem xw_finP {post : SX → Prop} {t s m q : Nat} (ht : t < 32) (hs : s < 4) (hm : m ≤ 32) (hl : ll s = nI m) (hq : q < m) (hqt : lt (s * 32 + q) = nI t) (hne : ∀ i, i < m → i ≠ q → lt (s * 32 + i) ≠ nI t)
    (h : post (fe, fc, fn, fb, off, ear, hom, st, cs, upd ln (t * 4 + s) 9, ps, zrS sh t s, zrO ow t s, zrP px ow t s, vs, vv, vc, zrm lt (s * 32) q m, zrm ls (s * 32) q m, upd ll s (nI (m - 1)))) : wpX_finishPrepared post (fe, fc, fn, fb, off, ear, hom, st, cs, ln, ps, sh, ow, px, vs, vv, vc, lt, ls, ll) (nI t) (nI s) := by
  unfold wpX_finishPrepared
  refine xw_rm (by omega) hm hl hq hqt hne ?_
  exact xw_fin ht hs h
/-! the value at a time: the search by halves -/
theorem xw_valL {k m : Nat} {ts : Int32} (hk : k < 8) (hm : m ≤ 32) : ∀ d lo hi, lo ≤ hi → hi ≤ m → hi - lo < 2 ^ d → d ≤ 6 →
    (∀ i, i < lo → vs (k * 32 + i) ≤ ts) → (∀ i, hi ≤ i → i < m → ts < vs (k * 32 + i)) → (∀ a b, a < b → b < m → vs (k * 32 + a) < vs (k * 32 + b)) →
    ∃ low, low ≤ m ∧ (∀ i, i < low → vs (k * 32 + i) ≤ ts) ∧ (∀ i, low ≤ i → i < m → ts < vs (k * 32 + i)) ∧
      ∀ post : Int32 → Prop, post (if low = 0 then 0 else vv (k * 32 + (low - 1))) → wX_valueAt_19 post ts (nI (k * 32)) fe fc fn fb off ear hom st cs ln ps sh ow px vs vv vc lt ls ll (d + 1) (nI lo) (nI hi) (nI (6 - d)) := by
  have fin : ∀ low, low ≤ m → ∀ post : Int32 → Prop, post (if low = 0 then 0 else vv (k * 32 + (low - 1))) → wX_valueAt_74 post (nI (k * 32)) (nI low) fe fc fn fb off ear hom st cs ln ps sh ow px vs vv vc lt ls ll := by
    intro low hlow post h
    by_cases z : low = 0
    · subst z; exact br_t rfl h
    · have e : nI (k * 32) + nI low - 1 = nI (k * 32 + (low - 1)) := by
        rw [nI_add, show k * 32 + low = k * 32 + (low - 1) + 1 by omega, nI_pred]
      rw [if_neg z] at h
      exact br_f (nI_ne0 (by omega) (by omega)) ⟨by rw [e]; exact vp_in_nI (by omega) (by omega), by rw [e, nI_clamp (by omega)]; exact h⟩
  intro d
  induction d with
  | zero =>
    intro lo hi h1 h2 h3 _ hl hg _
    obtain rfl : lo = hi := by omega
    exact ⟨lo, h2, hl, hg, fun post h => br_t (by decide) (fin lo h2 post h)⟩
  | succ d ih =>
    intro lo hi h1 h2 h3 h6 hl hg hs
    have g6 : ¬ (6 : Int32) ≤ nI (6 - (d + 1)) := nI_ge (b := 6) (by omega) (by decide)
    by_cases z : hi ≤ lo
    · obtain rfl : lo = hi := by omega
      exact ⟨lo, h2, hl, hg, fun post h => br_f g6 (br_t (nI_le (Nat.le_refl lo) (by omega)) (fin lo h2 post h))⟩
    · have em : ((nI lo + nI hi).toUInt32 >>> ((1 : Int32).toUInt32 &&& Int32.toUInt32 31)).toInt32 = nI ((lo + hi) / 2) := by
        rw [nI_add]; exact pk_ushrN (by omega) 1 1 (by decide)
      have hp : 2 ^ (d + 1) = 2 * 2 ^ d := by rw [Nat.pow_succ, Nat.mul_comm]
      have e6 : nI (6 - (d + 1)) + 1 = nI (6 - d) := by rw [nI_1, show 6 - (d + 1) + 1 = 6 - d by omega]
      have v : vp_in (nI (k * 32) + nI ((lo + hi) / 2)) 256 := by rw [nI_add]; exact vp_in_nI (by omega) (by omega)
      have c : (nI (k * 32) + nI ((lo + hi) / 2)).toNatClampNeg = k * 32 + (lo + hi) / 2 := by rw [nI_add]; exact nI_clamp (by omega)
      by_cases z2 : ts < vs (k * 32 + (lo + hi) / 2)
      · obtain ⟨low, b1, b2, b3, b4⟩ := ih lo ((lo + hi) / 2) (by omega) (by omega) (by omega) (by omega) hl (fun i hi1 hi2 => by
          by_cases e : i = (lo + hi) / 2
          · rw [e]; exact z2
          · have := hs ((lo + hi) / 2) i (by omega) hi2
            rw [zi_lt] at *
            omega) hs
        exact ⟨low, b1, b2, b3, fun post h => br_f g6 (br_f (nI_ge (by omega) (by omega)) (nm_r em ⟨v, br_t (by rw [c]; exact z2) (nm_r e6 (b4 post h))⟩))⟩
      · obtain ⟨low, b1, b2, b3, b4⟩ := ih ((lo + hi) / 2 + 1) hi (by omega) h2 (by omega) (by omega) (fun i hi1 => by
          by_cases e : i = (lo + hi) / 2
          · rw [e]; exact zi_nlt.mp z2
          · have := hs i ((lo + hi) / 2) (by omega) (by omega)
            rw [zi_lt] at *
            rw [zi_le]
            omega) hg hs
        exact ⟨low, b1, b2, b3, fun post h => br_f g6 (br_f (nI_ge (by omega) (by omega)) (nm_r em ⟨v, br_f (by rw [c]; exact z2) (nm_r (nI_1 _) (nm_r e6 (b4 post h)))⟩))⟩
theorem xw_val {n k m : Nat} {ts : Int32} {ma mv : Nat → Int32} (hk : k < 8) (hn : n ≤ 32) (h : zV n cs vs vv vc ma mv k m) :
    ∃ r, zVal n k ts cs ma mv r ∧ ∀ post : Int32 → Prop, post r → wpX_valueAt post (fe, fc, fn, fb, off, ear, hom, st, cs, ln, ps, sh, ow, px, vs, vv, vc, lt, ls, ll) (nI k) ts := by
  have hm := zV_le h
  obtain ⟨low, b1, b2, b3, b4⟩ := xw_valL (fe := fe) (fc := fc) (fn := fn) (fb := fb) (off := off) (ear := ear) (hom := hom) (st := st) (cs := cs) (ln := ln) (ps := ps) (sh := sh) (ow := ow) (px := px) (vs := vs) (vv := vv) (vc := vc) (lt := lt) (ls := ls) (ll := ll) (ts := ts) hk (Nat.le_trans hm hn) 6 0 m (Nat.zero_le m) (Nat.le_refl m) (by omega) (by omega) (fun i hi => absurd hi (Nat.not_lt_zero i)) (fun i h1 h2 => absurd h2 (by omega)) h.2.2.1
  exact ⟨_, zVal_X h b1 b2 b3, fun post hp => nm_r (za_m32 k) ⟨vp_in_nI hk (by omega), nm_r (e' := nI m) (by rw [nI_clamp (by omega)]; exact h.1) ⟨7, b4 post hp⟩⟩⟩
theorem xw_cur {n k m : Nat} {ma mv : Nat → Int32} (hk : k < 8) (hn : n ≤ 32) (h : zV n cs vs vv vc ma mv k m) :
    ∃ r, zVal n k 2147483647 cs ma mv r ∧ ∀ post : Int32 → Prop, post r → wpX_currentValue post (fe, fc, fn, fb, off, ear, hom, st, cs, ln, ps, sh, ow, px, vs, vv, vc, lt, ls, ll) (nI k) := by
  have hm := zV_le h
  have top : ∀ x : Int32, x ≤ 2147483647 := by
    intro x
    rw [zi_le, show (2147483647 : Int32).toInt = 2147483647 by decide]
    have := x.toInt_lt
    omega
  refine ⟨_, zVal_X h (Nat.le_refl m) (fun i _ => top _) (fun i h1 h2 => absurd h2 (by omega)), fun post hp => ?_⟩
  refine ⟨vp_in_nI hk (by omega), nm_r (e' := nI m) (by rw [nI_clamp (by omega)]; exact h.1) ?_⟩
  by_cases z : m = 0
  · subst z; exact br_t rfl hp
  · have e : nI k * 32 + nI m - 1 = nI (k * 32 + (m - 1)) := by
      rw [za_32, show k * 32 + m = k * 32 + (m - 1) + 1 by omega, nI_pred]
    rw [if_neg z] at hp
    exact br_f (nI_ne0 (by omega) (by omega)) ⟨by rw [e]; exact vp_in_nI (by omega) (by omega), by rw [e, nI_clamp (by omega)]; exact hp⟩
end
/-! ===== the safe time ===== -/
def zSf (n s : Nat) (ear ln ps : Nat → Int32) (r : Int32) : Prop :=
  r ≤ ear s ∧ (∀ t, t < n → zPr (ln (t * 4 + s)) → r ≤ ps (t * 4 + s) - 1) ∧ (r = ear s ∨ ∃ t, t < n ∧ zPr (ln (t * 4 + s)) ∧ r = ps (t * 4 + s) - 1)
theorem zSf_u {n s : Nat} {ear ln ps : Nat → Int32} {r r' : Int32} (h : zSf n s ear ln ps r) (h' : zSf n s ear ln ps r') : r' = r := by
  obtain ⟨a1, a2, a3⟩ := h
  obtain ⟨b1, b2, b3⟩ := h'
  apply Int32.le_antisymm
  · rcases a3 with e | ⟨t, ht, hp, e⟩
    · rw [e]; exact b1
    · rw [e]; exact b2 t ht hp
  · rcases b3 with e | ⟨t, ht, hp, e⟩
    · rw [e]; exact a1
    · rw [e]; exact a2 t ht hp
theorem zi_pred {a b : Int32} (ha : 0 ≤ a.toInt) (h : a ≤ b) : a - 1 ≤ b - 1 := by
  rw [zi_le] at h
  have h1 : (1 : Int32).toInt = 1 := by decide
  have := b.toInt_lt
  rw [zi_le, Jvm.Kit.i32_sub (by rw [h1]; omega) (by rw [h1]; omega), Jvm.Kit.i32_sub (by rw [h1]; omega) (by rw [h1]; omega), h1]
  omega
section
variable {fe fc fn fb : Int32} {off ear hom st cs ln ps sh ow px vs vv vc lt ls ll : Nat → Int32}
theorem xw_safe {n s m : Nat} (hs : s < 4) (hn : n ≤ 32) (h : zL n lt ls ll (fun t => ps (t * 4 + s)) (fun t => zPr (ln (t * 4 + s))) s m)
    (hp : ∀ t, zPr (ln (t * 4 + s)) → 0 ≤ (ps (t * 4 + s)).toInt) :
    ∃ r, zSf n s ear ln ps r ∧ ∀ post : Int32 → Prop, post r → wpX_safe post (fe, fc, fn, fb, off, ear, hom, st, cs, ln, ps, sh, ow, px, vs, vv, vc, lt, ls, ll) (nI s) := by
  have hm := zL_le hn h
  obtain ⟨a1, a2, a3, a4⟩ := h
  have c : (nI s).toNatClampNeg = s := nI_clamp (by omega)
  have v4 : vp_in (nI s) 4 := vp_in_nI hs (by omega)
  have v8 : vp_in (nI s) 8 := vp_in_nI (by omega) (by omega)
  by_cases z : m = 0
  · subst z
    refine ⟨ear s, ⟨Int32.le_refl _, fun t ht hpt => ?_, Or.inl rfl⟩, fun post h => ⟨v4, nm_r (e' := ear s) (by rw [c]) ⟨v8, br_t (by rw [c, a1]; decide) h⟩⟩⟩
    obtain ⟨i, hi, _⟩ := a4 t ht hpt
    exact absurd hi (Nat.not_lt_zero i)
  · have e32 : nI s * 32 = nI (s * 32) := za_m32 s
    have v : vp_in (nI s * 32) 256 := by rw [e32]; exact vp_in_nI (by omega) (by omega)
    have cc : (nI s * 32).toNatClampNeg = s * 32 := by rw [e32]; exact nI_clamp (by omega)
    have g : ¬ ll (nI s).toNatClampNeg ≤ 0 := by rw [c, a1]; exact nI_nle (by omega) (by omega)
    obtain ⟨t0, ht0, hp0, e1, e2⟩ := a2 0 (by omega)
    have e2' : ls (s * 32) = ps (t0 * 4 + s) := e2
    have hmin : ∀ t, t < n → zPr (ln (t * 4 + s)) → ls (s * 32) - 1 ≤ ps (t * 4 + s) - 1 := by
      intro t ht hpt
      obtain ⟨i, hi, e3⟩ := a4 t ht hpt
      obtain ⟨t', ht', _, e4, e5⟩ := a2 i hi
      have : t' = t := (nI_eq (by omega) (by omega)).mp (e4.symm.trans e3)
      subst this
      have e5' : ls (s * 32 + i) = ps (t' * 4 + s) := e5
      refine zi_pred (by rw [e2']; exact hp t0 hp0) ?_
      rw [← e5']
      by_cases zi : i = 0
      · subst zi; exact Int32.le_refl _
      · exact (a3 0 i (by omega) hi).2
    by_cases z2 : ear s ≤ ls (s * 32) - 1
    · exact ⟨ear s, ⟨Int32.le_refl _, fun t ht hpt => Int32.le_trans z2 (hmin t ht hpt), Or.inl rfl⟩, fun post h => ⟨v4, nm_r (e' := ear s) (by rw [c]) ⟨v8, br_f g ⟨v, br_t (by rw [cc]; exact z2) h⟩⟩⟩⟩
    · exact ⟨ls (s * 32) - 1, ⟨Int32.le_of_lt (zi_nle.mp z2), hmin, Or.inr ⟨t0, ht0, hp0, by rw [e2']⟩⟩, fun post h => ⟨v4, nm_r (e' := ear s) (by rw [c]) ⟨v8, br_f g ⟨v, br_f (by rw [cc]; exact z2) ⟨v, nm_r (e' := ls (s * 32) - 1) (by rw [cc]) h⟩⟩⟩⟩⟩
end
end
section
/-! ===== the wait rule ===== -/
theorem zkS_cg {D D' : Nat → Prop} {st : Nat → Int32} (h : ∀ t, D t ↔ D' t) : zkS D st = zkS D' st := by
  have : D = D' := funext fun t => propext (h t)
  rw [this]
theorem zkL_cg {D D' : Nat → Prop} {ln : Nat → Int32} (h : ∀ t, D t ↔ D' t) : zkL D ln = zkL D' ln := by
  have : D = D' := funext fun t => propext (h t)
  rw [this]
theorem zkS_0 {D : Nat → Prop} {st : Nat → Int32} (h : ∀ t, ¬ D t) : zkS D st = st := funext fun t => zif_f (h t)
theorem zkL_0 {D : Nat → Prop} {ln : Nat → Int32} (h : ∀ t, ¬ D t) : zkL D ln = ln := funext fun i => zif_f (fun c => h _ c.1)
theorem zkS_add {D D' : Nat → Prop} {st : Nat → Int32} {t : Nat} (h : ∀ u, D' u ↔ (D u ∨ u = t)) : upd (zkS D st) t 3 = zkS D' st := by
  funext u
  unfold upd zkS
  by_cases e : u = t
  · rw [if_pos e, zif_t ((h u).mpr (Or.inr e))]
  · rw [if_neg e]
    by_cases z : D u
    · rw [zif_t z, zif_t ((h u).mpr (Or.inl z))]
    · rw [zif_f z, zif_f (fun c => by rcases (h u).mp c with c | c; exact z c; exact e c)]
theorem zkL_add {D D' : Nat → Prop} {ln : Nat → Int32} {t : Nat} (h : ∀ u, D' u ↔ (D u ∨ u = t)) : zc (zkL D ln) t 4 5 = zkL D' ln := by
  funext j
  obtain ⟨u, s, hs, rfl⟩ : ∃ u s, s < 4 ∧ j = u * 4 + s := ⟨j / 4, j % 4, by omega, by omega⟩
  by_cases e : u = t
  · subst e
    rw [zc_y hs, zkL_y (D := D') hs ((h u).mpr (Or.inr rfl))]
    by_cases z : D u
    · rw [zkL_y hs z]
      by_cases z4 : ln (u * 4 + s) = 4
      · rw [if_pos z4, if_neg (by decide)]
      · rw [if_neg z4, if_neg z4]
    · rw [zkL_n hs z]
  · rw [zc_n hs e]
    by_cases z : D u
    · rw [zkL_y hs z, zkL_y hs ((h u).mpr (Or.inl z))]
    · rw [zkL_n hs z, zkL_n hs (fun c => by rcases (h u).mp c with c | c; exact z c; exact e c)]
theorem zkS_comp {D D' D'' : Nat → Prop} {st : Nat → Int32} (h : ∀ u, D'' u ↔ (D u ∨ D' u)) : zkS D' (zkS D st) = zkS D'' st := by
  funext u
  unfold zkS
  by_cases z' : D' u
  · rw [zif_t z', zif_t ((h u).mpr (Or.inr z'))]
  · rw [zif_f z']
    by_cases z : D u
    · rw [zif_t z, zif_t ((h u).mpr (Or.inl z))]
    · rw [zif_f z, zif_f (fun c => by rcases (h u).mp c with c | c; exact z c; exact z' c)]
theorem zkL_comp {D D' D'' : Nat → Prop} {ln : Nat → Int32} (h : ∀ u, D'' u ↔ (D u ∨ D' u)) : zkL D' (zkL D ln) = zkL D'' ln := by
  funext j
  obtain ⟨u, s, hs, rfl⟩ : ∃ u s, s < 4 ∧ j = u * 4 + s := ⟨j / 4, j % 4, by omega, by omega⟩
  by_cases z' : D' u
  · rw [zkL_y hs z', zkL_y (D := D'') hs ((h u).mpr (Or.inr z'))]
    by_cases z : D u
    · rw [zkL_y hs z]
      by_cases z4 : ln (u * 4 + s) = 4
      · rw [if_pos z4, if_neg (by decide)]
      · rw [if_neg z4, if_neg z4]
    · rw [zkL_n hs z]
  · rw [zkL_n hs z']
    by_cases z : D u
    · rw [zkL_y hs z, zkL_y hs ((h u).mpr (Or.inl z))]
    · rw [zkL_n hs z, zkL_n hs (fun c => by rcases (h u).mp c with c | c; exact z c; exact z' c)]
def zDi (n : Nat) (lt : Nat → Int32) (B i : Nat) (u : Nat) : Prop := u < n ∧ ∃ i', i' < i ∧ lt (B + i') = nI u
theorem zDi_s {n B i t : Nat} {lt : Nat → Int32} (hn : n ≤ 32) (ht : t < n) (h : lt (B + i) = nI t) (u : Nat) : zDi n lt B (i + 1) u ↔ (zDi n lt B i u ∨ u = t) := by
  constructor
  · rintro ⟨h1, i', h2, h3⟩
    by_cases e : i' = i
    · subst e
      exact Or.inr ((nI_eq (by omega) (by omega)).mp (h3.symm.trans h))
    · exact Or.inl ⟨h1, i', by omega, h3⟩
  · rintro (⟨h1, i', h2, h3⟩ | rfl)
    · exact ⟨h1, i', by omega, h3⟩
    · exact ⟨ht, i, by omega, h⟩
/-- those at homes below h whose wait is over -/
def zDD (n : Nat) (st cs hom ear : Nat → Int32) (h : Nat) (t : Nat) : Prop := t < n ∧ st t = 2 ∧ ∃ h', h' < h ∧ hom t = nI h' ∧ cs t < ear h'
def zDh (n : Nat) (st cs hom ear : Nat → Int32) (h : Nat) (t : Nat) : Prop := t < n ∧ st t = 2 ∧ hom t = nI h ∧ cs t < ear h
theorem zDD_s {n h : Nat} {st cs hom ear : Nat → Int32} (u : Nat) : zDD n st cs hom ear (h + 1) u ↔ (zDD n st cs hom ear h u ∨ zDh n (zkS (zDD n st cs hom ear h) st) cs hom ear h u) := by
  constructor
  · rintro ⟨h1, h2, h', h3, h4, h5⟩
    by_cases z : zDD n st cs hom ear h u
    · exact Or.inl z
    · right
      have e : h' = h := by
        rcases Nat.lt_or_ge h' h with c | c
        · exact absurd ⟨h1, h2, h', c, h4, h5⟩ z
        · omega
      subst e
      exact ⟨h1, by unfold zkS; rw [zif_f z]; exact h2, h4, h5⟩
  · rintro (⟨h1, h2, h', h3, h4, h5⟩ | ⟨h1, h2, h3, h4⟩)
    · exact ⟨h1, h2, h', by omega, h4, h5⟩
    · by_cases z : zDD n st cs hom ear h u
      · obtain ⟨h1, h2, h', h3, h4, h5⟩ := z
        exact ⟨h1, h2, h', by omega, h4, h5⟩
      · unfold zkS at h2
        rw [zif_f z] at h2
        exact ⟨h1, h2, h, by omega, h3, h4⟩
section
variable {E C N n : Nat} {off ear hom st cs ln ps sh ow px vs vv vc lt ls ll lo py ma mv : Nat → Int32}
theorem xw_ewL {post : SX → Prop} {h m : Nat} (hn : n ≤ 32) (h4 : h < 4) (hm : zL n lt ls ll cs (fun t => st t = 2 ∧ hom t = nI h) (4 + h) m)
    (K : ∀ c, c ≤ m → (∀ i, i < c → ls ((4 + h) * 32 + i) < ear h) → (∀ i, c ≤ i → i < m → ¬ ls ((4 + h) * 32 + i) < ear h) →
      post (nI E, nI C, nI N, nI n, off, ear, hom, zkS (zDi n lt ((4 + h) * 32) c) st, cs, zkL (zDi n lt ((4 + h) * 32) c) ln, ps, sh, ow, px, vs, vv, vc, zdr lt ((4 + h) * 32) c m, zdr ls ((4 + h) * 32) c m, upd ll (4 + h) (nI (m - c)))) :
    ∀ d i, i + d = m → (∀ i', i' < i → ls ((4 + h) * 32 + i') < ear h) →
      wX_endWaits_23 post (nI h) (nI (4 + h)) (nI ((4 + h) * 32)) (nI m) (d + 1) (nI i) (nI i) (nI E) (nI C) (nI N) (nI n) off ear hom (zkS (zDi n lt ((4 + h) * 32) i) st) cs (zkL (zDi n lt ((4 + h) * 32) i) ln) ps sh ow px vs vv vc lt ls ll := by
  have hm32 := zL_le hn hm
  intro d
  induction d with
  | zero =>
    intro i hi hlow
    obtain rfl : i = m := by omega
    refine br_t (nI_le (Nat.le_refl i) (by omega)) ?_
    unfold wX_endWaits_84
    exact xw_dr (by omega) (by omega) (Nat.le_refl i) hm.1 (K i (Nat.le_refl i) hlow (fun i' h1 h2 => absurd h2 (by omega)))
  | succ d ih =>
    intro i hi hlow
    have v : vp_in (nI ((4 + h) * 32) + nI i) 256 := by rw [nI_add]; exact vp_in_nI (by omega) (by omega)
    have c : (nI ((4 + h) * 32) + nI i).toNatClampNeg = (4 + h) * 32 + i := by rw [nI_add]; exact nI_clamp (by omega)
    have vh : vp_in (nI h) 4 := vp_in_nI h4 (by omega)
    have ch : (nI h).toNatClampNeg = h := nI_clamp (by omega)
    refine br_f (nI_ge (by omega) (by omega)) ⟨v, vh, ?_⟩
    by_cases z : ear h ≤ ls ((4 + h) * 32 + i)
    · refine br_t (by rw [c, ch]; exact z) ?_
      unfold wX_endWaits_84
      refine xw_dr (by omega) (by omega) (by omega) hm.1 (K i (by omega) hlow (fun i' h1 h2 => ?_))
      rw [zi_nlt]
      by_cases e : i' = i
      · rw [e]; exact z
      · exact Int32.le_trans z (hm.2.2.1 i i' (by omega) h2).2
    · obtain ⟨t, ht, _, e1, _⟩ := hm.2.1 i (by omega)
      have eS := zkS_add (st := st) (zDi_s (i := i) hn ht e1)
      have eL := zkL_add (ln := ln) (zDi_s (i := i) hn ht e1)
      refine br_f (by rw [c, ch]; exact z) ⟨v, nm_r (e' := nI t) (by rw [c]; exact e1) ⟨vp_in_nI (by omega) (by omega), nm_r (e' := zkS (zDi n lt ((4 + h) * 32) (i + 1)) st) (by rw [nI_clamp (by omega)]; exact eS) ?_⟩⟩
      refine xw_chg (by omega) ?_
      refine nm_r (nI_1 i) (nm_r (nI_1 i) ?_)
      rw [eL]
      refine ih (i + 1) (by omega) (fun i' hi' => ?_)
      by_cases e : i' = i
      · rw [e]; exact zi_nle.mp z
      · exact hlow i' (by omega)
theorem xw_ew {post : SX → Prop} {h : Nat} (H : zInv E C N n off ear hom st cs ln ps sh ow px vs vv vc lt ls ll lo py ma mv) (h4 : h < 4)
    (K : ∀ lt' ls' ll', zInv E C N n off ear hom (zkS (zDh n st cs hom ear h) st) cs (zkL (zDh n st cs hom ear h) ln) ps sh ow px vs vv vc lt' ls' ll' lo py ma mv → post (nI E, nI C, nI N, nI n, off, ear, hom, zkS (zDh n st cs hom ear h) st, cs, zkL (zDh n st cs hom ear h) ln, ps, sh, ow, px, vs, vv, vc, lt', ls', ll')) :
    wpX_endWaits post (nI E, nI C, nI N, nI n, off, ear, hom, st, cs, ln, ps, sh, ow, px, vs, vv, vc, lt, ls, ll) (nI h) := by
  have hn := zA_32 H.1
  obtain ⟨m, hm⟩ := H.2.2.2.2.2.2.1 h h4
  have hm32 := zL_le hn hm
  have e : (4 : Int32) + nI h = nI (4 + h) := nI_add 4 h
  refine nm_r e (nm_r (za_m32 (4 + h)) ⟨vp_in_nI (by omega) (by omega), nm_r (e' := nI m) (by rw [nI_clamp (by omega)]; exact hm.1) ⟨m + 1, ?_⟩⟩)
  have R := xw_ewL (post := post) (E := E) (C := C) (N := N) (off := off) (ear := ear) (ln := ln) (ps := ps) (sh := sh) (ow := ow) (px := px) (vs := vs) (vv := vv) (vc := vc) hn h4 hm (fun c hc h1 h2 => by
    have eD : ∀ t, zDi n lt ((4 + h) * 32) c t ↔ zDh n st cs hom ear h t := by
      intro t
      constructor
      · rintro ⟨ht, i, hi, e1⟩
        obtain ⟨t', ht', pt, e2, e3⟩ := hm.2.1 i (by omega)
        have : t' = t := (nI_eq (by omega) (by omega)).mp (e2.symm.trans e1)
        subst this
        have h5 := h1 i hi
        rw [e3] at h5
        exact ⟨ht, pt.1, pt.2, h5⟩
      · rintro ⟨ht, p1, p2, p3⟩
        obtain ⟨i, hi, e1⟩ := hm.2.2.2 t ht ⟨p1, p2⟩
        refine ⟨ht, i, ?_, e1⟩
        rcases Nat.lt_or_ge i c with z | z
        · exact z
        · exfalso
          obtain ⟨t', ht', pt, e2, e3⟩ := hm.2.1 i hi
          have : t' = t := (nI_eq (by omega) (by omega)).mp (e2.symm.trans e1)
          subst this
          have h5 := h2 i z hi
          rw [e3] at h5
          exact h5 p3
    rw [zkS_cg eD, zkL_cg eD]
    exact K _ _ _ (zq_tick (D := zDh n st cs hom ear h) H h4 (fun t => Iff.rfl) hm hc h1 h2)) m 0 (by omega) (fun i hi => absurd hi (Nat.not_lt_zero i))
  rw [zkS_0 (fun t c => by obtain ⟨_, i, hi, _⟩ := c; exact absurd hi (Nat.not_lt_zero i)), zkL_0 (fun t c => by obtain ⟨_, i, hi, _⟩ := c; exact absurd hi (Nat.not_lt_zero i))] at R
  exact R
theorem xw_awrL {post : SX → Prop}
    (K : ∀ lt' ls' ll', zInv E C N n off ear hom (zkS (zDD n st cs hom ear 4) st) cs (zkL (zDD n st cs hom ear 4) ln) ps sh ow px vs vv vc lt' ls' ll' lo py ma mv → post (nI E, nI C, nI N, nI n, off, ear, hom, zkS (zDD n st cs hom ear 4) st, cs, zkL (zDD n st cs hom ear 4) ln, ps, sh, ow, px, vs, vv, vc, lt', ls', ll')) :
    ∀ d h, h + d = 4 → ∀ lt ls ll, zInv E C N n off ear hom (zkS (zDD n st cs hom ear h) st) cs (zkL (zDD n st cs hom ear h) ln) ps sh ow px vs vv vc lt ls ll lo py ma mv → wX_applyWaitRule_2 post (d + 1) (nI h) (nI E) (nI C) (nI N) (nI n) off ear hom (zkS (zDD n st cs hom ear h) st) cs (zkL (zDD n st cs hom ear h) ln) ps sh ow px vs vv vc lt ls ll := by
  intro d
  induction d with
  | zero =>
    intro h hh lt ls ll H
    obtain rfl : h = 4 := by omega
    exact br_t (by decide) (K lt ls ll H)
  | succ d ih =>
    intro h hh lt ls ll H
    refine br_f (nI_ge (b := 4) (by omega) (by decide)) ?_
    refine xw_ew H (by omega) (fun lt' ls' ll' H' => ?_)
    rw [zkS_comp zDD_s, zkL_comp zDD_s] at H' ⊢
    exact nm_r (nI_1 h) (ih (h + 1) (by omega) lt' ls' ll' H')
theorem xw_awr {post : SX → Prop} (H : zInv E C N n off ear hom st cs ln ps sh ow px vs vv vc lt ls ll lo py ma mv)
    (K : ∀ lt' ls' ll', zInv E C N n off ear hom (zkS (zDD n st cs hom ear 4) st) cs (zkL (zDD n st cs hom ear 4) ln) ps sh ow px vs vv vc lt' ls' ll' lo py ma mv → post (nI E, nI C, nI N, nI n, off, ear, hom, zkS (zDD n st cs hom ear 4) st, cs, zkL (zDD n st cs hom ear 4) ln, ps, sh, ow, px, vs, vv, vc, lt', ls', ll')) :
    wpX_applyWaitRule post (nI E, nI C, nI N, nI n, off, ear, hom, st, cs, ln, ps, sh, ow, px, vs, vv, vc, lt, ls, ll) := by
  have e0 : ∀ t, ¬ zDD n st cs hom ear 0 t := by
    rintro t ⟨_, _, h', h3, _⟩
    exact absurd h3 (Nat.not_lt_zero h')
  have R := xw_awrL K 4 0 rfl lt ls ll (by rw [zkS_0 e0, zkL_0 e0]; exact H)
  rw [zkS_0 e0, zkL_0 e0] at R
  exact ⟨5, R⟩
end
/-! ===== the clocks ===== -/
def zerI (fn fe : Int32) (off ear : Nat → Int32) (i : Nat) : Nat → Int32 := fun s => if s < i ∧ ¬ fn + off s - fe ≤ ear s then fn + off s - fe else ear s
theorem zer_0 {fn fe : Int32} {off ear : Nat → Int32} : zerI fn fe off ear 0 = ear := by
  funext s; unfold zerI; rw [if_neg (fun c => absurd c.1 (Nat.not_lt_zero s))]
theorem zer_at {fn fe : Int32} {off ear : Nat → Int32} {i : Nat} : zerI fn fe off ear i i = ear i := by
  unfold zerI; rw [if_neg (fun c => absurd c.1 (Nat.lt_irrefl i))]
theorem zer_t {fn fe : Int32} {off ear : Nat → Int32} {i : Nat} (h : ¬ fn + off i - fe ≤ ear i) : upd (zerI fn fe off ear i) i (fn + off i - fe) = zerI fn fe off ear (i + 1) := by
  funext s
  unfold upd zerI
  by_cases e : s = i
  · subst e; rw [if_pos rfl, if_pos ⟨by omega, h⟩]
  · rw [if_neg e]
    by_cases z : s < i ∧ ¬ fn + off s - fe ≤ ear s
    · rw [if_pos z, if_pos ⟨by omega, z.2⟩]
    · rw [if_neg z, if_neg (fun c => z ⟨by omega, c.2⟩)]
theorem zer_f {fn fe : Int32} {off ear : Nat → Int32} {i : Nat} (h : fn + off i - fe ≤ ear i) : zerI fn fe off ear i = zerI fn fe off ear (i + 1) := by
  funext s
  unfold zerI
  by_cases z : s < i ∧ ¬ fn + off s - fe ≤ ear s
  · rw [if_pos z, if_pos ⟨by omega, z.2⟩]
  · rw [if_neg z, if_neg (fun c => ?_)]
    by_cases e : s = i
    · subst e; exact c.2 h
    · exact z ⟨by omega, c.2⟩
section
variable {fe fc fn fb : Int32} {off ear hom st cs ln ps sh ow px vs vv vc lt ls ll : Nat → Int32}
theorem xw_refT {post : SX → Prop} {s : Nat} (hs : s < 4) (h : fn + off s - fe ≤ ear s) (hp : post (fe, fc, fn, fb, off, ear, hom, st, cs, ln, ps, sh, ow, px, vs, vv, vc, lt, ls, ll)) : wpX_refreshEarliest post (fe, fc, fn, fb, off, ear, hom, st, cs, ln, ps, sh, ow, px, vs, vv, vc, lt, ls, ll) (nI s) := by
  have c : (nI s).toNatClampNeg = s := nI_clamp (by omega)
  have v : vp_in (nI s) 4 := vp_in_nI hs (by omega)
  exact ⟨v, nm_r (e' := fn + off s - fe) (by rw [c]) ⟨v, br_t (by rw [c]; exact h) hp⟩⟩
theorem xw_refF {post : SX → Prop} {s : Nat} (hs : s < 4) (h : ¬ fn + off s - fe ≤ ear s) (hp : post (fe, fc, fn, fb, off, upd ear s (fn + off s - fe), hom, st, cs, ln, ps, sh, ow, px, vs, vv, vc, lt, ls, ll)) : wpX_refreshEarliest post (fe, fc, fn, fb, off, ear, hom, st, cs, ln, ps, sh, ow, px, vs, vv, vc, lt, ls, ll) (nI s) := by
  have c : (nI s).toNatClampNeg = s := nI_clamp (by omega)
  have v : vp_in (nI s) 4 := vp_in_nI hs (by omega)
  exact ⟨v, nm_r (e' := fn + off s - fe) (by rw [c]) ⟨v, br_f (by rw [c]; exact h) ⟨v, nm_r (e' := upd ear s (fn + off s - fe)) (by rw [c]) hp⟩⟩⟩
end
section
variable {E C N n : Nat} {off ear hom st cs ln ps sh ow px vs vv vc lt ls ll lo py ma mv : Nat → Int32}
theorem xw_advL {post : Int32 → SX → Prop} (H : zInv E C N n off (zerI (nI N) (nI E) off ear 4) hom st cs ln ps sh ow px vs vv vc lt ls ll lo py ma mv)
    (K : ∀ lt' ls' ll', zInv E C N n off (zerI (nI N) (nI E) off ear 4) hom (zkS (zDD n st cs hom (zerI (nI N) (nI E) off ear 4) 4) st) cs (zkL (zDD n st cs hom (zerI (nI N) (nI E) off ear 4) 4) ln) ps sh ow px vs vv vc lt' ls' ll' lo py ma mv → post (nI N) (nI E, nI C, nI N, nI n, off, zerI (nI N) (nI E) off ear 4, hom, zkS (zDD n st cs hom (zerI (nI N) (nI E) off ear 4) 4) st, cs, zkL (zDD n st cs hom (zerI (nI N) (nI E) off ear 4) 4) ln, ps, sh, ow, px, vs, vv, vc, lt', ls', ll')) :
    ∀ d i, i + d = 4 → wX_advance_40 post (d + 1) (nI i) (nI E) (nI C) (nI N) (nI n) off (zerI (nI N) (nI E) off ear i) hom st cs ln ps sh ow px vs vv vc lt ls ll := by
  intro d
  induction d with
  | zero =>
    intro i hi
    obtain rfl : i = 4 := by omega
    refine br_t (by decide) ?_
    exact xw_awr H K
  | succ d ih =>
    intro i hi
    refine br_f (nI_ge (b := 4) (by omega) (by decide)) ?_
    by_cases z : nI N + off i - nI E ≤ ear i
    · refine xw_refT (by omega) (by rw [zer_at]; exact z) ?_
      rw [zer_f z]
      exact nm_r (nI_1 i) (ih (i + 1) (by omega))
    · refine xw_refF (by omega) (by rw [zer_at]; exact z) ?_
      rw [zer_t z]
      exact nm_r (nI_1 i) (ih (i + 1) (by omega))
end
end
section
/-! ===== Y: the small methods ===== -/
def zrLB (lo : Nat → Int32) (t s b : Nat) : Nat → Int32 := fun i => if i / 8 = t ∧ i % 8 < b ∧ i % 4 = s then 0 else lo i
theorem zrLB_0 {lo : Nat → Int32} {t s : Nat} (hs : s < 4) : zrLB lo t s s = lo := by
  funext i; unfold zrLB; rw [if_neg (by omega)]
theorem zrLB_8 {lo : Nat → Int32} {t s : Nat} (hs : s < 4) : zrLB lo t s (s + 4 + 4) = zrL lo t s := by
  funext i
  unfold zrLB zrL
  by_cases z : i / 8 = t ∧ i % 4 = s
  · rw [if_pos z, if_pos (by omega)]
  · rw [if_neg z, if_neg (by omega)]
theorem zrLB_s {lo : Nat → Int32} {t s b : Nat} (hb : b < 8) (hbs : b % 4 = s) : upd (zrLB lo t s b) (t * 8 + b) 0 = zrLB lo t s (b + 4) := by
  funext i
  unfold upd zrLB
  by_cases e : i = t * 8 + b
  · rw [if_pos e, if_pos (by omega)]
  · rw [if_neg e]
    by_cases z : i / 8 = t ∧ i % 8 < b ∧ i % 4 = s
    · rw [if_pos z, if_pos (by omega)]
    · rw [if_neg z, if_neg (by omega)]
def zmA (ma lo : Nat → Int32) (t s b : Nat) : Nat → Int32 := fun i => if (i / 8 = t ∧ i % 8 < b ∧ i % 4 = s) ∧ lo i = 2 then 1 else ma i
def zmV (mv py lo : Nat → Int32) (t s b : Nat) : Nat → Int32 := fun i => if (i / 8 = t ∧ i % 8 < b ∧ i % 4 = s) ∧ lo i = 2 then py i else mv i
theorem zmA_0 {ma lo : Nat → Int32} {t s : Nat} (hs : s < 4) : zmA ma lo t s s = ma := by
  funext i; unfold zmA; rw [if_neg (fun c => by omega)]
theorem zmV_0 {mv py lo : Nat → Int32} {t s : Nat} (hs : s < 4) : zmV mv py lo t s s = mv := by
  funext i; unfold zmV; rw [if_neg (fun c => by omega)]
theorem zmA_t {ma lo : Nat → Int32} {t s b : Nat} (hb : b < 8) (hbs : b % 4 = s) (h : lo (t * 8 + b) = 2) : upd (zmA ma lo t s b) (t * 8 + b) 1 = zmA ma lo t s (b + 4) := by
  funext i
  unfold upd zmA
  by_cases e : i = t * 8 + b
  · subst e; rw [if_pos rfl, if_pos ⟨by omega, h⟩]
  · rw [if_neg e]
    by_cases z : (i / 8 = t ∧ i % 8 < b ∧ i % 4 = s) ∧ lo i = 2
    · rw [if_pos z, if_pos ⟨by omega, z.2⟩]
    · rw [if_neg z, if_neg (fun c => z ⟨by omega, c.2⟩)]
theorem zmV_t {mv py lo : Nat → Int32} {t s b : Nat} (hb : b < 8) (hbs : b % 4 = s) (h : lo (t * 8 + b) = 2) : upd (zmV mv py lo t s b) (t * 8 + b) (py (t * 8 + b)) = zmV mv py lo t s (b + 4) := by
  funext i
  unfold upd zmV
  by_cases e : i = t * 8 + b
  · subst e; rw [if_pos rfl, if_pos ⟨by omega, h⟩]
  · rw [if_neg e]
    by_cases z : (i / 8 = t ∧ i % 8 < b ∧ i % 4 = s) ∧ lo i = 2
    · rw [if_pos z, if_pos ⟨by omega, z.2⟩]
    · rw [if_neg z, if_neg (fun c => z ⟨by omega, c.2⟩)]
theorem zmA_f {ma lo : Nat → Int32} {t s b : Nat} (hb : b < 8) (hbs : b % 4 = s) (h : ¬ lo (t * 8 + b) = 2) : zmA ma lo t s b = zmA ma lo t s (b + 4) := by
  funext i
  unfold zmA
  by_cases e : i = t * 8 + b
  · subst e; rw [if_neg (fun c => h c.2), if_neg (fun c => h c.2)]
  · by_cases z : (i / 8 = t ∧ i % 8 < b ∧ i % 4 = s) ∧ lo i = 2
    · rw [if_pos z, if_pos ⟨by omega, z.2⟩]
    · rw [if_neg z, if_neg (fun c => z ⟨by omega, c.2⟩)]
theorem zmV_f {mv py lo : Nat → Int32} {t s b : Nat} (hb : b < 8) (hbs : b % 4 = s) (h : ¬ lo (t * 8 + b) = 2) : zmV mv py lo t s b = zmV mv py lo t s (b + 4) := by
  funext i
  unfold zmV
  by_cases e : i = t * 8 + b
  · subst e; rw [if_neg (fun c => h c.2), if_neg (fun c => h c.2)]
  · by_cases z : (i / 8 = t ∧ i % 8 < b ∧ i % 4 = s) ∧ lo i = 2
    · rw [if_pos z, if_pos ⟨by omega, z.2⟩]
    · rw [if_neg z, if_neg (fun c => z ⟨by omega, c.2⟩)]
section
variable {fe fc fn fb : Int32} {off ear hom st cs ln ps lo py ma mv : Nat → Int32}
theorem yw_tx {post : Int32 → Prop} {t n : Nat} (hn : n ≤ 32) (ht : t < n) (h : post 0) : wpY_noTx post (fe, fc, fn, nI n, off, ear, hom, st, cs, ln, ps, lo, py, ma, mv) (nI t) :=
  br_f (nI_pos (by omega)) (br_t (nI_lt ht (by omega)) h)
theorem yw_txB {post : Int32 → Prop} {v : Int32} {n : Nat} (hv : v < 0 ∨ nI n ≤ v) (h : post 1) : wpY_noTx post (fe, fc, fn, nI n, off, ear, hom, st, cs, ln, ps, lo, py, ma, mv) v := by
  rcases hv with hv | hv
  · exact br_t hv h
  · exact br_c (fun _ => h) (fun _ => br_f (zi_nlt.mpr hv) h)
theorem yw_prepY {post : Int32 → Prop} {t s : Nat} (ht : t < 32) (hs : s < 4) (hc : zPr (ln (t * 4 + s))) (h : post 1) : wpY_prepared post (fe, fc, fn, fb, off, ear, hom, st, cs, ln, ps, lo, py, ma, mv) (nI t) (nI s) :=
  ⟨za_i4 ht hs, nm_r (congrArg ln (za_c4 ht hs)) (br_c (fun _ => h) fun h3 => br_c (fun _ => h) fun h4 => br_c (fun _ => h) fun h5 => br_c (fun _ => h) fun h7 => absurd hc (fun c => by
    rcases c with c | c | c | c
    · exact h3 c
    · exact h4 c
    · exact h5 c
    · exact h7 c))⟩
theorem yw_prepN {post : Int32 → Prop} {t s : Nat} (ht : t < 32) (hs : s < 4) (hc : ¬ zPr (ln (t * 4 + s))) (h : post 0) : wpY_prepared post (fe, fc, fn, fb, off, ear, hom, st, cs, ln, ps, lo, py, ma, mv) (nI t) (nI s) :=
  ⟨za_i4 ht hs, nm_r (congrArg ln (za_c4 ht hs)) (br_f (fun e => hc (Or.inl e)) (br_f (fun e => hc (Or.inr (Or.inl e))) (br_f (fun e => hc (Or.inr (Or.inr (Or.inl e)))) (br_f (fun e => hc (Or.inr (Or.inr (Or.inr e)))) h))))⟩
theorem yw_latest {post : Int32 → Prop} {s : Nat} (hs : s < 4) (h : post (fn + off s + fe)) : wpY_latest post (fe, fc, fn, fb, off, ear, hom, st, cs, ln, ps, lo, py, ma, mv) (nI s) :=
  ⟨vp_in_nI hs (by omega), by rw [nI_clamp (by omega)]; exact h⟩
theorem yw_rel1 {post : SY → Prop} {t s b d : Nat} (ht : t < 32) (hb : b < 8) (hbs : b % 4 = s)
    (K : wY_release_2 post (nI t) fe fc fn fb d (nI (b + 4)) off ear hom st cs ln ps (zrLB lo t s (b + 4)) (zrLB py t s (b + 4)) ma mv) :
    wY_release_2 post (nI t) fe fc fn fb (d + 1) (nI b) off ear hom st cs ln ps (zrLB lo t s b) (zrLB py t s b) ma mv := by
  have i := za_i8 ht hb
  have c := za_c8 ht hb
  exact br_f (nI_ge (b := 8) hb (by decide)) ⟨i, nm_r (e' := zrLB lo t s (b + 4)) (by rw [c]; exact zrLB_s hb hbs) ⟨i, nm_r (e' := zrLB py t s (b + 4)) (by rw [c]; exact zrLB_s hb hbs) (nm_r (za_p4 b) K)⟩⟩
theorem yw_rel {post : SY → Prop} {t s : Nat} (ht : t < 32) (hs : s < 4) (h : post (fe, fc, fn, fb, off, ear, hom, st, cs, ln, ps, zrL lo t s, zrL py t s, ma, mv)) : wpY_release post (fe, fc, fn, fb, off, ear, hom, st, cs, ln, ps, lo, py, ma, mv) (nI t) (nI s) := by
  refine ⟨3, ?_⟩
  have K := yw_rel1 (post := post) (fe := fe) (fc := fc) (fn := fn) (fb := fb) (off := off) (ear := ear) (hom := hom) (st := st) (cs := cs) (ln := ln) (ps := ps) (lo := lo) (py := py) (ma := ma) (mv := mv) (t := t) (s := s) (b := s) (d := 2) ht (by omega) (by omega) (yw_rel1 ht (by omega) (by omega) (by
    rw [zrLB_8 hs, zrLB_8 hs]
    exact br_t (nI_le (a := 8) (by omega) (by omega)) h))
  rw [zrLB_0 hs, zrLB_0 hs] at K
  exact K
theorem yw_wound {post : SY → Prop} {t s : Nat} {x : Int32} (ht : t < 32) (hs : s < 4) (hx : (st t = 4 ∧ x = 9) ∨ (¬ st t = 4 ∧ x = 8))
    (h : post (fe, fc, fn, fb, off, ear, hom, st, cs, upd ln (t * 4 + s) x, ps, zrL lo t s, zrL py t s, ma, mv)) : wpY_wound post (fe, fc, fn, fb, off, ear, hom, st, cs, ln, ps, lo, py, ma, mv) (nI t) (nI s) := by
  unfold wpY_wound
  refine yw_rel ht hs ?_
  have i := za_i4 ht hs
  have c := za_c4 ht hs
  rcases hx with ⟨h1, rfl⟩ | ⟨h1, rfl⟩
  · exact ⟨vp_in_nI ht (by omega), br_t (by rw [nI_clamp (by omega)]; exact h1) ⟨i, nm_r (e' := upd ln (t * 4 + s) 9) (by rw [c]) h⟩⟩
  · exact ⟨vp_in_nI ht (by omega), br_f (by rw [nI_clamp (by omega)]; exact h1) ⟨i, nm_r (e' := upd ln (t * 4 + s) 8) (by rw [c]) h⟩⟩
/-! Y: abort -/
theorem yw_ab63 {post : SY → Prop} {J : Int32 → (Nat → Int32) → (Nat → Int32) → (Nat → Int32) → (Nat → Int32) → (Nat → Int32) → (Nat → Int32) → (Nat → Int32) → (Nat → Int32) → (Nat → Int32) → (Nat → Int32) → (Nat → Int32) → Prop} {x1 x3 : Int32} {q : Nat} (hq : q < 128) (hx : ¬ x3 = 8) (h : J (nI (q + 1)) off ear hom st cs ln ps lo py ma mv) : wY_doAbort_63 post J x1 (nI q) x3 fe fc fn fb off ear hom st cs ln ps lo py ma mv :=
  br_f hx (nm_r (nI_1 q) h)
theorem yw_abL {post : SY → Prop} {t : Nat} (ht : t < 32) (h : post (fe, fc, fn, fb, off, ear, hom, st, cs, zab ln t, ps, lo, py, ma, mv)) : ∀ d i, i + d = 4 → wY_doAbort_11 post (nI t) fe fc fn fb (d + 1) (nI (t * 4 + i)) off ear hom st cs (zabI ln t i) ps lo py ma mv := by
  intro d
  induction d with
  | zero =>
    intro i hi
    obtain rfl : i = 4 := by omega
    exact br_t (by rw [za_e4]; exact nI_le (by omega) (by omega)) h
  | succ d ih =>
    intro i hi
    have v : vp_in (nI (t * 4 + i)) 128 := vp_in_nI (by omega) (by omega)
    have c : (nI (t * 4 + i)).toNatClampNeg = t * 4 + i := nI_clamp (by omega)
    have g : ¬ nI t * 4 + 4 ≤ nI (t * 4 + i) := by rw [za_e4]; exact nI_ge (by omega) (by omega)
    have K := ih (i + 1) (by omega)
    refine br_f g ⟨v, nm_r (e' := ln (t * 4 + i)) (by rw [c]; exact zab_at) ?_⟩
    by_cases h1 : ln (t * 4 + i) = 1
    · rw [h1]
      exact br_t rfl ⟨v, nm_r (e' := zabI ln t (i + 1)) (by rw [c]; exact zab_s (by rw [h1]; decide)) (br_f (by decide) (br_f (by decide) (yw_ab63 (by omega) (by decide) K)))⟩
    by_cases h2 : ln (t * 4 + i) = 2
    · rw [h2]
      exact br_f (by decide) (br_t rfl ⟨v, nm_r (e' := zabI ln t (i + 1)) (by rw [c]; exact zab_s (by rw [h2]; decide)) (br_f (by decide) (br_f (by decide) (yw_ab63 (by omega) (by decide) K)))⟩)
    by_cases h3 : ln (t * 4 + i) = 3
    · rw [h3]
      exact br_f (by decide) (br_f (by decide) (br_t rfl ⟨v, nm_r (e' := zabI ln t (i + 1)) (by rw [c]; exact zab_s (by rw [h3]; decide)) (yw_ab63 (by omega) (by decide) K)⟩))
    by_cases h4 : ln (t * 4 + i) = 4
    · rw [h4]
      exact br_f (by decide) (br_f (by decide) (br_f (by decide) (br_t rfl ⟨v, nm_r (e' := zabI ln t (i + 1)) (by rw [c]; exact zab_s (by rw [h4]; decide)) (yw_ab63 (by omega) (by decide) K)⟩)))
    by_cases h8 : ln (t * 4 + i) = 8
    · rw [h8]
      exact br_f (by decide) (br_f (by decide) (br_f (by decide) (br_f (by decide) (br_t rfl ⟨v, nm_r (e' := zabI ln t (i + 1)) (by rw [c]; exact zab_s (by rw [h8]; decide)) (nm_r (nI_1 _) K)⟩))))
    · refine br_f h1 (br_f h2 (br_f h3 (br_f h4 (yw_ab63 (by omega) h8 ?_))))
      rw [zab_f (by unfold zab1; simp [h1, h2, h3, h4, h8])]
      exact K
theorem yw_ab {post : SY → Prop} {t : Nat} (ht : t < 32) (h : post (fe, fc, fn, fb, off, ear, hom, upd st t 4, cs, zab ln t, ps, lo, py, ma, mv)) : wpY_doAbort post (fe, fc, fn, fb, off, ear, hom, st, cs, ln, ps, lo, py, ma, mv) (nI t) := by
  have K := yw_abL ht h 4 0 rfl
  rw [zab_0] at K
  exact ⟨vp_in_nI ht (by omega), nm_r (e' := upd st t 4) (by rw [nI_clamp (by omega)]) (nm_r (za_m4 t) ⟨5, K⟩)⟩
/-! Y: the decision -/
theorem yw_decL {post : SY → Prop} {t : Nat} {b : Int32} (ht : t < 32) (h : post (fe, fc, fn, fb, off, ear, hom, upd st t 2, upd cs t (zdm ln ps t b 4), ln, ps, lo, py, ma, mv)) :
    ∀ d i, i + d = 4 → wY_decide_17 post (nI t) fe fc fn fb off ear hom st cs ln ps lo py ma mv (d + 1) (zdm ln ps t b i) (nI (t * 4 + i)) := by
  intro d
  induction d with
  | zero =>
    intro i hi
    obtain rfl : i = 4 := by omega
    have v : vp_in (nI t) 32 := vp_in_nI ht (by omega)
    exact br_t (by rw [za_e4]; exact nI_le (by omega) (by omega)) ⟨v, nm_r (e' := upd cs t (zdm ln ps t b 4)) (by rw [nI_clamp (by omega)]) ⟨v, nm_r (e' := upd st t 2) (by rw [nI_clamp (by omega)]) h⟩⟩
  | succ d ih =>
    intro i hi
    have v : vp_in (nI (t * 4 + i)) 128 := vp_in_nI (by omega) (by omega)
    have c : (nI (t * 4 + i)).toNatClampNeg = t * 4 + i := nI_clamp (by omega)
    have g : ¬ nI t * 4 + 4 ≤ nI (t * 4 + i) := by rw [za_e4]; exact nI_ge (by omega) (by omega)
    have K := ih (i + 1) (by omega)
    by_cases z : ln (t * 4 + i) = 4
    · by_cases z2 : ps (t * 4 + i) ≤ zdm ln ps t b i
      · rw [zdm_2 z2] at K
        exact br_f g ⟨v, br_t (by rw [c]; exact z) ⟨v, br_t (by rw [c]; exact z2) (nm_r (nI_1 _) K)⟩⟩
      · rw [zdm_1 z z2] at K
        exact br_f g ⟨v, br_t (by rw [c]; exact z) ⟨v, br_f (by rw [c]; exact z2) ⟨v, nm_r (e' := ps (t * 4 + i)) (by rw [c]) (nm_r (nI_1 _) K)⟩⟩⟩
    · rw [zdm_3 z] at K
      exact br_f g ⟨v, br_f (by rw [c]; exact z) (nm_r (nI_1 _) K)⟩
theorem yw_dec {post : SY → Prop} {t h : Nat} (ht : t < 32) (hh : h < 4) (hom' : hom t = nI h) (H : post (fe, fc, fn, fb, off, ear, hom, upd st t 2, upd cs t (zdm ln ps t (fn + off h + fe + 1) 4), ln, ps, lo, py, ma, mv)) : wpY_decide post (fe, fc, fn, fb, off, ear, hom, st, cs, ln, ps, lo, py, ma, mv) (nI t) := by
  refine ⟨vp_in_nI ht (by omega), ?_⟩
  rw [nI_clamp (show t < 2 ^ 31 by omega), hom']
  refine yw_latest hh ?_
  exact nm_e (nm_r (za_m4 t) ⟨5, yw_decL (b := fn + off h + fe + 1) ht H 4 0 rfl⟩)
/-! Y: the value at a time -/
def zFnd (k : Nat) (ts : Int32) (cs ma : Nat → Int32) (t : Nat) (x : Int32) : Prop :=
  (x = -1 ∧ ∀ u, u < t → ma (u * 8 + k) ≠ 0 → ¬ cs u ≤ ts) ∨
  (∃ f, f < t ∧ x = nI f ∧ ma (f * 8 + k) ≠ 0 ∧ cs f ≤ ts ∧ ∀ u, u < t → ma (u * 8 + k) ≠ 0 → cs u ≤ ts → cs u ≤ cs f)
theorem zFnd_k {k : Nat} {ts x : Int32} {cs ma : Nat → Int32} {t : Nat} (h : zFnd k ts cs ma t x) (hn : ma (t * 8 + k) = 0 ∨ ¬ cs t ≤ ts) : zFnd k ts cs ma (t + 1) x := by
  rcases h with ⟨e, h⟩ | ⟨f, h1, h2, h3, h4, h5⟩
  · refine Or.inl ⟨e, fun u hu hm hc => ?_⟩
    by_cases z : u = t
    · subst z
      rcases hn with hn | hn
      · exact hm hn
      · exact hn hc
    · exact h u (by omega) hm hc
  · refine Or.inr ⟨f, by omega, h2, h3, h4, fun u hu hm hc => ?_⟩
    by_cases z : u = t
    · subst z
      rcases hn with hn | hn
      · exact absurd hn hm
      · exact absurd hc hn
    · exact h5 u (by omega) hm hc
theorem yw_valL {k n : Nat} {ts : Int32} (hk : k < 8) (hn : n ≤ 32) : ∀ d t x, t + d = n → zFnd k ts cs ma t x →
    ∃ r, zVal n k ts cs ma mv r ∧ ∀ post : Int32 → Prop, post r → wY_valueAt_5 post (nI k) ts fe fc fn (nI n) off ear hom st cs ln ps lo py ma mv (d + 1) x (nI t) := by
  intro d
  induction d with
  | zero =>
    intro t x ht hx
    obtain rfl : t = n := by omega
    have g : nI t ≤ nI t := nI_le (Nat.le_refl t) (by omega)
    rcases hx with ⟨e, h⟩ | ⟨f, h1, h2, h3, h4, h5⟩
    · subst e
      exact ⟨0, Or.inl ⟨rfl, h⟩, fun post hp => br_t g (br_f (by decide) hp)⟩
    · subst h2
      exact ⟨mv (f * 8 + k), Or.inr ⟨f, h1, h3, h4, h5, rfl⟩, fun post hp => br_t g (br_t (nI_pos' (by omega)) ⟨za_i8 (by omega) hk, by rw [za_c8 (by omega) hk]; exact hp⟩)⟩
  | succ d ih =>
    intro t x ht hx
    have g : ¬ nI n ≤ nI t := nI_ge (by omega) (by omega)
    have v := za_i8 (t := t) (by omega) hk
    have c := za_c8 (t := t) (by omega) hk
    have vt : vp_in (nI t) 32 := vp_in_nI (by omega) (by omega)
    have ct : (nI t).toNatClampNeg = t := nI_clamp (by omega)
    by_cases z : ma (t * 8 + k) = 0
    · obtain ⟨r, h1, h2⟩ := ih (t + 1) x (by omega) (zFnd_k hx (Or.inl z))
      exact ⟨r, h1, fun post hp => br_f g ⟨v, br_t (by rw [c]; exact z) (nm_r (nI_1 t) (h2 post hp))⟩⟩
    · by_cases z2 : ts < cs t
      · obtain ⟨r, h1, h2⟩ := ih (t + 1) x (by omega) (zFnd_k hx (Or.inr (zi_nle.mpr z2)))
        exact ⟨r, h1, fun post hp => br_f g ⟨v, br_f (by rw [c]; exact z) ⟨vt, br_t (by rw [ct]; exact z2) (nm_r (nI_1 t) (h2 post hp))⟩⟩⟩
      · have hle := zi_nlt.mp z2
        rcases hx with ⟨e, h⟩ | ⟨f, f1, f2, f3, f4, f5⟩
        · subst e
          obtain ⟨r, h1, h2⟩ := ih (t + 1) (nI t) (by omega) (Or.inr ⟨t, by omega, rfl, z, hle, fun u hu hm hc => by
            by_cases e : u = t
            · subst e; exact Int32.le_refl _
            · exact absurd hc (h u (by omega) hm)⟩)
          exact ⟨r, h1, fun post hp => br_f g ⟨v, br_f (by rw [c]; exact z) ⟨vt, br_f (by rw [ct]; exact z2) (br_t (by decide) (nm_r (nI_1 t) (h2 post hp)))⟩⟩⟩
        · subst f2
          have vf : vp_in (nI f) 32 := vp_in_nI (by omega) (by omega)
          have cf : (nI f).toNatClampNeg = f := nI_clamp (by omega)
          have gf : ¬ nI f < 0 := nI_pos (by omega)
          by_cases z3 : cs t ≤ cs f
          · obtain ⟨r, h1, h2⟩ := ih (t + 1) (nI f) (by omega) (Or.inr ⟨f, by omega, rfl, f3, f4, fun u hu hm hc => by
              by_cases e : u = t
              · subst e; exact z3
              · exact f5 u (by omega) hm hc⟩)
            exact ⟨r, h1, fun post hp => br_f g ⟨v, br_f (by rw [c]; exact z) ⟨vt, br_f (by rw [ct]; exact z2) (br_f gf ⟨vt, vf, br_t (by rw [ct, cf]; exact z3) (nm_r (nI_1 t) (h2 post hp))⟩)⟩⟩⟩
          · obtain ⟨r, h1, h2⟩ := ih (t + 1) (nI t) (by omega) (Or.inr ⟨t, by omega, rfl, z, hle, fun u hu hm hc => by
              by_cases e : u = t
              · subst e; exact Int32.le_refl _
              · exact Int32.le_trans (f5 u (by omega) hm hc) (Int32.le_of_lt (zi_nle.mp z3))⟩)
            exact ⟨r, h1, fun post hp => br_f g ⟨v, br_f (by rw [c]; exact z) ⟨vt, br_f (by rw [ct]; exact z2) (br_f gf ⟨vt, vf, br_f (by rw [ct, cf]; exact z3) (nm_r (nI_1 t) (h2 post hp))⟩)⟩⟩⟩
theorem yw_val {k n : Nat} {ts : Int32} (hk : k < 8) (hn : n ≤ 32) : ∃ r, zVal n k ts cs ma mv r ∧ ∀ post : Int32 → Prop, post r → wpY_valueAt post (fe, fc, fn, nI n, off, ear, hom, st, cs, ln, ps, lo, py, ma, mv) (nI k) ts := by
  obtain ⟨r, h1, h2⟩ := yw_valL (fe := fe) (fc := fc) (fn := fn) (off := off) (ear := ear) (hom := hom) (st := st) (cs := cs) (ln := ln) (ps := ps) (lo := lo) (py := py) (ma := ma) (mv := mv) (ts := ts) hk hn n 0 (-1) (by omega) (Or.inl ⟨rfl, fun u hu => absurd hu (Nat.not_lt_zero u)⟩)
  exact ⟨r, h1, fun post hp => ⟨n + 1, h2 post hp⟩⟩
/-! Y: the safe time -/
theorem yw_safeL {s n : Nat} (hs : s < 4) (hn : n ≤ 32) : ∀ d t x, t + d = n → zSf t s ear ln ps x →
    ∃ r, zSf n s ear ln ps r ∧ ∀ post : Int32 → Prop, post r → wY_safeTime_20 post (nI s) fe fc fn (nI n) off ear hom st cs ln ps lo py ma mv (d + 1) x (nI t) := by
  intro d
  induction d with
  | zero =>
    intro t x ht hx
    obtain rfl : t = n := by omega
    exact ⟨x, hx, fun post hp => br_t (nI_le (Nat.le_refl t) (by omega)) hp⟩
  | succ d ih =>
    intro t x ht hx
    have g : ¬ nI n ≤ nI t := nI_ge (by omega) (by omega)
    have v := za_i4 (t := t) (by omega) hs
    have c := za_c4 (t := t) (by omega) hs
    obtain ⟨a1, a2, a3⟩ := hx
    by_cases z : zPr (ln (t * 4 + s))
    · by_cases z2 : x ≤ ps (t * 4 + s) - 1
      · obtain ⟨r, h1, h2⟩ := ih (t + 1) x (by omega) ⟨a1, fun u hu hp => by
          by_cases e : u = t
          · subst e; exact z2
          · exact a2 u (by omega) hp, by
          rcases a3 with e | ⟨u, hu, hp, e⟩
          · exact Or.inl e
          · exact Or.inr ⟨u, by omega, hp, e⟩⟩
        exact ⟨r, h1, fun post hp => br_f g (yw_prepY (by omega) hs z (br_f (by decide) ⟨v, br_t (by rw [c]; exact z2) (nm_r (nI_1 t) (h2 post hp))⟩))⟩
      · have z3 := Int32.le_of_lt (zi_nle.mp z2)
        obtain ⟨r, h1, h2⟩ := ih (t + 1) (ps (t * 4 + s) - 1) (by omega) ⟨Int32.le_trans z3 a1, fun u hu hp => by
          by_cases e : u = t
          · subst e; exact Int32.le_refl _
          · exact Int32.le_trans z3 (a2 u (by omega) hp), Or.inr ⟨t, by omega, z, rfl⟩⟩
        exact ⟨r, h1, fun post hp => br_f g (yw_prepY (by omega) hs z (br_f (by decide) ⟨v, br_f (by rw [c]; exact z2) ⟨v, nm_r (e' := ps (t * 4 + s) - 1) (by rw [c]) (nm_r (nI_1 t) (h2 post hp))⟩⟩))⟩
    · obtain ⟨r, h1, h2⟩ := ih (t + 1) x (by omega) ⟨a1, fun u hu hp => by
        by_cases e : u = t
        · subst e; exact absurd hp z
        · exact a2 u (by omega) hp, by
        rcases a3 with e | ⟨u, hu, hp, e⟩
        · exact Or.inl e
        · exact Or.inr ⟨u, by omega, hp, e⟩⟩
      exact ⟨r, h1, fun post hp => br_f g (yw_prepN (by omega) hs z (br_t rfl (nm_r (nI_1 t) (h2 post hp))))⟩
theorem yw_safe {s n : Nat} (hs : s < 4) (hn : n ≤ 32) : ∃ r, zSf n s ear ln ps r ∧ ∀ post : Int32 → Prop, post r → wpY_safeTime post (fe, fc, fn, nI n, off, ear, hom, st, cs, ln, ps, lo, py, ma, mv) (nI s) := by
  obtain ⟨r, h1, h2⟩ := yw_safeL (fe := fe) (fc := fc) (fn := fn) (off := off) (ear := ear) (hom := hom) (st := st) (cs := cs) (ln := ln) (ps := ps) (lo := lo) (py := py) (ma := ma) (mv := mv) hs hn n 0 (ear s) (by omega) ⟨Int32.le_refl _, fun u hu => absurd hu (Nat.not_lt_zero u), Or.inl rfl⟩
  exact ⟨r, h1, fun post hp => br_f (nI_pos (by omega)) (br_t (nI_le (b := 3) (by omega) (by decide)) ⟨vp_in_nI hs (by omega), nm_r (e' := ear s) (by rw [nI_clamp (by omega)]) ⟨n + 1, h2 post hp⟩⟩)⟩
end
end
section
/-! ===== Y: the wait rule ===== -/
section
variable {fe fc fn fb : Int32} {off ear hom st cs ln ps lo py ma mv : Nat → Int32}
theorem yw_t98 {post : SY → Prop} {J : Int32 → (Nat → Int32) → (Nat → Int32) → (Nat → Int32) → (Nat → Int32) → (Nat → Int32) → (Nat → Int32) → (Nat → Int32) → (Nat → Int32) → (Nat → Int32) → (Nat → Int32) → (Nat → Int32) → Prop} {t : Nat} (ht : t < 32) (h : J (nI (t + 1)) off ear hom st cs (zc ln t 4 5) ps lo py ma mv) :
    ∀ d i, i + d = 4 → wY_tick_98 post J (nI t) fe fc fn fb (d + 1) (nI (t * 4 + i)) off ear hom st cs (zcI ln t 4 5 i) ps lo py ma mv := by
  intro d
  induction d with
  | zero =>
    intro i hi
    obtain rfl : i = 4 := by omega
    exact br_t (by rw [za_e4]; exact nI_le (by omega) (by omega)) (nm_r (nI_1 t) h)
  | succ d ih =>
    intro i hi
    have v : vp_in (nI (t * 4 + i)) 128 := vp_in_nI (by omega) (by omega)
    have c : (nI (t * 4 + i)).toNatClampNeg = t * 4 + i := nI_clamp (by omega)
    have g : ¬ nI t * 4 + 4 ≤ nI (t * 4 + i) := by rw [za_e4]; exact nI_ge (by omega) (by omega)
    by_cases z : ln (t * 4 + i) = 4
    · exact br_f g ⟨v, br_t (by rw [c, zc_at]; exact z) ⟨v, nm_r (e' := zcI ln t 4 5 (i + 1)) (by rw [c]; exact zc_t z) (nm_r (nI_1 _) (ih (i + 1) (by omega)))⟩⟩
    · refine br_f g ⟨v, br_f (by rw [c, zc_at]; exact z) (nm_r (nI_1 _) ?_)⟩
      rw [zc_f z]
      exact ih (i + 1) (by omega)
theorem zDD_t {t h : Nat} {st cs hom ear : Nat → Int32} (h4 : h < 4) (h2 : st t = 2) (hh : hom t = nI h) (hc : cs t < ear h) (u : Nat) : zDD (t + 1) st cs hom ear 4 u ↔ (zDD t st cs hom ear 4 u ∨ u = t) := by
  constructor
  · rintro ⟨h1, r⟩
    by_cases e : u = t
    · exact Or.inr e
    · exact Or.inl ⟨by omega, r⟩
  · rintro (⟨h1, r⟩ | rfl)
    · exact ⟨by omega, r⟩
    · exact ⟨by omega, h2, h, h4, hh, hc⟩
theorem zDD_f {t : Nat} {st cs hom ear : Nat → Int32} (h : ¬ (st t = 2 ∧ ∃ h', h' < 4 ∧ hom t = nI h' ∧ cs t < ear h')) (u : Nat) : zDD t st cs hom ear 4 u ↔ zDD (t + 1) st cs hom ear 4 u := by
  constructor
  · rintro ⟨h1, r⟩
    exact ⟨by omega, r⟩
  · rintro ⟨h1, r⟩
    by_cases e : u = t
    · subst e; exact absurd r h
    · exact ⟨by omega, r⟩
theorem yw_t49 {post : SY → Prop} {n : Nat} (hn : n ≤ 32) (hh : ∀ t, t < n → ∃ h, h < 4 ∧ hom t = nI h) (K : post (fe, fc, fn, nI n, off, ear, hom, zkS (zDD n st cs hom ear 4) st, cs, zkL (zDD n st cs hom ear 4) ln, ps, lo, py, ma, mv)) :
    ∀ d t, t + d = n → wY_tick_49 post fe fc fn (nI n) (d + 1) (nI t) off ear hom (zkS (zDD t st cs hom ear 4) st) cs (zkL (zDD t st cs hom ear 4) ln) ps lo py ma mv := by
  intro d
  induction d with
  | zero =>
    intro t ht
    obtain rfl : t = n := by omega
    exact br_t (nI_le (Nat.le_refl t) (by omega)) K
  | succ d ih =>
    intro t ht
    have g : ¬ nI n ≤ nI t := nI_ge (by omega) (by omega)
    have v : vp_in (nI t) 32 := vp_in_nI (by omega) (by omega)
    have c : (nI t).toNatClampNeg = t := nI_clamp (by omega)
    have est : zkS (zDD t st cs hom ear 4) st t = st t := zif_f (fun c => absurd c.1 (Nat.lt_irrefl t))
    have R := ih (t + 1) (by omega)
    obtain ⟨h, h4, eh⟩ := hh t (by omega)
    by_cases z : st t = 2
    · have ch : (hom (nI t).toNatClampNeg).toNatClampNeg = h := by rw [c, eh]; exact nI_clamp (by omega)
      have vh : vp_in (hom (nI t).toNatClampNeg) 4 := by rw [c, eh]; exact vp_in_nI h4 (by omega)
      by_cases z2 : ear h ≤ cs t
      · have nD : ¬ (st t = 2 ∧ ∃ h', h' < 4 ∧ hom t = nI h' ∧ cs t < ear h') := by
          rintro ⟨_, h', b1, b2, b3⟩
          have : h' = h := (nI_eq (by omega) (by omega)).mp (b2.symm.trans eh)
          subst this
          exact zi_nlt.mpr z2 b3
        refine br_f g ⟨v, br_t (by rw [c, est]; exact z) ⟨v, v, vh, br_t (by rw [ch, c]; exact z2) (nm_r (nI_1 t) ?_)⟩⟩
        rw [zkS_cg (zDD_f nD), zkL_cg (zDD_f nD)]
        exact R
      · have eD := zDD_t h4 z eh (zi_nle.mp z2)
        rw [← zkL_add eD] at R
        have Q := yw_t98 (fe := fe) (fc := fc) (fn := fn) (fb := nI n) (post := post) (t := t) (by omega) R 4 0 rfl
        rw [zc_0] at Q
        exact br_f g ⟨v, br_t (by rw [c, est]; exact z) ⟨v, v, vh, br_f (by rw [ch, c]; exact z2) ⟨v, nm_r (e' := zkS (zDD (t + 1) st cs hom ear 4) st) (by rw [c]; exact zkS_add eD) (nm_r (za_m4 t) ⟨5, Q⟩)⟩⟩⟩
    · refine br_f g ⟨v, br_f (by rw [c, est]; exact z) (nm_r (nI_1 t) ?_)⟩
      have nD : ¬ (st t = 2 ∧ ∃ h', h' < 4 ∧ hom t = nI h' ∧ cs t < ear h') := fun c => z c.1
      rw [zkS_cg (zDD_f nD), zkL_cg (zDD_f nD)]
      exact R
theorem yw_t2 {post : SY → Prop} {n : Nat} (hn : n ≤ 32) (hh : ∀ t, t < n → ∃ h, h < 4 ∧ hom t = nI h) (K : post (fe, fc, fn, nI n, off, zerI fn fe off ear 4, hom, zkS (zDD n st cs hom (zerI fn fe off ear 4) 4) st, cs, zkL (zDD n st cs hom (zerI fn fe off ear 4) 4) ln, ps, lo, py, ma, mv)) :
    ∀ d i, i + d = 4 → wY_tick_2 post fe fc fn (nI n) (d + 1) (nI i) off (zerI fn fe off ear i) hom st cs ln ps lo py ma mv := by
  intro d
  induction d with
  | zero =>
    intro i hi
    obtain rfl : i = 4 := by omega
    refine br_t (by decide) ⟨n + 1, ?_⟩
    have e0 : ∀ t, ¬ zDD 0 st cs hom (zerI fn fe off ear 4) 4 t := fun t c => absurd c.1 (Nat.not_lt_zero t)
    have R := yw_t49 hn hh K n 0 (by omega)
    rw [zkS_0 e0, zkL_0 e0] at R
    exact R
  | succ d ih =>
    intro i hi
    have c : (nI i).toNatClampNeg = i := nI_clamp (by omega)
    have v : vp_in (nI i) 4 := vp_in_nI (by omega) (by omega)
    have R := ih (i + 1) (by omega)
    refine br_f (nI_ge (b := 4) (by omega) (by decide)) ⟨v, nm_r (e' := fn + off i - fe) (by rw [c]) ⟨v, ?_⟩⟩
    by_cases z : fn + off i - fe ≤ ear i
    · refine br_t (by rw [c, zer_at]; exact z) (nm_r (nI_1 i) ?_)
      rw [zer_f z]; exact R
    · exact br_f (by rw [c, zer_at]; exact z) ⟨v, nm_r (e' := zerI fn fe off ear (i + 1)) (by rw [c]; exact zer_t z) (nm_r (nI_1 i) R)⟩
theorem yw_tick {post : SY → Prop} {n : Nat} (hn : n ≤ 32) (hh : ∀ t, t < n → ∃ h, h < 4 ∧ hom t = nI h) (K : post (fe, fc, fn, nI n, off, zerI fn fe off ear 4, hom, zkS (zDD n st cs hom (zerI fn fe off ear 4) 4) st, cs, zkL (zDD n st cs hom (zerI fn fe off ear 4) 4) ln, ps, lo, py, ma, mv)) :
    wpY_tick post (fe, fc, fn, nI n, off, ear, hom, st, cs, ln, ps, lo, py, ma, mv) := by
  have R := yw_t2 hn hh K 4 0 rfl
  rw [zer_0] at R
  exact ⟨5, R⟩
/-! ===== Y: commit ===== -/
theorem yw_c76 {post : Int32 → SY → Prop} {t : Nat} (ht : t < 32) (h : post 0 (fe, fc, fn, fb, off, ear, hom, st, cs, zc ln t 1 2, ps, lo, py, ma, mv)) : ∀ d i, i + d = 4 → wY_commit_76 post (nI t) fe fc fn fb (d + 1) (nI (t * 4 + i)) off ear hom st cs (zcI ln t 1 2 i) ps lo py ma mv := by
  intro d
  induction d with
  | zero =>
    intro i hi
    obtain rfl : i = 4 := by omega
    exact br_t (by rw [za_e4]; exact nI_le (by omega) (by omega)) h
  | succ d ih =>
    intro i hi
    have v : vp_in (nI (t * 4 + i)) 128 := vp_in_nI (by omega) (by omega)
    have c : (nI (t * 4 + i)).toNatClampNeg = t * 4 + i := nI_clamp (by omega)
    have g : ¬ nI t * 4 + 4 ≤ nI (t * 4 + i) := by rw [za_e4]; exact nI_ge (by omega) (by omega)
    by_cases z : ln (t * 4 + i) = 1
    · exact br_f g ⟨v, br_t (by rw [c, zc_at]; exact z) ⟨v, nm_r (e' := zcI ln t 1 2 (i + 1)) (by rw [c]; exact zc_t z) (nm_r (nI_1 _) (ih (i + 1) (by omega)))⟩⟩
    · refine br_f g ⟨v, br_f (by rw [c, zc_at]; exact z) (nm_r (nI_1 _) ?_)⟩
      rw [zc_f z]
      exact ih (i + 1) (by omega)
theorem yw_c28 {post : Int32 → SY → Prop} {t h : Nat} (ht : t < 32) (hh : h < 4) (hom' : hom t = nI h)
    (hy : (∀ s, s < 4 → ln (t * 4 + s) = 0) → post 0 (fe, fc, fn, fb, off, ear, hom, upd st t 2, upd cs t (zdm ln ps t (fn + off h + fe + 1) 4), ln, ps, lo, py, ma, mv))
    (hn : ¬ (∀ s, s < 4 → ln (t * 4 + s) = 0) → post 0 (fe, fc, fn, fb, off, ear, hom, upd st t 1, cs, zc ln t 1 2, ps, lo, py, ma, mv)) :
    ∀ d i x, i + d = 4 → ((x = 1 ∧ ∀ s, s < i → ln (t * 4 + s) = 0) ∨ (x = 0 ∧ ∃ s, s < i ∧ ¬ ln (t * 4 + s) = 0)) → wY_commit_28 post (nI t) fe fc fn fb off ear hom st cs ln ps lo py ma mv (d + 1) x (nI (t * 4 + i)) := by
  intro d
  induction d with
  | zero =>
    intro i x hi hx
    obtain rfl : i = 4 := by omega
    refine br_t (by rw [za_e4]; exact nI_le (by omega) (by omega)) ?_
    rcases hx with ⟨rfl, hx⟩ | ⟨rfl, s, hs, hx⟩
    · exact br_f (by decide) (yw_dec ht hh hom' (hy hx))
    · have R := yw_c76 ht (hn (fun c => hx (c s hs))) 4 0 rfl
      rw [zc_0] at R
      exact br_t rfl ⟨vp_in_nI ht (by omega), nm_r (e' := upd st t 1) (by rw [nI_clamp (by omega)]) (nm_r (za_m4 t) ⟨5, R⟩)⟩
  | succ d ih =>
    intro i x hi hx
    have v : vp_in (nI (t * 4 + i)) 128 := vp_in_nI (by omega) (by omega)
    have c : (nI (t * 4 + i)).toNatClampNeg = t * 4 + i := nI_clamp (by omega)
    have g : ¬ nI t * 4 + 4 ≤ nI (t * 4 + i) := by rw [za_e4]; exact nI_ge (by omega) (by omega)
    by_cases z : ln (t * 4 + i) = 0
    · refine br_f g ⟨v, br_t (by rw [c]; exact z) (nm_r (nI_1 _) (ih (i + 1) x (by omega) ?_))⟩
      rcases hx with ⟨e, hx⟩ | ⟨e, s, hs, hx⟩
      · refine Or.inl ⟨e, fun s hs => ?_⟩
        by_cases es : s = i
        · subst es; exact z
        · exact hx s (by omega)
      · exact Or.inr ⟨e, s, by omega, hx⟩
    · exact br_f g ⟨v, br_f (by rw [c]; exact z) (nm_r (nI_1 _) (ih (i + 1) 0 (by omega) (Or.inr ⟨rfl, i, by omega, z⟩)))⟩
/-! ===== Y: deliver ===== -/
theorem yw_d112 {post : Int32 → SY → Prop} {t h : Nat} {x3 : Int32} (ht : t < 32) (hh : h < 4) (hom' : hom t = nI h)
    (hy : (∀ s, s < 4 → ln (t * 4 + s) = 0 ∨ ln (t * 4 + s) = 4) → post x3 (fe, fc, fn, fb, off, ear, hom, upd st t 2, upd cs t (zdm ln ps t (fn + off h + fe + 1) 4), ln, ps, lo, py, ma, mv))
    (hn : ¬ (∀ s, s < 4 → ln (t * 4 + s) = 0 ∨ ln (t * 4 + s) = 4) → post x3 (fe, fc, fn, fb, off, ear, hom, st, cs, ln, ps, lo, py, ma, mv)) :
    ∀ d i x, i + d = 4 → ((x = 1 ∧ ∀ s, s < i → ln (t * 4 + s) = 0 ∨ ln (t * 4 + s) = 4) ∨ (x = 0 ∧ ∃ s, s < i ∧ ¬ (ln (t * 4 + s) = 0 ∨ ln (t * 4 + s) = 4))) → wY_deliver_112 post (nI t) x3 fe fc fn fb off ear hom st cs ln ps lo py ma mv (d + 1) x (nI (t * 4 + i)) := by
  intro d
  induction d with
  | zero =>
    intro i x hi hx
    obtain rfl : i = 4 := by omega
    refine br_t (by rw [za_e4]; exact nI_le (by omega) (by omega)) ?_
    rcases hx with ⟨rfl, hx⟩ | ⟨rfl, s, hs, hx⟩
    · exact br_f (by decide) (yw_dec ht hh hom' (hy hx))
    · exact br_t rfl (hn (fun c => hx (c s hs)))
  | succ d ih =>
    intro i x hi hx
    have v : vp_in (nI (t * 4 + i)) 128 := vp_in_nI (by omega) (by omega)
    have c : (nI (t * 4 + i)).toNatClampNeg = t * 4 + i := nI_clamp (by omega)
    have g : ¬ nI t * 4 + 4 ≤ nI (t * 4 + i) := by rw [za_e4]; exact nI_ge (by omega) (by omega)
    have nx : (ln (t * 4 + i) = 0 ∨ ln (t * 4 + i) = 4) → wY_deliver_112 post (nI t) x3 fe fc fn fb off ear hom st cs ln ps lo py ma mv (d + 1) x (nI (t * 4 + (i + 1))) := fun z => ih (i + 1) x (by omega) (by
      rcases hx with ⟨e, hx⟩ | ⟨e, s, hs, hx⟩
      · refine Or.inl ⟨e, fun s hs => ?_⟩
        by_cases es : s = i
        · subst es; exact z
        · exact hx s (by omega)
      · exact Or.inr ⟨e, s, by omega, hx⟩)
    by_cases z : ln (t * 4 + i) = 0
    · exact br_f g ⟨v, br_t (by rw [c]; exact z) (nm_r (nI_1 _) (nx (Or.inl z)))⟩
    · by_cases z2 : ln (t * 4 + i) = 4
      · exact br_f g ⟨v, br_f (by rw [c]; exact z) ⟨v, br_t (by rw [c]; exact z2) (nm_r (nI_1 _) (nx (Or.inr z2)))⟩⟩
      · exact br_f g ⟨v, br_f (by rw [c]; exact z) ⟨v, br_f (by rw [c]; exact z2) (nm_r (nI_1 _) (ih (i + 1) 0 (by omega) (Or.inr ⟨rfl, i, by omega, fun c => by
          rcases c with c | c
          · exact z c
          · exact z2 c⟩)))⟩⟩
theorem yw_d167e {post : Int32 → SY → Prop} {t s d b : Nat} {x3 : Int32} (ht : t < 32) (hs : s < 4) (hb : 8 ≤ b) (hb' : b < 100) (h8 : ¬ x3 = 8) (h : post x3 (fe, fc, fn, fb, off, ear, hom, st, cs, upd ln (t * 4 + s) 9, ps, zrL lo t s, zrL py t s, ma, mv)) :
    wY_deliver_167 post (nI t) (nI s) x3 fe fc fn fb (d + 1) (nI b) off ear hom st cs ln ps lo py ma mv := by
  refine br_t (nI_le (a := 8) hb (by omega)) ?_
  refine yw_rel ht hs ?_
  exact ⟨za_i4 ht hs, nm_r (e' := upd ln (t * 4 + s) 9) (by rw [za_c4 ht hs]) (br_f h8 h)⟩
theorem yw_d167e8 {post : Int32 → SY → Prop} {t s d b : Nat} (ht : t < 32) (hs : s < 4) (hb : 8 ≤ b) (hb' : b < 100) (h : post 8 (fe, fc, fn, fb, off, ear, hom, upd st t 4, cs, zab (upd ln (t * 4 + s) 9) t, ps, zrL lo t s, zrL py t s, ma, mv)) :
    wY_deliver_167 post (nI t) (nI s) 8 fe fc fn fb (d + 1) (nI b) off ear hom st cs ln ps lo py ma mv := by
  refine br_t (nI_le (a := 8) hb (by omega)) ?_
  refine yw_rel ht hs ?_
  exact ⟨za_i4 ht hs, nm_r (e' := upd ln (t * 4 + s) 9) (by rw [za_c4 ht hs]) (br_t rfl (yw_ab ht h))⟩
theorem yw_d167n {post : Int32 → SY → Prop} {t s d b : Nat} {x3 : Int32} (hb : b < 8) (h5 : ¬ x3 = 5) (K : wY_deliver_167 post (nI t) (nI s) x3 fe fc fn fb d (nI (b + 4)) off ear hom st cs ln ps lo py ma mv) :
    wY_deliver_167 post (nI t) (nI s) x3 fe fc fn fb (d + 1) (nI b) off ear hom st cs ln ps lo py ma mv :=
  br_f (nI_ge (b := 8) hb (by decide)) (br_f h5 (nm_r (za_p4 b) K))
theorem yw_d167s {post : Int32 → SY → Prop} {t s d b : Nat} (ht : t < 32) (hb : b < 8) (hbs : b % 4 = s) (K : wY_deliver_167 post (nI t) (nI s) 5 fe fc fn fb d (nI (b + 4)) off ear hom st cs ln ps lo py (zmA ma lo t s (b + 4)) (zmV mv py lo t s (b + 4))) :
    wY_deliver_167 post (nI t) (nI s) 5 fe fc fn fb (d + 1) (nI b) off ear hom st cs ln ps lo py (zmA ma lo t s b) (zmV mv py lo t s b) := by
  have i := za_i8 ht hb
  have c := za_c8 ht hb
  refine br_f (nI_ge (b := 8) hb (by decide)) (br_t rfl ⟨i, ?_⟩)
  by_cases z : lo (t * 8 + b) = 2
  · exact br_t (by rw [c]; exact z) ⟨i, nm_r (e' := zmA ma lo t s (b + 4)) (by rw [c]; exact zmA_t hb hbs z) ⟨i, i, nm_r (e' := zmV mv py lo t s (b + 4)) (by rw [c]; exact zmV_t hb hbs z) (nm_r (za_p4 b) K)⟩⟩
  · refine br_f (by rw [c]; exact z) (nm_r (za_p4 b) ?_)
    rw [zmA_f hb hbs z, zmV_f hb hbs z]
    exact K
theorem yw_d5 {post : Int32 → SY → Prop} {t s : Nat} (ht : t < 32) (hs : s < 4) (h : post 5 (fe, fc, fn, fb, off, ear, hom, st, cs, upd ln (t * 4 + s) 9, ps, zrL lo t s, zrL py t s, zmA ma lo t s (s + 4 + 4), zmV mv py lo t s (s + 4 + 4))) :
    ∃ d, wY_deliver_167 post (nI t) (nI s) 5 fe fc fn fb d (nI s) off ear hom st cs ln ps lo py ma mv := by
  have K := yw_d167s (post := post) (fe := fe) (fc := fc) (fn := fn) (fb := fb) (off := off) (ear := ear) (hom := hom) (st := st) (cs := cs) (ln := ln) (ps := ps) (lo := lo) (py := py) (ma := ma) (mv := mv) (t := t) (s := s) (b := s) (d := 2) ht (by omega) (by omega) (yw_d167s ht (by omega) (by omega) (yw_d167e ht hs (by omega) (by omega) (by decide) h))
  rw [zmA_0 hs, zmV_0 hs] at K
  exact ⟨3, K⟩
theorem yw_dn {post : Int32 → SY → Prop} {t s : Nat} {x3 : Int32} (ht : t < 32) (hs : s < 4) (h5 : ¬ x3 = 5) (h8 : ¬ x3 = 8) (h : post x3 (fe, fc, fn, fb, off, ear, hom, st, cs, upd ln (t * 4 + s) 9, ps, zrL lo t s, zrL py t s, ma, mv)) :
    ∃ d, wY_deliver_167 post (nI t) (nI s) x3 fe fc fn fb d (nI s) off ear hom st cs ln ps lo py ma mv :=
  ⟨3, yw_d167n (by omega) h5 (yw_d167n (by omega) h5 (yw_d167e ht hs (by omega) (by omega) h8 h))⟩
theorem yw_d8 {post : Int32 → SY → Prop} {t s : Nat} (ht : t < 32) (hs : s < 4) (h : post 8 (fe, fc, fn, fb, off, ear, hom, upd st t 4, cs, zab (upd ln (t * 4 + s) 9) t, ps, zrL lo t s, zrL py t s, ma, mv)) :
    ∃ d, wY_deliver_167 post (nI t) (nI s) 8 fe fc fn fb d (nI s) off ear hom st cs ln ps lo py ma mv :=
  ⟨3, yw_d167n (by omega) (by decide) (yw_d167n (by omega) (by decide) (yw_d167e8 ht hs (by omega) (by omega) h))⟩
/-! ===== Y: read and write ===== -/
theorem yw_skip {post : Int32 → SY → Prop} {t k s n d : Nat} (ht : t < 32) (hk : k < 8) (hn : n ≤ 32) : ∀ c i, i + c ≤ n → (∀ u, i ≤ u → u < i + c → u = t ∨ lo (u * 8 + k) ≠ 2) →
    wY_read_84 post (nI t) (nI k) (nI s) d (nI (i + c)) fe fc fn (nI n) off ear hom st cs ln ps lo py ma mv → wY_read_84 post (nI t) (nI k) (nI s) (d + c) (nI i) fe fc fn (nI n) off ear hom st cs ln ps lo py ma mv := by
  intro c
  induction c with
  | zero => intro i _ _ h; exact h
  | succ c ih =>
    intro i hi hsk h
    have R := ih (i + 1) (by omega) (fun u h1 h2 => hsk u (by omega) (by omega)) (by rw [show i + 1 + c = i + (c + 1) by omega]; exact h)
    rw [show d + (c + 1) = d + c + 1 by omega]
    refine br_f (nI_ge (by omega) (by omega)) ?_
    by_cases z : i = t
    · subst z; exact br_t rfl (nm_r (nI_1 i) R)
    · refine br_f (zu_ne (by omega) (by omega) z) ⟨za_i8 (by omega) hk, br_f (by rw [za_c8 (by omega) hk]; rcases hsk i (Nat.le_refl i) (by omega) with e | e; exact absurd e z; exact e) (nm_r (nI_1 i) R)⟩
theorem yw_rend {post : Int32 → SY → Prop} {t k s n d : Nat} {r : Int32} (ht : t < 32) (hk : k < 8) (hs : s < 4) (hn : n ≤ 32) (h01 : ln (t * 4 + s) = 0 ∨ ln (t * 4 + s) = 1)
    (hv : ∀ Q : Int32 → Prop, Q r → wpY_valueAt Q (fe, fc, fn, nI n, off, ear, hom, st, cs, upd ln (t * 4 + s) 1, ps, upd lo (t * 8 + k) 1, py, ma, mv) (nI k) 2147483647)
    (h : post r (fe, fc, fn, nI n, off, ear, hom, st, cs, upd ln (t * 4 + s) 1, ps, upd lo (t * 8 + k) 1, py, ma, mv)) : wY_read_84 post (nI t) (nI k) (nI s) (d + 1) (nI n) fe fc fn (nI n) off ear hom st cs ln ps lo py ma mv := by
  have i := za_i4 ht hs
  have c := za_c4 ht hs
  have e : wY_read_171 post (nI t) (nI k) fe fc fn (nI n) off ear hom st cs (upd ln (t * 4 + s) 1) ps lo py ma mv := by
    refine ⟨za_i8 ht hk, nm_r (e' := upd lo (t * 8 + k) 1) (by rw [za_c8 ht hk]) ?_⟩
    exact hv _ h
  refine br_t (nI_le (Nat.le_refl n) (by omega)) ⟨i, ?_⟩
  rcases h01 with z | z
  · exact br_t (by rw [c]; exact z) ⟨i, nm_r (e' := upd ln (t * 4 + s) 1) (by rw [c]) e⟩
  · refine br_f (by rw [c, z]; decide) ?_
    rw [zu_id z] at e
    exact e
theorem yw_124Y {post : Int32 → SY → Prop} {t k s n : Nat} {w : Int32} (ht : t < 32) (hk : k < 8) (hs : s < 4) (hn : n ≤ 32) (h01 : ln (t * 4 + s) = 0 ∨ ln (t * 4 + s) = 1) (hf : ∀ u, u < n → u ≠ t → lo (u * 8 + k) = 0)
    (h : post 0 (fe, fc, fn, nI n, off, ear, hom, st, cs, upd ln (t * 4 + s) 1, ps, upd lo (t * 8 + k) 2, upd py (t * 8 + k) w, ma, mv)) : ∀ d i, i + d = n → wY_write_124 post (nI t) (nI k) w (nI s) fe fc fn (nI n) off ear hom st cs ln ps lo py ma mv (d + 1) (nI i) := by
  intro d
  induction d with
  | zero =>
    intro q hq
    obtain rfl : q = n := by omega
    have i := za_i4 ht hs
    have c := za_c4 ht hs
    have e : wY_write_189 post (nI t) (nI k) w fe fc fn (nI q) off ear hom st cs (upd ln (t * 4 + s) 1) ps lo py ma mv :=
      ⟨za_i8 ht hk, nm_r (e' := upd lo (t * 8 + k) 2) (by rw [za_c8 ht hk]) ⟨za_i8 ht hk, nm_r (e' := upd py (t * 8 + k) w) (by rw [za_c8 ht hk]) h⟩⟩
    refine br_t (nI_le (Nat.le_refl q) (by omega)) ⟨i, ?_⟩
    rcases h01 with z | z
    · exact br_t (by rw [c]; exact z) ⟨i, nm_r (e' := upd ln (t * 4 + s) 1) (by rw [c]) e⟩
    · refine br_f (by rw [c, z]; decide) ?_
      rw [zu_id z] at e
      exact e
  | succ d ih =>
    intro q hq
    have R := ih (q + 1) (by omega)
    refine br_f (nI_ge (by omega) (by omega)) ?_
    by_cases z : q = t
    · subst z; exact br_t rfl (nm_r (nI_1 q) R)
    · exact br_f (zu_ne (by omega) (by omega) z) ⟨za_i8 (by omega) hk, br_t (by rw [za_c8 (by omega) hk]; exact hf q (by omega) z) (nm_r (nI_1 q) R)⟩
theorem yw_124N {post : Int32 → SY → Prop} {t k s n : Nat} {w : Int32} (ht : t < 32) (hk : k < 8) (hn : n ≤ 32)
    (h : post (-5) (fe, fc, fn, nI n, off, ear, hom, st, cs, ln, ps, lo, py, ma, mv)) : ∀ d i, i + d = n → (∃ u, i ≤ u ∧ u < n ∧ u ≠ t ∧ ¬ lo (u * 8 + k) = 0) → wY_write_124 post (nI t) (nI k) w (nI s) fe fc fn (nI n) off ear hom st cs ln ps lo py ma mv (d + 1) (nI i) := by
  intro d
  induction d with
  | zero =>
    intro q hq hu
    obtain ⟨u, h1, h2, _⟩ := hu
    omega
  | succ d ih =>
    intro q hq hu
    refine br_f (nI_ge (by omega) (by omega)) ?_
    obtain ⟨u, h1, h2, h3, h4⟩ := hu
    by_cases z : q = t
    · exact br_t (by rw [z]) (nm_r (nI_1 q) (ih (q + 1) (by omega) ⟨u, by omega, h2, h3, h4⟩))
    · refine br_f (zu_ne (by omega) (by omega) z) ⟨za_i8 (by omega) hk, ?_⟩
      by_cases z2 : lo (q * 8 + k) = 0
      · refine br_t (by rw [za_c8 (by omega) hk]; exact z2) (nm_r (nI_1 q) (ih (q + 1) (by omega) ⟨u, ?_, h2, h3, h4⟩))
        rcases Nat.lt_or_ge q u with c | c
        · exact c
        · exfalso
          have : u = q := by omega
          subst this
          exact h4 z2
      · exact br_f (by rw [za_c8 (by omega) hk]; exact z2) h
end
end
section
/-- the relation at the head of a turn: both states are pictures of one invariant state -/
def i_Rel (k : Nat) (u : SX) (v : SY) : Prop := ∃ (E C N n : Nat) (off ear hom st cs ln ps sh ow px vs vv vc lt ls ll lo py ma mv : Nat → Int32), u = (nI E, nI C, nI N, nI n, off, ear, hom, st, cs, ln, ps, sh, ow, px, vs, vv, vc, lt, ls, ll) ∧ v = (nI E, nI C, nI N, nI n, off, ear, hom, st, cs, ln, ps, lo, py, ma, mv) ∧ zInv E C N n off ear hom st cs ln ps sh ow px vs vv vc lt ls ll lo py ma mv
theorem i_up {k : Nat} {u : SX} {v : SY} (h : i_Rel k u v) : i_Rel (k + 4) u v := h
theorem zz_el {k : Nat} {u : SX} {v : SY} {P : SX → SY → Prop} (h : ∀ (E C N n : Nat) (off ear hom st cs ln ps sh ow px vs vv vc lt ls ll lo py ma mv : Nat → Int32), zInv E C N n off ear hom st cs ln ps sh ow px vs vv vc lt ls ll lo py ma mv → P (nI E, nI C, nI N, nI n, off, ear, hom, st, cs, ln, ps, sh, ow, px, vs, vv, vc, lt, ls, ll) (nI E, nI C, nI N, nI n, off, ear, hom, st, cs, ln, ps, lo, py, ma, mv)) (I : i_Rel k u v) : P u v := by
  obtain ⟨E, C, N, n, off, ear, hom, st, cs, ln, ps, sh, ow, px, vs, vv, vc, lt, ls, ll, lo, py, ma, mv, rfl, rfl, H⟩ := I
  exact h E C N n off ear hom st cs ln ps sh ow px vs vv vc lt ls ll lo py ma mv H
theorem zz_in {k E C N n : Nat} {off ear hom st cs ln ps sh ow px vs vv vc lt ls ll lo py ma mv : Nat → Int32} (H : zInv E C N n off ear hom st cs ln ps sh ow px vs vv vc lt ls ll lo py ma mv) : i_Rel k (nI E, nI C, nI N, nI n, off, ear, hom, st, cs, ln, ps, sh, ow, px, vs, vv, vc, lt, ls, ll) (nI E, nI C, nI N, nI n, off, ear, hom, st, cs, ln, ps, lo, py, ma, mv) :=
  ⟨E, C, N, n, off, ear, hom, st, cs, ln, ps, sh, ow, px, vs, vv, vc, lt, ls, ll, lo, py, ma, mv, rfl, rfl, H⟩
/-! arguments -/
theorem zz_ix (v : Int32) {n : Nat} (hn : n ≤ 32) : (v < 0 ∨ nI n ≤ v) ∨ ∃ j : Nat, j < n ∧ v = nI j := by
  rcases pk_ix v (n := n) (by omega) with h | h | h
  · exact Or.inl (Or.inl h)
  · exact Or.inl (Or.inr h)
  · exact Or.inr h
theorem zz_4 (v : Int32) : (v < 0 ∨ 4 ≤ v) ∨ ∃ j : Nat, j < 4 ∧ v = nI j := zz_ix v (n := 4) (by omega)
theorem zz_8 (v : Int32) : (v < 0 ∨ 8 ≤ v) ∨ ∃ j : Nat, j < 8 ∧ v = nI j := zz_ix v (n := 8) (by omega)
theorem zy_b3 {v : Int32} {A B D : Prop} (hv : v < 0 ∨ 4 ≤ v) (a : A) (d : D) : (v < 0 → A) ∧ (¬ v < 0 → ((v ≤ 3 → B) ∧ (¬ v ≤ 3 → D))) := by
  rcases hv with hv | hv
  · exact br_t hv a
  · refine br_c (fun _ => a) (fun _ => br_f (fun c => ?_) d)
    exact absurd (Int32.le_trans hv c) (by decide)
theorem zy_b3s {v : Int32} {A B D : Prop} (hv : v < 0 ∨ 4 ≤ v) (a : A) (d : D) : (v < 0 → A) ∧ (¬ v < 0 → ((3 < v → D) ∧ (¬ 3 < v → B))) := by
  rcases hv with hv | hv
  · exact br_t hv a
  · refine br_c (fun _ => a) (fun _ => br_t ?_ d)
    rw [← zi_nle]
    intro c
    exact absurd (Int32.le_trans hv c) (by decide)
theorem zy_g3 {s : Nat} {A B D : Prop} (hs : s < 4) (b : B) : (nI s < 0 → A) ∧ (¬ nI s < 0 → ((nI s ≤ 3 → B) ∧ (¬ nI s ≤ 3 → D))) :=
  br_f (nI_pos (by omega)) (br_t (nI_le (b := 3) (by omega) (by decide)) b)
theorem zy_g3s {s : Nat} {A B D : Prop} (hs : s < 4) (b : B) : (nI s < 0 → A) ∧ (¬ nI s < 0 → ((3 < nI s → D) ∧ (¬ 3 < nI s → B))) :=
  br_f (nI_pos (by omega)) (br_f (nI_nlt (a := 3) (by omega) (by decide)) b)
theorem zy_b7 {v : Int32} {A B D : Prop} (hv : v < 0 ∨ 8 ≤ v) (a : A) (d : D) : (v < 0 → A) ∧ (¬ v < 0 → ((v ≤ 7 → B) ∧ (¬ v ≤ 7 → D))) := by
  rcases hv with hv | hv
  · exact br_t hv a
  · refine br_c (fun _ => a) (fun _ => br_f (fun c => ?_) d)
    exact absurd (Int32.le_trans hv c) (by decide)
theorem zy_b7s {v : Int32} {A B D : Prop} (hv : v < 0 ∨ 8 ≤ v) (a : A) (d : D) : (v < 0 → A) ∧ (¬ v < 0 → ((7 < v → D) ∧ (¬ 7 < v → B))) := by
  rcases hv with hv | hv
  · exact br_t hv a
  · refine br_c (fun _ => a) (fun _ => br_t ?_ d)
    rw [← zi_nle]
    intro c
    exact absurd (Int32.le_trans hv c) (by decide)
theorem zy_g7 {s : Nat} {A B D : Prop} (hs : s < 8) (b : B) : (nI s < 0 → A) ∧ (¬ nI s < 0 → ((nI s ≤ 7 → B) ∧ (¬ nI s ≤ 7 → D))) :=
  br_f (nI_pos (by omega)) (br_t (nI_le (b := 7) (by omega) (by decide)) b)
theorem zy_g7s {s : Nat} {A B D : Prop} (hs : s < 8) (b : B) : (nI s < 0 → A) ∧ (¬ nI s < 0 → ((7 < nI s → D) ∧ (¬ 7 < nI s → B))) :=
  br_f (nI_pos (by omega)) (br_f (nI_nlt (a := 7) (by omega) (by decide)) b)
/-! locks -/
theorem zK_2 {n : Nat} {sh ow px lo py : Nat → Int32} {k t : Nat} (h : zK n sh ow px lo py k) (ht : t < 32) (h2 : lo (t * 8 + k) = 2) : ow k = nI t ∧ px k = py (t * 8 + k) := by
  rcases h.2 with ⟨_, h3⟩ | ⟨w, hw, o, h3, h4, h5⟩
  · exact absurd h2 (h3 t ht)
  · by_cases e : t = w
    · subst e; exact ⟨o, h4⟩
    · exact absurd h2 (h5 t ht e)
theorem zK_n2 {n : Nat} {sh ow px lo py : Nat → Int32} {k t : Nat} (h : zK n sh ow px lo py k) (hn : n ≤ 32) (ht : t < 32) (h2 : lo (t * 8 + k) ≠ 2) : ¬ ow k = nI t := by
  intro c
  rcases h.2 with ⟨o, h3⟩ | ⟨w, hw, o, h3, h4, h5⟩
  · exact zu_m1 (a := t) (by omega) (c.symm.trans o)
  · have : t = w := (nI_eq (by omega) (by omega)).mp (c.symm.trans o)
    subst this
    exact h2 h3
section
variable {E C N n : Nat} {off ear hom st cs ln ps sh ow px vs vv vc lt ls ll lo py ma mv : Nat → Int32}
theorem zz_safe {s : Nat} (H : zInv E C N n off ear hom st cs ln ps sh ow px vs vv vc lt ls ll lo py ma mv) (hs : s < 4) : ∃ r, (∀ post : Int32 → Prop, post r → wpX_safe post (nI E, nI C, nI N, nI n, off, ear, hom, st, cs, ln, ps, sh, ow, px, vs, vv, vc, lt, ls, ll) (nI s)) ∧ (∀ post : Int32 → Prop, post r → wpY_safeTime post (nI E, nI C, nI N, nI n, off, ear, hom, st, cs, ln, ps, lo, py, ma, mv) (nI s)) := by
  have hn := zA_32 H.1
  obtain ⟨m, hm⟩ := H.2.2.2.2.2.1 s hs
  obtain ⟨r, h1, h2⟩ := xw_safe (fe := nI E) (fc := nI C) (fn := nI N) (fb := nI n) (off := off) (ear := ear) (hom := hom) (st := st) (cs := cs) (sh := sh) (ow := ow) (px := px) (vs := vs) (vv := vv) (vc := vc) hs hn hm (fun t hp => ((H.2.1 t).2.2.2.2 s hs hp).1)
  obtain ⟨r', h3, h4⟩ := yw_safe (fe := nI E) (fc := nI C) (fn := nI N) (off := off) (ear := ear) (hom := hom) (st := st) (cs := cs) (ln := ln) (ps := ps) (lo := lo) (py := py) (ma := ma) (mv := mv) hs hn
  have e := zSf_u h1 h3
  subst e
  exact ⟨r', h2, h4⟩
theorem zz_val {k : Nat} {ts : Int32} (H : zInv E C N n off ear hom st cs ln ps sh ow px vs vv vc lt ls ll lo py ma mv) (hk : k < 8) : ∃ r, (∀ post : Int32 → Prop, post r → wpX_valueAt post (nI E, nI C, nI N, nI n, off, ear, hom, st, cs, ln, ps, sh, ow, px, vs, vv, vc, lt, ls, ll) (nI k) ts) ∧ (∀ post : Int32 → Prop, post r → wpY_valueAt post (nI E, nI C, nI N, nI n, off, ear, hom, st, cs, ln, ps, lo, py, ma, mv) (nI k) ts) := by
  have hn := zA_32 H.1
  obtain ⟨m, hm⟩ := H.2.2.2.2.2.2.2 k hk
  obtain ⟨r, h1, h2⟩ := xw_val (fe := nI E) (fc := nI C) (fn := nI N) (fb := nI n) (off := off) (ear := ear) (hom := hom) (st := st) (ln := ln) (ps := ps) (sh := sh) (ow := ow) (px := px) (lt := lt) (ls := ls) (ll := ll) (ts := ts) hk hn hm
  obtain ⟨r', h3, h4⟩ := yw_val (fe := nI E) (fc := nI C) (fn := nI N) (off := off) (ear := ear) (hom := hom) (st := st) (cs := cs) (ln := ln) (ps := ps) (lo := lo) (py := py) (ma := ma) (mv := mv) (ts := ts) hk hn
  have e := zVal_u hm h1 h3
  subst e
  exact ⟨r', h2, h4⟩
theorem zz_cur {k : Nat} (H : zInv E C N n off ear hom st cs ln ps sh ow px vs vv vc lt ls ll lo py ma mv) (hk : k < 8) : ∃ r, (∀ post : Int32 → Prop, post r → wpX_currentValue post (nI E, nI C, nI N, nI n, off, ear, hom, st, cs, ln, ps, sh, ow, px, vs, vv, vc, lt, ls, ll) (nI k)) ∧ (∀ post : Int32 → Prop, post r → wpY_valueAt post (nI E, nI C, nI N, nI n, off, ear, hom, st, cs, ln, ps, lo, py, ma, mv) (nI k) 2147483647) := by
  have hn := zA_32 H.1
  obtain ⟨m, hm⟩ := H.2.2.2.2.2.2.2 k hk
  obtain ⟨r, h1, h2⟩ := xw_cur (fe := nI E) (fc := nI C) (fn := nI N) (fb := nI n) (off := off) (ear := ear) (hom := hom) (st := st) (ln := ln) (ps := ps) (sh := sh) (ow := ow) (px := px) (lt := lt) (ls := ls) (ll := ll) hk hn hm
  obtain ⟨r', h3, h4⟩ := yw_val (fe := nI E) (fc := nI C) (fn := nI N) (off := off) (ear := ear) (hom := hom) (st := st) (cs := cs) (ln := ln) (ps := ps) (lo := lo) (py := py) (ma := ma) (mv := mv) (ts := 2147483647) hk hn
  have e := zVal_u hm h1 h3
  subst e
  exact ⟨r', h2, h4⟩
theorem zz_t35 {ts : Int32} (H : zInv E C N n off ear hom st cs ln ps sh ow px vs vv vc lt ls ll lo py ma mv) : ∀ d i x, i + d = 8 → ∃ r, (∀ post : Int32 → Prop, post r → wX_total_35 post ts (nI E) (nI C) (nI N) (nI n) off ear hom st cs ln ps sh ow px vs vv vc lt ls ll (d + 1) x (nI i)) ∧ (∀ post : Int32 → Prop, post r → wY_total_35 post ts (nI E) (nI C) (nI N) (nI n) off ear hom st cs ln ps lo py ma mv (d + 1) x (nI i)) := by
  intro d
  induction d with
  | zero =>
    intro i x hi
    obtain rfl : i = 8 := by omega
    exact ⟨x, fun post h => br_t (by decide) h, fun post h => br_t (by decide) h⟩
  | succ d ih =>
    intro i x hi
    obtain ⟨w, hX, hY⟩ := zz_val (ts := ts) H (k := i) (by omega)
    obtain ⟨r, h1, h2⟩ := ih (i + 1) (x + w) (by omega)
    have g : ¬ (8 : Int32) ≤ nI i := nI_ge (b := 8) (by omega) (by decide)
    exact ⟨r, fun post h => br_f g (hX _ (nm_e (nm_r (nI_1 i) (h1 post h)))), fun post h => br_f g (hY _ (nm_e (nm_r (nI_1 i) (h2 post h))))⟩
theorem zz_t8 {ts : Int32} (H : zInv E C N n off ear hom st cs ln ps sh ow px vs vv vc lt ls ll lo py ma mv) : ∀ d i, i + d = 4 → ∃ r, (∀ post : Int32 → Prop, post r → wX_total_8 post ts (nI E) (nI C) (nI N) (nI n) off ear hom st cs ln ps sh ow px vs vv vc lt ls ll (d + 1) (nI i)) ∧ (∀ post : Int32 → Prop, post r → wY_total_8 post ts (nI E) (nI C) (nI N) (nI n) off ear hom st cs ln ps lo py ma mv (d + 1) (nI i)) := by
  intro d
  induction d with
  | zero =>
    intro i hi
    obtain rfl : i = 4 := by omega
    obtain ⟨r, h1, h2⟩ := zz_t35 (ts := ts) H 8 0 0 rfl
    exact ⟨r, fun post h => br_t (by decide) ⟨9, h1 post h⟩, fun post h => br_t (by decide) ⟨9, h2 post h⟩⟩
  | succ d ih =>
    intro i hi
    obtain ⟨w, hX, hY⟩ := zz_safe H (s := i) (by omega)
    have g : ¬ (4 : Int32) ≤ nI i := nI_ge (b := 4) (by omega) (by decide)
    by_cases z : ts ≤ w
    · obtain ⟨r, h1, h2⟩ := ih (i + 1) (by omega)
      exact ⟨r, fun post h => br_f g (hX _ (br_t z (nm_r (nI_1 i) (h1 post h)))), fun post h => br_f g (hY _ (br_t z (nm_r (nI_1 i) (h2 post h))))⟩
    · exact ⟨-6, fun post h => br_f g (hX _ (br_f z h)), fun post h => br_f g (hY _ (br_f z h))⟩
end
/-! ===== owed: the queries ===== -/
theorem i_vc_total {k : Nat} {u : SX} {v : SY} (I : i_Rel k u v) (hk : k + 4 ≤ 2050) (v1 : Int32) : wpX_total (fun r => wpY_total (fun r' => r' = r ∧ i_Rel (k + 4) u v) v v1) u v1 := by
  refine zz_el (P := fun u v => wpX_total (fun r => wpY_total (fun r' => r' = r ∧ i_Rel (k + 4) u v) v v1) u v1) ?_ I
  intro E C N n off ear hom st cs ln ps sh ow px vs vv vc lt ls ll lo py ma mv H
  have J : i_Rel (k + 4) (nI E, nI C, nI N, nI n, off, ear, hom, st, cs, ln, ps, sh, ow, px, vs, vv, vc, lt, ls, ll) (nI E, nI C, nI N, nI n, off, ear, hom, st, cs, ln, ps, lo, py, ma, mv) := zz_in H
  by_cases z : 0 ≤ v1
  · obtain ⟨r, h1, h2⟩ := zz_t8 (ts := v1) H 4 0 rfl
    exact br_t z ⟨5, h1 _ (br_t z ⟨5, h2 _ ⟨rfl, J⟩⟩)⟩
  · exact br_f z (br_f z ⟨rfl, J⟩)
theorem i_vc_snapshot {k : Nat} {u : SX} {v : SY} (I : i_Rel k u v) (hk : k + 4 ≤ 2050) (v1 : Int32) (v2 : Int32) : wpX_snapshot (fun r => wpY_snapshot (fun r' => r' = r ∧ i_Rel (k + 4) u v) v v1 v2) u v1 v2 := by
  refine zz_el (P := fun u v => wpX_snapshot (fun r => wpY_snapshot (fun r' => r' = r ∧ i_Rel (k + 4) u v) v v1 v2) u v1 v2) ?_ I
  intro E C N n off ear hom st cs ln ps sh ow px vs vv vc lt ls ll lo py ma mv H
  have J : i_Rel (k + 4) (nI E, nI C, nI N, nI n, off, ear, hom, st, cs, ln, ps, sh, ow, px, vs, vv, vc, lt, ls, ll) (nI E, nI C, nI N, nI n, off, ear, hom, st, cs, ln, ps, lo, py, ma, mv) := zz_in H
  unfold wpX_snapshot
  rcases zz_8 v1 with b | ⟨q, hq, rfl⟩
  · exact xw_keyB b (br_t rfl (zy_b7s b ⟨rfl, J⟩ ⟨rfl, J⟩))
  · refine xw_key hq (br_f (by decide) ?_)
    by_cases z : 0 ≤ v2
    · refine br_t z ⟨by decide, ?_⟩
      rw [za_rem hq]
      obtain ⟨w, hX, hY⟩ := zz_safe H (s := q % 4) (by omega)
      obtain ⟨r, h1, h2⟩ := zz_val (ts := v2) H (k := q) hq
      refine hX _ ?_
      by_cases z2 : v2 ≤ w
      · refine br_t z2 (h1 _ (zy_g7s hq (br_t z ⟨by decide, ?_⟩)))
        rw [za_rem hq]
        exact hY _ (br_t z2 (h2 _ ⟨rfl, J⟩))
      · refine br_f z2 (zy_g7s hq (br_t z ⟨by decide, ?_⟩))
        rw [za_rem hq]
        exact hY _ (br_f z2 ⟨rfl, J⟩)
    · exact br_f z (zy_g7s hq (br_f z ⟨rfl, J⟩))
theorem i_vc_safeTime {k : Nat} {u : SX} {v : SY} (I : i_Rel k u v) (hk : k + 4 ≤ 2050) (v1 : Int32) : wpX_safeTime (fun r => wpY_safeTime (fun r' => r' = r ∧ i_Rel (k + 4) u v) v v1) u v1 := by
  refine zz_el (P := fun u v => wpX_safeTime (fun r => wpY_safeTime (fun r' => r' = r ∧ i_Rel (k + 4) u v) v v1) u v1) ?_ I
  intro E C N n off ear hom st cs ln ps sh ow px vs vv vc lt ls ll lo py ma mv H
  have J : i_Rel (k + 4) (nI E, nI C, nI N, nI n, off, ear, hom, st, cs, ln, ps, sh, ow, px, vs, vv, vc, lt, ls, ll) (nI E, nI C, nI N, nI n, off, ear, hom, st, cs, ln, ps, lo, py, ma, mv) := zz_in H
  unfold wpX_safeTime
  rcases zz_4 v1 with b | ⟨s, hs, rfl⟩
  · exact xw_shardB b (br_t rfl (zy_b3 b ⟨rfl, J⟩ ⟨rfl, J⟩))
  · refine xw_shard hs (br_f (by decide) ?_)
    obtain ⟨w, hX, hY⟩ := zz_safe H hs
    exact hX _ (hY _ ⟨rfl, J⟩)
theorem i_vc_clock {k : Nat} {u : SX} {v : SY} (I : i_Rel k u v) (hk : k + 4 ≤ 2050) (v1 : Int32) (v2 : Int32) : wpX_clock (fun r => wpY_clock (fun r' => r' = r ∧ i_Rel (k + 4) u v) v v1 v2) u v1 v2 := by
  refine zz_el (P := fun u v => wpX_clock (fun r => wpY_clock (fun r' => r' = r ∧ i_Rel (k + 4) u v) v v1 v2) u v1 v2) ?_ I
  intro E C N n off ear hom st cs ln ps sh ow px vs vv vc lt ls ll lo py ma mv H
  have J : i_Rel (k + 4) (nI E, nI C, nI N, nI n, off, ear, hom, st, cs, ln, ps, sh, ow, px, vs, vv, vc, lt, ls, ll) (nI E, nI C, nI N, nI n, off, ear, hom, st, cs, ln, ps, lo, py, ma, mv) := zz_in H
  unfold wpX_clock
  rcases zz_4 v1 with b | ⟨s, hs, rfl⟩
  · exact xw_shardB b (br_t rfl (zy_b3s b ⟨rfl, J⟩ ⟨rfl, J⟩))
  · refine xw_shard hs (br_f (by decide) ?_)
    by_cases z0 : v2 < 0
    · exact br_t z0 (zy_g3s hs (br_t z0 ⟨rfl, J⟩))
    · by_cases z1 : v2 ≤ 1
      · by_cases z : v2 = 0
        · exact br_f z0 (br_t z1 (br_t z ⟨vp_in_nI hs (by omega), zy_g3s hs (br_f z0 (br_t z1 (br_t z ⟨vp_in_nI hs (by omega), rfl, J⟩)))⟩))
        · exact br_f z0 (br_t z1 (br_f z (xw_latest hs (zy_g3s hs (br_f z0 (br_t z1 (br_f z (yw_latest hs ⟨rfl, J⟩))))))))
      · exact br_f z0 (br_f z1 (zy_g3s hs (br_f z0 (br_f z1 ⟨rfl, J⟩))))
theorem i_vc_state {k : Nat} {u : SX} {v : SY} (I : i_Rel k u v) (hk : k + 4 ≤ 2050) (v1 : Int32) : wpX_state (fun r => wpY_state (fun r' => r' = r ∧ i_Rel (k + 4) u v) v v1) u v1 := by
  refine zz_el (P := fun u v => wpX_state (fun r => wpY_state (fun r' => r' = r ∧ i_Rel (k + 4) u v) v v1) u v1) ?_ I
  intro E C N n off ear hom st cs ln ps sh ow px vs vv vc lt ls ll lo py ma mv H
  have J : i_Rel (k + 4) (nI E, nI C, nI N, nI n, off, ear, hom, st, cs, ln, ps, sh, ow, px, vs, vv, vc, lt, ls, ll) (nI E, nI C, nI N, nI n, off, ear, hom, st, cs, ln, ps, lo, py, ma, mv) := zz_in H
  have hn := zA_32 H.1
  unfold wpX_state wpY_state
  rcases zz_ix v1 hn with b | ⟨t, ht, rfl⟩
  · exact xw_knownB b (br_t rfl (yw_txB b (br_f (by decide) ⟨rfl, J⟩)))
  · have v : vp_in (nI t) 32 := vp_in_nI (by omega) (by omega)
    exact xw_known hn ht (br_f (by decide) ⟨v, yw_tx hn ht (br_t rfl ⟨v, rfl, J⟩)⟩)
theorem i_vc_stamp {k : Nat} {u : SX} {v : SY} (I : i_Rel k u v) (hk : k + 4 ≤ 2050) (v1 : Int32) (v2 : Int32) : wpX_stamp (fun r => wpY_stamp (fun r' => r' = r ∧ i_Rel (k + 4) u v) v v1 v2) u v1 v2 := by
  refine zz_el (P := fun u v => wpX_stamp (fun r => wpY_stamp (fun r' => r' = r ∧ i_Rel (k + 4) u v) v v1 v2) u v1 v2) ?_ I
  intro E C N n off ear hom st cs ln ps sh ow px vs vv vc lt ls ll lo py ma mv H
  have J : i_Rel (k + 4) (nI E, nI C, nI N, nI n, off, ear, hom, st, cs, ln, ps, sh, ow, px, vs, vv, vc, lt, ls, ll) (nI E, nI C, nI N, nI n, off, ear, hom, st, cs, ln, ps, lo, py, ma, mv) := zz_in H
  have hn := zA_32 H.1
  unfold wpX_stamp wpY_stamp
  rcases zz_ix v1 hn with b | ⟨t, ht, rfl⟩
  · exact xw_knownB b (br_t rfl (yw_txB b (br_f (by decide) ⟨rfl, J⟩)))
  · have v : vp_in (nI t) 32 := vp_in_nI (by omega) (by omega)
    refine xw_known hn ht (br_f (by decide) ?_)
    by_cases z0 : v2 < 0
    · exact br_t z0 (yw_tx hn ht (br_t rfl (br_t z0 ⟨rfl, J⟩)))
    · by_cases z1 : v2 ≤ 4
      · by_cases z : v2 = 4
        · refine br_f z0 (br_t z1 (br_t z ⟨v, ?_⟩))
          by_cases s2 : st (nI t).toNatClampNeg = 2
          · exact br_t s2 (br_f (by decide) ⟨v, yw_tx hn ht (br_t rfl (br_f z0 (br_t z1 (br_t z ⟨v, br_t s2 ⟨v, rfl, J⟩⟩))))⟩)
          · by_cases s3 : st (nI t).toNatClampNeg = 3
            · exact br_f s2 ⟨v, br_t s3 (br_f (by decide) ⟨v, yw_tx hn ht (br_t rfl (br_f z0 (br_t z1 (br_t z ⟨v, br_f s2 ⟨v, br_t s3 ⟨v, rfl, J⟩⟩⟩))))⟩)⟩
            · exact br_f s2 ⟨v, br_f s3 (br_t rfl (yw_tx hn ht (br_t rfl (br_f z0 (br_t z1 (br_t z ⟨v, br_f s2 ⟨v, br_f s3 ⟨rfl, J⟩⟩⟩))))))⟩
        · obtain ⟨s, hs, rfl⟩ : ∃ s, s < 4 ∧ v2 = nI s := by
            obtain ⟨s, h1, rfl⟩ := nI_of2 (n := 4) (by decide) z0 z1
            refine ⟨s, ?_, rfl⟩
            rcases Nat.lt_or_ge s 4 with c | c
            · exact c
            · exfalso; apply z
              rw [show s = 4 by omega]; rfl
          by_cases hp : zPr (ln (t * 4 + s))
          · exact br_f z0 (br_t z1 (br_f z (xw_prepY (by omega) hs hp (br_f (by decide) ⟨za_i4 (by omega) hs, yw_tx hn ht (br_t rfl (br_f z0 (br_t z1 (br_f z (yw_prepY (by omega) hs hp (br_f (by decide) ⟨za_i4 (by omega) hs, rfl, J⟩))))))⟩))))
          · exact br_f z0 (br_t z1 (br_f z (xw_prepN (by omega) hs hp (br_t rfl (yw_tx hn ht (br_t rfl (br_f z0 (br_t z1 (br_f z (yw_prepN (by omega) hs hp (br_t rfl ⟨rfl, J⟩)))))))))))
      · exact br_f z0 (br_f z1 (yw_tx hn ht (br_t rfl (br_f z0 (br_f z1 ⟨rfl, J⟩)))))
theorem i_vc_link {k : Nat} {u : SX} {v : SY} (I : i_Rel k u v) (hk : k + 4 ≤ 2050) (v1 : Int32) (v2 : Int32) : wpX_link (fun r => wpY_link (fun r' => r' = r ∧ i_Rel (k + 4) u v) v v1 v2) u v1 v2 := by
  refine zz_el (P := fun u v => wpX_link (fun r => wpY_link (fun r' => r' = r ∧ i_Rel (k + 4) u v) v v1 v2) u v1 v2) ?_ I
  intro E C N n off ear hom st cs ln ps sh ow px vs vv vc lt ls ll lo py ma mv H
  have J : i_Rel (k + 4) (nI E, nI C, nI N, nI n, off, ear, hom, st, cs, ln, ps, sh, ow, px, vs, vv, vc, lt, ls, ll) (nI E, nI C, nI N, nI n, off, ear, hom, st, cs, ln, ps, lo, py, ma, mv) := zz_in H
  have hn := zA_32 H.1
  unfold wpX_link wpY_link
  rcases zz_ix v1 hn with b | ⟨t, ht, rfl⟩
  · exact xw_knownB b (br_t rfl (yw_txB b (br_f (by decide) ⟨rfl, J⟩)))
  · refine xw_known hn ht (br_f (by decide) ?_)
    rcases zz_4 v2 with b | ⟨s, hs, rfl⟩
    · exact xw_shardB b (br_t rfl (yw_tx hn ht (br_t rfl (zy_b3 b ⟨rfl, J⟩ ⟨rfl, J⟩))))
    · have v := za_i4 (t := t) (by omega) hs
      exact xw_shard hs (br_f (by decide) ⟨v, yw_tx hn ht (br_t rfl (zy_g3 hs ⟨v, rfl, J⟩))⟩)
theorem i_vc_held {k : Nat} {u : SX} {v : SY} (I : i_Rel k u v) (hk : k + 4 ≤ 2050) (v1 : Int32) (v2 : Int32) : wpX_held (fun r => wpY_held (fun r' => r' = r ∧ i_Rel (k + 4) u v) v v1 v2) u v1 v2 := by
  refine zz_el (P := fun u v => wpX_held (fun r => wpY_held (fun r' => r' = r ∧ i_Rel (k + 4) u v) v v1 v2) u v1 v2) ?_ I
  intro E C N n off ear hom st cs ln ps sh ow px vs vv vc lt ls ll lo py ma mv H
  have J : i_Rel (k + 4) (nI E, nI C, nI N, nI n, off, ear, hom, st, cs, ln, ps, sh, ow, px, vs, vv, vc, lt, ls, ll) (nI E, nI C, nI N, nI n, off, ear, hom, st, cs, ln, ps, lo, py, ma, mv) := zz_in H
  have hn := zA_32 H.1
  unfold wpX_held wpY_held
  rcases zz_ix v1 hn with b | ⟨t, ht, rfl⟩
  · exact xw_knownB b (br_t rfl (yw_txB b (br_f (by decide) ⟨rfl, J⟩)))
  · refine xw_known hn ht (br_f (by decide) ?_)
    rcases zz_8 v2 with b | ⟨q, hq, rfl⟩
    · exact xw_keyB b (br_t rfl (yw_tx hn ht (br_t rfl (zy_b7 b ⟨rfl, J⟩ ⟨rfl, J⟩))))
    · have v8 : vp_in (nI q) 8 := vp_in_nI hq (by omega)
      have c8 : (nI q).toNatClampNeg = q := nI_clamp (by omega)
      have w := za_i8 (t := t) (by omega) hq
      have c := za_c8 (t := t) (by omega) hq
      have hK := H.2.2.2.1 q hq
      refine xw_key hq (br_f (by decide) ⟨v8, ?_⟩)
      rcases (H.2.1 t).2.1 q hq with e | ⟨e | e, _⟩
      · have o := zK_n2 hK hn (t := t) (by omega) (by rw [e]; decide)
        have hb : bt (sh q) t = false := by
          rcases hbb : bt (sh q) t with _ | _
          · rfl
          · have := (hK.1 t (by omega)).mp hbb
            rw [e] at this; exact absurd this (by decide)
        exact br_f (by rw [c8]; exact o) ⟨v8, br_t (by rw [c8]; exact (zb_and0 (by omega)).mpr hb) (yw_tx hn ht (br_t rfl (zy_g7 hq ⟨w, br_t (by rw [c]; exact e) ⟨rfl, J⟩⟩)))⟩
      · have o := zK_n2 hK hn (t := t) (by omega) (by rw [e]; decide)
        have hb : bt (sh q) t = true := (hK.1 t (by omega)).mpr e
        exact br_f (by rw [c8]; exact o) ⟨v8, br_f (by rw [c8, zb_and0 (by omega), hb]; decide) (yw_tx hn ht (br_t rfl (zy_g7 hq ⟨w, br_f (by rw [c, e]; decide) ⟨w, br_t (by rw [c]; exact e) ⟨rfl, J⟩⟩⟩)))⟩
      · obtain ⟨o, hp⟩ := zK_2 hK (t := t) (by omega) e
        exact br_t (by rw [c8]; exact o) ⟨v8, yw_tx hn ht (br_t rfl (zy_g7 hq ⟨w, br_f (by rw [c, e]; decide) ⟨w, br_f (by rw [c, e]; decide) ⟨w, by rw [c, c8]; exact hp.symm, J⟩⟩⟩))⟩
end
section
/-! ===== owed: begin, commit, abort, the clocks ===== -/
theorem zz_low {E N : Nat} {o : Int32} (hE : E ≤ 20) (hN : N ≤ 100000) (h1 : -(E : Int) ≤ o.toInt) (h2 : o.toInt ≤ E) : (nI N + o - nI E).toInt = N + o.toInt - E := by
  have eN : (nI N).toInt = N := nI_toInt (by omega)
  have eE : (nI E).toInt = E := nI_toInt (by omega)
  have e1 : (nI N + o).toInt = N + o.toInt := by
    rw [Jvm.Kit.i32_add (by rw [eN]; omega) (by rw [eN]; omega), eN]
  rw [Jvm.Kit.i32_sub (by rw [e1, eE]; omega) (by rw [e1, eE]; omega), e1, eE]
theorem zz_lat {E N : Nat} {o : Int32} (hE : E ≤ 20) (hN : N ≤ 100000) (h1 : -(E : Int) ≤ o.toInt) (h2 : o.toInt ≤ E) : (nI N + o + nI E + 1).toInt = N + o.toInt + E + 1 := by
  have eN : (nI N).toInt = N := nI_toInt (by omega)
  have eE : (nI E).toInt = E := nI_toInt (by omega)
  have e1 : (nI N + o).toInt = N + o.toInt := by
    rw [Jvm.Kit.i32_add (by rw [eN]; omega) (by rw [eN]; omega), eN]
  have e2 : (nI N + o + nI E).toInt = N + o.toInt + E := by
    rw [Jvm.Kit.i32_add (by rw [e1, eE]; omega) (by rw [e1, eE]; omega), e1, eE]
  have e3 : (1 : Int32).toInt = 1 := by decide
  rw [Jvm.Kit.i32_add (by rw [e2, e3]; omega) (by rw [e2, e3]; omega), e2, e3]
theorem i_vc_begin {k : Nat} {u : SX} {v : SY} (I : i_Rel k u v) (hk : k + 4 ≤ 2050) (v1 : Int32) : wpX_begin (fun r u' => wpY_begin (fun r' v' => r' = r ∧ i_Rel (k + 4) u' v') v v1) u v1 := by
  refine zz_el (P := fun u v => wpX_begin (fun r u' => wpY_begin (fun r' v' => r' = r ∧ i_Rel (k + 4) u' v') v v1) u v1) ?_ I
  intro E C N n off ear hom st cs ln ps sh ow px vs vv vc lt ls ll lo py ma mv H
  have J : i_Rel (k + 4) (nI E, nI C, nI N, nI n, off, ear, hom, st, cs, ln, ps, sh, ow, px, vs, vv, vc, lt, ls, ll) (nI E, nI C, nI N, nI n, off, ear, hom, st, cs, ln, ps, lo, py, ma, mv) := zz_in H
  have hn := zA_32 H.1
  unfold wpX_begin
  rcases zz_4 v1 with b | ⟨h, hh, rfl⟩
  · exact xw_shardB b (br_t rfl (zy_b3 b ⟨rfl, J⟩ ⟨rfl, J⟩))
  · refine xw_shard hh (br_f (by decide) ?_)
    have hC := H.1.2.1
    by_cases z : n < C
    · have v : vp_in (nI n) 32 := vp_in_nI (by omega) (by omega)
      have c : (nI n).toNatClampNeg = n := nI_clamp (by omega)
      have s0 := (H.2.2.1 n (Nat.le_refl n)).1
      exact br_t (nI_lt z (by omega)) ⟨v, nm_r (e' := upd hom n (nI h)) (by rw [c]) ⟨v, nm_r (e' := st) (by rw [c]; exact zu_id s0) (nm_r (nI_1 n) (zy_g3 hh (br_t (nI_lt z (by omega)) ⟨v, nm_r (e' := upd hom n (nI h)) (by rw [c]) (nm_r (nI_1 n) ⟨nI_pred n, zz_in (zq_begin H z hh)⟩)⟩)))⟩⟩
    · exact br_f (nI_nlt (by omega) (by omega)) (zy_g3 hh (br_f (nI_nlt (by omega) (by omega)) ⟨rfl, J⟩))
section
variable {E C N n : Nat} {off ear hom st cs ln ps sh ow px vs vv vc lt ls ll lo py ma mv : Nat → Int32}
theorem zz_dec {Q : SX → Prop} {t : Nat} (H : zInv E C N n off ear hom st cs ln ps sh ow px vs vv vc lt ls ll lo py ma mv) (ht : t < n) (hst : st t = 0 ∨ st t = 1) (hal : ∀ s, s < 4 → ln (t * 4 + s) = 0 ∨ ln (t * 4 + s) = 4)
    (K : ∀ h, h < 4 → hom t = nI h → ∀ lt' ls' ll', zInv E C N n off ear hom (upd st t 2) (upd cs t (zdm ln ps t (nI N + off h + nI E + 1) 4)) ln ps sh ow px vs vv vc lt' ls' ll' lo py ma mv →
      Q (nI E, nI C, nI N, nI n, off, ear, hom, upd st t 2, upd cs t (zdm ln ps t (nI N + off h + nI E + 1) 4), ln, ps, sh, ow, px, vs, vv, vc, lt', ls', ll')) : wpX_decide Q (nI E, nI C, nI N, nI n, off, ear, hom, st, cs, ln, ps, sh, ow, px, vs, vv, vc, lt, ls, ll) (nI t) := by
  have hn := zA_32 H.1
  obtain ⟨h, hh, eh⟩ := H.1.2.2.2.2.2 t ht
  obtain ⟨m, hm⟩ := H.2.2.2.2.2.2.1 h hh
  have hn2 : ¬ st t = 2 := by rcases hst with e | e <;> (rw [e]; decide)
  have hm32 : m < n := zL_lt hn hm ht (fun c => hn2 c.1)
  refine xw_dec (by omega) hh eh (by omega) hm.1 (fun p h1 h2 h3 => ?_)
  exact K h hh eh _ _ _ (zq_dec H ht hst hal (fun s hs e => zdm_ge 4 s hs e) hh eh hm h1 h2 h3)
end
theorem i_vc_commit {k : Nat} {u : SX} {v : SY} (I : i_Rel k u v) (hk : k + 4 ≤ 2050) (v1 : Int32) : wpX_commit (fun r u' => wpY_commit (fun r' v' => r' = r ∧ i_Rel (k + 4) u' v') v v1) u v1 := by
  refine zz_el (P := fun u v => wpX_commit (fun r u' => wpY_commit (fun r' v' => r' = r ∧ i_Rel (k + 4) u' v') v v1) u v1) ?_ I
  intro E C N n off ear hom st cs ln ps sh ow px vs vv vc lt ls ll lo py ma mv H
  have J : i_Rel (k + 4) (nI E, nI C, nI N, nI n, off, ear, hom, st, cs, ln, ps, sh, ow, px, vs, vv, vc, lt, ls, ll) (nI E, nI C, nI N, nI n, off, ear, hom, st, cs, ln, ps, lo, py, ma, mv) := zz_in H
  have hn := zA_32 H.1
  unfold wpX_commit wpY_commit
  rcases zz_ix v1 hn with b | ⟨t, ht, rfl⟩
  · exact xw_knownB b (br_t rfl (yw_txB b (br_f (by decide) ⟨rfl, J⟩)))
  · have v : vp_in (nI t) 32 := vp_in_nI (by omega) (by omega)
    have c : (nI t).toNatClampNeg = t := nI_clamp (by omega)
    refine xw_known hn ht (br_f (by decide) ⟨v, ?_⟩)
    by_cases z : st t = 0
    · refine br_t (by rw [c]; exact z) ?_
      obtain ⟨h, hh, eh⟩ := H.1.2.2.2.2.2 t ht
      refine xw_all (by omega) (fun hal => br_f (by decide) ?_) (fun hal => br_t rfl ⟨v, nm_r (e' := upd st t 1) (by rw [c]) ?_⟩)
      · have hal' : ∀ s, s < 4 → ln (t * 4 + s) = 0 := fun s hs => by rcases hal s hs with e | e <;> exact e
        refine zz_dec H ht (Or.inl z) (fun s hs => Or.inl (hal' s hs)) (fun h hh eh lt' ls' ll' H' => ?_)
        exact yw_tx hn ht (br_t rfl ⟨v, br_t (by rw [c]; exact z) (nm_r (za_m4 t) ⟨5, yw_c28 (by omega) hh eh (fun _ => ⟨rfl, zz_in H'⟩) (fun c => absurd hal' c) 4 0 1 rfl (Or.inl ⟨rfl, fun s hs => absurd hs (Nat.not_lt_zero s)⟩)⟩)⟩)
      · have hal' : ¬ ∀ s, s < 4 → ln (t * 4 + s) = 0 := fun c => hal (fun s hs => Or.inl (c s hs))
        refine xw_chg (by omega) ?_
        exact yw_tx hn ht (br_t rfl ⟨v, br_t (by rw [c]; exact z) (nm_r (za_m4 t) ⟨5, yw_c28 (by omega) hh eh (fun c => absurd c hal') (fun _ => ⟨rfl, zz_in (zq_com H ht z)⟩) 4 0 1 rfl (Or.inl ⟨rfl, fun s hs => absurd hs (Nat.not_lt_zero s)⟩)⟩)⟩)
    · exact br_f (by rw [c]; exact z) (yw_tx hn ht (br_t rfl ⟨v, br_f (by rw [c]; exact z) ⟨rfl, J⟩⟩))
theorem i_vc_abort {k : Nat} {u : SX} {v : SY} (I : i_Rel k u v) (hk : k + 4 ≤ 2050) (v1 : Int32) : wpX_abort (fun r u' => wpY_abort (fun r' v' => r' = r ∧ i_Rel (k + 4) u' v') v v1) u v1 := by
  refine zz_el (P := fun u v => wpX_abort (fun r u' => wpY_abort (fun r' v' => r' = r ∧ i_Rel (k + 4) u' v') v v1) u v1) ?_ I
  intro E C N n off ear hom st cs ln ps sh ow px vs vv vc lt ls ll lo py ma mv H
  have J : i_Rel (k + 4) (nI E, nI C, nI N, nI n, off, ear, hom, st, cs, ln, ps, sh, ow, px, vs, vv, vc, lt, ls, ll) (nI E, nI C, nI N, nI n, off, ear, hom, st, cs, ln, ps, lo, py, ma, mv) := zz_in H
  have hn := zA_32 H.1
  unfold wpX_abort wpY_abort
  rcases zz_ix v1 hn with b | ⟨t, ht, rfl⟩
  · exact xw_knownB b (br_t rfl (yw_txB b (br_f (by decide) ⟨rfl, J⟩)))
  · have v : vp_in (nI t) 32 := vp_in_nI (by omega) (by omega)
    have c : (nI t).toNatClampNeg = t := nI_clamp (by omega)
    refine xw_known hn ht (br_f (by decide) ⟨v, ?_⟩)
    by_cases z : st t = 0
    · refine br_t (by rw [c]; exact z) ?_
      unfold wX_abort_32 wY_abort_32
      exact xw_abort (by omega) (yw_tx hn ht (br_t rfl ⟨v, br_t (by rw [c]; exact z) (yw_ab (by omega) ⟨rfl, zz_in (zq_ab H ht (Or.inl z) (fun _ _ _ _ => rfl))⟩)⟩))
    · by_cases z1 : st t = 1
      · refine br_f (by rw [c]; exact z) ⟨v, br_t (by rw [c]; exact z1) ?_⟩
        unfold wX_abort_32 wY_abort_32
        exact xw_abort (by omega) (yw_tx hn ht (br_t rfl ⟨v, br_f (by rw [c]; exact z) ⟨v, br_t (by rw [c]; exact z1) (yw_ab (by omega) ⟨rfl, zz_in (zq_ab H ht (Or.inr z1) (fun _ _ _ _ => rfl))⟩)⟩⟩))
      · exact br_f (by rw [c]; exact z) ⟨v, br_f (by rw [c]; exact z1) (yw_tx hn ht (br_t rfl ⟨v, br_f (by rw [c]; exact z) ⟨v, br_f (by rw [c]; exact z1) ⟨rfl, J⟩⟩⟩))⟩
theorem zz_er {E N : Nat} {off ear : Nat → Int32} {s : Nat} (hE : E ≤ 20) (hN : N ≤ 100000) (hs : s < 4) (h1 : -(E : Int) ≤ (off s).toInt) (h2 : (off s).toInt ≤ E) (h3 : (ear s).toInt ≤ N) : zE E N (off s) (zerI (nI N) (nI E) off ear 4 s) := by
  have e := zz_low hE hN h1 h2
  unfold zerI
  by_cases z : nI N + off s - nI E ≤ ear s
  · rw [if_neg (fun c => c.2 z)]
    rw [zi_le, e] at z
    exact ⟨h1, h2, h3, z⟩
  · rw [if_pos ⟨hs, z⟩]
    refine ⟨h1, h2, ?_, ?_⟩
    · rw [e]; omega
    · rw [e]; omega
theorem i_vc_advance {k : Nat} {u : SX} {v : SY} (I : i_Rel k u v) (hk : k + 4 ≤ 2050) (v1 : Int32) : wpX_advance (fun r u' => wpY_advance (fun r' v' => r' = r ∧ i_Rel (k + 4) u' v') v v1) u v1 := by
  refine zz_el (P := fun u v => wpX_advance (fun r u' => wpY_advance (fun r' v' => r' = r ∧ i_Rel (k + 4) u' v') v v1) u v1) ?_ I
  intro E C N n off ear hom st cs ln ps sh ow px vs vv vc lt ls ll lo py ma mv H
  have J : i_Rel (k + 4) (nI E, nI C, nI N, nI n, off, ear, hom, st, cs, ln, ps, sh, ow, px, vs, vv, vc, lt, ls, ll) (nI E, nI C, nI N, nI n, off, ear, hom, st, cs, ln, ps, lo, py, ma, mv) := zz_in H
  have hn := zA_32 H.1
  obtain ⟨A1, A2, A3, A4, A5, A6⟩ := H.1
  by_cases z : v1 < 1
  · exact br_t z (br_t z ⟨rfl, J⟩)
  by_cases z2 : v1 ≤ 1000
  · obtain ⟨d, hd, rfl⟩ : ∃ d, d ≤ 1000 ∧ v1 = nI d := by
      refine nI_of2 (M := 1000) (n := 1000) (by decide) (fun c => z ?_) z2
      rw [zi_lt] at c ⊢
      rw [show (0 : Int32).toInt = 0 by decide] at c
      rw [show (1 : Int32).toInt = 1 by decide]
      omega
    by_cases z3 : N + d ≤ 100000
    · have g : nI N + nI d ≤ 100000 := by rw [nI_add]; exact nI_le (b := 100000) z3 (by decide)
      refine br_f z (br_t z2 (br_t g (nm_r (nI_add N d) ⟨5, ?_⟩)))
      have H1 : zInv E C (N + d) n off (zerI (nI (N + d)) (nI E) off ear 4) hom st cs ln ps sh ow px vs vv vc lt ls ll lo py ma mv := zq_clk H (by omega) z3 (fun s hs => by
        obtain ⟨b1, b2, b3, b4⟩ := A5 s hs
        exact zz_er A1 z3 hs b1 b2 (by omega))
      have R := xw_advL (post := fun r u' => wpY_advance (fun r' v' => r' = r ∧ i_Rel (k + 4) u' v') (nI E, nI C, nI N, nI n, off, ear, hom, st, cs, ln, ps, lo, py, ma, mv) (nI d)) H1 (fun lt' ls' ll' H' => by
        refine br_f z (br_t z2 (br_t g (nm_r (nI_add N d) ?_)))
        exact yw_tick hn A6 ⟨rfl, zz_in H'⟩) 4 0 rfl
      rw [zer_0] at R
      exact R
    · have g : ¬ nI N + nI d ≤ 100000 := by rw [nI_add]; exact nI_ge (b := N + d) (a := 100000) (by omega) (by omega)
      exact br_f z (br_t z2 (br_f g (br_f z (br_t z2 (br_f g ⟨rfl, J⟩)))))
  · exact br_f z (br_f z2 (br_f z (br_f z2 ⟨rfl, J⟩)))
theorem zz_sk {E N s : Nat} {off ear : Nat → Int32} {o : Int32} (hE : E ≤ 20) (hN : N ≤ 100000) (hs : s < 4) (A : ∀ s, s < 4 → zE E N (off s) (ear s)) :
    (nI N + upd off s o s - nI E ≤ ear s → ear = zerI (nI N) (nI E) (upd off s o) ear 4) ∧ (¬ nI N + upd off s o s - nI E ≤ ear s → upd ear s (nI N + upd off s o s - nI E) = zerI (nI N) (nI E) (upd off s o) ear 4) := by
  have oth : ∀ q, q ≠ s → zerI (nI N) (nI E) (upd off s o) ear 4 q = ear q := by
    intro q hq
    unfold zerI
    rw [if_neg]
    rintro ⟨c1, c2⟩
    apply c2
    rw [pk_un hq]
    obtain ⟨b1, b2, b3, b4⟩ := A q c1
    rw [zi_le, zz_low hE hN b1 b2]
    exact b4
  constructor
  · intro z
    funext q
    by_cases e : q = s
    · subst e
      unfold zerI
      rw [if_neg (fun c => c.2 z)]
    · exact (oth q e).symm
  · intro z
    funext q
    by_cases e : q = s
    · subst e
      rw [pk_us]
      unfold zerI
      rw [if_pos ⟨hs, z⟩]
    · rw [pk_un e]; exact (oth q e).symm
theorem i_vc_skew {k : Nat} {u : SX} {v : SY} (I : i_Rel k u v) (hk : k + 4 ≤ 2050) (v1 : Int32) (v2 : Int32) : wpX_skew (fun r u' => wpY_skew (fun r' v' => r' = r ∧ i_Rel (k + 4) u' v') v v1 v2) u v1 v2 := by
  refine zz_el (P := fun u v => wpX_skew (fun r u' => wpY_skew (fun r' v' => r' = r ∧ i_Rel (k + 4) u' v') v v1 v2) u v1 v2) ?_ I
  intro E C N n off ear hom st cs ln ps sh ow px vs vv vc lt ls ll lo py ma mv H
  have J : i_Rel (k + 4) (nI E, nI C, nI N, nI n, off, ear, hom, st, cs, ln, ps, sh, ow, px, vs, vv, vc, lt, ls, ll) (nI E, nI C, nI N, nI n, off, ear, hom, st, cs, ln, ps, lo, py, ma, mv) := zz_in H
  have hn := zA_32 H.1
  obtain ⟨A1, A2, A3, A4, A5, A6⟩ := H.1
  unfold wpX_skew
  rcases zz_4 v1 with b | ⟨s, hs, rfl⟩
  · exact xw_shardB b (br_t rfl (zy_b3s b ⟨rfl, J⟩ ⟨rfl, J⟩))
  · refine xw_shard hs (br_f (by decide) ?_)
    by_cases z : v2 < -nI E
    · exact br_t z (zy_g3s hs (br_t z ⟨rfl, J⟩))
    by_cases z2 : v2 ≤ nI E
    · have v : vp_in (nI s) 4 := vp_in_nI hs (by omega)
      have c : (nI s).toNatClampNeg = s := nI_clamp (by omega)
      have eE : (nI E).toInt = E := nI_toInt (by omega)
      have o1 : -(E : Int) ≤ v2.toInt := by
        rw [zi_nlt, zi_le, Jvm.Kit.i32_neg (by rw [eE]; omega), eE] at z
        exact z
      have o2 : v2.toInt ≤ E := by rw [zi_le, eE] at z2; exact z2
      have H1 : zInv E C N n (upd off s v2) (zerI (nI N) (nI E) (upd off s v2) ear 4) hom st cs ln ps sh ow px vs vv vc lt ls ll lo py ma mv := zq_clk H (Nat.le_refl N) A3 (fun q hq => by
        obtain ⟨b1, b2, b3, b4⟩ := A5 q hq
        by_cases e : q = s
        · subst e
          exact zz_er A1 A3 hq (by rw [pk_us]; exact o1) (by rw [pk_us]; exact o2) b3
        · exact zz_er A1 A3 hq (by rw [pk_un e]; exact b1) (by rw [pk_un e]; exact b2) b3)
      obtain ⟨kt, kf⟩ := zz_sk (o := v2) A1 A3 hs A5
      have R : wpX_applyWaitRule (fun u => (fun r u' => wpY_skew (fun r' v' => r' = r ∧ i_Rel (k + 4) u' v') (nI E, nI C, nI N, nI n, off, ear, hom, st, cs, ln, ps, lo, py, ma, mv) (nI s) v2) 0 u) (nI E, nI C, nI N, nI n, upd off s v2, zerI (nI N) (nI E) (upd off s v2) ear 4, hom, st, cs, ln, ps, sh, ow, px, vs, vv, vc, lt, ls, ll) := xw_awr H1 (fun lt' ls' ll' H' => by
        refine zy_g3s hs (br_f z (br_t z2 ⟨v, nm_r (e' := upd off s v2) (by rw [c]) ?_⟩))
        exact yw_tick hn A6 ⟨rfl, zz_in H'⟩)
      refine br_f z (br_t z2 ⟨v, nm_r (e' := upd off s v2) (by rw [c]) ?_⟩)
      by_cases z3 : nI N + upd off s v2 s - nI E ≤ ear s
      · refine xw_refT hs z3 ?_
        rw [← kt z3] at R
        exact R
      · refine xw_refF hs z3 ?_
        rw [← kf z3] at R
        exact R
    · exact br_f z (br_f z2 (zy_g3s hs (br_f z (br_f z2 ⟨rfl, J⟩))))
end
section
/-! ===== owed: the constructors ===== -/
theorem zz_cl (v : Int32) {a b : Nat} (hab : a ≤ b) (hb : b < 2 ^ 31) : ∃ e, a ≤ e ∧ e ≤ b ∧ ∀ Q : Int32 → Prop, Q (nI e) → ((nI a ≤ v → ((v ≤ nI b → Q v) ∧ (¬ v ≤ nI b → Q (nI b)))) ∧ (¬ nI a ≤ v → Q (nI a))) := by
  by_cases z : nI a ≤ v
  · by_cases z2 : v ≤ nI b
    · have h0 : ¬ v < 0 := by
        rw [zi_nlt]
        exact Int32.le_trans (nI_pos' (by omega)) z
      obtain ⟨e, he, rfl⟩ := nI_of2 (nI_toInt hb) h0 z2
      exact ⟨e, (nI_leI (by omega) (by omega)).mp z, he, fun Q h => br_t z (br_t z2 h)⟩
    · exact ⟨b, hab, Nat.le_refl b, fun Q h => br_t z (br_f z2 h)⟩
  · exact ⟨a, Nat.le_refl a, hab, fun Q h => br_f z h⟩
def zf0 (x : Int32) (i : Nat) : Nat → Int32 := fun s => if s < i then x else 0
theorem zf0_0 {x : Int32} : zf0 x 0 = fun _ => 0 := by
  funext s; unfold zf0; rw [if_neg (Nat.not_lt_zero s)]
theorem zf0_s {x : Int32} {i : Nat} : upd (zf0 x i) i x = zf0 x (i + 1) := by
  funext s
  unfold upd zf0
  by_cases e : s = i
  · rw [if_pos e, if_pos (by omega)]
  · rw [if_neg e]
    by_cases z : s < i
    · rw [if_pos z, if_pos (by omega)]
    · rw [if_neg z, if_neg (by omega)]
section
variable {fe fc fn fb : Int32} {off ear hom st cs ln ps sh ow px vs vv vc lt ls ll lo py ma mv : Nat → Int32}
theorem xw_clamp {post : Int32 → Prop} {v : Int32} {a b e : Nat} (h : ∀ Q : Int32 → Prop, Q (nI e) → ((nI a ≤ v → ((v ≤ nI b → Q v) ∧ (¬ v ≤ nI b → Q (nI b)))) ∧ (¬ nI a ≤ v → Q (nI a)))) (p : post (nI e)) : wpX_clamp post (fe, fc, fn, fb, off, ear, hom, st, cs, ln, ps, sh, ow, px, vs, vv, vc, lt, ls, ll) v (nI a) (nI b) := h post p
theorem xw_i194 {post : SX → Prop} (h : post (fe, fc, fn, fb, off, ear, hom, st, cs, ln, ps, sh, zf0 (-1) 8, px, vs, vv, vc, lt, ls, ll)) : ∀ d i, i + d = 8 → wX_init_194 post fe fc fn fb (d + 1) (nI i) off ear hom st cs ln ps sh (zf0 (-1) i) px vs vv vc lt ls ll := by
  intro d
  induction d with
  | zero =>
    intro i hi
    obtain rfl : i = 8 := by omega
    exact br_t (by decide) h
  | succ d ih =>
    intro i hi
    exact br_f (nI_ge (b := 8) (by omega) (by decide)) ⟨vp_in_nI (by omega) (by omega), nm_r (e' := zf0 (-1) (i + 1)) (by rw [nI_clamp (by omega)]; exact zf0_s) (nm_r (nI_1 i) (ih (i + 1) (by omega)))⟩
theorem xw_i168 {post : SX → Prop} (h : post (fe, fc, fn, fb, off, zf0 (100 - fe) 4, hom, st, cs, ln, ps, sh, zf0 (-1) 8, px, vs, vv, vc, lt, ls, ll)) : ∀ d i, i + d = 4 → wX_init_168 post fe fc fn fb (d + 1) (nI i) off (zf0 (100 - fe) i) hom st cs ln ps sh (fun _ => 0) px vs vv vc lt ls ll := by
  intro d
  induction d with
  | zero =>
    intro i hi
    obtain rfl : i = 4 := by omega
    have R := xw_i194 h 8 0 rfl
    rw [zf0_0] at R
    exact br_t (by decide) ⟨9, R⟩
  | succ d ih =>
    intro i hi
    exact br_f (nI_ge (b := 4) (by omega) (by decide)) ⟨vp_in_nI (by omega) (by omega), nm_r (e' := zf0 (100 - fe) (i + 1)) (by rw [nI_clamp (by omega)]; exact zf0_s) (nm_r (nI_1 i) (ih (i + 1) (by omega)))⟩
theorem yw_i158 {post : SY → Prop} (h : post (fe, fc, fn, fb, off, zf0 (100 - fe) 4, hom, st, cs, ln, ps, lo, py, ma, mv)) : ∀ d i, i + d = 4 → wY_init_158 post fe fc fn fb (d + 1) (nI i) off (zf0 (100 - fe) i) hom st cs ln ps lo py ma mv := by
  intro d
  induction d with
  | zero =>
    intro i hi
    obtain rfl : i = 4 := by omega
    exact br_t (by decide) h
  | succ d ih =>
    intro i hi
    exact br_f (nI_ge (b := 4) (by omega) (by decide)) ⟨vp_in_nI (by omega) (by omega), nm_r (e' := zf0 (100 - fe) (i + 1)) (by rw [nI_clamp (by omega)]; exact zf0_s) (nm_r (nI_1 i) (ih (i + 1) (by omega)))⟩
end
theorem zz_init {E C : Nat} (hE : E ≤ 20) (hC : C ≤ 32) : zInv E C 100 0 (fun _ => 0) (zf0 (100 - nI E) 4) (fun _ => 0) (fun _ => 0) (fun _ => 0) (fun _ => 0) (fun _ => 0) (fun _ => 0) (zf0 (-1) 8) (fun _ => 0) (fun _ => 0) (fun _ => 0) (fun _ => 0) (fun _ => 0) (fun _ => 0) (fun _ => 0) (fun _ => 0) (fun _ => 0) (fun _ => 0) (fun _ => 0) := by
  have z0 : (0 : Int32).toInt = 0 := by decide
  have k00 : zOk 0 0 := by decide
  have k03 : ¬ (0 : Int32) = 3 := by decide
  have k02 : ¬ (0 : Int32) = 2 := by decide
  have k01 : ¬ (0 : Int32) = 1 := by decide
  have k0p : ¬ zPr 0 := by decide
  have e1 : ((100 : Int32) - nI E).toInt = 100 - E := by
    have a : (100 : Int32).toInt = 100 := by decide
    have b : (nI E).toInt = E := nI_toInt (by omega)
    rw [Jvm.Kit.i32_sub (by rw [a, b]; omega) (by rw [a, b]; omega), a, b]
  refine ⟨⟨hE, hC, by omega, by omega, ?_, fun t ht => absurd ht (Nat.not_lt_zero t)⟩, ?_, ?_, ?_, ?_, ?_, ?_, ?_⟩
  · intro s hs
    unfold zf0
    rw [if_pos hs]
    refine ⟨?_, ?_, ?_, ?_⟩
    · rw [z0]; omega
    · rw [z0]; omega
    · rw [e1]; omega
    · rw [e1, z0]; omega
  · intro t
    exact ⟨fun _ _ => k00, fun _ _ => Or.inl rfl, fun _ _ => Or.inl rfl, fun c => absurd c k03, fun _ _ c => absurd c k0p⟩
  · intro t ht
    exact ⟨rfl, fun _ _ => rfl, fun _ _ => ⟨rfl, rfl⟩⟩
  · intro k hk
    refine ⟨fun t ht => ?_, Or.inl ⟨?_, fun t ht => k02⟩⟩
    · rw [b_0]; exact ⟨fun c => absurd c (by decide), fun c => absurd c k01⟩
    · unfold zf0; rw [if_pos hk]
  · intro t k hk c
    exact absurd c k02
  · intro s hs
    exact ⟨0, rfl, fun i hi => absurd hi (Nat.not_lt_zero i), fun a b h1 h2 => absurd h2 (Nat.not_lt_zero b), fun t ht => absurd ht (Nat.not_lt_zero t)⟩
  · intro s hs
    exact ⟨0, rfl, fun i hi => absurd hi (Nat.not_lt_zero i), fun a b h1 h2 => absurd h2 (Nat.not_lt_zero b), fun t ht => absurd ht (Nat.not_lt_zero t)⟩
  · intro s hs
    exact ⟨0, rfl, fun i hi => absurd hi (Nat.not_lt_zero i), fun a b h1 h2 => absurd h2 (Nat.not_lt_zero b), fun t ht => absurd ht (Nat.not_lt_zero t)⟩
theorem i_vc0 (k0 : Int32) (k1 : Int32) : wpX_init (fun u => wpY_init (fun v => i_Rel 2 u v) k0 k1) k0 k1 := by
  obtain ⟨E, _, hE, cE⟩ := zz_cl k0 (a := 0) (b := 20) (by omega) (by omega)
  obtain ⟨C, _, hC, cC⟩ := zz_cl k1 (a := 4) (b := 32) (by omega) (by omega)
  have HI := zz_in (k := 2) (zz_init hE hC)
  unfold wpX_init
  refine xw_clamp (a := 0) (b := 20) cE ?_
  refine xw_clamp (a := 4) (b := 32) cC ⟨5, ?_⟩
  have R := xw_i168 (post := fun u => wpY_init (fun v => i_Rel 2 u v) k0 k1) (fe := nI E) (fc := nI C) (fn := 100) (fb := 0) (off := fun _ => 0) (hom := fun _ => 0) (st := fun _ => 0) (cs := fun _ => 0) (ln := fun _ => 0) (ps := fun _ => 0) (sh := fun _ => 0) (px := fun _ => 0) (vs := fun _ => 0) (vv := fun _ => 0) (vc := fun _ => 0) (lt := fun _ => 0) (ls := fun _ => 0) (ll := fun _ => 0) (by
    refine cE (fun z => wY_init_128 (fun v => i_Rel 2 _ v) k1 z 0 0 100 0 (fun _ => 0) (fun _ => 0) (fun _ => 0) (fun _ => 0) (fun _ => 0) (fun _ => 0) (fun _ => 0) (fun _ => 0) (fun _ => 0) (fun _ => 0) (fun _ => 0)) ?_
    refine cC (fun z => ∃ n158 : Nat, wY_init_158 (fun v => i_Rel 2 (nI E, nI C, 100, 0, fun _ => 0, zf0 (100 - nI E) 4, fun _ => 0, fun _ => 0, fun _ => 0, fun _ => 0, fun _ => 0, fun _ => 0, zf0 (-1) 8, fun _ => 0, fun _ => 0, fun _ => 0, fun _ => 0, fun _ => 0, fun _ => 0, fun _ => 0) v) (nI E) z 100 0 n158 0 (fun _ => 0) (fun _ => 0) (fun _ => 0) (fun _ => 0) (fun _ => 0) (fun _ => 0) (fun _ => 0) (fun _ => 0) (fun _ => 0) (fun _ => 0) (fun _ => 0)) ⟨5, ?_⟩
    have S := yw_i158 (post := fun v => i_Rel 2 (nI E, nI C, 100, 0, fun _ => 0, zf0 (100 - nI E) 4, fun _ => 0, fun _ => 0, fun _ => 0, fun _ => 0, fun _ => 0, fun _ => 0, zf0 (-1) 8, fun _ => 0, fun _ => 0, fun _ => 0, fun _ => 0, fun _ => 0, fun _ => 0, fun _ => 0) v) (fe := nI E) (fc := nI C) (fn := 100) (fb := 0) (off := fun _ => 0) (hom := fun _ => 0) (st := fun _ => 0) (cs := fun _ => 0) (ln := fun _ => 0) (ps := fun _ => 0) (lo := fun _ => 0) (py := fun _ => 0) (ma := fun _ => 0) (mv := fun _ => 0) HI 4 0 rfl
    rw [zf0_0] at S
    exact S) 4 0 rfl
  rw [zf0_0] at R
  exact R
/-! ===== owed: deliver ===== -/
theorem zk_all {a c : Int32} (h : zOk a c) : c = 0 ∨ c = 1 ∨ c = 2 ∨ c = 3 ∨ c = 4 ∨ c = 5 ∨ c = 6 ∨ c = 7 ∨ c = 8 ∨ c = 9 := by
  rcases h with ⟨rfl, rfl | rfl | rfl⟩ | ⟨rfl, rfl | rfl | rfl | rfl | rfl⟩ | ⟨rfl, rfl | rfl⟩ | ⟨rfl, rfl | rfl | rfl⟩ | ⟨rfl, rfl | rfl | rfl | rfl⟩ <;> decide
section
variable {E C N n : Nat} {off ear hom st cs ln ps sh ow px vs vv vc lt ls ll lo py ma mv : Nat → Int32}
theorem zz_owner {n t k : Nat} {sh ow px lo py : Nat → Int32} (h : zK n sh ow px lo py k) (hn : n ≤ 32) (ht : t < 32) (ho : ow k = nI t) : lo (t * 8 + k) = 2 := by
  rcases h.2 with ⟨o, _⟩ | ⟨w, hw, o, h3, _⟩
  · exact absurd (ho.symm.trans o) (zu_m1 (by omega))
  · have : t = w := (nI_eq (by omega) (by omega)).mp (ho.symm.trans o)
    subst this; exact h3
theorem zz_vm {t s k : Nat} (H : zInv E C N n off ear hom st cs ln ps sh ow px vs vv vc lt ls ll lo py ma mv) (ht : t < n) (hl : ln (t * 4 + s) = 5) (hk : k < 8) (hks : k % 4 = s) : ∃ m, m < 32 ∧ zV n cs vs vv vc ma mv k m ∧ ma (t * 8 + k) = 0 := by
  have hn := zA_32 H.1
  obtain ⟨m, hm⟩ := H.2.2.2.2.2.2.2 k hk
  have m0 : ma (t * 8 + k) = 0 := by
    rcases (H.2.1 t).2.2.1 k hk with h | ⟨_, h⟩
    · exact h
    · rw [hks, hl] at h; exact absurd h (by decide)
  exact ⟨m, Nat.lt_of_lt_of_le (zV_lt hm ht m0) hn, hm, m0⟩
theorem zz_inst {t s : Nat} (H : zInv E C N n off ear hom st cs ln ps sh ow px vs vv vc lt ls ll lo py ma mv) (ht : t < n) (hs : s < 4) (hl : ln (t * 4 + s) = 5) :
    zVs n cs (zvA vs vc ow t s (s + 4 + 4) (fun _ => cs t)) (zvA vv vc ow t s (s + 4 + 4) px) (zvC vc ow t s (s + 4 + 4)) (zmA ma lo t s (s + 4 + 4)) (zmV mv py lo t s (s + 4 + 4)) := by
  have hn := zA_32 H.1
  have hst : st t = 3 := zk_5 (hl ▸ (H.2.1 t).1 s hs)
  intro k hk
  have hK := H.2.2.2.1 k hk
  have d32 : ∀ i, i < 32 → (k * 32 + i) / 32 = k := fun i hi => by omega
  have m32 : ∀ i, i < 32 → (k * 32 + i) % 32 = i := fun i hi => by omega
  by_cases z : k % 4 = s ∧ ow k = nI t
  · obtain ⟨z1, z2⟩ := z
    obtain ⟨m, hm32, hm, m0⟩ := zz_vm H ht hl hk z1
    have l2 := zz_owner hK hn (by omega) z2
    have ep := (zK_2 hK (by omega) l2).2
    refine ⟨m + 1, zV_app hm ht m0 ?_ ?_ ?_ ?_ ?_ ?_ ?_ ?_ ?_⟩
    · intro u hu hmu
      have q1 := H.2.2.2.2.1 t k hk l2 (by rw [z1, hl]; decide) u hmu
      have q2 := ((H.2.1 t).2.2.2.2 s hs (by rw [hl]; decide)).2 (Or.inr hst)
      rw [z1] at q1
      rw [zi_lt] at q1 ⊢
      rw [zi_le] at q2
      omega
    · intro i hi
      unfold zvA
      rw [d32 i (by omega), m32 i (by omega), if_neg]
      intro c
      rw [hm.1] at c
      have := (nI_eq (by omega) (by omega)).mp c.2
      omega
    · intro i hi
      unfold zvA
      rw [d32 i (by omega), m32 i (by omega), if_neg]
      intro c
      rw [hm.1] at c
      have := (nI_eq (by omega) (by omega)).mp c.2
      omega
    · unfold zvC
      rw [if_pos ⟨⟨by omega, z1⟩, z2⟩, hm.1, nI_1]
    · intro u hu hne
      unfold zmA
      rw [if_neg (fun c => by omega)]
    · intro u hu hne
      unfold zmV
      rw [if_neg (fun c => by omega)]
    · unfold zvA
      rw [d32 m hm32, m32 m hm32, if_pos ⟨⟨⟨by omega, z1⟩, z2⟩, hm.1.symm⟩]
    · unfold zvA zmV
      rw [d32 m hm32, m32 m hm32, if_pos ⟨⟨⟨by omega, z1⟩, z2⟩, hm.1.symm⟩, if_pos ⟨by omega, l2⟩]
      exact ep
    · unfold zmA
      rw [if_pos ⟨by omega, l2⟩]; decide
  · obtain ⟨m, hm⟩ := H.2.2.2.2.2.2.2 k hk
    have hm32 := zV_le hm
    have l2 : ∀ u, ¬ ((u = t ∧ k % 4 = s) ∧ lo (u * 8 + k) = 2) := by
      rintro u ⟨⟨rfl, c2⟩, c3⟩
      exact z ⟨c2, (zK_2 hK (by omega) c3).1⟩
    refine ⟨m, zV_cg hm ?_ ?_ ?_ ?_ ?_ (fun _ _ _ => rfl)⟩
    · intro i hi
      unfold zvA
      rw [d32 i (by omega), m32 i (by omega), if_neg (fun c => z ⟨c.1.1.2, c.1.2⟩)]
    · intro i hi
      unfold zvA
      rw [d32 i (by omega), m32 i (by omega), if_neg (fun c => z ⟨c.1.1.2, c.1.2⟩)]
    · unfold zvC
      rw [if_neg (fun c => z ⟨c.1.2, c.2⟩)]
    · intro u hu
      unfold zmA
      rw [if_neg (fun c => l2 u ⟨by omega, c.2⟩)]
    · intro u hu
      unfold zmV
      rw [if_neg (fun c => l2 u ⟨by omega, c.2⟩)]
theorem zz_q {t s : Nat} (H : zInv E C N n off ear hom st cs ln ps sh ow px vs vv vc lt ls ll lo py ma mv) (ht : t < n) (hs : s < 4) (hp : zPr (ln (t * 4 + s))) :
    ∃ m q, zL n lt ls ll (fun t => ps (t * 4 + s)) (fun t => zPr (ln (t * 4 + s))) s m ∧ m ≤ 32 ∧ q < m ∧ lt (s * 32 + q) = nI t ∧ ∀ i, i < m → i ≠ q → lt (s * 32 + i) ≠ nI t := by
  have hn := zA_32 H.1
  obtain ⟨m, hm⟩ := H.2.2.2.2.2.1 s hs
  obtain ⟨q, hq, e⟩ := hm.2.2.2 t ht hp
  refine ⟨m, q, hm, Nat.le_trans (zL_le hn hm) hn, hq, e, fun i hi hne e' => ?_⟩
  rcases Nat.lt_or_gt_of_ne hne with z | z
  · exact (hm.2.2.1 i q z hq).1 (e'.trans e.symm)
  · exact (hm.2.2.1 q i z hi).1 (e.trans e'.symm)
theorem zz_w8 {t s : Nat} (H : zInv E C N n off ear hom st cs ln ps sh ow px vs vv vc lt ls ll lo py ma mv) (hs : s < 4) (hl : ln (t * 4 + s) = 8) : zrL lo t s = lo ∧ zab (upd ln (t * 4 + s) 9) t = zab ln t := by
  constructor
  · funext i
    unfold zrL
    by_cases z : i / 8 = t ∧ i % 4 = s
    · rw [if_pos z]
      have := (H.2.1 t).2.1 (i % 8) (by omega)
      rw [show i % 8 % 4 = s by omega, hl, show t * 8 + i % 8 = i by omega] at this
      rcases this with h | ⟨_, h⟩
      · exact h.symm
      · exact absurd h (by decide)
    · rw [if_neg z]
  · funext i
    unfold zab zabI
    by_cases z : t * 4 ≤ i ∧ i < t * 4 + 4
    · rw [if_pos z, if_pos z]
      by_cases e : i = t * 4 + s
      · rw [e, pk_us, hl]; decide
      · rw [pk_un e]
    · rw [if_neg z, if_neg z, pk_un (by omega)]
end
end
section
section
variable {E C N n : Nat} {off ear hom st cs ln ps sh ow px vs vv vc lt ls ll lo py ma mv : Nat → Int32}
/-! the reference's deliver at a link's condition -/
theorem yd_n {post : Int32 → SY → Prop} {t s : Nat} (hn : n ≤ 32) (ht : t < n) (hs : s < 4) (hc : ln (t * 4 + s) = 0 ∨ ln (t * 4 + s) = 1 ∨ ln (t * 4 + s) = 4 ∨ ln (t * 4 + s) = 9) (h : post (-7) (nI E, nI C, nI N, nI n, off, ear, hom, st, cs, ln, ps, lo, py, ma, mv)) : wpY_deliver post (nI E, nI C, nI N, nI n, off, ear, hom, st, cs, ln, ps, lo, py, ma, mv) (nI t) (nI s) := by
  unfold wpY_deliver
  refine yw_tx hn ht (br_t rfl (zy_g3 hs ⟨za_i4 (by omega) hs, nm_r (congrArg ln (za_c4 (by omega) hs)) ?_⟩))
  exact br_c (fun _ => h) fun h0 => br_c (fun _ => h) fun h1 => br_c (fun _ => h) fun h4 => br_c (fun _ => h) fun h9 => absurd hc (fun c => by
    rcases c with c | c | c | c
    · exact h0 c
    · exact h1 c
    · exact h4 c
    · exact h9 c)
theorem yd_2 {post : Int32 → SY → Prop} {t s : Nat} (hn : n ≤ 32) (ht : t < n) (hs : s < 4) (hc : ln (t * 4 + s) = 2) (h : post 2 (nI E, nI C, nI N, nI n, off, ear, hom, st, cs, upd ln (t * 4 + s) 3, upd ps (t * 4 + s) (nI N + off s + nI E + 1), lo, py, ma, mv)) : wpY_deliver post (nI E, nI C, nI N, nI n, off, ear, hom, st, cs, ln, ps, lo, py, ma, mv) (nI t) (nI s) := by
  unfold wpY_deliver
  have i := za_i4 (t := t) (by omega) hs
  have c := za_c4 (t := t) (by omega) hs
  refine yw_tx hn ht (br_t rfl (zy_g3 hs ⟨i, nm_r (e' := 2) (by rw [c]; exact hc) ?_⟩))
  refine br_f (by decide) (br_f (by decide) (br_f (by decide) (br_f (by decide) (br_t rfl ?_))))
  refine yw_latest hs ?_
  exact ⟨i, nm_r (e' := upd ps (t * 4 + s) (nI N + off s + nI E + 1)) (by rw [c]) ⟨i, nm_r (e' := upd ln (t * 4 + s) 3) (by rw [c]) h⟩⟩
theorem yd_3 {post : Int32 → SY → Prop} {t s : Nat} (hn : n ≤ 32) (ht : t < n) (hs : s < 4) (hc : ln (t * 4 + s) = 3)
    (h : ∃ d, wY_deliver_112 post (nI t) 3 (nI E) (nI C) (nI N) (nI n) off ear hom st cs (upd ln (t * 4 + s) 4) ps lo py ma mv d 1 (nI (t * 4))) : wpY_deliver post (nI E, nI C, nI N, nI n, off, ear, hom, st, cs, ln, ps, lo, py, ma, mv) (nI t) (nI s) := by
  unfold wpY_deliver
  have i := za_i4 (t := t) (by omega) hs
  have c := za_c4 (t := t) (by omega) hs
  refine yw_tx hn ht (br_t rfl (zy_g3 hs ⟨i, nm_r (e' := 3) (by rw [c]; exact hc) ?_⟩))
  exact br_f (by decide) (br_f (by decide) (br_f (by decide) (br_f (by decide) (br_f (by decide) (br_t rfl ⟨i, nm_r (e' := upd ln (t * 4 + s) 4) (by rw [c]) (nm_r (za_m4 t) h)⟩)))))
theorem yd_r {post : Int32 → SY → Prop} {t s : Nat} {x : Int32} (hn : n ≤ 32) (ht : t < n) (hs : s < 4) (hc : ln (t * 4 + s) = x) (hx : x = 5 ∨ x = 6 ∨ x = 7 ∨ x = 8)
    (h : ∃ d, wY_deliver_167 post (nI t) (nI s) x (nI E) (nI C) (nI N) (nI n) d (nI s) off ear hom st cs ln ps lo py ma mv) : wpY_deliver post (nI E, nI C, nI N, nI n, off, ear, hom, st, cs, ln, ps, lo, py, ma, mv) (nI t) (nI s) := by
  unfold wpY_deliver
  have i := za_i4 (t := t) (by omega) hs
  have c := za_c4 (t := t) (by omega) hs
  refine yw_tx hn ht (br_t rfl (zy_g3 hs ⟨i, nm_r (e' := x) (by rw [c]; exact hc) ?_⟩))
  have f : ∀ y : Int32, ¬ (y = 5 ∨ y = 6 ∨ y = 7 ∨ y = 8) → ¬ x = y := fun y hy e => hy (e ▸ hx)
  exact br_f (f 0 (by decide)) (br_f (f 1 (by decide)) (br_f (f 4 (by decide)) (br_f (f 9 (by decide)) (br_f (f 2 (by decide)) (br_f (f 3 (by decide)) h)))))
end
theorem i_vc_deliver {k : Nat} {u : SX} {v : SY} (I : i_Rel k u v) (hk : k + 4 ≤ 2050) (v1 : Int32) (v2 : Int32) : wpX_deliver (fun r u' => wpY_deliver (fun r' v' => r' = r ∧ i_Rel (k + 4) u' v') v v1 v2) u v1 v2 := by
  refine zz_el (P := fun u v => wpX_deliver (fun r u' => wpY_deliver (fun r' v' => r' = r ∧ i_Rel (k + 4) u' v') v v1 v2) u v1 v2) ?_ I
  intro E C N n off ear hom st cs ln ps sh ow px vs vv vc lt ls ll lo py ma mv H
  have J : i_Rel (k + 4) (nI E, nI C, nI N, nI n, off, ear, hom, st, cs, ln, ps, sh, ow, px, vs, vv, vc, lt, ls, ll) (nI E, nI C, nI N, nI n, off, ear, hom, st, cs, ln, ps, lo, py, ma, mv) := zz_in H
  have hn := zA_32 H.1
  obtain ⟨A1, A2, A3, A4, A5, A6⟩ := H.1
  unfold wpX_deliver
  rcases zz_ix v1 hn with b | ⟨t, ht, rfl⟩
  · refine xw_knownB b (br_t rfl ?_)
    unfold wpY_deliver
    exact yw_txB b (br_f (by decide) ⟨rfl, J⟩)
  · refine xw_known hn ht (br_f (by decide) ?_)
    rcases zz_4 v2 with b | ⟨s, hs, rfl⟩
    · refine xw_shardB b (br_t rfl ?_)
      unfold wpY_deliver
      exact yw_tx hn ht (br_t rfl (zy_b3 b ⟨rfl, J⟩ ⟨rfl, J⟩))
    · have i := za_i4 (t := t) (by omega) hs
      have c := za_c4 (t := t) (by omega) hs
      have ht32 : t < 32 := by omega
      refine xw_shard hs (br_f (by decide) ⟨i, ?_⟩)
      rcases zk_all ((H.2.1 t).1 s hs) with e | e | e | e | e | e | e | e | e | e
      · exact nm_r (e' := 0) (by rw [c]; exact e) (br_t (by decide) (yd_n hn ht hs (Or.inl e) ⟨rfl, J⟩))
      · exact nm_r (e' := 1) (by rw [c]; exact e) (br_t (by decide) (yd_n hn ht hs (Or.inr (Or.inl e)) ⟨rfl, J⟩))
      · refine nm_r (e' := 2) (by rw [c]; exact e) (br_f (by decide) (br_f (by decide) (br_t rfl ?_)))
        obtain ⟨m, hm⟩ := H.2.2.2.2.2.1 s hs
        have hmn : m < n := zL_lt hn hm ht (by rw [e]; decide)
        refine xw_prepAt ht32 hs (by omega) hm.1 (fun p h1 h2 h3 => ?_)
        obtain ⟨b1, b2, b3, b4⟩ := A5 s hs
        exact yd_2 hn ht hs e ⟨rfl, zz_in (zq_prep H ht hs e (by rw [zz_lat A1 A3 b1 b2]; omega) hm h1 h2 h3)⟩
      · refine nm_r (e' := 3) (by rw [c]; exact e) (br_f (by decide) (br_f (by decide) (br_f (by decide) (br_t rfl ?_))))
        unfold wpX_takeVote
        have H1 := zq_vote H ht hs e
        have hst : st t = 1 := zk_3 (e ▸ (H.2.1 t).1 s hs)
        obtain ⟨h, hh, eh⟩ := A6 t ht
        refine ⟨i, nm_r (e' := upd ln (t * 4 + s) 4) (by rw [c]) ?_⟩
        refine xw_all ht32 (fun hal => br_f (by decide) ?_) (fun hal => br_t rfl ?_)
        · refine zz_dec H1 ht (Or.inr hst) hal (fun h hh eh lt' ls' ll' H' => ?_)
          exact yd_3 hn ht hs e ⟨5, yw_d112 ht32 hh eh (fun _ => ⟨rfl, zz_in H'⟩) (fun c => absurd hal c) 4 0 1 rfl (Or.inl ⟨rfl, fun s hs => absurd hs (Nat.not_lt_zero s)⟩)⟩
        · exact yd_3 hn ht hs e ⟨5, yw_d112 ht32 hh eh (fun c => absurd c hal) (fun _ => ⟨rfl, zz_in H1⟩) 4 0 1 rfl (Or.inl ⟨rfl, fun s hs => absurd hs (Nat.not_lt_zero s)⟩)⟩
      · exact nm_r (e' := 4) (by rw [c]; exact e) (br_f (by decide) (br_f (by decide) (br_f (by decide) (br_f (by decide) (br_t rfl (yd_n hn ht hs (Or.inr (Or.inr (Or.inl e))) ⟨rfl, J⟩))))))
      · refine nm_r (e' := 5) (by rw [c]; exact e) (br_f (by decide) (br_f (by decide) (br_f (by decide) (br_f (by decide) (br_f (by decide) (br_t rfl ?_))))))
        obtain ⟨m, q, hm, hm32, hq, hqt, hne⟩ := zz_q H ht hs (by rw [e]; decide)
        refine xw_inst ht32 hs (fun k hk hks _ => ?_) ?_
        · obtain ⟨m, h1, h2, _⟩ := zz_vm H ht e hk hks
          exact ⟨m, h1, h2.1⟩
        refine xw_finP ht32 hs hm32 hm.1 hq hqt hne ?_
        refine yd_r hn ht hs e (by decide) (yw_d5 ht32 hs ⟨rfl, zz_in (zq_fin H ht hs (Or.inl e) hm hq hqt (zz_inst H ht hs e) (fun u k hk => ?_))⟩)
        unfold zmA
        by_cases z : (u = t ∧ k % 4 = s) ∧ lo (u * 8 + k) = 2
        · obtain ⟨⟨z1, z2⟩, z3⟩ := z
          subst z1
          exact Or.inr ⟨rfl, z2, zk_5 (e ▸ (H.2.1 u).1 s hs), z3⟩
        · left
          rw [if_neg (fun c => z ⟨by omega, c.2⟩)]
      · refine nm_r (e' := 6) (by rw [c]; exact e) (br_f (by decide) (br_f (by decide) (br_f (by decide) (br_f (by decide) (br_f (by decide) (br_f (by decide) (br_t rfl ?_)))))))
        refine xw_fin ht32 hs ?_
        exact yd_r hn ht hs e (by decide) (yw_dn ht32 hs (by decide) (by decide) ⟨rfl, zz_in (zq_wound H ht hs (Or.inr (Or.inr e)) (Or.inl ⟨zk_6 (e ▸ (H.2.1 t).1 s hs), rfl⟩))⟩)
      · refine nm_r (e' := 7) (by rw [c]; exact e) (br_f (by decide) (br_f (by decide) (br_f (by decide) (br_f (by decide) (br_f (by decide) (br_f (by decide) (br_f (by decide) (br_t rfl ?_))))))))
        obtain ⟨m, q, hm, hm32, hq, hqt, hne⟩ := zz_q H ht hs (by rw [e]; decide)
        refine xw_finP ht32 hs hm32 hm.1 hq hqt hne ?_
        exact yd_r hn ht hs e (by decide) (yw_dn ht32 hs (by decide) (by decide) ⟨rfl, zz_in (zq_fin H ht hs (Or.inr e) hm hq hqt H.2.2.2.2.2.2.2 (fun u k hk => Or.inl rfl))⟩)
      · refine nm_r (e' := 8) (by rw [c]; exact e) (br_f (by decide) (br_f (by decide) (br_f (by decide) (br_f (by decide) (br_f (by decide) (br_f (by decide) (br_f (by decide) (br_f (by decide) (br_t rfl ?_)))))))))
        refine ⟨i, nm_r (e' := upd ln (t * 4 + s) 9) (by rw [c]) ?_⟩
        refine xw_abort ht32 ?_
        obtain ⟨e1, e2⟩ := zz_w8 H hs e
        refine yd_r hn ht hs e (by decide) (yw_d8 ht32 hs ⟨rfl, ?_⟩)
        rw [e1, e2]
        exact zz_in (zq_ab H ht (zk_8 (e ▸ (H.2.1 t).1 s hs)) (fun u k hk h2 => by
          refine zrL_n hk (fun c => ?_)
          obtain ⟨c1, c2⟩ := c
          subst c1
          rw [← e1, zrL_y hk c2] at h2
          exact absurd h2 (by decide)))
      · exact nm_r (e' := 9) (by rw [c]; exact e) (br_f (by decide) (br_t (by decide) (yd_n hn ht hs (Or.inr (Or.inr (Or.inr e))) ⟨rfl, J⟩)))
end
section
section
variable {E C N n : Nat} {off ear hom st cs ln ps sh ow px vs vv vc lt ls ll lo py ma mv : Nat → Int32}
/-! ===== read ===== -/
theorem yr_pre {post : Int32 → SY → Prop} {t q : Nat} (hn : n ≤ 32) (ht : t < n) (hq : q < 8) (hst : st t = 0) (hl : ¬ ln (t * 4 + q % 4) = 8) (hlo : ¬ lo (t * 8 + q) = 2)
    (h : ∃ d, wY_read_84 post (nI t) (nI q) (nI (q % 4)) d 0 (nI E) (nI C) (nI N) (nI n) off ear hom st cs ln ps lo py ma mv) : wpY_read post (nI E, nI C, nI N, nI n, off, ear, hom, st, cs, ln, ps, lo, py, ma, mv) (nI t) (nI q) := by
  unfold wpY_read
  have hs : q % 4 < 4 := by omega
  refine yw_tx hn ht (br_t rfl (zy_g7 hq ⟨vp_in_nI (by omega) (by omega), br_t (by rw [nI_clamp (by omega)]; exact hst) ⟨by decide, nm_r (za_rem hq) ⟨za_i4 (by omega) hs, br_f (by rw [za_c4 (by omega) hs]; exact hl) ⟨za_i8 (by omega) hq, br_f (by rw [za_c8 (by omega) hq]; exact hlo) h⟩⟩⟩⟩))
theorem xr_104 {post : Int32 → SX → Prop} {t q : Nat} {r : Int32} (ht : t < 32) (hq : q < 8) (h01 : ln (t * 4 + q % 4) = 0 ∨ ln (t * 4 + q % 4) = 1)
    (hv : ∀ Q : Int32 → Prop, Q r → wpX_currentValue Q (nI E, nI C, nI N, nI n, off, ear, hom, st, cs, upd ln (t * 4 + q % 4) 1, ps, upd sh q (sh q ||| ((1 : Int32) <<< (nI t &&& 31))), ow, px, vs, vv, vc, lt, ls, ll) (nI q))
    (h : post r (nI E, nI C, nI N, nI n, off, ear, hom, st, cs, upd ln (t * 4 + q % 4) 1, ps, upd sh q (sh q ||| ((1 : Int32) <<< (nI t &&& 31))), ow, px, vs, vv, vc, lt, ls, ll)) : wX_read_104 post (nI t) (nI q) (nI (q % 4)) (nI E) (nI C) (nI N) (nI n) off ear hom st cs ln ps sh ow px vs vv vc lt ls ll := by
  unfold wX_read_104
  have v8 : vp_in (nI q) 8 := vp_in_nI hq (by omega)
  have c8 : (nI q).toNatClampNeg = q := nI_clamp (by omega)
  refine xw_open ht (by omega) h01 ?_
  refine ⟨v8, v8, nm_r (e' := upd sh q (sh q ||| ((1 : Int32) <<< (nI t &&& 31)))) (by rw [c8]) ?_⟩
  exact hv _ h
theorem zz_rend {t q : Nat} (H : zInv E C N n off ear hom st cs ln ps sh ow px vs vv vc lt ls ll lo py ma mv) (ht : t < n) (hq : q < 8) (hst : st t = 0) (hl : ¬ ln (t * 4 + q % 4) = 8) (hlo : ∀ u, u < 32 → lo (u * 8 + q) ≠ 2) :
    ∃ r, zInv E C N n off ear hom st cs (upd ln (t * 4 + q % 4) 1) ps (upd sh q (sh q ||| ((1 : Int32) <<< (nI t &&& 31)))) ow px vs vv vc lt ls ll (upd lo (t * 8 + q) 1) py ma mv ∧
      (∀ post : Int32 → SX → Prop, post r (nI E, nI C, nI N, nI n, off, ear, hom, st, cs, upd ln (t * 4 + q % 4) 1, ps, upd sh q (sh q ||| ((1 : Int32) <<< (nI t &&& 31))), ow, px, vs, vv, vc, lt, ls, ll) → wX_read_104 post (nI t) (nI q) (nI (q % 4)) (nI E) (nI C) (nI N) (nI n) off ear hom st cs ln ps sh ow px vs vv vc lt ls ll) ∧
      (∀ (post : Int32 → SY → Prop) (d : Nat), post r (nI E, nI C, nI N, nI n, off, ear, hom, st, cs, upd ln (t * 4 + q % 4) 1, ps, upd lo (t * 8 + q) 1, py, ma, mv) → wY_read_84 post (nI t) (nI q) (nI (q % 4)) (d + 1) (nI n) (nI E) (nI C) (nI N) (nI n) off ear hom st cs ln ps lo py ma mv) := by
  have hn := zA_32 H.1
  have H1 := zq_sh H ht hq hst hl hlo
  have h01 := zk_0 (hst ▸ (H.2.1 t).1 (q % 4) (by omega)) hl
  obtain ⟨r, hX, hY⟩ := zz_cur H1 hq
  exact ⟨r, H1, fun post h => xr_104 (by omega) hq h01 hX h, fun post d h => yw_rend (by omega) hq (by omega) hn h01 hY h⟩
end
theorem i_vc_read {k : Nat} {u : SX} {v : SY} (I : i_Rel k u v) (hk : k + 4 ≤ 2050) (v1 : Int32) (v2 : Int32) : wpX_read (fun r u' => wpY_read (fun r' v' => r' = r ∧ i_Rel (k + 4) u' v') v v1 v2) u v1 v2 := by
  refine zz_el (P := fun u v => wpX_read (fun r u' => wpY_read (fun r' v' => r' = r ∧ i_Rel (k + 4) u' v') v v1 v2) u v1 v2) ?_ I
  intro E C N n off ear hom st cs ln ps sh ow px vs vv vc lt ls ll lo py ma mv H
  have J : i_Rel (k + 4) (nI E, nI C, nI N, nI n, off, ear, hom, st, cs, ln, ps, sh, ow, px, vs, vv, vc, lt, ls, ll) (nI E, nI C, nI N, nI n, off, ear, hom, st, cs, ln, ps, lo, py, ma, mv) := zz_in H
  have hn := zA_32 H.1
  unfold wpX_read
  rcases zz_ix v1 hn with b | ⟨t, ht, rfl⟩
  · refine xw_knownB b (br_t rfl ?_)
    unfold wpY_read
    exact yw_txB b (br_f (by decide) ⟨rfl, J⟩)
  refine xw_known hn ht (br_f (by decide) ?_)
  rcases zz_8 v2 with b | ⟨q, hq, rfl⟩
  · refine xw_keyB b (br_t rfl ?_)
    unfold wpY_read
    exact yw_tx hn ht (br_t rfl (zy_b7 b ⟨rfl, J⟩ ⟨rfl, J⟩))
  have vt : vp_in (nI t) 32 := vp_in_nI (by omega) (by omega)
  have ct : (nI t).toNatClampNeg = t := nI_clamp (by omega)
  have v8 : vp_in (nI q) 8 := vp_in_nI hq (by omega)
  have c8 : (nI q).toNatClampNeg = q := nI_clamp (by omega)
  have hs : q % 4 < 4 := by omega
  have i4 := za_i4 (t := t) (by omega) hs
  have c4 := za_c4 (t := t) (by omega) hs
  have i8 := za_i8 (t := t) (by omega) hq
  have k8 := za_c8 (t := t) (by omega) hq
  have hK := H.2.2.2.1 q hq
  refine xw_key hq (br_f (by decide) ⟨vt, ?_⟩)
  by_cases z : st t = 0
  · refine br_t (by rw [ct]; exact z) ⟨by decide, nm_r (za_rem hq) ⟨i4, ?_⟩⟩
    by_cases z8 : ln (t * 4 + q % 4) = 8
    · refine br_t (by rw [c4]; exact z8) ?_
      unfold wpY_read
      exact yw_tx hn ht (br_t rfl (zy_g7 hq ⟨vt, br_t (by rw [ct]; exact z) ⟨by decide, nm_r (za_rem hq) ⟨i4, br_t (by rw [c4]; exact z8) ⟨rfl, J⟩⟩⟩⟩))
    refine br_f (by rw [c4]; exact z8) ⟨v8, ?_⟩
    by_cases l2 : lo (t * 8 + q) = 2
    · obtain ⟨o, hp⟩ := zK_2 hK (by omega) l2
      refine nm_r (e' := nI t) (by rw [c8]; exact o) (br_t rfl ⟨v8, ?_⟩)
      unfold wpY_read
      exact yw_tx hn ht (br_t rfl (zy_g7 hq ⟨vt, br_t (by rw [ct]; exact z) ⟨by decide, nm_r (za_rem hq) ⟨i4, br_f (by rw [c4]; exact z8) ⟨i8, br_t (by rw [k8]; exact l2) ⟨i8, by rw [k8, c8]; exact hp.symm, J⟩⟩⟩⟩⟩))
    rcases hK.2 with ⟨o, hno⟩ | ⟨w, hw, o, hw2, _, hno⟩
    · refine nm_r (e' := -1) (by rw [c8]; exact o) (br_f (fun e => zu_m1 (a := t) (by omega) e.symm) (br_t (by decide) ?_))
      obtain ⟨r, H1, hX, hY⟩ := zz_rend H ht hq z z8 hno
      refine hX _ ?_
      refine yr_pre hn ht hq z z8 l2 ⟨1 + n, ?_⟩
      refine yw_skip (by omega) hq hn n 0 (by omega) (fun u h1 h2 => Or.inr (hno u (by omega))) ?_
      rw [Nat.zero_add]
      exact hY _ 0 ⟨rfl, zz_in H1⟩
    · have hwt : w ≠ t := fun e => l2 (e ▸ hw2)
      have iw := za_i8 (t := w) (by omega) hq
      have kw := za_c8 (t := w) (by omega) hq
      refine nm_r (e' := nI w) (by rw [c8]; exact o) (br_f (zu_ne (by omega) (by omega) hwt) (br_f (nI_pos (by omega)) ?_))
      have skip : ∀ (post : Int32 → SY → Prop) (d : Nat), wY_read_84 post (nI t) (nI q) (nI (q % 4)) d (nI w) (nI E) (nI C) (nI N) (nI n) off ear hom st cs ln ps lo py ma mv → wpY_read post (nI E, nI C, nI N, nI n, off, ear, hom, st, cs, ln, ps, lo, py, ma, mv) (nI t) (nI q) := by
        intro post d h
        refine yr_pre hn ht hq z z8 l2 ⟨d + w, ?_⟩
        refine yw_skip (by omega) hq hn w 0 (by omega) (fun u h1 h2 => Or.inr (hno u (by omega) (by omega))) ?_
        rw [Nat.zero_add]
        exact h
      have gw : ¬ nI n ≤ nI w := nI_ge hw (by omega)
      have ew : ¬ nI w = nI t := zu_ne (by omega) (by omega) hwt
      by_cases zw : w < t
      · exact br_t (nI_lt zw (by omega)) (skip _ 1 (br_f gw (br_f ew ⟨iw, br_t (by rw [kw]; exact hw2) (br_t (nI_lt zw (by omega)) ⟨rfl, J⟩)⟩)))
      · have nlt : ¬ nI w < nI t := nI_nlt (by omega) (by omega)
        refine br_f nlt ?_
        by_cases hp : zPr (ln (w * 4 + q % 4))
        · exact xw_prepY (by omega) hs hp (br_f (by decide) (skip _ 1 (br_f gw (br_f ew ⟨iw, br_t (by rw [kw]; exact hw2) (br_f nlt (yw_prepY (by omega) hs hp (br_f (by decide) ⟨rfl, J⟩)))⟩))))
        · refine xw_prepN (by omega) hs hp (br_t rfl ?_)
          have hHd : zHd (ln (w * 4 + q % 4)) := by
            rcases (H.2.1 w).2.1 q hq with c | ⟨_, c⟩
            · rw [hw2] at c; exact absurd c (by decide)
            · exact c
          have hl := zk_np ((H.2.1 w).1 (q % 4) hs) hHd hp
          obtain ⟨x, hx⟩ : ∃ x : Int32, (st w = 4 ∧ x = 9) ∨ (¬ st w = 4 ∧ x = 8) := by
            by_cases s4 : st w = 4
            · exact ⟨9, Or.inl ⟨s4, rfl⟩⟩
            · exact ⟨8, Or.inr ⟨s4, rfl⟩⟩
          have H1 := zq_wound H hw hs hl hx
          have hno1 : ∀ u, u < 32 → zrL lo w (q % 4) (u * 8 + q) ≠ 2 := by
            intro u hu
            by_cases e : u = w
            · subst e; rw [zrL_y hq rfl]; decide
            · rw [zrL_n hq (fun c => e c.1)]; exact hno u hu e
          have eln : upd ln (w * 4 + q % 4) x (t * 4 + q % 4) = ln (t * 4 + q % 4) := pk_un (by omega)
          obtain ⟨r, H2, hX, hY⟩ := zz_rend H1 ht hq z (by rw [eln]; exact z8) hno1
          refine xw_wound (by omega) hs hx ?_
          refine hX _ ?_
          refine skip _ (1 + (n - (w + 1)) + 1) (br_f gw (br_f ew ⟨iw, br_t (by rw [kw]; exact hw2) (br_f nlt (yw_prepN (by omega) hs hp (br_t rfl ?_)))⟩))
          refine yw_wound (by omega) hs hx ?_
          refine nm_r (nI_1 w) ?_
          refine yw_skip (by omega) hq hn (n - (w + 1)) (w + 1) (by omega) (fun u h1 h2 => Or.inr (hno1 u (by omega))) ?_
          rw [show w + 1 + (n - (w + 1)) = n by omega]
          exact hY _ 0 ⟨rfl, zz_in H2⟩
  · refine br_f (by rw [ct]; exact z) ?_
    unfold wpY_read
    exact yw_tx hn ht (br_t rfl (zy_g7 hq ⟨vt, br_f (by rw [ct]; exact z) ⟨rfl, J⟩⟩))
end
section
section
variable {E C N n : Nat} {off ear hom st cs ln ps sh ow px vs vv vc lt ls ll lo py ma mv : Nat → Int32}
/-! ===== write ===== -/
theorem xw_held0 {post : Int32 → Prop} {t q : Nat} (hn : n ≤ 32) (ht : t < n) (hq : q < 8) (hK : zK n sh ow px lo py q) (hf : ∀ u, u < 32 → u ≠ t → lo (u * 8 + q) = 0) (h : post 0) : wpX_isHeldByOther post (nI E, nI C, nI N, nI n, off, ear, hom, st, cs, ln, ps, sh, ow, px, vs, vv, vc, lt, ls, ll) (nI t) (nI q) := by
  have v8 : vp_in (nI q) 8 := vp_in_nI hq (by omega)
  have c8 : (nI q).toNatClampNeg = q := nI_clamp (by omega)
  have e0 : (sh (nI q).toNatClampNeg &&& (((1 : Int32) <<< (nI t &&& 31)) ^^^ (-1))) = 0 := by
    rw [c8, zb_clr0 (by omega)]
    intro u hu hne
    rcases hb : bt (sh q) u with _ | _
    · rfl
    · have := (hK.1 u hu).mp hb
      rw [hf u hu hne] at this; exact absurd this (by decide)
  refine ⟨v8, br_t e0 ⟨v8, ?_⟩⟩
  rcases hK.2 with ⟨o, _⟩ | ⟨w, hw, o, hw2, _⟩
  · exact br_t (by rw [c8, o]; decide) h
  · have : w = t := by
      rcases Nat.decEq w t with c | c
      · rw [hf w (by omega) c] at hw2; exact absurd hw2 (by decide)
      · exact c
    subst this
    exact br_f (by rw [c8, o]; exact nI_pos (by omega)) ⟨v8, br_t (by rw [c8]; exact o) h⟩
theorem xw_held1 {post : Int32 → Prop} {t q u : Nat} (hn : n ≤ 32) (ht : t < n) (hq : q < 8) (hK : zK n sh ow px lo py q) (hu : u < n) (hne : u ≠ t) (h12 : lo (u * 8 + q) = 1 ∨ lo (u * 8 + q) = 2) (h : post 1) : wpX_isHeldByOther post (nI E, nI C, nI N, nI n, off, ear, hom, st, cs, ln, ps, sh, ow, px, vs, vv, vc, lt, ls, ll) (nI t) (nI q) := by
  have v8 : vp_in (nI q) 8 := vp_in_nI hq (by omega)
  have c8 : (nI q).toNatClampNeg = q := nI_clamp (by omega)
  refine ⟨v8, br_c (fun e0 => ⟨v8, ?_⟩) (fun _ => h)⟩
  rcases h12 with h1 | h2
  · exfalso
    rw [c8, zb_clr0 (by omega)] at e0
    have h3 := e0 u (by omega) hne
    rw [(hK.1 u (by omega)).mpr h1] at h3
    exact absurd h3 (by decide)
  · have o := (zK_2 hK (by omega) h2).1
    exact br_f (by rw [c8, o]; exact nI_pos (by omega)) ⟨v8, br_f (by rw [c8, o]; exact zu_ne (by omega) (by omega) hne) h⟩
/-- the younger holders are wounded: both sides in step -/
theorem zz_wy {t q : Nat} (hq : q < 8) (hn : n ≤ 32) : ∀ d i, i + d = n → t < i → ∀ ln sh ow px lo py, zInv E C N n off ear hom st cs ln ps sh ow px vs vv vc lt ls ll lo py ma mv →
    ∃ ln' sh' ow' px' lo' py', zInv E C N n off ear hom st cs ln' ps sh' ow' px' vs vv vc lt ls ll lo' py' ma mv ∧ ln' (t * 4 + q % 4) = ln (t * 4 + q % 4) ∧
      (∀ Q : SX → Prop, Q (nI E, nI C, nI N, nI n, off, ear, hom, st, cs, ln', ps, sh', ow', px', vs, vv, vc, lt, ls, ll) → wX_woundYounger_9 Q (nI q) (nI (q % 4)) (d + 1) (nI i) (nI E) (nI C) (nI N) (nI n) off ear hom st cs ln ps sh ow px vs vv vc lt ls ll) ∧
      (∀ (Q : Int32 → SY → Prop) (w : Int32), (∃ g, wY_write_124 Q (nI t) (nI q) w (nI (q % 4)) (nI E) (nI C) (nI N) (nI n) off ear hom st cs ln' ps lo' py' ma mv g 0) → wY_write_72 Q (nI t) (nI q) w (nI (q % 4)) (d + 1) (nI i) (nI E) (nI C) (nI N) (nI n) off ear hom st cs ln ps lo py ma mv) := by
  intro d
  induction d with
  | zero =>
    intro i hi hti ln sh ow px lo py H
    obtain rfl : i = n := by omega
    have g : nI i ≤ nI i := nI_le (Nat.le_refl i) (by omega)
    exact ⟨ln, sh, ow, px, lo, py, H, rfl, fun Q h => br_t g h, fun Q w h => br_t g h⟩
  | succ d ih =>
    intro i hi hti ln sh ow px lo py H
    have v8 : vp_in (nI q) 8 := vp_in_nI hq (by omega)
    have c8 : (nI q).toNatClampNeg = q := nI_clamp (by omega)
    have hs : q % 4 < 4 := by omega
    have i8 := za_i8 (t := i) (by omega) hq
    have k8 := za_c8 (t := i) (by omega) hq
    have g : ¬ nI n ≤ nI i := nI_ge (by omega) (by omega)
    have hK := H.2.2.2.1 q hq
    by_cases z : lo (i * 8 + q) = 0
    · obtain ⟨ln', sh', ow', px', lo', py', H1, e1, hX, hY⟩ := ih (i + 1) (by omega) (by omega) ln sh ow px lo py H
      have o := zK_n2 hK hn (t := i) (by omega) (by rw [z]; decide)
      have hb : bt (sh q) i = false := by
        rcases hbb : bt (sh q) i with _ | _
        · rfl
        · have := (hK.1 i (by omega)).mp hbb
          rw [z] at this; exact absurd this (by decide)
      refine ⟨ln', sh', ow', px', lo', py', H1, e1, fun Q h => ?_, fun Q w h => ?_⟩
      · exact br_f g ⟨v8, br_f (by rw [c8]; exact o) ⟨v8, br_t (by rw [c8]; exact (zb_and0 (by omega)).mpr hb) (br_t rfl (nm_r (nI_1 i) (hX Q h)))⟩⟩
      · exact br_f g ⟨i8, br_t (by rw [k8]; exact z) (nm_r (nI_1 i) (hY Q w h))⟩
    · have h12 : (lo (i * 8 + q) = 1 ∨ lo (i * 8 + q) = 2) ∧ zHd (ln (i * 4 + q % 4)) := by
        rcases (H.2.1 i).2.1 q hq with c | c
        · exact absurd c z
        · exact c
      have hold : ∀ Q : SX → Prop, wX_woundYounger_48 Q (wX_woundYounger_9 Q (nI q) (nI (q % 4)) (d + 1)) (nI q) (nI (q % 4)) (nI i) 1 (nI E) (nI C) (nI N) (nI n) off ear hom st cs ln ps sh ow px vs vv vc lt ls ll → wX_woundYounger_9 Q (nI q) (nI (q % 4)) (d + 1 + 1) (nI i) (nI E) (nI C) (nI N) (nI n) off ear hom st cs ln ps sh ow px vs vv vc lt ls ll := by
        intro Q h
        refine br_f g ⟨v8, ?_⟩
        by_cases o : ow q = nI i
        · exact br_t (by rw [c8]; exact o) h
        · refine br_f (by rw [c8]; exact o) ⟨v8, br_f ?_ h⟩
          rw [c8, zb_and0 (by omega)]
          intro c
          rcases h12.1 with h1 | h2
          · rw [(hK.1 i (by omega)).mpr h1] at c
            exact absurd c (by decide)
          · exact o (zK_2 hK (by omega) h2).1
      by_cases hp : zPr (ln (i * 4 + q % 4))
      · obtain ⟨ln', sh', ow', px', lo', py', H1, e1, hX, hY⟩ := ih (i + 1) (by omega) (by omega) ln sh ow px lo py H
        refine ⟨ln', sh', ow', px', lo', py', H1, e1, fun Q h => ?_, fun Q w h => ?_⟩
        · exact hold Q (br_f (by decide) (xw_prepY (by omega) hs hp (br_f (by decide) (nm_r (nI_1 i) (hX Q h)))))
        · exact br_f g ⟨i8, br_f (by rw [k8]; exact z) (yw_prepY (by omega) hs hp (br_f (by decide) (nm_r (nI_1 i) (hY Q w h))))⟩
      · have hl := zk_np ((H.2.1 i).1 (q % 4) hs) h12.2 hp
        obtain ⟨x, hx⟩ : ∃ x : Int32, (st i = 4 ∧ x = 9) ∨ (¬ st i = 4 ∧ x = 8) := by
          by_cases s4 : st i = 4
          · exact ⟨9, Or.inl ⟨s4, rfl⟩⟩
          · exact ⟨8, Or.inr ⟨s4, rfl⟩⟩
        have H0 := zq_wound H (show i < n by omega) hs hl hx
        obtain ⟨ln', sh', ow', px', lo', py', H1, e1, hX, hY⟩ := ih (i + 1) (by omega) (by omega) _ _ _ _ _ _ H0
        refine ⟨ln', sh', ow', px', lo', py', H1, e1.trans (pk_un (by omega)), fun Q h => ?_, fun Q w h => ?_⟩
        · exact hold Q (br_f (by decide) (xw_prepN (by omega) hs hp (br_t rfl (xw_wound (by omega) hs hx (nm_r (nI_1 i) (hX Q h))))))
        · exact br_f g ⟨i8, br_f (by rw [k8]; exact z) (yw_prepN (by omega) hs hp (br_t rfl (yw_wound (by omega) hs hx (nm_r (nI_1 i) (hY Q w h)))))⟩
end
theorem i_vc_write {k : Nat} {u : SX} {v : SY} (I : i_Rel k u v) (hk : k + 4 ≤ 2050) (v1 : Int32) (v2 : Int32) (v3 : Int32) : wpX_write (fun r u' => wpY_write (fun r' v' => r' = r ∧ i_Rel (k + 4) u' v') v v1 v2 v3) u v1 v2 v3 := by
  refine zz_el (P := fun u v => wpX_write (fun r u' => wpY_write (fun r' v' => r' = r ∧ i_Rel (k + 4) u' v') v v1 v2 v3) u v1 v2 v3) ?_ I
  intro E C N n off ear hom st cs ln ps sh ow px vs vv vc lt ls ll lo py ma mv H
  have J : i_Rel (k + 4) (nI E, nI C, nI N, nI n, off, ear, hom, st, cs, ln, ps, sh, ow, px, vs, vv, vc, lt, ls, ll) (nI E, nI C, nI N, nI n, off, ear, hom, st, cs, ln, ps, lo, py, ma, mv) := zz_in H
  have hn := zA_32 H.1
  unfold wpX_write
  rcases zz_ix v1 hn with b | ⟨t, ht, rfl⟩
  · refine xw_knownB b (br_t rfl ?_)
    unfold wpY_write
    exact yw_txB b (br_f (by decide) ⟨rfl, J⟩)
  refine xw_known hn ht (br_f (by decide) ?_)
  rcases zz_8 v2 with b | ⟨q, hq, rfl⟩
  · refine xw_keyB b (br_t rfl ?_)
    unfold wpY_write
    exact yw_tx hn ht (br_t rfl (zy_b7s b ⟨rfl, J⟩ ⟨rfl, J⟩))
  have vt : vp_in (nI t) 32 := vp_in_nI (by omega) (by omega)
  have ct : (nI t).toNatClampNeg = t := nI_clamp (by omega)
  have v8 : vp_in (nI q) 8 := vp_in_nI hq (by omega)
  have c8 : (nI q).toNatClampNeg = q := nI_clamp (by omega)
  have hs : q % 4 < 4 := by omega
  have i4 := za_i4 (t := t) (by omega) hs
  have c4 := za_c4 (t := t) (by omega) hs
  refine xw_key hq (br_f (by decide) ?_)
  have yp : ∀ {post : Int32 → SY → Prop}, ((v3 < 0 → post (-1) (nI E, nI C, nI N, nI n, off, ear, hom, st, cs, ln, ps, lo, py, ma, mv)) ∧ (¬ v3 < 0 → ((v3 ≤ 9999 → (vp_in (nI t) 32 ∧ ((st (nI t).toNatClampNeg = 0 → (¬ (4 : Int32) = 0 ∧ (∀ x, x = nI q - nI q / 4 * 4 → (vp_in (nI t * 4 + x) 128 ∧ ((ln (nI t * 4 + x).toNatClampNeg = 8 → post (-4) (nI E, nI C, nI N, nI n, off, ear, hom, st, cs, ln, ps, lo, py, ma, mv)) ∧ (¬ ln (nI t * 4 + x).toNatClampNeg = 8 → (∀ x5, x5 = nI t + 1 → ∃ n72, wY_write_72 post (nI t) (nI q) v3 x n72 x5 (nI E) (nI C) (nI N) (nI n) off ear hom st cs ln ps lo py ma mv))))))) ∧ (¬ st (nI t).toNatClampNeg = 0 → post (-3) (nI E, nI C, nI N, nI n, off, ear, hom, st, cs, ln, ps, lo, py, ma, mv))))) ∧ (¬ v3 ≤ 9999 → post (-1) (nI E, nI C, nI N, nI n, off, ear, hom, st, cs, ln, ps, lo, py, ma, mv))))) → wpY_write post (nI E, nI C, nI N, nI n, off, ear, hom, st, cs, ln, ps, lo, py, ma, mv) (nI t) (nI q) v3 := by
    intro post h
    unfold wpY_write
    exact yw_tx hn ht (br_t rfl (zy_g7s hq h))
  by_cases a1 : v3 < 0
  · exact br_t a1 (yp (br_t a1 ⟨rfl, J⟩))
  by_cases a2 : v3 ≤ 9999
  · refine br_f a1 (br_t a2 ⟨vt, ?_⟩)
    by_cases z : st t = 0
    · refine br_t (by rw [ct]; exact z) ⟨by decide, nm_r (za_rem hq) ⟨i4, ?_⟩⟩
      by_cases z8 : ln (t * 4 + q % 4) = 8
      · exact br_t (by rw [c4]; exact z8) (yp (br_f a1 (br_t a2 ⟨vt, br_t (by rw [ct]; exact z) ⟨by decide, nm_r (za_rem hq) ⟨i4, br_t (by rw [c4]; exact z8) ⟨rfl, J⟩⟩⟩⟩)))
      refine br_f (by rw [c4]; exact z8) ?_
      obtain ⟨ln', sh', ow', px', lo', py', H1, e1, hX, hY⟩ := zz_wy (t := t) hq hn (n - (t + 1)) (t + 1) (by omega) (by omega) ln sh ow px lo py H
      have hl1 : ¬ ln' (t * 4 + q % 4) = 8 := by rw [e1]; exact z8
      have h01 := zk_0 (z ▸ (H1.2.1 t).1 (q % 4) hs) hl1
      have hK1 := H1.2.2.2.1 q hq
      unfold wpX_woundYounger
      refine ⟨by decide, nm_r (za_rem hq) (nm_r (nI_1 t) ⟨_, hX _ ?_⟩)⟩
      have yq : ∀ {post : Int32 → SY → Prop}, (∃ g, wY_write_124 post (nI t) (nI q) v3 (nI (q % 4)) (nI E) (nI C) (nI N) (nI n) off ear hom st cs ln' ps lo' py' ma mv g 0) → wpY_write post (nI E, nI C, nI N, nI n, off, ear, hom, st, cs, ln, ps, lo, py, ma, mv) (nI t) (nI q) v3 := by
        intro post h
        exact yp (br_f a1 (br_t a2 ⟨vt, br_t (by rw [ct]; exact z) ⟨by decide, nm_r (za_rem hq) ⟨i4, br_f (by rw [c4]; exact z8) (nm_r (nI_1 t) ⟨_, hY post v3 h⟩)⟩⟩⟩))
      by_cases free : ∀ u, u < 32 → u ≠ t → lo' (u * 8 + q) = 0
      · refine xw_held0 hn ht hq hK1 free (br_t rfl ?_)
        refine xw_open (by omega) hs h01 ?_
        refine ⟨v8, v8, nm_r (e' := upd sh' q (sh' q &&& (((1 : Int32) <<< (nI t &&& 31)) ^^^ (-1)))) (by rw [c8]) ⟨v8, nm_r (e' := upd ow' q (nI t)) (by rw [c8]) ⟨v8, nm_r (e' := upd px' q v3) (by rw [c8]) ?_⟩⟩⟩
        exact yq ⟨n + 1, yw_124Y (by omega) hq hs hn h01 (fun u hu hne => free u (by omega) hne) ⟨rfl, zz_in (zq_ex H1 ht hq z hl1 free)⟩ n 0 (by omega)⟩
      · obtain ⟨u, hu⟩ : ∃ u, ¬ (u < 32 → u ≠ t → lo' (u * 8 + q) = 0) := Classical.not_forall.mp free
        have hu32 : u < 32 := Classical.byContradiction (fun c => hu (fun d => absurd d c))
        have hne : u ≠ t := Classical.byContradiction (fun c => hu (fun _ d => absurd d c))
        have h0 : ¬ lo' (u * 8 + q) = 0 := fun c => hu (fun _ _ => c)
        have hun : u < n := by
          rcases Nat.lt_or_ge u n with c | c
          · exact c
          · exact absurd ((H1.2.2.1 u c).2.2 q hq).1 h0
        have h12 : lo' (u * 8 + q) = 1 ∨ lo' (u * 8 + q) = 2 := by
          rcases (H1.2.1 u).2.1 q hq with c | c
          · exact absurd c h0
          · exact c.1
        refine xw_held1 hn ht hq hK1 hun hne h12 (br_f (by decide) ?_)
        exact yq ⟨n + 1, yw_124N (by omega) hq hn ⟨rfl, zz_in H1⟩ n 0 (by omega) ⟨u, Nat.zero_le u, hun, hne, h0⟩⟩
    · exact br_f (by rw [ct]; exact z) (yp (br_f a1 (br_t a2 ⟨vt, br_f (by rw [ct]; exact z) ⟨rfl, J⟩⟩)))
  · exact br_f a1 (br_f a2 (yp (br_f a1 (br_f a2 ⟨rfl, J⟩))))
end
