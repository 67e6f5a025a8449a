section
/-! rows pasted out of kit/rows (starting texts) -/
theorem pk_us {f : Nat → Int32} {k : Nat} {x : Int32} : upd f k x k = x := if_pos rfl
theorem pk_un {f : Nat → Int32} {k j : Nat} {x : Int32} (h : j ≠ k) : upd f k x j = f j := if_neg h
theorem pk_sub {a b : Nat} (h : b ≤ a) : nI a - nI b = nI (a - b) := by
  obtain ⟨c, rfl⟩ : ∃ c, a = c + b := ⟨a - b, by omega⟩
  rw [← nI_add, Int32.add_sub_cancel, Nat.add_sub_cancel]
theorem pk_m1 (n : Nat) : nI (n + 1) + (-1) = nI n := by
  rw [← nI_1, Int32.add_assoc, show (1 : Int32) + (-1) = 0 from rfl, Int32.add_zero]
theorem pk_mul (a b : Nat) : nI a * nI b = nI (a * b) := (Int32.ofNat_mul a b).symm
theorem pk_div {a d : Nat} (ha : a < 2 ^ 31) (h0 : 0 < d) (hd : d < 2 ^ 31) : nI a / nI d = nI (a / d) := by
  apply Int32.toInt_inj.mp
  rw [lg_idiv_nonneg (by rw [nI_toInt ha]; omega) (by rw [nI_toInt hd]; omega), nI_toInt ha, nI_toInt hd, nI_toInt (Nat.lt_of_le_of_lt (Nat.div_le_self a d) ha)]
  first | rfl | exact (Int.natCast_ediv _ _).symm
theorem pk_rem {a d : Nat} (ha : a < 2 ^ 31) (h0 : 0 < d) (hd : d < 2 ^ 31) : nI a - nI a / nI d * nI d = nI (a % d) := by
  rw [pk_div ha h0 hd, pk_mul, pk_sub (Nat.div_mul_le_self a d)]
  exact congrArg nI (by have := Nat.div_add_mod' a d; omega)
theorem pk_ix (x : Int32) {n : Nat} (hn : n < 2 ^ 31) : x < 0 ∨ nI n ≤ x ∨ ∃ j : Nat, j < n ∧ x = nI j := by
  by_cases h : x < 0
  · exact Or.inl h
  · obtain ⟨j, hj, rfl⟩ := nI_of h
    by_cases h2 : j < n
    · exact Or.inr (Or.inr ⟨j, h2, rfl⟩)
    · exact Or.inr (Or.inl (nI_le (by omega) hj))
theorem pk_le {x y : Int32} {A B : Prop} (a b : Nat) (f : a ≤ b → A) (g : b < a → B) (hx : x = nI a := by rfl) (hy : y = nI b := by rfl) (ha : a < 2 ^ 31 := by omega) (hb : b < 2 ^ 31 := by omega) : (x ≤ y → A) ∧ (¬ x ≤ y → B) := by
  subst hx hy
  rw [nI_leI ha hb]
  exact ⟨f, fun z => g (by omega)⟩
theorem pk_lt {x y : Int32} {A B : Prop} (a b : Nat) (f : a < b → A) (g : b ≤ a → B) (hx : x = nI a := by rfl) (hy : y = nI b := by rfl) (ha : a < 2 ^ 31 := by omega) (hb : b < 2 ^ 31 := by omega) : (x < y → A) ∧ (¬ x < y → B) := by
  subst hx hy
  rw [nI_ltI ha hb]
  exact ⟨f, fun z => g (by omega)⟩
theorem pk_eq {x y : Int32} {A B : Prop} (a b : Nat) (f : a = b → A) (g : a ≠ b → B) (hx : x = nI a := by rfl) (hy : y = nI b := by rfl) (ha : a < 2 ^ 31 := by omega) (hb : b < 2 ^ 31 := by omega) : (x = y → A) ∧ (¬ x = y → B) := by
  subst hx hy
  rw [nI_eq ha hb]
  exact ⟨f, g⟩
theorem pk_in {x : Int32} (n N : Nat) (h : n < N) (hx : x = nI n := by rfl) (hN : N < 2 ^ 31 := by omega) : vp_in x N := by
  subst hx
  exact vp_in_nI h hN
theorem pk_cl {x : Int32} (n : Nat) (hx : x = nI n := by rfl) (h : n < 2 ^ 31 := by omega) : x.toNatClampNeg = n := by
  subst hx
  exact nI_clamp h
theorem pk_tn {n : Nat} (h : n < 2 ^ 32) : (nI n).toBitVec.toNat = n := Nat.mod_eq_of_lt h
theorem pk_and (x : Int32) {m : Int32} (k : Nat) (hm : m.toBitVec.toNat = 2 ^ k - 1) : x &&& m = nI (x.toBitVec.toNat % 2 ^ k) := by
  apply Int32.toBitVec_inj.mp
  apply BitVec.eq_of_toNat_eq
  rw [Int32.toBitVec_and, BitVec.toNat_and, hm, Nat.and_two_pow_sub_one_eq_mod]
  show _ = (BitVec.ofNat 32 _).toNat
  rw [BitVec.toNat_ofNat]
  exact (Nat.mod_eq_of_lt (Nat.lt_of_le_of_lt (Nat.mod_le _ _) x.toBitVec.isLt)).symm
theorem pk_andN {n : Nat} (h : n < 2 ^ 32) {m : Int32} (k : Nat) (hm : m.toBitVec.toNat = 2 ^ k - 1) : nI n &&& m = nI (n % 2 ^ k) := by
  rw [pk_and _ k hm, pk_tn h]
theorem pk_shl (a s : Int32) (k : Nat) (hs : (s.toBitVec.smod 32).toNat = k) : (a <<< s).toBitVec.toNat = a.toBitVec.toNat * 2 ^ k % 2 ^ 32 := by
  show (a.toBitVec <<< (s.toBitVec.smod 32).toNat).toNat = _
  rw [hs, BitVec.toNat_shiftLeft, Nat.shiftLeft_eq]
theorem pk_shlN {n : Nat} (s : Int32) (k : Nat) (hs : (s.toBitVec.smod 32).toNat = k) (h : n * 2 ^ k < 2 ^ 32) : nI n <<< s = nI (n * 2 ^ k) := by
  apply Int32.toBitVec_inj.mp
  apply BitVec.eq_of_toNat_eq
  have hn : n < 2 ^ 32 := Nat.lt_of_le_of_lt (Nat.le_mul_of_pos_right n (Nat.two_pow_pos k)) h
  rw [pk_shl _ _ k hs, pk_tn hn, pk_tn h, Nat.mod_eq_of_lt h]
theorem pk_shr (a s : Int32) (k : Nat) (hs : (s.toBitVec.smod 32).toNat = k) : (a >>> s).toInt = a.toInt >>> k := by
  show (a.toBitVec.sshiftRight (s.toBitVec.smod 32).toNat).toInt = _
  rw [hs, BitVec.toInt_sshiftRight]
  rfl
theorem pk_shrN {n : Nat} (h : n < 2 ^ 31) (s : Int32) (k : Nat) (hs : (s.toBitVec.smod 32).toNat = k) : nI n >>> s = nI (n / 2 ^ k) := by
  apply Int32.toInt_inj.mp
  have h2 : n / 2 ^ k ≤ n := Nat.div_le_self _ _
  rw [pk_shr _ _ k hs, nI_toInt h, nI_toInt (by omega), Int.shiftRight_eq_div_pow]
  rfl
theorem pk_nb (z : Int32) : narrow .byte (.int z.toInt8.toInt32) = .int z.toInt8.toInt32 := congrArg Value.int (by simp)
theorem pk_fb (r : Int32) : fits .byte (.int r.toInt8.toInt32) = true := by
  have ⟨a, b⟩ := lg_i2b_range r
  have h1 : (-128 : Int32).toInt = -128 := by decide
  have h2 : (127 : Int32).toInt = 127 := by decide
  simp only [fits, Bool.and_eq_true, decide_eq_true_eq, Int32.le_iff_toInt_le, h1, h2]
  omega
theorem pk_vb (z : Int32) : vp_nar .byte z.toInt8.toInt32 = z.toInt8.toInt32 := by rw [vp_nar_byte]; simp
theorem s_l : ∀ n, n < 32 → ((nI n &&& 31).toBitVec.smod 32).toNat = n := by decide +kernel
theorem nx_and (a b : Nat) : nI a &&& nI b = nI (a &&& b) := by
  apply Int32.toBitVec_inj.1
  show BitVec.ofNat 32 a &&& BitVec.ofNat 32 b = BitVec.ofNat 32 (a &&& b)
  apply BitVec.eq_of_getLsbD_eq
  intro i hi
  simp [hi]
theorem nx_xor (a b : Nat) : nI a ^^^ nI b = nI (a ^^^ b) := by
  apply Int32.toBitVec_inj.1
  show BitVec.ofNat 32 a ^^^ BitVec.ofNat 32 b = BitVec.ofNat 32 (a ^^^ b)
  apply BitVec.eq_of_getLsbD_eq
  intro i hi
  simp [hi]
end
section
/-! sets of numbers as naturals by their bits -/
abbrev el_ (S i : Nat) : Prop := S.testBit i = true
theorem el_nf {S i : Nat} (h : ¬ el_ S i) : S.testBit i = false := by
  cases e : S.testBit i
  · rfl
  · exact absurd e h
theorem el_0 {i : Nat} : ¬ el_ 0 i := by simp [el_]
theorem el_or {a b i : Nat} : el_ (a ||| b) i ↔ el_ a i ∨ el_ b i := by simp [el_, Nat.testBit_or]
theorem el_and {a b i : Nat} : el_ (a &&& b) i ↔ el_ a i ∧ el_ b i := by simp [el_, Nat.testBit_and]
theorem el_pw {p i : Nat} : el_ (2 ^ p) i ↔ p = i := by simp [el_, Nat.testBit_two_pow]
theorem el_full {n i : Nat} : el_ (2 ^ n - 1) i ↔ i < n := by simp [el_, Nat.testBit_two_pow_sub_one]
theorem el_lt {S n i : Nat} (h : S < 2 ^ n) (e : el_ S i) : i < n := by
  rcases Nat.lt_or_ge i n with h1 | h1
  · exact h1
  · have h2 : S < 2 ^ i := Nat.lt_of_lt_of_le h (Nat.pow_le_pow_right (by decide) h1)
    rw [el_, Nat.testBit_lt_two_pow h2] at e
    cases e
theorem el_bd {S n : Nat} (h : ∀ i, el_ S i → i < n) : S < 2 ^ n :=
  Nat.lt_pow_two_of_testBit S (fun i hi => el_nf (fun e => absurd (h i e) (by omega)))
theorem el_ext {S T : Nat} (h : ∀ i, el_ S i ↔ el_ T i) : S = T := by
  apply Nat.eq_of_testBit_eq
  intro i
  have := h i
  unfold el_ at this
  cases e : S.testBit i <;> cases e' : T.testBit i <;> simp_all
theorem el_ex {S : Nat} (h : S ≠ 0) : ∃ i, el_ S i := Nat.exists_testBit_of_ne_zero h
theorem el_ne {S i : Nat} (h : el_ S i) : S ≠ 0 := by
  intro e
  subst e
  exact el_0 h
theorem el_and0 {a b : Nat} : a &&& b = 0 ↔ ∀ i, el_ a i → ¬ el_ b i := by
  constructor
  · intro h i ha hb
    exact el_ne (el_and.mpr ⟨ha, hb⟩) h
  · intro h
    apply Classical.byContradiction
    intro hn
    obtain ⟨i, hi⟩ := el_ex hn
    exact h i (el_and.mp hi).1 (el_and.mp hi).2
theorem el_andn {a b : Nat} : ¬ a &&& b = 0 ↔ ∃ i, el_ a i ∧ el_ b i := by
  constructor
  · intro hn
    obtain ⟨i, hi⟩ := el_ex hn
    exact ⟨i, el_and.mp hi⟩
  · rintro ⟨i, hi⟩
    exact el_ne (el_and.mpr hi)
theorem el_p2 {n : Nat} (h : n ≤ 10) : 2 ^ n ≤ 1024 := Nat.pow_le_pow_right (n := 2) (by decide) h
theorem el_orlt {a b n : Nat} (ha : a < 2 ^ n) (hb : b < 2 ^ n) : a ||| b < 2 ^ n := Nat.or_lt_two_pow ha hb
theorem el_pwlt {p n : Nat} (h : p < n) : 2 ^ p < 2 ^ n := Nat.pow_lt_pow_right (by decide) h
/-- a without b -/
def df_ (a b : Nat) : Nat := a &&& (b ^^^ 4294967295)
theorem df_el {a : Nat} (ha : a < 2 ^ 31) (b i : Nat) : el_ (df_ a b) i ↔ el_ a i ∧ ¬ el_ b i := by
  unfold df_ el_
  rw [Nat.testBit_and, Nat.testBit_xor, show (4294967295 : Nat) = 2 ^ 32 - 1 from rfl, Nat.testBit_two_pow_sub_one]
  rcases Nat.lt_or_ge i 32 with h | h
  · cases e : a.testBit i <;> cases e' : b.testBit i <;> simp [h]
  · have h2 : a < 2 ^ i := Nat.lt_of_lt_of_le ha (Nat.pow_le_pow_right (by decide) (by omega))
    rw [Nat.testBit_lt_two_pow h2]
    simp
theorem df_lt {a n : Nat} (b : Nat) (h : a < 2 ^ n) : df_ a b < 2 ^ n := by
  unfold df_
  rw [Nat.and_comm]
  exact Nat.and_lt_two_pow _ h
theorem uo_or (a b : Nat) : nI a ||| nI b = nI (a ||| b) := by
  apply Int32.toBitVec_inj.1
  show BitVec.ofNat 32 a ||| BitVec.ofNat 32 b = BitVec.ofNat 32 (a ||| b)
  apply BitVec.eq_of_getLsbD_eq
  intro i hi
  simp [hi]
theorem uo_m1 : (-1 : Int32) = nI 4294967295 := by decide +kernel
theorem uo_df (a b : Nat) : nI a &&& (nI b ^^^ (-1)) = nI (df_ a b) := by
  rw [uo_m1, nx_xor, nx_and]
  rfl
theorem uo_pw : ∀ p, p < 31 → (1 : Int32) <<< (nI p &&& 31) = nI (2 ^ p) := by decide +kernel
theorem uo_bit {a p : Nat} (ha : a < 2 ^ 31) (hp : p < 31) : (nI a >>> (nI p &&& 31)) &&& 1 = nI (a.testBit p).toNat := by
  rw [pk_shrN ha _ p (s_l p (by omega))]
  show nI _ &&& nI 1 = _
  rw [nx_and, Nat.and_one_is_mod, Nat.toNat_testBit]
theorem uo_b0 {a p : Nat} (ha : a < 2 ^ 31) (hp : p < 31) : (nI a >>> (nI p &&& 31)) &&& 1 = 0 ↔ ¬ el_ a p := by
  rw [uo_bit ha hp]
  unfold el_
  cases a.testBit p <;> decide
theorem uo_b1 {a p : Nat} (ha : a < 2 ^ 31) (hp : p < 31) : (nI a >>> (nI p &&& 31)) &&& 1 = 1 ↔ el_ a p := by
  rw [uo_bit ha hp]
  unfold el_
  cases a.testBit p <;> decide
theorem uo_01 (v : Int32) : v &&& 1 = 0 ∨ v &&& 1 = 1 := by
  rw [pk_and v (m := 1) 1 (by decide)]
  have h : v.toBitVec.toNat % 2 ^ 1 < 2 := Nat.mod_lt _ (by decide)
  generalize v.toBitVec.toNat % 2 ^ 1 = z at h
  rcases (by omega : z = 0 ∨ z = 1) with e | e <;> subst e
  · exact Or.inl rfl
  · exact Or.inr rfl
theorem uo_n0 (v : Int32) : ¬ v &&& 1 = 0 ↔ v &&& 1 = 1 := by
  rcases uo_01 v with e | e <;> rw [e] <;> decide
theorem uo_z0 {a : Nat} (ha : a < 2 ^ 31) : nI a = 0 ↔ a = 0 := by
  rw [← nI_0, nI_eq ha (by decide)]
/-- a branch over one bit -/
theorem uo_bz {A B : Prop} {x y : Int32} (a p : Nat) (f : ¬ el_ a p → A) (g : el_ a p → B) (hx : x = nI a := by rfl) (hy : y = nI p := by rfl) (ha : a < 2 ^ 31 := by omega) (hp : p < 31 := by omega) : ((x >>> (y &&& 31)) &&& 1 = 0 → A) ∧ (¬ (x >>> (y &&& 31)) &&& 1 = 0 → B) := by
  subst hx hy
  rw [uo_b0 ha hp]
  exact ⟨f, fun h => g (Classical.not_not.mp h)⟩
/-- a branch over a meet -/
theorem uo_mz {A B : Prop} {x y : Int32} (a b : Nat) (f : (∀ i, el_ a i → ¬ el_ b i) → A) (g : (∃ i, el_ a i ∧ el_ b i) → B) (hx : x = nI a := by rfl) (hy : y = nI b := by rfl) (ha : a < 2 ^ 31 := by omega) : (x &&& y = 0 → A) ∧ (¬ x &&& y = 0 → B) := by
  subst hx hy
  rw [nx_and, uo_z0 (Nat.lt_of_le_of_lt Nat.and_le_left ha)]
  exact ⟨fun h => f (el_and0.mp h), fun h => g (el_andn.mp h)⟩
/-- a branch over a difference -/
theorem uo_dz {A B : Prop} {x y : Int32} (a b : Nat) (f : (∀ i, el_ a i → el_ b i) → A) (g : (∃ i, el_ a i ∧ ¬ el_ b i) → B) (hx : x = nI a := by rfl) (hy : y = nI b := by rfl) (ha : a < 2 ^ 31 := by omega) : (x &&& (y ^^^ (-1)) = 0 → A) ∧ (¬ x &&& (y ^^^ (-1)) = 0 → B) := by
  subst hx hy
  rw [uo_df, uo_z0 (df_lt (n := 31) b ha)]
  constructor
  · intro h
    refine f (fun i hi => Classical.byContradiction fun hn => ?_)
    exact el_ne ((df_el ha b i).mpr ⟨hi, hn⟩) h
  · intro h
    obtain ⟨i, hi⟩ := el_ex h
    exact g ⟨i, (df_el ha b i).mp hi⟩
/-- one element alone -/
theorem uo_one : ∀ a, a < 1024 → a ≠ 0 → a &&& (a - 1) = 0 → ∃ i, i < 10 ∧ a = 2 ^ i := by decide +kernel
/-- the set of the numbers below n with P -/
noncomputable def mk_ (P : Nat → Prop) : Nat → Nat
  | 0 => 0
  | m + 1 => mk_ P m ||| (@ite Nat (P m) (Classical.propDecidable _) (2 ^ m) 0)
theorem mk_t {P : Nat → Prop} {m : Nat} (h : P m) : mk_ P (m + 1) = mk_ P m ||| 2 ^ m := by
  show _ ||| _ = _
  rw [if_pos h]
theorem mk_f {P : Nat → Prop} {m : Nat} (h : ¬ P m) : mk_ P (m + 1) = mk_ P m := by
  show _ ||| _ = _
  rw [if_neg h, Nat.or_zero]
theorem mk_el {P : Nat → Prop} {n i : Nat} : el_ (mk_ P n) i ↔ i < n ∧ P i := by
  induction n with
  | zero => exact ⟨fun h => absurd h el_0, fun h => absurd h.1 (by omega)⟩
  | succ m ih =>
    by_cases h : P m
    · rw [mk_t h, el_or, ih, el_pw]
      constructor
      · rintro (⟨h1, h2⟩ | h1)
        · exact ⟨by omega, h2⟩
        · subst h1
          exact ⟨by omega, h⟩
      · rintro ⟨h1, h2⟩
        rcases Nat.lt_or_ge i m with h3 | h3
        · exact Or.inl ⟨h3, h2⟩
        · exact Or.inr (by omega)
    · rw [mk_f h, ih]
      constructor
      · rintro ⟨h1, h2⟩
        exact ⟨by omega, h2⟩
      · rintro ⟨h1, h2⟩
        rcases Nat.lt_or_ge i m with h3 | h3
        · exact ⟨h3, h2⟩
        · have : i = m := by omega
          subst this
          exact absurd h2 h
theorem mk_lt (P : Nat → Prop) (n : Nat) : mk_ P n < 2 ^ n := el_bd (fun _ h => (mk_el.mp h).1)
theorem mk_cg {P Q : Nat → Prop} {n : Nat} (h : ∀ i, i < n → (P i ↔ Q i)) : mk_ P n = mk_ Q n := by
  apply el_ext
  intro i
  rw [mk_el, mk_el]
  exact ⟨fun ⟨a, b⟩ => ⟨a, (h i a).mp b⟩, fun ⟨a, b⟩ => ⟨a, (h i a).mpr b⟩⟩
theorem mk_un {P : Nat → Prop} {n S : Nat} (h : ∀ i, el_ S i ↔ i < n ∧ P i) : S = mk_ P n := el_ext (fun i => by rw [h i, mk_el])
theorem mk_31 (P : Nat → Prop) {n : Nat} (h : n ≤ 10) : mk_ P n < 2 ^ 31 := Nat.lt_of_lt_of_le (mk_lt P n) (Nat.pow_le_pow_right (by decide) (by omega))
theorem el_31 {S n : Nat} (hS : S < 2 ^ n) (h : n ≤ 10) : S < 2 ^ 31 := Nat.lt_of_lt_of_le hS (Nat.pow_le_pow_right (by decide) (by omega))
end
section
/-! counts -/
noncomputable def cz_ (P : Nat → Prop) : Nat → Nat
  | 0 => 0
  | m + 1 => cz_ P m + (@ite Nat (P m) (Classical.propDecidable _) 1 0)
theorem cz_t {P : Nat → Prop} {m : Nat} (h : P m) : cz_ P (m + 1) = cz_ P m + 1 := by
  show _ + _ = _
  rw [if_pos h]
theorem cz_f {P : Nat → Prop} {m : Nat} (h : ¬ P m) : cz_ P (m + 1) = cz_ P m := by
  show _ + _ = _
  rw [if_neg h]
  rfl
theorem cz_le (P : Nat → Prop) (m : Nat) : cz_ P m ≤ m := by
  induction m with
  | zero => exact Nat.le_refl _
  | succ m ih =>
    by_cases h : P m
    · rw [cz_t h]
      omega
    · rw [cz_f h]
      omega
theorem cz_mono {P Q : Nat → Prop} {m : Nat} (h : ∀ i, i < m → P i → Q i) : cz_ P m ≤ cz_ Q m := by
  induction m with
  | zero => exact Nat.le_refl _
  | succ m ih =>
    have ih' := ih (fun i hi => h i (by omega))
    by_cases hp : P m
    · rw [cz_t hp, cz_t (h m (by omega) hp)]
      omega
    · rw [cz_f hp]
      by_cases hq : Q m
      · rw [cz_t hq]
        omega
      · rw [cz_f hq]
        exact ih'
theorem cz_cg {P Q : Nat → Prop} {m : Nat} (h : ∀ i, i < m → (P i ↔ Q i)) : cz_ P m = cz_ Q m :=
  Nat.le_antisymm (cz_mono fun i hi => (h i hi).mp) (cz_mono fun i hi => (h i hi).mpr)
theorem cz_0 {P : Nat → Prop} {m : Nat} (h : ∀ i, i < m → ¬ P i) : cz_ P m = 0 := by
  induction m with
  | zero => rfl
  | succ m ih =>
    rw [cz_f (h m (by omega))]
    exact ih (fun i hi => h i (by omega))
theorem cz_pos {P : Nat → Prop} {m i : Nat} (hi : i < m) (h : P i) : 0 < cz_ P m := by
  induction m with
  | zero => omega
  | succ m ih =>
    by_cases hp : P m
    · rw [cz_t hp]
      omega
    · rw [cz_f hp]
      refine ih ?_
      rcases Nat.lt_or_ge i m with h3 | h3
      · exact h3
      · have : i = m := by omega
        subst this
        exact absurd h hp
theorem cz_ex {P : Nat → Prop} {m : Nat} (h : 0 < cz_ P m) : ∃ i, i < m ∧ P i := by
  apply Classical.byContradiction
  intro hn
  have : cz_ P m = 0 := cz_0 (fun i hi hp => hn ⟨i, hi, hp⟩)
  omega
theorem cz_z {P : Nat → Prop} {m : Nat} : cz_ P m = 0 ↔ ¬ ∃ i, i < m ∧ P i := by
  constructor
  · rintro h ⟨i, hi, hp⟩
    have := cz_pos hi hp
    omega
  · intro h
    exact cz_0 (fun i hi hp => h ⟨i, hi, hp⟩)
theorem cz_dj {P Q : Nat → Prop} {m : Nat} (h : ∀ i, P i → ¬ Q i) : cz_ (fun i => P i ∨ Q i) m = cz_ P m + cz_ Q m := by
  induction m with
  | zero => rfl
  | succ m ih =>
    by_cases hp : P m
    · rw [cz_t (P := fun i => P i ∨ Q i) (Or.inl hp), cz_t hp, cz_f (h m hp), ih]
      omega
    · by_cases hq : Q m
      · rw [cz_t (P := fun i => P i ∨ Q i) (Or.inr hq), cz_f hp, cz_t hq, ih]
        omega
      · rw [cz_f (P := fun i => P i ∨ Q i) (fun z => z.elim hp hq), cz_f hp, cz_f hq, ih]
theorem cz_lt {P Q : Nat → Prop} {m j : Nat} (h : ∀ i, i < m → P i → Q i) (hj : j < m) (hq : Q j) (hp : ¬ P j) : cz_ P m < cz_ Q m := by
  induction m with
  | zero => omega
  | succ m ih =>
    rcases Nat.lt_or_ge j m with h3 | h3
    · have ih' := ih (fun i hi => h i (by omega)) h3
      by_cases hp : P m
      · rw [cz_t hp, cz_t (h m (by omega) hp)]
        omega
      · rw [cz_f hp]
        by_cases hq : Q m
        · rw [cz_t hq]
          omega
        · rw [cz_f hq]
          exact ih'
    · have : j = m := by omega
      subst this
      rw [cz_f hp, cz_t hq]
      have := cz_mono (P := P) (Q := Q) (m := j) (fun i hi => h i (by omega))
      omega
theorem cz_one {P : Nat → Prop} {m j : Nat} (hj : j < m) (h : ∀ i, i < m → (P i ↔ i = j)) : cz_ P m = 1 := by
  induction m with
  | zero => omega
  | succ m ih =>
    rcases Nat.lt_or_ge j m with h3 | h3
    · rw [cz_f (fun z => absurd ((h m (by omega)).mp z) (by omega))]
      exact ih h3 (fun i hi => h i (by omega))
    · have : j = m := by omega
      subst this
      rw [cz_t ((h j (by omega)).mpr rfl), cz_0]
      intro i hi z
      have := (h i (by omega)).mp z
      omega
theorem cz_le1 {P : Nat → Prop} {m : Nat} : cz_ P m ≤ 1 ↔ ∀ i j, i < m → j < m → P i → P j → i = j := by
  induction m with
  | zero => exact ⟨fun _ i j hi => by omega, fun _ => by show 0 ≤ 1; omega⟩
  | succ m ih =>
    by_cases hp : P m
    · rw [cz_t hp]
      constructor
      · intro h
        have h0 : cz_ P m = 0 := by omega
        rw [cz_z] at h0
        have key : ∀ i, i < m + 1 → P i → i = m := fun i hi hpi => by
          rcases Nat.lt_or_ge i m with h3 | h3
          · exact absurd ⟨i, h3, hpi⟩ h0
          · omega
        intro i j hi hj hpi hpj
        rw [key i hi hpi, key j hj hpj]
      · intro h
        have h0 : cz_ P m = 0 := cz_0 (fun i hi hpi => absurd (h i m (by omega) (by omega) hpi hp) (by omega))
        omega
    · rw [cz_f hp, ih]
      have key : ∀ i, i < m + 1 → P i → i < m := fun i hi hpi => by
        rcases Nat.lt_or_ge i m with h3 | h3
        · exact h3
        · have : i = m := by omega
          subst this
          exact absurd hpi hp
      constructor
      · intro h i j hi hj hpi hpj
        exact h i j (key i hi hpi) (key j hj hpj) hpi hpj
      · intro h i j hi hj
        exact h i j (by omega) (by omega)
end
section
/-! the pure picture that both sides are held against -/
def cl_ (a : Nat → Int32) (p : Nat) : Nat := (a p).toNatClampNeg
theorem cl_of {a : Nat → Int32} {p m : Nat} (h : a p = nI m) (hm : m < 2 ^ 31) : a p = nI (cl_ a p) ∧ cl_ a p = m := by
  have e : cl_ a p = m := by
    unfold cl_
    rw [h, nI_clamp hm]
  exact ⟨by rw [e, h], e⟩
def uo_fn (a_name a_version a_features nF nX nB : Nat → Int32) (i q : Nat) : Prop :=
  (nF i = 0 ∧ a_name q = nX i ∧ ¬ a_version q < nB i) ∨ (¬ nF i = 0 ∧ (a_features q >>> (nX i &&& 31)) &&& 1 = 1)
def uo_fc (a_name a_version a_features cF cX cB : Nat → Int32) (i q : Nat) : Prop :=
  (cF i = 0 ∧ a_name q = cX i ∧ ¬ cB i < a_version q) ∨ (¬ cF i = 0 ∧ (a_features q >>> (cX i &&& 31)) &&& 1 = 1)
def uo_tn (a_name a_version a_features a_needWidth nF nX nB : Nat → Int32) (j q : Nat) : Prop :=
  uo_fn a_name a_version a_features nF nX nB (2 * j) q ∨ (a_needWidth j = 2 ∧ uo_fn a_name a_version a_features nF nX nB (2 * j + 1) q)
def uo_cn (a_name a_version a_features a_clashCount cF cX cB : Nat → Int32) (p q : Nat) : Prop :=
  ∃ k, k < cl_ a_clashCount p ∧ uo_fc a_name a_version a_features cF cX cB (2 * p + k) q
/-- all needs of p are met in S -/
def uo_nm (n : Nat) (a_name a_version a_features a_needCount a_needWidth nF nX nB : Nat → Int32) (S p : Nat) : Prop :=
  ∀ k, k < cl_ a_needCount p → ∃ q, q < n ∧ el_ S q ∧ uo_tn a_name a_version a_features a_needWidth nF nX nB (2 * p + k) q
/-- p clashes with something in S -/
def uo_tc (n : Nat) (a_name a_version a_features a_clashCount cF cX cB : Nat → Int32) (S p : Nat) : Prop :=
  ∃ k, k < cl_ a_clashCount p ∧ ∃ q, q < n ∧ q ≠ p ∧ el_ S q ∧ uo_fc a_name a_version a_features cF cX cB (2 * p + k) q
/-- how many of S have the name x -/
noncomputable def uo_co (n : Nat) (a_name : Nat → Int32) (S : Nat) (x : Int32) : Nat := cz_ (fun p => el_ S p ∧ a_name p = x) n
def uo_rt (n wc : Nat) (a_name a_version a_features a_needCount a_needWidth a_clashCount nF nX nB cF cX cB a_wishName a_wishThere : Nat → Int32) (S : Nat) : Prop :=
  (∀ x, x < 5 → uo_co n a_name S (nI x) ≤ 1) ∧
  (∀ p, p < n → el_ S p → uo_nm n a_name a_version a_features a_needCount a_needWidth nF nX nB S p ∧ ¬ uo_tc n a_name a_version a_features a_clashCount cF cX cB S p) ∧
  (∀ w, w < wc → (0 < uo_co n a_name S (a_wishName w) ↔ a_wishThere w = 1))
/-- what is known of the world -/
def uo_ba (n wc ins : Nat) (a_name a_needCount a_clashCount a_wishName a_wishThere : Nat → Int32) : Prop :=
  n ≤ 10 ∧ wc ≤ 4 ∧ ins < 2 ^ n ∧ (∀ p, a_name p = nI (cl_ a_name p) ∧ cl_ a_name p < 5) ∧
  (∀ p, a_needCount p = nI (cl_ a_needCount p) ∧ cl_ a_needCount p ≤ 2) ∧ (∀ p, a_clashCount p = nI (cl_ a_clashCount p) ∧ cl_ a_clashCount p ≤ 2) ∧
  (∀ p, n ≤ p → a_needCount p = 0 ∧ a_clashCount p = 0) ∧
  (∀ w, a_wishName w = nI (cl_ a_wishName w) ∧ cl_ a_wishName w < 5) ∧ (∀ w, a_wishThere w = 0 ∨ a_wishThere w = 1)
theorem uo_2pk (p k : Nat) : 2 * nI p + nI k = nI (2 * p + k) := by
  show nI 2 * nI p + nI k = _
  rw [pk_mul, nI_add]
theorem uo_2p (p : Nat) : 2 * nI p = nI (2 * p) := by
  show nI 2 * nI p = _
  rw [pk_mul]
theorem uo_co_le {n : Nat} {a_name : Nat → Int32} {S : Nat} {x : Int32} : uo_co n a_name S x ≤ n := cz_le _ _
end
section
/-! the reference: right -/
section
variable {f_packageCount f_installed f_wishCount f_ready f_wantedNames f_unwantedNames f_chosen f_refused f_counting f_found f_bestSet f_bestCost : Int32} {a_name a_version a_features a_needCount a_needWidth a_needPattern a_clashCount a_clashPattern a_wishName a_wishThere a_needTargets a_excludes a_sharers a_newest a_frameChosen a_frameRefused a_framePackage a_frameTried : Nat → Int32}
variable {nF nX nB cF cX cB : Nat → Int32}
variable {n wc ins S : Nat}
theorem uo_yin {post : Int32 → Prop} {i : Nat} (hS : S < 2 ^ 31) (hi : i < 31) (t : el_ S i → post 1) (f : ¬ el_ S i → post 0) : wpY_in post (nI n, nI wc, nI ins, a_name, a_version, a_features, a_needCount, a_clashCount, a_needWidth, nF, nX, nB, cF, cX, cB, a_wishName, a_wishThere) (nI S) (nI i) :=
  And.intro (fun h => t ((uo_b1 hS hi).mp h)) (fun h => f (fun e => h ((uo_b1 hS hi).mpr e)))
theorem uo_ycnt5 {post : Int32 → Prop} {x : Int32} (hn : n ≤ 10) (hS : S < 2 ^ 31) (J : post (nI (uo_co n a_name S x))) : ∀ d p, p + d = n → wY_countOf_5 post (nI S) x (nI n) (nI wc) (nI ins) a_name a_version a_features a_needCount a_clashCount a_needWidth nF nX nB cF cX cB a_wishName a_wishThere (d + 1) (nI (uo_co p a_name S x)) (nI p) := by
  intro d
  induction d with
  | zero =>
    intro p hp
    have e : p = n := by omega
    subst e
    exact br_t (nI_le (Nat.le_refl _) (by omega)) J
  | succ d ih =>
    intro p hp
    have ep : (nI p).toNatClampNeg = p := nI_clamp (by omega)
    refine br_f (nI_ge (by omega) (by omega)) (uo_yin hS (by omega) (fun e => br_f (by decide) ⟨vp_in_nI (by omega) (by decide), ?_⟩) (fun e => br_t rfl (nm_r (nI_1 p) ?_)))
    · rw [ep]
      refine br_c (fun h => ?_) (fun h => ?_)
      · refine nm_r (nI_1 _) (nm_r (nI_1 p) ?_)
        have := ih (p + 1) (by omega)
        unfold uo_co at this
        rw [cz_t ⟨e, h⟩] at this
        exact this
      · refine nm_r (nI_1 p) ?_
        have := ih (p + 1) (by omega)
        unfold uo_co at this
        rw [cz_f (fun z => h z.2)] at this
        exact this
    · have := ih (p + 1) (by omega)
      unfold uo_co at this
      rw [cz_f (fun z => e z.1)] at this
      exact this
theorem uo_ycnt {post : Int32 → Prop} {x : Int32} (hn : n ≤ 10) (hS : S < 2 ^ 31) (J : post (nI (uo_co n a_name S x))) : wpY_countOf post (nI n, nI wc, nI ins, a_name, a_version, a_features, a_needCount, a_clashCount, a_needWidth, nF, nX, nB, cF, cX, cB, a_wishName, a_wishThere) (nI S) x :=
  Exists.intro (n + 1) (uo_ycnt5 hn hS J n 0 (by omega))
theorem uo_yoff {post : Int32 → Prop} {p : Nat} {x : Int32} (hp : p < 10) (t : (a_features p >>> (x &&& 31)) &&& 1 = 1 → post 1) (f : ¬ (a_features p >>> (x &&& 31)) &&& 1 = 1 → post 0) : wpY_offers post (nI n, nI wc, nI ins, a_name, a_version, a_features, a_needCount, a_clashCount, a_needWidth, nF, nX, nB, cF, cX, cB, a_wishName, a_wishThere) (nI p) x := by
  refine And.intro (vp_in_nI hp (by decide)) ?_
  rw [nI_clamp (by omega)]
  exact And.intro t f
theorem uo_ypm68 {post J2 : Int32 → Prop} {i p : Nat} {z : Int32} (hS : S < 2 ^ 31) (hp : p < 10) (a : el_ S p → ¬ z = 0 → post 1) (b : (¬ (el_ S p ∧ ¬ z = 0)) → J2 (nI (p + 1))) : wY_patternMet_68 post J2 (nI S) (nI i) (nI p) z (nI n) (nI wc) (nI ins) a_name a_version a_features a_needCount a_clashCount a_needWidth nF nX nB cF cX cB a_wishName a_wishThere := by
  unfold wY_patternMet_68
  refine uo_yin hS (by omega) (fun e => br_f (by decide) ?_) (fun e => br_t rfl (nm_r (nI_1 p) (b (fun z => e z.1))))
  exact br_c (fun h => nm_r (nI_1 p) (b (fun z => z.2 h))) (fun h => a e h)
theorem uo_ypm2 {post : Int32 → Prop} {i : Nat} (hn : n ≤ 10) (hS : S < 2 ^ 31) (hi : i < 40) (t : (∃ q, q < n ∧ el_ S q ∧ uo_fn a_name a_version a_features nF nX nB i q) → post 1) (f : ¬ (∃ q, q < n ∧ el_ S q ∧ uo_fn a_name a_version a_features nF nX nB i q) → post 0) : ∀ d p, p + d = n → (∀ q, q < p → ¬ (el_ S q ∧ uo_fn a_name a_version a_features nF nX nB i q)) → wY_patternMet_2 post (nI S) (nI i) (nI n) (nI wc) (nI ins) a_name a_version a_features a_needCount a_clashCount a_needWidth nF nX nB cF cX cB a_wishName a_wishThere (d + 1) (nI p) := by
  intro d
  induction d with
  | zero =>
    intro p hp hq
    have e : p = n := by omega
    subst e
    refine br_t (nI_le (Nat.le_refl _) (by omega)) (f ?_)
    rintro ⟨q, h1, h2⟩
    exact hq q h1 h2
  | succ d ih =>
    intro p hp hq
    have ep : (nI p).toNatClampNeg = p := nI_clamp (by omega)
    have ei : (nI i).toNatClampNeg = i := nI_clamp (by omega)
    have vi : vp_in (nI i) 40 := vp_in_nI hi (by decide)
    have vp : vp_in (nI p) 10 := vp_in_nI (by omega) (by decide)
    have K : ∀ z : Int32, (¬ z = 0 ↔ uo_fn a_name a_version a_features nF nX nB i p) → wY_patternMet_68 post (wY_patternMet_2 post (nI S) (nI i) (nI n) (nI wc) (nI ins) a_name a_version a_features a_needCount a_clashCount a_needWidth nF nX nB cF cX cB a_wishName a_wishThere (d + 1)) (nI S) (nI i) (nI p) z (nI n) (nI wc) (nI ins) a_name a_version a_features a_needCount a_clashCount a_needWidth nF nX nB cF cX cB a_wishName a_wishThere := by
      intro z hz
      refine uo_ypm68 hS (by omega) (fun e h => t ⟨p, by omega, e, hz.mp h⟩) (fun h => ih (p + 1) (by omega) (lt_s hq ?_))
      rintro ⟨h1, h2⟩
      exact h ⟨h1, hz.mpr h2⟩
    refine br_f (nI_ge (by omega) (by omega)) ⟨vi, ?_⟩
    rw [ei, ep]
    refine br_c (fun h0 => ⟨vp, vi, ?_⟩) (fun h0 => ⟨vi, ?_⟩)
    · refine br_c (fun h1 => ⟨vp, vi, ?_⟩) (fun h1 => K 0 ⟨fun z => absurd rfl z, ?_⟩)
      · refine br_c (fun h2 => K 0 ⟨fun z => absurd rfl z, ?_⟩) (fun h2 => K 1 ⟨fun _ => Or.inl ⟨h0, h1, h2⟩, fun _ => by decide⟩)
        rintro (⟨_, _, h⟩ | ⟨h, _⟩)
        · exact absurd h2 h
        · exact absurd h0 h
      · rintro (⟨_, h, _⟩ | ⟨h, _⟩)
        · exact absurd h h1
        · exact absurd h0 h
    · refine uo_yoff (by omega) (fun h => K 1 ⟨fun _ => Or.inr ⟨h0, h⟩, fun _ => by decide⟩) (fun h => K 0 ⟨fun z => absurd rfl z, ?_⟩)
      rintro (⟨h3, _⟩ | ⟨_, h3⟩)
      · exact absurd h3 h0
      · exact absurd h3 h
theorem uo_ypm {post : Int32 → Prop} {i : Nat} (hn : n ≤ 10) (hS : S < 2 ^ 31) (hi : i < 40) (t : (∃ q, q < n ∧ el_ S q ∧ uo_fn a_name a_version a_features nF nX nB i q) → post 1) (f : ¬ (∃ q, q < n ∧ el_ S q ∧ uo_fn a_name a_version a_features nF nX nB i q) → post 0) : wpY_patternMet post (nI n, nI wc, nI ins, a_name, a_version, a_features, a_needCount, a_clashCount, a_needWidth, nF, nX, nB, cF, cX, cB, a_wishName, a_wishThere) (nI S) (nI i) :=
  Exists.intro (n + 1) (uo_ypm2 hn hS hi t f n 0 (by omega) (fun _ h => absurd h (by omega)))
theorem uo_ynm2 {post : Int32 → Prop} {p : Nat} (B : uo_ba n wc ins a_name a_needCount a_clashCount a_wishName a_wishThere) (hS : S < 2 ^ 31) (hp : p < n) (t : uo_nm n a_name a_version a_features a_needCount a_needWidth nF nX nB S p → post 1) (f : ¬ uo_nm n a_name a_version a_features a_needCount a_needWidth nF nX nB S p → post 0) : ∀ d k, k + d = cl_ a_needCount p → (∀ j, j < k → ∃ q, q < n ∧ el_ S q ∧ uo_tn a_name a_version a_features a_needWidth nF nX nB (2 * p + j) q) → wY_needsMet_2 post (nI S) (nI p) (nI n) (nI wc) (nI ins) a_name a_version a_features a_needCount a_clashCount a_needWidth nF nX nB cF cX cB a_wishName a_wishThere (d + 1) (nI k) := by
  obtain ⟨hn, _, _, _, hc, _⟩ := B
  obtain ⟨ec, hc⟩ := hc p
  have ep : (nI p).toNatClampNeg = p := nI_clamp (by omega)
  have vp : vp_in (nI p) 10 := vp_in_nI (by omega) (by decide)
  intro d
  induction d with
  | zero =>
    intro k hk hq
    refine And.intro vp ?_
    rw [ep, ec]
    refine br_t (nI_le (by omega) (by omega)) (t ?_)
    intro j hj
    exact hq j (by omega)
  | succ d ih =>
    intro k hk hq
    have K : ∀ z : Int32, (¬ z = 0 ↔ ∃ q, q < n ∧ el_ S q ∧ uo_tn a_name a_version a_features a_needWidth nF nX nB (2 * p + k) q) → wY_needsMet_60 post (wY_needsMet_2 post (nI S) (nI p) (nI n) (nI wc) (nI ins) a_name a_version a_features a_needCount a_clashCount a_needWidth nF nX nB cF cX cB a_wishName a_wishThere (d + 1)) (nI S) (nI p) (nI k) z (nI n) (nI wc) (nI ins) a_name a_version a_features a_needCount a_clashCount a_needWidth nF nX nB cF cX cB a_wishName a_wishThere := by
      intro z hz
      refine br_c (fun h => f (fun h2 => absurd h (hz.mpr (h2 k (by omega))))) (fun h => nm_r (nI_1 k) (ih (k + 1) (by omega) (lt_s hq (hz.mp h))))
    refine And.intro vp ?_
    rw [ep, ec, uo_2pk]
    refine br_f (nI_ge (by omega) (by omega)) (nm_r (uo_2p _) ?_)
    refine uo_ypm hn hS (by omega) (fun h => br_f (by decide) (K 1 ⟨fun _ => ?_, fun _ => by decide⟩)) (fun h => br_t rfl ⟨vp_in_nI (by omega) (by decide), ?_⟩)
    · obtain ⟨q, h1, h2, h3⟩ := h
      exact ⟨q, h1, h2, Or.inl h3⟩
    · rw [nI_clamp (by omega), nI_1]
      refine br_c (fun hw => uo_ypm hn hS (by omega) (fun h2 => K 1 ⟨fun _ => ?_, fun _ => by decide⟩) (fun h2 => K 0 ⟨fun z => absurd rfl z, ?_⟩)) (fun hw => K 0 ⟨fun z => absurd rfl z, ?_⟩)
      · obtain ⟨q, h3, h4, h5⟩ := h2
        exact ⟨q, h3, h4, Or.inr ⟨hw, h5⟩⟩
      · rintro ⟨q, h3, h4, h5 | ⟨_, h5⟩⟩
        · exact absurd ⟨q, h3, h4, h5⟩ h
        · exact absurd ⟨q, h3, h4, h5⟩ h2
      · rintro ⟨q, h3, h4, h5 | ⟨h6, h5⟩⟩
        · exact absurd ⟨q, h3, h4, h5⟩ h
        · exact absurd h6 hw
theorem uo_ynm {post : Int32 → Prop} {p : Nat} (B : uo_ba n wc ins a_name a_needCount a_clashCount a_wishName a_wishThere) (hS : S < 2 ^ 31) (hp : p < n) (t : uo_nm n a_name a_version a_features a_needCount a_needWidth nF nX nB S p → post 1) (f : ¬ uo_nm n a_name a_version a_features a_needCount a_needWidth nF nX nB S p → post 0) : wpY_needsMet post (nI n, nI wc, nI ins, a_name, a_version, a_features, a_needCount, a_clashCount, a_needWidth, nF, nX, nB, cF, cX, cB, a_wishName, a_wishThere) (nI S) (nI p) :=
  Exists.intro (cl_ a_needCount p + 1) (uo_ynm2 B hS hp t f _ 0 (by omega) (fun _ h => absurd h (by omega)))
theorem uo_ytc96 {post J2 J22 : Int32 → Prop} {p j q : Nat} {x3 z : Int32} (hn : n ≤ 10) (hS : S < 2 ^ 31) (hp : p < n) (hq : q < n) (a : q ≠ p → el_ S q → ¬ z = 0 → post 1) (b : (¬ (q ≠ p ∧ el_ S q ∧ ¬ z = 0)) → J22 (nI (q + 1))) : wY_touched_96 post J2 J22 (nI S) (nI p) x3 (nI j) (nI q) z (nI n) (nI wc) (nI ins) a_name a_version a_features a_needCount a_clashCount a_needWidth nF nX nB cF cX cB a_wishName a_wishThere := by
  unfold wY_touched_96
  rw [nI_eq (by omega) (by omega)]
  refine br_c (fun h => nm_r (nI_1 q) (b (fun z => z.1 h))) (fun h => ?_)
  refine uo_yin hS (by omega) (fun e => br_f (by decide) ?_) (fun e => br_t rfl (nm_r (nI_1 q) (b (fun z => e z.2.1))))
  exact br_c (fun h2 => nm_r (nI_1 q) (b (fun z => z.2.2 h2))) (fun h2 => a h e h2)
theorem uo_ytc22 {post J2 : Int32 → Prop} {p j : Nat} {x3 : Int32} (hn : n ≤ 10) (hS : S < 2 ^ 31) (hp : p < n) (hj : j < 20) (t : (∃ q, q < n ∧ q ≠ p ∧ el_ S q ∧ uo_fc a_name a_version a_features cF cX cB j q) → post 1) (f : ¬ (∃ q, q < n ∧ q ≠ p ∧ el_ S q ∧ uo_fc a_name a_version a_features cF cX cB j q) → J2 (x3 + 1)) : ∀ d q, q + d = n → (∀ i, i < q → ¬ (i ≠ p ∧ el_ S i ∧ uo_fc a_name a_version a_features cF cX cB j i)) → wY_touched_22 post J2 (nI S) (nI p) x3 (nI j) (nI n) (nI wc) (nI ins) a_name a_version a_features a_needCount a_clashCount a_needWidth nF nX nB cF cX cB a_wishName a_wishThere (d + 1) (nI q) := by
  intro d
  induction d with
  | zero =>
    intro q hq hx
    have e : q = n := by omega
    subst e
    refine br_t (nI_le (Nat.le_refl _) (by omega)) (nm_e (f ?_))
    rintro ⟨i, h1, h2⟩
    exact hx i h1 h2
  | succ d ih =>
    intro q hq hx
    have eq : (nI q).toNatClampNeg = q := nI_clamp (by omega)
    have ej : (nI j).toNatClampNeg = j := nI_clamp (by omega)
    have vj : vp_in (nI j) 20 := vp_in_nI hj (by decide)
    have vq : vp_in (nI q) 10 := vp_in_nI (by omega) (by decide)
    have K : ∀ z : Int32, (¬ z = 0 ↔ uo_fc a_name a_version a_features cF cX cB j q) → wY_touched_96 post J2 (wY_touched_22 post J2 (nI S) (nI p) x3 (nI j) (nI n) (nI wc) (nI ins) a_name a_version a_features a_needCount a_clashCount a_needWidth nF nX nB cF cX cB a_wishName a_wishThere (d + 1)) (nI S) (nI p) x3 (nI j) (nI q) z (nI n) (nI wc) (nI ins) a_name a_version a_features a_needCount a_clashCount a_needWidth nF nX nB cF cX cB a_wishName a_wishThere := by
      intro z hz
      refine uo_ytc96 hn hS hp (by omega) (fun e0 e h => t ⟨q, by omega, e0, e, hz.mp h⟩) (fun h => ih (q + 1) (by omega) (lt_s hx ?_))
      rintro ⟨h0, h1, h2⟩
      exact h ⟨h0, h1, hz.mpr h2⟩
    refine br_f (nI_ge (by omega) (by omega)) ⟨vj, ?_⟩
    rw [ej, eq]
    refine br_c (fun h0 => ⟨vq, vj, ?_⟩) (fun h0 => ⟨vj, ?_⟩)
    · refine br_c (fun h1 => ⟨vq, vj, ?_⟩) (fun h1 => K 0 ⟨fun z => absurd rfl z, ?_⟩)
      · refine br_c (fun h2 => K 0 ⟨fun z => absurd rfl z, ?_⟩) (fun h2 => K 1 ⟨fun _ => Or.inl ⟨h0, h1, h2⟩, fun _ => by decide⟩)
        rintro (⟨_, _, h⟩ | ⟨h, _⟩)
        · exact absurd h2 h
        · exact absurd h0 h
      · rintro (⟨_, h, _⟩ | ⟨h, _⟩)
        · exact absurd h h1
        · exact absurd h0 h
    · refine uo_yoff (by omega) (fun h => K 1 ⟨fun _ => Or.inr ⟨h0, h⟩, fun _ => by decide⟩) (fun h => K 0 ⟨fun z => absurd rfl z, ?_⟩)
      rintro (⟨h3, _⟩ | ⟨_, h3⟩)
      · exact absurd h3 h0
      · exact absurd h3 h
theorem uo_ytc2 {post : Int32 → Prop} {p : Nat} (B : uo_ba n wc ins a_name a_needCount a_clashCount a_wishName a_wishThere) (hS : S < 2 ^ 31) (hp : p < n) (t : uo_tc n a_name a_version a_features a_clashCount cF cX cB S p → post 1) (f : ¬ uo_tc n a_name a_version a_features a_clashCount cF cX cB S p → post 0) : ∀ d k, k + d = cl_ a_clashCount p → (∀ j, j < k → ¬ ∃ q, q < n ∧ q ≠ p ∧ el_ S q ∧ uo_fc a_name a_version a_features cF cX cB (2 * p + j) q) → wY_touched_2 post (nI S) (nI p) (nI n) (nI wc) (nI ins) a_name a_version a_features a_needCount a_clashCount a_needWidth nF nX nB cF cX cB a_wishName a_wishThere (d + 1) (nI k) := by
  obtain ⟨hn, _, _, _, _, hc, _⟩ := B
  obtain ⟨ec, hc⟩ := hc p
  have ep : (nI p).toNatClampNeg = p := nI_clamp (by omega)
  have vp : vp_in (nI p) 10 := vp_in_nI (by omega) (by decide)
  intro d
  induction d with
  | zero =>
    intro k hk hq
    refine And.intro vp ?_
    rw [ep, ec]
    refine br_t (nI_le (by omega) (by omega)) (f ?_)
    rintro ⟨j, hj, h⟩
    exact hq j (by omega) h
  | succ d ih =>
    intro k hk hq
    refine And.intro vp ?_
    rw [ep, ec]
    refine br_f (nI_ge (by omega) (by omega)) (nm_r (uo_2pk _ _) (Exists.intro (n + 1) ?_))
    refine uo_ytc22 hn hS hp (by omega) (fun h => t ⟨k, by omega, h⟩) (fun h => ?_) n 0 (by omega) (fun _ h => absurd h (by omega))
    rw [nI_1]
    exact ih (k + 1) (by omega) (lt_s hq h)
theorem uo_ytc {post : Int32 → Prop} {p : Nat} (B : uo_ba n wc ins a_name a_needCount a_clashCount a_wishName a_wishThere) (hS : S < 2 ^ 31) (hp : p < n) (t : uo_tc n a_name a_version a_features a_clashCount cF cX cB S p → post 1) (f : ¬ uo_tc n a_name a_version a_features a_clashCount cF cX cB S p → post 0) : wpY_touched post (nI n, nI wc, nI ins, a_name, a_version, a_features, a_needCount, a_clashCount, a_needWidth, nF, nX, nB, cF, cX, cB, a_wishName, a_wishThere) (nI S) (nI p) :=
  Exists.intro (cl_ a_clashCount p + 1) (uo_ytc2 B hS hp t f _ 0 (by omega) (fun _ h => absurd h (by omega)))
theorem uo_yr82 {post : Int32 → Prop} (B : uo_ba n wc ins a_name a_needCount a_clashCount a_wishName a_wishThere) (hS : S < 2 ^ 31) (t : (∀ w, w < wc → (0 < uo_co n a_name S (a_wishName w) ↔ a_wishThere w = 1)) → post 1) (f : ¬ (∀ w, w < wc → (0 < uo_co n a_name S (a_wishName w) ↔ a_wishThere w = 1)) → post 0) : ∀ d w, w + d = wc → (∀ j, j < w → (0 < uo_co n a_name S (a_wishName j) ↔ a_wishThere j = 1)) → wY_right_82 post (nI S) (nI n) (nI wc) (nI ins) a_name a_version a_features a_needCount a_clashCount a_needWidth nF nX nB cF cX cB a_wishName a_wishThere (d + 1) (nI w) := by
  obtain ⟨hn, hw, _, _, _, _, _, hwn, hwt⟩ := B
  intro d
  induction d with
  | zero =>
    intro w hd hq
    have e : w = wc := by omega
    subst e
    exact br_t (nI_le (Nat.le_refl _) (by omega)) (t hq)
  | succ d ih =>
    intro w hd hq
    have ew : (nI w).toNatClampNeg = w := nI_clamp (by omega)
    have vw : vp_in (nI w) 4 := vp_in_nI (by omega) (by decide)
    refine br_f (nI_ge (by omega) (by omega)) ⟨vw, ?_⟩
    rw [ew]
    refine uo_ycnt hn hS ?_
    have hle : uo_co n a_name S (a_wishName w) ≤ n := uo_co_le
    refine pk_le (uo_co n a_name S (a_wishName w)) 0 (fun h => And.intro vw ?_) (fun h => And.intro vw ?_)
    · rw [ew]
      refine br_c (fun h2 => nm_r (nI_1 w) (ih (w + 1) (by omega) (lt_s hq ⟨fun z => absurd z (by omega), fun z => ?_⟩))) (fun h2 => f (fun h3 => ?_))
      · rw [← h2] at z
        exact absurd z (by decide)
      · rcases hwt w with e | e
        · exact h2 e.symm
        · have := (h3 w (by omega)).mpr e
          omega
    · rw [ew]
      refine br_c (fun h2 => nm_r (nI_1 w) (ih (w + 1) (by omega) (lt_s hq ⟨fun z => h2.symm, fun z => h⟩))) (fun h2 => f (fun h3 => ?_))
      exact h2 ((h3 w (by omega)).mp h).symm
theorem uo_yr37 {post : Int32 → Prop} (B : uo_ba n wc ins a_name a_needCount a_clashCount a_wishName a_wishThere) (hS : S < 2 ^ 31) (hx : ∀ x, x < 5 → uo_co n a_name S (nI x) ≤ 1) (t : uo_rt n wc a_name a_version a_features a_needCount a_needWidth a_clashCount nF nX nB cF cX cB a_wishName a_wishThere S → post 1) (f : ¬ uo_rt n wc a_name a_version a_features a_needCount a_needWidth a_clashCount nF nX nB cF cX cB a_wishName a_wishThere S → post 0) : ∀ d p, p + d = n → (∀ j, j < p → el_ S j → uo_nm n a_name a_version a_features a_needCount a_needWidth nF nX nB S j ∧ ¬ uo_tc n a_name a_version a_features a_clashCount cF cX cB S j) → wY_right_37 post (nI S) (nI n) (nI wc) (nI ins) a_name a_version a_features a_needCount a_clashCount a_needWidth nF nX nB cF cX cB a_wishName a_wishThere (d + 1) (nI p) := by
  have hn : n ≤ 10 := B.1
  have hw : wc ≤ 4 := B.2.1
  intro d
  induction d with
  | zero =>
    intro p hp hq
    have e : p = n := by omega
    subst e
    refine br_t (nI_le (Nat.le_refl _) (by omega)) (Exists.intro (wc + 1) (uo_yr82 B hS (fun h => t ⟨hx, hq, h⟩) (fun h => f (fun z => h z.2.2)) wc 0 (by omega) (fun _ h => absurd h (by omega))))
  | succ d ih =>
    intro p hp hq
    refine br_f (nI_ge (by omega) (by omega)) (uo_yin hS (by omega) (fun e => br_f (by decide) ?_) (fun e => br_t rfl (nm_r (nI_1 p) (ih (p + 1) (by omega) (lt_s hq (fun z => absurd z e))))))
    refine uo_ynm B hS (by omega) (fun h1 => br_f (by decide) ?_) (fun h1 => br_t rfl (f (fun z => h1 (z.2.1 p (by omega) e).1)))
    refine uo_ytc B hS (by omega) (fun h2 => br_f (by decide) (f (fun z => (z.2.1 p (by omega) e).2 h2))) (fun h2 => br_t rfl (nm_r (nI_1 p) (ih (p + 1) (by omega) (lt_s hq (fun _ => ⟨h1, h2⟩)))))
theorem uo_yr12 {post : Int32 → Prop} (B : uo_ba n wc ins a_name a_needCount a_clashCount a_wishName a_wishThere) (hS : S < 2 ^ 31) (t : uo_rt n wc a_name a_version a_features a_needCount a_needWidth a_clashCount nF nX nB cF cX cB a_wishName a_wishThere S → post 1) (f : ¬ uo_rt n wc a_name a_version a_features a_needCount a_needWidth a_clashCount nF nX nB cF cX cB a_wishName a_wishThere S → post 0) : ∀ d x, x + d = 5 → (∀ j, j < x → uo_co n a_name S (nI j) ≤ 1) → wY_right_12 post (nI S) (nI n) (nI wc) (nI ins) a_name a_version a_features a_needCount a_clashCount a_needWidth nF nX nB cF cX cB a_wishName a_wishThere (d + 1) (nI x) := by
  have hn : n ≤ 10 := B.1
  intro d
  induction d with
  | zero =>
    intro x hx hq
    have e : x = 5 := by omega
    subst e
    refine br_t (nI_le (b := 5) (Nat.le_refl _) (by omega)) (Exists.intro (n + 1) (uo_yr37 B hS hq t f n 0 (by omega) (fun _ h => absurd h (by omega))))
  | succ d ih =>
    intro x hx hq
    refine br_f (nI_ge (b := 5) (by omega) (by omega)) (uo_ycnt hn hS ?_)
    have hle : uo_co n a_name S (nI x) ≤ n := uo_co_le
    refine pk_le (uo_co n a_name S (nI x)) 1 (fun h => nm_r (nI_1 x) (ih (x + 1) (by omega) (lt_s hq h))) (fun h => f (fun z => ?_))
    have := z.1 x (by omega)
    omega
/-- the reference's right, of a set -/
theorem uo_yright {post : Int32 → Prop} (B : uo_ba n wc ins a_name a_needCount a_clashCount a_wishName a_wishThere) (hS : S < 2 ^ n) (t : uo_rt n wc a_name a_version a_features a_needCount a_needWidth a_clashCount nF nX nB cF cX cB a_wishName a_wishThere S → post 1) (f : ¬ uo_rt n wc a_name a_version a_features a_needCount a_needWidth a_clashCount nF nX nB cF cX cB a_wishName a_wishThere S → post 0) : wpY_right post (nI n, nI wc, nI ins, a_name, a_version, a_features, a_needCount, a_clashCount, a_needWidth, nF, nX, nB, cF, cX, cB, a_wishName, a_wishThere) (nI S) := by
  have hn : n ≤ 10 := B.1
  have h31 : S < 2 ^ 31 := el_31 hS hn
  have hp : 2 ^ n ≤ 1024 := el_p2 hn
  unfold wpY_right wpY_isSet
  dsimp only
  rw [uo_pw n (by omega)]
  exact br_f (nI_pos h31) (br_f (nI_ge hS (by omega)) (br_f (by decide) (Exists.intro 6 (uo_yr12 B h31 t f 5 0 (by omega) (fun _ h => absurd h (by omega))))))
/-- of a number that is no set -/
theorem uo_yright0 {post : Int32 → Prop} {x : Int32} (hn : n ≤ 10) (h : x < 0 ∨ nI (2 ^ n) ≤ x) (f : post 0) : wpY_right post (nI n, nI wc, nI ins, a_name, a_version, a_features, a_needCount, a_clashCount, a_needWidth, nF, nX, nB, cF, cX, cB, a_wishName, a_wishThere) x := by
  unfold wpY_right wpY_isSet
  dsimp only
  rw [uo_pw n (by omega)]
  by_cases h0 : x < 0
  · exact br_t h0 (br_t rfl f)
  · exact br_f h0 (br_t (h.resolve_left h0) (br_t rfl f))
end
end
section
/-! the reference: newest, price, cheaper, best, rightSets -/
def uo_nw (a_name a_version : Nat → Int32) (x : Int32) : Nat → Int32
  | 0 => -1
  | m + 1 => if a_name m = x then (if uo_nw a_name a_version x m < 0 then nI m else if a_version m ≤ a_version (uo_nw a_name a_version x m).toNatClampNeg then uo_nw a_name a_version x m else nI m) else uo_nw a_name a_version x m
theorem uo_nw0 {a_name a_version : Nat → Int32} {x : Int32} {m : Nat} (h : ¬ a_name m = x) : uo_nw a_name a_version x (m + 1) = uo_nw a_name a_version x m := if_neg h
theorem uo_nw1 {a_name a_version : Nat → Int32} {x : Int32} {m : Nat} (h : a_name m = x) (h1 : uo_nw a_name a_version x m < 0) : uo_nw a_name a_version x (m + 1) = nI m := (if_pos h).trans (if_pos h1)
theorem uo_nw2 {a_name a_version : Nat → Int32} {x : Int32} {m : Nat} (h : a_name m = x) (h1 : ¬ uo_nw a_name a_version x m < 0) (h2 : a_version m ≤ a_version (uo_nw a_name a_version x m).toNatClampNeg) : uo_nw a_name a_version x (m + 1) = uo_nw a_name a_version x m := (if_pos h).trans ((if_neg h1).trans (if_pos h2))
theorem uo_nw3 {a_name a_version : Nat → Int32} {x : Int32} {m : Nat} (h : a_name m = x) (h1 : ¬ uo_nw a_name a_version x m < 0) (h2 : ¬ a_version m ≤ a_version (uo_nw a_name a_version x m).toNatClampNeg) : uo_nw a_name a_version x (m + 1) = nI m := (if_pos h).trans ((if_neg h1).trans (if_neg h2))
theorem uo_nwc {a_name a_version : Nat → Int32} {x : Int32} {m : Nat} (hm : m ≤ 10) : (uo_nw a_name a_version x m = -1 ∧ ∀ q, q < m → ¬ a_name q = x) ∨ (∃ j, j < m ∧ uo_nw a_name a_version x m = nI j ∧ a_name j = x) := by
  induction m with
  | zero => exact Or.inl ⟨rfl, fun q hq => absurd hq (by omega)⟩
  | succ m ih =>
    by_cases h : a_name m = x
    · rcases ih (by omega) with ⟨h1, _⟩ | ⟨j, h1, h2, h3⟩
      · exact Or.inr ⟨m, by omega, uo_nw1 h (by rw [h1]; decide), h⟩
      · have hn : ¬ uo_nw a_name a_version x m < 0 := by
          rw [h2]
          exact nI_pos (by omega)
        by_cases hv : a_version m ≤ a_version (uo_nw a_name a_version x m).toNatClampNeg
        · exact Or.inr ⟨j, by omega, by rw [uo_nw2 h hn hv, h2], h3⟩
        · exact Or.inr ⟨m, by omega, uo_nw3 h hn hv, h⟩
    · rw [uo_nw0 h]
      rcases ih (by omega) with ⟨h1, h2⟩ | ⟨j, h1, h2, h3⟩
      · exact Or.inl ⟨h1, lt_s h2 h⟩
      · exact Or.inr ⟨j, by omega, h2, h3⟩
noncomputable def uo_p0 (n ins : Nat) (a_name : Nat → Int32) (S : Nat) : Nat := cz_ (fun x => 0 < uo_co n a_name ins (nI x) ∧ uo_co n a_name S (nI x) = 0) 5
noncomputable def uo_p1 (n ins : Nat) (S : Nat) : Nat := cz_ (fun p => ¬ (el_ S p ↔ el_ ins p)) n
noncomputable def uo_p2 (n : Nat) (a_name a_version : Nat → Int32) (S : Nat) : Nat := cz_ (fun x => 0 < uo_co n a_name S (nI x) ∧ ¬ el_ S (uo_nw a_name a_version (nI x) n).toNatClampNeg) 5
noncomputable def uo_pr (n ins : Nat) (a_name a_version : Nat → Int32) (k S : Nat) : Nat := if k = 0 then uo_p0 n ins a_name S else if k = 1 then uo_p1 n ins S else uo_p2 n a_name a_version S
noncomputable def uo_cs (n ins : Nat) (a_name a_version : Nat → Int32) (S : Nat) : Nat := 256 * uo_p0 n ins a_name S + 16 * uo_p1 n ins S + uo_p2 n a_name a_version S
/-- the best of P: least cost, then least number -/
def uo_bst (n : Nat) (cs : Nat → Nat) (P : Nat → Prop) (o : Option Nat) : Prop :=
  (o = none ∧ ∀ S, ¬ P S) ∨ (∃ S, o = some S ∧ S < 2 ^ n ∧ P S ∧ ∀ T, P T → cs S < cs T ∨ (cs S = cs T ∧ S ≤ T))
def uo_oI (o : Option Nat) : Int32 := o.elim (-3) nI
theorem uo_bst_un {n : Nat} {cs : Nat → Nat} {P : Nat → Prop} {o o' : Option Nat} (h : uo_bst n cs P o) (h' : uo_bst n cs P o') : o = o' := by
  rcases h with ⟨e, h⟩ | ⟨S, e, _, h1, h2⟩ <;> rcases h' with ⟨e', h'⟩ | ⟨S', e', _, h1', h2'⟩
  · rw [e, e']
  · exact absurd h1' (h S')
  · exact absurd h1 (h' S)
  · have a := h2 S' h1'
    have b := h2' S h1
    have : S = S' := by omega
    rw [e, e', this]
theorem uo_bst_cg {n : Nat} {cs : Nat → Nat} {P Q : Nat → Prop} {o : Option Nat} (h : uo_bst n cs P o) (e : ∀ S, P S ↔ Q S) : uo_bst n cs Q o := by
  rcases h with ⟨e1, h⟩ | ⟨S, e1, h0, h1, h2⟩
  · exact Or.inl ⟨e1, fun S z => h S ((e S).mpr z)⟩
  · exact Or.inr ⟨S, e1, h0, (e S).mp h1, fun T hT => h2 T ((e T).mpr hT)⟩
section
variable {f_packageCount f_installed f_wishCount f_ready f_wantedNames f_unwantedNames f_chosen f_refused f_counting f_found f_bestSet f_bestCost : Int32} {a_name a_version a_features a_needCount a_needWidth a_needPattern a_clashCount a_clashPattern a_wishName a_wishThere a_needTargets a_excludes a_sharers a_newest a_frameChosen a_frameRefused a_framePackage a_frameTried : Nat → Int32}
variable {nF nX nB cF cX cB : Nat → Int32}
variable {n wc ins S : Nat}
theorem uo_ynw4 {post : Int32 → Prop} {x : Int32} (hn : n ≤ 10) (J : post (uo_nw a_name a_version x n)) : ∀ d p, p + d = n → wY_newest_4 post x (nI n) (nI wc) (nI ins) a_name a_version a_features a_needCount a_clashCount a_needWidth nF nX nB cF cX cB a_wishName a_wishThere (d + 1) (uo_nw a_name a_version x p) (nI p) := by
  intro d
  induction d with
  | zero =>
    intro p hp
    have e : p = n := by omega
    subst e
    exact br_t (nI_le (Nat.le_refl _) (by omega)) J
  | succ d ih =>
    intro p hp
    have ep : (nI p).toNatClampNeg = p := nI_clamp (by omega)
    have vp : vp_in (nI p) 10 := vp_in_nI (by omega) (by decide)
    have I := ih (p + 1) (by omega)
    refine br_f (nI_ge (by omega) (by omega)) ⟨vp, ?_⟩
    rw [ep]
    refine br_c (fun h => br_c (fun h1 => nm_r (nI_1 p) ?_) (fun h1 => ⟨vp, ?_, ?_⟩)) (fun h => nm_r (nI_1 p) ?_)
    · rw [uo_nw1 h h1] at I
      exact I
    · rcases uo_nwc (a_name := a_name) (a_version := a_version) (x := x) (m := p) (by omega) with ⟨e, _⟩ | ⟨j, hj, e, _⟩
      · rw [e] at h1
        exact absurd (by decide) h1
      · rw [e]
        exact vp_in_nI (by omega) (by decide)
    · refine br_c (fun h2 => nm_r (nI_1 p) ?_) (fun h2 => nm_r (nI_1 p) ?_)
      · rw [uo_nw2 h h1 h2] at I
        exact I
      · rw [uo_nw3 h h1 h2] at I
        exact I
    · rw [uo_nw0 h] at I
      exact I
theorem uo_ynw {post : Int32 → Prop} {x : Int32} (hn : n ≤ 10) (J : post (uo_nw a_name a_version x n)) : wpY_newest post (nI n, nI wc, nI ins, a_name, a_version, a_features, a_needCount, a_clashCount, a_needWidth, nF, nX, nB, cF, cX, cB, a_wishName, a_wishThere) x :=
  Exists.intro (n + 1) (uo_ynw4 hn J n 0 (by omega))
theorem uo_yp10 {post : Int32 → Prop} (hn : n ≤ 10) (hS : S < 2 ^ 31) (hi : ins < 2 ^ 31) (J : post (nI (uo_p1 n ins S))) : ∀ d p, p + d = n → wY_price_10 post (nI S) (nI n) (nI wc) (nI ins) a_name a_version a_features a_needCount a_clashCount a_needWidth nF nX nB cF cX cB a_wishName a_wishThere (d + 1) (nI (cz_ (fun p => ¬ (el_ S p ↔ el_ ins p)) p)) (nI p) := by
  intro d
  induction d with
  | zero =>
    intro p hp
    have e : p = n := by omega
    subst e
    exact br_t (nI_le (Nat.le_refl _) (by omega)) J
  | succ d ih =>
    intro p hp
    have I := ih (p + 1) (by omega)
    refine br_f (nI_ge (by omega) (by omega)) (uo_yin hS (by omega) (fun e => uo_yin hi (by omega) (fun e2 => br_t rfl (nm_r (nI_1 p) ?_)) (fun e2 => br_f (by decide) (nm_r (nI_1 _) (nm_r (nI_1 p) ?_)))) (fun e => uo_yin hi (by omega) (fun e2 => br_f (by decide) (nm_r (nI_1 _) (nm_r (nI_1 p) ?_))) (fun e2 => br_t rfl (nm_r (nI_1 p) ?_))))
    · rw [cz_f (fun z => z ⟨fun _ => e2, fun _ => e⟩)] at I
      exact I
    · rw [cz_t (fun z => e2 (z.mp e))] at I
      exact I
    · rw [cz_t (fun z => e (z.mpr e2))] at I
      exact I
    · rw [cz_f (fun z => z ⟨fun h => absurd h e, fun h => absurd h e2⟩)] at I
      exact I
theorem uo_yp53_0 {post : Int32 → Prop} (hn : n ≤ 10) (hS : S < 2 ^ 31) (hi : ins < 2 ^ 31) (J : post (nI (uo_p0 n ins a_name S))) : ∀ d x, x + d = 5 → wY_price_53 post (nI S) 0 (nI n) (nI wc) (nI ins) a_name a_version a_features a_needCount a_clashCount a_needWidth nF nX nB cF cX cB a_wishName a_wishThere (d + 1) (nI (cz_ (fun x => 0 < uo_co n a_name ins (nI x) ∧ uo_co n a_name S (nI x) = 0) x)) (nI x) := by
  intro d
  induction d with
  | zero =>
    intro x hx
    have e : x = 5 := by omega
    subst e
    exact br_t (nI_le (b := 5) (Nat.le_refl _) (by omega)) J
  | succ d ih =>
    intro x hx
    have I := ih (x + 1) (by omega)
    have l1 : uo_co n a_name S (nI x) ≤ n := uo_co_le
    have l2 : uo_co n a_name ins (nI x) ≤ n := uo_co_le
    refine br_f (nI_ge (b := 5) (by omega) (by omega)) (uo_ycnt hn hS (uo_ycnt hn hi (uo_ynw hn (br_t rfl ?_))))
    refine pk_le (uo_co n a_name ins (nI x)) 0 (fun h => br_f (by decide) (nm_r (nI_1 x) ?_)) (fun h => pk_eq (uo_co n a_name S (nI x)) 0 (fun h2 => nm_r (nI_1 _) (br_f (by decide) (nm_r (nI_1 x) ?_))) (fun h2 => br_f (by decide) (nm_r (nI_1 x) ?_)))
    · rw [cz_f (fun z => absurd z.1 (by omega))] at I
      exact I
    · rw [cz_t ⟨h, h2⟩] at I
      exact I
    · rw [cz_f (fun z => h2 z.2)] at I
      exact I
theorem uo_yp53_2 {post : Int32 → Prop} (hn : n ≤ 10) (hS : S < 2 ^ 31) (hi : ins < 2 ^ 31) (J : post (nI (uo_p2 n a_name a_version S))) : ∀ d x, x + d = 5 → wY_price_53 post (nI S) 2 (nI n) (nI wc) (nI ins) a_name a_version a_features a_needCount a_clashCount a_needWidth nF nX nB cF cX cB a_wishName a_wishThere (d + 1) (nI (cz_ (fun x => 0 < uo_co n a_name S (nI x) ∧ ¬ el_ S (uo_nw a_name a_version (nI x) n).toNatClampNeg) x)) (nI x) := by
  intro d
  induction d with
  | zero =>
    intro x hx
    have e : x = 5 := by omega
    subst e
    exact br_t (nI_le (b := 5) (Nat.le_refl _) (by omega)) J
  | succ d ih =>
    intro x hx
    have I := ih (x + 1) (by omega)
    have l1 : uo_co n a_name S (nI x) ≤ n := uo_co_le
    refine br_f (nI_ge (b := 5) (by omega) (by omega)) (uo_ycnt hn hS (uo_ycnt hn hi (uo_ynw hn (br_f (by decide) (br_t rfl ?_)))))
    refine pk_le (uo_co n a_name S (nI x)) 0 (fun h => nm_r (nI_1 x) ?_) (fun h => ?_)
    · rw [cz_f (fun z => absurd z.1 (by omega))] at I
      exact I
    · rcases uo_nwc (a_name := a_name) (a_version := a_version) (x := nI x) (m := n) hn with ⟨_, e⟩ | ⟨j, hj, e, _⟩
      · obtain ⟨q, hq, _, h3⟩ := cz_ex h
        exact absurd h3 (e q hq)
      · rw [e]
        refine uo_yin hS (by omega) (fun h2 => br_f (by decide) (nm_r (nI_1 x) ?_)) (fun h2 => br_t rfl (nm_r (nI_1 _) (nm_r (nI_1 x) ?_)))
        · have h3 : el_ S (uo_nw a_name a_version (nI x) n).toNatClampNeg := by
            rw [e, nI_clamp (by omega)]
            exact h2
          rw [cz_f (fun z => z.2 h3)] at I
          exact I
        · have h3 : ¬ el_ S (uo_nw a_name a_version (nI x) n).toNatClampNeg := by
            rw [e, nI_clamp (by omega)]
            exact h2
          rw [cz_t ⟨h, h3⟩] at I
          exact I
theorem uo_ypr {post : Int32 → Prop} {k : Nat} (hn : n ≤ 10) (hS : S < 2 ^ 31) (hi : ins < 2 ^ 31) (hk : k < 3) (J : post (nI (uo_pr n ins a_name a_version k S))) : wpY_price post (nI n, nI wc, nI ins, a_name, a_version, a_features, a_needCount, a_clashCount, a_needWidth, nF, nX, nB, cF, cX, cB, a_wishName, a_wishThere) (nI S) (nI k) := by
  rcases (by omega : k = 0 ∨ k = 1 ∨ k = 2) with e | e | e <;> subst e
  · exact And.intro (fun z => absurd z (by decide)) (fun _ => Exists.intro 6 (uo_yp53_0 hn hS hi J 5 0 (by omega)))
  · exact And.intro (fun _ => Exists.intro (n + 1) (uo_yp10 hn hS hi J n 0 (by omega))) (fun z => absurd rfl z)
  · exact And.intro (fun z => absurd z (by decide)) (fun _ => Exists.intro 6 (uo_yp53_2 hn hS hi J 5 0 (by omega)))
theorem uo_prb {k : Nat} (hn : n ≤ 10) : uo_pr n ins a_name a_version k S ≤ 10 := by
  unfold uo_pr
  by_cases h : k = 0
  · rw [if_pos h]
    exact Nat.le_trans (cz_le _ _) (by decide)
  · rw [if_neg h]
    by_cases h : k = 1
    · rw [if_pos h]
      exact Nat.le_trans (cz_le _ _) hn
    · rw [if_neg h]
      exact Nat.le_trans (cz_le _ _) (by decide)
theorem uo_cs3 : uo_cs n ins a_name a_version S = 256 * uo_pr n ins a_name a_version 0 S + 16 * uo_pr n ins a_name a_version 1 S + uo_pr n ins a_name a_version 2 S := rfl
theorem uo_ych2 {post : Int32 → Prop} {T : Nat} (hn : n ≤ 10) (hS : S < 2 ^ 31) (hT : T < 2 ^ 31) (hi : ins < 2 ^ 31) (t : uo_cs n ins a_name a_version S < uo_cs n ins a_name a_version T → post 1) (f : ¬ uo_cs n ins a_name a_version S < uo_cs n ins a_name a_version T → post 0) : ∀ d k, k + d = 3 → (∀ j, j < k → uo_pr n ins a_name a_version j S = uo_pr n ins a_name a_version j T) → wY_cheaper_2 post (nI S) (nI T) (nI n) (nI wc) (nI ins) a_name a_version a_features a_needCount a_clashCount a_needWidth nF nX nB cF cX cB a_wishName a_wishThere (d + 1) (nI k) := by
  rw [uo_cs3, uo_cs3] at t f
  have b0 := uo_prb (S := S) (n := n) (ins := ins) (a_name := a_name) (a_version := a_version) (k := 0) hn
  have b1 := uo_prb (S := S) (n := n) (ins := ins) (a_name := a_name) (a_version := a_version) (k := 1) hn
  have b2 := uo_prb (S := S) (n := n) (ins := ins) (a_name := a_name) (a_version := a_version) (k := 2) hn
  have c0 := uo_prb (S := T) (n := n) (ins := ins) (a_name := a_name) (a_version := a_version) (k := 0) hn
  have c1 := uo_prb (S := T) (n := n) (ins := ins) (a_name := a_name) (a_version := a_version) (k := 1) hn
  have c2 := uo_prb (S := T) (n := n) (ins := ins) (a_name := a_name) (a_version := a_version) (k := 2) hn
  intro d
  induction d with
  | zero =>
    intro k hk hq
    have e : k = 3 := by omega
    subst e
    refine br_t (nI_le (b := 3) (Nat.le_refl _) (by omega)) (f ?_)
    rw [hq 0 (by omega), hq 1 (by omega), hq 2 (by omega)]
    omega
  | succ d ih =>
    intro k hk hq
    have lS : uo_pr n ins a_name a_version k S ≤ 10 := uo_prb hn
    have lT : uo_pr n ins a_name a_version k T ≤ 10 := uo_prb hn
    refine br_f (nI_ge (b := 3) (by omega) (by omega)) (uo_ypr hn hS hi (by omega) (uo_ypr hn hT hi (by omega) ?_))
    refine pk_eq (uo_pr n ins a_name a_version k S) (uo_pr n ins a_name a_version k T) (fun h => nm_r (nI_1 k) (ih (k + 1) (by omega) (lt_s hq h))) (fun h => pk_le (uo_pr n ins a_name a_version k T) (uo_pr n ins a_name a_version k S) (fun h2 => f ?_) (fun h2 => t ?_))
    · rcases (by omega : k = 0 ∨ k = 1 ∨ k = 2) with e | e | e <;> subst e
      · omega
      · have := hq 0 (by omega)
        omega
      · have := hq 0 (by omega)
        have := hq 1 (by omega)
        omega
    · rcases (by omega : k = 0 ∨ k = 1 ∨ k = 2) with e | e | e <;> subst e
      · omega
      · have := hq 0 (by omega)
        omega
      · have := hq 0 (by omega)
        have := hq 1 (by omega)
        omega
theorem uo_ych {post : Int32 → Prop} {T : Nat} (hn : n ≤ 10) (hS : S < 2 ^ 31) (hT : T < 2 ^ 31) (hi : ins < 2 ^ 31) (t : uo_cs n ins a_name a_version S < uo_cs n ins a_name a_version T → post 1) (f : ¬ uo_cs n ins a_name a_version S < uo_cs n ins a_name a_version T → post 0) : wpY_cheaper post (nI n, nI wc, nI ins, a_name, a_version, a_features, a_needCount, a_clashCount, a_needWidth, nF, nX, nB, cF, cX, cB, a_wishName, a_wishThere) (nI S) (nI T) :=
  Exists.intro 4 (uo_ych2 hn hS hT hi t f 3 0 (by omega) (fun _ h => absurd h (by omega)))
theorem uo_ybest5 {post : Int32 → Prop} (B : uo_ba n wc ins a_name a_needCount a_clashCount a_wishName a_wishThere) (J : ∀ o, uo_bst n (uo_cs n ins a_name a_version) (fun S => S < 2 ^ n ∧ uo_rt n wc a_name a_version a_features a_needCount a_needWidth a_clashCount nF nX nB cF cX cB a_wishName a_wishThere S) o → post (uo_oI o)) : ∀ d m, m + d = 2 ^ n → ∀ o, uo_bst n (uo_cs n ins a_name a_version) (fun S => S < m ∧ uo_rt n wc a_name a_version a_features a_needCount a_needWidth a_clashCount nF nX nB cF cX cB a_wishName a_wishThere S) o → wY_best_5 post (nI n) (nI wc) (nI ins) a_name a_version a_features a_needCount a_clashCount a_needWidth nF nX nB cF cX cB a_wishName a_wishThere (d + 1) (uo_oI o) (nI m) := by
  have hn : n ≤ 10 := B.1
  have hi : ins < 2 ^ 31 := el_31 B.2.2.1 hn
  have h2 : 2 ^ n ≤ 1024 := el_p2 hn
  intro d
  induction d with
  | zero =>
    intro m hm o ho
    have e : m = 2 ^ n := by omega
    subst e
    refine And.intro (fun _ => J o ho) (fun z => absurd ?_ z)
    rw [uo_pw n (by omega)]
    exact nI_le (Nat.le_refl _) (by omega)
  | succ d ih =>
    intro m hm o ho
    have hm' : m < 2 ^ n := by omega
    refine And.intro (fun z => absurd z ?_) (fun _ => ?_)
    · rw [uo_pw n (by omega)]
      exact nI_ge hm' (by omega)
    refine uo_yright B hm' (fun hr => br_f (by decide) ?_) (fun hr => br_t rfl (nm_r (nI_1 m) (ih (m + 1) (by omega) o (uo_bst_cg ho ?_))))
    · rcases ho with ⟨e, h⟩ | ⟨S, e, h0, h1, h3⟩ <;> subst e
      · refine br_t rfl (nm_r (nI_1 m) (ih (m + 1) (by omega) (some m) (Or.inr ⟨m, rfl, hm', ⟨by omega, hr⟩, ?_⟩)))
        rintro T ⟨hT, hT2⟩
        rcases Nat.lt_or_ge T m with h4 | h4
        · exact absurd ⟨h4, hT2⟩ (h T)
        · have : T = m := by omega
          subst this
          exact Or.inr ⟨rfl, Nat.le_refl _⟩
      · have hS : S < 2 ^ 31 := el_31 h0 hn
        have hne : ¬ nI S = (-3 : Int32) := by
          intro z
          have := congrArg Int32.toInt z
          rw [nI_toInt hS, show (-3 : Int32).toInt = -3 from by decide] at this
          omega
        refine br_f hne (uo_ych hn (el_31 hm' hn) hS hi (fun hc => br_f (by decide) (nm_r (nI_1 m) (ih (m + 1) (by omega) (some m) (Or.inr ⟨m, rfl, hm', ⟨by omega, hr⟩, ?_⟩)))) (fun hc => br_t rfl (nm_r (nI_1 m) (ih (m + 1) (by omega) (some S) (Or.inr ⟨S, rfl, h0, ⟨by omega, h1.2⟩, ?_⟩)))))
        · rintro T ⟨hT, hT2⟩
          rcases Nat.lt_or_ge T m with h4 | h4
          · have := h3 T ⟨h4, hT2⟩
            exact Or.inl (by omega)
          · have : T = m := by omega
            subst this
            exact Or.inr ⟨rfl, Nat.le_refl _⟩
        · rintro T ⟨hT, hT2⟩
          rcases Nat.lt_or_ge T m with h4 | h4
          · exact h3 T ⟨h4, hT2⟩
          · have : T = m := by omega
            subst this
            have := h1.1
            omega
    · intro T
      constructor
      · rintro ⟨a, b⟩
        exact ⟨by omega, b⟩
      · rintro ⟨a, b⟩
        refine ⟨?_, b⟩
        rcases Nat.lt_or_ge T m with h4 | h4
        · exact h4
        · have : T = m := by omega
          subst this
          exact absurd b hr
/-- the reference's best -/
theorem uo_ybest {post : Int32 → Prop} (B : uo_ba n wc ins a_name a_needCount a_clashCount a_wishName a_wishThere) (J : ∀ o, uo_bst n (uo_cs n ins a_name a_version) (fun S => S < 2 ^ n ∧ uo_rt n wc a_name a_version a_features a_needCount a_needWidth a_clashCount nF nX nB cF cX cB a_wishName a_wishThere S) o → post (uo_oI o)) : wpY_best post (nI n, nI wc, nI ins, a_name, a_version, a_features, a_needCount, a_clashCount, a_needWidth, nF, nX, nB, cF, cX, cB, a_wishName, a_wishThere) :=
  Exists.intro (2 ^ n + 1) (uo_ybest5 B J (2 ^ n) 0 (by omega) none (Or.inl ⟨rfl, fun _ h => absurd h.1 (by omega)⟩))
theorem uo_yrs4 {post : Int32 → Prop} (B : uo_ba n wc ins a_name a_needCount a_clashCount a_wishName a_wishThere) (J : post (nI (cz_ (uo_rt n wc a_name a_version a_features a_needCount a_needWidth a_clashCount nF nX nB cF cX cB a_wishName a_wishThere) (2 ^ n)))) : ∀ d m, m + d = 2 ^ n → wY_rightSets_4 post (nI n) (nI wc) (nI ins) a_name a_version a_features a_needCount a_clashCount a_needWidth nF nX nB cF cX cB a_wishName a_wishThere (d + 1) (nI (cz_ (uo_rt n wc a_name a_version a_features a_needCount a_needWidth a_clashCount nF nX nB cF cX cB a_wishName a_wishThere) m)) (nI m) := by
  have hn : n ≤ 10 := B.1
  have h2 : 2 ^ n ≤ 1024 := el_p2 hn
  intro d
  induction d with
  | zero =>
    intro m hm
    have e : m = 2 ^ n := by omega
    subst e
    refine And.intro (fun _ => J) (fun z => absurd ?_ z)
    rw [uo_pw n (by omega)]
    exact nI_le (Nat.le_refl _) (by omega)
  | succ d ih =>
    intro m hm
    have I := ih (m + 1) (by omega)
    have hm' : m < 2 ^ n := by omega
    refine And.intro (fun z => absurd z ?_) (fun _ => ?_)
    · rw [uo_pw n (by omega)]
      exact nI_ge hm' (by omega)
    refine uo_yright B hm' (fun hr => br_f (by decide) (nm_r (nI_1 _) (nm_r (nI_1 m) ?_))) (fun hr => br_t rfl (nm_r (nI_1 m) ?_))
    · rw [cz_t hr] at I
      exact I
    · rw [cz_f hr] at I
      exact I
/-- the reference's rightSets -/
theorem uo_yrs {post : Int32 → Prop} (B : uo_ba n wc ins a_name a_needCount a_clashCount a_wishName a_wishThere) (J : post (nI (cz_ (uo_rt n wc a_name a_version a_features a_needCount a_needWidth a_clashCount nF nX nB cF cX cB a_wishName a_wishThere) (2 ^ n)))) : wpY_rightSets post (nI n, nI wc, nI ins, a_name, a_version, a_features, a_needCount, a_clashCount, a_needWidth, nF, nX, nB, cF, cX, cB, a_wishName, a_wishThere) :=
  Exists.intro (2 ^ n + 1) (uo_yrs4 B J (2 ^ n) 0 (by omega))
end
end
section
/-! the component: what fits a pattern -/
theorem mk_or {P Q : Nat → Prop} {n : Nat} : mk_ P n ||| mk_ Q n = mk_ (fun i => P i ∨ Q i) n := by
  apply mk_un
  intro i
  rw [el_or, mk_el, mk_el]
  constructor
  · rintro (⟨a, b⟩ | ⟨a, b⟩)
    · exact ⟨a, Or.inl b⟩
    · exact ⟨a, Or.inr b⟩
  · rintro ⟨a, b | b⟩
    · exact Or.inl ⟨a, b⟩
    · exact Or.inr ⟨a, b⟩
theorem mk_orp {P : Nat → Prop} {n p : Nat} (hp : p < n) : mk_ P n ||| 2 ^ p = mk_ (fun i => P i ∨ i = p) n := by
  apply mk_un
  intro i
  rw [el_or, mk_el, el_pw]
  constructor
  · rintro (⟨a, b⟩ | a)
    · exact ⟨a, Or.inl b⟩
    · exact ⟨by omega, Or.inr a.symm⟩
  · rintro ⟨a, b | b⟩
    · exact Or.inl ⟨a, b⟩
    · exact Or.inr b.symm
theorem mk_dfp {P : Nat → Prop} {n p : Nat} (hn : n ≤ 10) : df_ (mk_ P n) (2 ^ p) = mk_ (fun i => P i ∧ i ≠ p) n := by
  apply mk_un
  intro i
  rw [df_el (mk_31 P hn), mk_el, el_pw]
  constructor
  · rintro ⟨⟨a, b⟩, c⟩
    exact ⟨a, b, fun e => c e.symm⟩
  · rintro ⟨a, b, c⟩
    exact ⟨⟨a, b⟩, fun e => c e.symm⟩
def uo_xf (a_name a_version a_features : Nat → Int32) (x1 x2 : Int32) (q : Nat) : Prop :=
  (x1 < 50 ∧ a_name q = x1 / 10 ∧ ((x2 = 0 ∧ ¬ (x1 - x1 / 10 * 10) < a_version q) ∨ (¬ x2 = 0 ∧ ¬ a_version q < (x1 - x1 / 10 * 10)))) ∨ (¬ x1 < 50 ∧ ¬ (a_features q >>> ((x1 - 50) &&& 31)) &&& 1 = 0)
/-- the component's pattern byte says what the reference's three arrays say -/
def uo_pt (pat nF nX nB : Nat → Int32) : Prop := ∀ i, (nF i = 0 ∧ ∃ x b, x < 5 ∧ b < 10 ∧ nX i = nI x ∧ nB i = nI b ∧ pat i = nI (10 * x + b)) ∨ (¬ nF i = 0 ∧ ∃ x, x < 4 ∧ nX i = nI x ∧ pat i = nI (50 + x))
theorem uo_d10 {x b : Nat} (hx : x < 5) (hb : b < 10) : nI (10 * x + b) < 50 ∧ nI (10 * x + b) / 10 = nI x ∧ nI (10 * x + b) - nI (10 * x + b) / 10 * 10 = nI b := by
  have e1 : nI (10 * x + b) / 10 = nI x := by
    have := pk_div (a := 10 * x + b) (d := 10) (by omega) (by omega) (by omega)
    rw [show (10 * x + b) / 10 = x from by omega] at this
    exact this
  have e2 : nI (10 * x + b) - nI (10 * x + b) / 10 * 10 = nI b := by
    have := pk_rem (a := 10 * x + b) (d := 10) (by omega) (by omega) (by omega)
    rw [show (10 * x + b) % 10 = b from by omega] at this
    exact this
  exact ⟨nI_lt (b := 50) (by omega) (by decide), e1, e2⟩
theorem uo_d50 {x : Nat} (hx : x < 4) : ¬ nI (50 + x) < 50 ∧ nI (50 + x) - 50 = nI x := by
  have e1 : nI (50 + x) - 50 = nI x := by
    have := pk_sub (a := 50 + x) (b := 50) (by omega)
    rw [show 50 + x - 50 = x from by omega] at this
    exact this
  exact ⟨nI_nlt (b := 50) (by omega) (by omega), e1⟩
theorem uo_xfn {a_name a_version a_features pat nF nX nB : Nat → Int32} (h : uo_pt pat nF nX nB) (i q : Nat) : uo_xf a_name a_version a_features (pat i) 1 q ↔ uo_fn a_name a_version a_features nF nX nB i q := by
  unfold uo_xf uo_fn
  rcases h i with ⟨h0, x, b, hx, hb, e1, e2, e3⟩ | ⟨h0, x, hx, e1, e3⟩
  · obtain ⟨d1, d2, d3⟩ := uo_d10 hx hb
    rw [e3, e1, e2, d3, d2]
    constructor
    · rintro (⟨_, a, ⟨c, _⟩ | ⟨_, c⟩⟩ | ⟨c, _⟩)
      · exact absurd c (by decide)
      · exact Or.inl ⟨h0, a, c⟩
      · exact absurd d1 c
    · rintro (⟨_, a, c⟩ | ⟨c, _⟩)
      · exact Or.inl ⟨d1, a, Or.inr ⟨by decide, c⟩⟩
      · exact absurd h0 c
  · obtain ⟨d1, d2⟩ := uo_d50 hx
    rw [e3, e1, d2, uo_n0]
    constructor
    · rintro (⟨c, _⟩ | ⟨_, c⟩)
      · exact absurd c d1
      · exact Or.inr ⟨h0, c⟩
    · rintro (⟨c, _⟩ | ⟨_, c⟩)
      · exact absurd c h0
      · exact Or.inr ⟨d1, c⟩
theorem uo_xfc {a_name a_version a_features pat cF cX cB : Nat → Int32} (h : uo_pt pat cF cX cB) (i q : Nat) : uo_xf a_name a_version a_features (pat i) 0 q ↔ uo_fc a_name a_version a_features cF cX cB i q := by
  unfold uo_xf uo_fc
  rcases h i with ⟨h0, x, b, hx, hb, e1, e2, e3⟩ | ⟨h0, x, hx, e1, e3⟩
  · obtain ⟨d1, d2, d3⟩ := uo_d10 hx hb
    rw [e3, e1, e2, d3, d2]
    constructor
    · rintro (⟨_, a, ⟨_, c⟩ | ⟨c, _⟩⟩ | ⟨c, _⟩)
      · exact Or.inl ⟨h0, a, c⟩
      · exact absurd rfl c
      · exact absurd d1 c
    · rintro (⟨_, a, c⟩ | ⟨c, _⟩)
      · exact Or.inl ⟨d1, a, Or.inl ⟨rfl, c⟩⟩
      · exact absurd h0 c
  · obtain ⟨d1, d2⟩ := uo_d50 hx
    rw [e3, e1, d2, uo_n0]
    constructor
    · rintro (⟨c, _⟩ | ⟨_, c⟩)
      · exact absurd c d1
      · exact Or.inr ⟨h0, c⟩
    · rintro (⟨c, _⟩ | ⟨_, c⟩)
      · exact absurd c h0
      · exact Or.inr ⟨d1, c⟩
section
variable {f_packageCount f_installed f_wishCount f_ready f_wantedNames f_unwantedNames f_chosen f_refused f_counting f_found f_bestSet f_bestCost : Int32} {a_name a_version a_features a_needCount a_needWidth a_needPattern a_clashCount a_clashPattern a_wishName a_wishThere a_needTargets a_excludes a_sharers a_newest a_frameChosen a_frameRefused a_framePackage a_frameTried : Nat → Int32}
variable {n wc ins : Nat}
theorem uo_xfit5 {post : Int32 → Prop} {x1 x2 : Int32} (hn : n ≤ 10) (J : post (nI (mk_ (uo_xf a_name a_version a_features x1 x2) n))) : ∀ d p, p + d = n → wX_fitting_5 post x1 x2 (nI n) (nI ins) (nI wc) f_ready f_wantedNames f_unwantedNames f_chosen f_refused f_counting f_found f_bestSet f_bestCost a_name a_version a_features a_needCount a_needWidth a_needPattern a_clashCount a_clashPattern a_wishName a_wishThere a_needTargets a_excludes a_sharers a_newest a_frameChosen a_frameRefused a_framePackage a_frameTried (d + 1) (nI (mk_ (uo_xf a_name a_version a_features x1 x2) p)) (nI p) := by
  intro d
  induction d with
  | zero =>
    intro p hp
    have e : p = n := by omega
    subst e
    exact br_t (nI_le (Nat.le_refl _) (by omega)) J
  | succ d ih =>
    intro p hp
    have ep : (nI p).toNatClampNeg = p := nI_clamp (by omega)
    have vp : vp_in (nI p) 10 := vp_in_nI (by omega) (by decide)
    have I := ih (p + 1) (by omega)
    have K : ∀ z : Int32, (¬ z = 0 ↔ uo_xf a_name a_version a_features x1 x2 p) → wX_fitting_114 post (wX_fitting_5 post x1 x2 (nI n) (nI ins) (nI wc) f_ready f_wantedNames f_unwantedNames f_chosen f_refused f_counting f_found f_bestSet f_bestCost a_name a_version a_features a_needCount a_needWidth a_needPattern a_clashCount a_clashPattern a_wishName a_wishThere a_needTargets a_excludes a_sharers a_newest a_frameChosen a_frameRefused a_framePackage a_frameTried (d + 1)) x1 x2 (nI (mk_ (uo_xf a_name a_version a_features x1 x2) p)) (nI p) z (nI n) (nI ins) (nI wc) f_ready f_wantedNames f_unwantedNames f_chosen f_refused f_counting f_found f_bestSet f_bestCost a_name a_version a_features a_needCount a_needWidth a_needPattern a_clashCount a_clashPattern a_wishName a_wishThere a_needTargets a_excludes a_sharers a_newest a_frameChosen a_frameRefused a_framePackage a_frameTried := by
      intro z hz
      refine br_c (fun h => nm_r (nI_1 p) ?_) (fun h => nm_r (e' := nI (mk_ (uo_xf a_name a_version a_features x1 x2) p ||| 2 ^ p)) ?_ (nm_r (nI_1 p) ?_))
      · rw [mk_f (fun z => hz.mpr z h)] at I
        exact I
      · rw [uo_pw p (by omega), uo_or]
      · rw [mk_t (hz.mp h)] at I
        exact I
    refine br_f (nI_ge (by omega) (by omega)) (br_c (fun h1 => ⟨vp, by decide, ?_⟩) (fun h1 => ⟨vp, ?_⟩))
    · rw [ep]
      refine br_c (fun h2 => br_c (fun h3 => ⟨vp, by decide, ?_⟩) (fun h3 => ⟨vp, by decide, ?_⟩)) (fun h2 => K 0 ⟨fun z => absurd rfl z, ?_⟩)
      · refine br_c (fun h4 => K 0 ⟨fun z => absurd rfl z, ?_⟩) (fun h4 => K 1 ⟨fun _ => Or.inl ⟨h1, h2, Or.inl ⟨h3, h4⟩⟩, fun _ => by decide⟩)
        rintro (⟨_, _, ⟨_, c⟩ | ⟨c, _⟩⟩ | ⟨c, _⟩)
        · exact absurd h4 c
        · exact absurd h3 c
        · exact absurd h1 c
      · refine br_c (fun h4 => K 0 ⟨fun z => absurd rfl z, ?_⟩) (fun h4 => K 1 ⟨fun _ => Or.inl ⟨h1, h2, Or.inr ⟨h3, h4⟩⟩, fun _ => by decide⟩)
        rintro (⟨_, _, ⟨c, _⟩ | ⟨_, c⟩⟩ | ⟨c, _⟩)
        · exact absurd c h3
        · exact absurd h4 c
        · exact absurd h1 c
      · rintro (⟨_, c, _⟩ | ⟨c, _⟩)
        · exact absurd c h2
        · exact absurd h1 c
    · rw [ep]
      refine br_c (fun h2 => K 0 ⟨fun z => absurd rfl z, ?_⟩) (fun h2 => K 1 ⟨fun _ => Or.inr ⟨h1, h2⟩, fun _ => by decide⟩)
      rintro (⟨c, _⟩ | ⟨_, c⟩)
      · exact absurd c h1
      · exact absurd h2 c
theorem uo_xfit {post : Int32 → Prop} {x1 x2 : Int32} (hn : n ≤ 10) (J : post (nI (mk_ (uo_xf a_name a_version a_features x1 x2) n))) : wpX_fitting post (nI n, nI ins, nI wc, f_ready, f_wantedNames, f_unwantedNames, f_chosen, f_refused, f_counting, f_found, f_bestSet, f_bestCost, a_name, a_version, a_features, a_needCount, a_needWidth, a_needPattern, a_clashCount, a_clashPattern, a_wishName, a_wishThere, a_needTargets, a_excludes, a_sharers, a_newest, a_frameChosen, a_frameRefused, a_framePackage, a_frameTried) x1 x2 :=
  Exists.intro (n + 1) (uo_xfit5 hn J n 0 (by omega))
end
end
section
/-! the component: prepare -/
theorem uo_nb : ∀ p, p < 128 → vp_nar .byte (nI p).toInt8.toInt32 = nI p := by decide +kernel
theorem uo_nb2 {p : Nat} (h : p < 128) : vp_nar .byte (nI p) = nI p := by
  have := uo_nb p h
  rw [vp_nar_byte] at this ⊢
  have e : (nI p).toInt8.toInt32 = nI p := lg_i2b_small (by rw [nI_toInt (by omega)]; omega) (by rw [nI_toInt (by omega)]; omega)
  exact e
theorem uo_nbx {p : Nat} (h : p < 128) : (nI p).toInt8.toInt32 = nI p := lg_i2b_small (by rw [nI_toInt (by omega)]; omega) (by rw [nI_toInt (by omega)]; omega)
/-- sharers and newest, over the packages below p -/
def uo_is (a_name a_version : Nat → Int32) (p : Nat) (s w : Nat → Int32) : Prop := ∀ x, x < 5 → s x = nI (mk_ (fun q => a_name q = nI x) p) ∧ w x = uo_nw a_name a_version (nI x) p
def uo_it (n : Nat) (a_name a_version a_features a_needCount a_needWidth nF nX nB : Nat → Int32) (p k : Nat) (t : Nat → Int32) : Prop := ∀ i j, j < cl_ a_needCount i → (i < p ∨ (i = p ∧ j < k)) → t (2 * i + j) = nI (mk_ (uo_tn a_name a_version a_features a_needWidth nF nX nB (2 * i + j)) n)
def uo_ie (n : Nat) (a_name : Nat → Int32) (p : Nat) (e : Nat → Int32) : Prop := ∀ i, i < p → e i = nI (mk_ (fun q => a_name q = a_name i ∧ q ≠ i) n)
def uo_ex (a_name a_version a_features a_clashCount cF cX cB : Nat → Int32) (p q : Nat) : Prop := q ≠ p ∧ (a_name q = a_name p ∨ uo_cn a_name a_version a_features a_clashCount cF cX cB p q ∨ uo_cn a_name a_version a_features a_clashCount cF cX cB q p)
/-- while the clashes of m are listed, and are listed back for those below j -/
def uo_ej (a_name a_version a_features a_clashCount cF cX cB : Nat → Int32) (m j p q : Nat) : Prop := q ≠ p ∧ (a_name q = a_name p ∨ (p < m + 1 ∧ uo_cn a_name a_version a_features a_clashCount cF cX cB p q) ∨ (q < m ∧ uo_cn a_name a_version a_features a_clashCount cF cX cB q p) ∨ (q = m ∧ p < j ∧ uo_cn a_name a_version a_features a_clashCount cF cX cB m p))
def uo_wd (a_wishName a_wishThere : Nat → Int32) (w x : Nat) : Prop := ∃ v, v < w ∧ a_wishName v = nI x ∧ ¬ a_wishThere v = 0
def uo_wu (a_wishName a_wishThere : Nat → Int32) (w x : Nat) : Prop := ∃ v, v < w ∧ a_wishName v = nI x ∧ a_wishThere v = 0
theorem uo_wstep {P : Nat → Prop} {m : Nat} (hm : m < 5) {Q : Nat → Prop} (h : ∀ x, x < 5 → (Q x ↔ P x ∨ x = m)) : mk_ P 5 ||| 2 ^ m = mk_ Q 5 := by
  rw [mk_orp hm]
  exact mk_cg (fun i hi => (h i hi).symm)
section
variable {f_packageCount f_installed f_wishCount f_ready f_wantedNames f_unwantedNames f_chosen f_refused f_counting f_found f_bestSet f_bestCost : Int32} {a_name a_version a_features a_needCount a_needWidth a_needPattern a_clashCount a_clashPattern a_wishName a_wishThere a_needTargets a_excludes a_sharers a_newest a_frameChosen a_frameRefused a_framePackage a_frameTried : Nat → Int32}
variable {nF nX nB cF cX cB : Nat → Int32}
variable {n wc ins : Nat}
theorem uo_is_s {p m : Nat} {s w : Nat → Int32} (h : uo_is a_name a_version p s w) (hm : m < 5) (e : a_name p = nI m) {v : Int32} (hv : uo_nw a_name a_version (nI m) (p + 1) = v) : uo_is a_name a_version (p + 1) (upd s m (s m ||| nI (2 ^ p))) (upd w m v) := by
  intro x hx
  by_cases hxm : x = m
  · subst hxm
    rw [pk_us, pk_us, mk_t (P := fun q => a_name q = nI x) e, (h x hx).1, uo_or, hv]
    exact ⟨rfl, rfl⟩
  · have hne : ¬ a_name p = nI x := by
      rw [e, nI_eq (by omega) (by omega)]
      omega
    rw [pk_un hxm, pk_un hxm, mk_f (P := fun q => a_name q = nI x) hne, uo_nw0 hne]
    exact h x hx
theorem uo_is_k {p m : Nat} {s w : Nat → Int32} (h : uo_is a_name a_version p s w) (hm : m < 5) (e : a_name p = nI m) (hv : uo_nw a_name a_version (nI m) (p + 1) = uo_nw a_name a_version (nI m) p) : uo_is a_name a_version (p + 1) (upd s m (s m ||| nI (2 ^ p))) w := by
  have := uo_is_s h hm e (v := w m) (by rw [hv, (h m hm).2])
  have eu : upd w m (w m) = w := by
    funext i
    unfold upd
    by_cases hi : i = m
    · rw [if_pos hi, hi]
    · rw [if_neg hi]
  rw [eu] at this
  exact this
theorem uo_xln29 {post : SX → Prop} (B : uo_ba n wc ins a_name a_needCount a_clashCount a_wishName a_wishThere) (J : ∀ s w, uo_is a_name a_version n s w → post (nI n, nI ins, nI wc, f_ready, f_wantedNames, f_unwantedNames, f_chosen, f_refused, f_counting, f_found, f_bestSet, f_bestCost, a_name, a_version, a_features, a_needCount, a_needWidth, a_needPattern, a_clashCount, a_clashPattern, a_wishName, a_wishThere, a_needTargets, a_excludes, s, w, a_frameChosen, a_frameRefused, a_framePackage, a_frameTried)) : ∀ d p, p + d = n → ∀ s w, uo_is a_name a_version p s w → wX_listNames_29 post (nI n) (nI ins) (nI wc) f_ready f_wantedNames f_unwantedNames f_chosen f_refused f_counting f_found f_bestSet f_bestCost (d + 1) (nI p) a_name a_version a_features a_needCount a_needWidth a_needPattern a_clashCount a_clashPattern a_wishName a_wishThere a_needTargets a_excludes s w a_frameChosen a_frameRefused a_framePackage a_frameTried := by
  obtain ⟨hn, _, _, hnm, _⟩ := B
  intro d
  induction d with
  | zero =>
    intro p hp s w h
    have e : p = n := by omega
    subst e
    exact br_t (nI_le (Nat.le_refl _) (by omega)) (J s w h)
  | succ d ih =>
    intro p hp s w h
    have ep : (nI p).toNatClampNeg = p := nI_clamp (by omega)
    have vp : vp_in (nI p) 10 := vp_in_nI (by omega) (by decide)
    obtain ⟨em, hm⟩ := hnm p
    generalize cl_ a_name p = m at em hm
    have ec : (nI m).toNatClampNeg = m := nI_clamp (by omega)
    have vm : vp_in (nI m) 5 := vp_in_nI hm (by decide)
    have hw := (h m hm).2
    refine br_f (nI_ge (by omega) (by omega)) ⟨vp, nm_r (e' := nI m) (by rw [ep]; exact em) ⟨vm, vm, ?_⟩⟩
    rw [ec, uo_pw p (by omega)]
    refine nm_e ⟨vm, ?_⟩
    have K : uo_nw a_name a_version (nI m) (p + 1) = nI p → wX_listNames_85 post (wX_listNames_29 post (nI n) (nI ins) (nI wc) f_ready f_wantedNames f_unwantedNames f_chosen f_refused f_counting f_found f_bestSet f_bestCost (d + 1)) (nI p) (nI m) (nI n) (nI ins) (nI wc) f_ready f_wantedNames f_unwantedNames f_chosen f_refused f_counting f_found f_bestSet f_bestCost a_name a_version a_features a_needCount a_needWidth a_needPattern a_clashCount a_clashPattern a_wishName a_wishThere a_needTargets a_excludes (upd s m (s m ||| nI (2 ^ p))) w a_frameChosen a_frameRefused a_framePackage a_frameTried := by
      intro hv
      refine And.intro vm (nm_r (e' := upd w m (nI p)) ?_ (nm_r (nI_1 p) (ih (p + 1) (by omega) _ _ (uo_is_s h hm em hv))))
      rw [ec, uo_nb p (by omega)]
    rw [hw]
    refine br_c (fun h1 => K (uo_nw1 em h1)) (fun h1 => ⟨vp, vm, ?_, ?_⟩)
    · rcases uo_nwc (a_name := a_name) (a_version := a_version) (x := nI m) (m := p) (by omega) with ⟨e, _⟩ | ⟨j, hj, e, _⟩
      · rw [e] at h1
        exact absurd (by decide) h1
      · rw [e]
        exact vp_in_nI (by omega) (by decide)
    · rw [ep]
      exact br_c (fun h2 => nm_r (nI_1 p) (ih (p + 1) (by omega) _ _ (uo_is_k h hm em (uo_nw2 em h1 h2)))) (fun h2 => K (uo_nw3 em h1 h2))
theorem uo_xln2 {post : SX → Prop} (B : uo_ba n wc ins a_name a_needCount a_clashCount a_wishName a_wishThere) (J : ∀ s w, uo_is a_name a_version n s w → post (nI n, nI ins, nI wc, f_ready, f_wantedNames, f_unwantedNames, f_chosen, f_refused, f_counting, f_found, f_bestSet, f_bestCost, a_name, a_version, a_features, a_needCount, a_needWidth, a_needPattern, a_clashCount, a_clashPattern, a_wishName, a_wishThere, a_needTargets, a_excludes, s, w, a_frameChosen, a_frameRefused, a_framePackage, a_frameTried)) : ∀ d x, x + d = 5 → ∀ s w, (∀ i, i < x → s i = 0 ∧ w i = -1) → wX_listNames_2 post (nI n) (nI ins) (nI wc) f_ready f_wantedNames f_unwantedNames f_chosen f_refused f_counting f_found f_bestSet f_bestCost (d + 1) (nI x) a_name a_version a_features a_needCount a_needWidth a_needPattern a_clashCount a_clashPattern a_wishName a_wishThere a_needTargets a_excludes s w a_frameChosen a_frameRefused a_framePackage a_frameTried := by
  intro d
  induction d with
  | zero =>
    intro x hx s w h
    have e : x = 5 := by omega
    subst e
    refine br_t (nI_le (b := 5) (Nat.le_refl _) (by omega)) (Exists.intro (n + 1) (uo_xln29 B J n 0 (by omega) s w ?_))
    intro i hi
    exact h i hi
  | succ d ih =>
    intro x hx s w h
    have ex : (nI x).toNatClampNeg = x := nI_clamp (by omega)
    have vx : vp_in (nI x) 5 := vp_in_nI (by omega) (by decide)
    refine br_f (nI_ge (b := 5) (by omega) (by omega)) ⟨vx, nm_e ⟨vx, nm_e (nm_r (nI_1 x) (ih (x + 1) (by omega) _ _ ?_))⟩⟩
    rw [ex]
    intro i hi
    by_cases e : i = x
    · subst e
      rw [pk_us, pk_us]
      exact ⟨rfl, by decide⟩
    · rw [pk_un e, pk_un e]
      exact h i (by omega)
theorem uo_xln {post : SX → Prop} (B : uo_ba n wc ins a_name a_needCount a_clashCount a_wishName a_wishThere) (J : ∀ s w, uo_is a_name a_version n s w → post (nI n, nI ins, nI wc, f_ready, f_wantedNames, f_unwantedNames, f_chosen, f_refused, f_counting, f_found, f_bestSet, f_bestCost, a_name, a_version, a_features, a_needCount, a_needWidth, a_needPattern, a_clashCount, a_clashPattern, a_wishName, a_wishThere, a_needTargets, a_excludes, s, w, a_frameChosen, a_frameRefused, a_framePackage, a_frameTried)) : wpX_listNames post (nI n, nI ins, nI wc, f_ready, f_wantedNames, f_unwantedNames, f_chosen, f_refused, f_counting, f_found, f_bestSet, f_bestCost, a_name, a_version, a_features, a_needCount, a_needWidth, a_needPattern, a_clashCount, a_clashPattern, a_wishName, a_wishThere, a_needTargets, a_excludes, a_sharers, a_newest, a_frameChosen, a_frameRefused, a_framePackage, a_frameTried) :=
  Exists.intro 6 (uo_xln2 B J 5 0 (by omega) _ _ (fun _ h => absurd h (by omega)))
theorem uo_xp166 {post : SX → Prop} (B : uo_ba n wc ins a_name a_needCount a_clashCount a_wishName a_wishThere) (J : post (nI n, nI ins, nI wc, f_ready, nI (mk_ (uo_wd a_wishName a_wishThere wc) 5), nI (mk_ (uo_wu a_wishName a_wishThere wc) 5), f_chosen, f_refused, f_counting, f_found, f_bestSet, f_bestCost, a_name, a_version, a_features, a_needCount, a_needWidth, a_needPattern, a_clashCount, a_clashPattern, a_wishName, a_wishThere, a_needTargets, a_excludes, a_sharers, a_newest, a_frameChosen, a_frameRefused, a_framePackage, a_frameTried)) : ∀ d w, w + d = wc → wX_prepare_166 post (nI n) (nI ins) (nI wc) f_ready f_chosen f_refused f_counting f_found f_bestSet f_bestCost a_name a_version a_features a_needCount a_needWidth a_needPattern a_clashCount a_clashPattern a_wishName a_wishThere a_needTargets a_excludes a_sharers a_newest a_frameChosen a_frameRefused a_framePackage a_frameTried (d + 1) (nI w) (nI (mk_ (uo_wd a_wishName a_wishThere w) 5)) (nI (mk_ (uo_wu a_wishName a_wishThere w) 5)) := by
  obtain ⟨hn, hw, _, _, _, _, _, hwn, _⟩ := B
  intro d
  induction d with
  | zero =>
    intro w hx
    have e : w = wc := by omega
    subst e
    exact br_t (nI_le (Nat.le_refl _) (by omega)) J
  | succ d ih =>
    intro w hx
    have ew : (nI w).toNatClampNeg = w := nI_clamp (by omega)
    have vw : vp_in (nI w) 4 := vp_in_nI (by omega) (by decide)
    have I := ih (w + 1) (by omega)
    obtain ⟨em, hm⟩ := hwn w
    generalize cl_ a_wishName w = m at em hm
    refine br_f (nI_ge (by omega) (by omega)) ⟨vw, ?_⟩
    rw [ew, em, uo_pw m (by omega), uo_or, uo_or]
    refine br_c (fun h => ⟨vw, nm_e (nm_r (nI_1 w) ?_)⟩) (fun h => ⟨vw, nm_e (nm_r (nI_1 w) ?_)⟩)
    · have e1 : mk_ (uo_wd a_wishName a_wishThere (w + 1)) 5 = mk_ (uo_wd a_wishName a_wishThere w) 5 := by
        apply mk_cg
        intro i hi
        constructor
        · rintro ⟨v, h1, h2, h3⟩
          rcases Nat.lt_or_ge v w with h4 | h4
          · exact ⟨v, h4, h2, h3⟩
          · have : v = w := by omega
            subst this
            exact absurd h h3
        · rintro ⟨v, h1, h2, h3⟩
          exact ⟨v, by omega, h2, h3⟩
      have e2 : mk_ (uo_wu a_wishName a_wishThere w) 5 ||| 2 ^ m = mk_ (uo_wu a_wishName a_wishThere (w + 1)) 5 := by
        apply uo_wstep hm
        intro i hi
        constructor
        · rintro ⟨v, h1, h2, h3⟩
          rcases Nat.lt_or_ge v w with h4 | h4
          · exact Or.inl ⟨v, h4, h2, h3⟩
          · have : v = w := by omega
            subst this
            rw [em, nI_eq (by omega) (by omega)] at h2
            exact Or.inr h2.symm
        · rintro (⟨v, h1, h2, h3⟩ | e)
          · exact ⟨v, by omega, h2, h3⟩
          · subst e
            exact ⟨w, by omega, em, h⟩
      rw [e1, ← e2] at I
      exact I
    · have e1 : mk_ (uo_wu a_wishName a_wishThere (w + 1)) 5 = mk_ (uo_wu a_wishName a_wishThere w) 5 := by
        apply mk_cg
        intro i hi
        constructor
        · rintro ⟨v, h1, h2, h3⟩
          rcases Nat.lt_or_ge v w with h4 | h4
          · exact ⟨v, h4, h2, h3⟩
          · have : v = w := by omega
            subst this
            exact absurd h3 h
        · rintro ⟨v, h1, h2, h3⟩
          exact ⟨v, by omega, h2, h3⟩
      have e2 : mk_ (uo_wd a_wishName a_wishThere w) 5 ||| 2 ^ m = mk_ (uo_wd a_wishName a_wishThere (w + 1)) 5 := by
        apply uo_wstep hm
        intro i hi
        constructor
        · rintro ⟨v, h1, h2, h3⟩
          rcases Nat.lt_or_ge v w with h4 | h4
          · exact Or.inl ⟨v, h4, h2, h3⟩
          · have : v = w := by omega
            subst this
            rw [em, nI_eq (by omega) (by omega)] at h2
            exact Or.inr h2.symm
        · rintro (⟨v, h1, h2, h3⟩ | e)
          · exact ⟨v, by omega, h2, h3⟩
          · subst e
            exact ⟨w, by omega, em, h⟩
      rw [e1, ← e2] at I
      exact I
/-! clashes -/
theorem uo_xlc58 {post : SX → Prop} {m : Nat} (hn : n ≤ 10) (hm : m < n) (J : ∀ e, (∀ p, p < n → e p = nI (mk_ (uo_ej a_name a_version a_features a_clashCount cF cX cB m n p) n)) → post (nI n, nI ins, nI wc, f_ready, f_wantedNames, f_unwantedNames, f_chosen, f_refused, f_counting, f_found, f_bestSet, f_bestCost, a_name, a_version, a_features, a_needCount, a_needWidth, a_needPattern, a_clashCount, a_clashPattern, a_wishName, a_wishThere, a_needTargets, e, a_sharers, a_newest, a_frameChosen, a_frameRefused, a_framePackage, a_frameTried)) : ∀ d j, j + d = n → ∀ e, (∀ p, p < n → e p = nI (mk_ (uo_ej a_name a_version a_features a_clashCount cF cX cB m j p) n)) → wX_listClashes_58 post (nI m) (nI (mk_ (fun q => uo_cn a_name a_version a_features a_clashCount cF cX cB m q ∧ q ≠ m) n)) (nI n) (nI ins) (nI wc) f_ready f_wantedNames f_unwantedNames f_chosen f_refused f_counting f_found f_bestSet f_bestCost (d + 1) (nI j) a_name a_version a_features a_needCount a_needWidth a_needPattern a_clashCount a_clashPattern a_wishName a_wishThere a_needTargets e a_sharers a_newest a_frameChosen a_frameRefused a_framePackage a_frameTried := by
  intro d
  induction d with
  | zero =>
    intro j hj e h
    have ej : j = n := by omega
    subst ej
    exact br_t (nI_le (Nat.le_refl _) (by omega)) (J e h)
  | succ d ih =>
    intro j hj e h
    have ej : (nI j).toNatClampNeg = j := nI_clamp (by omega)
    have vj : vp_in (nI j) 10 := vp_in_nI (by omega) (by decide)
    refine br_f (nI_ge (by omega) (by omega)) (uo_bz (mk_ (fun q => uo_cn a_name a_version a_features a_clashCount cF cX cB m q ∧ q ≠ m) n) j (fun h1 => nm_r (nI_1 j) (ih (j + 1) (by omega) e ?_)) (fun h1 => ⟨vj, vj, ?_⟩) rfl rfl (mk_31 _ hn))
    · rw [mk_el] at h1
      intro p hp
      rw [h p hp]
      refine congrArg nI (mk_cg (fun q hq => ?_))
      constructor
      · rintro ⟨a, b | b | b | ⟨b1, b2, b3⟩⟩
        · exact ⟨a, Or.inl b⟩
        · exact ⟨a, Or.inr (Or.inl b)⟩
        · exact ⟨a, Or.inr (Or.inr (Or.inl b))⟩
        · exact ⟨a, Or.inr (Or.inr (Or.inr ⟨b1, by omega, b3⟩))⟩
      · rintro ⟨a, b | b | b | ⟨b1, b2, b3⟩⟩
        · exact ⟨a, Or.inl b⟩
        · exact ⟨a, Or.inr (Or.inl b)⟩
        · exact ⟨a, Or.inr (Or.inr (Or.inl b))⟩
        · refine ⟨a, Or.inr (Or.inr (Or.inr ⟨b1, ?_, b3⟩))⟩
          rcases Nat.lt_or_ge p j with h4 | h4
          · exact h4
          · have : p = j := by omega
            subst this
            exact absurd ⟨hp, b3, fun z => a (by omega)⟩ h1
    · rw [mk_el] at h1
      obtain ⟨_, h2, h3⟩ := h1
      rw [ej, uo_pw m (by omega)]
      refine nm_e (nm_r (nI_1 j) (ih (j + 1) (by omega) _ ?_))
      intro p hp
      by_cases hpj : p = j
      · subst hpj
        rw [pk_us, h p hp, uo_or, mk_orp hm]
        refine congrArg nI (mk_cg (fun q hq => ?_))
        constructor
        · rintro (⟨a, b | b | b | ⟨b1, b2, b3⟩⟩ | a)
          · exact ⟨a, Or.inl b⟩
          · exact ⟨a, Or.inr (Or.inl b)⟩
          · exact ⟨a, Or.inr (Or.inr (Or.inl b))⟩
          · exact ⟨a, Or.inr (Or.inr (Or.inr ⟨b1, by omega, b3⟩))⟩
          · exact ⟨by omega, Or.inr (Or.inr (Or.inr ⟨a, by omega, h2⟩))⟩
        · rintro ⟨a, b | b | b | ⟨b1, b2, b3⟩⟩
          · exact Or.inl ⟨a, Or.inl b⟩
          · exact Or.inl ⟨a, Or.inr (Or.inl b)⟩
          · exact Or.inl ⟨a, Or.inr (Or.inr (Or.inl b))⟩
          · exact Or.inr b1
      · rw [pk_un hpj, h p hp]
        refine congrArg nI (mk_cg (fun q hq => ?_))
        constructor
        · rintro ⟨a, b | b | b | ⟨b1, b2, b3⟩⟩
          · exact ⟨a, Or.inl b⟩
          · exact ⟨a, Or.inr (Or.inl b)⟩
          · exact ⟨a, Or.inr (Or.inr (Or.inl b))⟩
          · exact ⟨a, Or.inr (Or.inr (Or.inr ⟨b1, by omega, b3⟩))⟩
        · rintro ⟨a, b | b | b | ⟨b1, b2, b3⟩⟩
          · exact ⟨a, Or.inl b⟩
          · exact ⟨a, Or.inr (Or.inl b)⟩
          · exact ⟨a, Or.inr (Or.inr (Or.inl b))⟩
          · exact ⟨a, Or.inr (Or.inr (Or.inr ⟨b1, by omega, b3⟩))⟩
/-- before the clashes of m are listed -/
def uo_eb (a_name a_version a_features a_clashCount cF cX cB : Nat → Int32) (m p q : Nat) : Prop := q ≠ p ∧ (a_name q = a_name p ∨ (p < m ∧ uo_cn a_name a_version a_features a_clashCount cF cX cB p q) ∨ (q < m ∧ uo_cn a_name a_version a_features a_clashCount cF cX cB q p))
theorem uo_xlc4 {post : SX → Prop} {m : Nat} {e : Nat → Int32} (B : uo_ba n wc ins a_name a_needCount a_clashCount a_wishName a_wishThere) (hpt : uo_pt a_clashPattern cF cX cB) (hm : m < n) (he : ∀ p, p < n → e p = nI (mk_ (uo_eb a_name a_version a_features a_clashCount cF cX cB m p) n)) (J : ∀ e, (∀ p, p < n → e p = nI (mk_ (uo_eb a_name a_version a_features a_clashCount cF cX cB (m + 1) p) n)) → post (nI n, nI ins, nI wc, f_ready, f_wantedNames, f_unwantedNames, f_chosen, f_refused, f_counting, f_found, f_bestSet, f_bestCost, a_name, a_version, a_features, a_needCount, a_needWidth, a_needPattern, a_clashCount, a_clashPattern, a_wishName, a_wishThere, a_needTargets, e, a_sharers, a_newest, a_frameChosen, a_frameRefused, a_framePackage, a_frameTried)) : ∀ d k, k + d = cl_ a_clashCount m → wX_listClashes_4 post (nI m) (nI n) (nI ins) (nI wc) f_ready f_wantedNames f_unwantedNames f_chosen f_refused f_counting f_found f_bestSet f_bestCost a_name a_version a_features a_needCount a_needWidth a_needPattern a_clashCount a_clashPattern a_wishName a_wishThere a_needTargets e a_sharers a_newest a_frameChosen a_frameRefused a_framePackage a_frameTried (d + 1) (nI (mk_ (fun q => ∃ j, j < k ∧ uo_fc a_name a_version a_features cF cX cB (2 * m + j) q) n)) (nI k) := by
  obtain ⟨hn, _, _, _, _, hc, _⟩ := B
  obtain ⟨ec, hc⟩ := hc m
  have em : (nI m).toNatClampNeg = m := nI_clamp (by omega)
  have vm : vp_in (nI m) 10 := vp_in_nI (by omega) (by decide)
  intro d
  induction d with
  | zero =>
    intro k hk
    have ek : k = cl_ a_clashCount m := by omega
    refine And.intro vm ?_
    rw [em, ec, uo_pw m (by omega), uo_df, mk_dfp hn]
    refine br_t (nI_le (by omega) (by omega)) (nm_e ⟨vm, vm, ?_⟩)
    rw [he m hm, uo_or, mk_or]
    refine nm_e (Exists.intro (n + 1) ?_)
    have ea : mk_ (fun i => (∃ j, j < k ∧ uo_fc a_name a_version a_features cF cX cB (2 * m + j) i) ∧ i ≠ m) n = mk_ (fun q => uo_cn a_name a_version a_features a_clashCount cF cX cB m q ∧ q ≠ m) n := by
      rw [ek]
      rfl
    rw [ea]
    refine uo_xlc58 hn hm (fun e' h => J e' (fun p hp => ?_)) n 0 (by omega) _ (fun p hp => ?_)
    · rw [h p hp]
      refine congrArg nI (mk_cg (fun q hq => ?_))
      constructor
      · rintro ⟨a, b | b | b | ⟨b1, b2, b3⟩⟩
        · exact ⟨a, Or.inl b⟩
        · exact ⟨a, Or.inr (Or.inl b)⟩
        · exact ⟨a, Or.inr (Or.inr ⟨by omega, b.2⟩)⟩
        · exact ⟨a, Or.inr (Or.inr ⟨by omega, by rw [b1]; exact b3⟩)⟩
      · rintro ⟨a, b | b | b⟩
        · exact ⟨a, Or.inl b⟩
        · exact ⟨a, Or.inr (Or.inl b)⟩
        · rcases Nat.lt_or_ge q m with h4 | h4
          · exact ⟨a, Or.inr (Or.inr (Or.inl ⟨h4, b.2⟩))⟩
          · have : q = m := by omega
            subst this
            exact ⟨a, Or.inr (Or.inr (Or.inr ⟨rfl, hp, b.2⟩))⟩
    · by_cases hpm : p = m
      · subst hpm
        rw [pk_us]
        refine congrArg nI (mk_cg (fun q hq => ?_))
        constructor
        · rintro (⟨a, b | b | b⟩ | ⟨b, a⟩)
          · exact ⟨a, Or.inl b⟩
          · exact absurd b.1 (by omega)
          · exact ⟨a, Or.inr (Or.inr (Or.inl b))⟩
          · exact ⟨a, Or.inr (Or.inl ⟨by omega, by rw [ek] at b; exact b⟩)⟩
        · rintro ⟨a, b | b | b | ⟨b1, b2, b3⟩⟩
          · exact Or.inl ⟨a, Or.inl b⟩
          · exact Or.inr ⟨by rw [ek]; exact b.2, a⟩
          · exact Or.inl ⟨a, Or.inr (Or.inr b)⟩
          · exact absurd b2 (by omega)
      · rw [pk_un hpm, he p hp]
        refine congrArg nI (mk_cg (fun q hq => ?_))
        constructor
        · rintro ⟨a, b | b | b⟩
          · exact ⟨a, Or.inl b⟩
          · exact ⟨a, Or.inr (Or.inl ⟨by omega, b.2⟩)⟩
          · exact ⟨a, Or.inr (Or.inr (Or.inl b))⟩
        · rintro ⟨a, b | b | b | ⟨b1, b2, b3⟩⟩
          · exact ⟨a, Or.inl b⟩
          · exact ⟨a, Or.inr (Or.inl ⟨by omega, b.2⟩)⟩
          · exact ⟨a, Or.inr (Or.inr b)⟩
          · exact absurd b2 (by omega)
  | succ d ih =>
    intro k hk
    have I := ih (k + 1) (by omega)
    refine And.intro vm ?_
    rw [em, ec, uo_2pk, nI_clamp (by omega)]
    refine br_f (nI_ge (by omega) (by omega)) ⟨vp_in_nI (by omega) (by decide), uo_xfit hn (nm_r (e' := nI (mk_ (fun q => ∃ j, j < k + 1 ∧ uo_fc a_name a_version a_features cF cX cB (2 * m + j) q) n)) ?_ (nm_r (nI_1 k) I))⟩
    rw [uo_or, mk_or]
    refine congrArg nI (mk_cg (fun q hq => ?_))
    rw [uo_xfc hpt]
    constructor
    · rintro (⟨j, h1, h2⟩ | h)
      · exact ⟨j, by omega, h2⟩
      · exact ⟨k, by omega, h⟩
    · rintro ⟨j, h1, h2⟩
      rcases Nat.lt_or_ge j k with h4 | h4
      · exact Or.inl ⟨j, h4, h2⟩
      · have : j = k := by omega
        subst this
        exact Or.inr h2
theorem uo_xlc {post : SX → Prop} {m : Nat} {e : Nat → Int32} (B : uo_ba n wc ins a_name a_needCount a_clashCount a_wishName a_wishThere) (hpt : uo_pt a_clashPattern cF cX cB) (hm : m < n) (he : ∀ p, p < n → e p = nI (mk_ (uo_eb a_name a_version a_features a_clashCount cF cX cB m p) n)) (J : ∀ e, (∀ p, p < n → e p = nI (mk_ (uo_eb a_name a_version a_features a_clashCount cF cX cB (m + 1) p) n)) → post (nI n, nI ins, nI wc, f_ready, f_wantedNames, f_unwantedNames, f_chosen, f_refused, f_counting, f_found, f_bestSet, f_bestCost, a_name, a_version, a_features, a_needCount, a_needWidth, a_needPattern, a_clashCount, a_clashPattern, a_wishName, a_wishThere, a_needTargets, e, a_sharers, a_newest, a_frameChosen, a_frameRefused, a_framePackage, a_frameTried)) : wpX_listClashes post (nI n, nI ins, nI wc, f_ready, f_wantedNames, f_unwantedNames, f_chosen, f_refused, f_counting, f_found, f_bestSet, f_bestCost, a_name, a_version, a_features, a_needCount, a_needWidth, a_needPattern, a_clashCount, a_clashPattern, a_wishName, a_wishThere, a_needTargets, e, a_sharers, a_newest, a_frameChosen, a_frameRefused, a_framePackage, a_frameTried) (nI m) := by
  have h0 : mk_ (fun q => ∃ j, j < 0 ∧ uo_fc a_name a_version a_features cF cX cB (2 * m + j) q) n = 0 := by
    apply el_ext
    intro i
    rw [mk_el]
    exact ⟨fun ⟨_, j, h, _⟩ => absurd h (by omega), fun h => absurd h el_0⟩
  have := uo_xlc4 B hpt hm he J (cl_ a_clashCount m) 0 (by omega)
  rw [h0] at this
  exact Exists.intro (cl_ a_clashCount m + 1) this
theorem uo_xp135 {post : SX → Prop} (B : uo_ba n wc ins a_name a_needCount a_clashCount a_wishName a_wishThere) (hpt : uo_pt a_clashPattern cF cX cB) (J : ∀ e, (∀ p, p < n → e p = nI (mk_ (uo_ex a_name a_version a_features a_clashCount cF cX cB p) n)) → post (nI n, nI ins, nI wc, f_ready, nI (mk_ (uo_wd a_wishName a_wishThere wc) 5), nI (mk_ (uo_wu a_wishName a_wishThere wc) 5), f_chosen, f_refused, f_counting, f_found, f_bestSet, f_bestCost, a_name, a_version, a_features, a_needCount, a_needWidth, a_needPattern, a_clashCount, a_clashPattern, a_wishName, a_wishThere, a_needTargets, e, a_sharers, a_newest, a_frameChosen, a_frameRefused, a_framePackage, a_frameTried)) : ∀ d m, m + d = n → ∀ e, (∀ p, p < n → e p = nI (mk_ (uo_eb a_name a_version a_features a_clashCount cF cX cB m p) n)) → wX_prepare_135 post (d + 1) (nI m) (nI n) (nI ins) (nI wc) f_ready f_wantedNames f_unwantedNames f_chosen f_refused f_counting f_found f_bestSet f_bestCost a_name a_version a_features a_needCount a_needWidth a_needPattern a_clashCount a_clashPattern a_wishName a_wishThere a_needTargets e a_sharers a_newest a_frameChosen a_frameRefused a_framePackage a_frameTried := by
  have hn : n ≤ 10 := B.1
  intro d
  induction d with
  | zero =>
    intro m hm e he
    have em : m = n := by omega
    subst em
    refine br_t (nI_le (Nat.le_refl _) (by omega)) (Exists.intro (wc + 1) ?_)
    have hJ := J e (fun p hp => ?_)
    · have h0 : ∀ Q : Nat → Prop, (∀ x, ¬ Q x) → mk_ Q 5 = 0 := by
        intro Q hQ
        apply el_ext
        intro i
        rw [mk_el]
        exact ⟨fun h => absurd h.2 (hQ i), fun h => absurd h el_0⟩
      have R := uo_xp166 B hJ wc 0 (by omega)
      rw [h0 (uo_wd a_wishName a_wishThere 0) (fun x h => by obtain ⟨v, h, _⟩ := h; omega), h0 (uo_wu a_wishName a_wishThere 0) (fun x h => by obtain ⟨v, h, _⟩ := h; omega)] at R
      exact R
    · rw [he p hp]
      refine congrArg nI (mk_cg (fun q hq => ?_))
      constructor
      · rintro ⟨a, b | b | b⟩
        · exact ⟨a, Or.inl b⟩
        · exact ⟨a, Or.inr (Or.inl b.2)⟩
        · exact ⟨a, Or.inr (Or.inr b.2)⟩
      · rintro ⟨a, b | b | b⟩
        · exact ⟨a, Or.inl b⟩
        · exact ⟨a, Or.inr (Or.inl ⟨hp, b⟩)⟩
        · exact ⟨a, Or.inr (Or.inr ⟨hq, b⟩)⟩
  | succ d ih =>
    intro m hm e he
    refine br_f (nI_ge (by omega) (by omega)) (uo_xlc B hpt (by omega) he (fun e' he' => nm_r (nI_1 m) (ih (m + 1) (by omega) e' he')))
/-! needs -/
theorem uo_xp29 {post : SX → Prop} {J19 : Int32 → (Nat → Int32) → (Nat → Int32) → (Nat → Int32) → (Nat → Int32) → (Nat → Int32) → (Nat → Int32) → (Nat → Int32) → (Nat → Int32) → (Nat → Int32) → (Nat → Int32) → (Nat → Int32) → (Nat → Int32) → (Nat → Int32) → (Nat → Int32) → (Nat → Int32) → (Nat → Int32) → (Nat → Int32) → (Nat → Int32) →  Prop} {p : Nat} {e s w : Nat → Int32} (B : uo_ba n wc ins a_name a_needCount a_clashCount a_wishName a_wishThere) (hpt : uo_pt a_needPattern nF nX nB) (hp : p < n) (hs : uo_is a_name a_version n s w) (he : uo_ie n a_name p e) (J : ∀ t e, uo_it n a_name a_version a_features a_needCount a_needWidth nF nX nB (p + 1) 0 t → uo_ie n a_name (p + 1) e → J19 (nI (p + 1)) a_name a_version a_features a_needCount a_needWidth a_needPattern a_clashCount a_clashPattern a_wishName a_wishThere t e s w a_frameChosen a_frameRefused a_framePackage a_frameTried) : ∀ d k, k + d = cl_ a_needCount p → ∀ t, uo_it n a_name a_version a_features a_needCount a_needWidth nF nX nB p k t → wX_prepare_29 post J19 (nI p) (nI n) (nI ins) (nI wc) f_ready f_wantedNames f_unwantedNames f_chosen f_refused f_counting f_found f_bestSet f_bestCost (d + 1) (nI k) a_name a_version a_features a_needCount a_needWidth a_needPattern a_clashCount a_clashPattern a_wishName a_wishThere t e s w a_frameChosen a_frameRefused a_framePackage a_frameTried := by
  obtain ⟨hn, _, _, hnm, hc, _⟩ := B
  have hc2 : ∀ i, cl_ a_needCount i ≤ 2 := fun i => (hc i).2
  obtain ⟨ec, hc⟩ := hc p
  have ep : (nI p).toNatClampNeg = p := nI_clamp (by omega)
  have vp : vp_in (nI p) 10 := vp_in_nI (by omega) (by decide)
  intro d
  induction d with
  | zero =>
    intro k hk t ht
    obtain ⟨em, hm⟩ := hnm p
    refine And.intro vp ?_
    rw [ep, ec, em, uo_pw p (by omega)]
    refine br_t (nI_le (by omega) (by omega)) ⟨vp, vp_in_nI hm (by decide), vp, ?_⟩
    rw [nI_clamp (by omega), (hs _ hm).1, uo_df, mk_dfp hn]
    refine nm_e (nm_r (nI_1 p) (J _ _ ?_ ?_))
    · intro i j hj hij
      rcases Nat.lt_or_ge i p with h4 | h4
      · exact ht i j hj (Or.inl h4)
      · have : i = p := by omega
        subst this
        exact ht i j hj (Or.inr ⟨rfl, by omega⟩)
    · intro i hi
      by_cases hip : i = p
      · subst hip
        rw [pk_us]
        refine congrArg nI (mk_cg (fun q hq => ?_))
        rw [em]
      · rw [pk_un hip]
        exact he i (by omega)
  | succ d ih =>
    intro k hk t ht
    have e1 : nI (mk_ (uo_xf a_name a_version a_features (a_needPattern (2 * (2 * p + k))) 1) n) = nI (mk_ (uo_fn a_name a_version a_features nF nX nB (2 * (2 * p + k))) n) := congrArg nI (mk_cg (fun q _ => uo_xfn hpt _ q))
    have e2 : nI (mk_ (uo_xf a_name a_version a_features (a_needPattern (2 * (2 * p + k) + 1)) 1) n) = nI (mk_ (uo_fn a_name a_version a_features nF nX nB (2 * (2 * p + k) + 1)) n) := congrArg nI (mk_cg (fun q _ => uo_xfn hpt _ q))
    have v1 : vp_in (nI (2 * p + k)) 20 := vp_in_nI (by omega) (by decide)
    have step : ∀ t', (∀ j, j ≠ 2 * p + k → t' j = t j) → t' (2 * p + k) = nI (mk_ (uo_tn a_name a_version a_features a_needWidth nF nX nB (2 * p + k)) n) → uo_it n a_name a_version a_features a_needCount a_needWidth nF nX nB p (k + 1) t' := by
      intro t' h1 h2 i j hj hij
      have := hc2 i
      by_cases hi : 2 * i + j = 2 * p + k
      · rw [hi, h2]
      · rw [h1 _ hi]
        exact ht i j hj (by omega)
    refine And.intro vp ?_
    rw [ep, ec]
    refine br_f (nI_ge (by omega) (by omega)) (nm_r (uo_2pk _ _) ?_)
    rw [uo_2p, nI_clamp (show 2 * (2 * p + k) < 2 ^ 31 by omega), nI_clamp (show 2 * p + k < 2 ^ 31 by omega), nI_1, nI_clamp (show 2 * (2 * p + k) + 1 < 2 ^ 31 by omega)]
    refine ⟨vp_in_nI (by omega) (by decide), uo_xfit hn ⟨v1, nm_r (e' := upd t (2 * p + k) (nI (mk_ (uo_fn a_name a_version a_features nF nX nB (2 * (2 * p + k))) n))) (by rw [e1]) ⟨v1, br_c (fun hw => ⟨v1, vp_in_nI (by omega) (by decide), uo_xfit hn ⟨v1, nm_e (nm_r (nI_1 k) (ih (k + 1) (by omega) _ (step _ ?_ ?_)))⟩⟩) (fun hw => nm_r (nI_1 k) (ih (k + 1) (by omega) _ (step _ ?_ ?_)))⟩⟩⟩
    · intro j hj
      rw [pk_un hj, pk_un hj]
    · rw [pk_us, pk_us, e2, uo_or, mk_or]
      refine congrArg nI (mk_cg (fun q hq => ?_))
      constructor
      · rintro (h | h)
        · exact Or.inl h
        · exact Or.inr ⟨hw, h⟩
      · rintro (h | h)
        · exact Or.inl h
        · exact Or.inr h.2
    · intro j hj
      rw [pk_un hj]
    · rw [pk_us]
      refine congrArg nI (mk_cg (fun q hq => ?_))
      constructor
      · intro h
        exact Or.inl h
      · rintro (h | h)
        · exact h
        · exact absurd h.1 hw
theorem uo_xp19 {post : SX → Prop} {s w : Nat → Int32} (B : uo_ba n wc ins a_name a_needCount a_clashCount a_wishName a_wishThere) (hpt : uo_pt a_needPattern nF nX nB) (hs : uo_is a_name a_version n s w) (J : ∀ t e, uo_it n a_name a_version a_features a_needCount a_needWidth nF nX nB n 0 t → uo_ie n a_name n e → ∃ m, wX_prepare_135 post m 0 (nI n) (nI ins) (nI wc) f_ready f_wantedNames f_unwantedNames f_chosen f_refused f_counting f_found f_bestSet f_bestCost a_name a_version a_features a_needCount a_needWidth a_needPattern a_clashCount a_clashPattern a_wishName a_wishThere t e s w a_frameChosen a_frameRefused a_framePackage a_frameTried) : ∀ d p, p + d = n → ∀ t e, uo_it n a_name a_version a_features a_needCount a_needWidth nF nX nB p 0 t → uo_ie n a_name p e → wX_prepare_19 post (nI n) (nI ins) (nI wc) f_ready f_wantedNames f_unwantedNames f_chosen f_refused f_counting f_found f_bestSet f_bestCost (d + 1) (nI p) a_name a_version a_features a_needCount a_needWidth a_needPattern a_clashCount a_clashPattern a_wishName a_wishThere t e s w a_frameChosen a_frameRefused a_framePackage a_frameTried := by
  have hn : n ≤ 10 := B.1
  intro d
  induction d with
  | zero =>
    intro p hp t e ht he
    have e : p = n := by omega
    subst e
    exact br_t (nI_le (Nat.le_refl _) (by omega)) (J t _ ht he)
  | succ d ih =>
    intro p hp t e ht he
    exact br_f (nI_ge (by omega) (by omega)) (Exists.intro (cl_ a_needCount p + 1) (uo_xp29 B hpt (by omega) hs he (fun t' e' ht' he' => ih (p + 1) (by omega) t' e' ht' he') _ 0 (by omega) t ht))
end
end
section
/-! the component: prepared tables, right -/
def uo_tb (n wc : Nat) (a_name a_version a_features a_needCount a_needWidth a_clashCount nF nX nB cF cX cB a_wishName a_wishThere : Nat → Int32) (wa un : Int32) (t e s w : Nat → Int32) : Prop :=
  wa = nI (mk_ (uo_wd a_wishName a_wishThere wc) 5) ∧ un = nI (mk_ (uo_wu a_wishName a_wishThere wc) 5) ∧ (∀ p k, p < n → k < cl_ a_needCount p → t (2 * p + k) = nI (mk_ (uo_tn a_name a_version a_features a_needWidth nF nX nB (2 * p + k)) n)) ∧
  (∀ p, p < n → e p = nI (mk_ (uo_ex a_name a_version a_features a_clashCount cF cX cB p) n)) ∧ (∀ x, x < 5 → s x = nI (mk_ (fun q => a_name q = nI x) n) ∧ w x = uo_nw a_name a_version (nI x) n)
/-- the tables as naturals -/
def uo_ta (n wa un : Nat) (nc tg ex sh nw : Nat → Nat) (a_needCount a_needTargets a_excludes a_sharers a_newest : Nat → Int32) : Prop :=
  n ≤ 10 ∧ wa < 2 ^ 5 ∧ un < 2 ^ 5 ∧ (∀ p, p < n → a_needCount p = nI (nc p) ∧ nc p ≤ 2) ∧
  (∀ p k, p < n → k < nc p → a_needTargets (2 * p + k) = nI (tg (2 * p + k)) ∧ tg (2 * p + k) < 2 ^ n) ∧
  (∀ p, p < n → a_excludes p = nI (ex p) ∧ ex p < 2 ^ n) ∧ (∀ x, x < 5 → a_sharers x = nI (sh x) ∧ sh x < 2 ^ n) ∧
  (∀ x, x < 5 → sh x ≠ 0 → a_newest x = nI (nw x) ∧ nw x < n)
def uo_rx (n wa un : Nat) (nc tg ex sh : Nat → Nat) (S : Nat) : Prop :=
  (∀ p, p < n → el_ S p → (∀ q, el_ (ex p) q → ¬ el_ S q) ∧ ∀ k, k < nc p → ∃ q, el_ (tg (2 * p + k)) q ∧ el_ S q) ∧
  (∀ x, x < 5 → (el_ wa x → ∃ q, el_ (sh x) q ∧ el_ S q) ∧ (el_ un x → ∀ q, el_ (sh x) q → ¬ el_ S q))
section
variable {f_packageCount f_installed f_wishCount f_ready f_wantedNames f_unwantedNames f_chosen f_refused f_counting f_found f_bestSet f_bestCost : Int32} {a_name a_version a_features a_needCount a_needWidth a_needPattern a_clashCount a_clashPattern a_wishName a_wishThere a_needTargets a_excludes a_sharers a_newest a_frameChosen a_frameRefused a_framePackage a_frameTried : Nat → Int32}
variable {nF nX nB cF cX cB : Nat → Int32}
variable {n wc ins S : Nat}
theorem uo_xprep {post : SX → Prop} (B : uo_ba n wc ins a_name a_needCount a_clashCount a_wishName a_wishThere) (hpn : uo_pt a_needPattern nF nX nB) (hpc : uo_pt a_clashPattern cF cX cB) (R : f_ready = 0 ∨ uo_tb n wc a_name a_version a_features a_needCount a_needWidth a_clashCount nF nX nB cF cX cB a_wishName a_wishThere f_wantedNames f_unwantedNames a_needTargets a_excludes a_sharers a_newest) (J : ∀ wa un t e s w, uo_tb n wc a_name a_version a_features a_needCount a_needWidth a_clashCount nF nX nB cF cX cB a_wishName a_wishThere wa un t e s w → ∀ r, post (nI n, nI ins, nI wc, r, wa, un, f_chosen, f_refused, f_counting, f_found, f_bestSet, f_bestCost, a_name, a_version, a_features, a_needCount, a_needWidth, a_needPattern, a_clashCount, a_clashPattern, a_wishName, a_wishThere, t, e, s, w, a_frameChosen, a_frameRefused, a_framePackage, a_frameTried)) : wpX_prepare post (nI n, nI ins, nI wc, f_ready, f_wantedNames, f_unwantedNames, f_chosen, f_refused, f_counting, f_found, f_bestSet, f_bestCost, a_name, a_version, a_features, a_needCount, a_needWidth, a_needPattern, a_clashCount, a_clashPattern, a_wishName, a_wishThere, a_needTargets, a_excludes, a_sharers, a_newest, a_frameChosen, a_frameRefused, a_framePackage, a_frameTried) := by
  refine And.intro (fun _ => ?_) (fun h => ?_)
  · refine uo_xln B (fun s w hs => Exists.intro (n + 1) (uo_xp19 B hpn hs (fun t e ht he => Exists.intro (n + 1) ?_) n 0 (by omega) _ _ ?_ ?_))
    · refine uo_xp135 B hpc (fun e' he' => J _ _ _ _ _ _ ⟨rfl, rfl, ?_, he', hs⟩ _) n 0 (by omega) e ?_
      · intro p k hp hk
        exact ht p k hk (Or.inl hp)
      · intro p hp
        rw [he p hp]
        refine congrArg nI (mk_cg (fun q hq => ?_))
        constructor
        · rintro ⟨a, b⟩
          exact ⟨b, Or.inl a⟩
        · rintro ⟨a, b | b | b⟩
          · exact ⟨b, a⟩
          · exact absurd b.1 (by omega)
          · exact absurd b.1 (by omega)
    · intro i j _ h
      omega
    · intro i h
      omega
  · exact J _ _ _ _ _ _ (R.resolve_left h) _
/-- the concrete tables -/
theorem uo_taOf {wa un : Int32} {t e s w : Nat → Int32} (B : uo_ba n wc ins a_name a_needCount a_clashCount a_wishName a_wishThere) (T : uo_tb n wc a_name a_version a_features a_needCount a_needWidth a_clashCount nF nX nB cF cX cB a_wishName a_wishThere wa un t e s w) : wa = nI (mk_ (uo_wd a_wishName a_wishThere wc) 5) ∧ un = nI (mk_ (uo_wu a_wishName a_wishThere wc) 5) ∧ uo_ta n (mk_ (uo_wd a_wishName a_wishThere wc) 5) (mk_ (uo_wu a_wishName a_wishThere wc) 5) (cl_ a_needCount) (fun j => mk_ (uo_tn a_name a_version a_features a_needWidth nF nX nB j) n) (fun p => mk_ (uo_ex a_name a_version a_features a_clashCount cF cX cB p) n) (fun x => mk_ (fun q => a_name q = nI x) n) (fun x => (uo_nw a_name a_version (nI x) n).toNatClampNeg) a_needCount t e s w := by
  obtain ⟨hn, _, _, hnm, hnc, _⟩ := B
  obtain ⟨e1, e2, e3, e4, e5⟩ := T
  refine ⟨e1, e2, hn, mk_lt _ _, mk_lt _ _, fun p _ => hnc p, fun p k hp hk => ⟨e3 p k hp hk, mk_lt _ _⟩, fun p hp => ⟨e4 p hp, mk_lt _ _⟩, fun x hx => ⟨(e5 x hx).1, mk_lt _ _⟩, fun x hx hne => ?_⟩
  obtain ⟨i, hi⟩ := el_ex hne
  rw [mk_el] at hi
  rcases uo_nwc (a_name := a_name) (a_version := a_version) (x := nI x) (m := n) hn with ⟨_, h⟩ | ⟨j, hj, h, _⟩
  · exact absurd hi.2 (h i hi.1)
  · dsimp only
    rw [(e5 x hx).2, h, nI_clamp (by omega)]
    exact ⟨rfl, hj⟩
theorem uo_rxrt (B : uo_ba n wc ins a_name a_needCount a_clashCount a_wishName a_wishThere) : uo_rx n (mk_ (uo_wd a_wishName a_wishThere wc) 5) (mk_ (uo_wu a_wishName a_wishThere wc) 5) (cl_ a_needCount) (fun j => mk_ (uo_tn a_name a_version a_features a_needWidth nF nX nB j) n) (fun p => mk_ (uo_ex a_name a_version a_features a_clashCount cF cX cB p) n) (fun x => mk_ (fun q => a_name q = nI x) n) S ↔ uo_rt n wc a_name a_version a_features a_needCount a_needWidth a_clashCount nF nX nB cF cX cB a_wishName a_wishThere S := by
  obtain ⟨hn, hw, _, hnm, hnc, hcc, _, hwn, hwt⟩ := B
  constructor
  · rintro ⟨h1, h2⟩
    refine ⟨?_, ?_, ?_⟩
    · intro x hx
      refine cz_le1.mpr ?_
      intro i j hi hj ⟨a, b⟩ ⟨c, d⟩
      apply Classical.byContradiction
      intro hne
      refine (h1 i hi a).1 j (mk_el.mpr ⟨hj, fun z => hne z.symm, Or.inl ?_⟩) c
      rw [b, d]
    · intro p hp hS
      refine ⟨?_, ?_⟩
      · intro k hk
        obtain ⟨q, a, b⟩ := (h1 p hp hS).2 k hk
        rw [mk_el] at a
        exact ⟨q, a.1, b, a.2⟩
      · rintro ⟨k, hk, q, hq, hne, hSq, hf⟩
        exact (h1 p hp hS).1 q (mk_el.mpr ⟨hq, hne, Or.inr (Or.inl ⟨k, hk, hf⟩)⟩) hSq
    · intro w hw'
      obtain ⟨em, hm⟩ := hwn w
      generalize cl_ a_wishName w = m at em hm
      have h3 := h2 m hm
      constructor
      · intro h
        rcases hwt w with e | e
        · obtain ⟨q, hq, a, b⟩ := cz_ex h
          exact absurd a (h3.2 (mk_el.mpr ⟨hm, w, hw', em, e⟩) q (mk_el.mpr ⟨hq, by rw [b, em]⟩))
        · exact e
      · intro e
        obtain ⟨q, a, b⟩ := h3.1 (mk_el.mpr ⟨hm, w, hw', em, by rw [e]; decide⟩)
        rw [mk_el] at a
        exact cz_pos a.1 ⟨b, by rw [a.2, em]⟩
  · rintro ⟨h1, h2, h3⟩
    refine ⟨?_, ?_⟩
    · intro p hp hS
      obtain ⟨h4, h5⟩ := h2 p hp hS
      refine ⟨?_, ?_⟩
      · intro q hq hSq
        rw [mk_el] at hq
        obtain ⟨hqn, hne, a | ⟨k, hk, a⟩ | ⟨k, hk, a⟩⟩ := hq
        · obtain ⟨em, hm⟩ := hnm p
          rw [em] at a
          exact hne (cz_le1.mp (h1 _ hm) q p hqn hp ⟨hSq, a⟩ ⟨hS, em⟩)
        · exact h5 ⟨k, hk, q, hqn, hne, hSq, a⟩
        · exact (h2 q hqn hSq).2 ⟨k, hk, p, hp, fun z => hne z.symm, hS, a⟩
      · intro k hk
        obtain ⟨q, a, b, c⟩ := h4 k hk
        exact ⟨q, mk_el.mpr ⟨a, c⟩, b⟩
    · intro x hx
      refine ⟨?_, ?_⟩
      · intro h
        obtain ⟨_, v, hv, a, b⟩ := mk_el.mp h
        have c : a_wishThere v = 1 := (hwt v).resolve_left b
        obtain ⟨q, hq, d, f⟩ := cz_ex ((h3 v hv).mpr c)
        exact ⟨q, mk_el.mpr ⟨hq, by rw [f, a]⟩, d⟩
      · intro h q hq hS
        obtain ⟨_, v, hv, a, b⟩ := mk_el.mp h
        rw [mk_el] at hq
        have c := (h3 v hv).mp (cz_pos hq.1 ⟨hS, by rw [hq.2, a]⟩)
        rw [b] at c
        exact absurd c (by decide)
/-! right over the tables -/
variable {wa un : Nat} {nc tg ex sh nw : Nat → Nat}
theorem uo_xr91 {post : Int32 → SX → Prop} (T : uo_ta n wa un nc tg ex sh nw a_needCount a_needTargets a_excludes a_sharers a_newest) (hS : S < 2 ^ n) (h0 : ∀ p, p < n → el_ S p → (∀ q, el_ (ex p) q → ¬ el_ S q) ∧ ∀ k, k < nc p → ∃ q, el_ (tg (2 * p + k)) q ∧ el_ S q) (t : uo_rx n wa un nc tg ex sh S → post 1 (nI n, nI ins, nI wc, f_ready, nI wa, nI un, f_chosen, f_refused, f_counting, f_found, f_bestSet, f_bestCost, a_name, a_version, a_features, a_needCount, a_needWidth, a_needPattern, a_clashCount, a_clashPattern, a_wishName, a_wishThere, a_needTargets, a_excludes, a_sharers, a_newest, a_frameChosen, a_frameRefused, a_framePackage, a_frameTried)) (f : ¬ uo_rx n wa un nc tg ex sh S → post 0 (nI n, nI ins, nI wc, f_ready, nI wa, nI un, f_chosen, f_refused, f_counting, f_found, f_bestSet, f_bestCost, a_name, a_version, a_features, a_needCount, a_needWidth, a_needPattern, a_clashCount, a_clashPattern, a_wishName, a_wishThere, a_needTargets, a_excludes, a_sharers, a_newest, a_frameChosen, a_frameRefused, a_framePackage, a_frameTried)) : ∀ d x, x + d = 5 → (∀ j, j < x → (el_ wa j → ∃ q, el_ (sh j) q ∧ el_ S q) ∧ (el_ un j → ∀ q, el_ (sh j) q → ¬ el_ S q)) → wX_right_91 post (nI S) (nI n) (nI ins) (nI wc) f_ready (nI wa) (nI un) f_chosen f_refused f_counting f_found f_bestSet f_bestCost a_name a_version a_features a_needCount a_needWidth a_needPattern a_clashCount a_clashPattern a_wishName a_wishThere a_needTargets a_excludes a_sharers a_newest a_frameChosen a_frameRefused a_framePackage a_frameTried (d + 1) (nI x) := by
  obtain ⟨hn, hwa, hun, _, _, _, hsh, _⟩ := T
  have p2 : 2 ^ n ≤ 1024 := el_p2 hn
  intro d
  induction d with
  | zero =>
    intro x hx hq
    have e : x = 5 := by omega
    subst e
    exact br_t (nI_le (b := 5) (Nat.le_refl _) (by omega)) (t ⟨h0, hq⟩)
  | succ d ih =>
    intro x hx hq
    have ex : (nI x).toNatClampNeg = x := nI_clamp (by omega)
    have vx : vp_in (nI x) 5 := vp_in_nI (by omega) (by decide)
    obtain ⟨es, hs⟩ := hsh x (by omega)
    have I := ih (x + 1) (by omega)
    refine br_f (nI_ge (b := 5) (by omega) (by omega)) ⟨vx, ?_⟩
    rw [ex, es]
    refine uo_mz (sh x) S (fun h1 => ?_) (fun h1 => ?_) rfl rfl (by omega)
    · refine And.intro (fun _ => uo_bz wa x (fun h2 => And.intro (fun _ => nm_r (nI_1 x) (I (lt_s hq ⟨fun z => absurd z h2, fun _ => h1⟩))) (fun z => absurd rfl z)) (fun h2 => f (fun z => ?_)) rfl rfl (by omega) (by omega)) (fun z => absurd rfl z)
      obtain ⟨q, a, b⟩ := (z.2 x (by omega)).1 h2
      exact h1 q a b
    · refine And.intro (fun z => absurd z (by decide)) (fun _ => And.intro (fun z => absurd z (by decide)) (fun _ => ?_))
      refine uo_bz un x (fun h2 => nm_r (nI_1 x) (I (lt_s hq ⟨fun _ => h1, fun z => absurd z h2⟩))) (fun h2 => f (fun z => ?_)) rfl rfl (by omega) (by omega)
      obtain ⟨q, a, b⟩ := h1
      exact (z.2 x (by omega)).2 h2 q a b
theorem uo_xr50 {post : Int32 → SX → Prop} {J16 : Int32 → Prop} {p : Nat} (T : uo_ta n wa un nc tg ex sh nw a_needCount a_needTargets a_excludes a_sharers a_newest) (hS : S < 2 ^ n) (hp : p < n) (t : (∀ k, k < nc p → ∃ q, el_ (tg (2 * p + k)) q ∧ el_ S q) → J16 (nI (p + 1))) (f : ¬ (∀ k, k < nc p → ∃ q, el_ (tg (2 * p + k)) q ∧ el_ S q) → post 0 (nI n, nI ins, nI wc, f_ready, nI wa, nI un, f_chosen, f_refused, f_counting, f_found, f_bestSet, f_bestCost, a_name, a_version, a_features, a_needCount, a_needWidth, a_needPattern, a_clashCount, a_clashPattern, a_wishName, a_wishThere, a_needTargets, a_excludes, a_sharers, a_newest, a_frameChosen, a_frameRefused, a_framePackage, a_frameTried)) : ∀ d k, k + d = nc p → (∀ j, j < k → ∃ q, el_ (tg (2 * p + j)) q ∧ el_ S q) → wX_right_50 post J16 (nI S) (nI p) (nI n) (nI ins) (nI wc) f_ready (nI wa) (nI un) f_chosen f_refused f_counting f_found f_bestSet f_bestCost a_name a_version a_features a_needCount a_needWidth a_needPattern a_clashCount a_clashPattern a_wishName a_wishThere a_needTargets a_excludes a_sharers a_newest a_frameChosen a_frameRefused a_framePackage a_frameTried (d + 1) (nI k) := by
  obtain ⟨hn, hwa, hun, hnc, htg, _, hsh, _⟩ := T
  have p2 : 2 ^ n ≤ 1024 := el_p2 hn
  obtain ⟨ec, hc⟩ := hnc p hp
  have ep : (nI p).toNatClampNeg = p := nI_clamp (by omega)
  have vp : vp_in (nI p) 10 := vp_in_nI (by omega) (by decide)
  intro d
  induction d with
  | zero =>
    intro k hk hq
    refine And.intro vp ?_
    rw [ep, ec]
    exact br_t (nI_le (by omega) (by omega)) (nm_r (nI_1 p) (t (fun j hj => hq j (by omega))))
  | succ d ih =>
    intro k hk hq
    obtain ⟨et, ht⟩ := htg p k hp (by omega)
    refine And.intro vp ?_
    rw [ep, ec, uo_2pk, nI_clamp (by omega), et]
    refine br_f (nI_ge (by omega) (by omega)) ⟨vp_in_nI (by omega) (by decide), uo_mz (tg (2 * p + k)) S (fun h1 => f (fun z => ?_)) (fun h1 => nm_r (nI_1 k) (ih (k + 1) (by omega) (lt_s hq h1))) rfl rfl (by omega)⟩
    obtain ⟨q, a, b⟩ := z k (by omega)
    exact h1 q a b
theorem uo_xr16 {post : Int32 → SX → Prop} (T : uo_ta n wa un nc tg ex sh nw a_needCount a_needTargets a_excludes a_sharers a_newest) (hS : S < 2 ^ n) (t : uo_rx n wa un nc tg ex sh S → post 1 (nI n, nI ins, nI wc, f_ready, nI wa, nI un, f_chosen, f_refused, f_counting, f_found, f_bestSet, f_bestCost, a_name, a_version, a_features, a_needCount, a_needWidth, a_needPattern, a_clashCount, a_clashPattern, a_wishName, a_wishThere, a_needTargets, a_excludes, a_sharers, a_newest, a_frameChosen, a_frameRefused, a_framePackage, a_frameTried)) (f : ¬ uo_rx n wa un nc tg ex sh S → post 0 (nI n, nI ins, nI wc, f_ready, nI wa, nI un, f_chosen, f_refused, f_counting, f_found, f_bestSet, f_bestCost, a_name, a_version, a_features, a_needCount, a_needWidth, a_needPattern, a_clashCount, a_clashPattern, a_wishName, a_wishThere, a_needTargets, a_excludes, a_sharers, a_newest, a_frameChosen, a_frameRefused, a_framePackage, a_frameTried)) : ∀ d p, p + d = n → (∀ j, j < p → el_ S j → (∀ q, el_ (ex j) q → ¬ el_ S q) ∧ ∀ k, k < nc j → ∃ q, el_ (tg (2 * j + k)) q ∧ el_ S q) → wX_right_16 post (nI S) (nI n) (nI ins) (nI wc) f_ready (nI wa) (nI un) f_chosen f_refused f_counting f_found f_bestSet f_bestCost a_name a_version a_features a_needCount a_needWidth a_needPattern a_clashCount a_clashPattern a_wishName a_wishThere a_needTargets a_excludes a_sharers a_newest a_frameChosen a_frameRefused a_framePackage a_frameTried (d + 1) (nI p) := by
  have T' := T
  obtain ⟨hn, hwa, hun, hnc, htg, hex, hsh, _⟩ := T
  have p2 : 2 ^ n ≤ 1024 := el_p2 hn
  intro d
  induction d with
  | zero =>
    intro p hp hq
    have e : p = n := by omega
    subst e
    exact br_t (nI_le (Nat.le_refl _) (by omega)) (Exists.intro 6 (uo_xr91 T' hS hq t f 5 0 (by omega) (fun _ h => absurd h (by omega))))
  | succ d ih =>
    intro p hp hq
    have ep : (nI p).toNatClampNeg = p := nI_clamp (by omega)
    have vp : vp_in (nI p) 10 := vp_in_nI (by omega) (by decide)
    obtain ⟨ee, he⟩ := hex p (by omega)
    have I := ih (p + 1) (by omega)
    refine br_f (nI_ge (by omega) (by omega)) (uo_bz S p (fun h1 => nm_r (nI_1 p) (I (lt_s hq (fun z => absurd z h1)))) (fun h1 => ⟨vp, ?_⟩) rfl rfl (by omega) (by omega))
    rw [ep, ee]
    refine uo_mz (ex p) S (fun h2 => Exists.intro (nc p + 1) (uo_xr50 T' hS (by omega) (fun h3 => I (lt_s hq (fun _ => ⟨h2, h3⟩))) (fun h3 => f (fun z => h3 (z.1 p (by omega) h1).2)) _ 0 (by omega) (fun _ h => absurd h (by omega)))) (fun h2 => f (fun z => ?_)) rfl rfl (by omega)
    obtain ⟨q, a, b⟩ := h2
    exact (z.1 p (by omega) h1).1 q a b
end
end
section
/-! the search: what is drawn from decisions -/
/-- right sets that fit the decisions c (in) and r (out) -/
def uo_rc (n wa un : Nat) (nc tg ex sh : Nat → Nat) (c r S : Nat) : Prop := uo_rx n wa un nc tg ex sh S ∧ S < 2 ^ n ∧ (∀ i, el_ c i → el_ S i) ∧ (∀ i, el_ r i → ¬ el_ S i)
/-- more is decided, and no right set is lost -/
def uo_ps (n wa un : Nat) (nc tg ex sh : Nat → Nat) (c r c' r' : Nat) : Prop := (∀ i, el_ c i → el_ c' i) ∧ (∀ i, el_ r i → el_ r' i) ∧ c' < 2 ^ n ∧ r' < 2 ^ n ∧ ∀ S, uo_rc n wa un nc tg ex sh c r S → uo_rc n wa un nc tg ex sh c' r' S
def uo_c1 (wa un : Nat) (sh : Nat → Nat) (x r : Nat) : Prop := (el_ un x → ∀ q, el_ (sh x) q → el_ r q) ∧ (el_ wa x → ∃ q, el_ (sh x) q ∧ ¬ el_ r q)
def uo_cp (nc tg ex : Nat → Nat) (p c r : Nat) : Prop := el_ c p → (∀ q, el_ (ex p) q → el_ r q) ∧ ∀ k, k < nc p → ∃ q, el_ (tg (2 * p + k)) q ∧ ¬ el_ r q
def uo_dj (c r : Nat) : Prop := ∀ i, el_ c i → ¬ el_ r i
section
variable {n wa un : Nat} {nc tg ex sh : Nat → Nat} {c r c' r' : Nat}
theorem uo_ps_rf (hc : c < 2 ^ n) (hr : r < 2 ^ n) : uo_ps n wa un nc tg ex sh c r c r := ⟨fun _ h => h, fun _ h => h, hc, hr, fun _ h => h⟩
theorem uo_ps_tr {c'' r'' : Nat} (h : uo_ps n wa un nc tg ex sh c r c' r') (h' : uo_ps n wa un nc tg ex sh c' r' c'' r'') : uo_ps n wa un nc tg ex sh c r c'' r'' :=
  ⟨fun i z => h'.1 i (h.1 i z), fun i z => h'.2.1 i (h.2.1 i z), h'.2.2.1, h'.2.2.2.1, fun S z => h'.2.2.2.2 S (h.2.2.2.2 S z)⟩
theorem uo_ps_rc (h : uo_ps n wa un nc tg ex sh c r c' r') (S : Nat) : uo_rc n wa un nc tg ex sh c r S ↔ uo_rc n wa un nc tg ex sh c' r' S :=
  ⟨h.2.2.2.2 S, fun z => ⟨z.1, z.2.1, fun i hi => z.2.2.1 i (h.1 i hi), fun i hi => z.2.2.2 i (h.2.1 i hi)⟩⟩
/-- nothing new at the end: nothing new between -/
theorem uo_mid {a b : Nat} (h1 : ∀ i, el_ c i → el_ a i) (h2 : ∀ i, el_ a i → el_ b i) (e : b = c) : a = c :=
  el_ext (fun i => ⟨fun z => by rw [← e]; exact h2 i z, h1 i⟩)
theorem uo_ps_r (hc : c < 2 ^ n) (hr : r < 2 ^ n) {t : Nat} (ht : t < 2 ^ n) (h : ∀ S, uo_rc n wa un nc tg ex sh c r S → ∀ i, el_ t i → ¬ el_ S i) : uo_ps n wa un nc tg ex sh c r c (r ||| t) := by
  refine ⟨fun _ z => z, fun i z => el_or.mpr (Or.inl z), hc, el_orlt hr ht, fun S z => ⟨z.1, z.2.1, z.2.2.1, fun i hi => ?_⟩⟩
  rcases el_or.mp hi with a | a
  · exact z.2.2.2 i a
  · exact h S z i a
theorem uo_ps_c (hc : c < 2 ^ n) (hr : r < 2 ^ n) {t : Nat} (ht : t < 2 ^ n) (h : ∀ S, uo_rc n wa un nc tg ex sh c r S → ∀ i, el_ t i → el_ S i) : uo_ps n wa un nc tg ex sh c r (c ||| t) r := by
  refine ⟨fun i z => el_or.mpr (Or.inl z), fun _ z => z, el_orlt hc ht, hr, fun S z => ⟨z.1, z.2.1, fun i hi => ?_, z.2.2.2⟩⟩
  rcases el_or.mp hi with a | a
  · exact z.2.2.1 i a
  · exact h S z i a
/-- all decided and closed: the chosen ones are right, and alone -/
theorem uo_end (hc : c < 2 ^ n) (hr : r < 2 ^ n) (hex : ∀ p, p < n → ex p < 2 ^ n) (htg : ∀ p k, p < n → k < nc p → tg (2 * p + k) < 2 ^ n) (hsh : ∀ x, x < 5 → sh x < 2 ^ n) (h1 : ∀ x, x < 5 → uo_c1 wa un sh x r) (h2 : ∀ p, p < n → uo_cp nc tg ex p c r) (hd : uo_dj c r) (ha : ∀ i, i < n → el_ c i ∨ el_ r i) (S : Nat) : uo_rc n wa un nc tg ex sh c r S ↔ S = c := by
  constructor
  · rintro ⟨_, a, b, d⟩
    refine el_ext (fun i => ⟨fun z => ?_, b i⟩)
    rcases ha i (el_lt a z) with e | e
    · exact e
    · exact absurd z (d i e)
  · intro e
    subst e
    refine ⟨⟨?_, ?_⟩, hc, fun _ z => z, fun i hi hs => hd i hs hi⟩
    · intro p hp hS
      obtain ⟨a, b⟩ := h2 p hp hS
      refine ⟨fun q hq hs => hd q hs (a q hq), fun k hk => ?_⟩
      obtain ⟨q, e, f⟩ := b k hk
      exact ⟨q, e, (ha q (el_lt (htg p k hp hk) e)).resolve_right f⟩
    · intro x hx
      obtain ⟨a, b⟩ := h1 x hx
      refine ⟨fun h => ?_, fun h q hq hs => hd q hs (a h q hq)⟩
      obtain ⟨q, e, f⟩ := b h
      exact ⟨q, e, (ha q (el_lt (hsh x hx) e)).resolve_right f⟩
/-- two ways for p -/
theorem uo_split {p : Nat} (S : Nat) : uo_rc n wa un nc tg ex sh c r S ↔ uo_rc n wa un nc tg ex sh (c ||| 2 ^ p) r S ∨ uo_rc n wa un nc tg ex sh c (r ||| 2 ^ p) S := by
  constructor
  · rintro ⟨a, b, d, e⟩
    by_cases h : el_ S p
    · refine Or.inl ⟨a, b, fun i hi => ?_, e⟩
      rcases el_or.mp hi with z | z
      · exact d i z
      · rw [el_pw] at z
        subst z
        exact h
    · refine Or.inr ⟨a, b, d, fun i hi => ?_⟩
      rcases el_or.mp hi with z | z
      · exact e i z
      · rw [el_pw] at z
        subst z
        exact h
  · rintro (⟨a, b, d, e⟩ | ⟨a, b, d, e⟩)
    · exact ⟨a, b, fun i hi => d i (el_or.mpr (Or.inl hi)), e⟩
    · exact ⟨a, b, d, fun i hi => e i (el_or.mpr (Or.inl hi))⟩
theorem uo_apart {p : Nat} (S : Nat) (h : uo_rc n wa un nc tg ex sh (c ||| 2 ^ p) r S) : ¬ uo_rc n wa un nc tg ex sh c (r ||| 2 ^ p) S := by
  intro h'
  exact h'.2.2.2 p (el_or.mpr (Or.inr (el_pw.mpr rfl))) (h.2.2.1 p (el_or.mpr (Or.inr (el_pw.mpr rfl))))
end
/-- how many are decided, how many not -/
noncomputable def uo_dc (n c r : Nat) : Nat := cz_ (fun i => el_ c i ∨ el_ r i) n
noncomputable def uo_op (n c r : Nat) : Nat := cz_ (fun i => ¬ el_ c i ∧ ¬ el_ r i) n
theorem uo_dc_lt {n c r c' r' : Nat} (h1 : ∀ i, el_ c i → el_ c' i) (h2 : ∀ i, el_ r i → el_ r' i) (hc : c' < 2 ^ n) (hr : r' < 2 ^ n) (hd : uo_dj c' r') (hne : ¬ (c' = c ∧ r' = r)) : uo_dc n c r < uo_dc n c' r' := by
  have hm : ∀ i, i < n → (el_ c i ∨ el_ r i) → (el_ c' i ∨ el_ r' i) := fun i _ z => z.elim (fun a => Or.inl (h1 i a)) (fun a => Or.inr (h2 i a))
  apply Classical.byContradiction
  intro hn
  apply hne
  have key : ∀ i, i < n → (el_ c' i ∨ el_ r' i) → (el_ c i ∨ el_ r i) := by
    intro i hi z
    apply Classical.byContradiction
    intro hz
    exact hn (cz_lt hm hi z hz)
  constructor
  · refine el_ext (fun i => ⟨fun z => ?_, h1 i⟩)
    rcases key i (el_lt hc z) (Or.inl z) with a | a
    · exact a
    · exact absurd (h2 i a) (hd i z)
  · refine el_ext (fun i => ⟨fun z => ?_, h2 i⟩)
    rcases key i (el_lt hr z) (Or.inr z) with a | a
    · exact absurd z (hd i (h1 i a))
    · exact a
theorem uo_op_le {n c r c' r' : Nat} (h1 : ∀ i, el_ c i → el_ c' i) (h2 : ∀ i, el_ r i → el_ r' i) : uo_op n c' r' ≤ uo_op n c r :=
  cz_mono (fun i _ z => ⟨fun a => z.1 (h1 i a), fun a => z.2 (h2 i a)⟩)
theorem uo_op_c {n c r p : Nat} (hp : p < n) (h1 : ¬ el_ c p) (h2 : ¬ el_ r p) : uo_op n (c ||| 2 ^ p) r < uo_op n c r :=
  cz_lt (fun i _ z => ⟨fun a => z.1 (el_or.mpr (Or.inl a)), z.2⟩) hp ⟨h1, h2⟩ (fun z => z.1 (el_or.mpr (Or.inr (el_pw.mpr rfl))))
theorem uo_op_r {n c r p : Nat} (hp : p < n) (h1 : ¬ el_ c p) (h2 : ¬ el_ r p) : uo_op n c (r ||| 2 ^ p) < uo_op n c r :=
  cz_lt (fun i _ z => ⟨z.1, fun a => z.2 (el_or.mpr (Or.inl a))⟩) hp ⟨h1, h2⟩ (fun z => z.2 (el_or.mpr (Or.inr (el_pw.mpr rfl))))
/-! what the search has gathered -/
def uo_oC (cs : Nat → Nat) (o : Option Nat) : Int32 := o.elim 4096 (fun S => nI (cs S))
/-- from (f, b, d) to (f', b', d') the sets of A were met -/
def uo_ac (n : Nat) (cs : Nat → Nat) (cnt : Int32) (A : Nat → Prop) (f b d f' b' d' : Int32) : Prop :=
  (¬ cnt = 0 → f' = f + nI (cz_ A (2 ^ n))) ∧
  (cnt = 0 → ∀ (P : Nat → Prop) (o : Option Nat), uo_bst n cs P o → b = uo_oI o → d = uo_oC cs o → ∃ o', uo_bst n cs (fun S => P S ∨ A S) o' ∧ b' = uo_oI o' ∧ d' = uo_oC cs o')
section
variable {n : Nat} {cs : Nat → Nat} {cnt : Int32} {A A' : Nat → Prop} {f b d f' b' d' f'' b'' d'' : Int32}
theorem uo_ac_0 (h : ∀ S, ¬ A S) : uo_ac n cs cnt A f b d f b d := by
  refine ⟨fun _ => ?_, fun _ P o h1 h2 h3 => ⟨o, uo_bst_cg h1 (fun S => ⟨Or.inl, fun z => z.elim id (fun y => absurd y (h S))⟩), h2, h3⟩⟩
  rw [cz_0 (fun i _ => h i), nI_0, Int32.add_zero]
theorem uo_ac_cg (h : uo_ac n cs cnt A f b d f' b' d') (e : ∀ S, A S ↔ A' S) : uo_ac n cs cnt A' f b d f' b' d' := by
  have : A = A' := funext (fun S => propext (e S))
  subst this
  exact h
theorem uo_ac_tr (h : uo_ac n cs cnt A f b d f' b' d') (h' : uo_ac n cs cnt A' f' b' d' f'' b'' d'') (hd : ∀ S, A S → ¬ A' S) : uo_ac n cs cnt (fun S => A S ∨ A' S) f b d f'' b'' d'' := by
  refine ⟨fun hc => ?_, fun hc P o h1 h2 h3 => ?_⟩
  · rw [h'.1 hc, h.1 hc, cz_dj hd, Int32.add_assoc, nI_add]
  · obtain ⟨o1, a1, a2, a3⟩ := h.2 hc P o h1 h2 h3
    obtain ⟨o2, b1, b2, b3⟩ := h'.2 hc _ o1 a1 a2 a3
    exact ⟨o2, uo_bst_cg b1 (fun S => by rw [or_assoc]), b2, b3⟩
/-- nothing in A is as good as what is held -/
theorem uo_ac_pr (hb : ∀ S, cs S < 4096) {L : Nat} (hL : L < 4096) (hc : cnt = 0) (hA : ∀ S, A S → L ≤ cs S) (h : d < nI L) : uo_ac n cs cnt A f b d f b d := by
  refine ⟨fun z => absurd hc z, fun _ P o h1 h2 h3 => ⟨o, ?_, h2, h3⟩⟩
  rcases h1 with ⟨e, h1⟩ | ⟨S, e, h4, h5, h6⟩
  · subst e
    rw [h3] at h
    exact absurd h (nI_nlt (a := 4096) (by omega) (by decide))
  · subst e
    rw [h3] at h
    have h7 : cs S < L := (nI_ltI (by have := hb S; omega) (by omega)).mp h
    refine Or.inr ⟨S, rfl, h4, Or.inl h5, fun T hT => ?_⟩
    rcases hT with a | a
    · exact h6 T a
    · have := hA T a
      exact Or.inl (by omega)
/-- one set more: kept as the best -/
theorem uo_ac_1 (hb : ∀ S, cs S < 4096) {c : Nat} (hc : c < 2 ^ n) (hA : ∀ S, A S ↔ S = c) (h : nI (cs c) < d ∨ (nI (cs c) = d ∧ ¬ b ≤ nI c)) (hn : n ≤ 10) : uo_ac n cs cnt A f b d (f + 1) (nI c) (nI (cs c)) := by
  have p2 : 2 ^ n ≤ 1024 := el_p2 hn
  refine ⟨fun _ => ?_, fun _ P o h1 h2 h3 => ⟨some c, Or.inr ⟨c, rfl, hc, Or.inr ((hA c).mpr rfl), fun T hT => ?_⟩, rfl, rfl⟩⟩
  · rw [cz_one hc (fun i _ => hA i)]
    rfl
  · rcases hT with a | a
    · rcases h1 with ⟨e, h1⟩ | ⟨S, e, h4, h5, h6⟩
      · exact absurd a (h1 T)
      · subst e
        have h7 := h6 T a
        have hbS := hb S
        have hbc := hb c
        rw [h2, h3] at h
        rcases h with h | ⟨h, h8⟩
        · have h9 : cs c < cs S := (nI_ltI (by omega) (by omega)).mp h
          exact Or.inl (by omega)
        · have h9 : cs c = cs S := (nI_eq (by omega) (by omega)).mp h
          have h10 : ¬ S ≤ c := fun z => h8 (nI_le z (by omega))
          omega
    · rw [(hA T).mp a]
      exact Or.inr ⟨rfl, Nat.le_refl _⟩
/-- one set more: not as good -/
theorem uo_ac_2 (hb : ∀ S, cs S < 4096) {c : Nat} (hc : c < 2 ^ n) (hA : ∀ S, A S ↔ S = c) (h : ¬ nI (cs c) < d) (h' : nI (cs c) = d → b ≤ nI c) (hn : n ≤ 10) : uo_ac n cs cnt A f b d (f + 1) b d := by
  have p2 : 2 ^ n ≤ 1024 := el_p2 hn
  refine ⟨fun _ => ?_, fun _ P o h1 h2 h3 => ⟨o, ?_, h2, h3⟩⟩
  · rw [cz_one hc (fun i _ => hA i)]
    rfl
  · have hbc := hb c
    rcases h1 with ⟨e, h1⟩ | ⟨S, e, h4, h5, h6⟩
    · subst e
      rw [h3] at h
      exact absurd (nI_lt (b := 4096) hbc (by decide)) h
    · subst e
      have hbS := hb S
      rw [h3] at h h'
      rw [h2] at h'
      refine Or.inr ⟨S, rfl, h4, Or.inl h5, fun T hT => ?_⟩
      rcases hT with a | a
      · exact h6 T a
      · rw [(hA T).mp a]
        have h9 : ¬ cs c < cs S := fun z => h (nI_lt z (by omega))
        rcases Nat.lt_or_ge (cs S) (cs c) with h10 | h10
        · exact Or.inl h10
        · have h11 : cs c = cs S := by omega
          exact Or.inr ⟨h11.symm, (nI_leI (by omega) (by omega)).mp (h' (congrArg nI h11))⟩
end
end
section
/-! the component: demand, propagate -/
theorem uo_bf {n c r : Nat} (hn : n ≤ 10) (hc : c < 2 ^ n) (hr : r < 2 ^ n) : nI c ||| (nI r <<< ((10 : Int32) &&& 31)) = nI (1024 * r + c) := by
  have p2 : 2 ^ n ≤ 1024 := el_p2 hn
  rw [pk_shlN (n := r) ((10 : Int32) &&& 31) 10 (by decide) (by omega), uo_or]
  have h := Nat.two_pow_add_eq_or_of_lt (i := 10) (b := c) (by omega) r
  have e : r * 2 ^ 10 = 2 ^ 10 * r := Nat.mul_comm _ _
  rw [e, Nat.or_comm, ← h]
section
variable {f_packageCount f_installed f_wishCount f_ready f_wantedNames f_unwantedNames f_chosen f_refused f_counting f_found f_bestSet f_bestCost : Int32} {a_name a_version a_features a_needCount a_needWidth a_needPattern a_clashCount a_clashPattern a_wishName a_wishThere a_needTargets a_excludes a_sharers a_newest a_frameChosen a_frameRefused a_framePackage a_frameTried : Nat → Int32}
variable {n wc ins : Nat} {wa un : Nat} {nc tg ex sh nw : Nat → Nat} {c r c0 r0 : Nat}
theorem uo_xdem {post : Int32 → SX → Prop} {t : Nat} (hn : n ≤ 10) (hc : c < 2 ^ n) (hr : r < 2 ^ n) (ht : t < 2 ^ n) (hm : ∀ S, uo_rc n wa un nc tg ex sh c r S → ∃ q, el_ t q ∧ el_ S q) (t1 : ∀ c', uo_ps n wa un nc tg ex sh c r c' r → (∃ q, el_ t q ∧ ¬ el_ r q) → post 1 (nI n, nI ins, nI wc, f_ready, nI wa, nI un, nI c', nI r, f_counting, f_found, f_bestSet, f_bestCost, a_name, a_version, a_features, a_needCount, a_needWidth, a_needPattern, a_clashCount, a_clashPattern, a_wishName, a_wishThere, a_needTargets, a_excludes, a_sharers, a_newest, a_frameChosen, a_frameRefused, a_framePackage, a_frameTried)) (f : (∀ S, ¬ uo_rc n wa un nc tg ex sh c r S) → post 0 (nI n, nI ins, nI wc, f_ready, nI wa, nI un, nI c, nI r, f_counting, f_found, f_bestSet, f_bestCost, a_name, a_version, a_features, a_needCount, a_needWidth, a_needPattern, a_clashCount, a_clashPattern, a_wishName, a_wishThere, a_needTargets, a_excludes, a_sharers, a_newest, a_frameChosen, a_frameRefused, a_framePackage, a_frameTried)) : wpX_demand post (nI n, nI ins, nI wc, f_ready, nI wa, nI un, nI c, nI r, f_counting, f_found, f_bestSet, f_bestCost, a_name, a_version, a_features, a_needCount, a_needWidth, a_needPattern, a_clashCount, a_clashPattern, a_wishName, a_wishThere, a_needTargets, a_excludes, a_sharers, a_newest, a_frameChosen, a_frameRefused, a_framePackage, a_frameTried) (nI t) := by
  have p2 : 2 ^ n ≤ 1024 := el_p2 hn
  have t31 : t < 2 ^ 31 := el_31 ht hn
  have hd : df_ t r < 2 ^ n := df_lt r ht
  have key : ∀ S, uo_rc n wa un nc tg ex sh c r S → ∃ q, el_ (df_ t r) q ∧ el_ S q := by
    intro S z
    obtain ⟨q, a, b⟩ := hm S z
    exact ⟨q, (df_el t31 r q).mpr ⟨a, fun e => z.2.2.2 q e b⟩, b⟩
  unfold wpX_demand
  dsimp only
  refine nm_r (uo_df t r) ?_
  refine pk_eq (df_ t r) 0 (fun h => f (fun S z => ?_)) (fun h => ?_)
  · obtain ⟨q, a, _⟩ := key S z
    exact el_ne a h
  · have hx : ∃ q, el_ t q ∧ ¬ el_ r q := by
      obtain ⟨q, a⟩ := el_ex h
      exact ⟨q, (df_el t31 r q).mp a⟩
    refine uo_mz (df_ t r) c (fun h1 => ?_) (fun _ => t1 c (uo_ps_rf hc hr) hx) rfl rfl (by omega)
    have e : nI (df_ t r) - 1 = nI (df_ t r - 1) := pk_sub (a := df_ t r) (b := 1) (by omega)
    have hl : df_ t r &&& (df_ t r - 1) ≤ df_ t r := Nat.and_le_left
    rw [e, nx_and, uo_or]
    refine pk_eq (df_ t r &&& (df_ t r - 1)) 0 (fun h2 => nm_e ?_) (fun _ => t1 c (uo_ps_rf hc hr) hx)
    obtain ⟨i, hi, e2⟩ := uo_one _ (by omega) h h2
    refine t1 _ (uo_ps_c hc hr hd (fun S z j hj => ?_)) hx
    obtain ⟨q, a, b⟩ := key S z
    rw [e2, el_pw] at a hj
    rw [← hj, a]
    exact b
theorem uo_xpn2 {post : Int32 → SX → Prop} (T : uo_ta n wa un nc tg ex sh nw a_needCount a_needTargets a_excludes a_sharers a_newest) (J1 : ∀ c r, uo_ps n wa un nc tg ex sh c0 r0 c r → (c = c0 → r = r0 → ∀ x, x < 5 → uo_c1 wa un sh x r) → uo_dj c r → post 1 (nI n, nI ins, nI wc, f_ready, nI wa, nI un, nI c, nI r, f_counting, f_found, f_bestSet, f_bestCost, a_name, a_version, a_features, a_needCount, a_needWidth, a_needPattern, a_clashCount, a_clashPattern, a_wishName, a_wishThere, a_needTargets, a_excludes, a_sharers, a_newest, a_frameChosen, a_frameRefused, a_framePackage, a_frameTried)) (J0 : ∀ y z : Int32, (∀ S, ¬ uo_rc n wa un nc tg ex sh c0 r0 S) → post 0 (nI n, nI ins, nI wc, f_ready, nI wa, nI un, y, z, f_counting, f_found, f_bestSet, f_bestCost, a_name, a_version, a_features, a_needCount, a_needWidth, a_needPattern, a_clashCount, a_clashPattern, a_wishName, a_wishThere, a_needTargets, a_excludes, a_sharers, a_newest, a_frameChosen, a_frameRefused, a_framePackage, a_frameTried)) : ∀ d x, x + d = 5 → ∀ c r, uo_ps n wa un nc tg ex sh c0 r0 c r → (c = c0 → r = r0 → ∀ j, j < x → uo_c1 wa un sh j r) → wX_propagateNames_2 post (d + 1) (nI x) (nI n) (nI ins) (nI wc) f_ready (nI wa) (nI un) (nI c) (nI r) f_counting f_found f_bestSet f_bestCost a_name a_version a_features a_needCount a_needWidth a_needPattern a_clashCount a_clashPattern a_wishName a_wishThere a_needTargets a_excludes a_sharers a_newest a_frameChosen a_frameRefused a_framePackage a_frameTried := by
  obtain ⟨hn, hwa, hun, _, _, _, hsh, _⟩ := T
  have p2 : 2 ^ n ≤ 1024 := el_p2 hn
  intro d
  induction d with
  | zero =>
    intro x hx c r ps hcl
    have e : x = 5 := by omega
    subst e
    have hc := ps.2.2.1
    refine br_t (nI_le (b := 5) (Nat.le_refl _) (by omega)) (uo_mz c r (fun h => J1 c r ps hcl h) (fun h => J0 _ _ (fun S z => ?_)) rfl rfl (by omega))
    obtain ⟨i, a, b⟩ := h
    have z' := ps.2.2.2.2 S z
    exact z'.2.2.2 i b (z'.2.2.1 i a)
  | succ d ih =>
    intro x hx c r ps hcl
    have xe : (nI x).toNatClampNeg = x := nI_clamp (by omega)
    have vx : vp_in (nI x) 5 := vp_in_nI (by omega) (by decide)
    obtain ⟨es, hs⟩ := hsh x (by omega)
    have K : ∀ r1, uo_ps n wa un nc tg ex sh c0 r0 c r1 → (c = c0 → r1 = r0 → (∀ j, j < x → uo_c1 wa un sh j r1) ∧ (el_ un x → ∀ q, el_ (sh x) q → el_ r1 q)) → wX_propagateNames_33 post (wX_propagateNames_2 post (d + 1)) (nI x) (nI n) (nI ins) (nI wc) f_ready (nI wa) (nI un) (nI c) (nI r1) f_counting f_found f_bestSet f_bestCost a_name a_version a_features a_needCount a_needWidth a_needPattern a_clashCount a_clashPattern a_wishName a_wishThere a_needTargets a_excludes a_sharers a_newest a_frameChosen a_frameRefused a_framePackage a_frameTried := by
      intro r1 ps1 hcl1
      refine uo_bz wa x (fun h => nm_r (nI_1 x) (ih (x + 1) (by omega) c r1 ps1 (fun e1 e2 => lt_s (hcl1 e1 e2).1 ⟨(hcl1 e1 e2).2, fun z => absurd z h⟩))) (fun h => ⟨vx, ?_⟩) rfl rfl (by omega) (by omega)
      rw [xe, es]
      refine uo_xdem hn ps1.2.2.1 ps1.2.2.2.1 hs (fun S z => (z.1.2 x (by omega)).1 h) (fun c' ps' hq => br_f (by decide) (nm_r (nI_1 x) (ih (x + 1) (by omega) c' r1 (uo_ps_tr ps1 ps') (fun e1 e2 => ?_)))) (fun h0 => br_t rfl (J0 _ _ (fun S z => h0 S (ps1.2.2.2.2 S z))))
      have e3 := hcl1 (uo_mid ps1.1 ps'.1 e1) e2
      exact lt_s e3.1 ⟨e3.2, fun _ => hq⟩
    refine br_f (nI_ge (b := 5) (by omega) (by omega)) (uo_bz un x (fun h => K r ps (fun e1 e2 => ⟨hcl e1 e2, fun z => absurd z h⟩)) (fun h => ⟨vx, ?_⟩) rfl rfl (by omega) (by omega))
    rw [xe, es, uo_or]
    have ps' : uo_ps n wa un nc tg ex sh c r c (r ||| sh x) := uo_ps_r ps.2.2.1 ps.2.2.2.1 hs (fun S z => (z.1.2 x (by omega)).2 h)
    refine nm_e (K _ (uo_ps_tr ps ps') (fun e1 e2 => ⟨?_, fun _ q hq => el_or.mpr (Or.inr hq)⟩))
    have e3 : r = r0 := uo_mid ps.2.1 ps'.2.1 e2
    rw [e2, ← e3]
    exact hcl e1 e3
theorem uo_xpn {post : Int32 → SX → Prop} (T : uo_ta n wa un nc tg ex sh nw a_needCount a_needTargets a_excludes a_sharers a_newest) (hc : c < 2 ^ n) (hr : r < 2 ^ n) (J1 : ∀ c' r', uo_ps n wa un nc tg ex sh c r c' r' → (c' = c → r' = r → ∀ x, x < 5 → uo_c1 wa un sh x r') → uo_dj c' r' → post 1 (nI n, nI ins, nI wc, f_ready, nI wa, nI un, nI c', nI r', f_counting, f_found, f_bestSet, f_bestCost, a_name, a_version, a_features, a_needCount, a_needWidth, a_needPattern, a_clashCount, a_clashPattern, a_wishName, a_wishThere, a_needTargets, a_excludes, a_sharers, a_newest, a_frameChosen, a_frameRefused, a_framePackage, a_frameTried)) (J0 : ∀ y z : Int32, (∀ S, ¬ uo_rc n wa un nc tg ex sh c r S) → post 0 (nI n, nI ins, nI wc, f_ready, nI wa, nI un, y, z, f_counting, f_found, f_bestSet, f_bestCost, a_name, a_version, a_features, a_needCount, a_needWidth, a_needPattern, a_clashCount, a_clashPattern, a_wishName, a_wishThere, a_needTargets, a_excludes, a_sharers, a_newest, a_frameChosen, a_frameRefused, a_framePackage, a_frameTried)) : wpX_propagateNames post (nI n, nI ins, nI wc, f_ready, nI wa, nI un, nI c, nI r, f_counting, f_found, f_bestSet, f_bestCost, a_name, a_version, a_features, a_needCount, a_needWidth, a_needPattern, a_clashCount, a_clashPattern, a_wishName, a_wishThere, a_needTargets, a_excludes, a_sharers, a_newest, a_frameChosen, a_frameRefused, a_framePackage, a_frameTried) :=
  Exists.intro 6 (uo_xpn2 T J1 J0 5 0 (by omega) c r (uo_ps_rf hc hr) (fun _ _ _ h => absurd h (by omega)))
/-! one package -/
theorem uo_xpp1 {post : Int32 → SX → Prop} {p : Nat} (T : uo_ta n wa un nc tg ex sh nw a_needCount a_needTargets a_excludes a_sharers a_newest) (hp : p < n) (hin : el_ c0 p) (hxr : ∀ q, el_ (ex p) q → el_ r q) (J1 : ∀ c, uo_ps n wa un nc tg ex sh c0 r0 c r → (c = c0 → r = r0 → ∀ k, k < nc p → ∃ q, el_ (tg (2 * p + k)) q ∧ ¬ el_ r q) → uo_dj c r → post 1 (nI n, nI ins, nI wc, f_ready, nI wa, nI un, nI c, nI r, f_counting, f_found, f_bestSet, f_bestCost, a_name, a_version, a_features, a_needCount, a_needWidth, a_needPattern, a_clashCount, a_clashPattern, a_wishName, a_wishThere, a_needTargets, a_excludes, a_sharers, a_newest, a_frameChosen, a_frameRefused, a_framePackage, a_frameTried)) (J0 : ∀ y z : Int32, (∀ S, ¬ uo_rc n wa un nc tg ex sh c0 r0 S) → post 0 (nI n, nI ins, nI wc, f_ready, nI wa, nI un, y, z, f_counting, f_found, f_bestSet, f_bestCost, a_name, a_version, a_features, a_needCount, a_needWidth, a_needPattern, a_clashCount, a_clashPattern, a_wishName, a_wishThere, a_needTargets, a_excludes, a_sharers, a_newest, a_frameChosen, a_frameRefused, a_framePackage, a_frameTried)) : ∀ d k, k + d = nc p → ∀ c, uo_ps n wa un nc tg ex sh c0 r0 c r → (∀ j, j < k → ∃ q, el_ (tg (2 * p + j)) q ∧ ¬ el_ r q) → wX_propagatePackage_38 post (nI p) 1 (d + 1) (nI k) (nI n) (nI ins) (nI wc) f_ready (nI wa) (nI un) (nI c) (nI r) f_counting f_found f_bestSet f_bestCost a_name a_version a_features a_needCount a_needWidth a_needPattern a_clashCount a_clashPattern a_wishName a_wishThere a_needTargets a_excludes a_sharers a_newest a_frameChosen a_frameRefused a_framePackage a_frameTried := by
  obtain ⟨hn, hwa, hun, hnc, htg, _, _, _⟩ := T
  have p2 : 2 ^ n ≤ 1024 := el_p2 hn
  obtain ⟨ec, hcp⟩ := hnc p hp
  have ep : (nI p).toNatClampNeg = p := nI_clamp (by omega)
  have vp : vp_in (nI p) 10 := vp_in_nI (by omega) (by decide)
  intro d
  induction d with
  | zero =>
    intro k hk c ps hcl
    have hc := ps.2.2.1
    have ek : k = nc p := by omega
    subst ek
    refine And.intro vp ?_
    rw [ep, ec]
    refine br_t (nI_le (by omega) (by omega)) (uo_mz c r (fun h => J1 c ps (fun _ _ => hcl) h) (fun h => J0 _ _ (fun S z => ?_)) rfl rfl (by omega))
    obtain ⟨i, a, b⟩ := h
    have z' := ps.2.2.2.2 S z
    exact z'.2.2.2 i b (z'.2.2.1 i a)
  | succ d ih =>
    intro k hk c ps hcl
    obtain ⟨et, ht⟩ := htg p k hp (by omega)
    refine And.intro vp ?_
    rw [ep, ec, uo_2pk, nI_clamp (by omega), et]
    refine br_f (nI_ge (by omega) (by omega)) ⟨vp_in_nI (by omega) (by decide), nm_e (br_f (by decide) ?_)⟩
    exact uo_xdem hn ps.2.2.1 ps.2.2.2.1 ht (fun S z => (z.1.1 p hp (z.2.2.1 p (ps.1 p hin))).2 k (by omega)) (fun c' ps' hq => br_f (by decide) (nm_r (nI_1 k) (ih (k + 1) (by omega) c' (uo_ps_tr ps ps') (lt_s hcl hq)))) (fun h0 => br_t rfl (J0 _ _ (fun S z => h0 S (ps.2.2.2.2 S z))))
theorem uo_xpp0 {post : Int32 → SX → Prop} {p : Nat} (T : uo_ta n wa un nc tg ex sh nw a_needCount a_needTargets a_excludes a_sharers a_newest) (hp : p < n) (J1 : ∀ r, uo_ps n wa un nc tg ex sh c r0 c r → uo_dj c r → post 1 (nI n, nI ins, nI wc, f_ready, nI wa, nI un, nI c, nI r, f_counting, f_found, f_bestSet, f_bestCost, a_name, a_version, a_features, a_needCount, a_needWidth, a_needPattern, a_clashCount, a_clashPattern, a_wishName, a_wishThere, a_needTargets, a_excludes, a_sharers, a_newest, a_frameChosen, a_frameRefused, a_framePackage, a_frameTried)) (J0 : ∀ y z : Int32, (∀ S, ¬ uo_rc n wa un nc tg ex sh c r0 S) → post 0 (nI n, nI ins, nI wc, f_ready, nI wa, nI un, y, z, f_counting, f_found, f_bestSet, f_bestCost, a_name, a_version, a_features, a_needCount, a_needWidth, a_needPattern, a_clashCount, a_clashPattern, a_wishName, a_wishThere, a_needTargets, a_excludes, a_sharers, a_newest, a_frameChosen, a_frameRefused, a_framePackage, a_frameTried)) : ∀ d k, k + d = nc p → ∀ r, uo_ps n wa un nc tg ex sh c r0 c r → wX_propagatePackage_38 post (nI p) 0 (d + 1) (nI k) (nI n) (nI ins) (nI wc) f_ready (nI wa) (nI un) (nI c) (nI r) f_counting f_found f_bestSet f_bestCost a_name a_version a_features a_needCount a_needWidth a_needPattern a_clashCount a_clashPattern a_wishName a_wishThere a_needTargets a_excludes a_sharers a_newest a_frameChosen a_frameRefused a_framePackage a_frameTried := by
  obtain ⟨hn, hwa, hun, hnc, htg, _, _, _⟩ := T
  have p2 : 2 ^ n ≤ 1024 := el_p2 hn
  obtain ⟨ec, hcp⟩ := hnc p hp
  have ep : (nI p).toNatClampNeg = p := nI_clamp (by omega)
  have vp : vp_in (nI p) 10 := vp_in_nI (by omega) (by decide)
  intro d
  induction d with
  | zero =>
    intro k hk r ps
    have hc := ps.2.2.1
    refine And.intro vp ?_
    rw [ep, ec]
    refine br_t (nI_le (by omega) (by omega)) (uo_mz c r (fun h => J1 r ps h) (fun h => J0 _ _ (fun S z => ?_)) rfl rfl (by omega))
    obtain ⟨i, a, b⟩ := h
    have z' := ps.2.2.2.2 S z
    exact z'.2.2.2 i b (z'.2.2.1 i a)
  | succ d ih =>
    intro k hk r ps
    obtain ⟨et, ht⟩ := htg p k hp (by omega)
    refine And.intro vp ?_
    rw [ep, ec, uo_2pk, nI_clamp (by omega), et, uo_pw p (by omega), uo_or]
    refine br_f (nI_ge (by omega) (by omega)) ⟨vp_in_nI (by omega) (by decide), nm_e (br_t rfl (uo_dz (tg (2 * p + k)) r (fun h => nm_e (nm_r (nI_1 k) (ih (k + 1) (by omega) _ (uo_ps_tr ps ?_)))) (fun h => nm_r (nI_1 k) (ih (k + 1) (by omega) r ps)) rfl rfl (by omega)))⟩
    refine uo_ps_r ps.2.2.1 ps.2.2.2.1 (el_pwlt hp) (fun S z i hi hS => ?_)
    rw [el_pw] at hi
    subst hi
    obtain ⟨q, a, b⟩ := (z.1.1 p hp hS).2 k (by omega)
    exact z.2.2.2 q (h q a) b
theorem uo_xpp {post : Int32 → SX → Prop} {p : Nat} (T : uo_ta n wa un nc tg ex sh nw a_needCount a_needTargets a_excludes a_sharers a_newest) (hc : c < 2 ^ n) (hr : r < 2 ^ n) (hp : p < n) (J1 : ∀ c' r', uo_ps n wa un nc tg ex sh c r c' r' → (c' = c → r' = r → uo_cp nc tg ex p c' r') → uo_dj c' r' → post 1 (nI n, nI ins, nI wc, f_ready, nI wa, nI un, nI c', nI r', f_counting, f_found, f_bestSet, f_bestCost, a_name, a_version, a_features, a_needCount, a_needWidth, a_needPattern, a_clashCount, a_clashPattern, a_wishName, a_wishThere, a_needTargets, a_excludes, a_sharers, a_newest, a_frameChosen, a_frameRefused, a_framePackage, a_frameTried)) (J0 : ∀ y z : Int32, (∀ S, ¬ uo_rc n wa un nc tg ex sh c r S) → post 0 (nI n, nI ins, nI wc, f_ready, nI wa, nI un, y, z, f_counting, f_found, f_bestSet, f_bestCost, a_name, a_version, a_features, a_needCount, a_needWidth, a_needPattern, a_clashCount, a_clashPattern, a_wishName, a_wishThere, a_needTargets, a_excludes, a_sharers, a_newest, a_frameChosen, a_frameRefused, a_framePackage, a_frameTried)) : wpX_propagatePackage post (nI n, nI ins, nI wc, f_ready, nI wa, nI un, nI c, nI r, f_counting, f_found, f_bestSet, f_bestCost, a_name, a_version, a_features, a_needCount, a_needWidth, a_needPattern, a_clashCount, a_clashPattern, a_wishName, a_wishThere, a_needTargets, a_excludes, a_sharers, a_newest, a_frameChosen, a_frameRefused, a_framePackage, a_frameTried) (nI p) := by
  have T' := T
  obtain ⟨hn, hwa, hun, hnc, htg, hex, _, _⟩ := T
  have p2 : 2 ^ n ≤ 1024 := el_p2 hn
  have ep : (nI p).toNatClampNeg = p := nI_clamp (by omega)
  have vp : vp_in (nI p) 10 := vp_in_nI (by omega) (by decide)
  obtain ⟨ee, he⟩ := hex p hp
  unfold wpX_propagatePackage
  dsimp only
  refine uo_bz c p (fun h => And.intro (fun _ => Exists.intro (nc p + 1) ?_) (fun z => absurd rfl z)) (fun h => And.intro (fun z => absurd z (by decide)) (fun _ => ⟨vp, ?_⟩)) rfl rfl (by omega) (by omega)
  · exact uo_xpp0 T' hp (fun r' ps hd => J1 c r' ps (fun _ _ z => absurd z h) hd) J0 _ 0 (by omega) r (uo_ps_rf hc hr)
  · rw [ep, ee, uo_or]
    refine nm_e (Exists.intro (nc p + 1) ?_)
    have hxr : ∀ q, el_ (ex p) q → el_ (r ||| ex p) q := fun q z => el_or.mpr (Or.inr z)
    refine uo_xpp1 T' hp h hxr (fun c' ps hcl hd => J1 c' _ ps (fun e1 e2 _ => ⟨hxr, hcl e1 e2⟩) hd) J0 _ 0 (by omega) c ?_ (fun _ h => absurd h (by omega))
    exact uo_ps_r hc hr he (fun S z q hq hS => (z.1.1 p hp (z.2.2.1 p h)).1 q hq hS)
theorem uo_xpr50 {post : Int32 → SX → Prop} {J4 : Int32 → Int32 → Int32 → Int32 → Int32 → Int32 → Int32 → Int32 → Int32 → Int32 → Int32 → Int32 → Int32 → Int32 → (Nat → Int32) → (Nat → Int32) → (Nat → Int32) → (Nat → Int32) → (Nat → Int32) → (Nat → Int32) → (Nat → Int32) → (Nat → Int32) → (Nat → Int32) → (Nat → Int32) → (Nat → Int32) → (Nat → Int32) → (Nat → Int32) → (Nat → Int32) → (Nat → Int32) → (Nat → Int32) → (Nat → Int32) → (Nat → Int32) →  Prop} {x1 : Int32} {j : Nat} (T : uo_ta n wa un nc tg ex sh nw a_needCount a_needTargets a_excludes a_sharers a_newest) (K : ∀ c r, uo_ps n wa un nc tg ex sh c0 r0 c r → (c = c0 → r = r0 → (∀ x, x < 5 → uo_c1 wa un sh x r) ∧ ∀ p, p < n → uo_cp nc tg ex p c r) → uo_dj c r → J4 x1 (nI (j + 1)) (nI n) (nI ins) (nI wc) f_ready (nI wa) (nI un) (nI c) (nI r) f_counting f_found f_bestSet f_bestCost a_name a_version a_features a_needCount a_needWidth a_needPattern a_clashCount a_clashPattern a_wishName a_wishThere a_needTargets a_excludes a_sharers a_newest a_frameChosen a_frameRefused a_framePackage a_frameTried) (J0 : ∀ y z : Int32, (∀ S, ¬ uo_rc n wa un nc tg ex sh c0 r0 S) → post 0 (nI n, nI ins, nI wc, f_ready, nI wa, nI un, y, z, f_counting, f_found, f_bestSet, f_bestCost, a_name, a_version, a_features, a_needCount, a_needWidth, a_needPattern, a_clashCount, a_clashPattern, a_wishName, a_wishThere, a_needTargets, a_excludes, a_sharers, a_newest, a_frameChosen, a_frameRefused, a_framePackage, a_frameTried)) : ∀ d p, p + d = n → ∀ c r, uo_ps n wa un nc tg ex sh c0 r0 c r → (c = c0 → r = r0 → (∀ x, x < 5 → uo_c1 wa un sh x r) ∧ ∀ i, i < p → uo_cp nc tg ex i c r) → uo_dj c r → wX_propagate_50 post J4 x1 (nI j) (d + 1) (nI p) (nI n) (nI ins) (nI wc) f_ready (nI wa) (nI un) (nI c) (nI r) f_counting f_found f_bestSet f_bestCost a_name a_version a_features a_needCount a_needWidth a_needPattern a_clashCount a_clashPattern a_wishName a_wishThere a_needTargets a_excludes a_sharers a_newest a_frameChosen a_frameRefused a_framePackage a_frameTried := by
  have hn : n ≤ 10 := T.1
  intro d
  induction d with
  | zero =>
    intro p hp c r ps hcl hd
    have e : p = n := by omega
    subst e
    exact br_t (nI_le (Nat.le_refl _) (by omega)) (nm_r (nI_1 j) (K c r ps hcl hd))
  | succ d ih =>
    intro p hp c r ps hcl hd
    refine br_f (nI_ge (by omega) (by omega)) (uo_xpp T ps.2.2.1 ps.2.2.2.1 (by omega) (fun c' r' ps' hq hd' => br_f (by decide) (nm_r (nI_1 p) (ih (p + 1) (by omega) c' r' (uo_ps_tr ps ps') (fun e1 e2 => ?_) hd'))) (fun y z h0 => br_t rfl (J0 y z (fun S z => h0 S (ps.2.2.2.2 S z)))))
    have e3 : c = c0 := uo_mid ps.1 ps'.1 e1
    have e4 : r = r0 := uo_mid ps.2.1 ps'.2.1 e2
    have h5 := hq (e1.trans e3.symm) (e2.trans e4.symm)
    have h6 := hcl e3 e4
    rw [e1, e2] at h5 ⊢
    rw [e3, e4] at h6
    exact ⟨h6.1, lt_s h6.2 h5⟩
theorem uo_xpr4 {post : Int32 → SX → Prop} (T : uo_ta n wa un nc tg ex sh nw a_needCount a_needTargets a_excludes a_sharers a_newest) (J1 : ∀ c r, uo_ps n wa un nc tg ex sh c0 r0 c r → (∀ x, x < 5 → uo_c1 wa un sh x r) → (∀ p, p < n → uo_cp nc tg ex p c r) → uo_dj c r → post 1 (nI n, nI ins, nI wc, f_ready, nI wa, nI un, nI c, nI r, f_counting, f_found, f_bestSet, f_bestCost, a_name, a_version, a_features, a_needCount, a_needWidth, a_needPattern, a_clashCount, a_clashPattern, a_wishName, a_wishThere, a_needTargets, a_excludes, a_sharers, a_newest, a_frameChosen, a_frameRefused, a_framePackage, a_frameTried)) (J0 : ∀ y z : Int32, (∀ S, ¬ uo_rc n wa un nc tg ex sh c0 r0 S) → post 0 (nI n, nI ins, nI wc, f_ready, nI wa, nI un, y, z, f_counting, f_found, f_bestSet, f_bestCost, a_name, a_version, a_features, a_needCount, a_needWidth, a_needPattern, a_clashCount, a_clashPattern, a_wishName, a_wishThere, a_needTargets, a_excludes, a_sharers, a_newest, a_frameChosen, a_frameRefused, a_framePackage, a_frameTried)) : ∀ d j, j + d = 12 → ∀ b c r, uo_ps n wa un nc tg ex sh c0 r0 c r → ((b = nI (1024 * r + c) ∧ ((∀ x, x < 5 → uo_c1 wa un sh x r) ∧ ∀ p, p < n → uo_cp nc tg ex p c r) ∧ uo_dj c r) ∨ (¬ b = nI (1024 * r + c) ∧ j ≤ uo_dc n c r)) → wX_propagate_4 post (d + 1) b (nI j) (nI n) (nI ins) (nI wc) f_ready (nI wa) (nI un) (nI c) (nI r) f_counting f_found f_bestSet f_bestCost a_name a_version a_features a_needCount a_needWidth a_needPattern a_clashCount a_clashPattern a_wishName a_wishThere a_needTargets a_excludes a_sharers a_newest a_frameChosen a_frameRefused a_framePackage a_frameTried := by
  have hn : n ≤ 10 := T.1
  have p2 : 2 ^ n ≤ 1024 := el_p2 hn
  have dle : ∀ c r, uo_dc n c r ≤ n := fun c r => cz_le _ _
  intro d
  induction d with
  | zero =>
    intro j hj b c r ps hb
    have e : j = 12 := by omega
    subst e
    refine br_t (nI_le (b := 12) (Nat.le_refl _) (by omega)) ?_
    rcases hb with ⟨_, h1, h2⟩ | ⟨_, h1⟩
    · exact J1 c r ps h1.1 h1.2 h2
    · have := dle c r
      omega
  | succ d ih =>
    intro j hj b c r ps hb
    have hc := ps.2.2.1
    have hr := ps.2.2.2.1
    refine br_f (nI_ge (b := 12) (by omega) (by omega)) ?_
    rw [uo_bf hn hc hr]
    rcases hb with ⟨e, h1, h2⟩ | ⟨e, h1⟩
    · exact br_t e (J1 c r ps h1.1 h1.2 h2)
    · refine br_f e (nm_e (uo_xpn T hc hr (fun c1 r1 ps1 hcl1 hd1 => br_f (by decide) (Exists.intro (n + 1) ?_)) (fun y z h0 => br_t rfl (J0 y z (fun S z => h0 S (ps.2.2.2.2 S z))))))
      refine uo_xpr50 T (c0 := c) (r0 := r) (fun c2 r2 ps2 hcl2 hd2 => ih (j + 1) (by omega) _ c2 r2 (uo_ps_tr ps ps2) ?_) (fun y z h0 => J0 y z (fun S z => h0 S (ps.2.2.2.2 S z))) n 0 (by omega) c1 r1 ps1 (fun e1 e2 => ⟨hcl1 e1 e2, fun _ h => absurd h (by omega)⟩) hd1
      have hc2 := ps2.2.2.1
      have hr2 := ps2.2.2.2.1
      by_cases hs : c2 = c ∧ r2 = r
      · refine Or.inl ⟨by rw [hs.1, hs.2], hcl2 hs.1 hs.2, hd2⟩
      · refine Or.inr ⟨fun z => hs ?_, ?_⟩
        · rw [nI_eq (by omega) (by omega)] at z
          omega
        · have := uo_dc_lt ps2.1 ps2.2.1 hc2 hr2 hd2 hs
          omega
/-- propagate -/
theorem uo_xpr {post : Int32 → SX → Prop} (T : uo_ta n wa un nc tg ex sh nw a_needCount a_needTargets a_excludes a_sharers a_newest) (hc : c < 2 ^ n) (hr : r < 2 ^ n) (J1 : ∀ c' r', uo_ps n wa un nc tg ex sh c r c' r' → (∀ x, x < 5 → uo_c1 wa un sh x r') → (∀ p, p < n → uo_cp nc tg ex p c' r') → uo_dj c' r' → post 1 (nI n, nI ins, nI wc, f_ready, nI wa, nI un, nI c', nI r', f_counting, f_found, f_bestSet, f_bestCost, a_name, a_version, a_features, a_needCount, a_needWidth, a_needPattern, a_clashCount, a_clashPattern, a_wishName, a_wishThere, a_needTargets, a_excludes, a_sharers, a_newest, a_frameChosen, a_frameRefused, a_framePackage, a_frameTried)) (J0 : ∀ y z : Int32, (∀ S, ¬ uo_rc n wa un nc tg ex sh c r S) → post 0 (nI n, nI ins, nI wc, f_ready, nI wa, nI un, y, z, f_counting, f_found, f_bestSet, f_bestCost, a_name, a_version, a_features, a_needCount, a_needWidth, a_needPattern, a_clashCount, a_clashPattern, a_wishName, a_wishThere, a_needTargets, a_excludes, a_sharers, a_newest, a_frameChosen, a_frameRefused, a_framePackage, a_frameTried)) : wpX_propagate post (nI n, nI ins, nI wc, f_ready, nI wa, nI un, nI c, nI r, f_counting, f_found, f_bestSet, f_bestCost, a_name, a_version, a_features, a_needCount, a_needWidth, a_needPattern, a_clashCount, a_clashPattern, a_wishName, a_wishThere, a_needTargets, a_excludes, a_sharers, a_newest, a_frameChosen, a_frameRefused, a_framePackage, a_frameTried) := by
  have hn : n ≤ 10 := T.1
  have p2 : 2 ^ n ≤ 1024 := el_p2 hn
  refine Exists.intro 13 (uo_xpr4 T J1 J0 12 0 (by omega) (-1) c r (uo_ps_rf hc hr) (Or.inr ⟨fun z => ?_, by omega⟩))
  have := congrArg Int32.toInt z
  rw [nI_toInt (by omega), show (-1 : Int32).toInt = -1 from by decide] at this
  omega
end
end
section
/-! the component: lowestCost, finish, branch -/
noncomputable def uo_l0 (ins : Nat) (sh : Nat → Nat) (r m : Nat) : Nat := cz_ (fun x => (∃ q, el_ (sh x) q ∧ el_ ins q) ∧ ∀ q, el_ (sh x) q → el_ r q) m
noncomputable def uo_l1 (ins c r m : Nat) : Nat := cz_ (fun i => (el_ c i ∧ ¬ el_ ins i) ∨ (el_ r i ∧ el_ ins i)) m
noncomputable def uo_l2 (sh nw : Nat → Nat) (c r m : Nat) : Nat := cz_ (fun x => (∃ q, el_ (sh x) q ∧ el_ c q) ∧ el_ r (nw x)) m
noncomputable def uo_lc (ins : Nat) (sh nw : Nat → Nat) (c r : Nat) : Nat := 256 * uo_l0 ins sh r 5 + 16 * uo_l1 ins c r 10 + uo_l2 sh nw c r 5
theorem uo_pack : ∀ a, a < 6 → ∀ b, b < 11 → ∀ d, d < 6 → ((nI a <<< ((8 : Int32) &&& 31)) ||| (nI b <<< ((4 : Int32) &&& 31))) ||| nI d = nI (256 * a + 16 * b + d) := by decide +kernel
theorem uo_lc_lt {ins : Nat} {sh nw : Nat → Nat} {c r : Nat} : uo_lc ins sh nw c r < 4096 := by
  have h0 : uo_l0 ins sh r 5 ≤ 5 := cz_le _ _
  have h1 : uo_l1 ins c r 10 ≤ 10 := cz_le _ _
  have h2 : uo_l2 sh nw c r 5 ≤ 5 := cz_le _ _
  unfold uo_lc
  omega
section
variable {f_packageCount f_installed f_wishCount f_ready f_wantedNames f_unwantedNames f_chosen f_refused f_counting f_found f_bestSet f_bestCost : Int32} {a_name a_version a_features a_needCount a_needWidth a_needPattern a_clashCount a_clashPattern a_wishName a_wishThere a_needTargets a_excludes a_sharers a_newest a_frameChosen a_frameRefused a_framePackage a_frameTried : Nat → Int32}
variable {n wc ins : Nat} {wa un : Nat} {nc tg ex sh nw : Nat → Nat} {c r : Nat}
theorem uo_xco107 {post : Int32 → Prop} {m : Nat} {x1 x2 : Int32} (hm : m < 2 ^ 31) (he : ∀ i, el_ m i ↔ (el_ c i ∧ ¬ el_ ins i) ∨ (el_ r i ∧ el_ ins i)) (J : post (((x1 <<< ((8 : Int32) &&& 31)) ||| (nI (uo_l1 ins c r 10) <<< ((4 : Int32) &&& 31))) ||| x2)) : ∀ d i, i + d = 10 → wX_lowestCost_107 post x1 x2 (nI m) (nI n) (nI ins) (nI wc) f_ready (nI wa) (nI un) (nI c) (nI r) f_counting f_found f_bestSet f_bestCost a_name a_version a_features a_needCount a_needWidth a_needPattern a_clashCount a_clashPattern a_wishName a_wishThere a_needTargets a_excludes a_sharers a_newest a_frameChosen a_frameRefused a_framePackage a_frameTried (d + 1) (nI (uo_l1 ins c r i)) (nI i) := by
  intro d
  induction d with
  | zero =>
    intro i hi
    have e : i = 10 := by omega
    subst e
    exact br_t (nI_le (b := 10) (Nat.le_refl _) (by omega)) J
  | succ d ih =>
    intro i hi
    have I := ih (i + 1) (by omega)
    refine br_f (nI_ge (b := 10) (by omega) (by omega)) ?_
    rw [uo_bit hm (by omega), nI_add]
    refine nm_e (nm_r (nI_1 i) ?_)
    by_cases h : el_ m i
    · have e : m.testBit i = true := h
      rw [e]
      unfold uo_l1 at I ⊢
      rw [cz_t ((he i).mp h)] at I
      exact I
    · rw [el_nf h]
      unfold uo_l1 at I ⊢
      rw [cz_f (fun z => h ((he i).mpr z))] at I
      exact I
theorem uo_xco44 {post : Int32 → Prop} {J6 : Int32 → Int32 → Int32 → Prop} {x : Nat} {x1 : Int32} (T : uo_ta n wa un nc tg ex sh nw a_needCount a_needTargets a_excludes a_sharers a_newest) (hc : c < 2 ^ n) (hr : r < 2 ^ n) (hx : x < 5) (J : J6 x1 (nI (uo_l2 sh nw c r (x + 1))) (nI (x + 1))) : wX_lowestCost_44 post J6 x1 (nI (uo_l2 sh nw c r x)) (nI x) (nI (sh x)) (nI n) (nI ins) (nI wc) f_ready (nI wa) (nI un) (nI c) (nI r) f_counting f_found f_bestSet f_bestCost a_name a_version a_features a_needCount a_needWidth a_needPattern a_clashCount a_clashPattern a_wishName a_wishThere a_needTargets a_excludes a_sharers a_newest a_frameChosen a_frameRefused a_framePackage a_frameTried := by
  obtain ⟨hn, _, _, _, _, _, hsh, hnw⟩ := T
  have p2 : 2 ^ n ≤ 1024 := el_p2 hn
  have hs := (hsh x hx).2
  refine uo_mz (sh x) c (fun h => nm_r (nI_1 x) ?_) (fun h => ⟨vp_in_nI hx (by decide), ?_⟩) rfl rfl (by omega)
  · unfold uo_l2 at J ⊢
    rw [cz_f (fun z => by obtain ⟨⟨q, a, b⟩, _⟩ := z; exact h q a b)] at J
    exact J
  · have hne : sh x ≠ 0 := by
      obtain ⟨q, a, _⟩ := h
      exact el_ne a
    obtain ⟨en, hw⟩ := hnw x hx hne
    rw [nI_clamp (by omega), en]
    refine uo_bz r (nw x) (fun h2 => nm_r (nI_1 x) ?_) (fun h2 => nm_r (nI_1 _) (nm_r (nI_1 x) ?_)) rfl rfl (by omega) (by omega)
    · unfold uo_l2 at J ⊢
      rw [cz_f (fun z => h2 z.2)] at J
      exact J
    · unfold uo_l2 at J ⊢
      rw [cz_t ⟨h, h2⟩] at J
      exact J
theorem uo_xco6 {post : Int32 → Prop} (T : uo_ta n wa un nc tg ex sh nw a_needCount a_needTargets a_excludes a_sharers a_newest) (hi : ins < 2 ^ n) (hc : c < 2 ^ n) (hr : r < 2 ^ n) (J : post (nI (uo_lc ins sh nw c r))) : ∀ d x, x + d = 5 → wX_lowestCost_6 post (nI n) (nI ins) (nI wc) f_ready (nI wa) (nI un) (nI c) (nI r) f_counting f_found f_bestSet f_bestCost a_name a_version a_features a_needCount a_needWidth a_needPattern a_clashCount a_clashPattern a_wishName a_wishThere a_needTargets a_excludes a_sharers a_newest a_frameChosen a_frameRefused a_framePackage a_frameTried (d + 1) (nI (uo_l0 ins sh r x)) (nI (uo_l2 sh nw c r x)) (nI x) := by
  have T' := T
  obtain ⟨hn, _, _, _, _, _, hsh, hnw⟩ := T
  have p2 : 2 ^ n ≤ 1024 := el_p2 hn
  intro d
  induction d with
  | zero =>
    intro x hx
    have e : x = 5 := by omega
    subst e
    have hm : df_ c ins ||| (r &&& ins) < 2 ^ n := el_orlt (df_lt ins hc) (by rw [Nat.and_comm]; exact Nat.and_lt_two_pow _ hr)
    refine br_t (nI_le (b := 5) (Nat.le_refl _) (by omega)) ?_
    rw [uo_df, nx_and, uo_or]
    refine nm_e (Exists.intro 11 (uo_xco107 (el_31 hm hn) ?_ ?_ 10 0 (by omega)))
    · intro i
      rw [el_or, el_and, df_el (el_31 hc hn)]
    · have h0 : uo_l0 ins sh r 5 ≤ 5 := cz_le _ _
      have h1 : uo_l1 ins c r 10 ≤ 10 := cz_le _ _
      have h2 : uo_l2 sh nw c r 5 ≤ 5 := cz_le _ _
      rw [uo_pack _ (by omega) _ (by omega) _ (by omega)]
      exact J
  | succ d ih =>
    intro x hx
    have xe : (nI x).toNatClampNeg = x := nI_clamp (by omega)
    have vx : vp_in (nI x) 5 := vp_in_nI (by omega) (by decide)
    obtain ⟨es, hs⟩ := hsh x (by omega)
    have I := ih (x + 1) (by omega)
    refine br_f (nI_ge (b := 5) (by omega) (by omega)) ⟨vx, nm_r (e' := nI (sh x)) (by rw [xe]; exact es) ?_⟩
    refine uo_mz (sh x) ins (fun h => uo_xco44 T' hc hr (by omega) ?_) (fun h => uo_dz (sh x) r (fun h2 => nm_r (nI_1 _) (uo_xco44 T' hc hr (by omega) ?_)) (fun h2 => uo_xco44 T' hc hr (by omega) ?_) rfl rfl (by omega)) rfl rfl (by omega)
    · have e : uo_l0 ins sh r (x + 1) = uo_l0 ins sh r x := cz_f (fun z => by obtain ⟨⟨q, a, b⟩, _⟩ := z; exact h q a b)
      rw [e] at I
      exact I
    · have e : uo_l0 ins sh r (x + 1) = uo_l0 ins sh r x + 1 := cz_t ⟨h, h2⟩
      rw [e] at I
      exact I
    · have e : uo_l0 ins sh r (x + 1) = uo_l0 ins sh r x := cz_f (fun z => by obtain ⟨q, a, b⟩ := h2; exact b (z.2 q a))
      rw [e] at I
      exact I
theorem uo_xco {post : Int32 → Prop} (T : uo_ta n wa un nc tg ex sh nw a_needCount a_needTargets a_excludes a_sharers a_newest) (hi : ins < 2 ^ n) (hc : c < 2 ^ n) (hr : r < 2 ^ n) (J : post (nI (uo_lc ins sh nw c r))) : wpX_lowestCost post (nI n, nI ins, nI wc, f_ready, nI wa, nI un, nI c, nI r, f_counting, f_found, f_bestSet, f_bestCost, a_name, a_version, a_features, a_needCount, a_needWidth, a_needPattern, a_clashCount, a_clashPattern, a_wishName, a_wishThere, a_needTargets, a_excludes, a_sharers, a_newest, a_frameChosen, a_frameRefused, a_framePackage, a_frameTried) :=
  Exists.intro 6 (uo_xco6 T hi hc hr J 5 0 (by omega))
/-! finish and branch -/
theorem uo_xfin {post : SX → Prop} {cs : Nat → Nat} (T : uo_ta n wa un nc tg ex sh nw a_needCount a_needTargets a_excludes a_sharers a_newest) (hi : ins < 2 ^ n) (hb : ∀ S, cs S < 4096) (hc : c < 2 ^ n) (hr : r < 2 ^ n) (hl : uo_lc ins sh nw c r = cs c) (hA : ∀ S, uo_rc n wa un nc tg ex sh c r S ↔ S = c) (J : ∀ f' b' d', uo_ac n cs f_counting (uo_rc n wa un nc tg ex sh c r) f_found f_bestSet f_bestCost f' b' d' → post (nI n, nI ins, nI wc, f_ready, nI wa, nI un, nI c, nI r, f_counting, f', b', d', a_name, a_version, a_features, a_needCount, a_needWidth, a_needPattern, a_clashCount, a_clashPattern, a_wishName, a_wishThere, a_needTargets, a_excludes, a_sharers, a_newest, a_frameChosen, a_frameRefused, a_framePackage, a_frameTried)) : wpX_finish post (nI n, nI ins, nI wc, f_ready, nI wa, nI un, nI c, nI r, f_counting, f_found, f_bestSet, f_bestCost, a_name, a_version, a_features, a_needCount, a_needWidth, a_needPattern, a_clashCount, a_clashPattern, a_wishName, a_wishThere, a_needTargets, a_excludes, a_sharers, a_newest, a_frameChosen, a_frameRefused, a_framePackage, a_frameTried) := by
  have hn : n ≤ 10 := T.1
  unfold wpX_finish
  dsimp only
  refine nm_e (uo_xco T hi hc hr ?_)
  rw [hl]
  refine br_c (fun h => J _ _ _ (uo_ac_1 hb hc hA (Or.inl h) hn)) (fun h => br_c (fun h2 => br_c (fun h3 => J _ _ _ (uo_ac_2 hb hc hA h (fun _ => h3) hn)) (fun h3 => J _ _ _ (uo_ac_1 hb hc hA (Or.inr ⟨h2, h3⟩) hn))) (fun h2 => J _ _ _ (uo_ac_2 hb hc hA h (fun z => absurd z h2) hn)))
theorem uo_xbr53 {post : Int32 → SX → Prop} {x1 : Int32} {D p : Nat} (hp : p < 10) (hD : D < 11) (h1 : x1 + 1 = nI D) (J : post (nI D) (nI n, nI ins, nI wc, f_ready, nI wa, nI un, nI c, nI r, f_counting, f_found, f_bestSet, f_bestCost, a_name, a_version, a_features, a_needCount, a_needWidth, a_needPattern, a_clashCount, a_clashPattern, a_wishName, a_wishThere, a_needTargets, a_excludes, a_sharers, a_newest, upd a_frameChosen D (nI c), upd a_frameRefused D (nI r), upd a_framePackage D (nI p), upd a_frameTried D 0)) : wX_branch_53 post x1 (nI p) (nI n) (nI ins) (nI wc) f_ready (nI wa) (nI un) (nI c) (nI r) f_counting f_found f_bestSet f_bestCost a_name a_version a_features a_needCount a_needWidth a_needPattern a_clashCount a_clashPattern a_wishName a_wishThere a_needTargets a_excludes a_sharers a_newest a_frameChosen a_frameRefused a_framePackage a_frameTried := by
  have vD : vp_in (nI D) 11 := vp_in_nI hD (by decide)
  have e0 : vp_nar .byte 0 = 0 := by decide
  unfold wX_branch_53
  refine nm_r h1 ?_
  rw [nI_clamp (by omega), uo_nb p (by omega), e0]
  exact ⟨vD, nm_e ⟨vD, nm_e ⟨vD, nm_e ⟨vD, nm_e J⟩⟩⟩⟩
theorem uo_xbr33 {post : Int32 → SX → Prop} {x1 : Int32} {D O : Nat} (hn : n ≤ 10) (hO : O < 2 ^ n) (hne : O ≠ 0) (hD : D < 11) (h1 : x1 + 1 = nI D) (J : ∀ p, el_ O p → post (nI D) (nI n, nI ins, nI wc, f_ready, nI wa, nI un, nI c, nI r, f_counting, f_found, f_bestSet, f_bestCost, a_name, a_version, a_features, a_needCount, a_needWidth, a_needPattern, a_clashCount, a_clashPattern, a_wishName, a_wishThere, a_needTargets, a_excludes, a_sharers, a_newest, upd a_frameChosen D (nI c), upd a_frameRefused D (nI r), upd a_framePackage D (nI p), upd a_frameTried D 0)) : ∀ d p, p + d = 9 → (∀ i, i < p → ¬ el_ O i) → wX_branch_33 post x1 (nI O) (nI n) (nI ins) (nI wc) f_ready (nI wa) (nI un) (nI c) (nI r) f_counting f_found f_bestSet f_bestCost a_name a_version a_features a_needCount a_needWidth a_needPattern a_clashCount a_clashPattern a_wishName a_wishThere a_needTargets a_excludes a_sharers a_newest a_frameChosen a_frameRefused a_framePackage a_frameTried (d + 1) (nI p) := by
  have p2 : 2 ^ n ≤ 1024 := el_p2 hn
  intro d
  induction d with
  | zero =>
    intro p hp hq
    have e : p = 9 := by omega
    subst e
    refine br_t (nI_le (b := 9) (Nat.le_refl _) (by omega)) (uo_xbr53 (by omega) hD h1 (J 9 ?_))
    obtain ⟨i, hi⟩ := el_ex hne
    have hi2 := el_lt hO hi
    rcases Nat.lt_or_ge i 9 with h4 | h4
    · exact absurd hi (hq i h4)
    · have : i = 9 := by omega
      subst this
      exact hi
  | succ d ih =>
    intro p hp hq
    exact br_f (nI_ge (b := 9) (by omega) (by omega)) (uo_bz O p (fun h => nm_r (nI_1 p) (ih (p + 1) (by omega) (lt_s hq h))) (fun h => uo_xbr53 (by omega) hD h1 (J p h)) rfl rfl (by omega) (by omega))
theorem uo_xbr {post : Int32 → SX → Prop} {cs : Nat → Nat} {x1 : Int32} {D : Nat} (T : uo_ta n wa un nc tg ex sh nw a_needCount a_needTargets a_excludes a_sharers a_newest) (hi : ins < 2 ^ n) (hb : ∀ S, cs S < 4096) (hc : c < 2 ^ n) (hr : r < 2 ^ n) (hl : (∀ i, i < n → el_ c i ∨ el_ r i) → uo_lc ins sh nw c r = cs c) (h1 : ∀ x, x < 5 → uo_c1 wa un sh x r) (h2 : ∀ p, p < n → uo_cp nc tg ex p c r) (hd : uo_dj c r) (hD : D < 11) (hx : x1 + 1 = nI D)
    (J : ∀ f' b' d', uo_ac n cs f_counting (uo_rc n wa un nc tg ex sh c r) f_found f_bestSet f_bestCost f' b' d' → post x1 (nI n, nI ins, nI wc, f_ready, nI wa, nI un, nI c, nI r, f_counting, f', b', d', a_name, a_version, a_features, a_needCount, a_needWidth, a_needPattern, a_clashCount, a_clashPattern, a_wishName, a_wishThere, a_needTargets, a_excludes, a_sharers, a_newest, a_frameChosen, a_frameRefused, a_framePackage, a_frameTried))
    (K : ∀ p, p < n → ¬ el_ c p → ¬ el_ r p → post (nI D) (nI n, nI ins, nI wc, f_ready, nI wa, nI un, nI c, nI r, f_counting, f_found, f_bestSet, f_bestCost, a_name, a_version, a_features, a_needCount, a_needWidth, a_needPattern, a_clashCount, a_clashPattern, a_wishName, a_wishThere, a_needTargets, a_excludes, a_sharers, a_newest, upd a_frameChosen D (nI c), upd a_frameRefused D (nI r), upd a_framePackage D (nI p), upd a_frameTried D 0)) : wpX_branch post (nI n, nI ins, nI wc, f_ready, nI wa, nI un, nI c, nI r, f_counting, f_found, f_bestSet, f_bestCost, a_name, a_version, a_features, a_needCount, a_needWidth, a_needPattern, a_clashCount, a_clashPattern, a_wishName, a_wishThere, a_needTargets, a_excludes, a_sharers, a_newest, a_frameChosen, a_frameRefused, a_framePackage, a_frameTried) x1 := by
  have T' := T
  obtain ⟨hn, _, _, _, htg, hex, hsh, _⟩ := T
  have p2 : 2 ^ n ≤ 1024 := el_p2 hn
  have p1 : 0 < 2 ^ n := Nat.two_pow_pos n
  have f31 : 2 ^ n - 1 < 2 ^ 31 := by omega
  have hO : df_ (2 ^ n - 1) (c ||| r) < 2 ^ n := df_lt _ (by omega)
  have hel : ∀ i, el_ (df_ (2 ^ n - 1) (c ||| r)) i ↔ i < n ∧ ¬ el_ c i ∧ ¬ el_ r i := by
    intro i
    rw [df_el f31, el_full, el_or, not_or]
  have e1 : nI (2 ^ n) - 1 = nI (2 ^ n - 1) := pk_sub (a := 2 ^ n) (b := 1) (by omega)
  unfold wpX_branch
  dsimp only
  rw [uo_pw n (by omega), e1, uo_or, uo_df]
  refine nm_e (pk_eq (df_ (2 ^ n - 1) (c ||| r)) 0 (fun h => ?_) (fun h => Exists.intro 10 (uo_xbr33 hn hO h hD hx (fun p hp => ?_) 9 0 (by omega) (fun _ h => absurd h (by omega)))))
  · have ha : ∀ i, i < n → el_ c i ∨ el_ r i := by
      intro i hi
      apply Classical.byContradiction
      intro hno
      rw [not_or] at hno
      exact el_ne ((hel i).mpr ⟨hi, hno⟩) h
    exact uo_xfin T' hi hb hc hr (hl ha) (uo_end hc hr (fun p hp => (hex p hp).2) (fun p k hp hk => (htg p k hp hk).2) (fun x hx => (hsh x hx).2) h1 h2 hd ha) J
  · obtain ⟨a, b, d⟩ := (hel p).mp hp
    exact K p a b d
end
end
section
/-! the component: search -/
def uo_w : Nat → Nat
  | 0 => 0
  | o + 1 => 3 + 2 * uo_w o
/-- the costs are what lowestCost says -/
def uo_cq (n ins wa un : Nat) (nc tg ex sh nw cs : Nat → Nat) : Prop :=
  ins < 2 ^ n ∧ (∀ S, cs S < 4096) ∧ (∀ c r S, c < 2 ^ n → r < 2 ^ n → uo_rc n wa un nc tg ex sh c r S → uo_lc ins sh nw c r ≤ cs S) ∧
  (∀ c r, c < 2 ^ n → r < 2 ^ n → uo_dj c r → (∀ i, i < n → el_ c i ∨ el_ r i) → uo_lc ins sh nw c r = cs c)
/-- a frame with at most o undecided is worked off -/
def uo_FP (n wc ins wa un : Nat) (nc tg ex sh cs : Nat → Nat) (post : SX → Prop) (f_ready f_counting : Int32) (a_name a_version a_features a_needCount a_needWidth a_needPattern a_clashCount a_clashPattern a_wishName a_wishThere a_needTargets a_excludes a_sharers a_newest : Nat → Int32) (o : Nat) : Prop :=
  ∀ (D c r p s : Nat) (fc fr fp ft : Nat → Int32) (y z f b d : Int32), c < 2 ^ n → r < 2 ^ n → p < n → ¬ el_ c p → ¬ el_ r p → uo_op n c r ≤ o → D + o ≤ 10 → s + uo_w o ≤ 4000 → fc D = nI c → fr D = nI r → fp D = nI p → ft D = 0 →
  (∀ (s' : Nat) (fc' fr' fp' ft' : Nat → Int32) (y' z' f' b' d' : Int32), s' ≤ s + uo_w o → (∀ i, i < D → fc' i = fc i ∧ fr' i = fr i ∧ fp' i = fp i ∧ ft' i = ft i) → uo_ac n cs f_counting (uo_rc n wa un nc tg ex sh c r) f b d f' b' d' → wX_search_54 post (4097 - s') (nI D + (-1)) (nI s') (nI n) (nI ins) (nI wc) f_ready (nI wa) (nI un) y' z' f_counting f' b' d' a_name a_version a_features a_needCount a_needWidth a_needPattern a_clashCount a_clashPattern a_wishName a_wishThere a_needTargets a_excludes a_sharers a_newest fc' fr' fp' ft') →
  wX_search_54 post (4097 - s) (nI D) (nI s) (nI n) (nI ins) (nI wc) f_ready (nI wa) (nI un) y z f_counting f b d a_name a_version a_features a_needCount a_needWidth a_needPattern a_clashCount a_clashPattern a_wishName a_wishThere a_needTargets a_excludes a_sharers a_newest fc fr fp ft
section
variable {f_packageCount f_installed f_wishCount f_ready f_wantedNames f_unwantedNames f_chosen f_refused f_counting f_found f_bestSet f_bestCost : Int32} {a_name a_version a_features a_needCount a_needWidth a_needPattern a_clashCount a_clashPattern a_wishName a_wishThere a_needTargets a_excludes a_sharers a_newest a_frameChosen a_frameRefused a_framePackage a_frameTried : Nat → Int32}
variable {n wc ins : Nat} {wa un : Nat} {nc tg ex sh nw cs : Nat → Nat} {c r : Nat}
/-- one step at a frame that isn't worked off: what is tried -/
theorem uo_xst {post : SX → Prop} {D p s t : Nat} {y z : Int32} (hi : ins < 2 ^ 31) (hp : p < 10) (hD : D < 11) (hs : s < 4096) (ht : t < 2) (e1 : a_frameChosen D = nI c) (e2 : a_frameRefused D = nI r) (e3 : a_framePackage D = nI p) (e4 : a_frameTried D = nI t)
    (G1 : (el_ ins p ↔ t = 0) → wX_search_187 post (wX_search_54 post (4097 - (s + 1))) (nI D) (nI s) (nI n) (nI ins) (nI wc) f_ready (nI wa) (nI un) (nI (c ||| 2 ^ p)) (nI r) f_counting f_found f_bestSet f_bestCost a_name a_version a_features a_needCount a_needWidth a_needPattern a_clashCount a_clashPattern a_wishName a_wishThere a_needTargets a_excludes a_sharers a_newest a_frameChosen a_frameRefused a_framePackage (upd a_frameTried D (nI (t + 1))))
    (G2 : ¬ (el_ ins p ↔ t = 0) → wX_search_187 post (wX_search_54 post (4097 - (s + 1))) (nI D) (nI s) (nI n) (nI ins) (nI wc) f_ready (nI wa) (nI un) (nI c) (nI (r ||| 2 ^ p)) f_counting f_found f_bestSet f_bestCost a_name a_version a_features a_needCount a_needWidth a_needPattern a_clashCount a_clashPattern a_wishName a_wishThere a_needTargets a_excludes a_sharers a_newest a_frameChosen a_frameRefused a_framePackage (upd a_frameTried D (nI (t + 1)))) : wX_search_54 post (4097 - s) (nI D) (nI s) (nI n) (nI ins) (nI wc) f_ready (nI wa) (nI un) y z f_counting f_found f_bestSet f_bestCost a_name a_version a_features a_needCount a_needWidth a_needPattern a_clashCount a_clashPattern a_wishName a_wishThere a_needTargets a_excludes a_sharers a_newest a_frameChosen a_frameRefused a_framePackage a_frameTried := by
  have vD : vp_in (nI D) 11 := vp_in_nI hD (by decide)
  have eD : (nI D).toNatClampNeg = D := nI_clamp (by omega)
  have hz : nI t = 0 ↔ t = 0 := uo_z0 (by omega)
  have hN : (vp_nar .byte ((nI t + 1).toInt8.toInt32)) = nI (t + 1) := by
    rw [nI_1, uo_nb _ (by omega)]
  rw [show 4097 - s = (4097 - (s + 1)) + 1 from by omega]
  refine br_f (nI_ge (b := 4096) hs (by decide)) (br_f (nI_pos (by omega)) ⟨vD, nm_r (e' := nI t) (by rw [eD]; exact e4) ?_⟩)
  refine br_f (fun h => absurd ((nI_eq (b := 2) (by omega) (by decide)).mp h) (by omega)) ⟨vD, ?_⟩
  rw [eD, hN, e1, e2, e3]
  refine nm_e ⟨vD, nm_e ⟨vD, nm_e ⟨vD, nm_e ?_⟩⟩⟩
  have A : ∀ (z1 : Int32), (z1 = 1 ↔ el_ ins p) → (z1 = 0 ∨ z1 = 1) → wX_search_141 post (wX_search_54 post (4097 - (s + 1))) (nI D) (nI s) (nI t) (nI p) z1 (nI n) (nI ins) (nI wc) f_ready (nI wa) (nI un) (nI c) (nI r) f_counting f_found f_bestSet f_bestCost a_name a_version a_features a_needCount a_needWidth a_needPattern a_clashCount a_clashPattern a_wishName a_wishThere a_needTargets a_excludes a_sharers a_newest a_frameChosen a_frameRefused a_framePackage (upd a_frameTried D (nI (t + 1))) := by
    intro z1 h1 h01
    have B : ∀ z0 : Int32, (z1 = z0 ↔ (el_ ins p ↔ t = 0)) → wX_search_155 post (wX_search_54 post (4097 - (s + 1))) (nI D) (nI s) (nI p) z0 z1 (nI n) (nI ins) (nI wc) f_ready (nI wa) (nI un) (nI c) (nI r) f_counting f_found f_bestSet f_bestCost a_name a_version a_features a_needCount a_needWidth a_needPattern a_clashCount a_clashPattern a_wishName a_wishThere a_needTargets a_excludes a_sharers a_newest a_frameChosen a_frameRefused a_framePackage (upd a_frameTried D (nI (t + 1))) := by
      intro z0 h0
      unfold wX_search_155
      rw [uo_pw p (by omega), uo_or, uo_or]
      exact br_c (fun h => nm_e (G1 (h0.mp h))) (fun h => nm_e (G2 (fun k => h (h0.mpr k))))
    refine br_c (fun h => B 1 ?_) (fun h => B 0 ?_)
    · rw [h1]
      have : t = 0 := hz.mp h
      exact ⟨fun k => ⟨fun _ => this, fun _ => k⟩, fun k => k.mpr this⟩
    · have h3 : ¬ t = 0 := fun k => h (hz.mpr k)
      constructor
      · intro k
        refine ⟨fun a => ?_, fun a => absurd a h3⟩
        rw [h1.mpr a] at k
        exact absurd k (by decide)
      · intro k
        exact h01.resolve_right (fun a => h3 (k.mp (h1.mp a)))
  exact uo_bz ins p (fun h => A 0 ⟨fun k => absurd k (by decide), fun k => absurd k h⟩ (Or.inl rfl)) (fun h => A 1 ⟨fun _ => h, fun _ => rfl⟩ (Or.inr rfl)) rfl rfl hi (by omega)
/-- what is tried is worked off -/
theorem uo_xtry {post : SX → Prop} {D s o : Nat} (T : uo_ta n wa un nc tg ex sh nw a_needCount a_needTargets a_excludes a_sharers a_newest) (Q : uo_cq n ins wa un nc tg ex sh nw cs) (IH : uo_FP n wc ins wa un nc tg ex sh cs post f_ready f_counting a_name a_version a_features a_needCount a_needWidth a_needPattern a_clashCount a_clashPattern a_wishName a_wishThere a_needTargets a_excludes a_sharers a_newest o) (hc : c < 2 ^ n) (hr : r < 2 ^ n) (hop : uo_op n c r ≤ o) (hD : D + 1 + o ≤ 10) (hs : s + 1 + uo_w o ≤ 4000)
    (K : ∀ (s' : Nat) (fc' fr' fp' ft' : Nat → Int32) (y' z' f' b' d' : Int32), s' ≤ s + 1 + uo_w o → (∀ i, i < D + 1 → fc' i = a_frameChosen i ∧ fr' i = a_frameRefused i ∧ fp' i = a_framePackage i ∧ ft' i = a_frameTried i) → uo_ac n cs f_counting (uo_rc n wa un nc tg ex sh c r) f_found f_bestSet f_bestCost f' b' d' → wX_search_54 post (4097 - s') (nI D) (nI s') (nI n) (nI ins) (nI wc) f_ready (nI wa) (nI un) y' z' f_counting f' b' d' a_name a_version a_features a_needCount a_needWidth a_needPattern a_clashCount a_clashPattern a_wishName a_wishThere a_needTargets a_excludes a_sharers a_newest fc' fr' fp' ft') : wX_search_187 post (wX_search_54 post (4097 - (s + 1))) (nI D) (nI s) (nI n) (nI ins) (nI wc) f_ready (nI wa) (nI un) (nI c) (nI r) f_counting f_found f_bestSet f_bestCost a_name a_version a_features a_needCount a_needWidth a_needPattern a_clashCount a_clashPattern a_wishName a_wishThere a_needTargets a_excludes a_sharers a_newest a_frameChosen a_frameRefused a_framePackage a_frameTried := by
  obtain ⟨q1, q2, q3, q4⟩ := Q
  unfold wX_search_187
  refine uo_xpr T hc hr (fun c2 r2 ps h1 h2 hd => br_f (by decide) ?_) (fun y z h0 => br_t rfl (nm_r (nI_1 s) (K (s + 1) _ _ _ _ _ _ _ _ _ (by omega) (fun _ _ => ⟨rfl, rfl, rfl, rfl⟩) (uo_ac_0 h0))))
  have hc2 := ps.2.2.1
  have hr2 := ps.2.2.2.1
  have hrc := uo_ps_rc ps
  have M : wX_search_212 post (wX_search_54 post (4097 - (s + 1))) (nI D) (nI s) (nI n) (nI ins) (nI wc) f_ready (nI wa) (nI un) (nI c2) (nI r2) f_counting f_found f_bestSet f_bestCost a_name a_version a_features a_needCount a_needWidth a_needPattern a_clashCount a_clashPattern a_wishName a_wishThere a_needTargets a_excludes a_sharers a_newest a_frameChosen a_frameRefused a_framePackage a_frameTried := by
    unfold wX_search_212
    refine uo_xbr (D := D + 1) T q1 q2 hc2 hr2 (fun ha => q4 c2 r2 hc2 hr2 hd ha) h1 h2 hd (by omega) (nI_1 D) (fun f' b' d' ac => nm_r (nI_1 s) (K (s + 1) _ _ _ _ _ _ _ _ _ (by omega) (fun _ _ => ⟨rfl, rfl, rfl, rfl⟩) (uo_ac_cg ac (fun S => (hrc S).symm)))) (fun p hp hpc hpr => nm_r (nI_1 s) ?_)
    refine IH (D + 1) c2 r2 p (s + 1) _ _ _ _ _ _ _ _ _ hc2 hr2 hp hpc hpr (Nat.le_trans (uo_op_le ps.1 ps.2.1) hop) (by omega) (by omega) pk_us pk_us pk_us pk_us (fun s' fc' fr' fp' ft' y' z' f' b' d' hs' hf ac => ?_)
    rw [pk_m1]
    refine K s' fc' fr' fp' ft' y' z' f' b' d' (by omega) (fun i hi => ?_) (uo_ac_cg ac (fun S => (hrc S).symm))
    obtain ⟨a1, a2, a3, a4⟩ := hf i hi
    rw [a1, a2, a3, a4, pk_un (by omega), pk_un (by omega), pk_un (by omega), pk_un (by omega)]
    exact ⟨rfl, rfl, rfl, rfl⟩
  refine br_c (fun hcn => uo_xco T q1 hc2 hr2 (br_c (fun hlt => nm_r (nI_1 s) (K (s + 1) _ _ _ _ _ _ _ _ _ (by omega) (fun _ _ => ⟨rfl, rfl, rfl, rfl⟩) ?_)) (fun _ => M))) (fun _ => M)
  exact uo_ac_pr q2 uo_lc_lt hcn (fun S hS => q3 c2 r2 S hc2 hr2 ((hrc S).mp hS)) hlt
theorem uo_xfp {post : SX → Prop} (T : uo_ta n wa un nc tg ex sh nw a_needCount a_needTargets a_excludes a_sharers a_newest) (Q : uo_cq n ins wa un nc tg ex sh nw cs) : ∀ o, uo_FP n wc ins wa un nc tg ex sh cs post f_ready f_counting a_name a_version a_features a_needCount a_needWidth a_needPattern a_clashCount a_clashPattern a_wishName a_wishThere a_needTargets a_excludes a_sharers a_newest o := by
  have hn : n ≤ 10 := T.1
  have hi : ins < 2 ^ 31 := el_31 Q.1 hn
  intro o
  induction o with
  | zero =>
    intro D c r p s fc fr fp ft y z f b d hc hr hp h1 h2 hop
    have : 0 < uo_op n c r := cz_pos hp ⟨h1, h2⟩
    omega
  | succ o IH =>
    intro D c r p s fc fr fp ft y z f b d hc hr hp h1 h2 hop hD hs e1 e2 e3 e4 K
    have hw : uo_w (o + 1) = 3 + 2 * uo_w o := rfl
    rw [hw] at hs K
    have last : ∀ (s' : Nat) (fc' fr' fp' ft' : Nat → Int32) (y' z' f' b' d' : Int32), s' ≤ s + 2 + 2 * uo_w o → (∀ i, i < D → fc' i = fc i ∧ fr' i = fr i ∧ fp' i = fp i ∧ ft' i = ft i) → ft' D = nI 2 → uo_ac n cs f_counting (uo_rc n wa un nc tg ex sh c r) f b d f' b' d' → wX_search_54 post (4097 - s') (nI D) (nI s') (nI n) (nI ins) (nI wc) f_ready (nI wa) (nI un) y' z' f_counting f' b' d' a_name a_version a_features a_needCount a_needWidth a_needPattern a_clashCount a_clashPattern a_wishName a_wishThere a_needTargets a_excludes a_sharers a_newest fc' fr' fp' ft' := by
      intro s' fc' fr' fp' ft' y' z' f' b' d' hs' hf h3 ac
      have vD : vp_in (nI D) 11 := vp_in_nI (by omega) (by decide)
      have eD : (nI D).toNatClampNeg = D := nI_clamp (by omega)
      rw [show 4097 - s' = (4097 - (s' + 1)) + 1 from by omega]
      refine br_f (nI_ge (b := 4096) (by omega) (by decide)) (br_f (nI_pos (by omega)) ⟨vD, nm_r (e' := nI 2) (by rw [eD]; exact h3) (br_t rfl (nm_e (nm_r (nI_1 s') ?_)))⟩)
      exact K (s' + 1) fc' fr' fp' ft' y' z' f' b' d' (by omega) hf ac
    have main : ∀ cA rA cB rB : Nat, cA < 2 ^ n → rA < 2 ^ n → cB < 2 ^ n → rB < 2 ^ n → uo_op n cA rA ≤ o → uo_op n cB rB ≤ o → (∀ S, uo_rc n wa un nc tg ex sh cA rA S ∨ uo_rc n wa un nc tg ex sh cB rB S ↔ uo_rc n wa un nc tg ex sh c r S) → (∀ S, uo_rc n wa un nc tg ex sh cA rA S → ¬ uo_rc n wa un nc tg ex sh cB rB S) →
        (∀ (s' : Nat) (fc' fr' fp' ft' : Nat → Int32) (y' z' f' b' d' : Int32), s' < 4096 → fc' D = nI c → fr' D = nI r → fp' D = nI p → ft' D = nI 1 → wX_search_187 post (wX_search_54 post (4097 - (s' + 1))) (nI D) (nI s') (nI n) (nI ins) (nI wc) f_ready (nI wa) (nI un) (nI cB) (nI rB) f_counting f' b' d' a_name a_version a_features a_needCount a_needWidth a_needPattern a_clashCount a_clashPattern a_wishName a_wishThere a_needTargets a_excludes a_sharers a_newest fc' fr' fp' (upd ft' D (nI 2)) → wX_search_54 post (4097 - s') (nI D) (nI s') (nI n) (nI ins) (nI wc) f_ready (nI wa) (nI un) y' z' f_counting f' b' d' a_name a_version a_features a_needCount a_needWidth a_needPattern a_clashCount a_clashPattern a_wishName a_wishThere a_needTargets a_excludes a_sharers a_newest fc' fr' fp' ft') →
        wX_search_187 post (wX_search_54 post (4097 - (s + 1))) (nI D) (nI s) (nI n) (nI ins) (nI wc) f_ready (nI wa) (nI un) (nI cA) (nI rA) f_counting f b d a_name a_version a_features a_needCount a_needWidth a_needPattern a_clashCount a_clashPattern a_wishName a_wishThere a_needTargets a_excludes a_sharers a_newest fc fr fp (upd ft D (nI 1)) := by
      intro cA rA cB rB hcA hrA hcB hrB hoA hoB hsp hap stepB
      refine uo_xtry T Q IH hcA hrA hoA (by omega) (by omega) (fun s1 fc1 fr1 fp1 ft1 y1 z1 f1 b1 d1 hs1 hf1 ac1 => ?_)
      obtain ⟨g1, g2, g3, g4⟩ := hf1 D (by omega)
      refine stepB s1 fc1 fr1 fp1 ft1 y1 z1 f1 b1 d1 (by omega) (g1.trans e1) (g2.trans e2) (g3.trans e3) (g4.trans pk_us) ?_
      refine uo_xtry T Q IH hcB hrB hoB (by omega) (by omega) (fun s2 fc2 fr2 fp2 ft2 y2 z2 f2 b2 d2 hs2 hf2 ac2 => ?_)
      obtain ⟨k1, k2, k3, k4⟩ := hf2 D (by omega)
      refine last s2 fc2 fr2 fp2 ft2 y2 z2 f2 b2 d2 (by omega) (fun i hi => ?_) (k4.trans pk_us) (uo_ac_cg (uo_ac_tr ac1 ac2 hap) hsp)
      obtain ⟨m1, m2, m3, m4⟩ := hf1 i (by omega)
      obtain ⟨n1, n2, n3, n4⟩ := hf2 i (by omega)
      rw [n1, n2, n3, n4, pk_un (by omega), m1, m2, m3, m4, pk_un (by omega)]
      exact ⟨rfl, rfl, rfl, rfl⟩
    have hcp : c ||| 2 ^ p < 2 ^ n := el_orlt hc (el_pwlt hp)
    have hrp : r ||| 2 ^ p < 2 ^ n := el_orlt hr (el_pwlt hp)
    have o1 : uo_op n (c ||| 2 ^ p) r ≤ o := by
      have := uo_op_c hp h1 h2
      omega
    have o2 : uo_op n c (r ||| 2 ^ p) ≤ o := by
      have := uo_op_r hp h1 h2
      omega
    refine uo_xst hi (by omega) (by omega) (by omega) (t := 0) (by omega) e1 e2 e3 e4 (fun g => ?_) (fun g => ?_)
    · refine main _ _ _ _ hcp hr hc hrp o1 o2 (fun S => (uo_split S).symm) (fun S => uo_apart S) (fun s' fc' fr' fp' ft' y' z' f' b' d' hs' a1 a2 a3 a4 G => ?_)
      exact uo_xst hi (by omega) (by omega) (by omega) (t := 1) (by omega) a1 a2 a3 a4 (fun g' => absurd (g'.mp (g.mpr rfl)) (by decide)) (fun _ => G)
    · refine main _ _ _ _ hc hrp hcp hr o2 o1 (fun S => or_comm.trans (uo_split S).symm) (fun S a b => uo_apart S b a) (fun s' fc' fr' fp' ft' y' z' f' b' d' hs' a1 a2 a3 a4 G => ?_)
      exact uo_xst hi (by omega) (by omega) (by omega) (t := 1) (by omega) a1 a2 a3 a4 (fun _ => G) (fun g' => absurd ⟨fun k => absurd ⟨fun _ => rfl, fun _ => k⟩ g, fun k => absurd k (by decide)⟩ g')
/-- after prepare -/
theorem uo_xsr {post : SX → Prop} (T : uo_ta n wa un nc tg ex sh nw a_needCount a_needTargets a_excludes a_sharers a_newest) (Q : uo_cq n ins wa un nc tg ex sh nw cs) (K : ∀ (fc fr fp ft : Nat → Int32) (y z f b d : Int32), uo_ac n cs f_counting (uo_rc n wa un nc tg ex sh 0 0) 0 (-3) 4096 f b d → post (nI n, nI ins, nI wc, f_ready, nI wa, nI un, y, z, f_counting, f, b, d, a_name, a_version, a_features, a_needCount, a_needWidth, a_needPattern, a_clashCount, a_clashPattern, a_wishName, a_wishThere, a_needTargets, a_excludes, a_sharers, a_newest, fc, fr, fp, ft)) :
    wpX_propagate (fun r_34 u => match u with | (q1, q2, q3, q4, q5, q6, q7, q8, q9, q10, q11, q12, q13, q14, q15, q16, q17, q18, q19, q20, q21, q22, q23, q24, q25, q26, q27, q28, q29, q30) => (((r_34 = 0 → (∃ n54 : Nat, wX_search_54 post n54 (-1) 0 q1 q2 q3 q4 q5 q6 q7 q8 q9 q10 q11 q12 q13 q14 q15 q16 q17 q18 q19 q20 q21 q22 q23 q24 q25 q26 q27 q28 q29 q30)) ∧ (¬ r_34 = 0 → (wpX_branch (fun r_185 u => match u with | (k1, k2, k3, k4, k5, k6, k7, k8, k9, k10, k11, k12, k13, k14, k15, k16, k17, k18, k19, k20, k21, k22, k23, k24, k25, k26, k27, k28, k29, k30) => (∃ n54 : Nat, wX_search_54 post n54 r_185 0 k1 k2 k3 k4 k5 k6 k7 k8 k9 k10 k11 k12 k13 k14 k15 k16 k17 k18 k19 k20 k21 k22 k23 k24 k25 k26 k27 k28 k29 k30)) (q1, q2, q3, q4, q5, q6, q7, q8, q9, q10, q11, q12, q13, q14, q15, q16, q17, q18, q19, q20, q21, q22, q23, q24, q25, q26, q27, q28, q29, q30) (-1)))))) (nI n, nI ins, nI wc, f_ready, nI wa, nI un, 0, 0, f_counting, 0, -3, 4096, a_name, a_version, a_features, a_needCount, a_needWidth, a_needPattern, a_clashCount, a_clashPattern, a_wishName, a_wishThere, a_needTargets, a_excludes, a_sharers, a_newest, a_frameChosen, a_frameRefused, a_framePackage, a_frameTried) := by
  have hn : n ≤ 10 := T.1
  have p1 : 0 < 2 ^ n := Nat.two_pow_pos n
  have E : ∀ (m : Nat) (s : Nat) (fc fr fp ft : Nat → Int32) (y z f b d : Int32), s < 4096 → uo_ac n cs f_counting (uo_rc n wa un nc tg ex sh 0 0) 0 (-3) 4096 f b d → wX_search_54 post (m + 1) (-1) (nI s) (nI n) (nI ins) (nI wc) f_ready (nI wa) (nI un) y z f_counting f b d a_name a_version a_features a_needCount a_needWidth a_needPattern a_clashCount a_clashPattern a_wishName a_wishThere a_needTargets a_excludes a_sharers a_newest fc fr fp ft :=
    fun m s fc fr fp ft y z f b d hs ac => br_f (nI_ge (b := 4096) hs (by decide)) (br_t (by decide) (K fc fr fp ft y z f b d ac))
  refine uo_xpr (c := 0) (r := 0) T p1 p1 (fun c2 r2 ps h1 h2 hd => br_f (by decide) ?_) (fun y z h0 => br_t rfl (Exists.intro 1 (E 0 0 _ _ _ _ _ _ _ _ _ (by omega) (uo_ac_0 h0))))
  have hc2 := ps.2.2.1
  have hr2 := ps.2.2.2.1
  have hrc := uo_ps_rc ps
  refine uo_xbr (D := 0) T Q.1 Q.2.1 hc2 hr2 (fun ha => Q.2.2.2 c2 r2 hc2 hr2 hd ha) h1 h2 hd (by omega) (by decide) (fun f' b' d' ac => Exists.intro 1 (E 0 0 _ _ _ _ _ _ _ _ _ (by omega) (uo_ac_cg ac (fun S => (hrc S).symm)))) (fun p hp hpc hpr => Exists.intro (4097 - 0) ?_)
  refine uo_xfp T Q 10 0 c2 r2 p 0 _ _ _ _ _ _ _ _ _ hc2 hr2 hp hpc hpr (Nat.le_trans (cz_le _ _) hn) (by omega) (by decide) pk_us pk_us pk_us pk_us (fun s' fc' fr' fp' ft' y' z' f' b' d' hs' _ ac => ?_)
  have hw : uo_w 10 = 3069 := by decide
  rw [show 4097 - s' = (4096 - s') + 1 from by omega]
  exact E _ s' _ _ _ _ _ _ _ _ _ (by omega) (uo_ac_cg ac (fun S => (hrc S).symm))
end
end
section
/-! the component: search over the prepared tables, its answers -/
theorem cz_ext {P : Nat → Prop} {n : Nat} (h : ∀ i, P i → i < n) : ∀ d, cz_ P (n + d) = cz_ P n := by
  intro d
  induction d with
  | zero => rfl
  | succ d ih =>
    rw [← Nat.add_assoc, cz_f (fun z => absurd (h _ z) (by omega)), ih]
section
variable {f_packageCount f_installed f_wishCount f_ready f_wantedNames f_unwantedNames f_chosen f_refused f_counting f_found f_bestSet f_bestCost : Int32} {a_name a_version a_features a_needCount a_needWidth a_needPattern a_clashCount a_clashPattern a_wishName a_wishThere a_needTargets a_excludes a_sharers a_newest a_frameChosen a_frameRefused a_framePackage a_frameTried : Nat → Int32}
variable {nF nX nB cF cX cB : Nat → Int32}
variable {n wc ins S : Nat}
theorem uo_cox {x : Nat} : 0 < uo_co n a_name S (nI x) ↔ ∃ q, el_ (mk_ (fun q => a_name q = nI x) n) q ∧ el_ S q := by
  constructor
  · intro h
    obtain ⟨q, hq, a, b⟩ := cz_ex h
    exact ⟨q, mk_el.mpr ⟨hq, b⟩, a⟩
  · rintro ⟨q, a, b⟩
    rw [mk_el] at a
    exact cz_pos a.1 ⟨b, a.2⟩
theorem uo_cs_lt (hn : n ≤ 10) : uo_cs n ins a_name a_version S < 4096 := by
  have h0 : uo_p0 n ins a_name S ≤ 5 := cz_le _ _
  have h1 : uo_p1 n ins S ≤ n := cz_le _ _
  have h2 : uo_p2 n a_name a_version S ≤ 5 := cz_le _ _
  unfold uo_cs
  omega
/-- the price of a set against what lowestCost counts -/
theorem uo_cs1 {c r : Nat} (hn : n ≤ 10) (hc : c < 2 ^ n) (hr : r < 2 ^ n) (h1 : ∀ i, el_ c i → el_ S i) (h2 : ∀ i, el_ r i → ¬ el_ S i) : uo_lc ins (fun x => mk_ (fun q => a_name q = nI x) n) (fun x => (uo_nw a_name a_version (nI x) n).toNatClampNeg) c r ≤ uo_cs n ins a_name a_version S := by
  have a0 : uo_l0 ins (fun x => mk_ (fun q => a_name q = nI x) n) r 5 ≤ uo_p0 n ins a_name S := by
    refine cz_mono (fun x hx h => ⟨uo_cox.mpr h.1, ?_⟩)
    apply Classical.byContradiction
    intro hne
    obtain ⟨q, a, b⟩ := uo_cox.mp (Nat.pos_of_ne_zero hne)
    exact h2 q (h.2 q a) b
  have a1 : uo_l1 ins c r 10 ≤ uo_p1 n ins S := by
    have e : uo_l1 ins c r 10 = uo_l1 ins c r n := by
      have := cz_ext (P := fun i => (el_ c i ∧ ¬ el_ ins i) ∨ (el_ r i ∧ el_ ins i)) (n := n) (fun i h => h.elim (fun z => el_lt hc z.1) (fun z => el_lt hr z.1)) (10 - n)
      rw [show n + (10 - n) = 10 from by omega] at this
      exact this
    rw [e]
    refine cz_mono (fun i hi h k => ?_)
    rcases h with ⟨a, b⟩ | ⟨a, b⟩
    · exact b (k.mp (h1 i a))
    · exact h2 i a (k.mpr b)
  have a2 : uo_l2 (fun x => mk_ (fun q => a_name q = nI x) n) (fun x => (uo_nw a_name a_version (nI x) n).toNatClampNeg) c r 5 ≤ uo_p2 n a_name a_version S := by
    refine cz_mono (fun x hx h => ⟨uo_cox.mpr ?_, h2 _ h.2⟩)
    obtain ⟨q, a, b⟩ := h.1
    exact ⟨q, a, h1 q b⟩
  unfold uo_lc uo_cs
  omega
theorem uo_cs2 {c r : Nat} (hn : n ≤ 10) (hc : c < 2 ^ n) (hr : r < 2 ^ n) (hd : uo_dj c r) (ha : ∀ i, i < n → el_ c i ∨ el_ r i) : uo_lc ins (fun x => mk_ (fun q => a_name q = nI x) n) (fun x => (uo_nw a_name a_version (nI x) n).toNatClampNeg) c r = uo_cs n ins a_name a_version c := by
  refine Nat.le_antisymm (uo_cs1 hn hc hr (fun _ h => h) (fun i a b => hd i b a)) ?_
  have hro : ∀ i, i < n → ¬ el_ c i → el_ r i := fun i hi h => (ha i hi).resolve_left h
  have a0 : uo_p0 n ins a_name c ≤ uo_l0 ins (fun x => mk_ (fun q => a_name q = nI x) n) r 5 := by
    refine cz_mono (fun x hx h => ⟨uo_cox.mp h.1, fun q hq => ?_⟩)
    refine hro q (mk_el.mp hq).1 (fun hcq => ?_)
    have := uo_cox.mpr ⟨q, hq, hcq⟩
    have := h.2
    omega
  have a1 : uo_p1 n ins c ≤ uo_l1 ins c r 10 := by
    have e : uo_l1 ins c r 10 = uo_l1 ins c r n := by
      have := cz_ext (P := fun i => (el_ c i ∧ ¬ el_ ins i) ∨ (el_ r i ∧ el_ ins i)) (n := n) (fun i h => h.elim (fun z => el_lt hc z.1) (fun z => el_lt hr z.1)) (10 - n)
      rw [show n + (10 - n) = 10 from by omega] at this
      exact this
    rw [e]
    refine cz_mono (fun i hi h => ?_)
    by_cases hci : el_ c i
    · exact Or.inl ⟨hci, fun k => h ⟨fun _ => k, fun _ => hci⟩⟩
    · refine Or.inr ⟨hro i hi hci, Classical.byContradiction (fun k => h ⟨fun z => absurd z hci, fun z => absurd z k⟩)⟩
  have a2 : uo_p2 n a_name a_version c ≤ uo_l2 (fun x => mk_ (fun q => a_name q = nI x) n) (fun x => (uo_nw a_name a_version (nI x) n).toNatClampNeg) c r 5 := by
    refine cz_mono (fun x hx h => ⟨uo_cox.mp h.1, hro _ ?_ h.2⟩)
    obtain ⟨q, a, b⟩ := uo_cox.mp h.1
    rw [mk_el] at a
    rcases uo_nwc (a_name := a_name) (a_version := a_version) (x := nI x) (m := n) hn with ⟨_, e⟩ | ⟨j, hj, e, _⟩
    · exact absurd a.2 (e q a.1)
    · dsimp only
      rw [e, nI_clamp (by omega)]
      exact hj
  unfold uo_lc uo_cs
  omega
theorem uo_cqOf (B : uo_ba n wc ins a_name a_needCount a_clashCount a_wishName a_wishThere) : uo_cq n ins (mk_ (uo_wd a_wishName a_wishThere wc) 5) (mk_ (uo_wu a_wishName a_wishThere wc) 5) (cl_ a_needCount) (fun j => mk_ (uo_tn a_name a_version a_features a_needWidth nF nX nB j) n) (fun p => mk_ (uo_ex a_name a_version a_features a_clashCount cF cX cB p) n) (fun x => mk_ (fun q => a_name q = nI x) n) (fun x => (uo_nw a_name a_version (nI x) n).toNatClampNeg) (uo_cs n ins a_name a_version) :=
  ⟨B.2.2.1, fun _ => uo_cs_lt B.1, fun _ _ _ hc hr h => uo_cs1 B.1 hc hr h.2.2.1 h.2.2.2, fun _ _ hc hr hd ha => uo_cs2 B.1 hc hr hd ha⟩
/-- search: it leaves prepared tables, the number of right sets (if it counts), the best one (if not) -/
theorem uo_xsearch {post : SX → Prop} {p0 : Int32} (B : uo_ba n wc ins a_name a_needCount a_clashCount a_wishName a_wishThere) (hpn : uo_pt a_needPattern nF nX nB) (hpc : uo_pt a_clashPattern cF cX cB) (R : f_ready = 0 ∨ uo_tb n wc a_name a_version a_features a_needCount a_needWidth a_clashCount nF nX nB cF cX cB a_wishName a_wishThere f_wantedNames f_unwantedNames a_needTargets a_excludes a_sharers a_newest) (hp : p0 = 0 ∨ p0 = 1)
    (K : ∀ (wa un : Int32) (t e s w : Nat → Int32), uo_tb n wc a_name a_version a_features a_needCount a_needWidth a_clashCount nF nX nB cF cX cB a_wishName a_wishThere wa un t e s w → ∀ (rd : Int32) (fc fr fp ft : Nat → Int32) (y z f b d : Int32), (¬ p0 = 0 → f = nI (cz_ (uo_rt n wc a_name a_version a_features a_needCount a_needWidth a_clashCount nF nX nB cF cX cB a_wishName a_wishThere) (2 ^ n))) → (p0 = 0 → ∃ o, uo_bst n (uo_cs n ins a_name a_version) (fun S => S < 2 ^ n ∧ uo_rt n wc a_name a_version a_features a_needCount a_needWidth a_clashCount nF nX nB cF cX cB a_wishName a_wishThere S) o ∧ b = uo_oI o ∧ d = uo_oC (uo_cs n ins a_name a_version) o) → post (nI n, nI ins, nI wc, rd, wa, un, y, z, p0, f, b, d, a_name, a_version, a_features, a_needCount, a_needWidth, a_needPattern, a_clashCount, a_clashPattern, a_wishName, a_wishThere, t, e, s, w, fc, fr, fp, ft)) : wpX_search post (nI n, nI ins, nI wc, f_ready, f_wantedNames, f_unwantedNames, f_chosen, f_refused, f_counting, f_found, f_bestSet, f_bestCost, a_name, a_version, a_features, a_needCount, a_needWidth, a_needPattern, a_clashCount, a_clashPattern, a_wishName, a_wishThere, a_needTargets, a_excludes, a_sharers, a_newest, a_frameChosen, a_frameRefused, a_framePackage, a_frameTried) p0 := by
  unfold wpX_search
  refine uo_xprep B hpn hpc R (fun wa un t e s w TB rd => And.intro ?_ (And.intro ?_ ?_))
  · rcases hp with h | h <;> subst h <;> rfl
  · rcases hp with h | h <;> subst h <;> rfl
  · obtain ⟨e1, e2, T⟩ := uo_taOf B TB
    have hrx : ∀ S, uo_rc n (mk_ (uo_wd a_wishName a_wishThere wc) 5) (mk_ (uo_wu a_wishName a_wishThere wc) 5) (cl_ a_needCount) (fun j => mk_ (uo_tn a_name a_version a_features a_needWidth nF nX nB j) n) (fun p => mk_ (uo_ex a_name a_version a_features a_clashCount cF cX cB p) n) (fun x => mk_ (fun q => a_name q = nI x) n) 0 0 S ↔ S < 2 ^ n ∧ uo_rt n wc a_name a_version a_features a_needCount a_needWidth a_clashCount nF nX nB cF cX cB a_wishName a_wishThere S := by
      intro S
      constructor
      · rintro ⟨a, b, _, _⟩
        exact ⟨b, (uo_rxrt B).mp a⟩
      · rintro ⟨a, b⟩
        exact ⟨(uo_rxrt B).mpr b, a, fun i h => absurd h el_0, fun i h => absurd h el_0⟩
    have TB' := TB
    subst e1 e2
    refine uo_xsr T (uo_cqOf B) (fun fc fr fp ft y z f b d ac => K _ _ t e s w TB' rd fc fr fp ft y z f b d (fun h => ?_) (fun h => ?_))
    · rw [ac.1 h, Int32.zero_add]
      refine congrArg nI (cz_cg (fun i hi => ?_))
      rw [hrx]
      exact ⟨fun k => k.2, fun k => ⟨hi, k⟩⟩
    · obtain ⟨o, h1, h2, h3⟩ := ac.2 h (fun _ => False) none (Or.inl ⟨rfl, fun _ h => h⟩) rfl rfl
      refine ⟨o, uo_bst_cg h1 (fun S => ?_), h2, h3⟩
      rw [hrx]
      exact ⟨fun k => k.elim False.elim id, Or.inr⟩
end
end
section
/-! the relation, and the methods that ask -/
/-- the reference's state is the component's own but for the patterns, which it holds in three arrays each; the tables, once they are said to be ready, are those of the world -/
def i_Rel (k : Nat) (u : SX) (v : SY) : Prop := match u with
  | (f_packageCount, f_installed, f_wishCount, f_ready, f_wantedNames, f_unwantedNames, f_chosen, f_refused, f_counting, f_found, f_bestSet, f_bestCost, a_name, a_version, a_features, a_needCount, a_needWidth, a_needPattern, a_clashCount, a_clashPattern, a_wishName, a_wishThere, a_needTargets, a_excludes, a_sharers, a_newest, a_frameChosen, a_frameRefused, a_framePackage, a_frameTried) => ∃ (n wc ins : Nat) (nF nX nB cF cX cB : Nat → Int32), f_packageCount = nI n ∧ f_installed = nI ins ∧ f_wishCount = nI wc ∧ v = (nI n, nI wc, nI ins, a_name, a_version, a_features, a_needCount, a_clashCount, a_needWidth, nF, nX, nB, cF, cX, cB, a_wishName, a_wishThere) ∧ uo_ba n wc ins a_name a_needCount a_clashCount a_wishName a_wishThere ∧ uo_pt a_needPattern nF nX nB ∧ uo_pt a_clashPattern cF cX cB ∧ (f_ready = 0 ∨ uo_tb n wc a_name a_version a_features a_needCount a_needWidth a_clashCount nF nX nB cF cX cB a_wishName a_wishThere f_wantedNames f_unwantedNames a_needTargets a_excludes a_sharers a_newest)
theorem uo_rel {P : SX → SY → Prop} {k : Nat} {u : SX} {v : SY} (I : i_Rel k u v) (h : ∀ (n wc ins : Nat) (f_ready f_wantedNames f_unwantedNames f_chosen f_refused f_counting f_found f_bestSet f_bestCost : Int32) (a_name a_version a_features a_needCount a_needWidth a_needPattern a_clashCount a_clashPattern a_wishName a_wishThere a_needTargets a_excludes a_sharers a_newest a_frameChosen a_frameRefused a_framePackage a_frameTried nF nX nB cF cX cB : Nat → Int32), uo_ba n wc ins a_name a_needCount a_clashCount a_wishName a_wishThere → uo_pt a_needPattern nF nX nB → uo_pt a_clashPattern cF cX cB → (f_ready = 0 ∨ uo_tb n wc a_name a_version a_features a_needCount a_needWidth a_clashCount nF nX nB cF cX cB a_wishName a_wishThere f_wantedNames f_unwantedNames a_needTargets a_excludes a_sharers a_newest) → P (nI n, nI ins, nI wc, f_ready, f_wantedNames, f_unwantedNames, f_chosen, f_refused, f_counting, f_found, f_bestSet, f_bestCost, a_name, a_version, a_features, a_needCount, a_needWidth, a_needPattern, a_clashCount, a_clashPattern, a_wishName, a_wishThere, a_needTargets, a_excludes, a_sharers, a_newest, a_frameChosen, a_frameRefused, a_framePackage, a_frameTried) (nI n, nI wc, nI ins, a_name, a_version, a_features, a_needCount, a_clashCount, a_needWidth, nF, nX, nB, cF, cX, cB, a_wishName, a_wishThere)) : P u v := by
  obtain ⟨f_packageCount, f_installed, f_wishCount, f_ready, f_wantedNames, f_unwantedNames, f_chosen, f_refused, f_counting, f_found, f_bestSet, f_bestCost, a_name, a_version, a_features, a_needCount, a_needWidth, a_needPattern, a_clashCount, a_clashPattern, a_wishName, a_wishThere, a_needTargets, a_excludes, a_sharers, a_newest, a_frameChosen, a_frameRefused, a_framePackage, a_frameTried⟩ := u
  obtain ⟨n, wc, ins, nF, nX, nB, cF, cX, cB, e1, e2, e3, e4, B, h1, h2, R⟩ := I
  subst e1 e2 e3 e4
  exact h n wc ins f_ready f_wantedNames f_unwantedNames f_chosen f_refused f_counting f_found f_bestSet f_bestCost a_name a_version a_features a_needCount a_needWidth a_needPattern a_clashCount a_clashPattern a_wishName a_wishThere a_needTargets a_excludes a_sharers a_newest a_frameChosen a_frameRefused a_framePackage a_frameTried nF nX nB cF cX cB B h1 h2 R
section
variable {f_packageCount f_installed f_wishCount f_ready f_wantedNames f_unwantedNames f_chosen f_refused f_counting f_found f_bestSet f_bestCost : Int32} {a_name a_version a_features a_needCount a_needWidth a_needPattern a_clashCount a_clashPattern a_wishName a_wishThere a_needTargets a_excludes a_sharers a_newest a_frameChosen a_frameRefused a_framePackage a_frameTried : Nat → Int32}
variable {nF nX nB cF cX cB : Nat → Int32}
variable {n wc ins k : Nat}
theorem uo_mkrel (B : uo_ba n wc ins a_name a_needCount a_clashCount a_wishName a_wishThere) (h1 : uo_pt a_needPattern nF nX nB) (h2 : uo_pt a_clashPattern cF cX cB) (R : f_ready = 0 ∨ uo_tb n wc a_name a_version a_features a_needCount a_needWidth a_clashCount nF nX nB cF cX cB a_wishName a_wishThere f_wantedNames f_unwantedNames a_needTargets a_excludes a_sharers a_newest) : i_Rel k (nI n, nI ins, nI wc, f_ready, f_wantedNames, f_unwantedNames, f_chosen, f_refused, f_counting, f_found, f_bestSet, f_bestCost, a_name, a_version, a_features, a_needCount, a_needWidth, a_needPattern, a_clashCount, a_clashPattern, a_wishName, a_wishThere, a_needTargets, a_excludes, a_sharers, a_newest, a_frameChosen, a_frameRefused, a_framePackage, a_frameTried) (nI n, nI wc, nI ins, a_name, a_version, a_features, a_needCount, a_clashCount, a_needWidth, nF, nX, nB, cF, cX, cB, a_wishName, a_wishThere) :=
  Exists.intro n (Exists.intro wc (Exists.intro ins ⟨nF, nX, nB, cF, cX, cB, rfl, rfl, rfl, rfl, B, h1, h2, R⟩))
end
theorem i_up {k : Nat} {u : SX} {v : SY} (h : i_Rel k u v) : i_Rel (k + 5) u v := h
theorem uo_cl0 (p : Nat) : (0 : Int32) = nI (cl_ (fun _ => 0) p) ∧ cl_ (fun _ => 0) p = 0 := by
  have e : cl_ (fun _ => 0) p = 0 := by
    show (0 : Int32).toNatClampNeg = 0
    decide
  rw [e]
  exact ⟨rfl, rfl⟩
theorem uo_pt0 : uo_pt (fun _ => 0) (fun _ => 0) (fun _ => 0) (fun _ => 0) := fun _ => Or.inl ⟨rfl, 0, 0, by omega, by omega, rfl, rfl, rfl⟩
theorem i_vc0 : wpX_init (fun u => wpY_init (fun v => i_Rel 0 u v)) := by
  unfold wpX_init wpY_init
  refine uo_mkrel (n := 0) (wc := 0) (ins := 0) (k := 0) ⟨by omega, by omega, by decide, ?_, ?_, ?_, ?_, ?_, ?_⟩ uo_pt0 uo_pt0 (Or.inl rfl)
  · intro p
    have := uo_cl0 p
    exact ⟨this.1, by omega⟩
  · intro p
    have := uo_cl0 p
    exact ⟨this.1, by omega⟩
  · intro p
    have := uo_cl0 p
    exact ⟨this.1, by omega⟩
  · intro p _
    exact ⟨rfl, rfl⟩
  · intro p
    have := uo_cl0 p
    exact ⟨this.1, by omega⟩
  · intro p
    exact Or.inl rfl
theorem i_vc_install {k : Nat} {u : SX} {v : SY} (I : i_Rel k u v) (hk : k + 5 ≤ 2560) (v1 : Int32) : wpX_install (fun r u' => wpY_install (fun r' v' => r' = r ∧ i_Rel (k + 5) u' v') v v1) u v1 := by
  refine uo_rel (P := fun u v => wpX_install (fun r u' => wpY_install (fun r' v' => r' = r ∧ i_Rel (k + 5) u' v') v v1) u v1) I ?_
  intro n wc ins f_ready f_wantedNames f_unwantedNames f_chosen f_refused f_counting f_found f_bestSet f_bestCost a_name a_version a_features a_needCount a_needWidth a_needPattern a_clashCount a_clashPattern a_wishName a_wishThere a_needTargets a_excludes a_sharers a_newest a_frameChosen a_frameRefused a_framePackage a_frameTried nF nX nB cF cX cB B hpn hpc R
  have hn : n ≤ 10 := B.1
  have p2 : 2 ^ n ≤ 1024 := el_p2 hn
  have e := uo_pw n (by omega)
  unfold wpX_install wpX_isSet wpY_install wpY_isSet
  dsimp only
  rw [e]
  by_cases h0 : v1 < 0
  · exact br_t h0 (br_t rfl (br_t h0 (br_t rfl ⟨rfl, uo_mkrel B hpn hpc R⟩)))
  · by_cases h1 : nI (2 ^ n) ≤ v1
    · exact br_f h0 (br_t h1 (br_t rfl (br_f h0 (br_t h1 (br_t rfl ⟨rfl, uo_mkrel B hpn hpc R⟩)))))
    · obtain ⟨j, hj, ej⟩ := nI_of h0
      have hlt : j < 2 ^ n := by
        rcases Nat.lt_or_ge j (2 ^ n) with h | h
        · exact h
        · rw [ej] at h1
          exact absurd (nI_le h hj) h1
      refine br_f h0 (br_f h1 (br_f (by decide) (br_f h0 (br_f h1 (br_f (by decide) ⟨rfl, ?_⟩)))))
      rw [ej]
      exact uo_mkrel ⟨hn, B.2.1, hlt, B.2.2.2⟩ hpn hpc R
theorem i_vc_dropWishes {k : Nat} {u : SX} {v : SY} (I : i_Rel k u v) (hk : k + 5 ≤ 2560) : wpX_dropWishes (fun r u' => wpY_dropWishes (fun r' v' => r' = r ∧ i_Rel (k + 5) u' v') v) u := by
  refine uo_rel (P := fun u v => wpX_dropWishes (fun r u' => wpY_dropWishes (fun r' v' => r' = r ∧ i_Rel (k + 5) u' v') v) u) I ?_
  intro n wc ins f_ready f_wantedNames f_unwantedNames f_chosen f_refused f_counting f_found f_bestSet f_bestCost a_name a_version a_features a_needCount a_needWidth a_needPattern a_clashCount a_clashPattern a_wishName a_wishThere a_needTargets a_excludes a_sharers a_newest a_frameChosen a_frameRefused a_framePackage a_frameTried nF nX nB cF cX cB B hpn hpc R
  exact And.intro rfl (uo_mkrel (wc := 0) ⟨B.1, by omega, B.2.2⟩ hpn hpc (Or.inl rfl))
theorem i_vc_right {k : Nat} {u : SX} {v : SY} (I : i_Rel k u v) (hk : k + 5 ≤ 2560) (v1 : Int32) : wpX_right (fun r u' => wpY_right (fun r' => r' = r ∧ i_Rel (k + 5) u' v) v v1) u v1 := by
  refine uo_rel (P := fun u v => wpX_right (fun r u' => wpY_right (fun r' => r' = r ∧ i_Rel (k + 5) u' v) v v1) u v1) I ?_
  intro n wc ins f_ready f_wantedNames f_unwantedNames f_chosen f_refused f_counting f_found f_bestSet f_bestCost a_name a_version a_features a_needCount a_needWidth a_needPattern a_clashCount a_clashPattern a_wishName a_wishThere a_needTargets a_excludes a_sharers a_newest a_frameChosen a_frameRefused a_framePackage a_frameTried nF nX nB cF cX cB B hpn hpc R
  have hn : n ≤ 10 := B.1
  have p2 : 2 ^ n ≤ 1024 := el_p2 hn
  have e := uo_pw n (by omega)
  unfold wpX_right wpX_isSet
  dsimp only
  rw [e]
  by_cases h0 : v1 < 0
  · exact br_t h0 (br_t rfl (uo_yright0 hn (Or.inl h0) ⟨rfl, uo_mkrel B hpn hpc R⟩))
  · by_cases h1 : nI (2 ^ n) ≤ v1
    · exact br_f h0 (br_t h1 (br_t rfl (uo_yright0 hn (Or.inr h1) ⟨rfl, uo_mkrel B hpn hpc R⟩)))
    · obtain ⟨j, hj, ej⟩ := nI_of h0
      have hlt : j < 2 ^ n := by
        rcases Nat.lt_or_ge j (2 ^ n) with h | h
        · exact h
        · rw [ej] at h1
          exact absurd (nI_le h hj) h1
      refine br_f h0 (br_f h1 (br_f (by decide) ?_))
      rw [ej]
      refine uo_xprep B hpn hpc R (fun wa un t e s w TB rd => Exists.intro (n + 1) ?_)
      obtain ⟨e1, e2, T⟩ := uo_taOf B TB
      have TB' := TB
      subst e1 e2
      exact uo_xr16 T hlt (fun h => uo_yright B hlt (fun _ => ⟨rfl, uo_mkrel B hpn hpc (Or.inr TB')⟩) (fun z => absurd ((uo_rxrt B).mp h) z)) (fun h => uo_yright B hlt (fun z => absurd ((uo_rxrt B).mpr z) h) (fun _ => ⟨rfl, uo_mkrel B hpn hpc (Or.inr TB')⟩)) n 0 (by omega) (fun _ h => absurd h (by omega))
theorem i_vc_best {k : Nat} {u : SX} {v : SY} (I : i_Rel k u v) (hk : k + 5 ≤ 2560) : wpX_best (fun r u' => wpY_best (fun r' => r' = r ∧ i_Rel (k + 5) u' v) v) u := by
  refine uo_rel (P := fun u v => wpX_best (fun r u' => wpY_best (fun r' => r' = r ∧ i_Rel (k + 5) u' v) v) u) I ?_
  intro n wc ins f_ready f_wantedNames f_unwantedNames f_chosen f_refused f_counting f_found f_bestSet f_bestCost a_name a_version a_features a_needCount a_needWidth a_needPattern a_clashCount a_clashPattern a_wishName a_wishThere a_needTargets a_excludes a_sharers a_newest a_frameChosen a_frameRefused a_framePackage a_frameTried nF nX nB cF cX cB B hpn hpc R
  unfold wpX_best
  refine uo_xsearch B hpn hpc R (Or.inl rfl) (fun wa un t e s w TB rd fc fr fp ft y z f b d _ hb => ?_)
  obtain ⟨o, h1, h2, h3⟩ := hb rfl
  refine uo_ybest B (fun o' h' => ⟨?_, uo_mkrel B hpn hpc (Or.inr TB)⟩)
  rw [uo_bst_un h' h1, h2]
theorem i_vc_rightSets {k : Nat} {u : SX} {v : SY} (I : i_Rel k u v) (hk : k + 5 ≤ 2560) : wpX_rightSets (fun r u' => wpY_rightSets (fun r' => r' = r ∧ i_Rel (k + 5) u' v) v) u := by
  refine uo_rel (P := fun u v => wpX_rightSets (fun r u' => wpY_rightSets (fun r' => r' = r ∧ i_Rel (k + 5) u' v) v) u) I ?_
  intro n wc ins f_ready f_wantedNames f_unwantedNames f_chosen f_refused f_counting f_found f_bestSet f_bestCost a_name a_version a_features a_needCount a_needWidth a_needPattern a_clashCount a_clashPattern a_wishName a_wishThere a_needTargets a_excludes a_sharers a_newest a_frameChosen a_frameRefused a_framePackage a_frameTried nF nX nB cF cX cB B hpn hpc R
  unfold wpX_rightSets
  refine uo_xsearch B hpn hpc R (Or.inr rfl) (fun wa un t e s w TB rd fc fr fp ft y z f b d hf _ => ?_)
  exact uo_yrs B ⟨(hf (by decide)).symm, uo_mkrel B hpn hpc (Or.inr TB)⟩
theorem uo_un0 : ∀ a, a < 6 → ∀ b, b < 11 → ∀ d, d < 6 → (nI (256 * a + 16 * b + d) >>> ((8 - (4 * nI 0)) &&& 31)) &&& 15 = nI a := by decide +kernel
theorem uo_un1 : ∀ a, a < 6 → ∀ b, b < 11 → ∀ d, d < 6 → (nI (256 * a + 16 * b + d) >>> ((8 - (4 * nI 1)) &&& 31)) &&& 15 = nI b := by decide +kernel
theorem uo_un2 : ∀ a, a < 6 → ∀ b, b < 11 → ∀ d, d < 6 → (nI (256 * a + 16 * b + d) >>> ((8 - (4 * nI 2)) &&& 31)) &&& 15 = nI d := by decide +kernel
theorem uo_unp {n ins : Nat} {a_name a_version : Nat → Int32} {j S : Nat} (hn : n ≤ 10) (hj : j ≤ 2) : (nI (uo_cs n ins a_name a_version S) >>> ((8 - (4 * nI j)) &&& 31)) &&& 15 = nI (uo_pr n ins a_name a_version j S) := by
  have h0 : uo_p0 n ins a_name S ≤ 5 := cz_le _ _
  have h1 : uo_p1 n ins S ≤ n := cz_le _ _
  have h2 : uo_p2 n a_name a_version S ≤ 5 := cz_le _ _
  rcases (by omega : j = 0 ∨ j = 1 ∨ j = 2) with e | e | e <;> subst e
  · exact uo_un0 _ (by omega) _ (by omega) _ (by omega)
  · exact uo_un1 _ (by omega) _ (by omega) _ (by omega)
  · exact uo_un2 _ (by omega) _ (by omega) _ (by omega)
section
variable {f_packageCount f_installed f_wishCount f_ready f_wantedNames f_unwantedNames f_chosen f_refused f_counting f_found f_bestSet f_bestCost : Int32} {a_name a_version a_features a_needCount a_needWidth a_needPattern a_clashCount a_clashPattern a_wishName a_wishThere a_needTargets a_excludes a_sharers a_newest a_frameChosen a_frameRefused a_framePackage a_frameTried : Nat → Int32}
variable {nF nX nB cF cX cB : Nat → Int32}
variable {n wc ins : Nat}
theorem uo_ycost {post : Int32 → Prop} {j : Nat} (B : uo_ba n wc ins a_name a_needCount a_clashCount a_wishName a_wishThere) (hj : j ≤ 2) (J : ∀ o, uo_bst n (uo_cs n ins a_name a_version) (fun S => S < 2 ^ n ∧ uo_rt n wc a_name a_version a_features a_needCount a_needWidth a_clashCount nF nX nB cF cX cB a_wishName a_wishThere S) o → (o = none → post (-3)) ∧ (∀ S, o = some S → post (nI (uo_pr n ins a_name a_version j S)))) : wpY_cost post (nI n, nI wc, nI ins, a_name, a_version, a_features, a_needCount, a_clashCount, a_needWidth, nF, nX, nB, cF, cX, cB, a_wishName, a_wishThere) (nI j) := by
  have hn : n ≤ 10 := B.1
  unfold wpY_cost
  dsimp only
  refine br_f (nI_pos (by omega)) (br_t (nI_le (b := 2) hj (by decide)) (uo_ybest B (fun o h => ?_)))
  obtain ⟨j1, j2⟩ := J o h
  rcases h with ⟨eo, _⟩ | ⟨S, eo, hS, _, _⟩
  · rw [eo]
    exact br_t rfl (j1 eo)
  · rw [eo]
    have hS31 : S < 2 ^ 31 := el_31 hS hn
    have hne : ¬ nI S = (-3 : Int32) := by
      intro z
      have := congrArg Int32.toInt z
      rw [nI_toInt hS31, show (-3 : Int32).toInt = -3 from by decide] at this
      omega
    exact br_f hne (uo_ypr hn hS31 (el_31 B.2.2.1 hn) (by omega) (j2 S eo))
theorem uo_ycost0 {post : Int32 → Prop} {x : Int32} (h : x < 0 ∨ ¬ x ≤ 2) (J : post (-1)) : wpY_cost post (nI n, nI wc, nI ins, a_name, a_version, a_features, a_needCount, a_clashCount, a_needWidth, nF, nX, nB, cF, cX, cB, a_wishName, a_wishThere) x := by
  unfold wpY_cost
  dsimp only
  by_cases h0 : x < 0
  · exact br_t h0 J
  · exact br_f h0 (br_f (h.resolve_left h0) J)
end
theorem i_vc_cost {k : Nat} {u : SX} {v : SY} (I : i_Rel k u v) (hk : k + 5 ≤ 2560) (v1 : Int32) : wpX_cost (fun r u' => wpY_cost (fun r' => r' = r ∧ i_Rel (k + 5) u' v) v v1) u v1 := by
  refine uo_rel (P := fun u v => wpX_cost (fun r u' => wpY_cost (fun r' => r' = r ∧ i_Rel (k + 5) u' v) v v1) u v1) I ?_
  intro n wc ins f_ready f_wantedNames f_unwantedNames f_chosen f_refused f_counting f_found f_bestSet f_bestCost a_name a_version a_features a_needCount a_needWidth a_needPattern a_clashCount a_clashPattern a_wishName a_wishThere a_needTargets a_excludes a_sharers a_newest a_frameChosen a_frameRefused a_framePackage a_frameTried nF nX nB cF cX cB B hpn hpc R
  have hn : n ≤ 10 := B.1
  unfold wpX_cost
  dsimp only
  by_cases h0 : v1 < 0
  · exact br_t h0 (uo_ycost0 (Or.inl h0) ⟨rfl, uo_mkrel B hpn hpc R⟩)
  · by_cases h1 : v1 ≤ 2
    · obtain ⟨j, hj, ej⟩ := nI_of2 (M := 2) (n := 2) (by decide) h0 h1
      refine br_f h0 (br_t h1 (uo_xsearch B hpn hpc R (Or.inl rfl) (fun wa un t e s w TB rd fc fr fp ft y z f b d _ hb => ?_)))
      obtain ⟨o, a1, a2, a3⟩ := hb rfl
      subst ej
      have a1' := a1
      rcases a1 with ⟨eo, _⟩ | ⟨S, eo, hS, _, _⟩
      · rw [eo] at a2
        have hz : ¬ (0 : Int32) ≤ b := by
          rw [a2]
          decide
        refine br_f hz (uo_ycost B hj (fun o' h' => ⟨fun _ => ⟨rfl, uo_mkrel B hpn hpc (Or.inr TB)⟩, fun S z => ?_⟩))
        rw [uo_bst_un h' a1', eo] at z
        cases z
      · have hS31 : S < 2 ^ 31 := el_31 hS hn
        refine br_t (by rw [a2, eo]; exact nI_pos' hS31) (uo_ycost B hj (fun o' h' => ⟨fun z => ?_, fun S' z => ⟨?_, uo_mkrel B hpn hpc (Or.inr TB)⟩⟩))
        · rw [uo_bst_un h' a1', eo] at z
          cases z
        · rw [uo_bst_un h' a1', eo] at z
          cases z
          rw [a3, eo]
          exact (uo_unp hn hj).symm
    · exact br_f h0 (br_f h1 (uo_ycost0 (Or.inr h1) ⟨rfl, uo_mkrel B hpn hpc R⟩))
end
section
/-! addPackage, wish -/
theorem uo_rgu {a : Nat → Int32} (Q : Nat → Prop) {i m : Nat} (h : ∀ p, a p = nI (cl_ a p) ∧ Q (cl_ a p)) (hm : Q m) (hb : m < 2 ^ 31) : ∀ p, upd a i (nI m) p = nI (cl_ (upd a i (nI m)) p) ∧ Q (cl_ (upd a i (nI m)) p) := by
  intro p
  by_cases hp : p = i
  · subst hp
    have e : cl_ (upd a p (nI m)) p = m := by
      unfold cl_
      rw [pk_us, nI_clamp hb]
    rw [e, pk_us]
    exact ⟨rfl, hm⟩
  · have e : cl_ (upd a i (nI m)) p = cl_ a p := by
      unfold cl_
      rw [pk_un hp]
    rw [e, pk_un hp]
    exact h p
theorem uo_upd0 {a : Nat → Int32} {i : Nat} (h : a i = 0) : upd a i 0 = a := by
  funext j
  by_cases hj : j = i
  · subst hj
    rw [pk_us, h]
  · rw [pk_un hj]
theorem uo_bnd {x : Int32} (lo hi : Nat) (hlo : lo < 2 ^ 31) (hhi : hi < 2 ^ 31) (h1 : ¬ x < nI lo) (h2 : ¬ nI hi < x) : ∃ j, lo ≤ j ∧ j ≤ hi ∧ x = nI j := by
  have h0 : ¬ x < 0 := by
    rw [Int32.lt_iff_toInt_lt, nI_toInt hlo] at h1
    rw [Int32.lt_iff_toInt_lt, show (0 : Int32).toInt = 0 from by decide]
    omega
  obtain ⟨j, hj, rfl⟩ := nI_of h0
  rw [nI_ltI hj hlo] at h1
  rw [nI_ltI hhi hj] at h2
  exact ⟨j, by omega, by omega, rfl⟩
section
variable {f_packageCount f_installed f_wishCount f_ready f_wantedNames f_unwantedNames f_chosen f_refused f_counting f_found f_bestSet f_bestCost : Int32} {a_name a_version a_features a_needCount a_needWidth a_needPattern a_clashCount a_clashPattern a_wishName a_wishThere a_needTargets a_excludes a_sharers a_newest a_frameChosen a_frameRefused a_framePackage a_frameTried : Nat → Int32}
variable {nF nX nB cF cX cB : Nat → Int32}
variable {n wc ins : Nat}
theorem uo_xad {post : Int32 → SX → Prop} {a b g : Nat} (hn : n < 10) (ha : a < 128) (hb : b < 128) (hg : g < 128) (D : (∃ p, p < n ∧ a_name p = nI a ∧ a_version p = nI b) → post (-1) (nI n, nI ins, nI wc, f_ready, f_wantedNames, f_unwantedNames, f_chosen, f_refused, f_counting, f_found, f_bestSet, f_bestCost, a_name, a_version, a_features, a_needCount, a_needWidth, a_needPattern, a_clashCount, a_clashPattern, a_wishName, a_wishThere, a_needTargets, a_excludes, a_sharers, a_newest, a_frameChosen, a_frameRefused, a_framePackage, a_frameTried)) (A : ¬ (∃ p, p < n ∧ a_name p = nI a ∧ a_version p = nI b) → post (nI n) (nI (n + 1), nI ins, nI wc, 0, f_wantedNames, f_unwantedNames, f_chosen, f_refused, f_counting, f_found, f_bestSet, f_bestCost, upd a_name n (nI a), upd a_version n (nI b), upd a_features n (nI g), a_needCount, a_needWidth, a_needPattern, a_clashCount, a_clashPattern, a_wishName, a_wishThere, a_needTargets, a_excludes, a_sharers, a_newest, a_frameChosen, a_frameRefused, a_framePackage, a_frameTried)) : ∀ d p, p + d = n → (∀ i, i < p → ¬ (a_name i = nI a ∧ a_version i = nI b)) → wX_addPackage_47 post (nI a) (nI b) (nI g) (nI n) (nI ins) (nI wc) f_ready f_wantedNames f_unwantedNames f_chosen f_refused f_counting f_found f_bestSet f_bestCost a_name a_version a_features a_needCount a_needWidth a_needPattern a_clashCount a_clashPattern a_wishName a_wishThere a_needTargets a_excludes a_sharers a_newest a_frameChosen a_frameRefused a_framePackage a_frameTried (d + 1) (nI p) := by
  intro d
  induction d with
  | zero =>
    intro p hp hq
    have e : p = n := by omega
    subst e
    have ep : (nI p).toNatClampNeg = p := nI_clamp (by omega)
    have vp : vp_in (nI p) 10 := vp_in_nI (by omega) (by decide)
    refine br_t (nI_le (Nat.le_refl _) (by omega)) ?_
    rw [ep, uo_nb a ha, uo_nb b hb, uo_nb g hg]
    refine ⟨vp, nm_e ⟨vp, nm_e ⟨vp, nm_e (nm_r (nI_1 p) (A ?_))⟩⟩⟩
    rintro ⟨i, h1, h2⟩
    exact hq i h1 h2
  | succ d ih =>
    intro p hp hq
    have ep : (nI p).toNatClampNeg = p := nI_clamp (by omega)
    have vp : vp_in (nI p) 10 := vp_in_nI (by omega) (by decide)
    have I := ih (p + 1) (by omega)
    refine br_f (nI_ge (by omega) (by omega)) ⟨vp, ?_⟩
    rw [ep]
    exact br_c (fun h1 => ⟨vp, br_c (fun h2 => D ⟨p, by omega, h1, h2⟩) (fun h2 => nm_r (nI_1 p) (I (lt_s hq (fun z => h2 z.2))))⟩) (fun h1 => nm_r (nI_1 p) (I (lt_s hq (fun z => h1 z.1))))
theorem uo_yad {post : Int32 → SY → Prop} {a b g : Nat} (B : uo_ba n wc ins a_name a_needCount a_clashCount a_wishName a_wishThere) (hn : n < 10) (D : (∃ p, p < n ∧ a_name p = nI a ∧ a_version p = nI b) → post (-1) (nI n, nI wc, nI ins, a_name, a_version, a_features, a_needCount, a_clashCount, a_needWidth, nF, nX, nB, cF, cX, cB, a_wishName, a_wishThere)) (A : ¬ (∃ p, p < n ∧ a_name p = nI a ∧ a_version p = nI b) → post (nI n) (nI (n + 1), nI wc, nI ins, upd a_name n (nI a), upd a_version n (nI b), upd a_features n (nI g), a_needCount, a_clashCount, a_needWidth, nF, nX, nB, cF, cX, cB, a_wishName, a_wishThere)) : ∀ d p, p + d = n → (∀ i, i < p → ¬ (a_name i = nI a ∧ a_version i = nI b)) → wY_addPackage_47 post (nI a) (nI b) (nI g) (nI n) (nI wc) (nI ins) a_name a_version a_features a_needCount a_clashCount a_needWidth nF nX nB cF cX cB a_wishName a_wishThere (d + 1) (nI p) := by
  obtain ⟨_, _, _, _, _, _, hz, _, _⟩ := B
  obtain ⟨z1, z2⟩ := hz n (Nat.le_refl _)
  intro d
  induction d with
  | zero =>
    intro p hp hq
    have e : p = n := by omega
    subst e
    have ep : (nI p).toNatClampNeg = p := nI_clamp (by omega)
    have vp : vp_in (nI p) 10 := vp_in_nI (by omega) (by decide)
    refine br_t (nI_le (Nat.le_refl _) (by omega)) ?_
    rw [ep, uo_upd0 z1, uo_upd0 z2]
    refine ⟨vp, nm_e ⟨vp, nm_e ⟨vp, nm_e ⟨vp, nm_e ⟨vp, nm_e (nm_r (nI_1 p) ?_)⟩⟩⟩⟩⟩
    rw [nI_pred]
    refine A ?_
    rintro ⟨i, h1, h2⟩
    exact hq i h1 h2
  | succ d ih =>
    intro p hp hq
    have ep : (nI p).toNatClampNeg = p := nI_clamp (by omega)
    have vp : vp_in (nI p) 10 := vp_in_nI (by omega) (by decide)
    have I := ih (p + 1) (by omega)
    refine br_f (nI_ge (by omega) (by omega)) ⟨vp, ?_⟩
    rw [ep]
    exact br_c (fun h1 => ⟨vp, br_c (fun h2 => D ⟨p, by omega, h1, h2⟩) (fun h2 => nm_r (nI_1 p) (I (lt_s hq (fun z => h2 z.2))))⟩) (fun h1 => nm_r (nI_1 p) (I (lt_s hq (fun z => h1 z.1))))
end
theorem i_vc_addPackage {k : Nat} {u : SX} {v : SY} (I : i_Rel k u v) (hk : k + 5 ≤ 2560) (v1 : Int32) (v2 : Int32) (v3 : Int32) : wpX_addPackage (fun r u' => wpY_addPackage (fun r' v' => r' = r ∧ i_Rel (k + 5) u' v') v v1 v2 v3) u v1 v2 v3 := by
  refine uo_rel (P := fun u v => wpX_addPackage (fun r u' => wpY_addPackage (fun r' v' => r' = r ∧ i_Rel (k + 5) u' v') v v1 v2 v3) u v1 v2 v3) I ?_
  intro n wc ins f_ready f_wantedNames f_unwantedNames f_chosen f_refused f_counting f_found f_bestSet f_bestCost a_name a_version a_features a_needCount a_needWidth a_needPattern a_clashCount a_clashPattern a_wishName a_wishThere a_needTargets a_excludes a_sharers a_newest a_frameChosen a_frameRefused a_framePackage a_frameTried nF nX nB cF cX cB B hpn hpc R
  have hn : n ≤ 10 := B.1
  have Z := uo_mkrel (k := k + 5) (f_chosen := f_chosen) (f_refused := f_refused) (f_counting := f_counting) (f_found := f_found) (f_bestSet := f_bestSet) (f_bestCost := f_bestCost) (a_frameChosen := a_frameChosen) (a_frameRefused := a_frameRefused) (a_framePackage := a_framePackage) (a_frameTried := a_frameTried) B hpn hpc R
  unfold wpX_addPackage wpY_addPackage
  dsimp only
  rcases Nat.lt_or_ge n 10 with h10 | h10
  · have q1 : nI n < 10 := nI_lt (b := 10) h10 (by decide)
    have q2 : ¬ nI n = 10 := fun z => absurd ((nI_eq (b := 10) (by omega) (by decide)).mp z) (by omega)
    by_cases c1 : v1 < 0
    · exact br_t q1 (br_t c1 (br_f q2 (br_t c1 ⟨rfl, Z⟩)))
    by_cases c2 : 4 < v1
    · exact br_t q1 (br_f c1 (br_t c2 (br_f q2 (br_f c1 (br_t c2 ⟨rfl, Z⟩)))))
    by_cases c3 : v2 < 1
    · exact br_t q1 (br_f c1 (br_f c2 (br_t c3 (br_f q2 (br_f c1 (br_f c2 (br_t c3 ⟨rfl, Z⟩)))))))
    by_cases c4 : 9 < v2
    · exact br_t q1 (br_f c1 (br_f c2 (br_f c3 (br_t c4 (br_f q2 (br_f c1 (br_f c2 (br_f c3 (br_t c4 ⟨rfl, Z⟩)))))))))
    by_cases c5 : v3 < 0
    · exact br_t q1 (br_f c1 (br_f c2 (br_f c3 (br_f c4 (br_t c5 (br_f q2 (br_f c1 (br_f c2 (br_f c3 (br_f c4 (br_t c5 ⟨rfl, Z⟩)))))))))))
    by_cases c6 : v3 ≤ 15
    · obtain ⟨a, _, ha, rfl⟩ := uo_bnd (x := v1) 0 4 (by omega) (by omega) c1 c2
      obtain ⟨b, _, hb, rfl⟩ := uo_bnd (x := v2) 1 9 (by omega) (by omega) c3 c4
      obtain ⟨g, _, hg, rfl⟩ := uo_bnd (x := v3) 0 15 (by omega) (by omega) c5 (fun z => absurd (Int32.not_lt.mpr c6) (fun y => y z))
      refine br_t q1 (br_f c1 (br_f c2 (br_f c3 (br_f c4 (br_f c5 (br_t c6 (Exists.intro (n + 1) ?_)))))))
      refine uo_xad h10 (by omega) (by omega) (by omega) (fun hd => br_f q2 (br_f c1 (br_f c2 (br_f c3 (br_f c4 (br_f c5 (br_t c6 (Exists.intro (n + 1) ?_)))))))) (fun hd => br_f q2 (br_f c1 (br_f c2 (br_f c3 (br_f c4 (br_f c5 (br_t c6 (Exists.intro (n + 1) ?_)))))))) n 0 (by omega) (fun _ h => absurd h (by omega))
      · exact uo_yad B h10 (fun _ => ⟨rfl, Z⟩) (fun z => absurd hd z) n 0 (by omega) (fun _ h => absurd h (by omega))
      · refine uo_yad B h10 (fun z => absurd z hd) (fun _ => ⟨rfl, uo_mkrel ⟨by omega, B.2.1, ?_, ?_, B.2.2.2.2.1, B.2.2.2.2.2.1, ?_, B.2.2.2.2.2.2.2⟩ hpn hpc (Or.inl rfl)⟩) n 0 (by omega) (fun _ h => absurd h (by omega))
        · exact Nat.lt_trans B.2.2.1 (el_pwlt (by omega))
        · exact uo_rgu (fun m => m < 5) B.2.2.2.1 (by omega) (by omega)
        · intro p hp
          exact B.2.2.2.2.2.2.1 p (by omega)
    · exact br_t q1 (br_f c1 (br_f c2 (br_f c3 (br_f c4 (br_f c5 (br_f c6 (br_f q2 (br_f c1 (br_f c2 (br_f c3 (br_f c4 (br_f c5 (br_f c6 ⟨rfl, Z⟩)))))))))))))
  · have e : n = 10 := by omega
    have q1 : ¬ nI n < 10 := nI_nlt (b := 10) h10 (by omega)
    have q2 : nI n = 10 := by
      rw [e]
      rfl
    exact br_f q1 (br_t q2 ⟨rfl, Z⟩)
theorem uo_nz01 (v : Int32) : vp_nar .boolean (lw_bz v) = lw_bz v := by
  rcases lw_bz_01 v with e | e <;> rw [e] <;> rfl
theorem i_vc_wish {k : Nat} {u : SX} {v : SY} (I : i_Rel k u v) (hk : k + 5 ≤ 2560) (v1 : Int32) (v2 : Int32) : wpX_wish (fun r u' => wpY_wish (fun r' v' => r' = r ∧ i_Rel (k + 5) u' v') v v1 (lw_bz v2)) u v1 (lw_bz v2) := by
  refine uo_rel (P := fun u v => wpX_wish (fun r u' => wpY_wish (fun r' v' => r' = r ∧ i_Rel (k + 5) u' v') v v1 (lw_bz v2)) u v1 (lw_bz v2)) I ?_
  intro n wc ins f_ready f_wantedNames f_unwantedNames f_chosen f_refused f_counting f_found f_bestSet f_bestCost a_name a_version a_features a_needCount a_needWidth a_needPattern a_clashCount a_clashPattern a_wishName a_wishThere a_needTargets a_excludes a_sharers a_newest a_frameChosen a_frameRefused a_framePackage a_frameTried nF nX nB cF cX cB B hpn hpc R
  have hw : wc ≤ 4 := B.2.1
  have Z := uo_mkrel (k := k + 5) (f_chosen := f_chosen) (f_refused := f_refused) (f_counting := f_counting) (f_found := f_found) (f_bestSet := f_bestSet) (f_bestCost := f_bestCost) (a_frameChosen := a_frameChosen) (a_frameRefused := a_frameRefused) (a_framePackage := a_framePackage) (a_frameTried := a_frameTried) B hpn hpc R
  unfold wpX_wish wpY_wish
  dsimp only
  by_cases c1 : v1 < 0
  · exact br_t c1 (br_t c1 ⟨rfl, Z⟩)
  by_cases c2 : v1 ≤ 4
  · obtain ⟨a, ha, rfl⟩ := nI_of2 (M := 4) (n := 4) (by decide) c1 c2
    rcases Nat.lt_or_ge wc 4 with h4 | h4
    · have q1 : nI wc < 4 := nI_lt (b := 4) h4 (by decide)
      have q2 : ¬ nI wc = 4 := fun z => absurd ((nI_eq (b := 4) (by omega) (by decide)).mp z) (by omega)
      have ew : (nI wc).toNatClampNeg = wc := nI_clamp (by omega)
      have vw : vp_in (nI wc) 4 := vp_in_nI h4 (by decide)
      rw [ew, uo_nb a (by omega), uo_nz01]
      refine br_f c1 (br_t c2 (br_t q1 ⟨vw, nm_e ⟨vw, nm_e (nm_r (nI_1 wc) (br_f c1 (br_t c2 (br_f q2 ⟨vw, nm_e ⟨vw, nm_e (nm_r (nI_1 wc) ⟨rfl, ?_⟩)⟩⟩)))) ⟩⟩))
      refine uo_mkrel ⟨B.1, by omega, B.2.2.1, B.2.2.2.1, B.2.2.2.2.1, B.2.2.2.2.2.1, B.2.2.2.2.2.2.1, ?_, ?_⟩ hpn hpc (Or.inl rfl)
      · exact uo_rgu (fun m => m < 5) B.2.2.2.2.2.2.2.1 (by omega) (by omega)
      · intro w
        by_cases hwe : w = wc
        · subst hwe
          rw [pk_us]
          exact lw_bz_01 v2
        · rw [pk_un hwe]
          exact B.2.2.2.2.2.2.2.2 w
    · have e : wc = 4 := by omega
      have q1 : ¬ nI wc < 4 := nI_nlt (b := 4) h4 (by omega)
      have q2 : nI wc = 4 := by
        rw [e]
        rfl
      exact br_f c1 (br_t c2 (br_f q1 (br_f c1 (br_t c2 (br_t q2 ⟨rfl, Z⟩)))))
  · exact br_f c1 (br_f c2 (br_f c1 (br_f c2 ⟨rfl, Z⟩)))
end
section
/-! need, orNeed, clash -/
def uo_vp (f x b : Int32) : Prop := (f = 0 ∧ ¬ x < 0 ∧ ¬ 4 < x ∧ ¬ b < 1 ∧ ¬ 9 < b) ∨ (¬ f = 0 ∧ ¬ x < 0 ∧ ¬ 3 < x)
def uo_pv (f x b v : Int32) : Prop := (f = 0 ∧ ∃ y d, y < 5 ∧ d < 10 ∧ x = nI y ∧ b = nI d ∧ v = nI (10 * y + d)) ∨ (¬ f = 0 ∧ ∃ y, y < 4 ∧ x = nI y ∧ v = nI (50 + y))
theorem uo_ptu {pat nF nX nB : Nat → Int32} {f x b v : Int32} {i : Nat} (h : uo_pt pat nF nX nB) (hv : uo_pv f x b v) : uo_pt (upd pat i v) (upd nF i f) (upd nX i x) (upd nB i b) := by
  intro j
  by_cases hj : j = i
  · subst hj
    rw [pk_us, pk_us, pk_us, pk_us]
    exact hv
  · rw [pk_un hj, pk_un hj, pk_un hj, pk_un hj]
    exact h j
theorem uo_pvn {f x b v : Int32} (h : uo_pv f x b v) : vp_nar .byte v = v := by
  rcases h with ⟨_, y, d, hy, hd, _, _, e⟩ | ⟨_, y, hy, _, e⟩
  · rw [e]
    exact uo_nb2 (by omega)
  · rw [e]
    exact uo_nb2 (by omega)
section
variable {f_packageCount f_installed f_wishCount f_ready f_wantedNames f_unwantedNames f_chosen f_refused f_counting f_found f_bestSet f_bestCost : Int32} {a_name a_version a_features a_needCount a_needWidth a_needPattern a_clashCount a_clashPattern a_wishName a_wishThere a_needTargets a_excludes a_sharers a_newest a_frameChosen a_frameRefused a_framePackage a_frameTried : Nat → Int32}
variable {nF nX nB cF cX cB : Nat → Int32}
variable {n wc ins p : Nat} {f x b : Int32}
theorem uo_xisp {post : Int32 → Prop} (t : uo_vp f x b → post 1) (g : ¬ uo_vp f x b → post 0) : wpX_isPattern post (nI n, nI ins, nI wc, f_ready, f_wantedNames, f_unwantedNames, f_chosen, f_refused, f_counting, f_found, f_bestSet, f_bestCost, a_name, a_version, a_features, a_needCount, a_needWidth, a_needPattern, a_clashCount, a_clashPattern, a_wishName, a_wishThere, a_needTargets, a_excludes, a_sharers, a_newest, a_frameChosen, a_frameRefused, a_framePackage, a_frameTried) f x b := by
  unfold wpX_isPattern
  dsimp only
  refine br_c (fun h => br_c (fun h1 => g ?_) (fun h1 => br_c (fun h2 => g ?_) (fun h2 => br_c (fun h3 => g ?_) (fun h3 => br_c (fun h4 => g ?_) (fun h4 => t (Or.inl ⟨h, h1, h2, h3, h4⟩)))))) (fun h => br_c (fun h1 => g ?_) (fun h1 => br_c (fun h2 => g ?_) (fun h2 => t (Or.inr ⟨h, h1, h2⟩))))
  · rintro (⟨_, a, _⟩ | ⟨a, _⟩)
    · exact a h1
    · exact a h
  · rintro (⟨_, _, a, _⟩ | ⟨a, _⟩)
    · exact a h2
    · exact a h
  · rintro (⟨_, _, _, a, _⟩ | ⟨a, _⟩)
    · exact a h3
    · exact a h
  · rintro (⟨_, _, _, _, a⟩ | ⟨a, _⟩)
    · exact a h4
    · exact a h
  · rintro (⟨a, _⟩ | ⟨_, a, _⟩)
    · exact h a
    · exact a h1
  · rintro (⟨a, _⟩ | ⟨_, _, a⟩)
    · exact h a
    · exact a h2
theorem uo_yff {post : Int32 → Prop} (hn : n ≤ 10) (hp : p < n) (t : uo_vp f x b → post 1) (g : ¬ uo_vp f x b → post 0) : wpY_fitsForm post (nI n, nI wc, nI ins, a_name, a_version, a_features, a_needCount, a_clashCount, a_needWidth, nF, nX, nB, cF, cX, cB, a_wishName, a_wishThere) (nI p) f x b := by
  unfold wpY_fitsForm
  dsimp only
  refine br_f (nI_pos (by omega)) (br_f (nI_ge hp (by omega)) (br_c (fun h0 => ?_) (fun h0 => g ?_)))
  · have h1 : ¬ x < 0 := Int32.not_lt.mpr h0
    refine br_c (fun h => br_c (fun h2 => g ?_) (fun h2 => br_c (fun h3 => g ?_) (fun h3 => br_c (fun h4 => g ?_) (fun h4 => t (Or.inl ⟨h, h1, h2, h3, h4⟩))))) (fun h => br_c (fun h2 => g ?_) (fun h2 => t (Or.inr ⟨h, h1, h2⟩)))
    · rintro (⟨_, _, a, _⟩ | ⟨a, _⟩)
      · exact a h2
      · exact a h
    · rintro (⟨_, _, _, a, _⟩ | ⟨a, _⟩)
      · exact a h3
      · exact a h
    · rintro (⟨_, _, _, _, a⟩ | ⟨a, _⟩)
      · exact a h4
      · exact a h
    · rintro (⟨a, _⟩ | ⟨_, _, a⟩)
      · exact h a
      · exact a h2
  · rintro (⟨_, a, _⟩ | ⟨_, a, _⟩)
    · exact h0 (Int32.not_lt.mp a)
    · exact h0 (Int32.not_lt.mp a)
theorem uo_yff0 {post : Int32 → Prop} {x1 : Int32} (h : x1 < 0 ∨ nI n ≤ x1) (g : post 0) : wpY_fitsForm post (nI n, nI wc, nI ins, a_name, a_version, a_features, a_needCount, a_clashCount, a_needWidth, nF, nX, nB, cF, cX, cB, a_wishName, a_wishThere) x1 f x b := by
  unfold wpY_fitsForm
  dsimp only
  by_cases h0 : x1 < 0
  · exact br_t h0 g
  · exact br_f h0 (br_t (h.resolve_left h0) g)
theorem uo_xpo {post : Int32 → Prop} (h : uo_vp f x b) (J : ∀ v, uo_pv f x b v → post v) : wpX_patternOf post (nI n, nI ins, nI wc, f_ready, f_wantedNames, f_unwantedNames, f_chosen, f_refused, f_counting, f_found, f_bestSet, f_bestCost, a_name, a_version, a_features, a_needCount, a_needWidth, a_needPattern, a_clashCount, a_clashPattern, a_wishName, a_wishThere, a_needTargets, a_excludes, a_sharers, a_newest, a_frameChosen, a_frameRefused, a_framePackage, a_frameTried) f x b := by
  unfold wpX_patternOf
  dsimp only
  rcases h with ⟨h0, h1, h2, h3, h4⟩ | ⟨h0, h1, h2⟩
  · obtain ⟨y, _, hy, rfl⟩ := uo_bnd (x := x) 0 4 (by omega) (by omega) h1 h2
    obtain ⟨d, hd1, hd, rfl⟩ := uo_bnd (x := b) 1 9 (by omega) (by omega) h3 h4
    have e : 10 * nI y + nI d = nI (10 * y + d) := by
      show nI 10 * nI y + nI d = _
      rw [pk_mul, nI_add]
    refine br_t h0 ⟨pk_nb _, ?_⟩
    rw [e, uo_nbx (by omega)]
    exact J _ (Or.inl ⟨h0, y, d, by omega, by omega, rfl, rfl, rfl⟩)
  · obtain ⟨y, _, hy, rfl⟩ := uo_bnd (x := x) 0 3 (by omega) (by omega) h1 h2
    have e : 50 + nI y = nI (50 + y) := by
      show nI 50 + nI y = _
      rw [nI_add]
    refine br_f h0 ⟨pk_nb _, ?_⟩
    rw [e, uo_nbx (by omega)]
    exact J _ (Or.inr ⟨h0, y, by omega, rfl, rfl⟩)
/-- need, the two sides -/
theorem uo_xneed {post : Int32 → SX → Prop} {m : Nat} (hn : n ≤ 10) (hp : p < n) (em : a_needCount p = nI m) (hm : m ≤ 2) (J0 : ¬ uo_vp f x b → post (-1) (nI n, nI ins, nI wc, f_ready, f_wantedNames, f_unwantedNames, f_chosen, f_refused, f_counting, f_found, f_bestSet, f_bestCost, a_name, a_version, a_features, a_needCount, a_needWidth, a_needPattern, a_clashCount, a_clashPattern, a_wishName, a_wishThere, a_needTargets, a_excludes, a_sharers, a_newest, a_frameChosen, a_frameRefused, a_framePackage, a_frameTried)) (J1 : uo_vp f x b → m = 2 → post (-2) (nI n, nI ins, nI wc, f_ready, f_wantedNames, f_unwantedNames, f_chosen, f_refused, f_counting, f_found, f_bestSet, f_bestCost, a_name, a_version, a_features, a_needCount, a_needWidth, a_needPattern, a_clashCount, a_clashPattern, a_wishName, a_wishThere, a_needTargets, a_excludes, a_sharers, a_newest, a_frameChosen, a_frameRefused, a_framePackage, a_frameTried)) (J2 : uo_vp f x b → m < 2 → ∀ v, uo_pv f x b v → post (nI (m + 1)) (nI n, nI ins, nI wc, 0, f_wantedNames, f_unwantedNames, f_chosen, f_refused, f_counting, f_found, f_bestSet, f_bestCost, a_name, a_version, a_features, upd a_needCount p (nI (m + 1)), upd a_needWidth (2 * p + m) 1, upd a_needPattern (2 * (2 * p + m)) v, a_clashCount, a_clashPattern, a_wishName, a_wishThere, a_needTargets, a_excludes, a_sharers, a_newest, a_frameChosen, a_frameRefused, a_framePackage, a_frameTried)) : wpX_need post (nI n, nI ins, nI wc, f_ready, f_wantedNames, f_unwantedNames, f_chosen, f_refused, f_counting, f_found, f_bestSet, f_bestCost, a_name, a_version, a_features, a_needCount, a_needWidth, a_needPattern, a_clashCount, a_clashPattern, a_wishName, a_wishThere, a_needTargets, a_excludes, a_sharers, a_newest, a_frameChosen, a_frameRefused, a_framePackage, a_frameTried) (nI p) f x b := by
  have ep : (nI p).toNatClampNeg = p := nI_clamp (by omega)
  have vp : vp_in (nI p) 10 := vp_in_nI (by omega) (by decide)
  have e1 : vp_nar .byte 1 = 1 := by decide
  unfold wpX_need wpX_isPackage
  dsimp only
  refine br_f (nI_pos (by omega)) (br_f (nI_ge hp (by omega)) (br_f (by decide) (uo_xisp (fun hv => br_f (by decide) ⟨vp, ?_⟩) (fun hv => br_t rfl (J0 hv)))))
  rw [ep, em]
  refine pk_lt m 2 (fun h2 => ⟨vp, nm_r (uo_2pk _ _) ⟨vp_in_nI (by omega) (by decide), ?_⟩⟩) (fun h2 => J1 hv (by omega))
  rw [nI_clamp (by omega), e1]
  refine nm_e (uo_xpo hv (fun v pv => ?_))
  rw [uo_2p, nI_clamp (by omega), uo_pvn pv, nI_1, uo_nb _ (by omega)]
  refine ⟨vp_in_nI (by omega) (by decide), nm_e ⟨vp, vp, nm_e ⟨vp, ?_⟩⟩⟩
  rw [pk_us]
  exact J2 hv h2 v pv
theorem uo_yneed {post : Int32 → SY → Prop} {m : Nat} (hn : n ≤ 10) (hp : p < n) (em : a_needCount p = nI m) (hm : m ≤ 2) (hf : vp_nar .boolean f = f) (J0 : ¬ uo_vp f x b → post (-1) (nI n, nI wc, nI ins, a_name, a_version, a_features, a_needCount, a_clashCount, a_needWidth, nF, nX, nB, cF, cX, cB, a_wishName, a_wishThere)) (J1 : uo_vp f x b → m = 2 → post (-2) (nI n, nI wc, nI ins, a_name, a_version, a_features, a_needCount, a_clashCount, a_needWidth, nF, nX, nB, cF, cX, cB, a_wishName, a_wishThere)) (J2 : uo_vp f x b → m < 2 → post (nI (m + 1)) (nI n, nI wc, nI ins, a_name, a_version, a_features, upd a_needCount p (nI (m + 1)), a_clashCount, upd a_needWidth (2 * p + m) 1, upd nF (2 * (2 * p + m)) f, upd nX (2 * (2 * p + m)) x, upd nB (2 * (2 * p + m)) b, cF, cX, cB, a_wishName, a_wishThere)) : wpY_need post (nI n, nI wc, nI ins, a_name, a_version, a_features, a_needCount, a_clashCount, a_needWidth, nF, nX, nB, cF, cX, cB, a_wishName, a_wishThere) (nI p) f x b := by
  have ep : (nI p).toNatClampNeg = p := nI_clamp (by omega)
  have vp : vp_in (nI p) 10 := vp_in_nI (by omega) (by decide)
  unfold wpY_need
  dsimp only
  refine uo_yff hn hp (fun hv => br_f (by decide) ⟨vp, ?_⟩) (fun hv => br_t rfl (J0 hv))
  rw [ep, em]
  refine pk_eq m 2 (fun h2 => J1 hv h2) (fun h2 => ⟨vp, nm_r (uo_2pk _ _) ?_⟩)
  unfold wpY_setPattern
  dsimp only
  have v2 : vp_in (nI (2 * (2 * p + m))) 40 := vp_in_nI (by omega) (by decide)
  rw [uo_2p, nI_clamp (show 2 * (2 * p + m) < 2 ^ 31 by omega), nI_clamp (show 2 * p + m < 2 ^ 31 by omega), hf]
  refine ⟨v2, nm_e ⟨v2, nm_e ⟨v2, nm_e ⟨vp_in_nI (by omega) (by decide), nm_e ⟨vp, vp, nm_r (e' := upd a_needCount p (nI (m + 1))) ?_ ⟨vp, ?_⟩⟩⟩⟩⟩⟩
  · rw [em, nI_1]
  · rw [pk_us]
    exact J2 hv (by omega)
/-- orNeed, the two sides -/
theorem uo_xorn {post : Int32 → SX → Prop} {m : Nat} (hn : n ≤ 10) (hp : p < n) (em : a_needCount p = nI m) (hm : m ≤ 2) (J0 : ¬ uo_vp f x b → post (-1) (nI n, nI ins, nI wc, f_ready, f_wantedNames, f_unwantedNames, f_chosen, f_refused, f_counting, f_found, f_bestSet, f_bestCost, a_name, a_version, a_features, a_needCount, a_needWidth, a_needPattern, a_clashCount, a_clashPattern, a_wishName, a_wishThere, a_needTargets, a_excludes, a_sharers, a_newest, a_frameChosen, a_frameRefused, a_framePackage, a_frameTried)) (J1 : uo_vp f x b → m = 0 → post (-3) (nI n, nI ins, nI wc, f_ready, f_wantedNames, f_unwantedNames, f_chosen, f_refused, f_counting, f_found, f_bestSet, f_bestCost, a_name, a_version, a_features, a_needCount, a_needWidth, a_needPattern, a_clashCount, a_clashPattern, a_wishName, a_wishThere, a_needTargets, a_excludes, a_sharers, a_newest, a_frameChosen, a_frameRefused, a_framePackage, a_frameTried)) (J2 : uo_vp f x b → 0 < m → a_needWidth (2 * p + m - 1) = 2 → post (-2) (nI n, nI ins, nI wc, f_ready, f_wantedNames, f_unwantedNames, f_chosen, f_refused, f_counting, f_found, f_bestSet, f_bestCost, a_name, a_version, a_features, a_needCount, a_needWidth, a_needPattern, a_clashCount, a_clashPattern, a_wishName, a_wishThere, a_needTargets, a_excludes, a_sharers, a_newest, a_frameChosen, a_frameRefused, a_framePackage, a_frameTried)) (J3 : uo_vp f x b → 0 < m → ¬ a_needWidth (2 * p + m - 1) = 2 → ∀ v, uo_pv f x b v → post 2 (nI n, nI ins, nI wc, 0, f_wantedNames, f_unwantedNames, f_chosen, f_refused, f_counting, f_found, f_bestSet, f_bestCost, a_name, a_version, a_features, a_needCount, upd a_needWidth (2 * p + m - 1) 2, upd a_needPattern (2 * (2 * p + m - 1) + 1) v, a_clashCount, a_clashPattern, a_wishName, a_wishThere, a_needTargets, a_excludes, a_sharers, a_newest, a_frameChosen, a_frameRefused, a_framePackage, a_frameTried)) : wpX_orNeed post (nI n, nI ins, nI wc, f_ready, f_wantedNames, f_unwantedNames, f_chosen, f_refused, f_counting, f_found, f_bestSet, f_bestCost, a_name, a_version, a_features, a_needCount, a_needWidth, a_needPattern, a_clashCount, a_clashPattern, a_wishName, a_wishThere, a_needTargets, a_excludes, a_sharers, a_newest, a_frameChosen, a_frameRefused, a_framePackage, a_frameTried) (nI p) f x b := by
  have ep : (nI p).toNatClampNeg = p := nI_clamp (by omega)
  have vp : vp_in (nI p) 10 := vp_in_nI (by omega) (by decide)
  have e1 : vp_nar .byte 2 = 2 := by decide
  unfold wpX_orNeed wpX_isPackage
  dsimp only
  refine br_f (nI_pos (by omega)) (br_f (nI_ge hp (by omega)) (br_f (by decide) (uo_xisp (fun hv => br_f (by decide) ⟨vp, ?_⟩) (fun hv => br_t rfl (J0 hv)))))
  rw [ep, em]
  refine pk_eq m 0 (fun h2 => J1 hv h2) (fun h2 => ⟨vp, nm_r (e' := nI (2 * p + m - 1)) ?_ ⟨vp_in_nI (by omega) (by decide), ?_⟩⟩)
  · rw [uo_2pk]
    exact pk_sub (b := 1) (by omega)
  rw [nI_clamp (by omega), e1]
  refine br_c (fun hw => J2 hv (by omega) hw) (fun hw => ⟨vp_in_nI (by omega) (by decide), nm_e (uo_xpo hv (fun v pv => ?_))⟩)
  rw [uo_2p, nI_1, nI_clamp (by omega), uo_pvn pv]
  exact ⟨vp_in_nI (by omega) (by decide), nm_e (J3 hv (by omega) hw v pv)⟩
theorem uo_yorn {post : Int32 → SY → Prop} {m : Nat} (hn : n ≤ 10) (hp : p < n) (em : a_needCount p = nI m) (hm : m ≤ 2) (hf : vp_nar .boolean f = f) (J0 : ¬ uo_vp f x b → post (-1) (nI n, nI wc, nI ins, a_name, a_version, a_features, a_needCount, a_clashCount, a_needWidth, nF, nX, nB, cF, cX, cB, a_wishName, a_wishThere)) (J1 : uo_vp f x b → m = 0 → post (-3) (nI n, nI wc, nI ins, a_name, a_version, a_features, a_needCount, a_clashCount, a_needWidth, nF, nX, nB, cF, cX, cB, a_wishName, a_wishThere)) (J2 : uo_vp f x b → 0 < m → a_needWidth (2 * p + m - 1) = 2 → post (-2) (nI n, nI wc, nI ins, a_name, a_version, a_features, a_needCount, a_clashCount, a_needWidth, nF, nX, nB, cF, cX, cB, a_wishName, a_wishThere)) (J3 : uo_vp f x b → 0 < m → ¬ a_needWidth (2 * p + m - 1) = 2 → post 2 (nI n, nI wc, nI ins, a_name, a_version, a_features, a_needCount, a_clashCount, upd a_needWidth (2 * p + m - 1) 2, upd nF (2 * (2 * p + m - 1) + 1) f, upd nX (2 * (2 * p + m - 1) + 1) x, upd nB (2 * (2 * p + m - 1) + 1) b, cF, cX, cB, a_wishName, a_wishThere)) : wpY_orNeed post (nI n, nI wc, nI ins, a_name, a_version, a_features, a_needCount, a_clashCount, a_needWidth, nF, nX, nB, cF, cX, cB, a_wishName, a_wishThere) (nI p) f x b := by
  have ep : (nI p).toNatClampNeg = p := nI_clamp (by omega)
  have vp : vp_in (nI p) 10 := vp_in_nI (by omega) (by decide)
  unfold wpY_orNeed
  dsimp only
  refine uo_yff hn hp (fun hv => br_f (by decide) ⟨vp, ?_⟩) (fun hv => br_t rfl (J0 hv))
  rw [ep, em]
  refine pk_eq m 0 (fun h2 => J1 hv h2) (fun h2 => ⟨vp, nm_r (e' := nI (2 * p + m - 1)) ?_ ⟨vp_in_nI (by omega) (by decide), ?_⟩⟩)
  · rw [uo_2pk]
    exact pk_sub (b := 1) (by omega)
  unfold wpY_setPattern
  dsimp only
  have v2 : vp_in (nI (2 * (2 * p + m - 1) + 1)) 40 := vp_in_nI (by omega) (by decide)
  rw [uo_2p, nI_1, nI_clamp (show 2 * (2 * p + m - 1) + 1 < 2 ^ 31 by omega), nI_clamp (show 2 * p + m - 1 < 2 ^ 31 by omega), hf]
  exact br_c (fun hw => J2 hv (by omega) hw) (fun hw => ⟨v2, nm_e ⟨v2, nm_e ⟨v2, nm_e ⟨vp_in_nI (by omega) (by decide), nm_e (J3 hv (by omega) hw)⟩⟩⟩⟩)
/-- clash, the two sides -/
theorem uo_xcla {post : Int32 → SX → Prop} {m : Nat} (hn : n ≤ 10) (hp : p < n) (em : a_clashCount p = nI m) (hm : m ≤ 2) (J0 : ¬ uo_vp f x b → post (-1) (nI n, nI ins, nI wc, f_ready, f_wantedNames, f_unwantedNames, f_chosen, f_refused, f_counting, f_found, f_bestSet, f_bestCost, a_name, a_version, a_features, a_needCount, a_needWidth, a_needPattern, a_clashCount, a_clashPattern, a_wishName, a_wishThere, a_needTargets, a_excludes, a_sharers, a_newest, a_frameChosen, a_frameRefused, a_framePackage, a_frameTried)) (J1 : uo_vp f x b → m = 2 → post (-2) (nI n, nI ins, nI wc, f_ready, f_wantedNames, f_unwantedNames, f_chosen, f_refused, f_counting, f_found, f_bestSet, f_bestCost, a_name, a_version, a_features, a_needCount, a_needWidth, a_needPattern, a_clashCount, a_clashPattern, a_wishName, a_wishThere, a_needTargets, a_excludes, a_sharers, a_newest, a_frameChosen, a_frameRefused, a_framePackage, a_frameTried)) (J2 : uo_vp f x b → m < 2 → ∀ v, uo_pv f x b v → post (nI (m + 1)) (nI n, nI ins, nI wc, 0, f_wantedNames, f_unwantedNames, f_chosen, f_refused, f_counting, f_found, f_bestSet, f_bestCost, a_name, a_version, a_features, a_needCount, a_needWidth, a_needPattern, upd a_clashCount p (nI (m + 1)), upd a_clashPattern (2 * p + m) v, a_wishName, a_wishThere, a_needTargets, a_excludes, a_sharers, a_newest, a_frameChosen, a_frameRefused, a_framePackage, a_frameTried)) : wpX_clash post (nI n, nI ins, nI wc, f_ready, f_wantedNames, f_unwantedNames, f_chosen, f_refused, f_counting, f_found, f_bestSet, f_bestCost, a_name, a_version, a_features, a_needCount, a_needWidth, a_needPattern, a_clashCount, a_clashPattern, a_wishName, a_wishThere, a_needTargets, a_excludes, a_sharers, a_newest, a_frameChosen, a_frameRefused, a_framePackage, a_frameTried) (nI p) f x b := by
  have ep : (nI p).toNatClampNeg = p := nI_clamp (by omega)
  have vp : vp_in (nI p) 10 := vp_in_nI (by omega) (by decide)
  unfold wpX_clash wpX_isPackage
  dsimp only
  refine br_f (nI_pos (by omega)) (br_f (nI_ge hp (by omega)) (br_f (by decide) (uo_xisp (fun hv => br_f (by decide) ⟨vp, ?_⟩) (fun hv => br_t rfl (J0 hv)))))
  rw [ep, em]
  refine pk_lt m 2 (fun h2 => ⟨vp, uo_xpo hv (fun v pv => ?_)⟩) (fun h2 => J1 hv (by omega))
  rw [uo_2pk, nI_clamp (by omega), uo_pvn pv, nI_1, uo_nb _ (by omega)]
  refine ⟨vp_in_nI (by omega) (by decide), nm_e ⟨vp, vp, nm_e ⟨vp, ?_⟩⟩⟩
  rw [pk_us]
  exact J2 hv h2 v pv
theorem uo_ycla {post : Int32 → SY → Prop} {m : Nat} (hn : n ≤ 10) (hp : p < n) (em : a_clashCount p = nI m) (hm : m ≤ 2) (hf : vp_nar .boolean f = f) (J0 : ¬ uo_vp f x b → post (-1) (nI n, nI wc, nI ins, a_name, a_version, a_features, a_needCount, a_clashCount, a_needWidth, nF, nX, nB, cF, cX, cB, a_wishName, a_wishThere)) (J1 : uo_vp f x b → m = 2 → post (-2) (nI n, nI wc, nI ins, a_name, a_version, a_features, a_needCount, a_clashCount, a_needWidth, nF, nX, nB, cF, cX, cB, a_wishName, a_wishThere)) (J2 : uo_vp f x b → m < 2 → post (nI (m + 1)) (nI n, nI wc, nI ins, a_name, a_version, a_features, a_needCount, upd a_clashCount p (nI (m + 1)), a_needWidth, nF, nX, nB, upd cF (2 * p + m) f, upd cX (2 * p + m) x, upd cB (2 * p + m) b, a_wishName, a_wishThere)) : wpY_clash post (nI n, nI wc, nI ins, a_name, a_version, a_features, a_needCount, a_clashCount, a_needWidth, nF, nX, nB, cF, cX, cB, a_wishName, a_wishThere) (nI p) f x b := by
  have ep : (nI p).toNatClampNeg = p := nI_clamp (by omega)
  have vp : vp_in (nI p) 10 := vp_in_nI (by omega) (by decide)
  unfold wpY_clash
  dsimp only
  refine uo_yff hn hp (fun hv => br_f (by decide) ⟨vp, ?_⟩) (fun hv => br_t rfl (J0 hv))
  rw [ep, em]
  refine pk_eq m 2 (fun h2 => J1 hv h2) (fun h2 => ⟨vp, nm_r (uo_2pk _ _) ?_⟩)
  have v2 : vp_in (nI (2 * p + m)) 20 := vp_in_nI (by omega) (by decide)
  rw [nI_clamp (by omega), hf, nI_1]
  refine ⟨v2, nm_e ⟨v2, nm_e ⟨v2, nm_e ⟨vp, vp, nm_e ⟨vp, ?_⟩⟩⟩⟩⟩
  rw [pk_us]
  exact J2 hv (by omega)
/-- what is known lasts -/
theorem uo_ba_n {m : Nat} (B : uo_ba n wc ins a_name a_needCount a_clashCount a_wishName a_wishThere) (hp : p < n) (hm : m ≤ 2) : uo_ba n wc ins a_name (upd a_needCount p (nI m)) a_clashCount a_wishName a_wishThere := by
  obtain ⟨b1, b2, b3, b4, b5, b6, b7, b8⟩ := B
  refine ⟨b1, b2, b3, b4, uo_rgu (fun m => m ≤ 2) b5 hm (by omega), b6, fun q hq => ?_, b8⟩
  rw [pk_un (by omega)]
  exact b7 q hq
theorem uo_ba_c {m : Nat} (B : uo_ba n wc ins a_name a_needCount a_clashCount a_wishName a_wishThere) (hp : p < n) (hm : m ≤ 2) : uo_ba n wc ins a_name a_needCount (upd a_clashCount p (nI m)) a_wishName a_wishThere := by
  obtain ⟨b1, b2, b3, b4, b5, b6, b7, b8⟩ := B
  refine ⟨b1, b2, b3, b4, b5, uo_rgu (fun m => m ≤ 2) b6 hm (by omega), fun q hq => ?_, b8⟩
  rw [pk_un (by omega)]
  exact b7 q hq
end
theorem i_vc_need {k : Nat} {u : SX} {v : SY} (I : i_Rel k u v) (hk : k + 5 ≤ 2560) (v1 : Int32) (v2 : Int32) (v3 : Int32) (v4 : Int32) : wpX_need (fun r u' => wpY_need (fun r' v' => r' = r ∧ i_Rel (k + 5) u' v') v v1 (lw_bz v2) v3 v4) u v1 (lw_bz v2) v3 v4 := by
  refine uo_rel (P := fun u v => wpX_need (fun r u' => wpY_need (fun r' v' => r' = r ∧ i_Rel (k + 5) u' v') v v1 (lw_bz v2) v3 v4) u v1 (lw_bz v2) v3 v4) I ?_
  intro n wc ins f_ready f_wantedNames f_unwantedNames f_chosen f_refused f_counting f_found f_bestSet f_bestCost a_name a_version a_features a_needCount a_needWidth a_needPattern a_clashCount a_clashPattern a_wishName a_wishThere a_needTargets a_excludes a_sharers a_newest a_frameChosen a_frameRefused a_framePackage a_frameTried nF nX nB cF cX cB B hpn hpc R
  have hn : n ≤ 10 := B.1
  have hf := uo_nz01 v2
  have Z := uo_mkrel (k := k + 5) (f_chosen := f_chosen) (f_refused := f_refused) (f_counting := f_counting) (f_found := f_found) (f_bestSet := f_bestSet) (f_bestCost := f_bestCost) (a_frameChosen := a_frameChosen) (a_frameRefused := a_frameRefused) (a_framePackage := a_framePackage) (a_frameTried := a_frameTried) B hpn hpc R
  rcases pk_ix v1 (n := n) (by omega) with h | h | ⟨p, hp, rfl⟩
  · unfold wpX_need wpX_isPackage wpY_need
    dsimp only
    exact br_t h (br_t rfl (uo_yff0 (Or.inl h) (br_t rfl ⟨rfl, Z⟩)))
  · unfold wpX_need wpX_isPackage wpY_need
    dsimp only
    by_cases h0 : v1 < 0
    · exact br_t h0 (br_t rfl (uo_yff0 (Or.inr h) (br_t rfl ⟨rfl, Z⟩)))
    · exact br_f h0 (br_t h (br_t rfl (uo_yff0 (Or.inr h) (br_t rfl ⟨rfl, Z⟩))))
  · obtain ⟨em, hm⟩ := B.2.2.2.2.1 p
    generalize cl_ a_needCount p = m at em hm
    refine uo_xneed hn hp em hm (fun hv => ?_) (fun hv h2 => ?_) (fun hv h2 v pv => ?_)
    · exact uo_yneed hn hp em hm hf (fun _ => ⟨rfl, Z⟩) (fun z => absurd z hv) (fun z => absurd z hv)
    · exact uo_yneed hn hp em hm hf (fun z => absurd hv z) (fun _ _ => ⟨rfl, Z⟩) (fun _ z => absurd z (by omega))
    · exact uo_yneed hn hp em hm hf (fun z => absurd hv z) (fun _ z => absurd z (by omega)) (fun _ _ => ⟨rfl, uo_mkrel (uo_ba_n B hp (by omega)) (uo_ptu hpn pv) hpc (Or.inl rfl)⟩)
theorem i_vc_orNeed {k : Nat} {u : SX} {v : SY} (I : i_Rel k u v) (hk : k + 5 ≤ 2560) (v1 : Int32) (v2 : Int32) (v3 : Int32) (v4 : Int32) : wpX_orNeed (fun r u' => wpY_orNeed (fun r' v' => r' = r ∧ i_Rel (k + 5) u' v') v v1 (lw_bz v2) v3 v4) u v1 (lw_bz v2) v3 v4 := by
  refine uo_rel (P := fun u v => wpX_orNeed (fun r u' => wpY_orNeed (fun r' v' => r' = r ∧ i_Rel (k + 5) u' v') v v1 (lw_bz v2) v3 v4) u v1 (lw_bz v2) v3 v4) I ?_
  intro n wc ins f_ready f_wantedNames f_unwantedNames f_chosen f_refused f_counting f_found f_bestSet f_bestCost a_name a_version a_features a_needCount a_needWidth a_needPattern a_clashCount a_clashPattern a_wishName a_wishThere a_needTargets a_excludes a_sharers a_newest a_frameChosen a_frameRefused a_framePackage a_frameTried nF nX nB cF cX cB B hpn hpc R
  have hn : n ≤ 10 := B.1
  have hf := uo_nz01 v2
  have Z := uo_mkrel (k := k + 5) (f_chosen := f_chosen) (f_refused := f_refused) (f_counting := f_counting) (f_found := f_found) (f_bestSet := f_bestSet) (f_bestCost := f_bestCost) (a_frameChosen := a_frameChosen) (a_frameRefused := a_frameRefused) (a_framePackage := a_framePackage) (a_frameTried := a_frameTried) B hpn hpc R
  rcases pk_ix v1 (n := n) (by omega) with h | h | ⟨p, hp, rfl⟩
  · unfold wpX_orNeed wpX_isPackage wpY_orNeed
    dsimp only
    exact br_t h (br_t rfl (uo_yff0 (Or.inl h) (br_t rfl ⟨rfl, Z⟩)))
  · unfold wpX_orNeed wpX_isPackage wpY_orNeed
    dsimp only
    by_cases h0 : v1 < 0
    · exact br_t h0 (br_t rfl (uo_yff0 (Or.inr h) (br_t rfl ⟨rfl, Z⟩)))
    · exact br_f h0 (br_t h (br_t rfl (uo_yff0 (Or.inr h) (br_t rfl ⟨rfl, Z⟩))))
  · obtain ⟨em, hm⟩ := B.2.2.2.2.1 p
    generalize cl_ a_needCount p = m at em hm
    refine uo_xorn hn hp em hm (fun hv => ?_) (fun hv h2 => ?_) (fun hv h2 hw => ?_) (fun hv h2 hw v pv => ?_)
    · exact uo_yorn hn hp em hm hf (fun _ => ⟨rfl, Z⟩) (fun z => absurd z hv) (fun z => absurd z hv) (fun z => absurd z hv)
    · exact uo_yorn hn hp em hm hf (fun z => absurd hv z) (fun _ _ => ⟨rfl, Z⟩) (fun _ z => absurd z (by omega)) (fun _ z => absurd z (by omega))
    · exact uo_yorn hn hp em hm hf (fun z => absurd hv z) (fun _ z => absurd z (by omega)) (fun _ _ _ => ⟨rfl, Z⟩) (fun _ _ z => absurd hw z)
    · exact uo_yorn hn hp em hm hf (fun z => absurd hv z) (fun _ z => absurd z (by omega)) (fun _ _ z => absurd z hw) (fun _ _ _ => ⟨rfl, uo_mkrel B (uo_ptu hpn pv) hpc (Or.inl rfl)⟩)
theorem i_vc_clash {k : Nat} {u : SX} {v : SY} (I : i_Rel k u v) (hk : k + 5 ≤ 2560) (v1 : Int32) (v2 : Int32) (v3 : Int32) (v4 : Int32) : wpX_clash (fun r u' => wpY_clash (fun r' v' => r' = r ∧ i_Rel (k + 5) u' v') v v1 (lw_bz v2) v3 v4) u v1 (lw_bz v2) v3 v4 := by
  refine uo_rel (P := fun u v => wpX_clash (fun r u' => wpY_clash (fun r' v' => r' = r ∧ i_Rel (k + 5) u' v') v v1 (lw_bz v2) v3 v4) u v1 (lw_bz v2) v3 v4) I ?_
  intro n wc ins f_ready f_wantedNames f_unwantedNames f_chosen f_refused f_counting f_found f_bestSet f_bestCost a_name a_version a_features a_needCount a_needWidth a_needPattern a_clashCount a_clashPattern a_wishName a_wishThere a_needTargets a_excludes a_sharers a_newest a_frameChosen a_frameRefused a_framePackage a_frameTried nF nX nB cF cX cB B hpn hpc R
  have hn : n ≤ 10 := B.1
  have hf := uo_nz01 v2
  have Z := uo_mkrel (k := k + 5) (f_chosen := f_chosen) (f_refused := f_refused) (f_counting := f_counting) (f_found := f_found) (f_bestSet := f_bestSet) (f_bestCost := f_bestCost) (a_frameChosen := a_frameChosen) (a_frameRefused := a_frameRefused) (a_framePackage := a_framePackage) (a_frameTried := a_frameTried) B hpn hpc R
  rcases pk_ix v1 (n := n) (by omega) with h | h | ⟨p, hp, rfl⟩
  · unfold wpX_clash wpX_isPackage wpY_clash
    dsimp only
    exact br_t h (br_t rfl (uo_yff0 (Or.inl h) (br_t rfl ⟨rfl, Z⟩)))
  · unfold wpX_clash wpX_isPackage wpY_clash
    dsimp only
    by_cases h0 : v1 < 0
    · exact br_t h0 (br_t rfl (uo_yff0 (Or.inr h) (br_t rfl ⟨rfl, Z⟩)))
    · exact br_f h0 (br_t h (br_t rfl (uo_yff0 (Or.inr h) (br_t rfl ⟨rfl, Z⟩))))
  · obtain ⟨em, hm⟩ := B.2.2.2.2.2.1 p
    generalize cl_ a_clashCount p = m at em hm
    refine uo_xcla hn hp em hm (fun hv => ?_) (fun hv h2 => ?_) (fun hv h2 v pv => ?_)
    · exact uo_ycla hn hp em hm hf (fun _ => ⟨rfl, Z⟩) (fun z => absurd z hv) (fun z => absurd z hv)
    · exact uo_ycla hn hp em hm hf (fun z => absurd hv z) (fun _ _ => ⟨rfl, Z⟩) (fun _ z => absurd z (by omega))
    · exact uo_ycla hn hp em hm hf (fun z => absurd hv z) (fun _ z => absurd z (by omega)) (fun _ _ => ⟨rfl, uo_mkrel (uo_ba_c B hp (by omega)) hpn (uo_ptu hpc pv) (Or.inl rfl)⟩)
end
