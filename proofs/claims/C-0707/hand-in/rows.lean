section
/-! pure rows to paste: stores, nI and lN arithmetic, masks, shifts, narrowing, branches by naturals (pk_le, pk_lt, pk_eq), loops (lp1 .. lp16: the measure of the state; rp1 ..: recursion), negatives. Take what you need -/
theorem pk_us {f : Nat → Int32} {k : Nat} {x : Int32} : upd f k x k = x := if_pos rfl
theorem pk_un {f : Nat → Int32} {k j : Nat} {x : Int32} (h : j ≠ k) : upd f k x j = f j := if_neg h
theorem pk_sub {a b : Nat} (h : b ≤ a) : nI a - nI b = nI (a - b) := by
  obtain ⟨c, rfl⟩ : ∃ c, a = c + b := ⟨a - b, by omega⟩
  rw [← nI_add, Int32.add_sub_cancel, Nat.add_sub_cancel]
theorem pk_m1 (n : Nat) : nI (n + 1) + (-1) = nI n := by
  rw [← nI_1, Int32.add_assoc, show (1 : Int32) + (-1) = 0 from rfl, Int32.add_zero]
theorem pk_mul (a b : Nat) : nI a * nI b = nI (a * b) := (Int32.ofNat_mul a b).symm
theorem pk_div {a d : Nat} (ha : a < 2 ^ 31) (h0 : 0 < d) (hd : d < 2 ^ 31) : nI a / nI d = nI (a / d) := by
  apply Int32.toInt_inj.mp
  rw [lg_idiv_nonneg (by rw [nI_toInt ha]; omega) (by rw [nI_toInt hd]; omega), nI_toInt ha, nI_toInt hd, nI_toInt (Nat.lt_of_le_of_lt (Nat.div_le_self a d) ha)]
  first | rfl | exact (Int.natCast_ediv _ _).symm
theorem pk_rem {a d : Nat} (ha : a < 2 ^ 31) (h0 : 0 < d) (hd : d < 2 ^ 31) : nI a - nI a / nI d * nI d = nI (a % d) := by
  rw [pk_div ha h0 hd, pk_mul, pk_sub (Nat.div_mul_le_self a d)]
  exact congrArg nI (by have := Nat.div_add_mod' a d; omega)
theorem pk_sub_toInt {a b : Nat} (ha : a < 2 ^ 30) (hb : b < 2 ^ 30) : (nI a - nI b).toInt = (a : Int) - b := by
  rw [Int32.toInt_sub, nI_toInt (by omega), nI_toInt (by omega)]
  exact Int.bmod_eq_of_le (by omega) (by omega)
theorem pk_sneg {a b : Nat} (hb : b < 2 ^ 30) (h : a < b) : nI a - nI b < 0 := by
  rw [Int32.lt_iff_toInt_lt, pk_sub_toInt (by omega) hb, show (0 : Int32).toInt = 0 from by decide]
  omega
theorem pk_ix (x : Int32) {n : Nat} (hn : n < 2 ^ 31) : x < 0 ∨ nI n ≤ x ∨ ∃ j : Nat, j < n ∧ x = nI j := by
  by_cases h : x < 0
  · exact Or.inl h
  · obtain ⟨j, hj, rfl⟩ := nI_of h
    by_cases h2 : j < n
    · exact Or.inr (Or.inr ⟨j, h2, rfl⟩)
    · exact Or.inr (Or.inl (nI_le (by omega) hj))
theorem pk_le {x y : Int32} {A B : Prop} (a b : Nat) (f : a ≤ b → A) (g : b < a → B) (hx : x = nI a := by rfl) (hy : y = nI b := by rfl) (ha : a < 2 ^ 31 := by omega) (hb : b < 2 ^ 31 := by omega) : (x ≤ y → A) ∧ (¬ x ≤ y → B) := by
  subst hx hy
  rw [nI_leI ha hb]
  exact ⟨f, fun z => g (by omega)⟩
theorem pk_lt {x y : Int32} {A B : Prop} (a b : Nat) (f : a < b → A) (g : b ≤ a → B) (hx : x = nI a := by rfl) (hy : y = nI b := by rfl) (ha : a < 2 ^ 31 := by omega) (hb : b < 2 ^ 31 := by omega) : (x < y → A) ∧ (¬ x < y → B) := by
  subst hx hy
  rw [nI_ltI ha hb]
  exact ⟨f, fun z => g (by omega)⟩
theorem pk_eq {x y : Int32} {A B : Prop} (a b : Nat) (f : a = b → A) (g : a ≠ b → B) (hx : x = nI a := by rfl) (hy : y = nI b := by rfl) (ha : a < 2 ^ 31 := by omega) (hb : b < 2 ^ 31 := by omega) : (x = y → A) ∧ (¬ x = y → B) := by
  subst hx hy
  rw [nI_eq ha hb]
  exact ⟨f, g⟩
theorem pk_in {x : Int32} (n N : Nat) (h : n < N) (hx : x = nI n := by rfl) (hN : N < 2 ^ 31 := by omega) : vp_in x N := by
  subst hx
  exact vp_in_nI h hN
theorem pk_cl {x : Int32} (n : Nat) (hx : x = nI n := by rfl) (h : n < 2 ^ 31 := by omega) : x.toNatClampNeg = n := by
  subst hx
  exact nI_clamp h
theorem pk_tn {n : Nat} (h : n < 2 ^ 32) : (nI n).toBitVec.toNat = n := Nat.mod_eq_of_lt h
theorem pk_and (x : Int32) {m : Int32} (k : Nat) (hm : m.toBitVec.toNat = 2 ^ k - 1) : x &&& m = nI (x.toBitVec.toNat % 2 ^ k) := by
  apply Int32.toBitVec_inj.mp
  apply BitVec.eq_of_toNat_eq
  rw [Int32.toBitVec_and, BitVec.toNat_and, hm, Nat.and_two_pow_sub_one_eq_mod]
  show _ = (BitVec.ofNat 32 _).toNat
  rw [BitVec.toNat_ofNat]
  exact (Nat.mod_eq_of_lt (Nat.lt_of_le_of_lt (Nat.mod_le _ _) x.toBitVec.isLt)).symm
theorem pk_andN {n : Nat} (h : n < 2 ^ 32) {m : Int32} (k : Nat) (hm : m.toBitVec.toNat = 2 ^ k - 1) : nI n &&& m = nI (n % 2 ^ k) := by
  rw [pk_and _ k hm, pk_tn h]
theorem pk_andE (x : Int32) {m : Int32} (k : Nat) (hm : m.toBitVec.toNat = 2 ^ k - 1) : ∃ j : Nat, j < 2 ^ k ∧ x &&& m = nI j := ⟨_, Nat.mod_lt _ (Nat.two_pow_pos k), pk_and x k hm⟩
theorem pk_andIn (x : Int32) {m : Int32} (k : Nat) (hm : m.toBitVec.toNat = 2 ^ k - 1) (hk : k ≤ 30) : vp_in (x &&& m) (2 ^ k) := by
  obtain ⟨j, hj, e⟩ := pk_andE x k hm
  rw [e]
  exact vp_in_nI hj (Nat.lt_of_le_of_lt (Nat.pow_le_pow_right (by decide) hk) (by decide))
theorem pk_shl (a s : Int32) (k : Nat) (hs : (s.toBitVec.smod 32).toNat = k) : (a <<< s).toBitVec.toNat = a.toBitVec.toNat * 2 ^ k % 2 ^ 32 := by
  show (a.toBitVec <<< (s.toBitVec.smod 32).toNat).toNat = _
  rw [hs, BitVec.toNat_shiftLeft, Nat.shiftLeft_eq]
theorem pk_shlN {n : Nat} (s : Int32) (k : Nat) (hs : (s.toBitVec.smod 32).toNat = k) (h : n * 2 ^ k < 2 ^ 32) : nI n <<< s = nI (n * 2 ^ k) := by
  apply Int32.toBitVec_inj.mp
  apply BitVec.eq_of_toNat_eq
  have hn : n < 2 ^ 32 := Nat.lt_of_le_of_lt (Nat.le_mul_of_pos_right n (Nat.two_pow_pos k)) h
  rw [pk_shl _ _ k hs, pk_tn hn, pk_tn h, Nat.mod_eq_of_lt h]
theorem pk_shr (a s : Int32) (k : Nat) (hs : (s.toBitVec.smod 32).toNat = k) : (a >>> s).toInt = a.toInt >>> k := by
  show (a.toBitVec.sshiftRight (s.toBitVec.smod 32).toNat).toInt = _
  rw [hs, BitVec.toInt_sshiftRight]
  rfl
theorem pk_shrN {n : Nat} (h : n < 2 ^ 31) (s : Int32) (k : Nat) (hs : (s.toBitVec.smod 32).toNat = k) : nI n >>> s = nI (n / 2 ^ k) := by
  apply Int32.toInt_inj.mp
  have h2 : n / 2 ^ k ≤ n := Nat.div_le_self _ _
  rw [pk_shr _ _ k hs, nI_toInt h, nI_toInt (by omega), Int.shiftRight_eq_div_pow]
  rfl
theorem pk_ushr (x s : Int32) (k : Nat) (hs : ((s.toUInt32 &&& Int32.toUInt32 31).toBitVec % 32).toNat = k) : (x.toUInt32 >>> (s.toUInt32 &&& Int32.toUInt32 31)).toInt32.toBitVec.toNat = x.toBitVec.toNat / 2 ^ k := by
  have e : (x.toUInt32 >>> (s.toUInt32 &&& Int32.toUInt32 31)).toInt32.toBitVec = x.toBitVec >>> k := by
    rw [← hs]
    exact UInt32.toBitVec_shiftRight _ _
  rw [e, BitVec.toNat_ushiftRight, Nat.shiftRight_eq_div_pow]
theorem pk_ushrN {n : Nat} (hn : n < 2 ^ 32) (s : Int32) (k : Nat) (hs : ((s.toUInt32 &&& Int32.toUInt32 31).toBitVec % 32).toNat = k) : ((nI n).toUInt32 >>> (s.toUInt32 &&& Int32.toUInt32 31)).toInt32 = nI (n / 2 ^ k) := by
  apply Int32.toBitVec_inj.mp
  apply BitVec.eq_of_toNat_eq
  rw [pk_ushr _ s k hs, pk_tn hn, pk_tn (Nat.lt_of_le_of_lt (Nat.div_le_self _ _) hn)]
theorem pk_nb (z : Int32) : narrow .byte (.int z.toInt8.toInt32) = .int z.toInt8.toInt32 := congrArg Value.int (by simp)
theorem pk_ns (z : Int32) : narrow .short (.int z.toInt16.toInt32) = .int z.toInt16.toInt32 := congrArg Value.int (by simp)
end
section
/-! counting, sums, the ring of 32 places, small int facts -/
noncomputable def hs_b (p : Prop) : Nat := @ite Nat p (Classical.propDecidable p) 1 0
theorem hs_b_t {p : Prop} (h : p) : hs_b p = 1 := if_pos h
theorem hs_b_f {p : Prop} (h : ¬ p) : hs_b p = 0 := if_neg h
theorem hs_b_eq {p q : Prop} (h : p ↔ q) : hs_b p = hs_b q := by rw [propext h]
noncomputable def hs_cn (P : Nat → Prop) : Nat → Nat
  | 0 => 0
  | n + 1 => hs_cn P n + hs_b (P n)
theorem hs_cn_t {P : Nat → Prop} {n : Nat} (h : P n) : hs_cn P (n + 1) = hs_cn P n + 1 := congrArg (hs_cn P n + ·) (hs_b_t h)
theorem hs_cn_f {P : Nat → Prop} {n : Nat} (h : ¬ P n) : hs_cn P (n + 1) = hs_cn P n := congrArg (hs_cn P n + ·) (hs_b_f h)
theorem hs_cn_eq {P Q : Nat → Prop} : ∀ {n : Nat}, (∀ i, i < n → (P i ↔ Q i)) → hs_cn P n = hs_cn Q n
  | 0, _ => rfl
  | n + 1, h => by
    have a := hs_cn_eq (P := P) (Q := Q) (n := n) (fun i hi => h i (by omega))
    have b := hs_b_eq (h n (by omega))
    show hs_cn P n + hs_b (P n) = hs_cn Q n + hs_b (Q n)
    omega
theorem hs_cn_all {P : Nat → Prop} : ∀ {n : Nat}, (∀ i, i < n → P i) → hs_cn P n = n
  | 0, _ => rfl
  | n + 1, h => by rw [hs_cn_t (h n (by omega)), hs_cn_all (fun i hi => h i (by omega))]
theorem hs_cn_no {P : Nat → Prop} : ∀ {n : Nat}, (∀ i, i < n → ¬ P i) → hs_cn P n = 0
  | 0, _ => rfl
  | n + 1, h => by rw [hs_cn_f (h n (by omega)), hs_cn_no (fun i hi => h i (by omega))]
theorem hs_cn_le (P : Nat → Prop) : ∀ n, hs_cn P n ≤ n
  | 0 => Nat.le_refl 0
  | n + 1 => by
    have := hs_cn_le P n
    by_cases h : P n
    · rw [hs_cn_t h]; omega
    · rw [hs_cn_f h]; omega
theorem hs_cn_del {P : Nat → Prop} {k : Nat} (hk : P k) : ∀ {n : Nat}, k < n → hs_cn P n = hs_cn (fun i => P i ∧ i ≠ k) n + 1
  | 0, h => absurd h (by omega)
  | n + 1, h => by
    by_cases e : k = n
    · subst e
      have a := hs_cn_t (P := P) hk
      have b := hs_cn_f (P := fun i => P i ∧ i ≠ k) (n := k) (fun z => z.2 rfl)
      have c := hs_cn_eq (P := P) (Q := fun i => P i ∧ i ≠ k) (n := k) (fun i hi => ⟨fun z => ⟨z, by omega⟩, fun z => z.1⟩)
      omega
    · have a := hs_cn_del hk (n := n) (by omega)
      by_cases hn : P n
      · have b := hs_cn_t (P := P) hn
        have c := hs_cn_t (P := fun i => P i ∧ i ≠ k) (n := n) ⟨hn, fun z => e z.symm⟩
        omega
      · have b := hs_cn_f (P := P) hn
        have c := hs_cn_f (P := fun i => P i ∧ i ≠ k) (n := n) (fun z => hn z.1)
        omega
theorem hs_cn_set {P : Nat → Prop} {k : Nat} (hk : ¬ P k) {n : Nat} (h : k < n) : hs_cn (fun i => P i ∨ i = k) n = hs_cn P n + 1 := by
  have a := hs_cn_del (P := fun i => P i ∨ i = k) (k := k) (Or.inr rfl) h
  have b := hs_cn_eq (P := fun i => (P i ∨ i = k) ∧ i ≠ k) (Q := P) (n := n) (fun i _ => ⟨fun z => z.1.elim id (fun e => absurd e z.2), fun z => ⟨Or.inl z, fun e => hk (e ▸ z)⟩⟩)
  omega
theorem hs_cn_inj : ∀ {n m : Nat} {P Q : Nat → Prop} (f : Nat → Nat), (∀ i, i < n → P i → f i < m ∧ Q (f i)) → (∀ i j, i < n → j < n → P i → P j → f i = f j → i = j) → hs_cn P n ≤ hs_cn Q m
  | 0, m, P, Q, f, _, _ => Nat.zero_le _
  | n + 1, m, P, Q, f, h, hi => by
    by_cases hn : P n
    · have a := hs_cn_t (P := P) hn
      have b := hs_cn_del (P := Q) (k := f n) (h n (by omega) hn).2 (h n (by omega) hn).1
      have c := hs_cn_inj (n := n) (m := m) (P := P) (Q := fun j => Q j ∧ j ≠ f n) f
        (fun i hin hp => ⟨(h i (by omega) hp).1, (h i (by omega) hp).2, fun e => by
          have := hi i n (by omega) (by omega) hp hn e
          omega⟩)
        (fun i j hi1 hj1 => hi i j (by omega) (by omega))
      omega
    · have a := hs_cn_f (P := P) hn
      have c := hs_cn_inj (n := n) (m := m) (P := P) (Q := Q) f (fun i hin hp => h i (by omega) hp) (fun i j hi1 hj1 => hi i j (by omega) (by omega))
      omega
theorem hs_cn_add (P : Nat → Prop) (a : Nat) : ∀ b, hs_cn P (a + b) = hs_cn P a + hs_cn (fun i => P (a + i)) b
  | 0 => rfl
  | b + 1 => by
    have h := hs_cn_add P a b
    show hs_cn P (a + b) + hs_b (P (a + b)) = hs_cn P a + (hs_cn (fun i => P (a + i)) b + hs_b (P (a + b)))
    omega
theorem hs_cn_or {P Q R : Nat → Prop} : ∀ {n : Nat}, (∀ i, i < n → (R i ↔ P i ∨ Q i)) → (∀ i, i < n → P i → ¬ Q i) → hs_cn R n = hs_cn P n + hs_cn Q n
  | 0, _, _ => rfl
  | n + 1, h, hd => by
    have a := hs_cn_or (P := P) (Q := Q) (R := R) (n := n) (fun i hi => h i (by omega)) (fun i hi => hd i (by omega))
    have b := h n (by omega)
    have c := hd n (by omega)
    show hs_cn R n + hs_b (R n) = hs_cn P n + hs_b (P n) + (hs_cn Q n + hs_b (Q n))
    by_cases hp : P n
    · rw [hs_b_t (b.mpr (Or.inl hp)), hs_b_t hp, hs_b_f (c hp)]; omega
    · by_cases hq : Q n
      · rw [hs_b_t (b.mpr (Or.inr hq)), hs_b_f hp, hs_b_t hq]; omega
      · rw [hs_b_f (fun z => (b.mp z).elim hp hq), hs_b_f hp, hs_b_f hq]; omega
/-- more holes than pigeons can fill: of more than 24 different places not all hold entries -/
theorem hs_pig {N : Nat} (hN : 24 < N) (Q : Nat → Prop) (R : Nat → Nat → Prop) (h : ∀ i, i < N → ¬ Q i → ∃ x, x < 24 ∧ R i x) (hu : ∀ i j x, i < N → j < N → R i x → R j x → i = j) : ∃ i, i < N ∧ Q i := by
  refine Classical.byContradiction fun hn => ?_
  have hq : ∀ i, i < N → ¬ Q i := fun i hi hq => hn ⟨i, hi, hq⟩
  have hx : ∀ i, ∃ x, i < N → x < 24 ∧ R i x := fun i => by
    by_cases hi : i < N
    · obtain ⟨x, hx⟩ := h i hi (hq i hi)
      exact ⟨x, fun _ => hx⟩
    · exact ⟨0, fun z => absurd z hi⟩
  have hx2 : ∀ i, i < N → (hx i).choose < 24 ∧ R i (hx i).choose := fun i hi => (hx i).choose_spec hi
  have a := hs_cn_inj (n := N) (m := 24) (P := fun _ => True) (Q := fun _ => True) (fun i => (hx i).choose) (fun i hi _ => ⟨(hx2 i hi).1, trivial⟩)
    (fun i j hi hj _ _ e => hu i j _ hi hj (hx2 i hi).2 (by
      have e2 : (hx i).choose = (hx j).choose := e
      rw [e2]
      exact (hx2 j hj).2))
  have b := hs_cn_all (P := fun _ => True) (n := N) (fun _ _ => trivial)
  have c := hs_cn_le (fun _ => True) 24
  omega
/-! sums -/
noncomputable def hs_w (p : Prop) (v : Int32) : Int32 := @ite Int32 p (Classical.propDecidable p) v 0
theorem hs_w_t {p : Prop} {v : Int32} (h : p) : hs_w p v = v := if_pos h
theorem hs_w_f {p : Prop} {v : Int32} (h : ¬ p) : hs_w p v = 0 := if_neg h
noncomputable def hs_sm (P : Nat → Prop) (f : Nat → Int32) : Nat → Int32
  | 0 => 0
  | n + 1 => hs_sm P f n + hs_w (P n) (f n)
theorem hs_sm_t {P : Nat → Prop} {f : Nat → Int32} {n : Nat} (h : P n) : hs_sm P f (n + 1) = hs_sm P f n + f n := congrArg (hs_sm P f n + ·) (hs_w_t h)
theorem hs_sm_f {P : Nat → Prop} {f : Nat → Int32} {n : Nat} (h : ¬ P n) : hs_sm P f (n + 1) = hs_sm P f n := (congrArg (hs_sm P f n + ·) (hs_w_f h)).trans (Int32.add_zero _)
theorem hs_sm_eq {P Q : Nat → Prop} {f : Nat → Int32} : ∀ {n : Nat}, (∀ i, i < n → (P i ↔ Q i)) → hs_sm P f n = hs_sm Q f n
  | 0, _ => rfl
  | n + 1, h => by
    have a := hs_sm_eq (P := P) (Q := Q) (f := f) (n := n) (fun i hi => h i (by omega))
    show hs_sm P f n + hs_w (P n) (f n) = hs_sm Q f n + hs_w (Q n) (f n)
    rw [a, propext (h n (by omega))]
theorem hs_sm_no {P : Nat → Prop} {f : Nat → Int32} : ∀ {n : Nat}, (∀ i, i < n → ¬ P i) → hs_sm P f n = 0
  | 0, _ => rfl
  | n + 1, h => by rw [hs_sm_f (h n (by omega)), hs_sm_no (fun i hi => h i (by omega))]
theorem hs_rc (a b c : Int32) : a + b + c = a + c + b := by rw [Int32.add_assoc, Int32.add_assoc, Int32.add_comm b c]
theorem hs_sm_del {P : Nat → Prop} {f : Nat → Int32} {k : Nat} (hk : P k) : ∀ {n : Nat}, k < n → hs_sm P f n = hs_sm (fun i => P i ∧ i ≠ k) f n + f k
  | 0, h => absurd h (by omega)
  | n + 1, h => by
    by_cases e : k = n
    · subst e
      rw [hs_sm_t (P := P) hk, hs_sm_f (P := fun i => P i ∧ i ≠ k) (n := k) (fun z => z.2 rfl),
        hs_sm_eq (P := P) (Q := fun i => P i ∧ i ≠ k) (n := k) (fun i hi => ⟨fun z => ⟨z, by omega⟩, fun z => z.1⟩)]
    · have a := hs_sm_del (f := f) hk (n := n) (by omega)
      by_cases hn : P n
      · rw [hs_sm_t (P := P) hn, hs_sm_t (P := fun i => P i ∧ i ≠ k) (n := n) ⟨hn, fun z => e z.symm⟩, a, hs_rc]
      · rw [hs_sm_f (P := P) hn, hs_sm_f (P := fun i => P i ∧ i ≠ k) (n := n) (fun z => hn z.1), a]
theorem hs_sm_bij : ∀ {n m : Nat} {P Q : Nat → Prop} {f g : Nat → Int32} (R : Nat → Nat → Prop), (∀ i, i < n → P i → ∃ j, j < m ∧ Q j ∧ R i j ∧ g j = f i) → (∀ j, j < m → Q j → ∃ i, i < n ∧ P i ∧ R i j) →
    (∀ i i' j, R i j → R i' j → i = i') → (∀ i j j', R i j → R i j' → j = j') → hs_sm P f n = hs_sm Q g m
  | 0, m, P, Q, f, g, R, h, hs, u1, u2 => by
    rw [hs_sm_no (P := Q) (fun j hj hq => by obtain ⟨i, hi, _⟩ := hs j hj hq; omega)]
    rfl
  | n + 1, m, P, Q, f, g, R, h, hs, u1, u2 => by
    by_cases hn : P n
    · obtain ⟨k, hk, hq, hr, hg⟩ := h n (by omega) hn
      rw [hs_sm_t (P := P) hn, hs_sm_del (P := Q) (k := k) hq hk, hg]
      congr 1
      refine hs_sm_bij (n := n) (m := m) (P := P) (Q := fun j => Q j ∧ j ≠ k) R (fun i hi hp => ?_) (fun j hj hq2 => ?_) u1 u2
      · obtain ⟨j, hj, hqj, hrj, hgj⟩ := h i (by omega) hp
        refine ⟨j, hj, ⟨hqj, fun e => ?_⟩, hrj, hgj⟩
        subst e
        have := u1 _ _ _ hrj hr
        omega
      · obtain ⟨i, hi, hp, hri⟩ := hs j hj hq2.1
        refine ⟨i, ?_, hp, hri⟩
        have : i ≠ n := fun e => by subst e; exact hq2.2 (u2 _ _ _ hri hr)
        omega
    · rw [hs_sm_f (P := P) hn]
      refine hs_sm_bij (n := n) (m := m) (P := P) (Q := Q) R (fun i hi hp => h i (by omega) hp) (fun j hj hq2 => ?_) u1 u2
      obtain ⟨i, hi, hp, hri⟩ := hs j hj hq2
      refine ⟨i, ?_, hp, hri⟩
      have : i ≠ n := fun e => by subst e; exact hn hp
      omega
/-! ints -/
theorem hs_a31 {n : Nat} (h : n < 2 ^ 31) : nI n &&& 31 = nI (n % 32) := pk_andN (by omega) 5 (by decide)
theorem hs_i1 {i : Nat} (h : i < 1000) : (nI i + 1) &&& 31 = nI ((i + 1) % 32) := by rw [nI_1, hs_a31 (by omega)]
theorem hs_i2 {i s : Nat} (h : i < 1000) (hs : s < 1000) : (nI i + nI s) &&& 31 = nI ((i + s) % 32) := by rw [nI_add, hs_a31 (by omega)]
theorem hs_i3 : ∀ a, a < 32 → ∀ b, b < 32 → (nI a - nI b) &&& 31 = nI ((a + 32 - b) % 32) := by decide +kernel
theorem hs_r8 {a : Nat} (h : a < 2 ^ 31) : nI a - nI a / 8 * 8 = nI (a % 8) := pk_rem (d := 8) h (by decide) (by decide)
theorem hs_r30 {a : Nat} (h : a < 2 ^ 31) : nI a - nI a / 30 * 30 = nI (a % 30) := pk_rem (d := 30) h (by decide) (by decide)
theorem hs_r31 {a : Nat} (h : a < 2 ^ 31) : nI a - nI a / 31 * 31 = nI (a % 31) := pk_rem (d := 31) h (by decide) (by decide)
theorem hs_p1 (i : Nat) : (1 : Int32) + nI i = nI (1 + i) := nI_add 1 i
theorem hs_p6 (i : Nat) : (6 : Int32) + nI i = nI (6 + i) := nI_add 6 i
theorem hs_p32 (i : Nat) : (32 : Int32) + nI i = nI (32 + i) := nI_add 32 i
theorem hs_p48 (i : Nat) : (48 : Int32) + nI i = nI (48 + i) := nI_add 48 i
theorem hs_p64 (i : Nat) : (64 : Int32) + nI i = nI (64 + i) := nI_add 64 i
theorem hs_p72 (i : Nat) : (72 : Int32) + nI i = nI (72 + i) := nI_add 72 i
theorem hs_p96 (i : Nat) : (96 : Int32) + nI i = nI (96 + i) := nI_add 96 i
theorem hs_p128 (i : Nat) : (128 : Int32) + nI i = nI (128 + i) := nI_add 128 i
theorem hs_t32 (e : Nat) : nI e * 32 = nI (e * 32) := pk_mul e 32
theorem hs_t24 (e : Nat) : nI e * 24 = nI (e * 24) := pk_mul e 24
theorem hs_n0 : vp_nar .byte 0 = 0 := by rw [vp_nar_byte]; decide
theorem hs_n1 : vp_nar .byte 1 = 1 := by rw [vp_nar_byte]; decide
theorem hs_n2 : vp_nar .byte 2 = 2 := by rw [vp_nar_byte]; decide
theorem hs_nm1 : vp_nar .byte (-1) = -1 := by rw [vp_nar_byte]; decide
theorem hs_o0 : vp_nar .boolean 0 = 0 := rfl
theorem hs_o1 : vp_nar .boolean 1 = 1 := rfl
theorem hs_by0 : ∀ x, x < 24 → (nI x).toInt8.toInt32 = nI x := by decide +kernel
theorem hs_nx {x : Nat} (h : x < 24) : vp_nar .byte (nI x) = nI x := by rw [vp_nar_byte]; exact hs_by0 x h
theorem hs_ny {x : Nat} (h : x < 24) : vp_nar .byte (nI x).toInt8.toInt32 = nI x := by rw [hs_by0 x h]; exact hs_nx h
theorem hs_ne {x : Nat} (h : x < 2 ^ 31) : ¬ nI x = -1 := fun e => nI_pos h (by rw [e]; decide)
theorem hs_ij {a b : Nat} (e : nI a = nI b) (ha : a < 2 ^ 31) (hb : b < 2 ^ 31) : a = b := (nI_eq ha hb).mp e
theorem hs_m1n : (-1 : Int32) < 0 := by decide
theorem hs_m1p : ¬ (0 : Int32) ≤ -1 := by decide
theorem hs_10 : ¬ (1 : Int32) = 0 := by decide
theorem hs_20 : ¬ (2 : Int32) = 0 := by decide
theorem hs_21 : ¬ (2 : Int32) = 1 := by decide
theorem hs_01 : ¬ (0 : Int32) = 1 := by decide
theorem hs_12 : ¬ (1 : Int32) = 2 := by decide
theorem hs_02 : ¬ (0 : Int32) = 2 := by decide
theorem hs_d8 : ¬ (8 : Int32) = 0 := by decide
theorem hs_d30 : ¬ (30 : Int32) = 0 := by decide
theorem hs_d31 : ¬ (31 : Int32) = 0 := by decide
theorem hs_d32 : ¬ (32 : Int32) = 0 := by decide
/-! scattering -/
def hs_mx (w k d : Int32) : Int32 :=
  let h1 := ((k * 73244475) + (w * 40503)) + (d * 26699)
  let h2 := h1 ^^^ ((h1.toUInt32 >>> ((15 : Int32).toUInt32 &&& Int32.toUInt32 31)).toInt32)
  let h3 := h2 * 668265263
  let h4 := h3 ^^^ ((h3.toUInt32 >>> ((13 : Int32).toUInt32 &&& Int32.toUInt32 31)).toInt32)
  let h5 := h4 * 374761393
  ((h5 ^^^ ((h5.toUInt32 >>> ((16 : Int32).toUInt32 &&& Int32.toUInt32 31)).toInt32)).toUInt32 >>> ((1 : Int32).toUInt32 &&& Int32.toUInt32 31)).toInt32
def hs_m (w k : Int32) (d : Nat) : Nat := (hs_mx w k (nI d)).toBitVec.toNat
theorem hs_m_lt (w k : Int32) (d : Nat) : hs_m w k d < 2 ^ 31 := by
  unfold hs_m hs_mx
  dsimp only
  rw [pk_ushr _ 1 1 (by decide)]
  exact Nat.div_lt_of_lt_mul (BitVec.isLt _)
theorem hs_mx_eq (w k : Int32) (d : Nat) : hs_mx w k (nI d) = nI (hs_m w k d) := by
  apply Int32.toBitVec_inj.mp
  apply BitVec.eq_of_toNat_eq
  rw [pk_tn (Nat.lt_trans (hs_m_lt w k d) (by decide))]
  rfl
section
variable {fC fW fL fM fB fR : Int32} {aT aK aV aC aD aE aS aN aH aP aQ aO aB aG : Nat → Int32} {post : Int32 → Prop}
theorem hs_mixed {k : Int32} (d : Nat) (h : post (nI (hs_m fW k d))) : wpX_mixed post (fC, fW, fL, fM, fB, fR, aT, aK, aV, aC, aD, aE, aS, aN, aH, aP, aQ, aO, aB, aG) k (nI d) := by
  rw [← hs_mx_eq] at h
  intro x1 e1 x2 e2 x3 e3 x4 e4 x5 e5
  subst e1 e2 e3 e4 e5
  exact h
theorem hs_home {x : Nat} (d : Nat) (hx : x < 24) (h : post (nI (hs_m fW (aK x) d % 32))) : wpX_home post (fC, fW, fL, fM, fB, fR, aT, aK, aV, aC, aD, aE, aS, aN, aH, aP, aQ, aO, aB, aG) (nI x) (nI d) := by
  refine And.intro (vp_in_nI hx (by decide)) (hs_mixed d ?_)
  rw [nI_clamp (by omega)]
  show post (nI _ &&& 31)
  rw [hs_a31 (hs_m_lt _ _ _)]
  exact h
theorem hs_chainOf {k : Int32} (h : post (nI (hs_m fW k 0 % 8))) : wpX_chainOf post (fC, fW, fL, fM, fB, fR, aT, aK, aV, aC, aD, aE, aS, aN, aH, aP, aQ, aO, aB, aG) k := by
  unfold wpX_chainOf
  dsimp only
  refine hs_mixed 0 (And.intro hs_d8 ?_)
  rw [hs_r8 (hs_m_lt _ _ _)]
  exact h
theorem hs_stepOf {k : Int32} (h : post (nI (1 + hs_m fW k 4 % 30))) : wpX_stepOf post (fC, fW, fL, fM, fB, fR, aT, aK, aV, aC, aD, aE, aS, aN, aH, aP, aQ, aO, aB, aG) k := by
  unfold wpX_stepOf
  dsimp only
  refine hs_mixed 4 (And.intro hs_d30 ?_)
  rw [hs_r30 (hs_m_lt _ _ _), hs_p1]
  exact h
theorem hs_nestOf {k : Int32} (e : Nat) (h : post (nI (e * 32 + hs_m fW k (6 + e) % 32))) : wpX_nestOf post (fC, fW, fL, fM, fB, fR, aT, aK, aV, aC, aD, aE, aS, aN, aH, aP, aQ, aO, aB, aG) k (nI e) := by
  unfold wpX_nestOf
  dsimp only
  rw [hs_p6]
  refine hs_mixed (6 + e) ?_
  show post (nI e * 32 + (nI _ &&& 31))
  rw [hs_a31 (hs_m_lt _ _ _), hs_t32, nI_add]
  exact h
end
/-- what each of the eight tables answers: the entry of the key, or -1 -/
def hs_Fd (T : Nat → Prop) (K : Nat → Int32) (k r : Int32) : Prop := (∃ x, T x ∧ K x = k ∧ r = nI x) ∨ ((∀ x, T x → ¬ K x = k) ∧ r = -1)
theorem hs_us {f : Nat → Nat} {k v : Nat} : (fun y => if y = k then v else f y) k = v := if_pos rfl
end
section
/-! chains: lists behind first and next -/
def hs_lk (nx : Nat → Int32) : List Nat → Int32 → Prop
  | [], v => v = -1
  | x :: l, v => v = nI x ∧ x < 24 ∧ hs_lk nx l (nx x)
theorem hs_lk_upd {nx : Nat → Int32} {x : Nat} {y : Int32} : ∀ {l : List Nat} {v : Int32}, x ∉ l → hs_lk nx l v → hs_lk (upd nx x y) l v
  | [], _, _, h => h
  | a :: l, v, hx, h => by
    obtain ⟨h1, h2, h3⟩ := h
    refine ⟨h1, h2, ?_⟩
    rw [pk_un (fun e => hx (by rw [e]; exact List.mem_cons_self))]
    exact hs_lk_upd (fun z => hx (List.mem_cons_of_mem _ z)) h3
theorem hs_lk_del {nx : Nat → Int32} {a x : Nat} : ∀ {l1 l2 : List Nat} {v : Int32}, (l1 ++ a :: x :: l2).Nodup → hs_lk nx (l1 ++ a :: x :: l2) v → hs_lk (upd nx a (nx x)) (l1 ++ a :: l2) v
  | [], l2, v, hn, h => by
    have hn2 : (a :: x :: l2).Nodup := hn
    obtain ⟨h1, h2, h3, h4, h5⟩ := h
    refine ⟨h1, h2, ?_⟩
    rw [pk_us]
    exact hs_lk_upd (fun z => (List.nodup_cons.mp hn2).1 (List.mem_cons_of_mem _ z)) h5
  | c :: l1, l2, v, hn, h => by
    have hn2 : (c :: (l1 ++ a :: x :: l2)).Nodup := hn
    obtain ⟨h1, h2, h3⟩ := h
    refine ⟨h1, h2, ?_⟩
    rw [pk_un (fun e => (List.nodup_cons.mp hn2).1 (by rw [e]; exact List.mem_append_right _ List.mem_cons_self))]
    exact hs_lk_del (List.nodup_cons.mp hn2).2 h3
theorem hs_lk_24 {nx : Nat → Int32} : ∀ {l : List Nat} {v : Int32}, hs_lk nx l v → ∀ x, x ∈ l → x < 24
  | [], _, _, x, hx => absurd hx List.not_mem_nil
  | a :: l, _, h, x, hx => by
    rcases List.mem_cons.mp hx with e | e
    · rw [e]; exact h.2.1
    · exact hs_lk_24 h.2.2 x e
theorem hs_len : ∀ {l : List Nat} {P : Nat → Prop} {n : Nat}, l.Nodup → (∀ y, y ∈ l ↔ P y) → (∀ y, P y → y < n) → l.length = hs_cn P n
  | [], P, n, _, h, _ => (hs_cn_no (fun i _ hp => absurd ((h i).mpr hp) List.not_mem_nil)).symm
  | a :: l, P, n, hn, h, hl => by
    have pa : P a := (h a).mp List.mem_cons_self
    have hn2 := List.nodup_cons.mp hn
    have ih := hs_len (l := l) (P := fun y => P y ∧ y ≠ a) (n := n) hn2.2 (fun y => ⟨fun z => ⟨(h y).mp (List.mem_cons_of_mem _ z), fun e => hn2.1 (e ▸ z)⟩, fun z => (List.mem_cons.mp ((h y).mpr z.1)).elim (fun e => absurd e z.2) id⟩) (fun y z => hl y z.1)
    have d := hs_cn_del pa (hl a pa)
    rw [List.length_cons]
    omega
def hs_CI (hb : Nat → Nat) (B : Nat) (T : Nat → Prop) (fi nx : Nat → Int32) : Prop :=
  ∀ b, b < B → ∃ l : List Nat, hs_lk nx l (fi b) ∧ l.Nodup ∧ ∀ x, x ∈ l ↔ T x ∧ hb x = b
theorem hs_CI_cong {hb hb' : Nat → Nat} {B : Nat} {T : Nat → Prop} {fi nx : Nat → Int32} (I : hs_CI hb B T fi nx) (h : ∀ x, T x → hb' x = hb x) : hs_CI hb' B T fi nx := by
  intro b hb1
  obtain ⟨l, h1, h2, h3⟩ := I b hb1
  exact ⟨l, h1, h2, fun x => (h3 x).trans ⟨fun z => ⟨z.1, (h x z.1).trans z.2⟩, fun z => ⟨z.1, (h x z.1).symm.trans z.2⟩⟩⟩
theorem hs_CI_0 {hb : Nat → Nat} {B : Nat} {fi nx : Nat → Int32} (h : ∀ b, b < B → fi b = -1) : hs_CI hb B (fun _ => False) fi nx := fun b hb1 =>
  ⟨[], h b hb1, List.nodup_nil, fun x => ⟨fun z => absurd z List.not_mem_nil, fun z => z.1.elim⟩⟩
theorem hs_CI_push {hb : Nat → Nat} {B : Nat} {T : Nat → Prop} {fi nx : Nat → Int32} (I : hs_CI hb B T fi nx) {x : Nat} (hx : x < 24) (hT : ¬ T x) :
    hs_CI hb B (fun y => T y ∨ y = x) (upd fi (hb x) (nI x)) (upd nx x (fi (hb x))) := by
  intro b hb1
  obtain ⟨l, h1, h2, h3⟩ := I b hb1
  have hxl : x ∉ l := fun z => hT ((h3 x).mp z).1
  by_cases e : b = hb x
  · subst e
    refine ⟨x :: l, ?_, List.nodup_cons.mpr ⟨hxl, h2⟩, fun y => ?_⟩
    · rw [pk_us]
      refine ⟨rfl, hx, ?_⟩
      rw [pk_us]
      exact hs_lk_upd hxl h1
    · rw [List.mem_cons, h3]
      constructor
      · rintro (rfl | z)
        · exact ⟨Or.inr rfl, rfl⟩
        · exact ⟨Or.inl z.1, z.2⟩
      · rintro ⟨z | z, w⟩
        · exact Or.inr ⟨z, w⟩
        · exact Or.inl z
  · refine ⟨l, ?_, h2, fun y => (h3 y).trans ⟨fun z => ⟨Or.inl z.1, z.2⟩, fun z => ⟨z.1.elim id (fun w => ?_), z.2⟩⟩⟩
    · rw [pk_un e]
      exact hs_lk_upd hxl h1
    · rw [w] at z
      exact absurd z.2.symm e
theorem hs_CI_head {hb : Nat → Nat} {B : Nat} {T : Nat → Prop} {fi nx : Nat → Int32} (I : hs_CI hb B T fi nx) {x : Nat} (hx : x < 24) (h : fi (hb x) = nI x) :
    hs_CI hb B (fun y => T y ∧ y ≠ x) (upd fi (hb x) (nx x)) nx := by
  intro b hb1
  obtain ⟨l, h1, h2, h3⟩ := I b hb1
  by_cases e : b = hb x
  · subst e
    cases l with
    | nil => exact absurd (h.symm.trans h1) (hs_ne (by omega))
    | cons a l =>
      obtain ⟨g1, g2, g3⟩ := h1
      have ea : a = x := hs_ij (g1.symm.trans h) (by omega) (by omega)
      subst ea
      have hn2 := List.nodup_cons.mp h2
      refine ⟨l, ?_, hn2.2, fun y => ?_⟩
      · rw [pk_us]; exact g3
      · constructor
        · intro z
          have q := (h3 y).mp (List.mem_cons_of_mem _ z)
          exact ⟨⟨q.1, fun e => hn2.1 (e ▸ z)⟩, q.2⟩
        · intro z
          exact (List.mem_cons.mp ((h3 y).mpr ⟨z.1.1, z.2⟩)).elim (fun e => absurd e z.1.2) id
  · refine ⟨l, ?_, h2, fun y => (h3 y).trans ⟨fun z => ⟨⟨z.1, fun w => e (by rw [← z.2, w])⟩, z.2⟩, fun z => ⟨z.1.1, z.2⟩⟩⟩
    rw [pk_un e]
    exact h1
theorem hs_CI_mid {hb : Nat → Nat} {B : Nat} {T : Nat → Prop} {fi nx : Nat → Int32} (I : hs_CI hb B T fi nx) {x a : Nat} {l1 l2 : List Nat}
    (hl : hs_lk nx (l1 ++ a :: x :: l2) (fi (hb x))) (hn : (l1 ++ a :: x :: l2).Nodup) (hm : ∀ y, y ∈ l1 ++ a :: x :: l2 ↔ T y ∧ hb y = hb x) :
    hs_CI hb B (fun y => T y ∧ y ≠ x) fi (upd nx a (nx x)) := by
  intro b hb1
  by_cases e : b = hb x
  · subst e
    have hn2 : (l1 ++ (a :: x :: l2)).Nodup := hn
    rw [List.nodup_append] at hn2
    obtain ⟨n1, n2, n3⟩ := hn2
    have n4 := List.nodup_cons.mp n2
    have n5 := List.nodup_cons.mp n4.2
    refine ⟨l1 ++ a :: l2, hs_lk_del hn hl, ?_, fun y => ?_⟩
    · rw [List.nodup_append]
      refine ⟨n1, List.nodup_cons.mpr ⟨fun z => n4.1 (List.mem_cons_of_mem _ z), n5.2⟩, fun p hp q hq => n3 p hp q ?_⟩
      rcases List.mem_cons.mp hq with z | z
      · rw [z]; exact List.mem_cons_self
      · exact List.mem_cons_of_mem _ (List.mem_cons_of_mem _ z)
    · have q := hm y
      simp only [List.mem_append, List.mem_cons] at q ⊢
      constructor
      · intro z
        have z2 : y ≠ x := by
          rintro rfl
          rcases z with z | z | z
          · exact n3 y z y (List.mem_cons_of_mem _ List.mem_cons_self) rfl
          · exact n4.1 (by rw [← z]; exact List.mem_cons_self)
          · exact n5.1 z
        have z3 := q.mp (z.elim Or.inl (fun w => w.elim (fun w => Or.inr (Or.inl w)) (fun w => Or.inr (Or.inr (Or.inr w)))))
        exact ⟨⟨z3.1, z2⟩, z3.2⟩
      · rintro ⟨⟨z1, z2⟩, z3⟩
        rcases q.mpr ⟨z1, z3⟩ with z | z | z | z
        · exact Or.inl z
        · exact Or.inr (Or.inl z)
        · exact absurd z z2
        · exact Or.inr (Or.inr z)
  · obtain ⟨l, h1, h2, h3⟩ := I b hb1
    refine ⟨l, hs_lk_upd (fun z => ?_) h1, h2, fun y => (h3 y).trans ⟨fun z => ⟨⟨z.1, fun w => e (by rw [← z.2, w])⟩, z.2⟩, fun z => ⟨z.1.1, z.2⟩⟩⟩
    have w := ((h3 a).mp z).2
    have w2 := ((hm a).mp (List.mem_append_right _ List.mem_cons_self)).2
    exact e (w.symm.trans w2)
/-! the walks of engines 0 and 7 along a chain -/
section
variable {fC fW fL fM fB fR : Int32} {aT aK aV aC aD aE aS aN aH aP aQ aO aB aG : Nat → Int32}
theorem hs_fl0 {post : Int32 → Prop} {k : Int32} : ∀ (l : List Nat) (v : Int32) (n : Nat), l.length < n → hs_lk aD l v → (∀ x, x ∈ l → aK x = k → post (nI x)) → ((∀ x, x ∈ l → ¬ aK x = k) → post (-1)) → wX_findInChain_13 post k fC fW fL fM fB fR aT aK aV aC aD aE aS aN aH aP aQ aO aB aG n v
  | _, _, 0, hn, _, _, _ => absurd hn (by omega)
  | [], v, n + 1, hn, h, _, h2 => by
    have e : v = -1 := h
    subst e
    exact br_t hs_m1n (h2 (fun x hx => absurd hx List.not_mem_nil))
  | x :: l, v, n + 1, hn, h, h1, h2 => by
    obtain ⟨rfl, hx, h⟩ := h
    have hx2 : x < 2 ^ 31 := by omega
    simp only [wX_findInChain_13, nI_clamp hx2]
    refine br_f (nI_pos hx2) ⟨vp_in_nI hx (by decide), br_c (fun e => h1 x List.mem_cons_self e) (fun e => ⟨vp_in_nI hx (by decide), nm_e (hs_fl0 l _ n (by rw [List.length_cons] at hn; omega) h (fun y hy => h1 y (List.mem_cons_of_mem _ hy)) (fun ho => h2 ?_))⟩)⟩
    intro y hy
    rcases List.mem_cons.mp hy with z | z
    · rw [z]; exact e
    · exact ho _ z
theorem hs_rl0 {post : SX → Prop} {x : Nat} (hx : x < 24) : ∀ (r l1 : List Nat) (a n : Nat), r.length < n → a < 24 → x ∈ r → hs_lk aD r (aD a) →
    (∀ c m1 l2, l1 ++ a :: r = m1 ++ c :: x :: l2 → c < 24 → hs_lk aD l2 (aD x) → post (fC, fW, fL, fM, fB, fR, aT, aK, aV, aC, upd aD c (aD x), aE, aS, aN, aH, aP, aQ, aO, aB, aG)) → wX_removeFromChain_41 post (nI x) fC fW fL fM fB fR aT aK aV aC aD aE aS aN aH aP aQ aO aB aG n (nI a)
  | _, _, _, 0, hn, _, _, _, _ => absurd hn (by omega)
  | [], _, _, _ + 1, _, _, hm, _, _ => absurd hm List.not_mem_nil
  | y :: r, l1, a, n + 1, hn, ha, hm, h, K => by
    have ha2 : a < 2 ^ 31 := by omega
    have hx2 : x < 2 ^ 31 := by omega
    obtain ⟨e, hy, h⟩ := h
    simp only [wX_removeFromChain_41, nI_clamp ha2, nI_clamp hx2]
    refine ⟨vp_in_nI ha (by decide), br_c (fun z => ⟨vp_in_nI hx (by decide), vp_in_nI ha (by decide), ?_⟩) (fun z => ⟨vp_in_nI ha (by decide), nm_r e ?_⟩)⟩
    · have ey : y = x := hs_ij (e.symm.trans z) (by omega) hx2
      subst ey
      have q : vp_nar .byte (aD y) = aD y := by
        cases r with
        | nil =>
          have e2 : aD y = -1 := h
          rw [e2, hs_nm1]
        | cons b r => rw [h.1, hs_nx h.2.1]
      rw [q]
      exact nm_e (K a l1 r rfl ha h)
    · have hm2 : x ∈ r := (List.mem_cons.mp hm).elim (fun w => absurd (by rw [e, w]) z) id
      exact hs_rl0 hx r (l1 ++ [a]) y n (by rw [List.length_cons] at hn; omega) hy hm2 h (fun c m1 l2 w => K c m1 l2 (by rw [← w, List.append_assoc]; rfl))
theorem hs_fl7 {post : Int32 → Prop} {k : Int32} : ∀ (l : List Nat) (v : Int32) (n : Nat), l.length < n → hs_lk aG l v → (∀ x, x ∈ l → aK x = k → post (nI x)) → ((∀ x, x ∈ l → ¬ aK x = k) → post (-1)) → wX_findInBucket_13 post k fC fW fL fM fB fR aT aK aV aC aD aE aS aN aH aP aQ aO aB aG n v
  | _, _, 0, hn, _, _, _ => absurd hn (by omega)
  | [], v, n + 1, hn, h, _, h2 => by
    have e : v = -1 := h
    subst e
    exact br_t hs_m1n (h2 (fun x hx => absurd hx List.not_mem_nil))
  | x :: l, v, n + 1, hn, h, h1, h2 => by
    obtain ⟨rfl, hx, h⟩ := h
    have hx2 : x < 2 ^ 31 := by omega
    simp only [wX_findInBucket_13, nI_clamp hx2]
    refine br_f (nI_pos hx2) ⟨vp_in_nI hx (by decide), br_c (fun e => h1 x List.mem_cons_self e) (fun e => ⟨vp_in_nI hx (by decide), nm_e (hs_fl7 l _ n (by rw [List.length_cons] at hn; omega) h (fun y hy => h1 y (List.mem_cons_of_mem _ hy)) (fun ho => h2 ?_))⟩)⟩
    intro y hy
    rcases List.mem_cons.mp hy with z | z
    · rw [z]; exact e
    · exact ho _ z
theorem hs_rl7 {post : SX → Prop} {x : Nat} (hx : x < 24) : ∀ (r l1 : List Nat) (a n : Nat), r.length < n → a < 24 → x ∈ r → hs_lk aG r (aG a) →
    (∀ c m1 l2, l1 ++ a :: r = m1 ++ c :: x :: l2 → c < 24 → hs_lk aG l2 (aG x) → post (fC, fW, fL, fM, fB, fR, aT, aK, aV, aC, aD, aE, aS, aN, aH, aP, aQ, aO, aB, upd aG c (aG x))) → wX_removeFromBucket_41 post (nI x) fC fW fL fM fB fR aT aK aV aC aD aE aS aN aH aP aQ aO aB aG n (nI a)
  | _, _, _, 0, hn, _, _, _, _ => absurd hn (by omega)
  | [], _, _, _ + 1, _, _, hm, _, _ => absurd hm List.not_mem_nil
  | y :: r, l1, a, n + 1, hn, ha, hm, h, K => by
    have ha2 : a < 2 ^ 31 := by omega
    have hx2 : x < 2 ^ 31 := by omega
    obtain ⟨e, hy, h⟩ := h
    simp only [wX_removeFromBucket_41, nI_clamp ha2, nI_clamp hx2]
    refine ⟨vp_in_nI ha (by decide), br_c (fun z => ⟨vp_in_nI hx (by decide), vp_in_nI ha (by decide), ?_⟩) (fun z => ⟨vp_in_nI ha (by decide), nm_r e ?_⟩)⟩
    · have ey : y = x := hs_ij (e.symm.trans z) (by omega) hx2
      subst ey
      have q : vp_nar .byte (aG y) = aG y := by
        cases r with
        | nil =>
          have e2 : aG y = -1 := h
          rw [e2, hs_nm1]
        | cons b r => rw [h.1, hs_nx h.2.1]
      rw [q]
      exact nm_e (K a l1 r rfl ha h)
    · have hm2 : x ∈ r := (List.mem_cons.mp hm).elim (fun w => absurd (by rw [e, w]) z) id
      exact hs_rl7 hx r (l1 ++ [a]) y n (by rw [List.length_cons] at hn; omega) hy hm2 h (fun c m1 l2 w => K c m1 l2 (by rw [← w, List.append_assoc]; rfl))
/-! engine 0 -/
theorem hs_find0 {T : Nat → Prop} {post : Int32 → Prop} {k : Int32} (I : hs_CI (fun x => hs_m fW (aK x) 0 % 8) 8 T aC aD) (K : ∀ r, hs_Fd T aK k r → post r) : wpX_findInChain post (fC, fW, fL, fM, fB, fR, aT, aK, aV, aC, aD, aE, aS, aN, aH, aP, aQ, aO, aB, aG) k := by
  unfold wpX_findInChain
  dsimp only
  refine hs_chainOf ?_
  have hb : hs_m fW k 0 % 8 < 8 := Nat.mod_lt _ (by decide)
  obtain ⟨l, h1, h2, h3⟩ := I _ hb
  refine And.intro (vp_in_nI hb (by decide)) (nm_r (congrArg aC (nI_clamp (by omega))) ⟨l.length + 1, hs_fl0 l _ _ (by omega) h1 (fun x hx e => K _ (Or.inl ⟨x, ((h3 x).mp hx).1, e, rfl⟩)) (fun h => K _ (Or.inr ⟨fun x hx e => h x ((h3 x).mpr ⟨hx, ?_⟩) e, rfl⟩))⟩)
  dsimp only; rw [e]
theorem hs_add0 {T : Nat → Prop} {post : SX → Prop} {x : Nat} (hx : x < 24) (hT : ¬ T x) (I : hs_CI (fun x => hs_m fW (aK x) 0 % 8) 8 T aC aD)
    (K : ∀ c d, hs_CI (fun x => hs_m fW (aK x) 0 % 8) 8 (fun y => T y ∨ y = x) c d → post (fC, fW, fL, fM, fB, fR, aT, aK, aV, c, d, aE, aS, aN, aH, aP, aQ, aO, aB, aG)) : wpX_addToChain post (fC, fW, fL, fM, fB, fR, aT, aK, aV, aC, aD, aE, aS, aN, aH, aP, aQ, aO, aB, aG) (nI x) := by
  have hx2 : x < 2 ^ 31 := by omega
  unfold wpX_addToChain
  dsimp only
  rw [nI_clamp hx2]
  refine And.intro (vp_in_nI hx (by decide)) (hs_chainOf ?_)
  have hb : hs_m fW (aK x) 0 % 8 < 8 := Nat.mod_lt _ (by decide)
  have hi := vp_in_nI hb (by decide)
  rw [nI_clamp (show hs_m fW (aK x) 0 % 8 < 2 ^ 31 by omega)]
  have q : vp_nar .byte (aC (hs_m fW (aK x) 0 % 8)) = aC (hs_m fW (aK x) 0 % 8) := by
    obtain ⟨l, h1, h2, h3⟩ := I _ hb
    cases l with
    | nil =>
      have e2 : aC (hs_m fW (aK x) 0 % 8) = -1 := h1
      rw [e2, hs_nm1]
    | cons b r => rw [h1.1, hs_nx h1.2.1]
  exact ⟨hi, vp_in_nI hx (by decide), nm_r (by rw [q]) ⟨hi, nm_r (by rw [hs_ny hx]) (K _ _ (hs_CI_push I hx hT))⟩⟩
theorem hs_rem0 {T : Nat → Prop} {post : SX → Prop} {x : Nat} (hx : x < 24) (hT : T x) (I : hs_CI (fun x => hs_m fW (aK x) 0 % 8) 8 T aC aD)
    (K : ∀ c d, hs_CI (fun x => hs_m fW (aK x) 0 % 8) 8 (fun y => T y ∧ y ≠ x) c d → post (fC, fW, fL, fM, fB, fR, aT, aK, aV, c, d, aE, aS, aN, aH, aP, aQ, aO, aB, aG)) : wpX_removeFromChain post (fC, fW, fL, fM, fB, fR, aT, aK, aV, aC, aD, aE, aS, aN, aH, aP, aQ, aO, aB, aG) (nI x) := by
  have hx2 : x < 2 ^ 31 := by omega
  unfold wpX_removeFromChain
  dsimp only
  rw [nI_clamp hx2]
  refine And.intro (vp_in_nI hx (by decide)) (hs_chainOf ?_)
  have hb : hs_m fW (aK x) 0 % 8 < 8 := Nat.mod_lt _ (by decide)
  have hi := vp_in_nI hb (by decide)
  rw [nI_clamp (show hs_m fW (aK x) 0 % 8 < 2 ^ 31 by omega)]
  obtain ⟨l, h1, h2, h3⟩ := I _ hb
  have hxl : x ∈ l := (h3 x).mpr ⟨hT, rfl⟩
  cases l with
  | nil => exact absurd hxl List.not_mem_nil
  | cons a r =>
    refine ⟨hi, br_c (fun e => ?_) (fun e => ?_)⟩
    · have q : vp_nar .byte (aD x) = aD x := by
        have ea : a = x := hs_ij (h1.1.symm.trans e) (by have := h1.2.1; omega) hx2
        subst ea
        obtain ⟨_, _, h⟩ := h1
        cases r with
        | nil =>
          have e2 : aD a = -1 := h
          rw [e2, hs_nm1]
        | cons b r => rw [h.1, hs_nx h.2.1]
      exact ⟨vp_in_nI hx (by decide), hi, nm_r (by rw [q]) (K _ _ (hs_CI_head I hx e))⟩
    · have hxr : x ∈ r := (List.mem_cons.mp hxl).elim (fun w => absurd (by rw [h1.1, w]) e) id
      refine ⟨hi, nm_r h1.1 ⟨r.length + 1, hs_rl0 hx r [] a _ (by omega) h1.2.1 hxr h1.2.2 (fun c m1 l2 w hc h => ?_)⟩⟩
      refine K _ _ (hs_CI_mid I (a := c) (l1 := m1) (l2 := l2) ?_ ?_ ?_)
      · rw [← w]; exact h1
      · rw [← w]; exact h2
      · rw [← w]; exact h3
end
end
section
/-! engine 7: buckets that are split -/
def hs_bo (rs bk h : Nat) : Nat := if h % rs < bk - rs then h % (2 * rs) else h % rs
def hs_BR (rs bk : Nat) : Prop := (rs = 2 ∨ rs = 4 ∨ rs = 8 ∨ rs = 16) ∧ rs ≤ bk ∧ bk ≤ 2 * rs ∧ bk ≤ 16
theorem hs_bo_lt {rs bk : Nat} (h : hs_BR rs bk) (n : Nat) : hs_bo rs bk n < bk := by
  obtain ⟨h1, h2, h3, h4⟩ := h
  unfold hs_bo
  rcases h1 with rfl | rfl | rfl | rfl <;> split <;> omega
theorem hs_bo_split {rs bk : Nat} (h : hs_BR rs bk) (h2 : bk < 2 * rs) (n : Nat) : (hs_bo rs bk n ≠ bk - rs → hs_bo rs (bk + 1) n = hs_bo rs bk n) ∧ (hs_bo rs (bk + 1) n = bk - rs → hs_bo rs bk n = bk - rs) := by
  obtain ⟨h1, h2, h3, h4⟩ := h
  unfold hs_bo
  rcases h1 with rfl | rfl | rfl | rfl <;> split <;> split <;> omega
theorem hs_bo_dbl {rs : Nat} (h : rs = 2 ∨ rs = 4 ∨ rs = 8) (n : Nat) : hs_bo (2 * rs) (2 * rs) n = hs_bo rs (2 * rs) n := by
  unfold hs_bo
  rcases h with rfl | rfl | rfl <;> split <;> split <;> omega
theorem hs_CI_T {hb : Nat → Nat} {B : Nat} {T T' : Nat → Prop} {fi nx : Nat → Int32} (I : hs_CI hb B T fi nx) (h : ∀ x, T x ↔ T' x) : hs_CI hb B T' fi nx := by
  have e : T = T' := funext fun x => propext (h x)
  rw [← e]
  exact I
def hs_I7 (T : Nat → Prop) (w b r : Int32) (k fi nx : Nat → Int32) : Prop :=
  ∃ rs bk : Nat, b = nI bk ∧ r = nI rs ∧ hs_BR rs bk ∧ bk < 2 * rs ∧ hs_CI (fun x => hs_bo rs bk (hs_m w (k x) 9)) 16 T fi nx
section
variable {fC fW fL fM fB fR : Int32} {aT aK aV aC aD aE aS aN aH aP aQ aO aB aG : Nat → Int32}
theorem hs_bucketOf {post : Int32 → Prop} {k : Int32} {rs bk : Nat} (hr : hs_BR rs bk) (h : post (nI (hs_bo rs bk (hs_m fW k 9)))) : wpX_bucketOf post (fC, fW, fL, fM, nI bk, nI rs, aT, aK, aV, aC, aD, aE, aS, aN, aH, aP, aQ, aO, aB, aG) k := by
  unfold wpX_bucketOf
  dsimp only
  refine hs_mixed 9 ?_
  have hm := hs_m_lt fW k 9
  generalize hs_m fW k 9 = M at h hm ⊢
  obtain ⟨h1, h2, h3, h4⟩ := hr
  have e1 : nI M &&& (nI rs - 1) = nI (M % rs) := by
    rcases h1 with rfl | rfl | rfl | rfl
    · exact pk_andN (by omega) 1 (by decide)
    · exact pk_andN (by omega) 2 (by decide)
    · exact pk_andN (by omega) 3 (by decide)
    · exact pk_andN (by omega) 4 (by decide)
  have e2 : nI M &&& (2 * nI rs - 1) = nI (M % (2 * rs)) := by
    rcases h1 with rfl | rfl | rfl | rfl
    · exact pk_andN (by omega) 2 (by decide)
    · exact pk_andN (by omega) 3 (by decide)
    · exact pk_andN (by omega) 4 (by decide)
    · exact pk_andN (by omega) 5 (by decide)
  have e3 : nI bk - nI rs = nI (bk - rs) := pk_sub h2
  have h5 : M % rs < 2 ^ 31 := Nat.lt_of_le_of_lt (Nat.mod_le _ _) hm
  refine nm_r e1 ?_
  rw [e2, e3]
  unfold hs_bo at h
  refine pk_le (bk - rs) (M % rs) (fun z => ?_) (fun z => ?_)
  · rw [if_neg (by omega)] at h; exact h
  · rw [if_pos z] at h; exact h
theorem hs_find7 {T : Nat → Prop} {post : Int32 → Prop} {k : Int32} (I : hs_I7 T fW fB fR aK aB aG) (K : ∀ r, hs_Fd T aK k r → post r) : wpX_findInBucket post (fC, fW, fL, fM, fB, fR, aT, aK, aV, aC, aD, aE, aS, aN, aH, aP, aQ, aO, aB, aG) k := by
  obtain ⟨rs, bk, rfl, rfl, hr, hr2, I⟩ := I
  unfold wpX_findInBucket
  dsimp only
  refine hs_bucketOf hr ?_
  have hb : hs_bo rs bk (hs_m fW k 9) < 16 := Nat.lt_of_lt_of_le (hs_bo_lt hr _) hr.2.2.2
  obtain ⟨l, h1, h2, h3⟩ := I _ hb
  refine And.intro (vp_in_nI hb (by decide)) (nm_r (congrArg aB (nI_clamp (by omega))) ⟨l.length + 1, hs_fl7 l _ _ (by omega) h1 (fun x hx e => K _ (Or.inl ⟨x, ((h3 x).mp hx).1, e, rfl⟩)) (fun h => K _ (Or.inr ⟨fun x hx e => h x ((h3 x).mpr ⟨hx, ?_⟩) e, rfl⟩))⟩)
  dsimp only; rw [e]
theorem hs_push7 {T : Nat → Prop} {post : SX → Prop} {x rs bk : Nat} (hr : hs_BR rs bk) (hx : x < 24) (I : hs_CI (fun x => hs_bo rs bk (hs_m fW (aK x) 9)) 16 T aB aG)
    (K : post (fC, fW, fL, fM, nI bk, nI rs, aT, aK, aV, aC, aD, aE, aS, aN, aH, aP, aQ, aO, upd aB (hs_bo rs bk (hs_m fW (aK x) 9)) (nI x), upd aG x (aB (hs_bo rs bk (hs_m fW (aK x) 9))))) : wpX_pushToBucket post (fC, fW, fL, fM, nI bk, nI rs, aT, aK, aV, aC, aD, aE, aS, aN, aH, aP, aQ, aO, aB, aG) (nI x) := by
  have hx2 : x < 2 ^ 31 := by omega
  unfold wpX_pushToBucket
  dsimp only
  rw [nI_clamp hx2]
  refine And.intro (vp_in_nI hx (by decide)) (hs_bucketOf hr ?_)
  have hb : hs_bo rs bk (hs_m fW (aK x) 9) < 16 := Nat.lt_of_lt_of_le (hs_bo_lt hr _) hr.2.2.2
  have hi := vp_in_nI hb (by decide)
  rw [nI_clamp (show hs_bo rs bk (hs_m fW (aK x) 9) < 2 ^ 31 by omega)]
  have q : vp_nar .byte (aB (hs_bo rs bk (hs_m fW (aK x) 9))) = aB (hs_bo rs bk (hs_m fW (aK x) 9)) := by
    obtain ⟨l, h1, h2, h3⟩ := I _ hb
    cases l with
    | nil =>
      have e2 : aB (hs_bo rs bk (hs_m fW (aK x) 9)) = -1 := h1
      rw [e2, hs_nm1]
    | cons b r => rw [h1.1, hs_nx h1.2.1]
  exact ⟨hi, vp_in_nI hx (by decide), nm_r (by rw [q]) ⟨hi, nm_r (by rw [hs_ny hx]) K⟩⟩
theorem hs_rem7 {T : Nat → Prop} {post : SX → Prop} {x : Nat} (hx : x < 24) (hT : T x) (I : hs_I7 T fW fB fR aK aB aG)
    (K : ∀ c d, hs_I7 (fun y => T y ∧ y ≠ x) fW fB fR aK c d → post (fC, fW, fL, fM, fB, fR, aT, aK, aV, aC, aD, aE, aS, aN, aH, aP, aQ, aO, c, d)) : wpX_removeFromBucket post (fC, fW, fL, fM, fB, fR, aT, aK, aV, aC, aD, aE, aS, aN, aH, aP, aQ, aO, aB, aG) (nI x) := by
  obtain ⟨rs, bk, rfl, rfl, hr, hr2, I⟩ := I
  have hx2 : x < 2 ^ 31 := by omega
  unfold wpX_removeFromBucket
  dsimp only
  rw [nI_clamp hx2]
  refine And.intro (vp_in_nI hx (by decide)) (hs_bucketOf hr ?_)
  have hb : hs_bo rs bk (hs_m fW (aK x) 9) < 16 := Nat.lt_of_lt_of_le (hs_bo_lt hr _) hr.2.2.2
  have hi := vp_in_nI hb (by decide)
  rw [nI_clamp (show hs_bo rs bk (hs_m fW (aK x) 9) < 2 ^ 31 by omega)]
  obtain ⟨l, h1, h2, h3⟩ := I _ hb
  have hxl : x ∈ l := (h3 x).mpr ⟨hT, rfl⟩
  cases l with
  | nil => exact absurd hxl List.not_mem_nil
  | cons a r =>
    refine ⟨hi, br_c (fun e => ?_) (fun e => ?_)⟩
    · have q : vp_nar .byte (aG x) = aG x := by
        have ea : a = x := hs_ij (h1.1.symm.trans e) (by have := h1.2.1; omega) hx2
        subst ea
        obtain ⟨_, _, h⟩ := h1
        cases r with
        | nil =>
          have e2 : aG a = -1 := h
          rw [e2, hs_nm1]
        | cons b r => rw [h.1, hs_nx h.2.1]
      exact ⟨vp_in_nI hx (by decide), hi, nm_r (by rw [q]) (K _ _ ⟨rs, bk, rfl, rfl, hr, hr2, hs_CI_head I hx e⟩)⟩
    · have hxr : x ∈ r := (List.mem_cons.mp hxl).elim (fun w => absurd (by rw [h1.1, w]) e) id
      refine ⟨hi, nm_r h1.1 ⟨r.length + 1, hs_rl7 hx r [] a _ (by omega) h1.2.1 hxr h1.2.2 (fun c m1 l2 w hc h => ?_)⟩⟩
      refine K _ _ ⟨rs, bk, rfl, rfl, hr, hr2, hs_CI_mid I (a := c) (l1 := m1) (l2 := l2) ?_ ?_ ?_⟩
      · rw [← w]; exact h1
      · rw [← w]; exact h2
      · rw [← w]; exact h3
theorem hs_sl7 {post : SX → Prop} {rs bk : Nat} (hr : hs_BR rs bk) : ∀ (l : List Nat) (v : Int32) (n : Nat) (T : Nat → Prop) (b g : Nat → Int32), l.length < n → hs_lk g l v → l.Nodup → (∀ x, x ∈ l → ¬ T x) →
    hs_CI (fun x => hs_bo rs bk (hs_m fW (aK x) 9)) 16 T b g →
    (∀ b g, hs_CI (fun x => hs_bo rs bk (hs_m fW (aK x) 9)) 16 (fun y => T y ∨ y ∈ l) b g → ((nI bk = 2 * nI rs → post (fC, fW, fL, fM, nI bk, nI bk, aT, aK, aV, aC, aD, aE, aS, aN, aH, aP, aQ, aO, b, g)) ∧ (¬ nI bk = 2 * nI rs → post (fC, fW, fL, fM, nI bk, nI rs, aT, aK, aV, aC, aD, aE, aS, aN, aH, aP, aQ, aO, b, g)))) →
    wX_splitBucket_34 post n v fC fW fL fM (nI bk) (nI rs) aT aK aV aC aD aE aS aN aH aP aQ aO b g
  | _, _, 0, _, _, _, hn, _, _, _, _, _ => absurd hn (by omega)
  | [], v, n + 1, T, b, g, _, h, _, _, I, K => by
    have e : v = -1 := h
    subst e
    exact br_t hs_m1n (K b g (hs_CI_T I (fun x => ⟨Or.inl, fun z => z.elim id (fun w => absurd w List.not_mem_nil)⟩)))
  | x :: l, v, n + 1, T, b, g, hn, h, hd, hT, I, K => by
    obtain ⟨rfl, hx, h⟩ := h
    have hx2 : x < 2 ^ 31 := by omega
    have hd2 := List.nodup_cons.mp hd
    have hTx := hT x List.mem_cons_self
    simp only [wX_splitBucket_34, nI_clamp hx2]
    refine br_f (nI_pos hx2) ⟨vp_in_nI hx (by decide), nm_e (hs_push7 hr hx I ?_)⟩
    refine hs_sl7 hr l _ n _ _ _ (by rw [List.length_cons] at hn; omega) (hs_lk_upd hd2.1 h) hd2.2 (fun y hy => fun z => z.elim (hT y (List.mem_cons_of_mem _ hy)) (fun w => hd2.1 (w ▸ hy))) (hs_CI_push I hx hTx) (fun b g I => K b g (hs_CI_T I (fun y => ?_)))
    rw [List.mem_cons, or_assoc]
theorem hs_split7 {T : Nat → Prop} {post : SX → Prop} {rs bk : Nat} (hr : hs_BR rs bk) (hr2 : bk < 2 * rs) (hb : bk < 16) (I : hs_CI (fun x => hs_bo rs bk (hs_m fW (aK x) 9)) 16 T aB aG)
    (K : ∀ b r c d, hs_I7 T fW b r aK c d → post (fC, fW, fL, fM, b, r, aT, aK, aV, aC, aD, aE, aS, aN, aH, aP, aQ, aO, c, d)) : wpX_splitBucket post (fC, fW, fL, fM, nI bk, nI rs, aT, aK, aV, aC, aD, aE, aS, aN, aH, aP, aQ, aO, aB, aG) := by
  unfold wpX_splitBucket
  dsimp only
  have h1 := hr.1
  have h2 := hr.2.1
  have hr' : hs_BR rs (bk + 1) := ⟨hr.1, by omega, by omega, by omega⟩
  have hbo := hs_bo_split hr hr2
  have e3 : nI bk - nI rs = nI (bk - rs) := pk_sub h2
  have hi : bk - rs < 16 := by omega
  have hi2 := vp_in_nI hi (by decide)
  obtain ⟨l, g1, g2, g3⟩ := I _ hi
  refine nm_r e3 ⟨hi2, nm_r (congrArg aB (nI_clamp (by omega))) ⟨hi2, nm_r (by rw [nI_clamp (by omega), hs_nm1]) (nm_r (nI_1 bk) ⟨l.length + 1, ?_⟩)⟩⟩
  refine hs_sl7 hr' l _ _ (fun y => T y ∧ y ∉ l) _ _ (by omega) g1 g2 (fun x hx z => z.2 hx) ?_ (fun b g I' => ?_)
  · intro b hb1
    by_cases e : b = bk - rs
    · refine ⟨[], ?_, List.nodup_nil, fun x => ⟨fun z => absurd z List.not_mem_nil, fun z => ?_⟩⟩
      · rw [e, pk_us]; rfl
      · exact absurd ((g3 x).mpr ⟨z.1.1, (hbo _).2 (z.2.trans e)⟩) z.1.2
    · obtain ⟨l', k1, k2, k3⟩ := I _ hb1
      refine ⟨l', ?_, k2, fun x => (k3 x).trans ⟨fun z => ⟨⟨z.1, fun w => e (z.2.symm.trans ((g3 x).mp w).2)⟩, ?_⟩, fun z => ⟨z.1.1, ?_⟩⟩⟩
      · rw [pk_un e]; exact k1
      · refine ((hbo _).1 (fun w => e (z.2.symm.trans w))).trans z.2
      · refine ((hbo _).1 (fun w => ?_)).symm.trans z.2
        exact z.1.2 ((g3 x).mpr ⟨z.1.1, w⟩)
  · have I2 : hs_CI (fun x => hs_bo rs (bk + 1) (hs_m fW (aK x) 9)) 16 T b g := hs_CI_T I' (fun y => ⟨fun z => z.elim (fun w => w.1) (fun w => ((g3 y).mp w).1), fun z => (Classical.em (y ∈ l)).elim Or.inr (fun w => Or.inl ⟨z, w⟩)⟩)
    have e5 : (2 : Int32) * nI rs = nI (2 * rs) := pk_mul 2 rs
    rw [e5]
    refine pk_eq (bk + 1) (2 * rs) (fun z => ?_) (fun z => ?_)
    · refine K _ _ _ _ ⟨bk + 1, bk + 1, rfl, rfl, ⟨by omega, by omega, by omega, by omega⟩, by omega, hs_CI_cong I2 (fun x _ => ?_)⟩
      rw [z]
      exact hs_bo_dbl (by omega) _
    · exact K _ _ _ _ ⟨rs, bk + 1, rfl, rfl, hr', by omega, I2⟩
theorem hs_add7 {T : Nat → Prop} {post : SX → Prop} {x : Nat} (hx : x < 24) (hT : ¬ T x) (I : hs_I7 T fW fB fR aK aB aG)
    (K : ∀ b r c d, hs_I7 (fun y => T y ∨ y = x) fW b r aK c d → post (fC, fW, fL, fM, b, r, aT, aK, aV, aC, aD, aE, aS, aN, aH, aP, aQ, aO, c, d)) : wpX_addToBucket post (fC, fW, fL, fM, fB, fR, aT, aK, aV, aC, aD, aE, aS, aN, aH, aP, aQ, aO, aB, aG) (nI x) := by
  obtain ⟨rs, bk, rfl, rfl, hr, hr2, I⟩ := I
  unfold wpX_addToBucket
  dsimp only
  have I2 := hs_CI_push I hx hT
  have hr1 := hr.1
  refine hs_push7 hr hx I ?_
  refine br_c (fun _ => K _ _ _ _ ⟨rs, bk, rfl, rfl, hr, hr2, I2⟩) (fun _ => ?_)
  refine pk_le 16 bk (fun _ => K _ _ _ _ ⟨rs, bk, rfl, rfl, hr, hr2, I2⟩) (fun z => ?_)
  exact hs_split7 hr hr2 z I2 (fun b r c d h => K b r c d h)
end
end
section
/-! engines 1 to 4: entries in places; h is a place that counts as empty (32: none) -/
def hs_PH (b : Nat) (st en : Nat → Int32) (T : Nat → Prop) (pos : Nat → Nat) (h : Nat) : Prop :=
  (∀ x, T x → x < 24 ∧ pos x < 32 ∧ pos x ≠ h ∧ st (b + pos x) = 1 ∧ en (b + pos x) = nI x) ∧
  (∀ i, i < 32 → i ≠ h → st (b + i) = 1 → ∃ x, T x ∧ pos x = i)
def hs_ps (pos : Nat → Nat) (x i : Nat) : Nat → Nat := fun y => if y = x then i else pos y
theorem hs_ps_s {pos : Nat → Nat} {x i : Nat} : hs_ps pos x i x = i := if_pos rfl
theorem hs_ps_n {pos : Nat → Nat} {x i y : Nat} (h : y ≠ x) : hs_ps pos x i y = pos y := if_neg h
def hs_fr (b : Nat) (f g : Nat → Int32) : Prop := ∀ j, (j < b ∨ b + 32 ≤ j) → g j = f j
theorem hs_fr_r {b : Nat} {f : Nat → Int32} : hs_fr b f f := fun _ _ => rfl
theorem hs_fr_u {b i : Nat} {f g : Nat → Int32} {v : Int32} (h : hs_fr b f g) (hi : i < 32) : hs_fr b f (upd g (b + i) v) := fun j hj => by
  rw [pk_un (by omega)]
  exact h j hj
theorem hs_fr_t {b : Nat} {f g k : Nat → Int32} (h : hs_fr b f g) (h2 : hs_fr b g k) : hs_fr b f k := fun j hj => (h2 j hj).trans (h j hj)
section
variable {b : Nat} {st en : Nat → Int32} {T : Nat → Prop} {pos : Nat → Nat} {h : Nat}
theorem hs_PH_u (I : hs_PH b st en T pos h) {x y : Nat} (hx : T x) (hy : T y) (e : pos x = pos y) : x = y := by
  obtain ⟨a1, a2, a3, a4, a5⟩ := I.1 x hx
  obtain ⟨b1, b2, b3, b4, b5⟩ := I.1 y hy
  rw [e, b5] at a5
  exact (hs_ij a5 (by omega) (by omega)).symm
theorem hs_PH_0 (hs : ∀ i, i < 32 → ¬ st (b + i) = 1) : hs_PH b st en (fun _ => False) pos 32 := ⟨fun _ z => z.elim, fun i hi _ z => absurd z (hs i hi)⟩
theorem hs_PH_cong {st' en' : Nat → Int32} (I : hs_PH b st en T pos h) (h1 : ∀ i, i < 32 → st' (b + i) = st (b + i)) (h2 : ∀ i, i < 32 → en' (b + i) = en (b + i)) : hs_PH b st' en' T pos h := by
  refine ⟨fun x hx => ?_, fun i hi hh e => I.2 i hi hh ((h1 i hi).symm.trans e)⟩
  obtain ⟨a1, a2, a3, a4, a5⟩ := I.1 x hx
  exact ⟨a1, a2, a3, (h1 _ a2).trans a4, (h2 _ a2).trans a5⟩
/-- a place that holds nothing, on any way through more than 24 places -/
theorem hs_PH_free (I : hs_PH b st en T pos 32) {N : Nat} (hN : 24 < N) (q : Nat → Nat) (hq : ∀ d, d < N → q d < 32) (hi : ∀ d e, d < N → e < N → q d = q e → d = e) : ∃ d, d < N ∧ ¬ st (b + q d) = 1 := by
  refine hs_pig hN (fun d => ¬ st (b + q d) = 1) (fun d x => T x ∧ pos x = q d) (fun d hd hn => ?_) (fun d e x hd he h1 h2 => hi d e hd he (h1.2.symm.trans h2.2))
  obtain ⟨x, hx, e⟩ := I.2 (q d) (hq d hd) (by have := hq d hd; omega) (Classical.not_not.mp hn)
  exact ⟨x, (I.1 x hx).1, hx, e⟩
theorem hs_PH_put (I : hs_PH b st en T pos 32) {x i : Nat} (hx : x < 24) (hT : ¬ T x) (hi : i < 32) (hs : ¬ st (b + i) = 1) : hs_PH b (upd st (b + i) 1) (upd en (b + i) (nI x)) (fun y => T y ∨ y = x) (hs_ps pos x i) 32 := by
  refine ⟨fun y hy => ?_, fun j hj hj2 e => ?_⟩
  · by_cases e : y = x
    · subst e
      rw [hs_ps_s]
      exact ⟨hx, hi, by omega, pk_us, pk_us⟩
    · obtain ⟨a1, a2, a3, a4, a5⟩ := I.1 y (hy.elim id (fun z => absurd z e))
      rw [hs_ps_n e]
      have ne : pos y ≠ i := fun z => hs (z ▸ a4)
      exact ⟨a1, a2, a3, by rw [pk_un (by omega)]; exact a4, by rw [pk_un (by omega)]; exact a5⟩
  · by_cases z : j = i
    · subst z
      exact ⟨x, Or.inr rfl, hs_ps_s⟩
    · rw [pk_un (by omega)] at e
      obtain ⟨y, hy, w⟩ := I.2 j hj hj2 e
      have yx : y ≠ x := fun v => hT (v ▸ hy)
      exact ⟨y, Or.inl hy, by rw [hs_ps_n yx]; exact w⟩
theorem hs_PH_hole (I : hs_PH b st en T pos 32) {x : Nat} (hx : T x) : hs_PH b st en (fun y => T y ∧ y ≠ x) pos (pos x) := by
  refine ⟨fun y hy => ?_, fun j hj hj2 e => ?_⟩
  · obtain ⟨a1, a2, a3, a4, a5⟩ := I.1 y hy.1
    exact ⟨a1, a2, fun z => hy.2 (hs_PH_u I hy.1 hx z), a4, a5⟩
  · obtain ⟨y, hy, w⟩ := I.2 j hj (by omega) e
    exact ⟨y, ⟨hy, fun z => hj2 (by rw [← w, z])⟩, w⟩
theorem hs_PH_fill (I : hs_PH b st en T pos h) (hh : h < 32) {v : Int32} (hv : ¬ v = 1) : hs_PH b (upd st (b + h) v) en T pos 32 := by
  refine ⟨fun y hy => ?_, fun j hj hj2 e => ?_⟩
  · obtain ⟨a1, a2, a3, a4, a5⟩ := I.1 y hy
    exact ⟨a1, a2, by omega, by rw [pk_un (by omega)]; exact a4, a5⟩
  · by_cases z : j = h
    · subst z
      rw [pk_us] at e
      exact absurd e hv
    · rw [pk_un (by omega)] at e
      exact I.2 j hj z e
theorem hs_PH_move (I : hs_PH b st en T pos h) (hh : h < 32) (hs : st (b + h) = 1) {y : Nat} (hy : T y) : hs_PH b st (upd en (b + h) (nI y)) T (hs_ps pos y h) (pos y) := by
  obtain ⟨b1, b2, b3, b4, b5⟩ := I.1 y hy
  refine ⟨fun z hz => ?_, fun j hj hj2 e => ?_⟩
  · by_cases e : z = y
    · subst e
      rw [hs_ps_s]
      exact ⟨b1, hh, fun w => b3 w.symm, hs, pk_us⟩
    · obtain ⟨a1, a2, a3, a4, a5⟩ := I.1 z hz
      rw [hs_ps_n e]
      exact ⟨a1, a2, fun w => e (hs_PH_u I hz hy w), a4, by rw [pk_un (by omega)]; exact a5⟩
  · by_cases z : j = h
    · subst z
      exact ⟨y, hy, hs_ps_s⟩
    · obtain ⟨x, hx, w⟩ := I.2 j hj z e
      have xy : x ≠ y := fun v => hj2 (by rw [← w, v])
      exact ⟨x, hx, by rw [hs_ps_n xy]; exact w⟩
/-- how many places are taken -/
theorem hs_PH_cnt (I : hs_PH b st en T pos 32) : hs_cn (fun i => st (b + i) = 1) 32 = hs_cn T 24 := by
  apply Nat.le_antisymm
  · have hx : ∀ i, ∃ x, i < 32 → st (b + i) = 1 → T x ∧ pos x = i := fun i => by
      by_cases hi : i < 32 ∧ st (b + i) = 1
      · obtain ⟨x, hx⟩ := I.2 i hi.1 (by omega) hi.2
        exact ⟨x, fun _ _ => hx⟩
      · exact ⟨0, fun z w => absurd ⟨z, w⟩ hi⟩
    refine hs_cn_inj (fun i => (hx i).choose) (fun i hi e => ?_) (fun i j hi hj e1 e2 w => ?_)
    · have q := (hx i).choose_spec hi e
      exact ⟨(I.1 _ q.1).1, q.1⟩
    · have q1 := (hx i).choose_spec hi e1
      have q2 := (hx j).choose_spec hj e2
      have w2 : (hx i).choose = (hx j).choose := w
      rw [w2] at q1
      exact q1.2.symm.trans q2.2
  · exact hs_cn_inj pos (fun x _ hx => ⟨(I.1 x hx).2.1, (I.1 x hx).2.2.2.1⟩) (fun x y _ _ hx hy e => hs_PH_u I hx hy e)
/-- counts of a mark under one store -/
theorem hs_mk_off {i : Nat} {v : Int32} (hi : i < 32) (hv : ¬ v = 2) (hs : st (b + i) = 2) : hs_cn (fun j => st (b + j) = 2) 32 = hs_cn (fun j => upd st (b + i) v (b + j) = 2) 32 + 1 := by
  rw [hs_cn_del (P := fun j => st (b + j) = 2) (k := i) hs hi]
  refine congrArg (· + 1) (hs_cn_eq fun j _ => ?_)
  by_cases e : j = i
  · subst e
    rw [pk_us]
    exact ⟨fun z => absurd rfl z.2, fun z => absurd z hv⟩
  · rw [pk_un (by omega)]
    exact ⟨fun z => z.1, fun z => ⟨z, e⟩⟩
theorem hs_mk_on {i : Nat} (hi : i < 32) (hs : ¬ st (b + i) = 2) : hs_cn (fun j => upd st (b + i) 2 (b + j) = 2) 32 = hs_cn (fun j => st (b + j) = 2) 32 + 1 := by
  rw [← hs_cn_set (P := fun j => st (b + j) = 2) (k := i) hs hi]
  refine hs_cn_eq fun j _ => ?_
  by_cases e : j = i
  · subst e
    rw [pk_us]
    exact ⟨fun _ => Or.inr rfl, fun _ => rfl⟩
  · rw [pk_un (by omega)]
    exact ⟨Or.inl, fun z => z.elim id (fun w => absurd w e)⟩
theorem hs_mk_no {i : Nat} {v : Int32} (hv : ¬ v = 2) (hs : ¬ st (b + i) = 2) : hs_cn (fun j => upd st (b + i) v (b + j) = 2) 32 = hs_cn (fun j => st (b + j) = 2) 32 := by
  refine hs_cn_eq fun j _ => ?_
  by_cases e : j = i
  · subst e
    rw [pk_us]
    exact ⟨fun z => absurd z hv, fun z => absurd z hs⟩
  · rw [pk_un (by omega)]
end
/-! engine 1 -/
def hs_LP (st : Nat → Int32) (T : Nat → Prop) (pos hm : Nat → Nat) : Prop :=
  ∀ x, T x → ∀ s, s < 32 → (s + 32 - hm x) % 32 < (pos x + 32 - hm x) % 32 → st (32 + s) = 1
def hs_I1 (T : Nat → Prop) (w : Int32) (k en st : Nat → Int32) : Prop :=
  ∃ pos, hs_PH 32 st en T pos 32 ∧ hs_LP st T pos (fun x => hs_m w (k x) 1 % 32)
theorem hs_I1_cong {T : Nat → Prop} {w : Int32} {k en st k' en' st' : Nat → Int32} (I : hs_I1 T w k en st) (hk : ∀ x, T x → k' x = k x) (h1 : ∀ i, i < 32 → st' (32 + i) = st (32 + i)) (h2 : ∀ i, i < 32 → en' (32 + i) = en (32 + i)) : hs_I1 T w k' en' st' := by
  obtain ⟨pos, I1, I2⟩ := I
  refine ⟨pos, hs_PH_cong I1 h1 h2, fun x hx s hs => ?_⟩
  dsimp only
  rw [hk x hx, h1 s hs]
  exact I2 x hx s hs
section
variable {fC fW fL fM fB fR : Int32} {aT aK aV aC aD aE aS aN aH aP aQ aO aB aG : Nat → Int32} {T : Nat → Prop}
theorem hs_f1l {post : Int32 → Prop} {k : Int32} {pos : Nat → Nat} (I : hs_PH 32 aS aE T pos 32) (L : hs_LP aS T pos (fun x => hs_m fW (aK x) 1 % 32)) {h dF : Nat} (hh : h = hs_m fW k 1 % 32) (hF : dF < 32) (fF : ¬ aS (32 + (h + dF) % 32) = 1)
    (K1 : ∀ x, T x → aK x = k → post (nI (pos x))) (K2 : (∀ x, T x → ¬ aK x = k) → post (-1)) :
    ∀ n d i, i = (h + d) % 32 → d ≤ dF → dF - d < n → (∀ j, j < d → ∀ y, T y → pos y = (h + j) % 32 → ¬ aK y = k) → wX_findByOnes_10 post k fC fW fL fM fB fR aT aK aV aC aD aE aS aN aH aP aQ aO aB aG n (nI i) := by
  intro n
  induction n with
  | zero => intro d i _ _ z; omega
  | succ n ih =>
    rintro d _ rfl hd hn hj
    have hi : (h + d) % 32 < 32 := Nat.mod_lt _ (by decide)
    have hc : 32 + (h + d) % 32 < 2 ^ 31 := by omega
    have hv : vp_in (nI (32 + (h + d) % 32)) 160 := vp_in_nI (by omega) (by decide)
    simp only [wX_findByOnes_10, wX_findByOnes_51, hs_p32, nI_clamp hc]
    refine ⟨hv, br_c (fun e => ?_) (fun e => ⟨hv, br_f e (K2 (fun x hx ek => ?_))⟩)⟩
    · obtain ⟨y, hy, py⟩ := I.2 _ hi (by omega) e
      obtain ⟨a1, a2, a3, a4, a5⟩ := I.1 y hy
      rw [py] at a5
      rw [a5, nI_clamp (show y < 2 ^ 31 by omega)]
      refine ⟨hv, vp_in_nI a1 (by decide), br_c (fun ek => ⟨hv, br_t e ?_⟩) (fun ek => nm_r (e' := nI ((h + (d + 1)) % 32)) ?_ (ih (d + 1) _ rfl ?_ ?_ ?_))⟩
      · rw [← py]; exact K1 y hy ek
      · rw [hs_i1 (by omega)]; exact congrArg nI (by omega)
      · have : d ≠ dF := fun z => fF (z ▸ e)
        omega
      · have : d ≠ dF := fun z => fF (z ▸ e)
        omega
      · intro j hj2 z hz pz
        by_cases w : j = d
        · subst w
          rw [hs_PH_u I hz hy (pz.trans py.symm)]
          exact ek
        · exact hj j (by omega) z hz pz
    · obtain ⟨a1, a2, a3, a4, a5⟩ := I.1 x hx
      have l := L x hx ((h + d) % 32) hi
      dsimp only at l
      rw [ek, ← hh] at l
      by_cases w : (pos x + 32 - h) % 32 < d
      · exact hj _ w x hx (by omega) ek
      · by_cases w2 : (pos x + 32 - h) % 32 = d
        · exact e (by have : pos x = (h + d) % 32 := by omega
                      rw [← this]; exact a4)
        · exact e (l (by omega))
/-- a place on the way of steps of one that isn't taken -/
theorem hs_free1 {b : Nat} {pos : Nat → Nat} {st en : Nat → Int32} (I : hs_PH b st en T pos 32) (h : Nat) : ∃ d, d < 32 ∧ ¬ st (b + (h + d) % 32) = 1 :=
  hs_PH_free I (N := 32) (by decide) (fun d => (h + d) % 32) (fun d _ => Nat.mod_lt _ (by decide)) (fun d e hd he w => by
    have w2 : (h + d) % 32 = (h + e) % 32 := w
    omega)
theorem hs_find1p {post : Int32 → Prop} {k : Int32} {pos : Nat → Nat} (I : hs_PH 32 aS aE T pos 32) (L : hs_LP aS T pos (fun x => hs_m fW (aK x) 1 % 32))
    (K1 : ∀ x, T x → aK x = k → post (nI (pos x))) (K2 : (∀ x, T x → ¬ aK x = k) → post (-1)) : wpX_findByOnes post (fC, fW, fL, fM, fB, fR, aT, aK, aV, aC, aD, aE, aS, aN, aH, aP, aQ, aO, aB, aG) k := by
  unfold wpX_findByOnes
  dsimp only
  refine hs_mixed 1 (nm_r (hs_a31 (hs_m_lt _ _ _)) ?_)
  obtain ⟨dF, hF, fF⟩ := hs_free1 I (hs_m fW k 1 % 32)
  exact ⟨dF + 1, hs_f1l I L rfl hF fF K1 K2 (dF + 1) 0 _ (by omega) (by omega) (by omega) (fun j hj => absurd hj (by omega))⟩
theorem hs_a1l {post : SX → Prop} {x h dF : Nat} (hx : x < 24) (hF : dF < 32) (fF : ¬ aS (32 + (h + dF) % 32) = 1)
    (K : ∀ d, d ≤ dF → ¬ aS (32 + (h + d) % 32) = 1 → (∀ j, j < d → aS (32 + (h + j) % 32) = 1) → post (fC, fW, fL, fM, fB, fR, aT, aK, aV, aC, aD, upd aE (32 + (h + d) % 32) (nI x), upd aS (32 + (h + d) % 32) 1, aN, aH, aP, aQ, aO, aB, aG)) :
    ∀ n d i, i = (h + d) % 32 → d ≤ dF → dF - d < n → (∀ j, j < d → aS (32 + (h + j) % 32) = 1) → wX_addByOnes_7 post (nI x) fC fW fL fM fB fR aT aK aV aC aD aE aS aN aH aP aQ aO aB aG n (nI i) := by
  intro n
  induction n with
  | zero => intro d i _ _ z; omega
  | succ n ih =>
    rintro d _ rfl hd hn hj
    have hi : (h + d) % 32 < 32 := Nat.mod_lt _ (by decide)
    have hc : 32 + (h + d) % 32 < 2 ^ 31 := by omega
    have hv : vp_in (nI (32 + (h + d) % 32)) 160 := vp_in_nI (by omega) (by decide)
    simp only [wX_addByOnes_7, hs_p32, nI_clamp hc, hs_n1, hs_ny hx]
    refine ⟨hv, br_c (fun e => nm_r (e' := nI ((h + (d + 1)) % 32)) ?_ (ih (d + 1) _ rfl ?_ ?_ ?_)) (fun e => ⟨hv, nm_e ⟨hv, nm_e (K d hd e hj)⟩⟩)⟩
    · rw [hs_i1 (by omega)]; exact congrArg nI (by omega)
    · have : d ≠ dF := fun z => fF (z ▸ e)
      omega
    · have : d ≠ dF := fun z => fF (z ▸ e)
      omega
    · intro j hj2
      by_cases w : j = d
      · rw [w]; exact e
      · exact hj j (by omega)
theorem hs_add1 {post : SX → Prop} {x : Nat} (hx : x < 24) (hT : ¬ T x) (I : hs_I1 T fW aK aE aS)
    (K : ∀ en st, hs_I1 (fun y => T y ∨ y = x) fW aK en st → hs_fr 32 aE en → hs_fr 32 aS st → post (fC, fW, fL, fM, fB, fR, aT, aK, aV, aC, aD, en, st, aN, aH, aP, aQ, aO, aB, aG)) : wpX_addByOnes post (fC, fW, fL, fM, fB, fR, aT, aK, aV, aC, aD, aE, aS, aN, aH, aP, aQ, aO, aB, aG) (nI x) := by
  obtain ⟨pos, I, L⟩ := I
  unfold wpX_addByOnes
  dsimp only
  refine hs_home 1 hx ?_
  have hh : hs_m fW (aK x) 1 % 32 < 32 := Nat.mod_lt _ (by decide)
  obtain ⟨dF, hF, fF⟩ := hs_free1 I (hs_m fW (aK x) 1 % 32)
  refine ⟨dF + 1, hs_a1l hx hF fF (fun d hd e hj => ?_) (dF + 1) 0 _ (by omega) (by omega) (by omega) (fun j hj => absurd hj (by omega))⟩
  have hi : (hs_m fW (aK x) 1 % 32 + d) % 32 < 32 := Nat.mod_lt _ (by decide)
  refine K _ _ ⟨_, hs_PH_put I hx hT hi e, fun y hy s hs l => ?_⟩ (hs_fr_u hs_fr_r hi) (hs_fr_u hs_fr_r hi)
  by_cases w : s = (hs_m fW (aK x) 1 % 32 + d) % 32
  · rw [w, pk_us]
  · rw [pk_un (by omega)]
    by_cases v : y = x
    · subst v
      rw [hs_ps_s] at l
      dsimp only at l
      have j := hj ((s + 32 - hs_m fW (aK y) 1 % 32) % 32) (by omega)
      have ej : (hs_m fW (aK y) 1 % 32 + (s + 32 - hs_m fW (aK y) 1 % 32) % 32) % 32 = s := by omega
      rw [ej] at j
      exact j
    · rw [hs_ps_n v] at l
      exact L y (hy.elim id (fun z => absurd z v)) s hs l
end
end
section
/-! engine 1: what is behind closes up -/
theorem hs_c1 {hy G c i : Nat} (h1 : hy < 32) (h2 : G < 32) (h3 : 1 ≤ c) (h4 : c < 32) (h5 : i = (G + c) % 32) (h : (i + 32 - hy) % 32 < c) : ¬ (G + 32 - hy) % 32 < (i + 32 - hy) % 32 := by omega
theorem hs_c2 {hy G c i : Nat} (h1 : hy < 32) (h2 : G < 32) (h3 : 1 ≤ c) (h4 : c < 32) (h5 : i = (G + c) % 32) (h : c ≤ (i + 32 - hy) % 32) : (G + 32 - hy) % 32 + c = (i + 32 - hy) % 32 := by omega
theorem hs_c3 {hy G c i p : Nat} (h1 : hy < 32) (h2 : G < 32) (h3 : 1 ≤ c) (h4 : c < 32) (h5 : i = (G + c) % 32) (hp : p < 32) (h : (G + 32 - hy) % 32 < (p + 32 - hy) % 32) (h6 : c < (p + 32 - G) % 32) : (i + 32 - hy) % 32 < (p + 32 - hy) % 32 := by omega
section
variable {fC fW fL fM fB fR : Int32} {aT aK aV aC aD aE aS aN aH aP aQ aO aB aG : Nat → Int32} {T : Nat → Prop}
theorem hs_r1l {post : SX → Prop} (K : ∀ en st, hs_I1 T fW aK en st → hs_fr 32 aE en → hs_fr 32 aS st → post (fC, fW, fL, fM, fB, fR, aT, aK, aV, aC, aD, en, st, aN, aH, aP, aQ, aO, aB, aG)) :
    ∀ n en pos G c dF i, i = (G + c) % 32 → G < 32 → 1 ≤ c → c ≤ dF → dF < 32 → dF - c < n → ¬ aS (32 + (G + dF) % 32) = 1 → aS (32 + G) = 1 → hs_PH 32 aS en T pos G → hs_LP aS T pos (fun x => hs_m fW (aK x) 1 % 32) →
    (∀ y, T y → (G + 32 - hs_m fW (aK y) 1 % 32) % 32 < (pos y + 32 - hs_m fW (aK y) 1 % 32) % 32 → c ≤ (pos y + 32 - G) % 32) → hs_fr 32 aE en → wX_removeByOnes_13 post fC fW fL fM fB fR n (nI G) (nI i) aT aK aV aC aD en aS aN aH aP aQ aO aB aG := by
  intro n
  induction n with
  | zero => intro en pos G c dF i _ _ _ _ _ z; omega
  | succ n ih =>
    rintro en pos G c dF _ rfl hG hc1 hcd hdF hn fF sG P L X fr
    have hi : (G + c) % 32 < 32 := Nat.mod_lt _ (by decide)
    have hc : 32 + (G + c) % 32 < 2 ^ 31 := by omega
    have hcG : 32 + G < 2 ^ 31 := by omega
    have hv : vp_in (nI (32 + (G + c) % 32)) 160 := vp_in_nI (by omega) (by decide)
    have hvG : vp_in (nI (32 + G)) 160 := vp_in_nI (by omega) (by decide)
    simp only [wX_removeByOnes_13, hs_p32, nI_clamp hc, nI_clamp hcG, hs_n0]
    refine ⟨hv, br_c (fun e => ⟨hv, ?_⟩) (fun e => ⟨hvG, nm_e (K _ _ ⟨pos, hs_PH_fill P hG (by decide), fun y hy s hs l => ?_⟩ fr (hs_fr_u hs_fr_r hG))⟩)⟩
    · have hcF : c ≠ dF := fun z => fF (z ▸ e)
      obtain ⟨y, hy, py⟩ := P.2 _ hi (by omega) e
      obtain ⟨a1, a2, a3, a4, a5⟩ := P.1 y hy
      rw [py] at a5
      refine nm_r a5 (hs_home 1 a1 ?_)
      have hh : hs_m fW (aK y) 1 % 32 < 32 := Nat.mod_lt _ (by decide)
      have Xy := X y hy
      refine nm_r (hs_i3 _ hi _ hh) ?_
      rw [hs_i3 _ hi _ hG]
      have ec : ((G + c) % 32 + 32 - G) % 32 = c := by omega
      rw [ec]
      refine pk_lt _ c (fun z => ?_) (fun z => ?_)
      · refine nm_r (e' := nI ((G + (c + 1)) % 32)) ?_ (ih en pos G (c + 1) dF _ rfl hG (by omega) (by omega) hdF (by omega) fF sG P L (fun w hw lw => ?_) fr)
        · rw [hs_i1 (by omega)]; exact congrArg nI (by omega)
        · have q := X w hw lw
          have q2 : (pos w + 32 - G) % 32 ≠ c := fun u => by
            have pw := (P.1 w hw).2.1
            have e2 : pos w = (G + c) % 32 := by omega
            have e3 := hs_PH_u P hw hy (e2.trans py.symm)
            subst e3
            rw [e2] at lw
            exact hs_c1 hh hG hc1 (by omega) rfl z lw
          omega
      · have cc := hs_c2 hh hG hc1 (by omega) rfl z
        have P2 := hs_PH_move P hG sG hy
        rw [py] at P2
        refine ⟨hvG, nm_r (e' := upd en (32 + G) (nI y)) (by rw [hs_ny a1]) (nm_r (e' := nI (((G + c) % 32 + 1) % 32)) (hs_i1 (by omega)) (ih _ (hs_ps pos y G) ((G + c) % 32) 1 (dF - c) _ rfl hi (by omega) (by omega) (by omega) (by omega) ?_ e P2 (fun w hw s hs l => ?_) (fun w hw l => ?_) (hs_fr_u fr hG)))⟩
        · have e4 : ((G + c) % 32 + (dF - c)) % 32 = (G + dF) % 32 := by omega
          rw [e4]; exact fF
        · dsimp only at l
          by_cases ew : w = y
          · subst ew
            rw [hs_ps_s] at l
            refine L w hw s hs ?_
            dsimp only
            rw [py]
            omega
          · rw [hs_ps_n ew] at l
            exact L w hw s hs l
        · have q := (P2.1 w hw).2.2.1
          have q2 := (P2.1 w hw).2.1
          omega
    · dsimp only at l
      have Ls := L y hy s hs l
      by_cases es : s = G
      · subst es
        have py := P.1 y hy
        have x1 := X y hy l
        have hh : hs_m fW (aK y) 1 % 32 < 32 := Nat.mod_lt _ (by decide)
        have cG : c < (pos y + 32 - s) % 32 := by
          have q : (pos y + 32 - s) % 32 ≠ c := fun u => by
            have e2 : pos y = (s + c) % 32 := by omega
            rw [e2] at py
            exact e py.2.2.2.1
          omega
        exact absurd (L y hy _ hi (hs_c3 hh hG hc1 (by omega) rfl py.2.1 l cG)) e
      · rw [pk_un (by omega)]
        exact Ls
theorem hs_rem1 {post : SX → Prop} {x : Nat} (hT : T x) (KI : ∀ x y, T x → T y → aK x = aK y → x = y) (I : hs_I1 T fW aK aE aS)
    (K : ∀ en st, hs_I1 (fun y => T y ∧ y ≠ x) fW aK en st → hs_fr 32 aE en → hs_fr 32 aS st → post (fC, fW, fL, fM, fB, fR, aT, aK, aV, aC, aD, en, st, aN, aH, aP, aQ, aO, aB, aG)) : wpX_removeByOnes post (fC, fW, fL, fM, fB, fR, aT, aK, aV, aC, aD, aE, aS, aN, aH, aP, aQ, aO, aB, aG) (aK x) := by
  obtain ⟨pos, P, L⟩ := I
  unfold wpX_removeByOnes
  dsimp only
  refine hs_find1p P L (fun y hy ey => ?_) (fun z => absurd rfl (z x hT))
  have e := KI _ _ hy hT ey
  subst e
  obtain ⟨a1, a2, a3, a4, a5⟩ := P.1 y hy
  obtain ⟨dF, hF, fF⟩ := hs_free1 P (pos y)
  have h0 : dF ≠ 0 := fun z => by
    subst z
    rw [Nat.add_zero, Nat.mod_eq_of_lt a2] at fF
    exact fF a4
  have P2 := hs_PH_hole P hy
  refine nm_r (hs_i1 (by omega)) ⟨dF + 1, hs_r1l K (dF + 1) aE pos (pos y) 1 dF _ rfl a2 (by omega) (by omega) hF (by omega) fF a4 P2 (fun w hw => L w hw.1) (fun w hw _ => ?_) hs_fr_r⟩
  have q := P2.1 w hw
  omega
theorem hs_find1 {post : Int32 → Prop} {k : Int32} (I : hs_I1 T fW aK aE aS) (K : ∀ r, hs_Fd T aK k r → post r) : wpX_findInPlaces post (fC, fW, fL, fM, fB, fR, aT, aK, aV, aC, aD, aE, aS, aN, aH, aP, aQ, aO, aB, aG) 1 k := by
  obtain ⟨pos, P, L⟩ := I
  unfold wpX_findInPlaces
  dsimp only
  refine br_t rfl (hs_find1p P L (fun y hy ey => ?_) (fun z => ?_))
  · obtain ⟨a1, a2, a3, a4, a5⟩ := P.1 y hy
    have e : (1 : Int32) * 32 + nI (pos y) = nI (32 + pos y) := hs_p32 _
    unfold wX_findInPlaces_50
    rw [e, nI_clamp (by omega), a5]
    exact br_t (nI_pos' (by omega)) ⟨vp_in_nI (by omega) (by decide), K _ (Or.inl ⟨y, hy, ey, rfl⟩)⟩
  · exact br_f hs_m1p (K _ (Or.inr ⟨z, rfl⟩))
end
end
section
/-! engines 2 and 3: ways that come to every place; places are marked as left -/
theorem hs_TE {P : (Nat → Prop) → Prop} {T T' : Nat → Prop} (h : ∀ y, T y ↔ T' y) (p : P T) : P T' := (funext fun y => propext (h y) : T = T') ▸ p
def hs_tr (h : Nat) : Nat → Nat
  | 0 => h
  | d + 1 => (hs_tr h d + (d + 1)) % 32
def hs_tri : Nat → Nat
  | 0 => 0
  | d + 1 => hs_tri d + (d + 1)
theorem hs_tr_lt {h : Nat} (hh : h < 32) : ∀ d, hs_tr h d < 32
  | 0 => hh
  | _ + 1 => Nat.mod_lt _ (by decide)
theorem hs_tr_eq {h : Nat} (hh : h < 32) : ∀ d, hs_tr h d = (h + hs_tri d) % 32
  | 0 => by show h = (h + 0) % 32; omega
  | d + 1 => by
    have := hs_tr_eq hh d
    show (hs_tr h d + (d + 1)) % 32 = (h + (hs_tri d + (d + 1))) % 32
    omega
theorem hs_tri_inj : ∀ a, a < 32 → ∀ b, b < 32 → hs_tri a % 32 = hs_tri b % 32 → a = b := by decide +kernel
theorem hs_tr_inj {h : Nat} (hh : h < 32) (a b : Nat) (ha : a < 32) (hb : b < 32) (e : hs_tr h a = hs_tr h b) : a = b := by
  rw [hs_tr_eq hh, hs_tr_eq hh] at e
  exact hs_tri_inj a ha b hb (by omega)
def hs_sp (h s : Nat) : Nat → Nat
  | 0 => h
  | d + 1 => (hs_sp h s d + s) % 31
theorem hs_sp_lt {h s : Nat} (hh : h < 31) : ∀ d, hs_sp h s d < 31
  | 0 => hh
  | _ + 1 => Nat.mod_lt _ (by decide)
theorem hs_sp_eq {h s : Nat} (hh : h < 31) : ∀ d, hs_sp h s d = (h + d * s) % 31
  | 0 => by show h = (h + 0 * s) % 31; rw [Nat.zero_mul]; omega
  | d + 1 => by
    have := hs_sp_eq (s := s) hh d
    show (hs_sp h s d + s) % 31 = (h + (d + 1) * s) % 31
    rw [Nat.succ_mul]
    omega
theorem hs_sp_inj0 : ∀ s, s < 31 → 0 < s → ∀ a, a < 31 → ∀ b, b < 31 → a * s % 31 = b * s % 31 → a = b := by decide +kernel
theorem hs_sp_inj {h s : Nat} (hh : h < 31) (hs0 : 0 < s) (hs : s < 31) (a b : Nat) (ha : a < 31) (hb : b < 31) (e : hs_sp h s a = hs_sp h s b) : a = b := by
  rw [hs_sp_eq hh, hs_sp_eq hh] at e
  exact hs_sp_inj0 s hs hs0 a ha b hb (by omega)
def hs_PB (b N : Nat) (st : Nat → Int32) (T : Nat → Prop) (pos : Nat → Nat) (q : Nat → Nat → Nat) : Prop :=
  ∀ x, T x → ∃ d, d < N ∧ pos x = q x d ∧ ∀ j, j < d → ¬ st (b + q x j) = 0
theorem hs_un0 {st : Nat → Int32} {j k : Nat} {v : Int32} (h : ¬ st j = 0) (hv : ¬ v = 0) : ¬ upd st k v j = 0 := by
  by_cases e : j = k
  · rw [e, pk_us]; exact hv
  · rw [pk_un e]; exact h
theorem hs_PB_put {b N : Nat} {st : Nat → Int32} {T : Nat → Prop} {pos : Nat → Nat} {q : Nat → Nat → Nat} (B : hs_PB b N st T pos q) {x i d k : Nat} {v : Int32} (hd : d < N) (hi : i = q x d) (hj : ∀ j, j < d → ¬ st (b + q x j) = 0) (hv : ¬ v = 0) :
    hs_PB b N (upd st k v) (fun y => T y ∨ y = x) (hs_ps pos x i) q := by
  intro y hy
  by_cases e : y = x
  · subst e
    exact ⟨d, hd, hs_ps_s.trans hi, fun j hj2 => hs_un0 (hj j hj2) hv⟩
  · obtain ⟨d2, h1, h2, h3⟩ := B y (hy.elim id (fun z => absurd z e))
    exact ⟨d2, h1, (hs_ps_n e).trans h2, fun j hj2 => hs_un0 (h3 j hj2) hv⟩
theorem hs_PB_mark {b N : Nat} {st : Nat → Int32} {T T' : Nat → Prop} {pos : Nat → Nat} {q : Nat → Nat → Nat} (B : hs_PB b N st T pos q) {k : Nat} {v : Int32} (hT : ∀ y, T' y → T y) (hv : ¬ v = 0) : hs_PB b N (upd st k v) T' pos q := by
  intro y hy
  obtain ⟨d2, h1, h2, h3⟩ := B y (hT y hy)
  exact ⟨d2, h1, h2, fun j hj2 => hs_un0 (h3 j hj2) hv⟩
theorem hs_PB_cong {b N : Nat} {st st' : Nat → Int32} {T : Nat → Prop} {pos : Nat → Nat} {q q' : Nat → Nat → Nat} (B : hs_PB b N st T pos q) (h1 : ∀ i, i < 32 → st' (b + i) = st (b + i)) (hq : ∀ x, T x → q' x = q x) (hl : ∀ x j, q x j < 32) : hs_PB b N st' T pos q' := by
  intro y hy
  obtain ⟨d2, g1, g2, g3⟩ := B y hy
  refine ⟨d2, g1, ?_, fun j hj => ?_⟩
  · rw [hq y hy]; exact g2
  · rw [hq y hy, h1 _ (hl y j)]; exact g3 j hj
def hs_I2 (T : Nat → Prop) (w l : Int32) (k en st : Nat → Int32) : Prop :=
  ∃ pos, hs_PH 64 st en T pos 32 ∧ hs_PB 64 32 st T pos (fun x => hs_tr (hs_m w (k x) 2 % 32)) ∧ l = nI (hs_cn (fun i => st (64 + i) = 2) 32)
theorem hs_I2_cong {T : Nat → Prop} {w l : Int32} {k en st k' en' st' : Nat → Int32} (I : hs_I2 T w l k en st) (hk : ∀ x, T x → k' x = k x) (h1 : ∀ i, i < 32 → st' (64 + i) = st (64 + i)) (h2 : ∀ i, i < 32 → en' (64 + i) = en (64 + i)) : hs_I2 T w l k' en' st' := by
  obtain ⟨pos, I1, I2, I3⟩ := I
  refine ⟨pos, hs_PH_cong I1 h1 h2, hs_PB_cong I2 h1 (fun x hx => by rw [hk x hx]) (fun x j => hs_tr_lt (Nat.mod_lt _ (by decide)) j), ?_⟩
  rw [I3]
  exact congrArg nI (hs_cn_eq fun i hi => by rw [h1 i hi])
section
variable {fC fW fL fM fB fR : Int32} {aT aK aV aC aD aE aS aN aH aP aQ aO aB aG : Nat → Int32} {T : Nat → Prop}
theorem hs_f2l {post : Int32 → Prop} {k : Int32} {pos : Nat → Nat} (I : hs_PH 64 aS aE T pos 32) (B : hs_PB 64 32 aS T pos (fun x => hs_tr (hs_m fW (aK x) 2 % 32))) {h : Nat} (hh : h = hs_m fW k 2 % 32)
    (K1 : ∀ x, T x → aK x = k → post (nI (pos x))) (K2 : (∀ x, T x → ¬ aK x = k) → post (-1)) :
    ∀ n d i, i = hs_tr h d → d ≤ 32 → 32 - d < n → (∀ j, j < d → ∀ y, T y → pos y = hs_tr h j → ¬ aK y = k) → wX_findByGrowing_12 post k fC fW fL fM fB fR aT aK aV aC aD aE aS aN aH aP aQ aO aB aG n (nI i) (nI (d + 1)) := by
  intro n
  induction n with
  | zero => intro d i _ _ z; omega
  | succ n ih =>
    rintro d _ rfl hd hn hj
    have h32 : h < 32 := by rw [hh]; exact Nat.mod_lt _ (by decide)
    have hi : hs_tr h d < 32 := hs_tr_lt h32 d
    have hc : 64 + hs_tr h d < 2 ^ 31 := by omega
    have hv : vp_in (nI (64 + hs_tr h d)) 160 := vp_in_nI (by omega) (by decide)
    have no : ∀ x, T x → aK x = k → d < 32 ∧ ¬ aS (64 + hs_tr h d) = 0 := by
      intro x hx ek
      obtain ⟨dx, g1, g2, g3⟩ := B x hx
      dsimp only at g2 g3
      rw [ek, ← hh] at g2 g3
      have q : ¬ dx < d := fun z => hj dx z x hx g2 ek
      refine ⟨by omega, ?_⟩
      by_cases e : dx = d
      · subst e
        rw [← g2, (I.1 x hx).2.2.2.1]
        decide
      · exact g3 d (by omega)
    simp only [wX_findByGrowing_12, wX_findByGrowing_65, hs_p64]
    refine pk_lt 32 (d + 1) (fun z => K2 (fun x hx ek => ?_)) (fun z => nm_e ⟨hv, ?_⟩)
    · have := (no x hx ek).1
      omega
    · rw [nI_clamp hc]
      have go : (∀ y, T y → pos y = hs_tr h d → ¬ aK y = k) → ∀ x2 : Int32, x2 = (nI (hs_tr h d) + nI (d + 1)) &&& 31 → ∀ x3 : Int32, x3 = nI (d + 1) + 1 → wX_findByGrowing_12 post k fC fW fL fM fB fR aT aK aV aC aD aE aS aN aH aP aQ aO aB aG n x2 x3 := by
        intro hy
        refine nm_r (hs_i2 (by omega) (by omega)) (nm_r (nI_1 _) (ih (d + 1) _ rfl (by omega) (by omega) (fun j hj2 y hy2 py => ?_)))
        by_cases e : j = d
        · subst e; exact hy y hy2 py
        · exact hj j (by omega) y hy2 py
      refine br_c (fun e => K2 (fun x hx ek => (no x hx ek).2 e)) (fun e0 => ⟨hv, br_c (fun e => ?_) (fun e => go ?_)⟩)
      · obtain ⟨y, hy, py⟩ := I.2 _ hi (by omega) e
        obtain ⟨a1, a2, a3, a4, a5⟩ := I.1 y hy
        rw [py] at a5
        rw [a5, nI_clamp (show y < 2 ^ 31 by omega)]
        refine ⟨hv, vp_in_nI a1 (by decide), br_c (fun ek => ?_) (fun ek => go (fun z hz pz => ?_))⟩
        · rw [← py]; exact K1 y hy ek
        · rw [hs_PH_u I hz hy (pz.trans py.symm)]; exact ek
      · intro y hy py
        exact absurd (py ▸ (I.1 y hy).2.2.2.1) e
theorem hs_find2p {post : Int32 → Prop} {k : Int32} {pos : Nat → Nat} (I : hs_PH 64 aS aE T pos 32) (B : hs_PB 64 32 aS T pos (fun x => hs_tr (hs_m fW (aK x) 2 % 32)))
    (K1 : ∀ x, T x → aK x = k → post (nI (pos x))) (K2 : (∀ x, T x → ¬ aK x = k) → post (-1)) : wpX_findByGrowing post (fC, fW, fL, fM, fB, fR, aT, aK, aV, aC, aD, aE, aS, aN, aH, aP, aQ, aO, aB, aG) k := by
  unfold wpX_findByGrowing
  dsimp only
  exact hs_mixed 2 (nm_r (hs_a31 (hs_m_lt _ _ _)) ⟨33, hs_f2l I B rfl K1 K2 33 0 _ rfl (by omega) (by omega) (fun j hj => absurd hj (by omega))⟩)
theorem hs_find2 {post : Int32 → Prop} {k : Int32} (I : hs_I2 T fW fL aK aE aS) (K : ∀ r, hs_Fd T aK k r → post r) : wpX_findInPlaces post (fC, fW, fL, fM, fB, fR, aT, aK, aV, aC, aD, aE, aS, aN, aH, aP, aQ, aO, aB, aG) 2 k := by
  obtain ⟨pos, P, L, _⟩ := I
  unfold wpX_findInPlaces
  dsimp only
  refine br_f (by decide) (br_t rfl (hs_find2p P L (fun y hy ey => ?_) (fun z => ?_)))
  · obtain ⟨a1, a2, a3, a4, a5⟩ := P.1 y hy
    have e : (2 : Int32) * 32 + nI (pos y) = nI (64 + pos y) := hs_p64 _
    unfold wX_findInPlaces_50
    rw [e, nI_clamp (by omega), a5]
    exact br_t (nI_pos' (by omega)) ⟨vp_in_nI (by omega) (by decide), K _ (Or.inl ⟨y, hy, ey, rfl⟩)⟩
  · exact br_f hs_m1p (K _ (Or.inr ⟨z, rfl⟩))
theorem hs_a2l {post : SX → Prop} {x h dF : Nat} (hx : x < 24) (hh : h < 32) (hF : dF < 32) (fF : ¬ aS (64 + hs_tr h dF) = 1)
    (K : ∀ d l, d ≤ dF → ¬ aS (64 + hs_tr h d) = 1 → (∀ j, j < d → aS (64 + hs_tr h j) = 1) → (aS (64 + hs_tr h d) = 2 → l = fL - 1) → (¬ aS (64 + hs_tr h d) = 2 → l = fL) → post (fC, fW, l, fM, fB, fR, aT, aK, aV, aC, aD, upd aE (64 + hs_tr h d) (nI x), upd aS (64 + hs_tr h d) 1, aN, aH, aP, aQ, aO, aB, aG)) :
    ∀ n d i, i = hs_tr h d → d ≤ dF → dF - d < n → (∀ j, j < d → aS (64 + hs_tr h j) = 1) → wX_addByGrowing_9 post (nI x) fC fW fL fM fB fR aT aK aV aC aD aE aS aN aH aP aQ aO aB aG n (nI i) (nI (d + 1)) := by
  intro n
  induction n with
  | zero => intro d i _ _ z; omega
  | succ n ih =>
    rintro d _ rfl hd hn hj
    have hi : hs_tr h d < 32 := hs_tr_lt hh d
    have hc : 64 + hs_tr h d < 2 ^ 31 := by omega
    have hv : vp_in (nI (64 + hs_tr h d)) 160 := vp_in_nI (by omega) (by decide)
    simp only [wX_addByGrowing_9, wX_addByGrowing_58, hs_p64, nI_clamp hc, hs_n1, hs_ny hx]
    refine ⟨hv, br_c (fun e => nm_r (hs_i2 (by omega) (by omega)) (nm_r (nI_1 _) (ih (d + 1) _ rfl ?_ ?_ ?_))) (fun e => ⟨hv, br_c (fun e2 => nm_e ⟨hv, nm_e ⟨hv, nm_e (K d _ hd e hj (fun _ => rfl) (fun z => absurd e2 z))⟩⟩) (fun e2 => nm_r (Int32.sub_zero fL) ⟨hv, nm_e ⟨hv, nm_e (K d _ hd e hj (fun z => absurd z e2) (fun _ => rfl))⟩⟩)⟩)⟩
    · have : d ≠ dF := fun z => fF (z ▸ e)
      omega
    · have : d ≠ dF := fun z => fF (z ▸ e)
      omega
    · intro j hj2
      by_cases w : j = d
      · rw [w]; exact e
      · exact hj j (by omega)
theorem hs_add2 {post : SX → Prop} {x : Nat} (hx : x < 24) (hT : ¬ T x) (I : hs_I2 T fW fL aK aE aS)
    (K : ∀ l en st, hs_I2 (fun y => T y ∨ y = x) fW l aK en st → hs_fr 64 aE en → hs_fr 64 aS st → post (fC, fW, l, fM, fB, fR, aT, aK, aV, aC, aD, en, st, aN, aH, aP, aQ, aO, aB, aG)) : wpX_addByGrowing post (fC, fW, fL, fM, fB, fR, aT, aK, aV, aC, aD, aE, aS, aN, aH, aP, aQ, aO, aB, aG) (nI x) := by
  obtain ⟨pos, P, B, C⟩ := I
  unfold wpX_addByGrowing
  dsimp only
  refine hs_home 2 hx ?_
  have hh : hs_m fW (aK x) 2 % 32 < 32 := Nat.mod_lt _ (by decide)
  obtain ⟨dF, hF, fF⟩ := hs_PH_free P (N := 32) (by decide) (hs_tr (hs_m fW (aK x) 2 % 32)) (fun d _ => hs_tr_lt hh d) (fun d e hd he w => hs_tr_inj hh d e hd he w)
  refine ⟨dF + 1, hs_a2l hx hh hF fF (fun d l hd e hj l1 l2 => ?_) (dF + 1) 0 _ rfl (by omega) (by omega) (fun j hj => absurd hj (by omega))⟩
  have hi := hs_tr_lt hh d
  refine K _ _ _ ⟨_, hs_PH_put P hx hT hi e, hs_PB_put B (d := d) (by omega) rfl (fun j hj2 => ?_) (by decide), ?_⟩ (hs_fr_u hs_fr_r hi) (hs_fr_u hs_fr_r hi)
  · rw [hj j hj2]; decide
  · by_cases e2 : aS (64 + hs_tr (hs_m fW (aK x) 2 % 32) d) = 2
    · rw [l1 e2, C, hs_mk_off (v := 1) hi (by decide) e2]
      exact nI_pred _
    · rw [l2 e2, C, hs_mk_no (v := 1) (by decide) e2]
/-- all that are there but one key are put in anew -/
theorem hs_cl2b {post : SX → Prop} {but : Int32} (K : ∀ l en st, hs_I2 (fun y => y < 24 ∧ ¬ aT y = 0 ∧ ¬ aK y = but) fW l aK en st → hs_fr 64 aE en → hs_fr 64 aS st → post (fC, fW, l, fM, fB, fR, aT, aK, aV, aC, aD, en, st, aN, aH, aP, aQ, aO, aB, aG)) :
    ∀ n i l en st, i ≤ 24 → 24 - i < n → hs_I2 (fun y => y < i ∧ ¬ aT y = 0 ∧ ¬ aK y = but) fW l aK en st → hs_fr 64 aE en → hs_fr 64 aS st → wX_cleanGrowing_31 post but n (nI i) fC fW l fM fB fR aT aK aV aC aD en st aN aH aP aQ aO aB aG := by
  intro n
  induction n with
  | zero => intro i l en st _ z; omega
  | succ n ih =>
    intro i l en st hi hn I f1 f2
    have hi2 : i < 2 ^ 31 := by omega
    simp only [wX_cleanGrowing_31, nI_clamp hi2]
    refine pk_le 24 i (fun z => ?_) (fun z => ?_)
    · have e : i = 24 := by omega
      subst e
      exact K l en st I f1 f2
    · have hv : vp_in (nI i) 24 := vp_in_nI z (by decide)
      refine ⟨hv, br_c (fun e => nm_r (nI_1 i) (ih (i + 1) l en st (by omega) (by omega) (hs_TE (P := fun T => hs_I2 T fW l aK en st) (fun y => ?_) I) f1 f2)) (fun e => ⟨hv, br_c (fun e2 => nm_r (nI_1 i) (ih (i + 1) l en st (by omega) (by omega) (hs_TE (P := fun T => hs_I2 T fW l aK en st) (fun y => ?_) I) f1 f2)) (fun e2 => ?_)⟩)⟩
      · exact ⟨fun h => ⟨by omega, h.2⟩, fun h => ⟨Nat.lt_of_le_of_ne (by omega) (fun w => h.2.1 (by rw [w]; exact e)), h.2⟩⟩
      · exact ⟨fun h => ⟨by omega, h.2⟩, fun h => ⟨Nat.lt_of_le_of_ne (by omega) (fun w => h.2.2 (by rw [w]; exact e2)), h.2⟩⟩
      · refine hs_add2 z (fun h => by omega) I (fun l' en' st' I' g1 g2 => nm_r (nI_1 i) (ih (i + 1) l' en' st' (by omega) (by omega) (hs_TE (P := fun T => hs_I2 T fW l' aK en' st') (fun y => ?_) I') (hs_fr_t f1 g1) (hs_fr_t f2 g2)))
        constructor
        · rintro (h | h)
          · exact ⟨by omega, h.2⟩
          · subst h; exact ⟨by omega, e, e2⟩
        · intro h
          by_cases w : y = i
          · exact Or.inr w
          · exact Or.inl ⟨by omega, h.2⟩
theorem hs_cl2a {post : SX → Prop} {but : Int32} (K : ∀ l en st, hs_I2 (fun y => y < 24 ∧ ¬ aT y = 0 ∧ ¬ aK y = but) fW l aK en st → hs_fr 64 aE en → hs_fr 64 aS st → post (fC, fW, l, fM, fB, fR, aT, aK, aV, aC, aD, en, st, aN, aH, aP, aQ, aO, aB, aG)) :
    ∀ n i st, i ≤ 32 → 32 - i < n → (∀ j, j < i → st (64 + j) = 0) → hs_fr 64 aS st → wX_cleanGrowing_7 post but fC fW 0 fM fB fR n (nI i) aT aK aV aC aD aE st aN aH aP aQ aO aB aG := by
  intro n
  induction n with
  | zero => intro i st _ z; omega
  | succ n ih =>
    intro i st hi hn h0 f2
    have hc : 64 + i < 2 ^ 31 := by omega
    simp only [wX_cleanGrowing_7, hs_p64, nI_clamp hc, hs_n0]
    refine pk_le 32 i (fun z => ⟨25, hs_cl2b K 25 0 0 aE st (by omega) (by omega) ?_ hs_fr_r f2⟩) (fun z => ⟨vp_in_nI (by omega) (by decide), nm_e (nm_r (nI_1 i) (ih (i + 1) _ (by omega) (by omega) (fun j hj => ?_) (hs_fr_u f2 z)))⟩)
    · have e : i = 32 := by omega
      subst e
      refine hs_TE (P := fun T => hs_I2 T fW 0 aK aE st) (T := fun _ => False) (fun y => ⟨fun h => h.elim, fun h => by omega⟩) ?_
      refine ⟨fun _ => 0, hs_PH_0 (fun j hj => by rw [h0 j hj]; decide), fun x hx => hx.elim, ?_⟩
      rw [hs_cn_no (fun j hj => by rw [h0 j hj]; decide)]
      exact nI_0.symm
    · by_cases w : j = i
      · rw [w, pk_us]
      · rw [pk_un (by omega)]; exact h0 j (by omega)
theorem hs_clean2 {post : SX → Prop} {but : Int32} (K : ∀ l en st, hs_I2 (fun y => y < 24 ∧ ¬ aT y = 0 ∧ ¬ aK y = but) fW l aK en st → hs_fr 64 aE en → hs_fr 64 aS st → post (fC, fW, l, fM, fB, fR, aT, aK, aV, aC, aD, en, st, aN, aH, aP, aQ, aO, aB, aG)) : wpX_cleanGrowing post (fC, fW, fL, fM, fB, fR, aT, aK, aV, aC, aD, aE, aS, aN, aH, aP, aQ, aO, aB, aG) but := by
  unfold wpX_cleanGrowing
  dsimp only
  exact ⟨33, hs_cl2a K 33 0 aS (by omega) (by omega) (fun j hj => absurd hj (by omega)) hs_fr_r⟩
theorem hs_rem2 {post : SX → Prop} {x : Nat} (hT : T x) (KI : ∀ x y, T x → T y → aK x = aK y → x = y) (hth : ∀ y, (y < 24 ∧ ¬ aT y = 0 ∧ ¬ aK y = aK x) ↔ (T y ∧ y ≠ x)) (I : hs_I2 T fW fL aK aE aS)
    (K : ∀ l en st, hs_I2 (fun y => T y ∧ y ≠ x) fW l aK en st → hs_fr 64 aE en → hs_fr 64 aS st → post (fC, fW, l, fM, fB, fR, aT, aK, aV, aC, aD, en, st, aN, aH, aP, aQ, aO, aB, aG)) : wpX_removeByGrowing post (fC, fW, fL, fM, fB, fR, aT, aK, aV, aC, aD, aE, aS, aN, aH, aP, aQ, aO, aB, aG) (aK x) := by
  obtain ⟨pos, P, B, C⟩ := I
  unfold wpX_removeByGrowing
  dsimp only
  refine hs_find2p P B (fun y hy ey => ?_) (fun z => absurd rfl (z x hT))
  have e := KI _ _ hy hT ey
  subst e
  obtain ⟨a1, a2, a3, a4, a5⟩ := P.1 y hy
  rw [hs_p64, nI_clamp (by omega), hs_n2]
  have fr : hs_fr 64 aS (upd aS (64 + pos y) 2) := hs_fr_u hs_fr_r a2
  refine ⟨vp_in_nI (by omega) (by decide), nm_e (nm_e (br_c (fun _ => K _ _ _ ⟨pos, hs_PH_fill (hs_PH_hole P hy) a2 (by decide), hs_PB_mark B (fun z hz => hz.1) (by decide), ?_⟩ hs_fr_r fr) (fun _ => hs_clean2 (fun l en st I2 f1 f2 => K l en st (hs_TE (P := fun T => hs_I2 T fW l aK en st) hth I2) f1 (hs_fr_t fr f2)))))⟩
  rw [C, hs_mk_on a2 (by rw [a4]; decide), nI_1]
end
end
section
def hs_I3 (T : Nat → Prop) (w l : Int32) (k en st : Nat → Int32) : Prop :=
  ∃ pos, hs_PH 96 st en T pos 32 ∧ hs_PB 96 31 st T pos (fun x => hs_sp (hs_m w (k x) 3 % 31) (1 + hs_m w (k x) 4 % 30)) ∧ l = nI (hs_cn (fun i => st (96 + i) = 2) 32)
theorem hs_I3_cong {T : Nat → Prop} {w l : Int32} {k en st k' en' st' : Nat → Int32} (I : hs_I3 T w l k en st) (hk : ∀ x, T x → k' x = k x) (h1 : ∀ i, i < 32 → st' (96 + i) = st (96 + i)) (h2 : ∀ i, i < 32 → en' (96 + i) = en (96 + i)) : hs_I3 T w l k' en' st' := by
  obtain ⟨pos, I1, I2, I3⟩ := I
  refine ⟨pos, hs_PH_cong I1 h1 h2, hs_PB_cong I2 h1 (fun x hx => by rw [hk x hx]) (fun x j => Nat.lt_trans (hs_sp_lt (Nat.mod_lt _ (by decide)) j) (by decide)), ?_⟩
  rw [I3]
  exact congrArg nI (hs_cn_eq fun i hi => by rw [h1 i hi])
section
variable {fC fW fL fM fB fR : Int32} {aT aK aV aC aD aE aS aN aH aP aQ aO aB aG : Nat → Int32} {T : Nat → Prop}
theorem hs_f3l {post : Int32 → Prop} {k : Int32} {pos : Nat → Nat} (I : hs_PH 96 aS aE T pos 32) (B : hs_PB 96 31 aS T pos (fun x => hs_sp (hs_m fW (aK x) 3 % 31) (1 + hs_m fW (aK x) 4 % 30))) {h s : Nat} (hh : h = hs_m fW k 3 % 31) (hs : s = 1 + hs_m fW k 4 % 30)
    (K1 : ∀ x, T x → aK x = k → post (nI (pos x))) (K2 : (∀ x, T x → ¬ aK x = k) → post (-1)) :
    ∀ n d i, i = hs_sp h s d → d ≤ 31 → 31 - d < n → (∀ j, j < d → ∀ y, T y → pos y = hs_sp h s j → ¬ aK y = k) → wX_findBySteps_19 post k (nI s) fC fW fL fM fB fR aT aK aV aC aD aE aS aN aH aP aQ aO aB aG n (nI i) (nI d) := by
  intro n
  induction n with
  | zero => intro d i _ _ z; omega
  | succ n ih =>
    rintro d _ rfl hd hn hj
    have h31 : h < 31 := by rw [hh]; exact Nat.mod_lt _ (by decide)
    have s31 : s < 31 := by have := Nat.mod_lt (hs_m fW k 4) (show 0 < 30 by decide); omega
    have hi : hs_sp h s d < 31 := hs_sp_lt h31 d
    have hc : 96 + hs_sp h s d < 2 ^ 31 := by omega
    have hv : vp_in (nI (96 + hs_sp h s d)) 160 := vp_in_nI (by omega) (by decide)
    have no : ∀ x, T x → aK x = k → d < 31 ∧ ¬ aS (96 + hs_sp h s d) = 0 := by
      intro x hx ek
      obtain ⟨dx, g1, g2, g3⟩ := B x hx
      dsimp only at g2 g3
      rw [ek, ← hh, ← hs] at g2
      rw [ek, ← hh, ← hs] at g3
      have q : ¬ dx < d := fun z => hj dx z x hx g2 ek
      refine ⟨by omega, ?_⟩
      by_cases e : dx = d
      · subst e
        rw [← g2, (I.1 x hx).2.2.2.1]
        decide
      · exact g3 d (by omega)
    simp only [wX_findBySteps_19, wX_findBySteps_73, hs_p96]
    refine pk_le 31 d (fun z => K2 (fun x hx ek => ?_)) (fun z => nm_e ⟨hv, ?_⟩)
    · have := (no x hx ek).1
      omega
    · rw [nI_clamp hc]
      have go : (∀ y, T y → pos y = hs_sp h s d → ¬ aK y = k) → (¬ (31 : Int32) = 0 ∧ ∀ x2 : Int32, x2 = (nI (hs_sp h s d) + nI s) - (nI (hs_sp h s d) + nI s) / 31 * 31 → ∀ x3 : Int32, x3 = nI d + 1 → wX_findBySteps_19 post k (nI s) fC fW fL fM fB fR aT aK aV aC aD aE aS aN aH aP aQ aO aB aG n x2 x3) := by
        intro hy
        rw [nI_add]
        refine ⟨by decide, nm_r (hs_r31 (by omega)) (nm_r (nI_1 _) (ih (d + 1) _ rfl (by omega) (by omega) (fun j hj2 y hy2 py => ?_)))⟩
        by_cases e : j = d
        · subst e; exact hy y hy2 py
        · exact hj j (by omega) y hy2 py
      refine br_c (fun e => K2 (fun x hx ek => (no x hx ek).2 e)) (fun e0 => ⟨hv, br_c (fun e => ?_) (fun e => go ?_)⟩)
      · obtain ⟨y, hy, py⟩ := I.2 _ (by omega) (by omega) e
        obtain ⟨a1, a2, a3, a4, a5⟩ := I.1 y hy
        rw [py] at a5
        rw [a5, nI_clamp (show y < 2 ^ 31 by omega)]
        refine ⟨hv, vp_in_nI a1 (by decide), br_c (fun ek => ?_) (fun ek => go (fun z hz pz => ?_))⟩
        · rw [← py]; exact K1 y hy ek
        · rw [hs_PH_u I hz hy (pz.trans py.symm)]; exact ek
      · intro y hy py
        exact absurd (py ▸ (I.1 y hy).2.2.2.1) e
theorem hs_find3p {post : Int32 → Prop} {k : Int32} {pos : Nat → Nat} (I : hs_PH 96 aS aE T pos 32) (B : hs_PB 96 31 aS T pos (fun x => hs_sp (hs_m fW (aK x) 3 % 31) (1 + hs_m fW (aK x) 4 % 30)))
    (K1 : ∀ x, T x → aK x = k → post (nI (pos x))) (K2 : (∀ x, T x → ¬ aK x = k) → post (-1)) : wpX_findBySteps post (fC, fW, fL, fM, fB, fR, aT, aK, aV, aC, aD, aE, aS, aN, aH, aP, aQ, aO, aB, aG) k := by
  unfold wpX_findBySteps
  dsimp only
  exact hs_mixed 3 (And.intro hs_d31 (nm_r (hs_r31 (hs_m_lt _ _ _)) (hs_stepOf ⟨32, hs_f3l I B rfl rfl K1 K2 32 0 _ rfl (by omega) (by omega) (fun j hj => absurd hj (by omega))⟩)))
theorem hs_find3 {post : Int32 → Prop} {k : Int32} (I : hs_I3 T fW fM aK aE aS) (K : ∀ r, hs_Fd T aK k r → post r) : wpX_findInPlaces post (fC, fW, fL, fM, fB, fR, aT, aK, aV, aC, aD, aE, aS, aN, aH, aP, aQ, aO, aB, aG) 3 k := by
  obtain ⟨pos, P, L, _⟩ := I
  unfold wpX_findInPlaces
  dsimp only
  refine br_f (by decide) (br_f (by decide) (br_t rfl (hs_find3p P L (fun y hy ey => ?_) (fun z => ?_))))
  · obtain ⟨a1, a2, a3, a4, a5⟩ := P.1 y hy
    have e : (3 : Int32) * 32 + nI (pos y) = nI (96 + pos y) := hs_p96 _
    unfold wX_findInPlaces_50
    rw [e, nI_clamp (by omega), a5]
    exact br_t (nI_pos' (by omega)) ⟨vp_in_nI (by omega) (by decide), K _ (Or.inl ⟨y, hy, ey, rfl⟩)⟩
  · exact br_f hs_m1p (K _ (Or.inr ⟨z, rfl⟩))
theorem hs_a3l {post : SX → Prop} {x h s dF : Nat} (hx : x < 24) (hh : h < 31) (hs : s < 31) (hF : dF < 31) (fF : ¬ aS (96 + hs_sp h s dF) = 1)
    (K : ∀ d l, d ≤ dF → ¬ aS (96 + hs_sp h s d) = 1 → (∀ j, j < d → aS (96 + hs_sp h s j) = 1) → (aS (96 + hs_sp h s d) = 2 → l = fM - 1) → (¬ aS (96 + hs_sp h s d) = 2 → l = fM) → post (fC, fW, fL, l, fB, fR, aT, aK, aV, aC, aD, upd aE (96 + hs_sp h s d) (nI x), upd aS (96 + hs_sp h s d) 1, aN, aH, aP, aQ, aO, aB, aG)) :
    ∀ n d i, i = hs_sp h s d → d ≤ dF → dF - d < n → (∀ j, j < d → aS (96 + hs_sp h s j) = 1) → wX_addBySteps_26 post (nI x) (nI s) fC fW fL fM fB fR aT aK aV aC aD aE aS aN aH aP aQ aO aB aG n (nI i) := by
  intro n
  induction n with
  | zero => intro d i _ _ z; omega
  | succ n ih =>
    rintro d _ rfl hd hn hj
    have hi : hs_sp h s d < 31 := hs_sp_lt hh d
    have hc : 96 + hs_sp h s d < 2 ^ 31 := by omega
    have hv : vp_in (nI (96 + hs_sp h s d)) 160 := vp_in_nI (by omega) (by decide)
    simp only [wX_addBySteps_26, wX_addBySteps_72, hs_p96, nI_clamp hc, hs_n1, hs_ny hx, nI_add]
    refine ⟨hv, br_c (fun e => ⟨by decide, nm_r (hs_r31 (by omega)) (ih (d + 1) _ rfl ?_ ?_ ?_)⟩) (fun e => ⟨hv, br_c (fun e2 => nm_e ⟨hv, nm_e ⟨hv, nm_e (K d _ hd e hj (fun _ => rfl) (fun z => absurd e2 z))⟩⟩) (fun e2 => nm_r (Int32.sub_zero fM) ⟨hv, nm_e ⟨hv, nm_e (K d _ hd e hj (fun z => absurd z e2) (fun _ => rfl))⟩⟩)⟩)⟩
    · have : d ≠ dF := fun z => fF (z ▸ e)
      omega
    · have : d ≠ dF := fun z => fF (z ▸ e)
      omega
    · intro j hj2
      by_cases w : j = d
      · rw [w]; exact e
      · exact hj j (by omega)
theorem hs_add3 {post : SX → Prop} {x : Nat} (hx : x < 24) (hT : ¬ T x) (I : hs_I3 T fW fM aK aE aS)
    (K : ∀ l en st, hs_I3 (fun y => T y ∨ y = x) fW l aK en st → hs_fr 96 aE en → hs_fr 96 aS st → post (fC, fW, fL, l, fB, fR, aT, aK, aV, aC, aD, en, st, aN, aH, aP, aQ, aO, aB, aG)) : wpX_addBySteps post (fC, fW, fL, fM, fB, fR, aT, aK, aV, aC, aD, aE, aS, aN, aH, aP, aQ, aO, aB, aG) (nI x) := by
  obtain ⟨pos, P, B, C⟩ := I
  unfold wpX_addBySteps
  dsimp only
  rw [nI_clamp (show x < 2 ^ 31 by omega)]
  have hv : vp_in (nI x) 24 := vp_in_nI hx (by decide)
  refine And.intro hv (hs_mixed 3 (And.intro hs_d31 (nm_r (hs_r31 (hs_m_lt _ _ _)) (And.intro hv (hs_stepOf ?_)))))
  have hh : hs_m fW (aK x) 3 % 31 < 31 := Nat.mod_lt _ (by decide)
  have hs : 1 + hs_m fW (aK x) 4 % 30 < 31 := by have := Nat.mod_lt (hs_m fW (aK x) 4) (show 0 < 30 by decide); omega
  obtain ⟨dF, hF, fF⟩ := hs_PH_free P (N := 31) (by decide) (hs_sp (hs_m fW (aK x) 3 % 31) (1 + hs_m fW (aK x) 4 % 30)) (fun d _ => Nat.lt_trans (hs_sp_lt hh d) (by decide)) (fun d e hd he w => hs_sp_inj hh (by omega) hs d e hd he w)
  refine ⟨dF + 1, hs_a3l hx hh hs hF fF (fun d l hd e hj l1 l2 => ?_) (dF + 1) 0 _ rfl (by omega) (by omega) (fun j hj => absurd hj (by omega))⟩
  have hi : hs_sp (hs_m fW (aK x) 3 % 31) (1 + hs_m fW (aK x) 4 % 30) d < 32 := Nat.lt_trans (hs_sp_lt hh d) (by decide)
  refine K _ _ _ ⟨_, hs_PH_put P hx hT hi e, hs_PB_put B (d := d) (by omega) rfl (fun j hj2 => ?_) (by decide), ?_⟩ (hs_fr_u hs_fr_r hi) (hs_fr_u hs_fr_r hi)
  · rw [hj j hj2]; decide
  · by_cases e2 : aS (96 + hs_sp (hs_m fW (aK x) 3 % 31) (1 + hs_m fW (aK x) 4 % 30) d) = 2
    · rw [l1 e2, C, hs_mk_off (v := 1) hi (by decide) e2]
      exact nI_pred _
    · rw [l2 e2, C, hs_mk_no (v := 1) (by decide) e2]
/-- all that are there but one key are put in anew -/
theorem hs_cl3b {post : SX → Prop} {but : Int32} (K : ∀ l en st, hs_I3 (fun y => y < 24 ∧ ¬ aT y = 0 ∧ ¬ aK y = but) fW l aK en st → hs_fr 96 aE en → hs_fr 96 aS st → post (fC, fW, fL, l, fB, fR, aT, aK, aV, aC, aD, en, st, aN, aH, aP, aQ, aO, aB, aG)) :
    ∀ n i l en st, i ≤ 24 → 24 - i < n → hs_I3 (fun y => y < i ∧ ¬ aT y = 0 ∧ ¬ aK y = but) fW l aK en st → hs_fr 96 aE en → hs_fr 96 aS st → wX_cleanSteps_31 post but n (nI i) fC fW fL l fB fR aT aK aV aC aD en st aN aH aP aQ aO aB aG := by
  intro n
  induction n with
  | zero => intro i l en st _ z; omega
  | succ n ih =>
    intro i l en st hi hn I f1 f2
    have hi2 : i < 2 ^ 31 := by omega
    simp only [wX_cleanSteps_31, nI_clamp hi2]
    refine pk_le 24 i (fun z => ?_) (fun z => ?_)
    · have e : i = 24 := by omega
      subst e
      exact K l en st I f1 f2
    · have hv : vp_in (nI i) 24 := vp_in_nI z (by decide)
      refine ⟨hv, br_c (fun e => nm_r (nI_1 i) (ih (i + 1) l en st (by omega) (by omega) (hs_TE (P := fun T => hs_I3 T fW l aK en st) (fun y => ?_) I) f1 f2)) (fun e => ⟨hv, br_c (fun e2 => nm_r (nI_1 i) (ih (i + 1) l en st (by omega) (by omega) (hs_TE (P := fun T => hs_I3 T fW l aK en st) (fun y => ?_) I) f1 f2)) (fun e2 => ?_)⟩)⟩
      · exact ⟨fun h => ⟨by omega, h.2⟩, fun h => ⟨Nat.lt_of_le_of_ne (by omega) (fun w => h.2.1 (by rw [w]; exact e)), h.2⟩⟩
      · exact ⟨fun h => ⟨by omega, h.2⟩, fun h => ⟨Nat.lt_of_le_of_ne (by omega) (fun w => h.2.2 (by rw [w]; exact e2)), h.2⟩⟩
      · refine hs_add3 z (fun h => by omega) I (fun l' en' st' I' g1 g2 => nm_r (nI_1 i) (ih (i + 1) l' en' st' (by omega) (by omega) (hs_TE (P := fun T => hs_I3 T fW l' aK en' st') (fun y => ?_) I') (hs_fr_t f1 g1) (hs_fr_t f2 g2)))
        constructor
        · rintro (h | h)
          · exact ⟨by omega, h.2⟩
          · subst h; exact ⟨by omega, e, e2⟩
        · intro h
          by_cases w : y = i
          · exact Or.inr w
          · exact Or.inl ⟨by omega, h.2⟩
theorem hs_cl3a {post : SX → Prop} {but : Int32} (K : ∀ l en st, hs_I3 (fun y => y < 24 ∧ ¬ aT y = 0 ∧ ¬ aK y = but) fW l aK en st → hs_fr 96 aE en → hs_fr 96 aS st → post (fC, fW, fL, l, fB, fR, aT, aK, aV, aC, aD, en, st, aN, aH, aP, aQ, aO, aB, aG)) :
    ∀ n i st, i ≤ 32 → 32 - i < n → (∀ j, j < i → st (96 + j) = 0) → hs_fr 96 aS st → wX_cleanSteps_7 post but fC fW fL 0 fB fR n (nI i) aT aK aV aC aD aE st aN aH aP aQ aO aB aG := by
  intro n
  induction n with
  | zero => intro i st _ z; omega
  | succ n ih =>
    intro i st hi hn h0 f2
    have hc : 96 + i < 2 ^ 31 := by omega
    simp only [wX_cleanSteps_7, hs_p96, nI_clamp hc, hs_n0]
    refine pk_le 32 i (fun z => ⟨25, hs_cl3b K 25 0 0 aE st (by omega) (by omega) ?_ hs_fr_r f2⟩) (fun z => ⟨vp_in_nI (by omega) (by decide), nm_e (nm_r (nI_1 i) (ih (i + 1) _ (by omega) (by omega) (fun j hj => ?_) (hs_fr_u f2 z)))⟩)
    · have e : i = 32 := by omega
      subst e
      refine hs_TE (P := fun T => hs_I3 T fW 0 aK aE st) (T := fun _ => False) (fun y => ⟨fun h => h.elim, fun h => by omega⟩) ?_
      refine ⟨fun _ => 0, hs_PH_0 (fun j hj => by rw [h0 j hj]; decide), fun x hx => hx.elim, ?_⟩
      rw [hs_cn_no (fun j hj => by rw [h0 j hj]; decide)]
      exact nI_0.symm
    · by_cases w : j = i
      · rw [w, pk_us]
      · rw [pk_un (by omega)]; exact h0 j (by omega)
theorem hs_clean3 {post : SX → Prop} {but : Int32} (K : ∀ l en st, hs_I3 (fun y => y < 24 ∧ ¬ aT y = 0 ∧ ¬ aK y = but) fW l aK en st → hs_fr 96 aE en → hs_fr 96 aS st → post (fC, fW, fL, l, fB, fR, aT, aK, aV, aC, aD, en, st, aN, aH, aP, aQ, aO, aB, aG)) : wpX_cleanSteps post (fC, fW, fL, fM, fB, fR, aT, aK, aV, aC, aD, aE, aS, aN, aH, aP, aQ, aO, aB, aG) but := by
  unfold wpX_cleanSteps
  dsimp only
  exact ⟨33, hs_cl3a K 33 0 aS (by omega) (by omega) (fun j hj => absurd hj (by omega)) hs_fr_r⟩
theorem hs_rem3 {post : SX → Prop} {x : Nat} (hT : T x) (KI : ∀ x y, T x → T y → aK x = aK y → x = y) (hth : ∀ y, (y < 24 ∧ ¬ aT y = 0 ∧ ¬ aK y = aK x) ↔ (T y ∧ y ≠ x)) (I : hs_I3 T fW fM aK aE aS)
    (K : ∀ l en st, hs_I3 (fun y => T y ∧ y ≠ x) fW l aK en st → hs_fr 96 aE en → hs_fr 96 aS st → post (fC, fW, fL, l, fB, fR, aT, aK, aV, aC, aD, en, st, aN, aH, aP, aQ, aO, aB, aG)) : wpX_removeBySteps post (fC, fW, fL, fM, fB, fR, aT, aK, aV, aC, aD, aE, aS, aN, aH, aP, aQ, aO, aB, aG) (aK x) := by
  obtain ⟨pos, P, B, C⟩ := I
  unfold wpX_removeBySteps
  dsimp only
  refine hs_find3p P B (fun y hy ey => ?_) (fun z => absurd rfl (z x hT))
  have e := KI _ _ hy hT ey
  subst e
  obtain ⟨a1, a2, a3, a4, a5⟩ := P.1 y hy
  rw [hs_p96, nI_clamp (by omega), hs_n2]
  have fr : hs_fr 96 aS (upd aS (96 + pos y) 2) := hs_fr_u hs_fr_r a2
  refine ⟨vp_in_nI (by omega) (by decide), nm_e (nm_e (br_c (fun _ => K _ _ _ ⟨pos, hs_PH_fill (hs_PH_hole P hy) a2 (by decide), hs_PB_mark B (fun z hz => hz.1) (by decide), ?_⟩ hs_fr_r fr) (fun _ => hs_clean3 (fun l en st I2 f1 f2 => K l en st (hs_TE (P := fun T => hs_I3 T fW l aK en st) hth I2) f1 (hs_fr_t fr f2)))))⟩
  rw [C, hs_mk_on a2 (by rw [a4]; decide), nI_1]
end
end
section
/-! engine 4: who is farther from home goes first -/
def hs_D (pos hm : Nat → Nat) (y : Nat) : Nat := (pos y + 32 - hm y) % 32
def hs_RH (T : Nat → Prop) (pos hm : Nat → Nat) : Prop := ∀ y, T y → 0 < hs_D pos hm y → ∃ z, T z ∧ pos z = (pos y + 31) % 32 ∧ hs_D pos hm y ≤ hs_D pos hm z + 1
theorem hs_RH_path {T : Nat → Prop} {pos hm : Nat → Nat} (R : hs_RH T pos hm) {y : Nat} (hy : T y) (hp : pos y < 32) : ∀ k, k ≤ hs_D pos hm y → ∃ z, T z ∧ pos z = (pos y + 32 - k) % 32 ∧ hs_D pos hm y ≤ hs_D pos hm z + k
  | 0, _ => ⟨y, hy, by omega, by omega⟩
  | k + 1, hk => by
    obtain ⟨z, h1, h2, h3⟩ := hs_RH_path R hy hp k (by omega)
    obtain ⟨w, g1, g2, g3⟩ := R z h1 (by omega)
    have hd : hs_D pos hm y < 32 := Nat.mod_lt _ (by decide)
    exact ⟨w, g1, by omega, by omega⟩
theorem hs_RH_at {T : Nat → Prop} {pos hm : Nat → Nat} (R : hs_RH T pos hm) {y : Nat} (hy : T y) (hp : pos y < 32) (hh : hm y < 32) {j : Nat} (hj : j ≤ hs_D pos hm y) : ∃ z, T z ∧ pos z = (hm y + j) % 32 ∧ j ≤ hs_D pos hm z := by
  obtain ⟨z, h1, h2, h3⟩ := hs_RH_path R hy hp (hs_D pos hm y - j) (by omega)
  refine ⟨z, h1, ?_, by omega⟩
  have e : hs_D pos hm y = (pos y + 32 - hm y) % 32 := rfl
  omega
theorem hs_D_n {pos hm : Nat → Nat} {x i y : Nat} (h : y ≠ x) : hs_D (hs_ps pos x i) hm y = hs_D pos hm y := by
  unfold hs_D
  rw [hs_ps_n h]
theorem hs_D_s {pos hm : Nat → Nat} {x i : Nat} : hs_D (hs_ps pos x i) hm x = (i + 32 - hm x) % 32 := by
  unfold hs_D
  rw [hs_ps_s]
/-- someone stands before place i, and is far enough from home that who is far from it may follow -/
def hs_lnk (T : Nat → Prop) (pos hm : Nat → Nat) (i far : Nat) : Prop := ∃ z, T z ∧ pos z = (i + 31) % 32 ∧ far ≤ hs_D pos hm z + 1
theorem hs_RH_put {T : Nat → Prop} {pos hm : Nat → Nat} (R : hs_RH T pos hm) {x i : Nat} (hT : ¬ T x) (link : 0 < (i + 32 - hm x) % 32 → hs_lnk T pos hm i ((i + 32 - hm x) % 32)) : hs_RH (fun y => T y ∨ y = x) (hs_ps pos x i) hm := by
  intro y hy hD
  by_cases e : y = x
  · subst e
    rw [hs_D_s] at hD ⊢
    obtain ⟨z, h1, h2, h3⟩ := link hD
    have zx : z ≠ y := fun w => hT (w ▸ h1)
    exact ⟨z, Or.inl h1, by rw [hs_ps_n zx, hs_ps_s]; exact h2, by rw [hs_D_n zx]; exact h3⟩
  · rw [hs_D_n e] at hD ⊢
    obtain ⟨z, h1, h2, h3⟩ := R y (hy.elim id (fun w => absurd w e)) hD
    have zx : z ≠ x := fun w => hT (w ▸ h1)
    exact ⟨z, Or.inl h1, by rw [hs_ps_n zx, hs_ps_n e]; exact h2, by rw [hs_D_n zx]; exact h3⟩
theorem hs_RH_swap {T : Nat → Prop} {pos hm : Nat → Nat} (R : hs_RH T pos hm) {x o i : Nat} (hT : ¬ T x) (ho : T o) (po : pos o = i) (hi : i < 32) (lt : hs_D pos hm o < (i + 32 - hm x) % 32)
    (link : 0 < (i + 32 - hm x) % 32 → hs_lnk T pos hm i ((i + 32 - hm x) % 32)) : hs_RH (fun y => (T y ∧ y ≠ o) ∨ y = x) (hs_ps pos x i) hm := by
  intro y hy hD
  by_cases e : y = x
  · subst e
    rw [hs_D_s] at hD ⊢
    obtain ⟨z, h1, h2, h3⟩ := link hD
    have zx : z ≠ y := fun w => hT (w ▸ h1)
    have zo : z ≠ o := fun w => by rw [w, po] at h2; omega
    exact ⟨z, Or.inl ⟨h1, zo⟩, by rw [hs_ps_n zx, hs_ps_s]; exact h2, by rw [hs_D_n zx]; exact h3⟩
  · rw [hs_D_n e] at hD ⊢
    have hy2 := hy.elim id (fun w => absurd w e)
    obtain ⟨z, h1, h2, h3⟩ := R y hy2.1 hD
    have zx : z ≠ x := fun w => hT (w ▸ h1)
    by_cases zo : z = o
    · subst zo
      exact ⟨x, Or.inr rfl, by rw [hs_ps_s, hs_ps_n e, ← h2, po], by rw [hs_D_s]; omega⟩
    · exact ⟨z, Or.inl ⟨h1, zo⟩, by rw [hs_ps_n zx, hs_ps_n e]; exact h2, by rw [hs_D_n zx]; exact h3⟩
theorem hs_PH_swap {b : Nat} {st en : Nat → Int32} {T : Nat → Prop} {pos : Nat → Nat} (I : hs_PH b st en T pos 32) {x o i : Nat} (hx : x < 24) (hT : ¬ T x) (ho : T o) (po : pos o = i) : hs_PH b st (upd en (b + i) (nI x)) (fun y => (T y ∧ y ≠ o) ∨ y = x) (hs_ps pos x i) 32 := by
  obtain ⟨b1, b2, b3, b4, b5⟩ := I.1 o ho
  rw [po] at b2 b4
  refine ⟨fun z hz => ?_, fun j hj hj2 e => ?_⟩
  · by_cases e : z = x
    · subst e
      rw [hs_ps_s]
      exact ⟨hx, b2, by omega, b4, pk_us⟩
    · have hz2 := hz.elim id (fun w => absurd w e)
      obtain ⟨a1, a2, a3, a4, a5⟩ := I.1 z hz2.1
      rw [hs_ps_n e]
      have ne : pos z ≠ i := fun w => hz2.2 (hs_PH_u I hz2.1 ho (w.trans po.symm))
      exact ⟨a1, a2, a3, a4, by rw [pk_un (by omega)]; exact a5⟩
  · by_cases z : j = i
    · subst z
      exact ⟨x, Or.inr rfl, hs_ps_s⟩
    · obtain ⟨y, hy, w⟩ := I.2 j hj hj2 e
      have yo : y ≠ o := fun v => z (by rw [← w, v, po])
      have yx : y ≠ x := fun v => hT (v ▸ hy)
      exact ⟨y, Or.inl ⟨hy, yo⟩, by rw [hs_ps_n yx]; exact w⟩
def hs_I4 (T : Nat → Prop) (w : Int32) (k en st : Nat → Int32) : Prop :=
  ∃ pos, hs_PH 128 st en T pos 32 ∧ hs_RH T pos (fun x => hs_m w (k x) 5 % 32)
theorem hs_I4_cong {T : Nat → Prop} {w : Int32} {k en st k' en' st' : Nat → Int32} (I : hs_I4 T w k en st) (hk : ∀ x, T x → k' x = k x) (h1 : ∀ i, i < 32 → st' (128 + i) = st (128 + i)) (h2 : ∀ i, i < 32 → en' (128 + i) = en (128 + i)) : hs_I4 T w k' en' st' := by
  obtain ⟨pos, I1, I2⟩ := I
  refine ⟨pos, hs_PH_cong I1 h1 h2, fun y hy hD => ?_⟩
  have e : ∀ z, T z → hs_D pos (fun x => hs_m w (k' x) 5 % 32) z = hs_D pos (fun x => hs_m w (k x) 5 % 32) z := fun z hz => by
    unfold hs_D
    dsimp only
    rw [hk z hz]
  rw [e y hy] at hD ⊢
  obtain ⟨z, g1, g2, g3⟩ := I2 y hy hD
  exact ⟨z, g1, g2, by rw [e z g1]; exact g3⟩
section
variable {fC fW fL fM fB fR : Int32} {aT aK aV aC aD aE aS aN aH aP aQ aO aB aG : Nat → Int32} {T : Nat → Prop}
theorem hs_far {post : Int32 → Prop} {pos : Nat → Nat} {h y i : Nat} (I : hs_PH 128 aS aE T pos h) (hy : T y) (py : pos y = i) (K : post (nI (hs_D pos (fun x => hs_m fW (aK x) 5 % 32) y))) : wpX_farFromHome post (fC, fW, fL, fM, fB, fR, aT, aK, aV, aC, aD, aE, aS, aN, aH, aP, aQ, aO, aB, aG) (nI i) := by
  obtain ⟨a1, a2, a3, a4, a5⟩ := I.1 y hy
  rw [py] at a2 a5
  unfold wpX_farFromHome
  dsimp only
  rw [hs_p128, nI_clamp (by omega)]
  refine And.intro (vp_in_nI (by omega) (by decide)) (nm_r a5 (hs_home 5 a1 ?_))
  rw [hs_i3 _ a2 _ (Nat.mod_lt _ (by decide))]
  unfold hs_D at K
  rw [py] at K
  exact K
theorem hs_f4l {post : Int32 → Prop} {k : Int32} {pos : Nat → Nat} (I : hs_PH 128 aS aE T pos 32) (R : hs_RH T pos (fun x => hs_m fW (aK x) 5 % 32)) {h dF : Nat} (hh : h = hs_m fW k 5 % 32) (hF : dF < 32) (fF : ¬ aS (128 + (h + dF) % 32) = 1)
    (K1 : ∀ x, T x → aK x = k → post (nI (pos x))) (K2 : (∀ x, T x → ¬ aK x = k) → post (-1)) :
    ∀ n d i, i = (h + d) % 32 → d ≤ dF → dF - d < n → (∀ j, j < d → ∀ y, T y → pos y = (h + j) % 32 → ¬ aK y = k) → wX_findByFar_12 post k fC fW fL fM fB fR aT aK aV aC aD aE aS aN aH aP aQ aO aB aG n (nI i) (nI d) := by
  intro n
  induction n with
  | zero => intro d i _ _ z; omega
  | succ n ih =>
    rintro d _ rfl hd hn hj
    have hi : (h + d) % 32 < 32 := Nat.mod_lt _ (by decide)
    have hc : 128 + (h + d) % 32 < 2 ^ 31 := by omega
    have hv : vp_in (nI (128 + (h + d) % 32)) 160 := vp_in_nI (by omega) (by decide)
    have no : ∀ x, T x → aK x = k → ∃ z, T z ∧ pos z = (h + d) % 32 ∧ d ≤ hs_D pos (fun x => hs_m fW (aK x) 5 % 32) z := by
      intro x hx ek
      have h32 : hs_m fW (aK x) 5 % 32 < 32 := Nat.mod_lt _ (by decide)
      have hp := (I.1 x hx).2.1
      by_cases w : hs_D pos (fun x => hs_m fW (aK x) 5 % 32) x < d
      · refine absurd ek (hj _ w x hx ?_)
        unfold hs_D
        dsimp only
        rw [ek] at h32 ⊢
        rw [← hh] at h32 ⊢
        omega
      · obtain ⟨z, g1, g2, g3⟩ := hs_RH_at R hx hp h32 (j := d) (by omega)
        rw [ek, ← hh] at g2
        exact ⟨z, g1, g2, g3⟩
    simp only [wX_findByFar_12, hs_p128, nI_clamp hc]
    refine ⟨hv, br_c (fun e => ?_) (fun e => K2 (fun x hx ek => ?_))⟩
    · obtain ⟨y, hy, py⟩ := I.2 _ hi (by omega) e
      obtain ⟨a1, a2, a3, a4, a5⟩ := I.1 y hy
      rw [py] at a5
      refine hs_far I hy py ?_
      have dl : hs_D pos (fun x => hs_m fW (aK x) 5 % 32) y < 32 := Nat.mod_lt _ (by decide)
      rw [a5, nI_clamp (show y < 2 ^ 31 by omega)]
      refine pk_lt _ d (fun z => K2 (fun x hx ek => ?_)) (fun z => ⟨hv, vp_in_nI a1 (by decide), br_c (fun ek => ?_) (fun ek => nm_r (e' := nI ((h + (d + 1)) % 32)) ?_ (nm_r (nI_1 d) (ih (d + 1) _ rfl ?_ ?_ ?_)))⟩)
      · obtain ⟨w, g1, g2, g3⟩ := no x hx ek
        have ew := hs_PH_u I g1 hy (g2.trans py.symm)
        subst ew
        omega
      · rw [← py]; exact K1 y hy ek
      · rw [hs_i1 (by omega)]; exact congrArg nI (by omega)
      · have : d ≠ dF := fun z => fF (z ▸ e)
        omega
      · have : d ≠ dF := fun z => fF (z ▸ e)
        omega
      · intro j hj2 z hz pz
        by_cases w : j = d
        · subst w
          rw [hs_PH_u I hz hy (pz.trans py.symm)]
          exact ek
        · exact hj j (by omega) z hz pz
    · obtain ⟨w, g1, g2, g3⟩ := no x hx ek
      have q := (I.1 w g1).2.2.2.1
      rw [g2] at q
      exact e q
theorem hs_find4p {post : Int32 → Prop} {k : Int32} {pos : Nat → Nat} (I : hs_PH 128 aS aE T pos 32) (R : hs_RH T pos (fun x => hs_m fW (aK x) 5 % 32))
    (K1 : ∀ x, T x → aK x = k → post (nI (pos x))) (K2 : (∀ x, T x → ¬ aK x = k) → post (-1)) : wpX_findByFar post (fC, fW, fL, fM, fB, fR, aT, aK, aV, aC, aD, aE, aS, aN, aH, aP, aQ, aO, aB, aG) k := by
  unfold wpX_findByFar
  dsimp only
  refine hs_mixed 5 (nm_r (hs_a31 (hs_m_lt _ _ _)) ?_)
  obtain ⟨dF, hF, fF⟩ := hs_free1 I (hs_m fW k 5 % 32)
  exact ⟨dF + 1, hs_f4l I R rfl hF fF K1 K2 (dF + 1) 0 _ (by omega) (by omega) (by omega) (fun j hj => absurd hj (by omega))⟩
theorem hs_find4 {post : Int32 → Prop} {k : Int32} (I : hs_I4 T fW aK aE aS) (K : ∀ r, hs_Fd T aK k r → post r) : wpX_findInPlaces post (fC, fW, fL, fM, fB, fR, aT, aK, aV, aC, aD, aE, aS, aN, aH, aP, aQ, aO, aB, aG) 4 k := by
  obtain ⟨pos, P, L⟩ := I
  unfold wpX_findInPlaces
  dsimp only
  refine br_f (by decide) (br_f (by decide) (br_f (by decide) (hs_find4p P L (fun y hy ey => ?_) (fun z => ?_))))
  · obtain ⟨a1, a2, a3, a4, a5⟩ := P.1 y hy
    have e : (4 : Int32) * 32 + nI (pos y) = nI (128 + pos y) := hs_p128 _
    unfold wX_findInPlaces_50
    rw [e, nI_clamp (by omega), a5]
    exact br_t (nI_pos' (by omega)) ⟨vp_in_nI (by omega) (by decide), K _ (Or.inl ⟨y, hy, ey, rfl⟩)⟩
  · exact br_f hs_m1p (K _ (Or.inr ⟨z, rfl⟩))
theorem hs_a4l {Tf : Nat → Prop} {post : SX → Prop} {F : Nat} (hF : F < 32) (fF : ¬ aS (128 + F) = 1)
    (K : ∀ en st, hs_I4 Tf fW aK en st → hs_fr 128 aE en → hs_fr 128 aS st → post (fC, fW, fL, fM, fB, fR, aT, aK, aV, aC, aD, en, st, aN, aH, aP, aQ, aO, aB, aG)) :
    ∀ n x (T : Nat → Prop) en pos i far, (F + 32 - i) % 32 < n → x < 24 → ¬ T x → i < 32 → far = (i + 32 - hs_m fW (aK x) 5 % 32) % 32 → hs_PH 128 aS en T pos 32 → hs_RH T pos (fun x => hs_m fW (aK x) 5 % 32) →
      far ≤ (F + 32 - hs_m fW (aK x) 5 % 32) % 32 → (0 < far → hs_lnk T pos (fun x => hs_m fW (aK x) 5 % 32) i far) → (∀ y, (T y ∨ y = x) ↔ Tf y) → hs_fr 128 aE en → wX_addByFar_12 post fC fW fL fM fB fR n (nI x) (nI i) (nI far) aT aK aV aC aD en aS aN aH aP aQ aO aB aG := by
  intro n
  induction n with
  | zero => intro x T en pos i far z; omega
  | succ n ih =>
    rintro x T en pos i far hn hx hT hi ef P R hfF link hTf fr
    have hc : 128 + i < 2 ^ 31 := by omega
    have hv : vp_in (nI (128 + i)) 160 := vp_in_nI (by omega) (by decide)
    have hx32 : hs_m fW (aK x) 5 % 32 < 32 := Nat.mod_lt _ (by decide)
    simp only [wX_addByFar_12, wX_addByFar_71, hs_p128, nI_clamp hc, hs_n1, hs_ny hx]
    refine ⟨hv, br_c (fun e => ?_) (fun e => ⟨hv, nm_e ⟨hv, nm_e (K _ _ ?_ (hs_fr_u fr hi) (hs_fr_u hs_fr_r hi))⟩⟩)⟩
    · have iF : i ≠ F := fun z => fF (z ▸ e)
      obtain ⟨o, ho, po⟩ := P.2 _ hi (by omega) e
      obtain ⟨a1, a2, a3, a4, a5⟩ := P.1 o ho
      rw [po] at a5
      refine hs_far P ho po ?_
      have dl : hs_D pos (fun x => hs_m fW (aK x) 5 % 32) o < 32 := Nat.mod_lt _ (by decide)
      refine pk_le far _ (fun z => ?_) (fun z => ⟨hv, nm_r a5 ⟨hv, nm_e ?_⟩⟩)
      · refine nm_r (hs_i1 (by omega)) (nm_r (nI_1 far) (ih x T en pos _ (far + 1) (by omega) hx hT (Nat.mod_lt _ (by decide)) (by omega) P R (by omega) (fun _ => ⟨o, ho, by omega, by omega⟩) hTf fr))
      · have ho32 : hs_m fW (aK o) 5 % 32 < 32 := Nat.mod_lt _ (by decide)
        have eD : hs_D pos (fun x => hs_m fW (aK x) 5 % 32) o = (i + 32 - hs_m fW (aK o) 5 % 32) % 32 := by unfold hs_D; rw [po]
        have far2 : hs_D pos (fun x => hs_m fW (aK x) 5 % 32) o < (F + 32 - hs_m fW (aK o) 5 % 32) % 32 := by
          refine Classical.byContradiction fun w => ?_
          obtain ⟨z, g1, g2, g3⟩ := hs_RH_at R ho (by omega) ho32 (j := (F + 32 - hs_m fW (aK o) 5 % 32) % 32) (by omega)
          have q := (P.1 z g1).2.2.2.1
          have e2 : pos z = F := by omega
          rw [e2] at q
          exact fF q
        have xo : o ≠ x := fun w => hT (w ▸ ho)
        rw [ef] at z link
        refine nm_r (hs_i1 (by omega)) (nm_r (nI_1 _) (ih o (fun y => (T y ∧ y ≠ o) ∨ y = x) _ (hs_ps pos x i) _ _ (by omega) a1 ?_ (Nat.mod_lt _ (by decide)) ?_ (hs_PH_swap P hx hT ho po) (hs_RH_swap R hT ho po hi z link) (by omega) (fun _ => ⟨x, Or.inr rfl, ?_, ?_⟩) (fun y => ?_) (hs_fr_u fr hi)))
        · rintro (w | w)
          · exact w.2 rfl
          · exact xo w
        · omega
        · rw [hs_ps_s]; omega
        · rw [hs_D_s]; omega
        · rw [← hTf y]
          constructor
          · rintro ((w | w) | w)
            · exact Or.inl w.1
            · exact Or.inr w
            · subst w; exact Or.inl ho
          · rintro (w | w)
            · by_cases v : y = o
              · exact Or.inr v
              · exact Or.inl (Or.inl ⟨w, v⟩)
            · exact Or.inl (Or.inr w)
    · rw [ef] at link
      exact hs_TE (P := fun T => hs_I4 T fW aK (upd en (128 + i) (nI x)) (upd aS (128 + i) 1)) hTf ⟨_, hs_PH_put P hx hT hi e, hs_RH_put R hT link⟩
theorem hs_add4 {post : SX → Prop} {x : Nat} (hx : x < 24) (hT : ¬ T x) (I : hs_I4 T fW aK aE aS)
    (K : ∀ en st, hs_I4 (fun y => T y ∨ y = x) fW aK en st → hs_fr 128 aE en → hs_fr 128 aS st → post (fC, fW, fL, fM, fB, fR, aT, aK, aV, aC, aD, en, st, aN, aH, aP, aQ, aO, aB, aG)) : wpX_addByFar post (fC, fW, fL, fM, fB, fR, aT, aK, aV, aC, aD, aE, aS, aN, aH, aP, aQ, aO, aB, aG) (nI x) := by
  obtain ⟨pos, P, R⟩ := I
  unfold wpX_addByFar
  dsimp only
  refine hs_home 5 hx ?_
  have hh : hs_m fW (aK x) 5 % 32 < 32 := Nat.mod_lt _ (by decide)
  obtain ⟨dF, hF, fF⟩ := hs_free1 P 0
  exact ⟨33, hs_a4l (Nat.mod_lt _ (by decide)) fF K 33 x T aE pos _ 0 (by omega) hx hT hh (by omega) P R (by omega) (fun z => absurd z (by omega)) (fun y => Iff.rfl) hs_fr_r⟩
theorem hs_r4l {post : SX → Prop} {F : Nat} (hF : F < 32) (fF : ¬ aS (128 + F) = 1)
    (K : ∀ en st, hs_I4 T fW aK en st → hs_fr 128 aE en → hs_fr 128 aS st → post (fC, fW, fL, fM, fB, fR, aT, aK, aV, aC, aD, en, st, aN, aH, aP, aQ, aO, aB, aG)) :
    ∀ n en pos h i Dh, i = (h + 1) % 32 → (F + 32 - i) % 32 < n → h < 32 → aS (128 + h) = 1 → hs_PH 128 aS en T pos h →
      (∀ y, T y → 0 < hs_D pos (fun x => hs_m fW (aK x) 5 % 32) y → pos y ≠ (h + 1) % 32 → ∃ z, T z ∧ pos z = (pos y + 31) % 32 ∧ hs_D pos (fun x => hs_m fW (aK x) 5 % 32) y ≤ hs_D pos (fun x => hs_m fW (aK x) 5 % 32) z + 1) →
      (∀ y, T y → pos y = (h + 1) % 32 → hs_D pos (fun x => hs_m fW (aK x) 5 % 32) y ≤ Dh + 1) →
      (0 < Dh → hs_lnk T pos (fun x => hs_m fW (aK x) 5 % 32) h Dh) → hs_fr 128 aE en → wX_removeByFar_13 post fC fW fL fM fB fR n (nI h) (nI i) aT aK aV aC aD en aS aN aH aP aQ aO aB aG := by
  intro n
  induction n with
  | zero => intro en pos h i Dh _ z; omega
  | succ n ih =>
    rintro en pos h _ Dh rfl hn hh sh P A B C fr
    have hi : (h + 1) % 32 < 32 := Nat.mod_lt _ (by decide)
    have hc : 128 + (h + 1) % 32 < 2 ^ 31 := by omega
    have hch : 128 + h < 2 ^ 31 := by omega
    have hv : vp_in (nI (128 + (h + 1) % 32)) 160 := vp_in_nI (by omega) (by decide)
    have hvh : vp_in (nI (128 + h)) 160 := vp_in_nI (by omega) (by decide)
    simp only [wX_removeByFar_13, wX_removeByFar_67, hs_p128, nI_clamp hc, nI_clamp hch, hs_n0]
    have fin : (∀ y, T y → pos y = (h + 1) % 32 → hs_D pos (fun x => hs_m fW (aK x) 5 % 32) y = 0) → (vp_in (nI (128 + h)) 160 ∧ ∀ s : Nat → Int32, s = upd aS (128 + h) 0 → post (fC, fW, fL, fM, fB, fR, aT, aK, aV, aC, aD, en, s, aN, aH, aP, aQ, aO, aB, aG)) := fun hz =>
      ⟨hvh, nm_e (K _ _ ⟨pos, hs_PH_fill P hh (by decide), fun y hy hD => A y hy hD (fun w => by rw [hz y hy w] at hD; omega)⟩ fr (hs_fr_u hs_fr_r hh))⟩
    refine ⟨hv, br_c (fun e => ?_) (fun e => fin (fun y hy py => ?_))⟩
    · obtain ⟨y, hy, py⟩ := P.2 _ hi (by omega) e
      obtain ⟨a1, a2, a3, a4, a5⟩ := P.1 y hy
      rw [py] at a5
      refine hs_far P hy py ?_
      have dl : hs_D pos (fun x => hs_m fW (aK x) 5 % 32) y < 32 := Nat.mod_lt _ (by decide)
      refine pk_le _ 0 (fun z => fin (fun w hw pw => ?_)) (fun z => ⟨hv, hvh, nm_r (e' := upd en (128 + h) (nI y)) ?_ (nm_r (hs_i1 (by omega)) ?_)⟩)
      · rw [hs_PH_u P hw hy (pw.trans py.symm)]; omega
      · rw [a5, hs_nx a1]
      · have iF : (h + 1) % 32 ≠ F := fun z => fF (z ▸ e)
        have P2 := hs_PH_move P hh sh hy
        rw [py] at P2
        have hy32 : hs_m fW (aK y) 5 % 32 < 32 := Nat.mod_lt _ (by decide)
        have eD : hs_D pos (fun x => hs_m fW (aK x) 5 % 32) y = ((h + 1) % 32 + 32 - hs_m fW (aK y) 5 % 32) % 32 := by unfold hs_D; rw [py]
        have eD2 : hs_D (hs_ps pos y h) (fun x => hs_m fW (aK x) 5 % 32) y + 1 = hs_D pos (fun x => hs_m fW (aK x) 5 % 32) y := by
          rw [eD, hs_D_s]
          omega
        refine ih _ (hs_ps pos y h) ((h + 1) % 32) _ (hs_D pos (fun x => hs_m fW (aK x) 5 % 32) y) rfl (by omega) hi e P2 (fun w hw hD pw => ?_) (fun w hw pw => ?_) (fun _ => ⟨y, hy, ?_, by omega⟩) (hs_fr_u fr hh)
        · by_cases ew : w = y
          · subst ew
            have b := B w hw py
            obtain ⟨z2, g1, g2, g3⟩ := C (by omega)
            have zy : z2 ≠ w := fun v => by rw [v, py] at g2; omega
            exact ⟨z2, g1, by rw [hs_ps_n zy, hs_ps_s]; exact g2, by rw [hs_D_n zy]; omega⟩
          · rw [hs_D_n ew] at hD ⊢
            rw [hs_ps_n ew] at pw ⊢
            obtain ⟨z2, g1, g2, g3⟩ := A w hw hD (fun v => ew (hs_PH_u P hw hy (v.trans py.symm)))
            have zy : z2 ≠ y := fun v => by
              rw [v, py] at g2
              have := (P.1 w hw).2.1
              omega
            exact ⟨z2, g1, by rw [hs_ps_n zy]; exact g2, by rw [hs_D_n zy]; exact g3⟩
        · by_cases ew : w = y
          · subst ew
            rw [hs_ps_s] at pw
            omega
          · rw [hs_ps_n ew] at pw
            rw [hs_D_n ew]
            by_cases hD : 0 < hs_D pos (fun x => hs_m fW (aK x) 5 % 32) w
            · obtain ⟨z2, g1, g2, g3⟩ := A w hw hD (by omega)
              have zy : z2 = y := hs_PH_u P g1 hy (by rw [py]; omega)
              subst zy
              exact g3
            · omega
        · rw [hs_ps_s]; omega
    · have q := (P.1 y hy).2.2.2.1
      rw [py] at q
      exact absurd q e
theorem hs_rem4 {post : SX → Prop} {x : Nat} (hT : T x) (KI : ∀ x y, T x → T y → aK x = aK y → x = y) (I : hs_I4 T fW aK aE aS)
    (K : ∀ en st, hs_I4 (fun y => T y ∧ y ≠ x) fW aK en st → hs_fr 128 aE en → hs_fr 128 aS st → post (fC, fW, fL, fM, fB, fR, aT, aK, aV, aC, aD, en, st, aN, aH, aP, aQ, aO, aB, aG)) : wpX_removeByFar post (fC, fW, fL, fM, fB, fR, aT, aK, aV, aC, aD, aE, aS, aN, aH, aP, aQ, aO, aB, aG) (aK x) := by
  obtain ⟨pos, P, R⟩ := I
  unfold wpX_removeByFar
  dsimp only
  refine hs_find4p P R (fun y hy ey => ?_) (fun z => absurd rfl (z x hT))
  have e := KI _ _ hy hT ey
  subst e
  obtain ⟨a1, a2, a3, a4, a5⟩ := P.1 y hy
  obtain ⟨dF, hF, fF⟩ := hs_free1 P 0
  have P2 := hs_PH_hole P hy
  refine nm_r (hs_i1 (by omega)) ⟨33, hs_r4l (Nat.mod_lt _ (by decide)) fF K 33 aE pos (pos y) _ (hs_D pos (fun x => hs_m fW (aK x) 5 % 32) y) rfl (by omega) a2 a4 P2 (fun w hw hD pw => ?_) (fun w hw pw => ?_) (fun hD => ?_) hs_fr_r⟩
  · obtain ⟨z, g1, g2, g3⟩ := R w hw.1 hD
    refine ⟨z, ⟨g1, fun v => ?_⟩, g2, g3⟩
    rw [v] at g2
    have := (P.1 w hw.1).2.1
    omega
  · by_cases hD : 0 < hs_D pos (fun x => hs_m fW (aK x) 5 % 32) w
    · obtain ⟨z, g1, g2, g3⟩ := R w hw.1 hD
      have zy : z = y := hs_PH_u P g1 hy (by omega)
      subst zy
      exact g3
    · omega
  · obtain ⟨z, g1, g2, g3⟩ := R y hy hD
    exact ⟨z, ⟨g1, fun v => by rw [v] at g2; omega⟩, g2, g3⟩
end
end
section
/-! engine 5: two nests; pos x is the nest of x, or 64 + x if it is stashed -/
def hs_ns (w : Int32) (k : Int32) (e : Nat) : Nat := e * 32 + hs_m w k (6 + e) % 32
theorem hs_ns_lt (w k : Int32) {e : Nat} (he : e < 2) : hs_ns w k e < 64 := by
  unfold hs_ns
  have := Nat.mod_lt (hs_m w k (6 + e)) (show 0 < 32 by decide)
  omega
def hs_N5 (T : Nat → Prop) (w : Int32) (k ne st : Nat → Int32) (pos : Nat → Nat) : Prop :=
  (∀ x, T x → x < 24 ∧ ((∃ e, e < 2 ∧ pos x = hs_ns w (k x) e ∧ ne (pos x) = nI x) ∨ (pos x = 64 + x ∧ st x = 1))) ∧
  (∀ i, i < 64 → ne i = -1 ∨ ∃ x, T x ∧ pos x = i ∧ ne i = nI x) ∧
  (∀ x, x < 24 → st x = 0 ∨ (st x = 1 ∧ T x ∧ pos x = 64 + x))
def hs_I5 (T : Nat → Prop) (w : Int32) (k ne st : Nat → Int32) : Prop := ∃ pos, hs_N5 T w k ne st pos
section
variable {T : Nat → Prop} {w : Int32} {k ne st : Nat → Int32} {pos : Nat → Nat}
theorem hs_I5_cong {k' : Nat → Int32} (I : hs_I5 T w k ne st) (hk : ∀ x, T x → k' x = k x) : hs_I5 T w k' ne st := by
  obtain ⟨pos, A, B, C⟩ := I
  refine ⟨pos, fun x hx => ?_, B, C⟩
  rw [hk x hx]
  exact A x hx
theorem hs_N5_24 (I : hs_N5 T w k ne st pos) {x : Nat} (hx : T x) : x < 24 := (I.1 x hx).1
theorem hs_N5_at (I : hs_N5 T w k ne st pos) {x i : Nat} (hx : T x) (e : pos x = i) (hi : i < 64) : ne i = nI x := by
  rcases (I.1 x hx).2 with ⟨e', _, _, h⟩ | ⟨h, _⟩
  · rw [← e]; exact h
  · omega
theorem hs_N5_st (I : hs_N5 T w k ne st pos) {x : Nat} (hx : x < 24) (hT : ¬ T x) : st x = 0 := (I.2.2 x hx).elim id (fun h => absurd h.2.1 hT)
/-- a nest taken: who was there (T o, or nobody) is out -/
theorem hs_N5_put (I : hs_N5 T w k ne st pos) {x e : Nat} (hx : x < 24) (hT : ¬ T x) (he : e < 2) (T' : Nat → Prop) (hT' : ∀ y, T' y ↔ (T y ∧ pos y ≠ hs_ns w (k x) e) ∨ y = x) :
    hs_N5 T' w k (upd ne (hs_ns w (k x) e) (nI x)) st (hs_ps pos x (hs_ns w (k x) e)) := by
  have hn := hs_ns_lt w (k x) he
  refine ⟨fun y hy => ?_, fun i hi => ?_, fun y hy => ?_⟩
  · by_cases ey : y = x
    · subst ey
      rw [hs_ps_s]
      exact ⟨hx, Or.inl ⟨e, he, rfl, pk_us⟩⟩
    · have hy2 := ((hT' y).mp hy).elim id (fun z => absurd z ey)
      obtain ⟨a1, a2⟩ := I.1 y hy2.1
      rw [hs_ps_n ey]
      refine ⟨a1, a2.elim (fun ⟨e', h1, h2, h3⟩ => Or.inl ⟨e', h1, h2, ?_⟩) Or.inr⟩
      rw [pk_un hy2.2]
      exact h3
  · by_cases ei : i = hs_ns w (k x) e
    · subst ei
      exact Or.inr ⟨x, (hT' x).mpr (Or.inr rfl), hs_ps_s, pk_us⟩
    · rw [pk_un ei]
      refine (I.2.1 i hi).elim Or.inl (fun ⟨z, h1, h2, h3⟩ => Or.inr ⟨z, (hT' z).mpr (Or.inl ⟨h1, by rw [h2]; exact ei⟩), ?_, h3⟩)
      have zx : z ≠ x := fun v => hT (v ▸ h1)
      rw [hs_ps_n zx]
      exact h2
  · refine (I.2.2 y hy).elim Or.inl (fun h => Or.inr ⟨h.1, (hT' y).mpr (Or.inl ⟨h.2.1, by rw [h.2.2]; omega⟩), ?_⟩)
    have yx : y ≠ x := fun v => hT (v ▸ h.2.1)
    rw [hs_ps_n yx]
    exact h.2.2
theorem hs_N5_stash (I : hs_N5 T w k ne st pos) {x : Nat} (hx : x < 24) (hT : ¬ T x) : hs_N5 (fun y => T y ∨ y = x) w k ne (upd st x 1) (hs_ps pos x (64 + x)) := by
  refine ⟨fun y hy => ?_, fun i hi => ?_, fun y hy => ?_⟩
  · by_cases ey : y = x
    · subst ey
      rw [hs_ps_s]
      exact ⟨hx, Or.inr ⟨rfl, pk_us⟩⟩
    · obtain ⟨a1, a2⟩ := I.1 y (hy.elim id (fun z => absurd z ey))
      rw [hs_ps_n ey, pk_un ey]
      exact ⟨a1, a2⟩
  · refine (I.2.1 i hi).elim Or.inl (fun ⟨z, h1, h2, h3⟩ => Or.inr ⟨z, Or.inl h1, ?_, h3⟩)
    have zx : z ≠ x := fun v => hT (v ▸ h1)
    rw [hs_ps_n zx]
    exact h2
  · by_cases ey : y = x
    · subst ey
      exact Or.inr ⟨pk_us, Or.inr rfl, hs_ps_s⟩
    · rw [pk_un ey, hs_ps_n ey]
      exact (I.2.2 y hy).elim Or.inl (fun h => Or.inr ⟨h.1, Or.inl h.2.1, h.2.2⟩)
theorem hs_N5_unst (I : hs_N5 T w k ne st pos) {x : Nat} (hx : x < 24) (hs : ¬ st x = 0) : T x ∧ hs_N5 (fun y => T y ∧ y ≠ x) w k ne (upd st x 0) pos := by
  obtain ⟨s1, s2, s3⟩ := (I.2.2 x hx).elim (fun z => absurd z hs) id
  refine ⟨s2, fun y hy => ?_, fun i hi => ?_, fun y hy => ?_⟩
  · rw [pk_un hy.2]
    exact I.1 y hy.1
  · exact (I.2.1 i hi).elim Or.inl (fun ⟨z, h1, h2, h3⟩ => Or.inr ⟨z, ⟨h1, fun v => by rw [v, s3] at h2; omega⟩, h2, h3⟩)
  · by_cases ey : y = x
    · subst ey
      exact Or.inl pk_us
    · rw [pk_un ey]
      exact (I.2.2 y hy).elim Or.inl (fun h => Or.inr ⟨h.1, ⟨h.2.1, ey⟩, h.2.2⟩)
theorem hs_N5_rem (I : hs_N5 T w k ne st pos) {x i : Nat} (hx : x < 24) (hi : i < 64) (h : ne i = nI x) : T x ∧ hs_N5 (fun y => T y ∧ y ≠ x) w k (upd ne i (-1)) st pos := by
  have hp : T x ∧ pos x = i := by
    rcases I.2.1 i hi with z | ⟨y, h1, h2, h3⟩
    · exact absurd (h.symm.trans z) (hs_ne (by omega))
    · have e : y = x := hs_ij (h3.symm.trans h) (by have := hs_N5_24 I h1; omega) (by omega)
      subst e
      exact ⟨h1, h2⟩
  refine ⟨hp.1, fun y hy => ?_, fun j hj => ?_, fun y hy => ?_⟩
  · obtain ⟨a1, a2⟩ := I.1 y hy.1
    refine ⟨a1, a2.elim (fun ⟨e', h1, h2, h3⟩ => Or.inl ⟨e', h1, h2, ?_⟩) Or.inr⟩
    rw [pk_un (fun v => hy.2 ?_)]
    · exact h3
    · rw [v] at h3
      exact hs_ij (h3.symm.trans h) (by omega) (by omega)
  · by_cases ei : j = i
    · subst ei
      exact Or.inl pk_us
    · rw [pk_un ei]
      exact (I.2.1 j hj).elim Or.inl (fun ⟨z, h1, h2, h3⟩ => Or.inr ⟨z, ⟨h1, fun v => by rw [v, hp.2] at h2; exact ei h2.symm⟩, h2, h3⟩)
  · exact (I.2.2 y hy).elim Or.inl (fun h => Or.inr ⟨h.1, ⟨h.2.1, fun v => by rw [v, hp.2] at h; omega⟩, h.2.2⟩)
theorem hs_upd_id (f : Nat → Int32) (i : Nat) : upd f i (f i) = f := funext fun j => by
  by_cases e : j = i
  · rw [e, pk_us]
  · rw [pk_un e]
theorem hs_N5_nar (I : hs_N5 T w k ne st pos) {i : Nat} (hi : i < 64) : vp_nar .byte (ne i) = ne i := by
  rcases I.2.1 i hi with h | ⟨x, h1, h2, h3⟩
  · rw [h, hs_nm1]
  · rw [h3, hs_nx (hs_N5_24 I h1)]
end
section
variable {fC fW fL fM fB fR : Int32} {aT aK aV aC aD aE aS aN aH aP aQ aO aB aG : Nat → Int32} {T : Nat → Prop}
theorem hs_nestOf2 {post : Int32 → Prop} {k : Int32} (e : Nat) (h : post (nI (hs_ns fW k e))) : wpX_nestOf post (fC, fW, fL, fM, fB, fR, aT, aK, aV, aC, aD, aE, aS, aN, aH, aP, aQ, aO, aB, aG) k (nI e) := hs_nestOf e h
theorem hs_a5e {Tf : Nat → Prop} {post : SX → Prop} (K : ∀ ne st, hs_I5 Tf fW aK ne st → post (fC, fW, fL, fM, fB, fR, aT, aK, aV, aC, aD, aE, aS, ne, st, aP, aQ, aO, aB, aG)) (n : Nat) (x3 x4 : Int32) (I : hs_I5 Tf fW aK aN aH) : wX_addToNests_7 post fC fW fL fM fB fR (n + 1) (-1) x3 x4 aT aK aV aC aD aE aS aN aH aP aQ aO aB aG := by
  simp only [wX_addToNests_7, wX_addToNests_62]
  exact br_c (fun _ => br_t hs_m1n (K _ _ I)) (fun _ => br_t hs_m1n (br_t hs_m1n (K _ _ I)))
theorem hs_a5l {Tf : Nat → Prop} {post : SX → Prop} (K : ∀ ne st, hs_I5 Tf fW aK ne st → post (fC, fW, fL, fM, fB, fR, aT, aK, aV, aC, aD, aE, aS, ne, st, aP, aQ, aO, aB, aG)) :
    ∀ n x (T : Nat → Prop) ne e c, 13 - c ≤ n → c ≤ 12 → e < 2 → x < 24 → ¬ T x → (∀ y, (T y ∨ y = x) ↔ Tf y) → hs_I5 T fW aK ne aH → wX_addToNests_7 post fC fW fL fM fB fR n (nI x) (nI e) (nI c) aT aK aV aC aD aE aS ne aH aP aQ aO aB aG := by
  intro n
  induction n with
  | zero => intro x T ne e c z; omega
  | succ n ih =>
    rintro x T ne e c hn hc he hx hT hTf ⟨pos, I⟩
    have hx2 : x < 2 ^ 31 := by omega
    have hv : vp_in (nI x) 24 := vp_in_nI hx (by decide)
    have hs := hs_ns_lt fW (aK x) he
    have hs2 : hs_ns fW (aK x) e < 2 ^ 31 := by omega
    have hvs : vp_in (nI (hs_ns fW (aK x) e)) 64 := vp_in_nI hs (by decide)
    simp only [wX_addToNests_7, wX_addToNests_62, nI_clamp hx2, hs_o1, hs_ny hx]
    refine pk_le 12 c (fun z => br_f (nI_pos hx2) ⟨hv, nm_e (K _ _ ?_)⟩) (fun z => br_f (nI_pos hx2) ⟨hv, hs_nestOf2 e ?_⟩)
    · exact hs_TE (P := fun T => hs_I5 T fW aK ne (upd aH x 1)) hTf ⟨_, hs_N5_stash I hx hT⟩
    · rw [nI_clamp hs2]
      have e1 : (1 : Int32) - nI e = nI (1 - e) := pk_sub (a := 1) (by omega)
      refine ⟨hvs, ?_⟩
      rcases I.2.1 _ hs with h | ⟨o, h1, h2, h3⟩
      · refine nm_r h ⟨hvs, nm_e (nm_r e1 (nm_r (nI_1 c) ?_))⟩
        obtain ⟨m, rfl⟩ : ∃ m, n = m + 1 := ⟨n - 1, by omega⟩
        refine hs_a5e K m _ _ ⟨_, hs_N5_put I hx hT he Tf (fun y => ?_)⟩
        rw [← hTf y]
        constructor
        · rintro (q | q)
          · exact Or.inl ⟨q, fun v => hs_ne (show y < 2 ^ 31 by have := hs_N5_24 I q; omega) ((hs_N5_at I q v hs).symm.trans h)⟩
          · exact Or.inr q
        · rintro (q | q)
          · exact Or.inl q.1
          · exact Or.inr q
      · have ox : o ≠ x := fun v => hT (v ▸ h1)
        refine nm_r h3 ⟨hvs, nm_e (nm_r e1 (nm_r (nI_1 c) (ih o (fun y => (T y ∧ pos y ≠ hs_ns fW (aK x) e) ∨ y = x) _ (1 - e) (c + 1) (by omega) (by omega) (by omega) (hs_N5_24 I h1) ?_ (fun y => ?_) ⟨_, hs_N5_put I hx hT he _ (fun y => Iff.rfl)⟩)))⟩
        · rintro (q | q)
          · exact q.2 h2
          · exact ox q
        · rw [← hTf y]
          constructor
          · rintro ((q | q) | q)
            · exact Or.inl q.1
            · exact Or.inr q
            · subst q; exact Or.inl h1
          · rintro (q | q)
            · by_cases v : pos y = hs_ns fW (aK x) e
              · refine Or.inr ?_
                exact hs_ij ((hs_N5_at I q v hs).symm.trans h3) (by have := hs_N5_24 I q; omega) (by have := hs_N5_24 I h1; omega)
              · exact Or.inl (Or.inl ⟨q, v⟩)
            · exact Or.inl (Or.inr q)
theorem hs_add5 {post : SX → Prop} {x : Nat} (hx : x < 24) (hT : ¬ T x) (I : hs_I5 T fW aK aN aH)
    (K : ∀ ne st, hs_I5 (fun y => T y ∨ y = x) fW aK ne st → post (fC, fW, fL, fM, fB, fR, aT, aK, aV, aC, aD, aE, aS, ne, st, aP, aQ, aO, aB, aG)) : wpX_addToNests post (fC, fW, fL, fM, fB, fR, aT, aK, aV, aC, aD, aE, aS, aN, aH, aP, aQ, aO, aB, aG) (nI x) := by
  unfold wpX_addToNests
  dsimp only
  exact ⟨13, hs_a5l K 13 x T aN 0 0 (by omega) (by omega) (by omega) hx hT (fun y => Iff.rfl) I⟩
theorem hs_r5b {post : SX → Prop} (K : ∀ ne st, hs_I5 T fW aK ne st → post (fC, fW, fL, fM, fB, fR, aT, aK, aV, aC, aD, aE, aS, ne, st, aP, aQ, aO, aB, aG)) :
    ∀ n i ne st, i ≤ 24 → 24 - i < n → hs_I5 T fW aK ne st → wX_removeFromNests_70 post n (nI i) fC fW fL fM fB fR aT aK aV aC aD aE aS ne st aP aQ aO aB aG := by
  intro n
  induction n with
  | zero => intro i ne st _ z; omega
  | succ n ih =>
    intro i ne st hi hn I
    have hi2 : i < 2 ^ 31 := by omega
    simp only [wX_removeFromNests_70, nI_clamp hi2, hs_o0]
    refine pk_le 24 i (fun z => K _ _ I) (fun z => ?_)
    have hv : vp_in (nI i) 24 := vp_in_nI z (by decide)
    refine ⟨hv, br_c (fun e => nm_r (nI_1 i) (ih (i + 1) ne st (by omega) (by omega) I)) (fun e => ⟨hv, nm_e ?_⟩)⟩
    obtain ⟨pos, I⟩ := I
    obtain ⟨t, I2⟩ := hs_N5_unst I z e
    refine hs_add5 (T := fun y => T y ∧ y ≠ i) z (fun q => q.2 rfl) ⟨pos, I2⟩ (fun ne' st' I' => nm_r (nI_1 i) (ih (i + 1) ne' st' (by omega) (by omega) (hs_TE (P := fun T => hs_I5 T fW aK ne' st') (fun y => ?_) I')))
    constructor
    · rintro (q | q)
      · exact q.1
      · subst q; exact t
    · intro q
      by_cases v : y = i
      · exact Or.inr v
      · exact Or.inl ⟨q, v⟩
theorem hs_r5a {post : SX → Prop} {x : Nat} (hx : x < 24) (K : ∀ ne st, hs_I5 (fun y => T y ∧ y ≠ x) fW aK ne st → post (fC, fW, fL, fM, fB, fR, aT, aK, aV, aC, aD, aE, aS, ne, st, aP, aQ, aO, aB, aG)) :
    ∀ n e ne, e ≤ 2 → 2 - e < n → ((∃ e', e ≤ e' ∧ e' < 2 ∧ ne (hs_ns fW (aK x) e') = nI x ∧ hs_I5 T fW aK ne aH) ∨ hs_I5 (fun y => T y ∧ y ≠ x) fW aK ne aH) → wX_removeFromNests_19 post (nI x) fC fW fL fM fB fR n (nI e) aT aK aV aC aD aE aS ne aH aP aQ aO aB aG := by
  intro n
  induction n with
  | zero => intro e ne _ z; omega
  | succ n ih =>
    intro e ne he hn I
    have hx2 : x < 2 ^ 31 := by omega
    have hv : vp_in (nI x) 24 := vp_in_nI hx (by decide)
    simp only [wX_removeFromNests_19, nI_clamp hx2, hs_nm1]
    refine pk_le 2 e (fun z => ⟨25, hs_r5b K 25 0 ne aH (by omega) (by omega) (I.elim (fun ⟨e', h1, h2, _⟩ => absurd h2 (by omega)) id)⟩) (fun z => ⟨hv, hs_nestOf2 e ?_⟩)
    have hs := hs_ns_lt fW (aK x) z
    have hvs : vp_in (nI (hs_ns fW (aK x) e)) 64 := vp_in_nI hs (by decide)
    rw [nI_clamp (show hs_ns fW (aK x) e < 2 ^ 31 by omega)]
    refine ⟨hvs, br_c (fun q => ⟨hvs, nm_e (nm_r (nI_1 e) (ih (e + 1) _ (by omega) (by omega) (Or.inr ?_)))⟩) (fun q => ⟨hvs, hvs, ?_⟩)⟩
    · rcases I with ⟨e', h1, h2, h3, pos, I⟩ | ⟨pos, I⟩
      · exact ⟨pos, (hs_N5_rem I hx hs q).2⟩
      · exact absurd rfl (hs_N5_rem I hx hs q).1.2
    · have er : upd ne (hs_ns fW (aK x) e) (vp_nar .byte (ne (hs_ns fW (aK x) e))) = ne := by
        rcases I with ⟨e', h1, h2, h3, pos, I⟩ | ⟨pos, I⟩
        · rw [hs_N5_nar I hs, hs_upd_id]
        · rw [hs_N5_nar I hs, hs_upd_id]
      refine nm_r er (nm_r (nI_1 e) (ih (e + 1) _ (by omega) (by omega) (I.elim (fun ⟨e', h1, h2, h3, I⟩ => Or.inl ⟨e', ?_, h2, h3, I⟩) Or.inr)))
      have : e ≠ e' := fun v => by subst v; exact q h3
      omega
theorem hs_rem5 {post : SX → Prop} {x : Nat} (hx : x < 24) (hT : T x) (I : hs_I5 T fW aK aN aH)
    (K : ∀ ne st, hs_I5 (fun y => T y ∧ y ≠ x) fW aK ne st → post (fC, fW, fL, fM, fB, fR, aT, aK, aV, aC, aD, aE, aS, ne, st, aP, aQ, aO, aB, aG)) : wpX_removeFromNests post (fC, fW, fL, fM, fB, fR, aT, aK, aV, aC, aD, aE, aS, aN, aH, aP, aQ, aO, aB, aG) (nI x) := by
  unfold wpX_removeFromNests
  dsimp only
  have hv : vp_in (nI x) 24 := vp_in_nI hx (by decide)
  rw [nI_clamp (show x < 2 ^ 31 by omega), hs_o0]
  obtain ⟨pos, I⟩ := I
  refine And.intro hv (br_c (fun e => ⟨3, hs_r5a hx K 3 0 aN (by omega) (by omega) ?_⟩) (fun e => ⟨hv, nm_e (K _ _ ⟨pos, (hs_N5_unst I hx e).2⟩)⟩))
  rcases (I.1 x hT).2 with ⟨e', h1, h2, h3⟩ | ⟨h, h4⟩
  · exact Or.inl ⟨e', by omega, h1, by rw [← h2]; exact h3, pos, I⟩
  · rw [h4] at e
    exact absurd e (by decide)
theorem hs_f5b {post : Int32 → Prop} {k : Int32} {pos : Nat → Nat} (I : hs_N5 T fW aK aN aH pos) (K : ∀ r, hs_Fd T aK k r → post r) (h2 : ∀ e, e < 2 → ∀ x, T x → aK x = k → pos x ≠ hs_ns fW k e) :
    ∀ n i, i ≤ 24 → 24 - i < n → (∀ x, x < i → aH x = 0 ∨ ¬ aK x = k) → wX_findInNests_53 post k fC fW fL fM fB fR aT aK aV aC aD aE aS aN aH aP aQ aO aB aG n (nI i) := by
  intro n
  induction n with
  | zero => intro i _ z; omega
  | succ n ih =>
    intro i hi hn h
    have hi2 : i < 2 ^ 31 := by omega
    simp only [wX_findInNests_53, nI_clamp hi2]
    refine pk_le 24 i (fun z => K _ (Or.inr ⟨fun x hx ek => ?_, rfl⟩)) (fun z => ?_)
    · obtain ⟨a1, a2⟩ := I.1 x hx
      rcases a2 with ⟨e, g1, g2, g3⟩ | ⟨g1, g2⟩
      · rw [ek] at g2
        exact h2 e g1 x hx ek g2
      · refine (h x (by omega)).elim (fun q => ?_) (fun q => q ek)
        rw [g2] at q
        exact absurd q (by decide)
    · have hv : vp_in (nI i) 24 := vp_in_nI z (by decide)
      refine ⟨hv, br_c (fun e => nm_r (nI_1 i) (ih (i + 1) (by omega) (by omega) (fun x hx => ?_))) (fun e => ⟨hv, br_c (fun e2 => K _ (Or.inl ⟨i, ?_, e2, rfl⟩)) (fun e2 => nm_r (nI_1 i) (ih (i + 1) (by omega) (by omega) (fun x hx => ?_)))⟩)⟩
      · by_cases v : x = i
        · subst v; exact Or.inl e
        · exact h x (by omega)
      · exact ((I.2.2 i z).elim (fun q => absurd q e) id).2.1
      · by_cases v : x = i
        · subst v; exact Or.inr e2
        · exact h x (by omega)
theorem hs_f5a {post : Int32 → Prop} {k : Int32} {pos : Nat → Nat} (I : hs_N5 T fW aK aN aH pos) (K : ∀ r, hs_Fd T aK k r → post r) :
    ∀ n e, e ≤ 2 → 2 - e < n → (∀ e', e' < e → ∀ x, T x → aK x = k → pos x ≠ hs_ns fW k e') → wX_findInNests_2 post k fC fW fL fM fB fR aT aK aV aC aD aE aS aN aH aP aQ aO aB aG n (nI e) := by
  intro n
  induction n with
  | zero => intro e _ z; omega
  | succ n ih =>
    intro e he hn h
    simp only [wX_findInNests_2]
    refine pk_le 2 e (fun z => ?_) (fun z => hs_nestOf2 e ?_)
    · have : e = 2 := by omega
      subst this
      exact ⟨25, hs_f5b I K h 25 0 (by omega) (by omega) (fun x hx => absurd hx (by omega))⟩
    · have hs := hs_ns_lt fW k z
      have hvs : vp_in (nI (hs_ns fW k e)) 64 := vp_in_nI hs (by decide)
      rw [nI_clamp (show hs_ns fW k e < 2 ^ 31 by omega)]
      have go : (∀ x, T x → aK x = k → pos x ≠ hs_ns fW k e) → ∀ x2 : Int32, x2 = nI e + 1 → wX_findInNests_2 post k fC fW fL fM fB fR aT aK aV aC aD aE aS aN aH aP aQ aO aB aG n x2 := fun g => nm_r (nI_1 e) (ih (e + 1) (by omega) (by omega) (fun e' he' x hx ek => by
        by_cases v : e' = e
        · subst v; exact g x hx ek
        · exact h e' (by omega) x hx ek))
      refine ⟨hvs, ?_⟩
      rcases I.2.1 _ hs with q | ⟨y, h1, h2, h3⟩
      · rw [q]
        exact br_t hs_m1n (go (fun x hx ek v => hs_ne (show x < 2 ^ 31 by have := hs_N5_24 I hx; omega) ((hs_N5_at I hx v hs).symm.trans q)))
      · have hy := hs_N5_24 I h1
        rw [h3, nI_clamp (show y < 2 ^ 31 by omega)]
        refine br_f (nI_pos (by omega)) ⟨hvs, vp_in_nI hy (by decide), br_c (fun ek => ⟨hvs, K _ (Or.inl ⟨y, h1, ek, rfl⟩)⟩) (fun ek => go (fun x hx ek2 v => ?_))⟩
        have e3 := hs_ij ((hs_N5_at I hx v hs).symm.trans h3) (by have := hs_N5_24 I hx; omega) (by omega)
        subst e3
        exact ek ek2
theorem hs_find5 {post : Int32 → Prop} {k : Int32} (I : hs_I5 T fW aK aN aH) (K : ∀ r, hs_Fd T aK k r → post r) : wpX_findInNests post (fC, fW, fL, fM, fB, fR, aT, aK, aV, aC, aD, aE, aS, aN, aH, aP, aQ, aO, aB, aG) k := by
  obtain ⟨pos, I⟩ := I
  unfold wpX_findInNests
  dsimp only
  exact ⟨3, hs_f5a I K 3 0 (by omega) (by omega) (fun e he => absurd he (by omega))⟩
end
end
section
/-! engine 6: everybody lives near home; pos x is the place of x, or 64 + x if it found none -/
def hs_bit (v : Int32) (d : Nat) : Prop := ¬ ((v >>> (nI d &&& 31)) &&& 1) = 0
def hs_rg (v : Int32) : Prop := ∃ m, m < 64 ∧ v = nI m
theorem hs_bt1 : ∀ m, m < 64 → ∀ d, d < 6 → (nI m ||| ((1 : Int32) <<< (nI d &&& 31))) = nI (m ||| 2 ^ d) ∧ m ||| 2 ^ d < 64 := by decide +kernel
theorem hs_bt2 : ∀ m, m < 64 → ∀ d, d < 6 → (nI m &&& (((1 : Int32) <<< (nI d &&& 31)) ^^^ (-1))) = nI (m &&& (63 - 2 ^ d)) ∧ m &&& (63 - 2 ^ d) < 64 := by decide +kernel
theorem hs_bt3 : ∀ m, m < 64 → ∀ d, d < 6 → (((nI m >>> (nI d &&& 31)) &&& 1) = 0 ↔ m / 2 ^ d % 2 = 0) := by decide +kernel
theorem hs_bt4 : ∀ m, m < 64 → ∀ d, d < 6 → ∀ e, e < 6 → ((m ||| 2 ^ d) / 2 ^ e % 2 = 0 ↔ (m / 2 ^ e % 2 = 0 ∧ e ≠ d)) := by decide +kernel
theorem hs_bt5 : ∀ m, m < 64 → ∀ d, d < 6 → ∀ e, e < 6 → ((m &&& (63 - 2 ^ d)) / 2 ^ e % 2 = 0 ↔ (m / 2 ^ e % 2 = 0 ∨ e = d)) := by decide +kernel
theorem hs_bt_or {v : Int32} (h : hs_rg v) {d : Nat} (hd : d < 6) : hs_rg (v ||| ((1 : Int32) <<< (nI d &&& 31))) ∧ ∀ e, e < 6 → (hs_bit (v ||| ((1 : Int32) <<< (nI d &&& 31))) e ↔ hs_bit v e ∨ e = d) := by
  obtain ⟨m, hm, rfl⟩ := h
  obtain ⟨b1, b2⟩ := hs_bt1 m hm d hd
  rw [b1]
  refine ⟨⟨_, b2, rfl⟩, fun e he => ?_⟩
  unfold hs_bit
  rw [hs_bt3 _ b2 e he, hs_bt3 _ hm e he, hs_bt4 m hm d hd e he]
  constructor
  · intro z
    by_cases q : e = d
    · exact Or.inr q
    · exact Or.inl (fun w => z ⟨w, q⟩)
  · rintro (z | z) w
    · exact z w.1
    · exact w.2 z
theorem hs_bt_cl {v : Int32} (h : hs_rg v) {d : Nat} (hd : d < 6) : hs_rg (v &&& (((1 : Int32) <<< (nI d &&& 31)) ^^^ (-1))) ∧ ∀ e, e < 6 → (hs_bit (v &&& (((1 : Int32) <<< (nI d &&& 31)) ^^^ (-1))) e ↔ hs_bit v e ∧ e ≠ d) := by
  obtain ⟨m, hm, rfl⟩ := h
  obtain ⟨b1, b2⟩ := hs_bt2 m hm d hd
  rw [b1]
  refine ⟨⟨_, b2, rfl⟩, fun e he => ?_⟩
  unfold hs_bit
  rw [hs_bt3 _ b2 e he, hs_bt3 _ hm e he, hs_bt5 m hm d hd e he]
  constructor
  · intro z
    exact ⟨fun w => z (Or.inl w), fun w => z (Or.inr w)⟩
  · rintro z (w | w)
    · exact z.1 w
    · exact z.2 w
theorem hs_bt_0 : ∀ d, d < 6 → ((0 : Int32) >>> (nI d &&& 31)) &&& 1 = 0 := by decide +kernel
def hs_N6 (T : Nat → Prop) (hm : Nat → Nat) (re rs rf : Nat → Int32) (pos : Nat → Nat) : Prop :=
  (∀ x, T x → x < 24 ∧ ((hm x ≤ pos x ∧ pos x < hm x + 6 ∧ re (pos x) = nI x ∧ hs_bit (rs (hm x)) (pos x - hm x)) ∨ (pos x = 64 + x ∧ rf x = 1))) ∧
  (∀ i, i < 40 → re i = -1 ∨ ∃ x, T x ∧ pos x = i ∧ re i = nI x) ∧
  (∀ x, x < 24 → rf x = 0 ∨ (rf x = 1 ∧ T x ∧ pos x = 64 + x)) ∧
  (∀ h, h < 32 → hs_rg (rs h) ∧ ∀ d, d < 6 → hs_bit (rs h) d → ∃ x, T x ∧ hm x = h ∧ pos x = h + d)
section
variable {T : Nat → Prop} {hm : Nat → Nat} {re rs rf : Nat → Int32} {pos : Nat → Nat}
theorem hs_N6_24 (I : hs_N6 T hm re rs rf pos) {x : Nat} (hx : T x) : x < 24 := (I.1 x hx).1
theorem hs_N6_at (I : hs_N6 T hm re rs rf pos) {x i : Nat} (hx : T x) (e : pos x = i) (hi : i < 40) : hm x ≤ i ∧ i < hm x + 6 ∧ re i = nI x ∧ hs_bit (rs (hm x)) (i - hm x) := by
  rcases (I.1 x hx).2 with h | ⟨h, _⟩
  · rw [← e]; exact h
  · omega
theorem hs_N6_u (I : hs_N6 T hm re rs rf pos) {x y i : Nat} (hx : T x) (ex : pos x = i) (hi : i < 40) (hy : y < 24) (h : re i = nI y) : x = y :=
  hs_ij ((hs_N6_at I hx ex hi).2.2.1.symm.trans h) (by have := hs_N6_24 I hx; omega) (by omega)
theorem hs_N6_nf (I : hs_N6 T hm re rs rf pos) {x i : Nat} (hx : T x) (hi : i < 40) (h : re i = -1) : pos x ≠ i := fun e =>
  hs_ne (show x < 2 ^ 31 by have := hs_N6_24 I hx; omega) ((hs_N6_at I hx e hi).2.2.1.symm.trans h)
theorem hs_N6_who (I : hs_N6 T hm re rs rf pos) {y i : Nat} (hi : i < 40) (hy : y < 24) (h : re i = nI y) : T y ∧ pos y = i := by
  rcases I.2.1 i hi with z | ⟨x, h1, h2, h3⟩
  · exact absurd (h.symm.trans z) (hs_ne (by omega))
  · have e := hs_N6_u I h1 h2 hi hy h
    subst e
    exact ⟨h1, h2⟩
theorem hs_N6_put (I : hs_N6 T hm re rs rf pos) (hh : ∀ x, hm x < 32) {x g : Nat} (hx : x < 24) (hT : ¬ T x) (hg : re g = -1) (g1 : hm x ≤ g) (g2 : g < hm x + 6) (g3 : g < 40) :
    hs_N6 (fun y => T y ∨ y = x) hm (upd re g (nI x)) (upd rs (hm x) (rs (hm x) ||| ((1 : Int32) <<< (nI (g - hm x) &&& 31)))) rf (hs_ps pos x g) := by
  have D := (I.2.2.2 (hm x) (hh x)).1
  obtain ⟨b1, b2⟩ := hs_bt_or D (d := g - hm x) (by omega)
  refine ⟨fun y hy => ?_, fun i hi => ?_, fun y hy => ?_, fun h hh1 => ?_⟩
  · by_cases ey : y = x
    · subst ey
      rw [hs_ps_s, pk_us, pk_us]
      exact ⟨hx, Or.inl ⟨g1, g2, rfl, (b2 _ (by omega)).mpr (Or.inr rfl)⟩⟩
    · have hy2 := hy.elim id (fun z => absurd z ey)
      obtain ⟨a1, a2⟩ := I.1 y hy2
      rw [hs_ps_n ey]
      refine ⟨a1, a2.elim (fun ⟨h1, h2, h3, h4⟩ => Or.inl ⟨h1, h2, ?_, ?_⟩) Or.inr⟩
      · rw [pk_un (hs_N6_nf I hy2 g3 hg)]; exact h3
      · by_cases eh : hm y = hm x
        · rw [eh, pk_us]
          rw [eh] at h4
          exact (b2 _ (by omega)).mpr (Or.inl h4)
        · rw [pk_un eh]; exact h4
  · by_cases ei : i = g
    · subst ei
      exact Or.inr ⟨x, Or.inr rfl, hs_ps_s, pk_us⟩
    · rw [pk_un ei]
      refine (I.2.1 i hi).elim Or.inl (fun ⟨z, h1, h2, h3⟩ => Or.inr ⟨z, Or.inl h1, ?_, h3⟩)
      have zx : z ≠ x := fun v => hT (v ▸ h1)
      rw [hs_ps_n zx]; exact h2
  · refine (I.2.2.1 y hy).elim Or.inl (fun h => Or.inr ⟨h.1, Or.inl h.2.1, ?_⟩)
    have yx : y ≠ x := fun v => hT (v ▸ h.2.1)
    rw [hs_ps_n yx]; exact h.2.2
  · have old : ∀ d, d < 6 → hs_bit (rs h) d → ∃ y, (T y ∨ y = x) ∧ hm y = h ∧ hs_ps pos x g y = h + d := fun d hd hb => by
      obtain ⟨y, y1, y2, y3⟩ := (I.2.2.2 h hh1).2 d hd hb
      have yx : y ≠ x := fun v => hT (v ▸ y1)
      exact ⟨y, Or.inl y1, y2, by rw [hs_ps_n yx]; exact y3⟩
    by_cases eh : h = hm x
    · subst eh
      rw [pk_us]
      refine ⟨b1, fun d hd hb => ?_⟩
      rcases (b2 d hd).mp hb with z | z
      · exact old d hd z
      · exact ⟨x, Or.inr rfl, rfl, by rw [hs_ps_s]; omega⟩
    · rw [pk_un eh]
      exact ⟨(I.2.2.2 h hh1).1, old⟩
theorem hs_N6_far (I : hs_N6 T hm re rs rf pos) {x : Nat} (hx : x < 24) (hT : ¬ T x) : hs_N6 (fun y => T y ∨ y = x) hm re rs (upd rf x 1) (hs_ps pos x (64 + x)) := by
  refine ⟨fun y hy => ?_, fun i hi => ?_, fun y hy => ?_, fun h hh1 => ⟨(I.2.2.2 h hh1).1, fun d hd hb => ?_⟩⟩
  · by_cases ey : y = x
    · subst ey
      rw [hs_ps_s, pk_us]
      exact ⟨hx, Or.inr ⟨rfl, rfl⟩⟩
    · rw [hs_ps_n ey, pk_un ey]
      exact I.1 y (hy.elim id (fun z => absurd z ey))
  · refine (I.2.1 i hi).elim Or.inl (fun ⟨z, h1, h2, h3⟩ => Or.inr ⟨z, Or.inl h1, ?_, h3⟩)
    have zx : z ≠ x := fun v => hT (v ▸ h1)
    rw [hs_ps_n zx]; exact h2
  · by_cases ey : y = x
    · subst ey
      exact Or.inr ⟨pk_us, Or.inr rfl, hs_ps_s⟩
    · rw [pk_un ey, hs_ps_n ey]
      exact (I.2.2.1 y hy).elim Or.inl (fun h => Or.inr ⟨h.1, Or.inl h.2.1, h.2.2⟩)
  · obtain ⟨y, y1, y2, y3⟩ := (I.2.2.2 h hh1).2 d hd hb
    have yx : y ≠ x := fun v => hT (v ▸ y1)
    exact ⟨y, Or.inl y1, y2, by rw [hs_ps_n yx]; exact y3⟩
theorem hs_N6_unfar (I : hs_N6 T hm re rs rf pos) {x : Nat} (hx : x < 24) (hs : ¬ rf x = 0) : T x ∧ hs_N6 (fun y => T y ∧ y ≠ x) hm re rs (upd rf x 0) pos := by
  obtain ⟨s1, s2, s3⟩ := (I.2.2.1 x hx).elim (fun z => absurd z hs) id
  refine ⟨s2, fun y hy => ?_, fun i hi => ?_, fun y hy => ?_, fun h hh1 => ⟨(I.2.2.2 h hh1).1, fun d hd hb => ?_⟩⟩
  · rw [pk_un hy.2]
    exact I.1 y hy.1
  · exact (I.2.1 i hi).elim Or.inl (fun ⟨z, h1, h2, h3⟩ => Or.inr ⟨z, ⟨h1, fun v => by rw [v, s3] at h2; omega⟩, h2, h3⟩)
  · by_cases ey : y = x
    · subst ey
      exact Or.inl pk_us
    · rw [pk_un ey]
      exact (I.2.2.1 y hy).elim Or.inl (fun h => Or.inr ⟨h.1, ⟨h.2.1, ey⟩, h.2.2⟩)
  · obtain ⟨y, y1, y2, y3⟩ := (I.2.2.2 h hh1).2 d hd hb
    exact ⟨y, ⟨y1, fun v => by rw [v, s3] at y3; omega⟩, y2, y3⟩
theorem hs_N6_rem (I : hs_N6 T hm re rs rf pos) {x d : Nat} (hh : hm x < 32) (hT : T x) (hd : d < 6) (hp : pos x = hm x + d) :
    hs_N6 (fun y => T y ∧ y ≠ x) hm (upd re (hm x + d) (-1)) (upd rs (hm x) (rs (hm x) &&& (((1 : Int32) <<< (nI d &&& 31)) ^^^ (-1)))) rf pos := by
  have D := (I.2.2.2 (hm x) hh).1
  obtain ⟨b1, b2⟩ := hs_bt_cl D hd
  have hx := hs_N6_24 I hT
  have at1 := hs_N6_at I hT hp (by omega)
  refine ⟨fun y hy => ?_, fun i hi => ?_, fun y hy => ?_, fun h hh1 => ?_⟩
  · obtain ⟨a1, a2⟩ := I.1 y hy.1
    refine ⟨a1, a2.elim (fun ⟨h1, h2, h3, h4⟩ => ?_) Or.inr⟩
    have ne : pos y ≠ hm x + d := fun v => hy.2 (hs_N6_u I hy.1 v (by omega) hx at1.2.2.1)
    refine Or.inl ⟨h1, h2, ?_, ?_⟩
    · rw [pk_un ne]; exact h3
    · by_cases eh : hm y = hm x
      · rw [eh, pk_us]
        rw [eh] at h4
        exact (b2 _ (by omega)).mpr ⟨h4, by omega⟩
      · rw [pk_un eh]; exact h4
  · by_cases ei : i = hm x + d
    · subst ei
      exact Or.inl pk_us
    · rw [pk_un ei]
      exact (I.2.1 i hi).elim Or.inl (fun ⟨z, h1, h2, h3⟩ => Or.inr ⟨z, ⟨h1, fun v => by rw [v, hp] at h2; exact ei h2.symm⟩, h2, h3⟩)
  · exact (I.2.2.1 y hy).elim Or.inl (fun h => Or.inr ⟨h.1, ⟨h.2.1, fun v => by rw [v, hp] at h; omega⟩, h.2.2⟩)
  · have old : ∀ d', d' < 6 → hs_bit (rs h) d' → h + d' ≠ hm x + d → ∃ y, (T y ∧ y ≠ x) ∧ hm y = h ∧ pos y = h + d' := fun d' hd' hb ne => by
      obtain ⟨y, y1, y2, y3⟩ := (I.2.2.2 h hh1).2 d' hd' hb
      exact ⟨y, ⟨y1, fun v => by rw [v, hp] at y3; exact ne y3.symm⟩, y2, y3⟩
    by_cases eh : h = hm x
    · subst eh
      rw [pk_us]
      refine ⟨b1, fun d' hd' hb => ?_⟩
      have z := (b2 d' hd').mp hb
      exact old d' hd' z.1 (by omega)
    · rw [pk_un eh]
      refine ⟨(I.2.2.2 h hh1).1, fun d' hd' hb => ?_⟩
      obtain ⟨y, y1, y2, y3⟩ := (I.2.2.2 h hh1).2 d' hd' hb
      exact ⟨y, ⟨y1, fun v => by rw [v] at y2; exact eh y2.symm⟩, y2, y3⟩
theorem hs_N6_move (I : hs_N6 T hm re rs rf pos) {y g h d : Nat} (hh : h < 32) (hy : T y) (eh : hm y = h) (hp : pos y = h + d) (hd : h + d < g) (hg2 : g < h + 6) (g3 : g < 40) (hg : re g = -1) :
    hs_N6 T hm (upd (upd re g (nI y)) (h + d) (-1)) (upd rs h ((rs h &&& (((1 : Int32) <<< (nI d &&& 31)) ^^^ (-1))) ||| ((1 : Int32) <<< (nI (g - h) &&& 31)))) rf (hs_ps pos y g) := by
  have D := (I.2.2.2 h hh).1
  obtain ⟨b1, b2⟩ := hs_bt_cl D (d := d) (by omega)
  obtain ⟨c1, c2⟩ := hs_bt_or b1 (d := g - h) (by omega)
  have hy24 := hs_N6_24 I hy
  have at1 := hs_N6_at I hy hp (by omega)
  refine ⟨fun z hz => ?_, fun i hi => ?_, fun z hz => ?_, fun h' hh1 => ?_⟩
  · by_cases ez : z = y
    · subst ez
      rw [hs_ps_s, eh, pk_us, pk_un (by omega), pk_us]
      exact ⟨hy24, Or.inl ⟨by omega, hg2, rfl, (c2 _ (by omega)).mpr (Or.inr rfl)⟩⟩
    · obtain ⟨a1, a2⟩ := I.1 z hz
      rw [hs_ps_n ez]
      refine ⟨a1, a2.elim (fun ⟨h1, h2, h3, h4⟩ => ?_) Or.inr⟩
      have ne : pos z ≠ h + d := fun v => ez (hs_N6_u I hz v (by omega) hy24 at1.2.2.1)
      have ng : pos z ≠ g := hs_N6_nf I hz g3 hg
      refine Or.inl ⟨h1, h2, ?_, ?_⟩
      · rw [pk_un ne, pk_un ng]; exact h3
      · by_cases e2 : hm z = h
        · rw [e2, pk_us]
          rw [e2] at h4
          exact (c2 _ (by omega)).mpr (Or.inl ((b2 _ (by omega)).mpr ⟨h4, by omega⟩))
        · rw [pk_un e2]; exact h4
  · by_cases ei : i = h + d
    · subst ei
      exact Or.inl pk_us
    · rw [pk_un ei]
      by_cases eg : i = g
      · subst eg
        exact Or.inr ⟨y, hy, hs_ps_s, pk_us⟩
      · rw [pk_un eg]
        refine (I.2.1 i hi).elim Or.inl (fun ⟨z, h1, h2, h3⟩ => Or.inr ⟨z, h1, ?_, h3⟩)
        have zy : z ≠ y := fun v => by rw [v, hp] at h2; exact ei h2.symm
        rw [hs_ps_n zy]; exact h2
  · refine (I.2.2.1 z hz).elim Or.inl (fun q => Or.inr ⟨q.1, q.2.1, ?_⟩)
    have zy : z ≠ y := fun v => by rw [v, hp] at q; omega
    rw [hs_ps_n zy]; exact q.2.2
  · have old : ∀ d', d' < 6 → hs_bit (rs h') d' → h' + d' ≠ h + d → ∃ x, T x ∧ hm x = h' ∧ hs_ps pos y g x = h' + d' := fun d' hd' hb ne => by
      obtain ⟨x, x1, x2, x3⟩ := (I.2.2.2 h' hh1).2 d' hd' hb
      have xy : x ≠ y := fun v => by rw [v, hp] at x3; exact ne x3.symm
      exact ⟨x, x1, x2, by rw [hs_ps_n xy]; exact x3⟩
    by_cases e2 : h' = h
    · subst e2
      rw [pk_us]
      refine ⟨c1, fun d' hd' hb => ?_⟩
      rcases (c2 d' hd').mp hb with z | z
      · have z2 := (b2 d' hd').mp z
        exact old d' hd' z2.1 (by omega)
      · exact ⟨y, hy, eh, by rw [hs_ps_s]; omega⟩
    · rw [pk_un e2]
      refine ⟨(I.2.2.2 h' hh1).1, fun d' hd' hb => ?_⟩
      obtain ⟨x, x1, x2, x3⟩ := (I.2.2.2 h' hh1).2 d' hd' hb
      have xy : x ≠ y := fun v => by rw [v, eh] at x2; exact e2 x2.symm
      exact ⟨x, x1, x2, by rw [hs_ps_n xy]; exact x3⟩
end
def hs_I6 (T : Nat → Prop) (w : Int32) (k re rs rf : Nat → Int32) : Prop := ∃ pos, hs_N6 T (fun x => hs_m w (k x) 8 % 32) re rs rf pos
theorem hs_I6_cong {T : Nat → Prop} {w : Int32} {k re rs rf k' : Nat → Int32} (I : hs_I6 T w k re rs rf) (hk : ∀ x, T x → k' x = k x) : hs_I6 T w k' re rs rf := by
  obtain ⟨pos, A, B, C, D⟩ := I
  refine ⟨pos, fun x hx => ?_, B, C, fun h hh => ⟨(D h hh).1, fun d hd hb => ?_⟩⟩
  · have q := A x hx
    dsimp only at q ⊢
    rw [hk x hx]
    exact q
  · obtain ⟨x, x1, x2, x3⟩ := (D h hh).2 d hd hb
    dsimp only at x2 ⊢
    exact ⟨x, x1, by rw [hk x x1]; exact x2, x3⟩
end
section
/-! engine 6: the walks -/
section
variable {fC fW fL fM fB fR : Int32} {aT aK aV aC aD aE aS aN aH aP aQ aO aB aG : Nat → Int32} {T : Nat → Prop} {pos : Nat → Nat}
theorem hs_f6b {post : Int32 → Prop} {k : Int32} (I : hs_N6 T (fun x => hs_m fW (aK x) 8 % 32) aP aQ aO pos) (K : ∀ r, hs_Fd T aK k r → post r) (h2 : ∀ d, d < 6 → ∀ x, T x → aK x = k → pos x ≠ hs_m fW k 8 % 32 + d) :
    ∀ n i, i ≤ 24 → 24 - i < n → (∀ x, x < i → aO x = 0 ∨ ¬ aK x = k) → wX_findNear_66 post k fC fW fL fM fB fR aT aK aV aC aD aE aS aN aH aP aQ aO aB aG n (nI i) := by
  intro n
  induction n with
  | zero => intro i _ z; omega
  | succ n ih =>
    intro i hi hn h
    have hi2 : i < 2 ^ 31 := by omega
    simp only [wX_findNear_66, nI_clamp hi2]
    refine pk_le 24 i (fun z => K _ (Or.inr ⟨fun x hx ek => ?_, rfl⟩)) (fun z => ?_)
    · obtain ⟨a1, a2⟩ := I.1 x hx
      rcases a2 with ⟨g1, g2, g3, g4⟩ | ⟨g1, g2⟩
      · dsimp only at g1 g2
        have h3 := h2 (pos x - hs_m fW (aK x) 8 % 32) (by omega) x hx ek
        rw [ek] at g1 h3
        omega
      · refine (h x (by omega)).elim (fun q => ?_) (fun q => q ek)
        rw [g2] at q
        exact absurd q (by decide)
    · have hv : vp_in (nI i) 24 := vp_in_nI z (by decide)
      refine ⟨hv, br_c (fun e => nm_r (nI_1 i) (ih (i + 1) (by omega) (by omega) (fun x hx => ?_))) (fun e => ⟨hv, br_c (fun e2 => K _ (Or.inl ⟨i, ?_, e2, rfl⟩)) (fun e2 => nm_r (nI_1 i) (ih (i + 1) (by omega) (by omega) (fun x hx => ?_)))⟩)⟩
      · by_cases v : x = i
        · subst v; exact Or.inl e
        · exact h x (by omega)
      · exact ((I.2.2.1 i z).elim (fun q => absurd q e) id).2.1
      · by_cases v : x = i
        · subst v; exact Or.inr e2
        · exact h x (by omega)
theorem hs_f6a {post : Int32 → Prop} {k : Int32} (I : hs_N6 T (fun x => hs_m fW (aK x) 8 % 32) aP aQ aO pos) (K : ∀ r, hs_Fd T aK k r → post r) {h : Nat} (hh : h = hs_m fW k 8 % 32) :
    ∀ n d, d ≤ 6 → 6 - d < n → (∀ d', d' < d → ∀ x, T x → aK x = k → pos x ≠ h + d') → wX_findNear_13 post k (nI h) fC fW fL fM fB fR aT aK aV aC aD aE aS aN aH aP aQ aO aB aG n (nI d) := by
  intro n
  induction n with
  | zero => intro d _ z; omega
  | succ n ih =>
    intro d hd hn hs
    have h32 : h < 32 := by rw [hh]; exact Nat.mod_lt _ (by decide)
    have hc : h < 2 ^ 31 := by omega
    have hc2 : h + d < 2 ^ 31 := by omega
    simp only [wX_findNear_13, nI_clamp hc, nI_add, nI_clamp hc2]
    refine pk_le 6 d (fun z => ?_) (fun z => ⟨vp_in_nI h32 (by decide), ?_⟩)
    · have : d = 6 := by omega
      subst this
      subst hh
      exact ⟨25, hs_f6b I K hs 25 0 (by omega) (by omega) (fun x hx => absurd hx (by omega))⟩
    · have go : (∀ x, T x → aK x = k → pos x ≠ h + d) → ∀ x2 : Int32, x2 = nI d + 1 → wX_findNear_13 post k (nI h) fC fW fL fM fB fR aT aK aV aC aD aE aS aN aH aP aQ aO aB aG n x2 := fun g => nm_r (nI_1 d) (ih (d + 1) (by omega) (by omega) (fun e' he' x hx ek => by
        by_cases v : e' = d
        · subst v; exact g x hx ek
        · exact hs e' (by omega) x hx ek))
      have hv : vp_in (nI (h + d)) 40 := vp_in_nI (by omega) (by decide)
      refine br_c (fun e => go (fun x hx ek v => ?_)) (fun e => ⟨hv, ?_⟩)
      · obtain ⟨g1, g2, g3, g4⟩ := hs_N6_at I hx v (by omega)
        rw [ek, ← hh, Nat.add_sub_cancel_left] at g4
        exact g4 e
      · obtain ⟨y, y1, y2, y3⟩ := (I.2.2.2 h h32).2 d z e
        have a := hs_N6_at I y1 y3 (by omega)
        have hy := hs_N6_24 I y1
        rw [a.2.2.1, nI_clamp (show y < 2 ^ 31 by omega)]
        refine ⟨vp_in_nI hy (by decide), br_c (fun ek => ⟨hv, K _ (Or.inl ⟨y, y1, ek, rfl⟩)⟩) (fun ek => go (fun x hx ek2 v => ?_))⟩
        have e3 := hs_N6_u I hx v (by omega) hy a.2.2.1
        subst e3
        exact ek ek2
theorem hs_find6 {post : Int32 → Prop} {k : Int32} (I : hs_I6 T fW aK aP aQ aO) (K : ∀ r, hs_Fd T aK k r → post r) : wpX_findNear post (fC, fW, fL, fM, fB, fR, aT, aK, aV, aC, aD, aE, aS, aN, aH, aP, aQ, aO, aB, aG) k := by
  obtain ⟨pos, I⟩ := I
  unfold wpX_findNear
  dsimp only
  exact hs_mixed 8 (nm_r (hs_a31 (hs_m_lt _ _ _)) ⟨7, hs_f6a I K rfl 7 0 (by omega) (by omega) (fun e he => absurd he (by omega))⟩)
/-- the inner loop of moveGap -/
theorem hs_mgi {post : Int32 → SX → Prop} {J : Int32 → Prop} {g h : Nat} (I : hs_N6 T (fun x => hs_m fW (aK x) 8 % 32) aP aQ aO pos) (hg : aP g = -1) (g3 : g < 38) (h32 : h < 32) (h1 : h < g) (h2 : g < h + 6)
    (KJ : J (nI (h + 1))) (K1 : ∀ g' re rs, g' < g → g < g' + 6 → re g' = -1 → hs_I6 T fW aK re rs aO → post (nI g') (fC, fW, fL, fM, fB, fR, aT, aK, aV, aC, aD, aE, aS, aN, aH, re, rs, aO, aB, aG)) :
    ∀ n d, d ≤ g - h → g - h - d < n → wX_moveGap_36 post J (nI g) (nI h) (aQ h) fC fW fL fM fB fR aT aK aV aC aD aE aS aN aH aP aQ aO aB aG n (nI d) := by
  intro n
  induction n with
  | zero => intro d _ z; omega
  | succ n ih =>
    intro d hd hn
    have e1 : nI g - nI h = nI (g - h) := pk_sub (by omega)
    have hc : h + d < 2 ^ 31 := by omega
    have hcg : g < 2 ^ 31 := by omega
    have hch : h < 2 ^ 31 := by omega
    simp only [wX_moveGap_36, e1, nI_add, nI_clamp hc, nI_clamp hcg, nI_clamp hch, hs_nm1]
    refine pk_le (g - h) d (fun z => nm_r (nI_1 h) KJ) (fun z => br_c (fun _ => nm_r (nI_1 h) KJ) (fun _ => br_c (fun _ => nm_r (nI_1 d) (ih (d + 1) (by omega) (by omega))) (fun e => ?_)))
    obtain ⟨y, y1, y2, y3⟩ := (I.2.2.2 h h32).2 d (by omega) e
    have a := hs_N6_at I y1 y3 (by omega)
    have hy := hs_N6_24 I y1
    have hv : vp_in (nI (h + d)) 40 := vp_in_nI (by omega) (by decide)
    rw [a.2.2.1, hs_nx hy]
    exact ⟨hv, vp_in_nI (by omega) (by decide), nm_e ⟨hv, nm_e ⟨vp_in_nI h32 (by decide), nm_e (K1 (h + d) _ _ (by omega) (by omega) pk_us ⟨_, hs_N6_move I h32 y1 y2 y3 (by omega) (by omega) (by omega) hg⟩)⟩⟩⟩
theorem hs_mgo {post : Int32 → SX → Prop} {g : Nat} (I : hs_N6 T (fun x => hs_m fW (aK x) 8 % 32) aP aQ aO pos) (hg : aP g = -1) (g3 : g < 38)
    (K0 : post (-1) (fC, fW, fL, fM, fB, fR, aT, aK, aV, aC, aD, aE, aS, aN, aH, aP, aQ, aO, aB, aG)) (K1 : ∀ g' re rs, g' < g → g < g' + 6 → re g' = -1 → hs_I6 T fW aK re rs aO → post (nI g') (fC, fW, fL, fM, fB, fR, aT, aK, aV, aC, aD, aE, aS, aN, aH, re, rs, aO, aB, aG)) :
    ∀ n h, h ≤ g → g < h + 6 → g - h < n → wX_moveGap_7 post (nI g) fC fW fL fM fB fR aT aK aV aC aD aE aS aN aH aP aQ aO aB aG n (nI h) := by
  intro n
  induction n with
  | zero => intro h _ _ z; omega
  | succ n ih =>
    intro h h1 h2 hn
    have hch : h < 2 ^ 31 := by omega
    simp only [wX_moveGap_7, nI_clamp hch]
    refine pk_le g h (fun z => K0) (fun z => br_f (nI_pos hch) (pk_le 32 h (fun q => ⟨1, ?_⟩) (fun q => ⟨vp_in_nI q (by decide), nm_e ⟨g - h + 1, hs_mgi I hg g3 q z h2 (ih (h + 1) (by omega) (by omega) (by omega)) K1 _ 0 (by omega) (by omega)⟩⟩)))
    exact br_c (fun _ => nm_r (nI_1 h) (ih (h + 1) (by omega) (by omega) (by omega))) (fun _ => br_t rfl (nm_r (nI_1 h) (ih (h + 1) (by omega) (by omega) (by omega))))
theorem hs_moveGap {post : Int32 → SX → Prop} {g : Nat} (I : hs_I6 T fW aK aP aQ aO) (hg : aP g = -1) (g3 : g < 38) (g6 : 6 ≤ g)
    (K0 : post (-1) (fC, fW, fL, fM, fB, fR, aT, aK, aV, aC, aD, aE, aS, aN, aH, aP, aQ, aO, aB, aG)) (K1 : ∀ g' re rs, g' < g → g < g' + 6 → re g' = -1 → hs_I6 T fW aK re rs aO → post (nI g') (fC, fW, fL, fM, fB, fR, aT, aK, aV, aC, aD, aE, aS, aN, aH, re, rs, aO, aB, aG)) : wpX_moveGap post (fC, fW, fL, fM, fB, fR, aT, aK, aV, aC, aD, aE, aS, aN, aH, aP, aQ, aO, aB, aG) (nI g) := by
  obtain ⟨pos, I⟩ := I
  unfold wpX_moveGap
  dsimp only
  have e : nI g - 6 + 1 = nI (g - 5) := by
    rw [show nI g - 6 = nI (g - 6) from pk_sub (b := 6) g6, nI_1]
    exact congrArg nI (by omega)
  exact nm_r e ⟨6, hs_mgo I hg g3 K0 K1 6 (g - 5) (by omega) (by omega) (by omega)⟩
theorem hs_a6c {post : SX → Prop} {x : Nat} (hx : x < 24) (hT : ¬ T x) (K : ∀ re rs rf, hs_I6 (fun y => T y ∨ y = x) fW aK re rs rf → post (fC, fW, fL, fM, fB, fR, aT, aK, aV, aC, aD, aE, aS, aN, aH, re, rs, rf, aB, aG)) {h : Nat} (hh : h = hs_m fW (aK x) 8 % 32) :
    ∀ n g re rs, h ≤ g → g < 38 → g - h < n → re g = -1 → hs_I6 T fW aK re rs aO → wX_addNear_44 post (nI x) (nI h) n (nI g) 1 fC fW fL fM fB fR aT aK aV aC aD aE aS aN aH re rs aO aB aG := by
  have h32 : h < 32 := by rw [hh]; exact Nat.mod_lt _ (by decide)
  have hx2 : x < 2 ^ 31 := by omega
  intro n
  induction n with
  | zero => intro g re rs _ _ z; omega
  | succ n ih =>
    intro g re rs h1 g3 hn hg I
    have e1 : nI g - nI h = nI (g - h) := pk_sub h1
    have hcg : g < 2 ^ 31 := by omega
    have hch : h < 2 ^ 31 := by omega
    have hv : vp_in (nI x) 24 := vp_in_nI hx (by decide)
    have hvh : vp_in (nI h) 32 := vp_in_nI h32 (by decide)
    simp only [wX_addNear_44, e1]
    refine br_f hs_10 (pk_lt (g - h) 6 (fun z => ?_) (fun z => ?_))
    · simp only [wX_addNear_91, e1, nI_clamp hcg, nI_clamp hch, hs_ny hx]
      obtain ⟨pos, I⟩ := I
      subst hh
      exact br_f hs_10 ⟨vp_in_nI (by omega) (by decide), nm_e ⟨hvh, hvh, nm_e (K _ _ _ ⟨_, hs_N6_put I (fun _ => Nat.mod_lt _ (by decide)) hx hT hg h1 (by omega) (by omega)⟩)⟩⟩
    · refine hs_moveGap I hg g3 (by omega) ?_ (fun g' re' rs' q1 q2 q3 I' => ?_)
      · simp only [wX_addNear_74]
        obtain ⟨m, rfl⟩ : ∃ m, n = m + 1 := ⟨n - 1, by omega⟩
        refine br_t hs_m1n (br_t trivial ?_)
        simp only [wX_addNear_44, wX_addNear_91, nI_clamp hx2, hs_o1]
        obtain ⟨pos, I⟩ := I
        exact br_t trivial (br_t trivial ⟨hv, nm_e (K _ _ _ ⟨_, hs_N6_far I hx hT⟩)⟩)
      · simp only [wX_addNear_74]
        exact br_f (nI_pos (by omega)) (br_f hs_10 (ih g' re' rs' (by omega) (by omega) (by omega) q3 I'))
theorem hs_a6b {post : SX → Prop} {x : Nat} (hx : x < 24) (hT : ¬ T x) (I : hs_I6 T fW aK aP aQ aO) (K : ∀ re rs rf, hs_I6 (fun y => T y ∨ y = x) fW aK re rs rf → post (fC, fW, fL, fM, fB, fR, aT, aK, aV, aC, aD, aE, aS, aN, aH, re, rs, rf, aB, aG)) {h : Nat} (hh : h = hs_m fW (aK x) 8 % 32) :
    ∀ n g, h ≤ g → g ≤ 38 → 38 - g < n → wX_addNear_10 post (nI x) (nI h) fC fW fL fM fB fR aT aK aV aC aD aE aS aN aH aP aQ aO aB aG n (nI g) := by
  have h32 : h < 32 := by rw [hh]; exact Nat.mod_lt _ (by decide)
  have hx2 : x < 2 ^ 31 := by omega
  have hv : vp_in (nI x) 24 := vp_in_nI hx (by decide)
  intro n
  induction n with
  | zero => intro g _ _ z; omega
  | succ n ih =>
    intro g h1 g2 hn
    have hcg : g < 2 ^ 31 := by omega
    simp only [wX_addNear_10, wX_addNear_31, nI_clamp hcg]
    refine pk_le 38 g (fun z => br_t (nI_le (a := 38) z hcg) ⟨1, ?_⟩) (fun z => ⟨vp_in_nI (by omega) (by decide), br_c (fun e => br_f (nI_ge (b := 38) z (by decide)) ⟨g - h + 1, ?_⟩) (fun e => nm_r (nI_1 g) (ih (g + 1) (by omega) (by omega) (by omega)))⟩)
    · simp only [wX_addNear_44, wX_addNear_91, nI_clamp hx2, hs_o1]
      obtain ⟨pos, I⟩ := I
      exact br_t trivial (br_t trivial ⟨hv, nm_e (K _ _ _ ⟨_, hs_N6_far I hx hT⟩)⟩)
    · refine hs_a6c hx hT K hh (g - h + 1) g aP aQ h1 z (by omega) ?_ I
      obtain ⟨pos, I⟩ := I
      rcases I.2.1 g (by omega) with q | ⟨y, y1, y2, y3⟩
      · exact q
      · rw [y3] at e
        exact absurd e (nI_pos (by have := hs_N6_24 I y1; omega))
theorem hs_add6 {post : SX → Prop} {x : Nat} (hx : x < 24) (hT : ¬ T x) (I : hs_I6 T fW aK aP aQ aO)
    (K : ∀ re rs rf, hs_I6 (fun y => T y ∨ y = x) fW aK re rs rf → post (fC, fW, fL, fM, fB, fR, aT, aK, aV, aC, aD, aE, aS, aN, aH, re, rs, rf, aB, aG)) : wpX_addNear post (fC, fW, fL, fM, fB, fR, aT, aK, aV, aC, aD, aE, aS, aN, aH, aP, aQ, aO, aB, aG) (nI x) := by
  unfold wpX_addNear
  dsimp only
  have h32 : hs_m fW (aK x) 8 % 32 < 32 := Nat.mod_lt _ (by decide)
  exact hs_home 8 hx ⟨39, hs_a6b hx hT I K rfl 39 _ (Nat.le_refl _) (by omega) (by omega)⟩
theorem hs_r6l {post : SX → Prop} {x : Nat} (hx : x < 24) (K : ∀ re rs rf, hs_I6 (fun y => T y ∧ y ≠ x) fW aK re rs rf → post (fC, fW, fL, fM, fB, fR, aT, aK, aV, aC, aD, aE, aS, aN, aH, re, rs, rf, aB, aG)) {h : Nat} (hh : h = hs_m fW (aK x) 8 % 32) :
    ∀ n d re rs, d ≤ 6 → 6 - d < n → ((∃ d', d ≤ d' ∧ d' < 6 ∧ re (h + d') = nI x ∧ hs_I6 T fW aK re rs aO) ∨ hs_I6 (fun y => T y ∧ y ≠ x) fW aK re rs aO) → wX_removeNear_27 post (nI x) (nI h) fC fW fL fM fB fR n (nI d) aT aK aV aC aD aE aS aN aH re rs aO aB aG := by
  have h32 : h < 32 := by rw [hh]; exact Nat.mod_lt _ (by decide)
  have hx2 : x < 2 ^ 31 := by omega
  intro n
  induction n with
  | zero => intro d re rs _ z; omega
  | succ n ih =>
    intro d re rs hd hn I
    have hch : h < 2 ^ 31 := by omega
    have hc : h + d < 2 ^ 31 := by omega
    have hvh : vp_in (nI h) 32 := vp_in_nI h32 (by decide)
    simp only [wX_removeNear_27, nI_add, nI_clamp hch, nI_clamp hc, hs_nm1]
    refine pk_le 6 d (fun z => K _ _ _ (I.elim (fun ⟨d', h1, h2, _⟩ => absurd h2 (by omega)) id)) (fun z => ⟨hvh, ?_⟩)
    have hv : vp_in (nI (h + d)) 40 := vp_in_nI (by omega) (by decide)
    have go : ¬ (hs_bit (rs h) d ∧ re (h + d) = nI x) → ∀ x3 : Int32, x3 = nI d + 1 → wX_removeNear_27 post (nI x) (nI h) fC fW fL fM fB fR n x3 aT aK aV aC aD aE aS aN aH re rs aO aB aG := fun hn => by
      refine nm_r (nI_1 d) (ih (d + 1) re rs (by omega) (by omega) (I.elim (fun ⟨d', h1, h2, h3, I⟩ => Or.inl ⟨d', ?_, h2, h3, I⟩) Or.inr))
      have : d ≠ d' := fun v => by
        subst v
        refine hn ⟨?_, h3⟩
        obtain ⟨pos, I⟩ := I
        obtain ⟨t, p⟩ := hs_N6_who I (show h + d < 40 by omega) hx h3
        have a := (hs_N6_at I t p (by omega)).2.2.2
        rw [← hh, Nat.add_sub_cancel_left] at a
        exact a
      omega
    refine br_c (fun e => go (fun q => q.1 e)) (fun e => ⟨hv, br_c (fun e2 => ⟨hv, nm_e ⟨hvh, hvh, nm_e (nm_r (nI_1 d) (ih (d + 1) _ _ (by omega) (by omega) (Or.inr ?_)))⟩⟩) (fun e2 => go (fun q => e2 q.2))⟩)
    rcases I with ⟨d', h1, h2, h3, pos, I⟩ | ⟨pos, I⟩
    · obtain ⟨t, p⟩ := hs_N6_who I (show h + d < 40 by omega) hx e2
      subst hh
      exact ⟨pos, hs_N6_rem I h32 t z p⟩
    · exact absurd rfl (hs_N6_who I (show h + d < 40 by omega) hx e2).1.2
theorem hs_rem6 {post : SX → Prop} {x : Nat} (hx : x < 24) (hT : T x) (I : hs_I6 T fW aK aP aQ aO)
    (K : ∀ re rs rf, hs_I6 (fun y => T y ∧ y ≠ x) fW aK re rs rf → post (fC, fW, fL, fM, fB, fR, aT, aK, aV, aC, aD, aE, aS, aN, aH, re, rs, rf, aB, aG)) : wpX_removeNear post (fC, fW, fL, fM, fB, fR, aT, aK, aV, aC, aD, aE, aS, aN, aH, aP, aQ, aO, aB, aG) (nI x) := by
  unfold wpX_removeNear
  dsimp only
  have hv : vp_in (nI x) 24 := vp_in_nI hx (by decide)
  rw [nI_clamp (show x < 2 ^ 31 by omega), hs_o0]
  have h32 : hs_m fW (aK x) 8 % 32 < 32 := Nat.mod_lt _ (by decide)
  obtain ⟨pos, I⟩ := I
  refine And.intro hv (br_c (fun e => hs_home 8 hx ⟨7, hs_r6l hx K rfl 7 0 aP aQ (by omega) (by omega) ?_⟩) (fun e => ⟨hv, nm_e (K _ _ _ ⟨pos, (hs_N6_unfar I hx e).2⟩)⟩))
  rcases (I.1 x hT).2 with ⟨h1, h2, h3, h4⟩ | ⟨h, h4⟩
  · dsimp only at h1 h2
    refine Or.inl ⟨pos x - hs_m fW (aK x) 8 % 32, by omega, by omega, ?_, pos, I⟩
    rw [show hs_m fW (aK x) 8 % 32 + (pos x - hs_m fW (aK x) 8 % 32) = pos x by omega]
    exact h3
  · rw [h4] at e
    exact absurd e (by decide)
end
end
section
/-! all eight -/
def hs_I (T : Nat → Prop) (fW fL fM fB fR : Int32) (aK aC aD aE aS aN aH aP aQ aO aB aG : Nat → Int32) : Prop :=
  hs_CI (fun x => hs_m fW (aK x) 0 % 8) 8 T aC aD ∧ hs_I1 T fW aK aE aS ∧ hs_I2 T fW fL aK aE aS ∧ hs_I3 T fW fM aK aE aS ∧ hs_I4 T fW aK aE aS ∧ hs_I5 T fW aK aN aH ∧ hs_I6 T fW aK aP aQ aO ∧ hs_I7 T fW fB fR aK aB aG
theorem hs_fr_t' {b b' : Nat} {f g k : Nat → Int32} (h : hs_fr b f g) (h2 : hs_fr b' g k) (j : Nat) (h3 : j < b ∨ b + 32 ≤ j) (h4 : j < b' ∨ b' + 32 ≤ j) : k j = f j := (h2 j h4).trans (h j h3)
section
variable {fC fW fL fM fB fR : Int32} {aT aK aV aC aD aE aS aN aH aP aQ aO aB aG : Nat → Int32} {T : Nat → Prop}
theorem hs_I_cong {k : Nat → Int32} (I : hs_I T fW fL fM fB fR aK aC aD aE aS aN aH aP aQ aO aB aG) (hk : ∀ x, T x → k x = aK x) : hs_I T fW fL fM fB fR k aC aD aE aS aN aH aP aQ aO aB aG := by
  obtain ⟨I0, I1, I2, I3, I4, I5, I6, rs, bk, e1, e2, hr, hr2, I7⟩ := I
  exact ⟨hs_CI_cong I0 (fun x hx => by rw [hk x hx]), hs_I1_cong I1 hk (fun _ _ => rfl) (fun _ _ => rfl), hs_I2_cong I2 hk (fun _ _ => rfl) (fun _ _ => rfl), hs_I3_cong I3 hk (fun _ _ => rfl) (fun _ _ => rfl),
    hs_I4_cong I4 hk (fun _ _ => rfl) (fun _ _ => rfl), hs_I5_cong I5 hk, hs_I6_cong I6 hk, rs, bk, e1, e2, hr, hr2, hs_CI_cong I7 (fun x hx => by rw [hk x hx])⟩
/-! the start -/
theorem hs_s156 {post : SX → Prop} (Q : (Nat → Int32) → Prop) (hQ : ∀ a n, (∀ j, j < 16 → a j = -1) → Q a → wX_startTables_156 post fC fW fL fM fB fR (n + 1) (nI 16) aT aK aV aC aD aE aS aN aH aP aQ aO a aG) (K : ∀ a, (∀ j, j < 16 → a j = -1) → Q a) :
    ∀ n i a, i ≤ 16 → 16 - i < n → (∀ j, j < i → a j = -1) → wX_startTables_156 post fC fW fL fM fB fR n (nI i) aT aK aV aC aD aE aS aN aH aP aQ aO a aG := by
  intro n
  induction n with
  | zero => intro i a _ z; omega
  | succ n ih =>
    intro i a hi hn h
    by_cases e : i = 16
    · subst e
      exact hQ a n h (K a h)
    · have hc : i < 2 ^ 31 := by omega
      simp only [wX_startTables_156, nI_clamp hc, hs_nm1]
      refine br_f (nI_ge (b := 16) (by omega) (by decide)) ⟨vp_in_nI (by omega) (by decide), nm_e (nm_r (nI_1 i) (ih (i + 1) _ (by omega) (by omega) (fun j hj => ?_)))⟩
      by_cases v : j = i
      · rw [v, pk_us]
      · rw [pk_un v]; exact h j (by omega)
theorem hs_s97 {post : SX → Prop} (Q : (Nat → Int32) → Prop) (hQ : ∀ a n, (∀ j, j < 32 → a j = 0) → Q a → wX_startTables_97 post fC fW fL fM fB fR (n + 1) (nI 32) aT aK aV aC aD aE aS aN aH aP a aO aB aG) (K : ∀ a, (∀ j, j < 32 → a j = 0) → Q a) :
    ∀ n i a, i ≤ 32 → 32 - i < n → (∀ j, j < i → a j = 0) → wX_startTables_97 post fC fW fL fM fB fR n (nI i) aT aK aV aC aD aE aS aN aH aP a aO aB aG := by
  intro n
  induction n with
  | zero => intro i a _ z; omega
  | succ n ih =>
    intro i a hi hn h
    by_cases e : i = 32
    · subst e
      exact hQ a n h (K a h)
    · have hc : i < 2 ^ 31 := by omega
      simp only [wX_startTables_97, nI_clamp hc, hs_n0]
      refine br_f (nI_ge (b := 32) (by omega) (by decide)) ⟨vp_in_nI (by omega) (by decide), nm_e (nm_r (nI_1 i) (ih (i + 1) _ (by omega) (by omega) (fun j hj => ?_)))⟩
      by_cases v : j = i
      · rw [v, pk_us]
      · rw [pk_un v]; exact h j (by omega)
theorem hs_s76 {post : SX → Prop} (Q : (Nat → Int32) → Prop) (hQ : ∀ a n, (∀ j, j < 40 → a j = -1) → Q a → wX_startTables_76 post fC fW fL fM fB fR (n + 1) (nI 40) aT aK aV aC aD aE aS aN aH a aQ aO aB aG) (K : ∀ a, (∀ j, j < 40 → a j = -1) → Q a) :
    ∀ n i a, i ≤ 40 → 40 - i < n → (∀ j, j < i → a j = -1) → wX_startTables_76 post fC fW fL fM fB fR n (nI i) aT aK aV aC aD aE aS aN aH a aQ aO aB aG := by
  intro n
  induction n with
  | zero => intro i a _ z; omega
  | succ n ih =>
    intro i a hi hn h
    by_cases e : i = 40
    · subst e
      exact hQ a n h (K a h)
    · have hc : i < 2 ^ 31 := by omega
      simp only [wX_startTables_76, nI_clamp hc, hs_nm1]
      refine br_f (nI_ge (b := 40) (by omega) (by decide)) ⟨vp_in_nI (by omega) (by decide), nm_e (nm_r (nI_1 i) (ih (i + 1) _ (by omega) (by omega) (fun j hj => ?_)))⟩
      by_cases v : j = i
      · rw [v, pk_us]
      · rw [pk_un v]; exact h j (by omega)
theorem hs_s55 {post : SX → Prop} (Q : (Nat → Int32) → Prop) (hQ : ∀ a n, (∀ j, j < 64 → a j = -1) → Q a → wX_startTables_55 post fC fW fL fM fB fR (n + 1) (nI 64) aT aK aV aC aD aE aS a aH aP aQ aO aB aG) (K : ∀ a, (∀ j, j < 64 → a j = -1) → Q a) :
    ∀ n i a, i ≤ 64 → 64 - i < n → (∀ j, j < i → a j = -1) → wX_startTables_55 post fC fW fL fM fB fR n (nI i) aT aK aV aC aD aE aS a aH aP aQ aO aB aG := by
  intro n
  induction n with
  | zero => intro i a _ z; omega
  | succ n ih =>
    intro i a hi hn h
    by_cases e : i = 64
    · subst e
      exact hQ a n h (K a h)
    · have hc : i < 2 ^ 31 := by omega
      simp only [wX_startTables_55, nI_clamp hc, hs_nm1]
      refine br_f (nI_ge (b := 64) (by omega) (by decide)) ⟨vp_in_nI (by omega) (by decide), nm_e (nm_r (nI_1 i) (ih (i + 1) _ (by omega) (by omega) (fun j hj => ?_)))⟩
      by_cases v : j = i
      · rw [v, pk_us]
      · rw [pk_un v]; exact h j (by omega)
theorem hs_s23 {post : SX → Prop} (Q : (Nat → Int32) → Prop) (hQ : ∀ a n, (∀ j, j < 160 → a j = 0) → Q a → wX_startTables_23 post fC fW fL fM fB fR (n + 1) (nI 160) aT aK aV aC aD aE a aN aH aP aQ aO aB aG) (K : ∀ a, (∀ j, j < 160 → a j = 0) → Q a) :
    ∀ n i a, i ≤ 160 → 160 - i < n → (∀ j, j < i → a j = 0) → wX_startTables_23 post fC fW fL fM fB fR n (nI i) aT aK aV aC aD aE a aN aH aP aQ aO aB aG := by
  intro n
  induction n with
  | zero => intro i a _ z; omega
  | succ n ih =>
    intro i a hi hn h
    by_cases e : i = 160
    · subst e
      exact hQ a n h (K a h)
    · have hc : i < 2 ^ 31 := by omega
      simp only [wX_startTables_23, nI_clamp hc, hs_n0]
      refine br_f (nI_ge (b := 160) (by omega) (by decide)) ⟨vp_in_nI (by omega) (by decide), nm_e (nm_r (nI_1 i) (ih (i + 1) _ (by omega) (by omega) (fun j hj => ?_)))⟩
      by_cases v : j = i
      · rw [v, pk_us]
      · rw [pk_un v]; exact h j (by omega)
theorem hs_s2 {post : SX → Prop} (Q : (Nat → Int32) → Prop) (hQ : ∀ a n, (∀ j, j < 8 → a j = -1) → Q a → wX_startTables_2 post fC fW fL fM fB fR (n + 1) (nI 8) aT aK aV a aD aE aS aN aH aP aQ aO aB aG) (K : ∀ a, (∀ j, j < 8 → a j = -1) → Q a) :
    ∀ n i a, i ≤ 8 → 8 - i < n → (∀ j, j < i → a j = -1) → wX_startTables_2 post fC fW fL fM fB fR n (nI i) aT aK aV a aD aE aS aN aH aP aQ aO aB aG := by
  intro n
  induction n with
  | zero => intro i a _ z; omega
  | succ n ih =>
    intro i a hi hn h
    by_cases e : i = 8
    · subst e
      exact hQ a n h (K a h)
    · have hc : i < 2 ^ 31 := by omega
      simp only [wX_startTables_2, nI_clamp hc, hs_nm1]
      refine br_f (nI_ge (b := 8) (by omega) (by decide)) ⟨vp_in_nI (by omega) (by decide), nm_e (nm_r (nI_1 i) (ih (i + 1) _ (by omega) (by omega) (fun j hj => ?_)))⟩
      by_cases v : j = i
      · rw [v, pk_us]
      · rw [pk_un v]; exact h j (by omega)
theorem hs_s118 {post : SX → Prop} (K : ∀ a b, (∀ j, j < 24 → a j = 0) → (∀ j, j < 24 → b j = 0) → ∃ n156 : Nat, wX_startTables_156 post fC fW fL fM 2 2 n156 0 aT aK aV aC aD aE aS aN a aP aQ b aB aG) :
    ∀ n i a b, i ≤ 24 → 24 - i < n → (∀ j, j < i → a j = 0) → (∀ j, j < i → b j = 0) → wX_startTables_118 post fC fW fL fM fB fR n (nI i) aT aK aV aC aD aE aS aN a aP aQ b aB aG := by
  intro n
  induction n with
  | zero => intro i a b _ z; omega
  | succ n ih =>
    intro i a b hi hn h h2
    have hc : i < 2 ^ 31 := by omega
    simp only [wX_startTables_118, nI_clamp hc, hs_o0]
    refine pk_le 24 i (fun z => K a b (fun j hj => h j (by omega)) (fun j hj => h2 j (by omega))) (fun z => ⟨vp_in_nI z (by decide), nm_e ⟨vp_in_nI z (by decide), nm_e (nm_r (nI_1 i) (ih (i + 1) _ _ (by omega) (by omega) (fun j hj => ?_) (fun j hj => ?_)))⟩⟩)
    · by_cases v : j = i
      · rw [v, pk_us]
      · rw [pk_un v]; exact h j (by omega)
    · by_cases v : j = i
      · rw [v, pk_us]
      · rw [pk_un v]; exact h2 j (by omega)
end
end
section
section
variable {fC fW fL fM fB fR : Int32} {aT aK aV aC aD aE aS aN aH aP aQ aO aB aG : Nat → Int32} {T : Nat → Prop}
theorem hs_start0 {post : SX → Prop} (K : ∀ aC aS aN aP aQ aH aO aB, (∀ j, j < 8 → aC j = -1) → (∀ j, j < 160 → aS j = 0) → (∀ j, j < 64 → aN j = -1) → (∀ j, j < 40 → aP j = -1) → (∀ j, j < 32 → aQ j = 0) → (∀ j, j < 24 → aH j = 0) → (∀ j, j < 24 → aO j = 0) → (∀ j, j < 16 → aB j = -1) →
    post (fC, fW, 0, 0, 2, 2, aT, aK, aV, aC, aD, aE, aS, aN, aH, aP, aQ, aO, aB, aG)) : wpX_startTables post (fC, fW, fL, fM, fB, fR, aT, aK, aV, aC, aD, aE, aS, aN, aH, aP, aQ, aO, aB, aG) := by
  unfold wpX_startTables
  dsimp only
  refine ⟨9, hs_s2 (fun a => ∃ n23 : Nat, wX_startTables_23 post fC fW fL fM fB fR n23 0 aT aK aV a aD aE aS aN aH aP aQ aO aB aG) (fun a n _ h => br_t (nI_le (a := 8) (by decide) (by decide)) h) (fun a hC => ⟨161, ?_⟩) 9 0 aC (by decide) (by decide) (fun j hj => absurd hj (by omega))⟩
  refine hs_s23 (fun s => ∃ n55 : Nat, wX_startTables_55 post fC fW 0 0 fB fR n55 0 aT aK aV a aD aE s aN aH aP aQ aO aB aG) (fun _ n _ h => br_t (nI_le (a := 160) (by decide) (by decide)) h) (fun s hS => ⟨65, ?_⟩) 161 0 aS (by decide) (by decide) (fun j hj => absurd hj (by omega))
  refine hs_s55 (fun b => ∃ n76 : Nat, wX_startTables_76 post fC fW 0 0 fB fR n76 0 aT aK aV a aD aE s b aH aP aQ aO aB aG) (fun _ n _ h => br_t (nI_le (a := 64) (by decide) (by decide)) h) (fun b hN => ⟨41, ?_⟩) 65 0 aN (by decide) (by decide) (fun j hj => absurd hj (by omega))
  refine hs_s76 (fun p => ∃ n97 : Nat, wX_startTables_97 post fC fW 0 0 fB fR n97 0 aT aK aV a aD aE s b aH p aQ aO aB aG) (fun _ n _ h => br_t (nI_le (a := 40) (by decide) (by decide)) h) (fun p hP => ⟨33, ?_⟩) 41 0 aP (by decide) (by decide) (fun j hj => absurd hj (by omega))
  refine hs_s97 (fun q => ∃ n118 : Nat, wX_startTables_118 post fC fW 0 0 fB fR n118 0 aT aK aV a aD aE s b aH p q aO aB aG) (fun _ n _ h => br_t (nI_le (a := 32) (by decide) (by decide)) h) (fun q hQ => ⟨25, ?_⟩) 33 0 aQ (by decide) (by decide) (fun j hj => absurd hj (by omega))
  refine hs_s118 (fun c d hH hO => ⟨17, ?_⟩) 25 0 aH aO (by decide) (by decide) (fun j hj => absurd hj (by omega)) (fun j hj => absurd hj (by omega))
  exact hs_s156 (fun g => post (fC, fW, 0, 0, 2, 2, aT, aK, aV, a, aD, aE, s, b, c, p, q, d, g, aG)) (fun _ n _ h => br_t (nI_le (a := 16) (by decide) (by decide)) h) (fun g hB => K _ _ _ _ _ _ _ _ hC hS hN hP hQ hH hO hB) 17 0 aB (by decide) (by decide) (fun j hj => absurd hj (by omega))
end
end
section
section
variable {fC fW fL fM fB fR : Int32} {aT aK aV aC aD aE aS aN aH aP aQ aO aB aG : Nat → Int32} {T : Nat → Prop}
theorem hs_start {post : SX → Prop} (K : ∀ aC aS aN aP aQ aH aO aB, hs_I (fun _ => False) fW 0 0 2 2 aK aC aD aE aS aN aH aP aQ aO aB aG → post (fC, fW, 0, 0, 2, 2, aT, aK, aV, aC, aD, aE, aS, aN, aH, aP, aQ, aO, aB, aG)) : wpX_startTables post (fC, fW, fL, fM, fB, fR, aT, aK, aV, aC, aD, aE, aS, aN, aH, aP, aQ, aO, aB, aG) := by
  refine hs_start0 (fun aC aS aN aP aQ aH aO aB hC hS hN hP hQ hH hO hB => K _ _ _ _ _ _ _ _ ⟨hs_CI_0 hC, ⟨fun _ => 0, hs_PH_0 (fun i hi => ?_), fun x hx => hx.elim⟩, ⟨fun _ => 0, hs_PH_0 (fun i hi => ?_), fun x hx => hx.elim, ?_⟩, ⟨fun _ => 0, hs_PH_0 (fun i hi => ?_), fun x hx => hx.elim, ?_⟩, ⟨fun _ => 0, hs_PH_0 (fun i hi => ?_), fun x hx => hx.elim⟩,
    ⟨fun _ => 0, fun x hx => hx.elim, fun i hi => Or.inl (hN i hi), fun x hx => Or.inl (hH x hx)⟩, ⟨fun _ => 0, fun x hx => hx.elim, fun i hi => Or.inl (hP i hi), fun x hx => Or.inl (hO x hx), fun h hh => ⟨⟨0, by decide, hQ h hh⟩, fun d hd hb => ?_⟩⟩, 2, 2, rfl, rfl, ⟨Or.inl rfl, by decide, by decide, by decide⟩, by decide, hs_CI_0 hB⟩)
  · rw [hS _ (by omega)]; decide
  · rw [hS _ (by omega)]; decide
  · rw [hs_cn_no (fun i hi => by rw [hS _ (by omega)]; decide)]; rfl
  · rw [hS _ (by omega)]; decide
  · rw [hs_cn_no (fun i hi => by rw [hS _ (by omega)]; decide)]; rfl
  · rw [hS _ (by omega)]; decide
  · rw [hQ h hh] at hb
    exact absurd (hs_bt_0 d hd) hb
end
end
section
section
variable {fC fW fL fM fB fR : Int32} {aT aK aV aC aD aE aS aN aH aP aQ aO aB aG : Nat → Int32} {T : Nat → Prop}
/-! find, enter, take -/
theorem hs_find {post : Int32 → Prop} {k : Int32} {e : Nat} (he : e < 8) (I : hs_I T fW fL fM fB fR aK aC aD aE aS aN aH aP aQ aO aB aG) (K : ∀ r, hs_Fd T aK k r → post r) : wpX_find post (fC, fW, fL, fM, fB, fR, aT, aK, aV, aC, aD, aE, aS, aN, aH, aP, aQ, aO, aB, aG) (nI e) k := by
  obtain ⟨I0, I1, I2, I3, I4, I5, I6, I7⟩ := I
  have h : e = 0 ∨ e = 1 ∨ e = 2 ∨ e = 3 ∨ e = 4 ∨ e = 5 ∨ e = 6 ∨ e = 7 := by omega
  unfold wpX_find
  dsimp only
  rcases h with rfl | rfl | rfl | rfl | rfl | rfl | rfl | rfl
  · exact br_f (by decide) (br_f (by decide) (br_t rfl (hs_find0 I0 K)))
  · exact br_f (by decide) (br_f (by decide) (br_f (by decide) (br_t rfl (hs_find1 I1 K))))
  · exact br_f (by decide) (br_f (by decide) (br_f (by decide) (br_f (by decide) (br_t rfl (hs_find2 I2 K)))))
  · exact br_f (by decide) (br_f (by decide) (br_f (by decide) (br_f (by decide) (br_f (by decide) (br_t rfl (hs_find3 I3 K))))))
  · exact br_f (by decide) (br_f (by decide) (br_f (by decide) (br_f (by decide) (br_f (by decide) (br_f (by decide) (br_t rfl (hs_find4 I4 K)))))))
  · exact br_f (by decide) (br_f (by decide) (br_f (by decide) (br_f (by decide) (br_f (by decide) (br_f (by decide) (br_f (by decide) (br_t rfl (hs_find5 I5 K))))))))
  · exact br_f (by decide) (br_f (by decide) (br_f (by decide) (br_f (by decide) (br_f (by decide) (br_f (by decide) (br_f (by decide) (br_f (by decide) (br_t rfl (hs_find6 I6 K)))))))))
  · exact br_f (by decide) (br_f (by decide) (br_f (by decide) (br_f (by decide) (br_f (by decide) (br_f (by decide) (br_f (by decide) (br_f (by decide) (br_f (by decide) (br_t rfl (hs_find7 I7 K))))))))))
end
end
section
section
variable {fC fW fL fM fB fR : Int32} {aT aK aV aC aD aE aS aN aH aP aQ aO aB aG : Nat → Int32} {T : Nat → Prop}
theorem hs_enter {post : SX → Prop} {x : Nat} (hx : x < 24) (hT : ¬ T x) (I : hs_I T fW fL fM fB fR aK aC aD aE aS aN aH aP aQ aO aB aG)
    (K : ∀ fL fM fB fR aC aD aE aS aN aH aP aQ aO aB aG, hs_I (fun y => T y ∨ y = x) fW fL fM fB fR aK aC aD aE aS aN aH aP aQ aO aB aG → post (fC, fW, fL, fM, fB, fR, aT, aK, aV, aC, aD, aE, aS, aN, aH, aP, aQ, aO, aB, aG)) : wpX_enter post (fC, fW, fL, fM, fB, fR, aT, aK, aV, aC, aD, aE, aS, aN, aH, aP, aQ, aO, aB, aG) (nI x) := by
  obtain ⟨I0, I1, I2, I3, I4, I5, I6, I7⟩ := I
  unfold wpX_enter
  refine hs_add0 hx hT I0 (fun c d J0 => ?_)
  refine hs_add1 hx hT I1 (fun e1 s1 J1 f1 g1 => ?_)
  refine hs_add2 hx hT (hs_I2_cong I2 (fun _ _ => rfl) (fun i hi => g1 _ (by omega)) (fun i hi => f1 _ (by omega))) (fun l e2 s2 J2 f2 g2 => ?_)
  refine hs_add3 hx hT (hs_I3_cong I3 (fun _ _ => rfl) (fun i hi => (hs_fr_t' g1 g2 _ (by omega) (by omega))) (fun i hi => (hs_fr_t' f1 f2 _ (by omega) (by omega)))) (fun m e3 s3 J3 f3 g3 => ?_)
  refine hs_add4 hx hT (hs_I4_cong I4 (fun _ _ => rfl) (fun i hi => (g3 _ (by omega)).trans (hs_fr_t' g1 g2 _ (by omega) (by omega))) (fun i hi => (f3 _ (by omega)).trans (hs_fr_t' f1 f2 _ (by omega) (by omega)))) (fun e4 s4 J4 f4 g4 => ?_)
  refine hs_add5 hx hT I5 (fun ne st J5 => ?_)
  refine hs_add6 hx hT I6 (fun re rs rf J6 => ?_)
  refine hs_add7 hx hT I7 (fun b r c7 d7 J7 => ?_)
  refine K _ _ _ _ _ _ _ _ _ _ _ _ _ _ _ ⟨J0, hs_I1_cong J1 (fun _ _ => rfl) (fun i hi => ?_) (fun i hi => ?_), hs_I2_cong J2 (fun _ _ => rfl) (fun i hi => ?_) (fun i hi => ?_), hs_I3_cong J3 (fun _ _ => rfl) (fun i hi => g4 _ (by omega)) (fun i hi => f4 _ (by omega)), J4, J5, J6, J7⟩
  · rw [g4 _ (by omega), g3 _ (by omega), g2 _ (by omega)]
  · rw [f4 _ (by omega), f3 _ (by omega), f2 _ (by omega)]
  · rw [g4 _ (by omega), g3 _ (by omega)]
  · rw [f4 _ (by omega), f3 _ (by omega)]
end
end
section
section
variable {fC fW fL fM fB fR : Int32} {aT aK aV aC aD aE aS aN aH aP aQ aO aB aG : Nat → Int32} {T : Nat → Prop}
theorem hs_take {post : SX → Prop} {x : Nat} (hx : x < 24) (hT : T x) (KI : ∀ x y, T x → T y → aK x = aK y → x = y) (hth : ∀ y, T y ↔ (y < 24 ∧ ¬ aT y = 0)) (I : hs_I T fW fL fM fB fR aK aC aD aE aS aN aH aP aQ aO aB aG)
    (K : ∀ fL fM fB fR aC aD aE aS aN aH aP aQ aO aB aG, hs_I (fun y => T y ∧ y ≠ x) fW fL fM fB fR aK aC aD aE aS aN aH aP aQ aO aB aG → post (fC - 1, fW, fL, fM, fB, fR, upd aT x 0, aK, aV, aC, aD, aE, aS, aN, aH, aP, aQ, aO, aB, aG)) : wpX_take post (fC, fW, fL, fM, fB, fR, aT, aK, aV, aC, aD, aE, aS, aN, aH, aP, aQ, aO, aB, aG) (nI x) := by
  obtain ⟨I0, I1, I2, I3, I4, I5, I6, I7⟩ := I
  have h2 : ∀ y, (y < 24 ∧ ¬ aT y = 0 ∧ ¬ aK y = aK x) ↔ (T y ∧ y ≠ x) := fun y => by
    rw [hth y]
    constructor
    · intro z
      exact ⟨⟨z.1, z.2.1⟩, fun v => z.2.2 (by rw [v])⟩
    · intro z
      exact ⟨z.1.1, z.1.2, fun v => z.2 (KI _ _ ((hth y).mpr z.1) hT v)⟩
  unfold wpX_take
  have hv : vp_in (nI x) 24 := vp_in_nI hx (by decide)
  have cx : (nI x).toNatClampNeg = x := nI_clamp (by omega)
  refine And.intro hv (nm_r (congrArg aK cx) ?_)
  refine hs_rem0 hx hT I0 (fun c d J0 => ?_)
  refine hs_rem1 hT KI I1 (fun e1 s1 J1 f1 g1 => ?_)
  refine hs_rem2 hT KI h2 (hs_I2_cong I2 (fun _ _ => rfl) (fun i hi => g1 _ (by omega)) (fun i hi => f1 _ (by omega))) (fun l e2 s2 J2 f2 g2 => ?_)
  refine hs_rem3 hT KI h2 (hs_I3_cong I3 (fun _ _ => rfl) (fun i hi => (hs_fr_t' g1 g2 _ (by omega) (by omega))) (fun i hi => (hs_fr_t' f1 f2 _ (by omega) (by omega)))) (fun m e3 s3 J3 f3 g3 => ?_)
  refine hs_rem4 hT KI (hs_I4_cong I4 (fun _ _ => rfl) (fun i hi => (g3 _ (by omega)).trans (hs_fr_t' g1 g2 _ (by omega) (by omega))) (fun i hi => (f3 _ (by omega)).trans (hs_fr_t' f1 f2 _ (by omega) (by omega)))) (fun e4 s4 J4 f4 g4 => ?_)
  refine hs_rem5 hx hT I5 (fun ne st J5 => ?_)
  refine hs_rem6 hx hT I6 (fun re rs rf J6 => ?_)
  refine hs_rem7 hx hT I7 (fun c7 d7 J7 => ?_)
  refine And.intro hv (nm_r (e' := upd aT x 0) (by rw [cx, hs_o0]) (nm_e (K _ _ _ _ _ _ _ _ _ _ _ _ _ _ _ ⟨J0, hs_I1_cong J1 (fun _ _ => rfl) (fun i hi => ?_) (fun i hi => ?_), hs_I2_cong J2 (fun _ _ => rfl) (fun i hi => ?_) (fun i hi => ?_), hs_I3_cong J3 (fun _ _ => rfl) (fun i hi => g4 _ (by omega)) (fun i hi => f4 _ (by omega)), J4, J5, J6, J7⟩)))
  · rw [g4 _ (by omega), g3 _ (by omega), g2 _ (by omega)]
  · rw [f4 _ (by omega), f3 _ (by omega), f2 _ (by omega)]
  · rw [g4 _ (by omega), g3 _ (by omega)]
  · rw [f4 _ (by omega), f3 _ (by omega)]
end
end
section
/-! X's state against the set T of its entries; what X's questions answer -/
def hs_X (T : Nat → Prop) (fC fW fL fM fB fR : Int32) (aT aK aV aC aD aE aS aN aH aP aQ aO aB aG : Nat → Int32) : Prop :=
  hs_I T fW fL fM fB fR aK aC aD aE aS aN aH aP aQ aO aB aG ∧ (∀ x, T x ↔ (x < 24 ∧ ¬ aT x = 0)) ∧ (∀ x y, T x → T y → aK x = aK y → x = y) ∧ (∀ x, T x → ∀ e, e < 8 → aV (e * 24 + x) = aV x) ∧ fC = nI (hs_cn T 24)
/-- the least key of T, or 0 -/
def hs_Mn (T : Nat → Prop) (K : Nat → Int32) (r : Int32) : Prop := ((∀ x, ¬ T x) ∧ r = 0) ∨ ∃ b, T b ∧ r = K b ∧ ∀ x, T x → K b ≤ K x
theorem hs_isE1 {post : Int32 → Prop} {e : Nat} (he : e < 8) (K : post 1) : wpX_isEngine post (nI e) := br_f (nI_pos (by omega)) (br_f (nI_ge (b := 8) he (by decide)) K)
theorem hs_isE0 {post : Int32 → Prop} {v : Int32} (hv : ¬ ∃ e, e < 8 ∧ v = nI e) (K : post 0) : wpX_isEngine post v := by
  rcases pk_ix v (n := 8) (by decide) with h | h | h
  · exact br_t h K
  · exact br_c (fun _ => K) (fun _ => br_t h K)
  · exact absurd h hv
section
variable {fC fW fL fM fB fR : Int32} {aT aK aV aC aD aE aS aN aH aP aQ aO aB aG : Nat → Int32} {T : Nat → Prop}
theorem hs_findy {post : Int32 → Prop} {e x : Nat} (X : hs_X T fC fW fL fM fB fR aT aK aV aC aD aE aS aN aH aP aQ aO aB aG) (he : e < 8) (hx : T x) (K : post (nI x)) : wpX_find post (fC, fW, fL, fM, fB, fR, aT, aK, aV, aC, aD, aE, aS, aN, aH, aP, aQ, aO, aB, aG) (nI e) (aK x) := hs_find he X.1 (fun r h => by
  rcases h with ⟨y, hy, ey, rfl⟩ | ⟨hn, _⟩
  · rw [X.2.2.1 y x hy hx ey]; exact K
  · exact absurd rfl (hn x hx))
theorem hs_findn {post : Int32 → Prop} {k : Int32} {e : Nat} (X : hs_X T fC fW fL fM fB fR aT aK aV aC aD aE aS aN aH aP aQ aO aB aG) (he : e < 8) (hn : ∀ x, T x → ¬ aK x = k) (K : post (-1)) : wpX_find post (fC, fW, fL, fM, fB, fR, aT, aK, aV, aC, aD, aE, aS, aN, aH, aP, aQ, aO, aB, aG) (nI e) k := hs_find he X.1 (fun r h => by
  rcases h with ⟨y, hy, ey, rfl⟩ | ⟨_, rfl⟩
  · exact absurd ey (hn y hy)
  · exact K)
theorem hs_X24 (X : hs_X T fC fW fL fM fB fR aT aK aV aC aD aE aS aN aH aP aQ aO aB aG) {x : Nat} (hx : T x) : x < 24 := ((X.2.1 x).mp hx).1
theorem hs_has1 {post : Int32 → Prop} {e x : Nat} (X : hs_X T fC fW fL fM fB fR aT aK aV aC aD aE aS aN aH aP aQ aO aB aG) (he : e < 8) (hx : T x) (K : post 1) : wpX_has post (fC, fW, fL, fM, fB, fR, aT, aK, aV, aC, aD, aE, aS, aN, aH, aP, aQ, aO, aB, aG) (nI e) (aK x) := by
  unfold wpX_has
  dsimp only
  exact hs_isE1 he (br_f hs_10 (hs_findy X he hx (br_f (nI_pos (by have := hs_X24 X hx; omega)) K)))
theorem hs_has0 {post : Int32 → Prop} {k : Int32} {e : Nat} (X : hs_X T fC fW fL fM fB fR aT aK aV aC aD aE aS aN aH aP aQ aO aB aG) (he : e < 8) (hn : ∀ x, T x → ¬ aK x = k) (K : post 0) : wpX_has post (fC, fW, fL, fM, fB, fR, aT, aK, aV, aC, aD, aE, aS, aN, aH, aP, aQ, aO, aB, aG) (nI e) k := by
  unfold wpX_has
  dsimp only
  exact hs_isE1 he (br_f hs_10 (hs_findn X he hn (br_t hs_m1n K)))
theorem hs_hasE {post : Int32 → Prop} {v k : Int32} (hv : ¬ ∃ e, e < 8 ∧ v = nI e) (K : post 0) : wpX_has post (fC, fW, fL, fM, fB, fR, aT, aK, aV, aC, aD, aE, aS, aN, aH, aP, aQ, aO, aB, aG) v k := by
  unfold wpX_has
  dsimp only
  exact hs_isE0 hv (br_t rfl K)
theorem hs_get1 {post : Int32 → Prop} {e x : Nat} (X : hs_X T fC fW fL fM fB fR aT aK aV aC aD aE aS aN aH aP aQ aO aB aG) (he : e < 8) (hx : T x) (K : post (aV x)) : wpX_get post (fC, fW, fL, fM, fB, fR, aT, aK, aV, aC, aD, aE, aS, aN, aH, aP, aQ, aO, aB, aG) (nI e) (aK x) := by
  unfold wpX_get
  dsimp only
  have h24 := hs_X24 X hx
  refine hs_isE1 he (br_f hs_10 (hs_findy X he hx ?_))
  unfold wX_get_17
  rw [hs_t24, nI_add, nI_clamp (by omega), X.2.2.2.1 x hx e he]
  exact br_t (nI_pos' (by omega)) ⟨vp_in_nI (by omega) (by decide), K⟩
theorem hs_get0 {post : Int32 → Prop} {k : Int32} {e : Nat} (X : hs_X T fC fW fL fM fB fR aT aK aV aC aD aE aS aN aH aP aQ aO aB aG) (he : e < 8) (hn : ∀ x, T x → ¬ aK x = k) (K : post 0) : wpX_get post (fC, fW, fL, fM, fB, fR, aT, aK, aV, aC, aD, aE, aS, aN, aH, aP, aQ, aO, aB, aG) (nI e) k := by
  unfold wpX_get
  dsimp only
  exact hs_isE1 he (br_f hs_10 (hs_findn X he hn (br_f hs_m1p K)))
theorem hs_getE {post : Int32 → Prop} {v k : Int32} (hv : ¬ ∃ e, e < 8 ∧ v = nI e) (K : post 0) : wpX_get post (fC, fW, fL, fM, fB, fR, aT, aK, aV, aC, aD, aE, aS, aN, aH, aP, aQ, aO, aB, aG) v k := by
  unfold wpX_get
  dsimp only
  exact hs_isE0 hv (br_t rfl (br_f hs_m1p K))
theorem hs_cntl {post : Int32 → Prop} {v : Int32} {e : Nat} (X : hs_X T fC fW fL fM fB fR aT aK aV aC aD aE aS aN aH aP aQ aO aB aG) (he : e < 8) (K : post (nI (hs_cn (fun x => T x ∧ aV x = v) 24))) :
    ∀ n i, i ≤ 24 → 24 - i < n → wX_count_15 post (nI e) v fC fW fL fM fB fR aT aK aV aC aD aE aS aN aH aP aQ aO aB aG n (nI (hs_cn (fun x => T x ∧ aV x = v) i)) (nI i) := by
  intro n
  induction n with
  | zero => intro i _ z; omega
  | succ n ih =>
    intro i hi hn
    have hc : i < 2 ^ 31 := by omega
    simp only [wX_count_15, nI_clamp hc]
    refine pk_le 24 i (fun z => ?_) (fun z => ?_)
    · have : i = 24 := by omega
      subst this
      exact K
    · have hv : vp_in (nI i) 24 := vp_in_nI z (by decide)
      have I := ih (i + 1) (by omega) (by omega)
      refine ⟨hv, br_c (fun e0 => ?_) (fun e0 => ?_)⟩
      · rw [hs_cn_f (P := fun x => T x ∧ aV x = v) (fun q => ((X.2.1 i).mp q.1).2 e0)] at I
        exact nm_r (Int32.add_zero _) (nm_r (nI_1 i) I)
      · have hT : T i := (X.2.1 i).mpr ⟨z, e0⟩
        refine ⟨hv, hs_has1 X he hT (br_f hs_10 ⟨hv, hs_get1 X he hT (br_c (fun ev => ?_) (fun ev => ?_))⟩)⟩
        · rw [hs_cn_t (P := fun x => T x ∧ aV x = v) ⟨hT, ev⟩] at I
          exact nm_r (nI_1 _) (nm_r (nI_1 i) I)
        · rw [hs_cn_f (P := fun x => T x ∧ aV x = v) (fun q => ev q.2)] at I
          exact nm_r (Int32.add_zero _) (nm_r (nI_1 i) I)
theorem hs_cnt1 {post : Int32 → Prop} {v : Int32} {e : Nat} (X : hs_X T fC fW fL fM fB fR aT aK aV aC aD aE aS aN aH aP aQ aO aB aG) (he : e < 8) (K : post (nI (hs_cn (fun x => T x ∧ aV x = v) 24))) : wpX_count post (fC, fW, fL, fM, fB, fR, aT, aK, aV, aC, aD, aE, aS, aN, aH, aP, aQ, aO, aB, aG) (nI e) v := by
  unfold wpX_count
  dsimp only
  exact hs_isE1 he (br_f hs_10 ⟨25, hs_cntl X he K 25 0 (by omega) (by omega)⟩)
theorem hs_cntE {post : Int32 → Prop} {v k : Int32} (hv : ¬ ∃ e, e < 8 ∧ v = nI e) (K : post (-2)) : wpX_count post (fC, fW, fL, fM, fB, fR, aT, aK, aV, aC, aD, aE, aS, aN, aH, aP, aQ, aO, aB, aG) v k := by
  unfold wpX_count
  dsimp only
  exact hs_isE0 hv (br_t rfl K)
theorem hs_suml {post : Int32 → Prop} {e : Nat} (X : hs_X T fC fW fL fM fB fR aT aK aV aC aD aE aS aN aH aP aQ aO aB aG) (he : e < 8) (K : post (hs_sm T aV 24)) :
    ∀ n i, i ≤ 24 → 24 - i < n → wX_sum_4 post (nI e) fC fW fL fM fB fR aT aK aV aC aD aE aS aN aH aP aQ aO aB aG n (hs_sm T aV i) (nI i) := by
  intro n
  induction n with
  | zero => intro i _ z; omega
  | succ n ih =>
    intro i hi hn
    have hc : i < 2 ^ 31 := by omega
    simp only [wX_sum_4, nI_clamp hc]
    refine pk_le 24 i (fun z => ?_) (fun z => hs_isE1 he (br_f hs_10 ?_))
    · have : i = 24 := by omega
      subst this
      exact K
    · have hv : vp_in (nI i) 24 := vp_in_nI z (by decide)
      have I := ih (i + 1) (by omega) (by omega)
      refine ⟨hv, br_c (fun e0 => ?_) (fun e0 => ?_)⟩
      · rw [hs_sm_f (P := T) (fun q => ((X.2.1 i).mp q).2 e0)] at I
        exact nm_r (Int32.add_zero _) (nm_r (nI_1 i) I)
      · have hT : T i := (X.2.1 i).mpr ⟨z, e0⟩
        rw [hs_sm_t (P := T) hT] at I
        exact ⟨hv, hs_get1 X he hT (nm_e (nm_r (nI_1 i) I))⟩
theorem hs_sum1 {post : Int32 → Prop} {e : Nat} (X : hs_X T fC fW fL fM fB fR aT aK aV aC aD aE aS aN aH aP aQ aO aB aG) (he : e < 8) (K : post (hs_sm T aV 24)) : wpX_sum post (fC, fW, fL, fM, fB, fR, aT, aK, aV, aC, aD, aE, aS, aN, aH, aP, aQ, aO, aB, aG) (nI e) := by
  unfold wpX_sum
  dsimp only
  exact ⟨25, hs_suml X he K 25 0 (by omega) (by omega)⟩
theorem hs_sumE {post : Int32 → Prop} {v : Int32} (hv : ¬ ∃ e, e < 8 ∧ v = nI e) (K : post 0) : wpX_sum post (fC, fW, fL, fM, fB, fR, aT, aK, aV, aC, aD, aE, aS, aN, aH, aP, aQ, aO, aB, aG) v := by
  unfold wpX_sum
  dsimp only
  exact ⟨1, br_f (by decide) (hs_isE0 hv (br_t rfl K))⟩
theorem hs_leastl {post : Int32 → Prop} (X : hs_X T fC fW fL fM fB fR aT aK aV aC aD aE aS aN aH aP aQ aO aB aG) (K : ∀ r, hs_Mn T aK r → post r) :
    ∀ n i v, i ≤ 24 → 24 - i < n → (((∀ y, y < i → ¬ T y) ∧ v = -1) ∨ ∃ b, T b ∧ v = nI b ∧ ∀ y, y < i → T y → aK b ≤ aK y) → wX_least_4 post fC fW fL fM fB fR aT aK aV aC aD aE aS aN aH aP aQ aO aB aG n v (nI i) := by
  intro n
  induction n with
  | zero => intro i v _ z; omega
  | succ n ih =>
    intro i v hi hn h
    have hc : i < 2 ^ 31 := by omega
    simp only [wX_least_4, nI_clamp hc]
    refine pk_le 24 i (fun z => ?_) (fun z => ?_)
    · rcases h with ⟨h, rfl⟩ | ⟨b, h1, rfl, h2⟩
      · exact br_f hs_m1p (K _ (Or.inl ⟨fun x hx => h x (by have := hs_X24 X hx; omega) hx, rfl⟩))
      · have hb := hs_X24 X h1
        rw [nI_clamp (by omega)]
        exact br_t (nI_pos' (by omega)) ⟨vp_in_nI hb (by decide), K _ (Or.inr ⟨b, h1, rfl, fun x hx => h2 x (by have := hs_X24 X hx; omega) hx⟩)⟩
    · have hv : vp_in (nI i) 24 := vp_in_nI z (by decide)
      refine ⟨hv, br_c (fun e0 => nm_r (nI_1 i) (ih (i + 1) v (by omega) (by omega) ?_)) (fun e0 => ?_)⟩
      · have hT : ¬ T i := fun q => ((X.2.1 i).mp q).2 e0
        rcases h with ⟨h, rfl⟩ | ⟨b, h1, rfl, h2⟩
        · refine Or.inl ⟨fun y hy q => ?_, rfl⟩
          by_cases w : y = i
          · subst w; exact hT q
          · exact h y (by omega) q
        · refine Or.inr ⟨b, h1, rfl, fun y hy q => ?_⟩
          by_cases w : y = i
          · subst w; exact absurd q hT
          · exact h2 y (by omega) q
      · have hT : T i := (X.2.1 i).mpr ⟨z, e0⟩
        rcases h with ⟨h, rfl⟩ | ⟨b, h1, rfl, h2⟩
        · refine br_t hs_m1n (nm_r (nI_1 i) (ih (i + 1) _ (by omega) (by omega) (Or.inr ⟨i, hT, rfl, fun y hy q => ?_⟩)))
          by_cases w : y = i
          · subst w; exact Int32.le_refl _
          · exact absurd q (h y (by omega))
        · have hb := hs_X24 X h1
          rw [nI_clamp (show b < 2 ^ 31 by omega)]
          refine br_f (nI_pos (by omega)) ⟨hv, vp_in_nI hb (by decide), br_c (fun le => nm_r (nI_1 i) (ih (i + 1) _ (by omega) (by omega) (Or.inr ⟨b, h1, rfl, fun y hy q => ?_⟩))) (fun le => nm_r (nI_1 i) (ih (i + 1) _ (by omega) (by omega) (Or.inr ⟨i, hT, rfl, fun y hy q => ?_⟩)))⟩
          · by_cases w : y = i
            · subst w; exact le
            · exact h2 y (by omega) q
          · by_cases w : y = i
            · subst w; exact Int32.le_refl _
            · have l1 := h2 y (by omega) q
              rw [Int32.le_iff_toInt_le] at l1 le ⊢
              omega
theorem hs_least {post : Int32 → Prop} (X : hs_X T fC fW fL fM fB fR aT aK aV aC aD aE aS aN aH aP aQ aO aB aG) (K : ∀ r, hs_Mn T aK r → post r) : wpX_least post (fC, fW, fL, fM, fB, fR, aT, aK, aV, aC, aD, aE, aS, aN, aH, aP, aQ, aO, aB, aG) := by
  unfold wpX_least
  dsimp only
  exact ⟨25, hs_leastl X K 25 0 _ (by omega) (by omega) (Or.inl ⟨fun y hy => absurd hy (by omega), rfl⟩)⟩
theorem hs_agreel {post : Int32 → Prop} {e f : Nat} (X : hs_X T fC fW fL fM fB fR aT aK aV aC aD aE aS aN aH aP aQ aO aB aG) (he : e < 8) (hf : f < 8) (K : post 1) :
    ∀ n i, i ≤ 24 → 24 - i < n → wX_agree_21 post (nI e) (nI f) fC fW fL fM fB fR aT aK aV aC aD aE aS aN aH aP aQ aO aB aG n 1 (nI i) := by
  intro n
  induction n with
  | zero => intro i _ z; omega
  | succ n ih =>
    intro i hi hn
    have hc : i < 2 ^ 31 := by omega
    simp only [wX_agree_21, nI_clamp hc]
    refine pk_le 24 i (fun z => ⟨narrow_b1, K⟩) (fun z => ?_)
    have hv : vp_in (nI i) 24 := vp_in_nI z (by decide)
    have I := ih (i + 1) (by omega) (by omega)
    refine ⟨hv, br_c (fun e0 => ?_) (fun e0 => ⟨hv, ?_⟩)⟩
    · simp only [wX_agree_54, wX_agree_82, nI_clamp hc]
      exact ⟨hv, br_t e0 (br_f hs_10 (br_t trivial (br_t hs_m1n (nm_r (nI_1 i) I))))⟩
    · have hT : T i := (X.2.1 i).mpr ⟨z, e0⟩
      refine hs_findy X he hT ?_
      unfold wX_agree_54
      rw [nI_clamp hc]
      refine ⟨hv, br_f e0 ⟨hv, hs_findy X hf hT ?_⟩⟩
      unfold wX_agree_82
      rw [hs_t24, nI_add, nI_clamp (show e * 24 + i < 2 ^ 31 by omega), hs_t24, nI_add, nI_clamp (show f * 24 + i < 2 ^ 31 by omega), X.2.2.2.1 i hT e he, X.2.2.2.1 i hT f hf]
      exact br_f hs_10 (br_t rfl (br_f (nI_pos (by omega)) ⟨vp_in_nI (by omega) (by decide), vp_in_nI (by omega) (by decide), br_t rfl (nm_r (nI_1 i) I)⟩))
theorem hs_agree1 {post : Int32 → Prop} {e f : Nat} (X : hs_X T fC fW fL fM fB fR aT aK aV aC aD aE aS aN aH aP aQ aO aB aG) (he : e < 8) (hf : f < 8) (K : post 1) : wpX_agree post (fC, fW, fL, fM, fB, fR, aT, aK, aV, aC, aD, aE, aS, aN, aH, aP, aQ, aO, aB, aG) (nI e) (nI f) := by
  unfold wpX_agree
  dsimp only
  exact hs_isE1 he (br_f hs_10 (hs_isE1 hf (br_f hs_10 ⟨25, hs_agreel X he hf K 25 0 (by omega) (by omega)⟩)))
theorem hs_agreeE {post : Int32 → Prop} {v k : Int32} (hv : ¬ ∃ e, e < 8 ∧ v = nI e) (K : post 0) : wpX_agree post (fC, fW, fL, fM, fB, fR, aT, aK, aV, aC, aD, aE, aS, aN, aH, aP, aQ, aO, aB, aG) v k := by
  unfold wpX_agree
  dsimp only
  exact hs_isE0 hv (br_t rfl K)
theorem hs_agreeF {post : Int32 → Prop} {e : Nat} {k : Int32} (he : e < 8) (hv : ¬ ∃ e, e < 8 ∧ k = nI e) (K : post 0) : wpX_agree post (fC, fW, fL, fM, fB, fR, aT, aK, aV, aC, aD, aE, aS, aN, aH, aP, aQ, aO, aB, aG) (nI e) k := by
  unfold wpX_agree
  dsimp only
  exact hs_isE1 he (br_f hs_10 (hs_isE0 hv (br_t rfl K)))
end
end
section
/-! whether all is sound: the counts -/
theorem hs_cn_rel {n m : Nat} {P Q : Nat → Prop} (R : Nat → Nat → Prop) (h : ∀ i, i < n → P i → ∃ j, j < m ∧ Q j ∧ R i j) (u : ∀ i i' j, R i j → R i' j → i = i') : hs_cn P n ≤ hs_cn Q m := by
  have hx : ∀ i, ∃ j, i < n → P i → j < m ∧ Q j ∧ R i j := fun i => by
    by_cases hi : i < n ∧ P i
    · obtain ⟨j, hj⟩ := h i hi.1 hi.2
      exact ⟨j, fun _ _ => hj⟩
    · exact ⟨0, fun z w => absurd ⟨z, w⟩ hi⟩
  refine hs_cn_inj (fun i => (hx i).choose) (fun i hi hp => ?_) (fun i j hi hj p1 p2 e => ?_)
  · have q := (hx i).choose_spec hi hp
    exact ⟨q.1, q.2.1⟩
  · have q1 := (hx i).choose_spec hi p1
    have q2 := (hx j).choose_spec hj p2
    have e2 : (hx i).choose = (hx j).choose := e
    rw [e2] at q1
    exact u _ _ _ q1.2.2 q2.2.2
theorem hs_cn_bij {n m : Nat} {P Q : Nat → Prop} (R : Nat → Nat → Prop) (h : ∀ i, i < n → P i → ∃ j, j < m ∧ Q j ∧ R i j) (h2 : ∀ j, j < m → Q j → ∃ i, i < n ∧ P i ∧ R i j) (u : ∀ i i' j, R i j → R i' j → i = i') (u2 : ∀ i j j', R i j → R i j' → j = j') : hs_cn P n = hs_cn Q m :=
  Nat.le_antisymm (hs_cn_rel R h u) (hs_cn_rel (fun j i => R i j) h2 (fun j j' i a b => u2 i j j' a b))
theorem hs_N5_cnt {T : Nat → Prop} {w : Int32} {k ne st : Nat → Int32} {pos : Nat → Nat} (I : hs_N5 T w k ne st pos) : hs_cn (fun i => ¬ ne i < 0) 64 + hs_cn (fun x => ¬ st x = 0) 24 = hs_cn T 24 := by
  have a := hs_cn_add (fun i => (i < 64 ∧ ¬ ne i < 0) ∨ (64 ≤ i ∧ ¬ st (i - 64) = 0)) 64 24
  have b := hs_cn_eq (n := 64) (P := fun i => (i < 64 ∧ ¬ ne i < 0) ∨ (64 ≤ i ∧ ¬ st (i - 64) = 0)) (Q := fun i => ¬ ne i < 0) (fun i hi => ⟨fun z => z.elim (fun q => q.2) (fun q => absurd q.1 (by omega)), fun z => Or.inl ⟨hi, z⟩⟩)
  have c := hs_cn_eq (n := 24) (P := fun i => (64 + i < 64 ∧ ¬ ne (64 + i) < 0) ∨ (64 ≤ 64 + i ∧ ¬ st (64 + i - 64) = 0)) (Q := fun x => ¬ st x = 0) (fun i hi => by
    rw [Nat.add_sub_cancel_left]
    exact ⟨fun z => z.elim (fun q => absurd q.1 (by omega)) (fun q => q.2), fun z => Or.inr ⟨by omega, z⟩⟩)
  have d : hs_cn T 24 = hs_cn (fun i => (i < 64 ∧ ¬ ne i < 0) ∨ (64 ≤ i ∧ ¬ st (i - 64) = 0)) (64 + 24) := by
    refine hs_cn_bij (fun x i => T x ∧ pos x = i) (fun x _ hx => ?_) (fun i hi hq => ?_) (fun x y i h1 h2 => ?_) (fun x i j h1 h2 => h1.2.symm.trans h2.2)
    · obtain ⟨a1, ⟨e, e1, e2, e3⟩ | ⟨e1, e2⟩⟩ := I.1 x hx
      · have l := hs_ns_lt w (k x) e1
        rw [← e2] at l
        exact ⟨pos x, by omega, Or.inl ⟨l, by rw [e3]; exact nI_pos (by omega)⟩, hx, rfl⟩
      · exact ⟨pos x, by omega, Or.inr ⟨by omega, by rw [e1, Nat.add_sub_cancel_left, e2]; decide⟩, hx, rfl⟩
    · rcases hq with q | q
      · rcases I.2.1 i q.1 with z | ⟨x, x1, x2, x3⟩
        · rw [z] at q; exact absurd hs_m1n q.2
        · exact ⟨x, hs_N5_24 I x1, x1, x1, x2⟩
      · rcases I.2.2 (i - 64) (by omega) with z | z
        · exact absurd z q.2
        · exact ⟨i - 64, by omega, z.2.1, z.2.1, by omega⟩
    · have px := I.1 x h1.1
      have py := I.1 y h2.1
      by_cases hi : i < 64
      · exact hs_ij ((hs_N5_at I h1.1 h1.2 hi).symm.trans (hs_N5_at I h2.1 h2.2 hi)) (by omega) (by omega)
      · rcases px.2 with ⟨e, e1, e2, _⟩ | ⟨e1, _⟩
        · have l := hs_ns_lt w (k x) e1
          omega
        · rcases py.2 with ⟨e, g1, g2, _⟩ | ⟨g1, _⟩
          · have l := hs_ns_lt w (k y) g1
            omega
          · omega
  omega
theorem hs_N6_cnt {T : Nat → Prop} {hm : Nat → Nat} {re rs rf : Nat → Int32} {pos : Nat → Nat} (I : hs_N6 T hm re rs rf pos) (hh : ∀ x, hm x < 32) : hs_cn (fun i => hs_bit (rs (i / 6)) (i % 6)) 192 + hs_cn (fun x => ¬ rf x = 0) 24 = hs_cn T 24 := by
  have a := hs_cn_add (fun i => (i < 192 ∧ hs_bit (rs (i / 6)) (i % 6)) ∨ (192 ≤ i ∧ ¬ rf (i - 192) = 0)) 192 24
  have b := hs_cn_eq (n := 192) (P := fun i => (i < 192 ∧ hs_bit (rs (i / 6)) (i % 6)) ∨ (192 ≤ i ∧ ¬ rf (i - 192) = 0)) (Q := fun i => hs_bit (rs (i / 6)) (i % 6)) (fun i hi => ⟨fun z => z.elim (fun q => q.2) (fun q => absurd q.1 (by omega)), fun z => Or.inl ⟨hi, z⟩⟩)
  have c := hs_cn_eq (n := 24) (P := fun i => (192 + i < 192 ∧ hs_bit (rs ((192 + i) / 6)) ((192 + i) % 6)) ∨ (192 ≤ 192 + i ∧ ¬ rf (192 + i - 192) = 0)) (Q := fun x => ¬ rf x = 0) (fun i hi => by
    rw [Nat.add_sub_cancel_left]
    exact ⟨fun z => z.elim (fun q => absurd q.1 (by omega)) (fun q => q.2), fun z => Or.inr ⟨by omega, z⟩⟩)
  have d : hs_cn T 24 = hs_cn (fun i => (i < 192 ∧ hs_bit (rs (i / 6)) (i % 6)) ∨ (192 ≤ i ∧ ¬ rf (i - 192) = 0)) (192 + 24) := by
    refine hs_cn_bij (fun x i => T x ∧ ((i < 192 ∧ hm x = i / 6 ∧ pos x = i / 6 + i % 6) ∨ (i = 192 + x ∧ pos x = 64 + x))) (fun x _ hx => ?_) (fun i hi hq => ?_) (fun x y i h1 h2 => ?_) (fun x i j h1 h2 => ?_)
    · have hx32 := hh x
      obtain ⟨a1, ⟨e1, e2, e3, e4⟩ | ⟨e1, e2⟩⟩ := I.1 x hx
      · have q1 : (hm x * 6 + (pos x - hm x)) / 6 = hm x := by omega
        have q2 : (hm x * 6 + (pos x - hm x)) % 6 = pos x - hm x := by omega
        refine ⟨hm x * 6 + (pos x - hm x), by omega, Or.inl ⟨by omega, ?_⟩, hx, Or.inl ⟨by omega, by omega, by omega⟩⟩
        rw [q1, q2]
        exact e4
      · exact ⟨192 + x, by omega, Or.inr ⟨by omega, by rw [Nat.add_sub_cancel_left, e2]; decide⟩, hx, Or.inr ⟨rfl, e1⟩⟩
    · rcases hq with q | q
      · obtain ⟨x, x1, x2, x3⟩ := (I.2.2.2 (i / 6) (by omega)).2 (i % 6) (by omega) q.2
        exact ⟨x, hs_N6_24 I x1, x1, x1, Or.inl ⟨q.1, x2, x3⟩⟩
      · rcases I.2.2.1 (i - 192) (by omega) with z | z
        · exact absurd z q.2
        · exact ⟨i - 192, by omega, z.2.1, z.2.1, Or.inr ⟨by omega, z.2.2⟩⟩
    · obtain ⟨t1, p1⟩ := h1
      obtain ⟨t2, p2⟩ := h2
      rcases p1 with p1 | p1
      · rcases p2 with p2 | p2
        · have l : i / 6 + i % 6 < 40 := by omega
          exact hs_ij ((hs_N6_at I t1 p1.2.2 l).2.2.1.symm.trans (hs_N6_at I t2 p2.2.2 l).2.2.1) (by have := hs_N6_24 I t1; omega) (by have := hs_N6_24 I t2; omega)
        · omega
      · rcases p2 with p2 | p2
        · omega
        · omega
    · obtain ⟨t1, p1⟩ := h1
      obtain ⟨t2, p2⟩ := h2
      have := hh x
      omega
  omega
section
variable {fC fW fL fM fB fR : Int32} {aT aK aV aC aD aE aS aN aH aP aQ aO aB aG : Nat → Int32} {T : Nat → Prop}
/-! places -/
theorem hs_takenPlacesl {post : Int32 → Prop} {e : Nat} (he : e < 5) (K : post (nI (hs_cn (fun i => aS (e * 32 + i) = 1) 32))) :
    ∀ n i, i ≤ 32 → 32 - i < n → wX_takenPlaces_4 post (nI e) fC fW fL fM fB fR aT aK aV aC aD aE aS aN aH aP aQ aO aB aG n (nI (hs_cn (fun i => aS (e * 32 + i) = 1) i)) (nI i) := by
  intro n
  induction n with
  | zero => intro i _ z; omega
  | succ n ih =>
    intro i hi hn
    have hc : e * 32 + i < 2 ^ 31 := by omega
    simp only [wX_takenPlaces_4, hs_t32, nI_add, nI_clamp hc]
    refine pk_le 32 i (fun z => ?_) (fun z => ⟨vp_in_nI (by omega) (by decide), ?_⟩)
    · have : i = 32 := by omega
      subst this
      exact K
    · have I := ih (i + 1) (by omega) (by omega)
      refine br_c (fun q => ?_) (fun q => ?_)
      · rw [hs_cn_t (P := fun i => aS (e * 32 + i) = 1) q] at I
        exact nm_r (nI_1 _) (nm_r (nI_1 i) I)
      · rw [hs_cn_f (P := fun i => aS (e * 32 + i) = 1) q] at I
        exact nm_r (Int32.add_zero _) (nm_r (nI_1 i) I)
theorem hs_takenPlaces {post : Int32 → Prop} {e : Nat} (he : e < 5) (K : post (nI (hs_cn (fun i => aS (e * 32 + i) = 1) 32))) : wpX_takenPlaces post (fC, fW, fL, fM, fB, fR, aT, aK, aV, aC, aD, aE, aS, aN, aH, aP, aQ, aO, aB, aG) (nI e) := by
  unfold wpX_takenPlaces
  dsimp only
  exact ⟨33, hs_takenPlacesl he K 33 0 (by omega) (by omega)⟩
theorem hs_leftPlacesl {post : Int32 → Prop} {e : Nat} (he : e < 5) (K : post (nI (hs_cn (fun i => aS (e * 32 + i) = 2) 32))) :
    ∀ n i, i ≤ 32 → 32 - i < n → wX_leftPlaces_4 post (nI e) fC fW fL fM fB fR aT aK aV aC aD aE aS aN aH aP aQ aO aB aG n (nI (hs_cn (fun i => aS (e * 32 + i) = 2) i)) (nI i) := by
  intro n
  induction n with
  | zero => intro i _ z; omega
  | succ n ih =>
    intro i hi hn
    have hc : e * 32 + i < 2 ^ 31 := by omega
    simp only [wX_leftPlaces_4, hs_t32, nI_add, nI_clamp hc]
    refine pk_le 32 i (fun z => ?_) (fun z => ⟨vp_in_nI (by omega) (by decide), ?_⟩)
    · have : i = 32 := by omega
      subst this
      exact K
    · have I := ih (i + 1) (by omega) (by omega)
      refine br_c (fun q => ?_) (fun q => ?_)
      · rw [hs_cn_t (P := fun i => aS (e * 32 + i) = 2) q] at I
        exact nm_r (nI_1 _) (nm_r (nI_1 i) I)
      · rw [hs_cn_f (P := fun i => aS (e * 32 + i) = 2) q] at I
        exact nm_r (Int32.add_zero _) (nm_r (nI_1 i) I)
theorem hs_leftPlaces {post : Int32 → Prop} {e : Nat} (he : e < 5) (K : post (nI (hs_cn (fun i => aS (e * 32 + i) = 2) 32))) : wpX_leftPlaces post (fC, fW, fL, fM, fB, fR, aT, aK, aV, aC, aD, aE, aS, aN, aH, aP, aQ, aO, aB, aG) (nI e) := by
  unfold wpX_leftPlaces
  dsimp only
  exact ⟨33, hs_leftPlacesl he K 33 0 (by omega) (by omega)⟩
/-! chains -/
theorem hs_ic17 {post : Int32 → Prop} {J : Int32 → Int32 → Prop} {b : Nat} (hth : ∀ x, T x ↔ (x < 24 ∧ ¬ aT x = 0)) : ∀ (l : List Nat) (v : Int32) (n c : Nat), l.length < n → hs_lk aD l v → (∀ x, x ∈ l → T x) → J (nI (c + l.length)) (nI (b + 1)) → wX_inChains_17 post J (nI b) fC fW fL fM fB fR aT aK aV aC aD aE aS aN aH aP aQ aO aB aG n (nI c) v
  | _, _, 0, _, hn, _, _, _ => absurd hn (by omega)
  | [], v, n + 1, c, _, h, _, K => by
    have e : v = -1 := h
    subst e
    exact br_t hs_m1n (nm_r (nI_1 b) K)
  | x :: l, v, n + 1, c, hn, h, hT, K => by
    obtain ⟨rfl, hx, h⟩ := h
    have hx2 : x < 2 ^ 31 := by omega
    have hv : vp_in (nI x) 24 := vp_in_nI hx (by decide)
    simp only [wX_inChains_17, wX_inChains_37, nI_clamp hx2]
    refine br_f (nI_pos hx2) ⟨hv, br_f ((hth x).mp (hT x List.mem_cons_self)).2 (nm_r (nI_1 c) ⟨hv, nm_e (hs_ic17 hth l _ n (c + 1) ?_ h (fun y hy => hT y (List.mem_cons_of_mem _ hy)) ?_)⟩)⟩
    · rw [List.length_cons] at hn; omega
    · rw [List.length_cons] at K
      rw [show c + 1 + l.length = c + (l.length + 1) by omega]
      exact K
theorem hs_ic4 {post : Int32 → Prop} (hth : ∀ x, T x ↔ (x < 24 ∧ ¬ aT x = 0)) (I : hs_CI (fun x => hs_m fW (aK x) 0 % 8) 8 T aC aD) (K : post (nI (hs_cn T 24))) :
    ∀ n b, b ≤ 8 → 8 - b < n → wX_inChains_4 post fC fW fL fM fB fR aT aK aV aC aD aE aS aN aH aP aQ aO aB aG n (nI (hs_cn (fun x => T x ∧ hs_m fW (aK x) 0 % 8 < b) 24)) (nI b) := by
  intro n
  induction n with
  | zero => intro i _ z; omega
  | succ n ih =>
    intro b hb hn
    have hc : b < 2 ^ 31 := by omega
    simp only [wX_inChains_4, nI_clamp hc]
    refine pk_le 8 b (fun z => ?_) (fun z => ⟨vp_in_nI z (by decide), ?_⟩)
    · rw [hs_cn_eq (P := fun x => T x ∧ hs_m fW (aK x) 0 % 8 < b) (Q := T) (n := 24) (fun x _ => ⟨fun q => q.1, fun q => ⟨q, Nat.lt_of_lt_of_le (Nat.mod_lt _ (by decide)) z⟩⟩)]
      exact K
    · obtain ⟨l, h1, h2, h3⟩ := I b z
      refine nm_e ⟨l.length + 1, hs_ic17 hth l _ _ _ (by omega) h1 (fun x hx => ((h3 x).mp hx).1) ?_⟩
      have J := ih (b + 1) (by omega) (by omega)
      rw [hs_cn_or (P := fun x => T x ∧ hs_m fW (aK x) 0 % 8 < b) (Q := fun x => T x ∧ hs_m fW (aK x) 0 % 8 = b) (R := fun x => T x ∧ hs_m fW (aK x) 0 % 8 < b + 1) (n := 24)
        (fun x _ => ⟨fun q => by rcases Nat.lt_or_ge (hs_m fW (aK x) 0 % 8) b with w | w; exact Or.inl ⟨q.1, w⟩; exact Or.inr ⟨q.1, by omega⟩, fun q => q.elim (fun w => ⟨w.1, by omega⟩) (fun w => ⟨w.1, by omega⟩)⟩) (fun x _ q w => by omega)] at J
      rw [hs_len (P := fun x => T x ∧ hs_m fW (aK x) 0 % 8 = b) (n := 24) h2 h3 (fun y hy => ((hth y).mp hy.1).1)]
      exact J
theorem hs_inChains {post : Int32 → Prop} (hth : ∀ x, T x ↔ (x < 24 ∧ ¬ aT x = 0)) (I : hs_CI (fun x => hs_m fW (aK x) 0 % 8) 8 T aC aD) (K : post (nI (hs_cn T 24))) : wpX_inChains post (fC, fW, fL, fM, fB, fR, aT, aK, aV, aC, aD, aE, aS, aN, aH, aP, aQ, aO, aB, aG) := by
  unfold wpX_inChains
  dsimp only
  have h := hs_ic4 (post := post) (fC := fC) (fW := fW) (fL := fL) (fM := fM) (fB := fB) (fR := fR) (aT := aT) (aK := aK) (aV := aV) (aC := aC) (aD := aD) (aE := aE) (aS := aS) (aN := aN) (aH := aH) (aP := aP) (aQ := aQ) (aO := aO) (aB := aB) (aG := aG) hth I K 9 0 (by omega) (by omega)
  rw [hs_cn_no (fun x _ q => by omega)] at h
  exact ⟨9, h⟩
theorem hs_ib19 {post : Int32 → Prop} {J : Int32 → Int32 → Prop} {b rs bk : Nat} (hr : hs_BR rs bk) (hb : b < 16) (hth : ∀ x, T x ↔ (x < 24 ∧ ¬ aT x = 0)) : ∀ (l : List Nat) (v : Int32) (n c : Nat), l.length < n → hs_lk aG l v → (∀ x, x ∈ l → T x ∧ hs_bo rs bk (hs_m fW (aK x) 9) = b) → J (nI (c + l.length)) (nI (b + 1)) → wX_inBuckets_19 post J (nI b) fC fW fL fM (nI bk) (nI rs) aT aK aV aC aD aE aS aN aH aP aQ aO aB aG n (nI c) v
  | _, _, 0, _, hn, _, _, _ => absurd hn (by omega)
  | [], v, n + 1, c, _, h, _, K => by
    have e : v = -1 := h
    subst e
    exact br_t hs_m1n (nm_r (nI_1 b) K)
  | x :: l, v, n + 1, c, hn, h, hT, K => by
    obtain ⟨rfl, hx, h⟩ := h
    have hx2 : x < 2 ^ 31 := by omega
    have hv : vp_in (nI x) 24 := vp_in_nI hx (by decide)
    have tx := hT x List.mem_cons_self
    simp only [wX_inBuckets_19, wX_inBuckets_53, nI_clamp hx2]
    refine br_f (nI_pos hx2) ⟨hv, br_f ((hth x).mp tx.1).2 ⟨hv, hs_bucketOf hr ?_⟩⟩
    rw [tx.2]
    refine br_t rfl (nm_r (nI_1 c) ⟨hv, nm_e (hs_ib19 hr hb hth l _ n (c + 1) ?_ h (fun y hy => hT y (List.mem_cons_of_mem _ hy)) ?_)⟩)
    · rw [List.length_cons] at hn; omega
    · rw [List.length_cons] at K
      rw [show c + 1 + l.length = c + (l.length + 1) by omega]
      exact K
theorem hs_ib4 {post : Int32 → Prop} {rs bk : Nat} (hr : hs_BR rs bk) (hth : ∀ x, T x ↔ (x < 24 ∧ ¬ aT x = 0)) (I : hs_CI (fun x => hs_bo rs bk (hs_m fW (aK x) 9)) 16 T aB aG) (K : post (nI (hs_cn T 24))) :
    ∀ n b, b ≤ bk → bk - b < n → wX_inBuckets_4 post fC fW fL fM (nI bk) (nI rs) aT aK aV aC aD aE aS aN aH aP aQ aO aB aG n (nI (hs_cn (fun x => T x ∧ hs_bo rs bk (hs_m fW (aK x) 9) < b) 24)) (nI b) := by
  have h16 := hr.2.2.2
  intro n
  induction n with
  | zero => intro i _ z; omega
  | succ n ih =>
    intro b hb hn
    have hc : b < 2 ^ 31 := by omega
    simp only [wX_inBuckets_4, nI_clamp hc]
    refine pk_le bk b (fun z => ?_) (fun z => ⟨vp_in_nI (by omega) (by decide), ?_⟩)
    · rw [hs_cn_eq (P := fun x => T x ∧ hs_bo rs bk (hs_m fW (aK x) 9) < b) (Q := T) (n := 24) (fun x _ => ⟨fun q => q.1, fun q => ⟨q, Nat.lt_of_lt_of_le (hs_bo_lt hr _) z⟩⟩)]
      exact K
    · obtain ⟨l, h1, h2, h3⟩ := I b (by omega)
      refine nm_e ⟨l.length + 1, hs_ib19 hr (by omega) hth l _ _ _ (by omega) h1 (fun x hx => (h3 x).mp hx) ?_⟩
      have J := ih (b + 1) (by omega) (by omega)
      rw [hs_cn_or (P := fun x => T x ∧ hs_bo rs bk (hs_m fW (aK x) 9) < b) (Q := fun x => T x ∧ hs_bo rs bk (hs_m fW (aK x) 9) = b) (R := fun x => T x ∧ hs_bo rs bk (hs_m fW (aK x) 9) < b + 1) (n := 24)
        (fun x _ => ⟨fun q => by rcases Nat.lt_or_ge (hs_bo rs bk (hs_m fW (aK x) 9)) b with w | w; exact Or.inl ⟨q.1, w⟩; exact Or.inr ⟨q.1, by omega⟩, fun q => q.elim (fun w => ⟨w.1, by omega⟩) (fun w => ⟨w.1, by omega⟩)⟩) (fun x _ q w => by omega)] at J
      rw [hs_len (P := fun x => T x ∧ hs_bo rs bk (hs_m fW (aK x) 9) = b) (n := 24) h2 h3 (fun y hy => ((hth y).mp hy.1).1)]
      exact J
theorem hs_inBuckets {post : Int32 → Prop} (hth : ∀ x, T x ↔ (x < 24 ∧ ¬ aT x = 0)) (I : hs_I7 T fW fB fR aK aB aG) (K : post (nI (hs_cn T 24))) : wpX_inBuckets post (fC, fW, fL, fM, fB, fR, aT, aK, aV, aC, aD, aE, aS, aN, aH, aP, aQ, aO, aB, aG) := by
  obtain ⟨rs, bk, rfl, rfl, hr, hr2, I⟩ := I
  unfold wpX_inBuckets
  dsimp only
  have h := hs_ib4 (post := post) (fC := fC) (fW := fW) (fL := fL) (fM := fM) (aT := aT) (aK := aK) (aV := aV) (aC := aC) (aD := aD) (aE := aE) (aS := aS) (aN := aN) (aH := aH) (aP := aP) (aQ := aQ) (aO := aO) (aB := aB) (aG := aG) hr hth I K (bk + 1) 0 (by omega) (by omega)
  rw [hs_cn_no (fun x _ q => by omega)] at h
  exact ⟨bk + 1, h⟩
end
end
section
/-! whether all is sound: the nests, the near ones, the far ones, all -/
theorem hs_v32 {i : Nat} (h : i < 2 ^ 31) : nI i / 32 = nI (i / 32) := pk_div (d := 32) h (by decide) (by decide)
theorem hs_ns_div (w k : Int32) {e : Nat} (he : e < 2) : hs_ns w k e / 32 = e := by
  unfold hs_ns
  have := Nat.mod_lt (hs_m w k (6 + e)) (show 0 < 32 by decide)
  omega
section
variable {fC fW fL fM fB fR : Int32} {aT aK aV aC aD aE aS aN aH aP aQ aO aB aG : Nat → Int32} {T : Nat → Prop} {pos : Nat → Nat}
theorem hs_areNestsSoundb {post : Int32 → Prop} (t : Nat) (hC : fC = nI (t + hs_cn (fun x => ¬ aH x = 0) 24)) (K : post 1) :
    ∀ n i, i ≤ 24 → 24 - i < n → wX_areNestsSound_79 post 1 fC fW fL fM fB fR aT aK aV aC aD aE aS aN aH aP aQ aO aB aG n (nI (t + hs_cn (fun x => ¬ aH x = 0) i)) (nI i) := by
  intro n
  induction n with
  | zero => intro i _ z; omega
  | succ n ih =>
    intro i hi hn
    have hc : i < 2 ^ 31 := by omega
    simp only [wX_areNestsSound_79, nI_clamp hc]
    refine pk_le 24 i (fun z => ?_) (fun z => ⟨vp_in_nI z (by decide), ?_⟩)
    · have : i = 24 := by omega
      subst this
      exact br_f hs_10 (br_t hC.symm K)
    · have I := ih (i + 1) (by omega) (by omega)
      refine br_c (fun q => ?_) (fun q => ?_)
      · rw [hs_cn_f (P := fun x => ¬ aH x = 0) (fun w => w q)] at I
        exact nm_r (Int32.add_zero _) (nm_r (nI_1 i) I)
      · rw [hs_cn_t (P := fun x => ¬ aH x = 0) q] at I
        exact nm_r (nI_1 _) (nm_r (nI_1 i) I)
theorem hs_isNearSoundb {post : Int32 → Prop} (t : Nat) (hC : fC = nI (t + hs_cn (fun x => ¬ aO x = 0) 24)) (K : post 1) :
    ∀ n i, i ≤ 24 → 24 - i < n → wX_isNearSound_101 post 1 fC fW fL fM fB fR aT aK aV aC aD aE aS aN aH aP aQ aO aB aG n (nI (t + hs_cn (fun x => ¬ aO x = 0) i)) (nI i) := by
  intro n
  induction n with
  | zero => intro i _ z; omega
  | succ n ih =>
    intro i hi hn
    have hc : i < 2 ^ 31 := by omega
    simp only [wX_isNearSound_101, nI_clamp hc]
    refine pk_le 24 i (fun z => ?_) (fun z => ⟨vp_in_nI z (by decide), ?_⟩)
    · have : i = 24 := by omega
      subst this
      exact br_f hs_10 (br_t hC.symm K)
    · have I := ih (i + 1) (by omega) (by omega)
      refine br_c (fun q => ?_) (fun q => ?_)
      · rw [hs_cn_f (P := fun x => ¬ aO x = 0) (fun w => w q)] at I
        exact nm_r (Int32.add_zero _) (nm_r (nI_1 i) I)
      · rw [hs_cn_t (P := fun x => ¬ aO x = 0) q] at I
        exact nm_r (nI_1 _) (nm_r (nI_1 i) I)
theorem hs_ans6 {post : Int32 → Prop} (hth : ∀ x, T x ↔ (x < 24 ∧ ¬ aT x = 0)) (I : hs_N5 T fW aK aN aH pos) (hC : fC = nI (hs_cn T 24)) (K : post 1) :
    ∀ n i, i ≤ 64 → 64 - i < n → wX_areNestsSound_6 post fC fW fL fM fB fR aT aK aV aC aD aE aS aN aH aP aQ aO aB aG n (nI (hs_cn (fun i => ¬ aN i < 0) i)) 1 (nI i) := by
  intro n
  induction n with
  | zero => intro i _ z; omega
  | succ n ih =>
    intro i hi hn
    have hc : i < 2 ^ 31 := by omega
    simp only [wX_areNestsSound_6, nI_clamp hc]
    refine pk_le 64 i (fun z => ?_) (fun z => ?_)
    · have : i = 64 := by omega
      subst this
      have hb := hs_areNestsSoundb (fC := fC) (fW := fW) (fL := fL) (fM := fM) (fB := fB) (fR := fR) (aT := aT) (aK := aK) (aV := aV) (aC := aC) (aD := aD) (aE := aE) (aS := aS) (aN := aN) (aH := aH) (aP := aP) (aQ := aQ) (aO := aO) (aB := aB) (aG := aG) (post := post) (hs_cn (fun i => ¬ aN i < 0) 64) (by rw [hs_N5_cnt I]; exact hC) K 25 0 (by omega) (by omega)
      rw [show hs_cn (fun i => ¬ aN i < 0) 64 + hs_cn (fun x => ¬ aH x = 0) 0 = hs_cn (fun i => ¬ aN i < 0) 64 from Nat.add_zero _] at hb
      exact ⟨25, hb⟩
    · have hv : vp_in (nI i) 64 := vp_in_nI z (by decide)
      have J := ih (i + 1) (by omega) (by omega)
      refine ⟨hv, br_c (fun q => ?_) (fun q => ?_)⟩
      · rw [hs_cn_f (P := fun i => ¬ aN i < 0) (fun w => w q)] at J
        exact nm_r (nI_1 i) J
      · rw [hs_cn_t (P := fun i => ¬ aN i < 0) q] at J
        rcases I.2.1 i z with e | ⟨x, x1, x2, x3⟩
        · rw [e] at q; exact absurd hs_m1n q
        · have hx := hs_N5_24 I x1
          have hvx : vp_in (nI x) 24 := vp_in_nI hx (by decide)
          rw [x3, nI_clamp (show x < 2 ^ 31 by omega)]
          refine nm_r (nI_1 _) (br_f hs_10 ⟨hv, hvx, br_f ((hth x).mp x1).2 ⟨hv, hvx, hs_d32, ?_⟩⟩)
          rw [hs_v32 hc]
          refine hs_nestOf2 (i / 32) ?_
          have e : hs_ns fW (aK x) (i / 32) = i := by
            rcases (I.1 x x1).2 with ⟨e, e1, e2, e3⟩ | ⟨e1, _⟩
            · rw [← x2, e2, hs_ns_div _ _ e1]
            · omega
          rw [e]
          exact br_t rfl (nm_r (nI_1 i) J)
theorem hs_areNestsSound {post : Int32 → Prop} (hth : ∀ x, T x ↔ (x < 24 ∧ ¬ aT x = 0)) (I : hs_I5 T fW aK aN aH) (hC : fC = nI (hs_cn T 24)) (K : post 1) : wpX_areNestsSound post (fC, fW, fL, fM, fB, fR, aT, aK, aV, aC, aD, aE, aS, aN, aH, aP, aQ, aO, aB, aG) := by
  obtain ⟨pos, I⟩ := I
  unfold wpX_areNestsSound
  dsimp only
  exact ⟨65, hs_ans6 hth I hC K 65 0 (by omega) (by omega)⟩
theorem hs_ins15 {post : Int32 → Prop} {J : Int32 → Int32 → Int32 → Prop} (hth : ∀ x, T x ↔ (x < 24 ∧ ¬ aT x = 0)) (I : hs_N6 T (fun x => hs_m fW (aK x) 8 % 32) aP aQ aO pos) {h : Nat} (hh : h < 32)
    (KJ : J (nI (hs_cn (fun i => hs_bit (aQ (i / 6)) (i % 6)) ((h + 1) * 6))) 1 (nI (h + 1))) :
    ∀ n d, d ≤ 6 → 6 - d < n → wX_isNearSound_15 post J (nI h) fC fW fL fM fB fR aT aK aV aC aD aE aS aN aH aP aQ aO aB aG n (nI (hs_cn (fun i => hs_bit (aQ (i / 6)) (i % 6)) (h * 6 + d))) 1 (nI d) := by
  intro n
  induction n with
  | zero => intro i _ z; omega
  | succ n ih =>
    intro d hd hn
    have hc : h < 2 ^ 31 := by omega
    have hc2 : h + d < 2 ^ 31 := by omega
    simp only [wX_isNearSound_15, nI_add, nI_clamp hc, nI_clamp hc2]
    refine pk_le 6 d (fun z => ?_) (fun z => ⟨vp_in_nI hh (by decide), ?_⟩)
    · have : d = 6 := by omega
      subst this
      rw [show h * 6 + 6 = (h + 1) * 6 by omega]
      exact nm_r (nI_1 h) KJ
    · have G := ih (d + 1) (by omega) (by omega)
      have q1 : (h * 6 + d) / 6 = h := by omega
      have q2 : (h * 6 + d) % 6 = d := by omega
      have e6 : h * 6 + (d + 1) = h * 6 + d + 1 := by omega
      rw [e6] at G
      refine br_c (fun e => ?_) (fun e => ?_)
      · rw [hs_cn_f (P := fun i => hs_bit (aQ (i / 6)) (i % 6)) (by rw [q1, q2]; exact fun w => w e)] at G
        exact nm_r (nI_1 d) G
      · rw [hs_cn_t (P := fun i => hs_bit (aQ (i / 6)) (i % 6)) (by rw [q1, q2]; exact e)] at G
        obtain ⟨x, x1, x2, x3⟩ := (I.2.2.2 h hh).2 d z e
        have a := hs_N6_at I x1 x3 (by omega)
        have hx := hs_N6_24 I x1
        refine ⟨vp_in_nI (by omega) (by decide), nm_r a.2.2.1 (nm_r (nI_1 _) (br_f hs_10 (br_f (nI_pos (by omega)) ⟨vp_in_nI hx (by decide), ?_⟩)))⟩
        rw [nI_clamp (show x < 2 ^ 31 by omega)]
        refine br_f ((hth x).mp x1).2 (hs_home 8 hx ?_)
        dsimp only at x2
        rw [x2]
        exact br_t rfl (nm_r (nI_1 d) G)
theorem hs_ins6 {post : Int32 → Prop} (hth : ∀ x, T x ↔ (x < 24 ∧ ¬ aT x = 0)) (I : hs_N6 T (fun x => hs_m fW (aK x) 8 % 32) aP aQ aO pos) (hC : fC = nI (hs_cn T 24)) (K : post 1) :
    ∀ n h, h ≤ 32 → 32 - h < n → wX_isNearSound_6 post fC fW fL fM fB fR aT aK aV aC aD aE aS aN aH aP aQ aO aB aG n (nI (hs_cn (fun i => hs_bit (aQ (i / 6)) (i % 6)) (h * 6))) 1 (nI h) := by
  intro n
  induction n with
  | zero => intro i _ z; omega
  | succ n ih =>
    intro h hh hn
    simp only [wX_isNearSound_6]
    refine pk_le 32 h (fun z => ?_) (fun z => ?_)
    · have : h = 32 := by omega
      subst this
      have hb := hs_isNearSoundb (fC := fC) (fW := fW) (fL := fL) (fM := fM) (fB := fB) (fR := fR) (aT := aT) (aK := aK) (aV := aV) (aC := aC) (aD := aD) (aE := aE) (aS := aS) (aN := aN) (aH := aH) (aP := aP) (aQ := aQ) (aO := aO) (aB := aB) (aG := aG) (post := post) (hs_cn (fun i => hs_bit (aQ (i / 6)) (i % 6)) 192) (by rw [hs_N6_cnt I (fun _ => Nat.mod_lt _ (by decide))]; exact hC) K 25 0 (by omega) (by omega)
      rw [show hs_cn (fun i => hs_bit (aQ (i / 6)) (i % 6)) 192 + hs_cn (fun x => ¬ aO x = 0) 0 = hs_cn (fun i => hs_bit (aQ (i / 6)) (i % 6)) 192 from Nat.add_zero _] at hb
      rw [show 32 * 6 = 192 from rfl]
      exact ⟨25, hb⟩
    · exact ⟨7, hs_ins15 hth I z (ih (h + 1) (by omega) (by omega)) 7 0 (by omega) (by omega)⟩
theorem hs_isNearSound {post : Int32 → Prop} (hth : ∀ x, T x ↔ (x < 24 ∧ ¬ aT x = 0)) (I : hs_I6 T fW aK aP aQ aO) (hC : fC = nI (hs_cn T 24)) (K : post 1) : wpX_isNearSound post (fC, fW, fL, fM, fB, fR, aT, aK, aV, aC, aD, aE, aS, aN, aH, aP, aQ, aO, aB, aG) := by
  obtain ⟨pos, I⟩ := I
  unfold wpX_isNearSound
  dsimp only
  exact ⟨33, hs_ins6 hth I hC K 33 0 (by omega) (by omega)⟩
theorem hs_ifs84 {post : Int32 → Prop} {J : Int32 → Int32 → Prop} {i : Nat} {x5 z0 : Int32} (KJ : J 1 (nI (i + 1))) : wX_isFarSound_84 post J 1 (nI i) 0 x5 z0 fC fW fL fM fB fR aT aK aV aC aD aE aS aN aH aP aQ aO aB aG := by
  unfold wX_isFarSound_84
  exact br_f hs_10 (br_t rfl (nm_r (nI_1 i) KJ))
theorem hs_ifs45 {post : Int32 → Prop} {J : Int32 → Int32 → Prop} (I : hs_PH 128 aS aE T pos 32) {i b : Nat} (hb : b < 32) (KJ : J 1 (nI (i + 1))) : wX_isFarSound_45 post J 1 (nI i) (nI b) 0 fC fW fL fM fB fR aT aK aV aC aD aE aS aN aH aP aQ aO aB aG := by
  have hc : 128 + b < 2 ^ 31 := by omega
  unfold wX_isFarSound_45
  rw [hs_p128, nI_clamp hc]
  refine ⟨vp_in_nI (by omega) (by decide), br_c (fun e => ?_) (fun e => ?_)⟩
  · obtain ⟨z, hz, pz⟩ := I.2 b hb (by omega) e
    unfold wX_isFarSound_66
    exact br_f hs_10 (hs_far I hz pz (hs_ifs84 KJ))
  · unfold wX_isFarSound_66
    exact br_t rfl (hs_ifs84 KJ)
theorem hs_ifs4 {post : Int32 → Prop} (I : hs_PH 128 aS aE T pos 32) (R : hs_RH T pos (fun x => hs_m fW (aK x) 5 % 32)) (K : post 1) :
    ∀ n i, i ≤ 32 → 32 - i < n → wX_isFarSound_4 post fC fW fL fM fB fR aT aK aV aC aD aE aS aN aH aP aQ aO aB aG n 1 (nI i) := by
  intro n
  induction n with
  | zero => intro i _ z; omega
  | succ n ih =>
    intro i hi hn
    have hc : 128 + i < 2 ^ 31 := by omega
    have e31 : (nI i + 31) &&& 31 = nI ((i + 31) % 32) := hs_i2 (s := 31) (by omega) (by omega)
    simp only [wX_isFarSound_4, wX_isFarSound_44, hs_p128, nI_clamp hc]
    refine pk_le 32 i (fun z => ⟨narrow_b1, K⟩) (fun z => nm_r e31 ⟨vp_in_nI (by omega) (by decide), ?_⟩)
    have J := ih (i + 1) (by omega) (by omega)
    have hb : (i + 31) % 32 < 32 := Nat.mod_lt _ (by decide)
    refine br_c (fun e => ?_) (fun e => hs_ifs45 I hb J)
    obtain ⟨y, hy, py⟩ := I.2 i z (by omega) e
    have dl : hs_D pos (fun x => hs_m fW (aK x) 5 % 32) y < 32 := Nat.mod_lt _ (by decide)
    refine hs_far I hy py (pk_le _ 0 (fun q => hs_ifs45 I hb J) (fun q => ?_))
    obtain ⟨w, w1, w2, w3⟩ := R y hy (by omega)
    have a := (I.1 w w1).2.2.2.1
    rw [py] at w2
    rw [w2] at a
    have dw : hs_D pos (fun x => hs_m fW (aK x) 5 % 32) w < 32 := Nat.mod_lt _ (by decide)
    have hcb : 128 + (i + 31) % 32 < 2 ^ 31 := by omega
    unfold wX_isFarSound_45
    rw [hs_p128, nI_clamp hcb]
    refine ⟨vp_in_nI (by omega) (by decide), br_t a ?_⟩
    unfold wX_isFarSound_66
    refine br_f hs_10 (hs_far I w1 w2 ?_)
    unfold wX_isFarSound_84
    rw [nI_1 (hs_D pos (fun x => hs_m fW (aK x) 5 % 32) w)]
    exact br_f hs_10 (br_f hs_10 (br_f hs_10 (hs_far I hy py (pk_lt (hs_D pos (fun x => hs_m fW (aK x) 5 % 32) w + 1) (hs_D pos (fun x => hs_m fW (aK x) 5 % 32) y) (fun z2 => absurd z2 (by omega)) (fun _ => nm_r (nI_1 i) J)))))
theorem hs_isFarSound {post : Int32 → Prop} (I : hs_I4 T fW aK aE aS) (K : post 1) : wpX_isFarSound post (fC, fW, fL, fM, fB, fR, aT, aK, aV, aC, aD, aE, aS, aN, aH, aP, aQ, aO, aB, aG) := by
  obtain ⟨pos, I, R⟩ := I
  unfold wpX_isFarSound
  dsimp only
  exact ⟨33, hs_ifs4 I R K 33 0 (by omega) (by omega)⟩
/-! sound -/
theorem hs_so128 {post : Int32 → Prop} {J : Int32 → Int32 → Prop} {e : Nat} (X : hs_X T fC fW fL fM fB fR aT aK aV aC aD aE aS aN aH aP aQ aO aB aG) (he : e < 8) (KJ : J 1 (nI (e + 1))) :
    ∀ n i, i ≤ 24 → 24 - i < n → wX_sound_128 post J (nI e) fC fW fL fM fB fR aT aK aV aC aD aE aS aN aH aP aQ aO aB aG n 1 (nI i) := by
  intro n
  induction n with
  | zero => intro i _ z; omega
  | succ n ih =>
    intro i hi hn
    have hc : i < 2 ^ 31 := by omega
    simp only [wX_sound_128, nI_clamp hc]
    have hI : i < 24 → ∀ x3 : Int32, x3 = nI i + 1 → wX_sound_128 post J (nI e) fC fW fL fM fB fR aT aK aV aC aD aE aS aN aH aP aQ aO aB aG n 1 x3 := fun z => nm_r (nI_1 i) (ih (i + 1) (by omega) (by omega))
    refine pk_le 24 i (fun z => nm_r (nI_1 e) KJ) (fun z => br_f hs_10 ⟨vp_in_nI z (by decide), br_c (fun _ => hI z) (fun q => ⟨vp_in_nI z (by decide), hs_findy X he ((X.2.1 i).mpr ⟨z, q⟩) (br_t rfl (hI z))⟩)⟩)
theorem hs_so120 {post : Int32 → Prop} (X : hs_X T fC fW fL fM fB fR aT aK aV aC aD aE aS aN aH aP aQ aO aB aG) (K : post 1) : ∀ n e, e ≤ 8 → 8 - e < n → wX_sound_120 post fC fW fL fM fB fR aT aK aV aC aD aE aS aN aH aP aQ aO aB aG n 1 (nI e) := by
  intro n
  induction n with
  | zero => intro i _ z; omega
  | succ n ih =>
    intro e he hn
    simp only [wX_sound_120]
    exact pk_le 8 e (fun z => ⟨narrow_b1, K⟩) (fun z => ⟨25, hs_so128 X z (ih (e + 1) (by omega) (by omega)) 25 0 (by omega) (by omega)⟩)
theorem hs_so51 {post : Int32 → Prop} (X : hs_X T fC fW fL fM fB fR aT aK aV aC aD aE aS aN aH aP aQ aO aB aG) (K : post 1) : ∀ n e, 1 ≤ e → e ≤ 5 → 5 - e < n → wX_sound_51 post fC fW fL fM fB fR aT aK aV aC aD aE aS aN aH aP aQ aO aB aG n 1 (nI e) := by
  obtain ⟨⟨I0, ⟨p1, I1, _⟩, ⟨p2, I2, _, L2⟩, ⟨p3, I3, _, L3⟩, ⟨p4, I4, _⟩, I5, I6, I7⟩, X2, X3, X4, X5⟩ := id X
  intro n
  induction n with
  | zero => intro i _ _ z; omega
  | succ n ih =>
    intro e h1 he hn
    simp only [wX_sound_51]
    refine pk_lt 4 e (fun z => br_f hs_10 (hs_leftPlaces (e := 2) (by decide) (br_t L2.symm (hs_leftPlaces (e := 3) (by decide) (br_t L3.symm ⟨9, hs_so120 X K 9 0 (by omega) (by omega)⟩))))) (fun z => br_f hs_10 (hs_takenPlaces (by omega) (br_t ?_ (nm_r (nI_1 e) (ih (e + 1) (by omega) (by omega) (by omega))))))
    have h4 : e = 1 ∨ e = 2 ∨ e = 3 ∨ e = 4 := by omega
    rw [X5]
    rcases h4 with rfl | rfl | rfl | rfl
    · exact congrArg nI (hs_PH_cnt I1)
    · exact congrArg nI (hs_PH_cnt I2)
    · exact congrArg nI (hs_PH_cnt I3)
    · exact congrArg nI (hs_PH_cnt I4)
theorem hs_sound {post : Int32 → Prop} (X : hs_X T fC fW fL fM fB fR aT aK aV aC aD aE aS aN aH aP aQ aO aB aG) (K : post 1) : wpX_sound post (fC, fW, fL, fM, fB, fR, aT, aK, aV, aC, aD, aE, aS, aN, aH, aP, aQ, aO, aB, aG) := by
  obtain ⟨⟨I0, I1, I2, I3, I4, I5, I6, I7⟩, X2, X3, X4, X5⟩ := id X
  unfold wpX_sound
  dsimp only
  exact hs_inChains X2 I0 (br_t X5.symm (hs_inBuckets X2 I7 (br_t X5.symm (hs_areNestsSound X2 I5 X5 (br_f hs_10 (hs_isNearSound X2 I6 X5 (br_f hs_10 (hs_isFarSound I4 (br_f hs_10 ⟨5, hs_so51 X K 5 1 (by omega) (by omega) (by omega)⟩)))))))))
end
end
section
/-! X against a plain map M of keys to values, n keys -/
def hs_XM (n : Nat) (M : Int32 → Int32 → Prop) (fC fW fL fM fB fR : Int32) (aT aK aV aC aD aE aS aN aH aP aQ aO aB aG : Nat → Int32) : Prop :=
  ∃ T : Nat → Prop, hs_X T fC fW fL fM fB fR aT aK aV aC aD aE aS aN aH aP aQ aO aB aG ∧ hs_cn T 24 = n ∧ ∀ k v, M k v ↔ ∃ x, T x ∧ aK x = k ∧ aV x = v
def hs_Mp (M : Int32 → Int32 → Prop) (k v : Int32) : Int32 → Int32 → Prop := fun k' v' => (k' = k ∧ v' = v) ∨ (¬ k' = k ∧ M k' v')
def hs_Md (M : Int32 → Int32 → Prop) (k : Int32) : Int32 → Int32 → Prop := fun k' v' => ¬ k' = k ∧ M k' v'
section
variable {fC fW fL fM fB fR : Int32} {aT aK aV aC aD aE aS aN aH aP aQ aO aB aG : Nat → Int32} {T : Nat → Prop}
theorem hs_storel {post : SX → Prop} {x : Nat} {v : Int32} (hx : x < 24) (K : ∀ a, (∀ e, e < 8 → a (e * 24 + x) = v) → (∀ e y, y < 24 → y ≠ x → a (e * 24 + y) = aV (e * 24 + y)) → post (fC, fW, fL, fM, fB, fR, aT, aK, a, aC, aD, aE, aS, aN, aH, aP, aQ, aO, aB, aG)) :
    ∀ n i a, i ≤ 8 → 8 - i < n → (∀ e, e < i → a (e * 24 + x) = v) → (∀ e y, y < 24 → y ≠ x → a (e * 24 + y) = aV (e * 24 + y)) → wX_store_2 post (nI x) v fC fW fL fM fB fR n (nI i) aT aK a aC aD aE aS aN aH aP aQ aO aB aG := by
  intro n
  induction n with
  | zero => intro i a _ z; omega
  | succ n ih =>
    intro i a hi hn h1 h2
    have hc : i * 24 + x < 2 ^ 31 := by omega
    simp only [wX_store_2, hs_t24, nI_add, nI_clamp hc]
    refine pk_le 8 i (fun z => K a (fun e he => h1 e (by omega)) h2) (fun z => ⟨vp_in_nI (by omega) (by decide), nm_e (nm_r (nI_1 i) (ih (i + 1) _ (by omega) (by omega) (fun e he => ?_) (fun e y hy hyx => ?_)))⟩)
    · by_cases w : e = i
      · rw [w, pk_us]
      · rw [pk_un (by omega)]; exact h1 e (by omega)
    · rw [pk_un (by omega)]; exact h2 e y hy hyx
theorem hs_store {post : SX → Prop} {x : Nat} {v : Int32} (hx : x < 24) (K : ∀ a, (∀ e, e < 8 → a (e * 24 + x) = v) → (∀ e y, y < 24 → y ≠ x → a (e * 24 + y) = aV (e * 24 + y)) → post (fC, fW, fL, fM, fB, fR, aT, aK, a, aC, aD, aE, aS, aN, aH, aP, aQ, aO, aB, aG)) : wpX_store post (fC, fW, fL, fM, fB, fR, aT, aK, aV, aC, aD, aE, aS, aN, aH, aP, aQ, aO, aB, aG) (nI x) v := by
  unfold wpX_store
  dsimp only
  exact ⟨9, hs_storel hx K 9 0 aV (by omega) (by omega) (fun e he => absurd he (by omega)) (fun _ _ _ _ => rfl)⟩
theorem hs_xputA {n : Nat} {M : Int32 → Int32 → Prop} {post : Int32 → SX → Prop} {k v : Int32} (h : hs_XM n M fC fW fL fM fB fR aT aK aV aC aD aE aS aN aH aP aQ aO aB aG) (hp : ∃ v0, M k v0) (K : ∀ fC fW fL fM fB fR aT aK aV aC aD aE aS aN aH aP aQ aO aB aG, hs_XM n (hs_Mp M k v) fC fW fL fM fB fR aT aK aV aC aD aE aS aN aH aP aQ aO aB aG → post (nI n) (fC, fW, fL, fM, fB, fR, aT, aK, aV, aC, aD, aE, aS, aN, aH, aP, aQ, aO, aB, aG)) : wpX_put post (fC, fW, fL, fM, fB, fR, aT, aK, aV, aC, aD, aE, aS, aN, aH, aP, aQ, aO, aB, aG) k v := by
  obtain ⟨T, X, hn, hM⟩ := h
  obtain ⟨v0, hp⟩ := hp
  obtain ⟨x, x1, x2, x3⟩ := (hM k v0).mp hp
  have hx := hs_X24 X x1
  have e : fC = nI n := by rw [← hn]; exact X.2.2.2.2
  unfold wpX_put
  dsimp only
  refine hs_find0 X.1.1 (fun r hr => ?_)
  have er : r = nI x := by
    rcases hr with ⟨y, hy, ey, rfl⟩ | ⟨hno, _⟩
    · rw [X.2.2.1 y x hy x1 (ey.trans x2.symm)]
    · exact absurd x2 (hno x x1)
  subst er
  refine br_t (nI_pos' (by omega)) ?_
  unfold wX_put_67
  refine hs_store hx (fun a h1 h2 => ?_)
  have a0 : ∀ y, y < 24 → y ≠ x → a y = aV y := fun y hy hyx => by
    have := h2 0 y hy hyx
    rw [Nat.zero_mul, Nat.zero_add] at this
    exact this
  have ax : a x = v := by
    have := h1 0 (by decide)
    rw [Nat.zero_mul, Nat.zero_add] at this
    exact this
  have X2 : hs_X T fC fW fL fM fB fR aT aK a aC aD aE aS aN aH aP aQ aO aB aG := ⟨X.1, X.2.1, X.2.2.1, fun y hy e he => by
    by_cases w : y = x
    · rw [w, h1 e he, ax]
    · rw [h2 e y (hs_X24 X hy) w, a0 y (hs_X24 X hy) w]
      exact X.2.2.2.1 y hy e he, X.2.2.2.2⟩
  have g := K _ _ _ _ _ _ _ _ _ _ _ _ _ _ _ _ _ _ _ _ ⟨T, X2, hn, fun k' v' => by
    constructor
    · rintro (⟨w1, w2⟩ | ⟨w1, w2⟩)
      · exact ⟨x, x1, x2.trans w1.symm, ax.trans w2.symm⟩
      · obtain ⟨y, y1, y2, y3⟩ := (hM k' v').mp w2
        have yx : y ≠ x := fun q => w1 (by rw [← y2, q, x2])
        exact ⟨y, y1, y2, (a0 y (hs_X24 X y1) yx).trans y3⟩
    · rintro ⟨y, y1, y2, y3⟩
      by_cases w : y = x
      · rw [w] at y2 y3
        exact Or.inl ⟨y2.symm.trans x2, y3.symm.trans ax⟩
      · rw [a0 y (hs_X24 X y1) w] at y3
        exact Or.inr ⟨fun q => w (X.2.2.1 y x y1 x1 (y2.trans (q.trans x2.symm))), (hM k' v').mpr ⟨y, y1, y2, y3⟩⟩⟩
  rw [← e] at g
  exact g
theorem hs_xabs {n : Nat} {M : Int32 → Int32 → Prop} {k : Int32} (hM : ∀ k v, M k v ↔ ∃ x, T x ∧ aK x = k ∧ aV x = v) (hp : ¬ ∃ v0, M k v0) : ∀ x, T x → ¬ aK x = k := fun x hx e => hp ⟨aV x, (hM k (aV x)).mpr ⟨x, hx, e, rfl⟩⟩
theorem hs_xputB {n : Nat} {M : Int32 → Int32 → Prop} {post : Int32 → SX → Prop} {k v : Int32} (h : hs_XM n M fC fW fL fM fB fR aT aK aV aC aD aE aS aN aH aP aQ aO aB aG) (hp : ¬ ∃ v0, M k v0) (hn : ¬ n < 24) (K : post (-1) (fC, fW, fL, fM, fB, fR, aT, aK, aV, aC, aD, aE, aS, aN, aH, aP, aQ, aO, aB, aG)) : wpX_put post (fC, fW, fL, fM, fB, fR, aT, aK, aV, aC, aD, aE, aS, aN, aH, aP, aQ, aO, aB, aG) k v := by
  obtain ⟨T, X, hc, hM⟩ := h
  have e : fC = nI n := by rw [← hc]; exact X.2.2.2.2
  have l : n ≤ 24 := by rw [← hc]; exact hs_cn_le _ _
  unfold wpX_put
  dsimp only
  refine hs_find0 X.1.1 (fun r hr => ?_)
  have er : r = -1 := by
    rcases hr with ⟨y, hy, ey, _⟩ | ⟨_, er⟩
    · exact absurd ey (hs_xabs (n := n) hM hp y hy)
    · exact er
  subst er
  refine br_f hs_m1p (br_f ?_ K)
  rw [e]
  exact nI_nlt (b := 24) (by omega) (by omega)
theorem hs_xput23 {n : Nat} {M : Int32 → Int32 → Prop} {post : Int32 → SX → Prop} {k v : Int32} (X : hs_X T fC fW fL fM fB fR aT aK aV aC aD aE aS aN aH aP aQ aO aB aG) (hc : hs_cn T 24 = n) (hM : ∀ k v, M k v ↔ ∃ x, T x ∧ aK x = k ∧ aV x = v) (hp : ¬ ∃ v0, M k v0)
    (K : ∀ fC fW fL fM fB fR aT aK aV aC aD aE aS aN aH aP aQ aO aB aG, hs_XM (n + 1) (hs_Mp M k v) fC fW fL fM fB fR aT aK aV aC aD aE aS aN aH aP aQ aO aB aG → post (nI (n + 1)) (fC, fW, fL, fM, fB, fR, aT, aK, aV, aC, aD, aE, aS, aN, aH, aP, aQ, aO, aB, aG)) {F : Nat} (hF : F < 24) (fF : aT F = 0) : ∀ m i, i ≤ F → F - i < m → wX_put_23 post k v fC fW fL fM fB fR aT aK aV aC aD aE aS aN aH aP aQ aO aB aG m (nI i) := by
  have e : fC = nI n := by rw [← hc]; exact X.2.2.2.2
  have ab := hs_xabs (n := n) hM hp
  intro m
  induction m with
  | zero => intro i _ z; omega
  | succ m ih =>
    intro i hi hm
    have hi2 : i < 2 ^ 31 := by omega
    have hv : vp_in (nI i) 24 := vp_in_nI (by omega) (by decide)
    unfold wX_put_23
    rw [nI_clamp hi2]
    refine ⟨hv, br_c (fun e0 => ⟨hv, nm_r (e' := upd aT i 1) (by rw [hs_o1]) ⟨hv, nm_e (nm_r (e' := nI (n + 1)) (by rw [e, nI_1]) ?_)⟩⟩) (fun e0 => nm_r (nI_1 i) (ih (i + 1) ?_ ?_))⟩
    · have hT : ¬ T i := fun q => ((X.2.1 i).mp q).2 e0
      have ne : ∀ y, T y → y ≠ i := fun y hy w => hT (w ▸ hy)
      refine hs_enter (T := T) (by omega) hT (hs_I_cong X.1 (fun y hy => pk_un (ne y hy))) (fun fL fM fB fR aC aD aE aS aN aH aP aQ aO aB aG I2 => ?_)
      show wX_put_67 _ _ _ _ _ _ _ _ _ _ _ _ _ _ _ _ _ _ _ _ _ _ _
      unfold wX_put_67
      refine hs_store (by omega) (fun a h1 h2 => ?_)
      have a0 : ∀ y, y < 24 → y ≠ i → a y = aV y := fun y hy hyx => by
        have := h2 0 y hy hyx
        rw [Nat.zero_mul, Nat.zero_add] at this
        exact this
      have ax : a i = v := by
        have := h1 0 (by decide)
        rw [Nat.zero_mul, Nat.zero_add] at this
        exact this
      have cn1 : hs_cn (fun y => T y ∨ y = i) 24 = n + 1 := by rw [hs_cn_set hT (by omega), hc]
      refine K _ _ _ _ _ _ _ _ _ _ _ _ _ _ _ _ _ _ _ _ ⟨fun y => T y ∨ y = i, ⟨I2, fun y => ?_, fun y z hy hz w => ?_, fun y hy e he => ?_, by rw [cn1]⟩, cn1, fun k' v' => ?_⟩
      · by_cases w : y = i
        · subst w
          rw [pk_us]
          exact ⟨fun _ => ⟨by omega, hs_10⟩, fun _ => Or.inr rfl⟩
        · rw [pk_un w, ← X.2.1 y]
          exact ⟨fun q => q.elim id (fun q => absurd q w), Or.inl⟩
      · rcases hy with hy | hy
        · rcases hz with hz | hz
          · rw [pk_un (ne y hy), pk_un (ne z hz)] at w
            exact X.2.2.1 y z hy hz w
          · rw [hz, pk_us, pk_un (ne y hy)] at w
            exact absurd w (ab y hy)
        · rcases hz with hz | hz
          · rw [hy, pk_us, pk_un (ne z hz)] at w
            exact absurd w.symm (ab z hz)
          · rw [hy, hz]
      · rcases hy with hy | hy
        · rw [h2 e y (hs_X24 X hy) (ne y hy), a0 y (hs_X24 X hy) (ne y hy)]
          exact X.2.2.2.1 y hy e he
        · rw [hy, h1 e he, ax]
      · constructor
        · rintro (⟨w1, w2⟩ | ⟨w1, w2⟩)
          · exact ⟨i, Or.inr rfl, by rw [pk_us]; exact w1.symm, ax.trans w2.symm⟩
          · obtain ⟨y, y1, y2, y3⟩ := (hM k' v').mp w2
            exact ⟨y, Or.inl y1, by rw [pk_un (ne y y1)]; exact y2, (a0 y (hs_X24 X y1) (ne y y1)).trans y3⟩
        · rintro ⟨y, y1, y2, y3⟩
          rcases y1 with y1 | y1
          · rw [pk_un (ne y y1)] at y2
            rw [a0 y (hs_X24 X y1) (ne y y1)] at y3
            exact Or.inr ⟨fun q => ab y y1 (y2.trans q), (hM k' v').mpr ⟨y, y1, y2, y3⟩⟩
          · rw [y1] at y2 y3
            rw [pk_us] at y2
            exact Or.inl ⟨y2.symm, y3.symm.trans ax⟩
    · have : i ≠ F := fun w => e0 (by rw [w]; exact fF)
      omega
    · have : i ≠ F := fun w => e0 (by rw [w]; exact fF)
      omega
theorem hs_xputC {n : Nat} {M : Int32 → Int32 → Prop} {post : Int32 → SX → Prop} {k v : Int32} (h : hs_XM n M fC fW fL fM fB fR aT aK aV aC aD aE aS aN aH aP aQ aO aB aG) (hp : ¬ ∃ v0, M k v0) (hn : n < 24)
    (K : ∀ fC fW fL fM fB fR aT aK aV aC aD aE aS aN aH aP aQ aO aB aG, hs_XM (n + 1) (hs_Mp M k v) fC fW fL fM fB fR aT aK aV aC aD aE aS aN aH aP aQ aO aB aG → post (nI (n + 1)) (fC, fW, fL, fM, fB, fR, aT, aK, aV, aC, aD, aE, aS, aN, aH, aP, aQ, aO, aB, aG)) : wpX_put post (fC, fW, fL, fM, fB, fR, aT, aK, aV, aC, aD, aE, aS, aN, aH, aP, aQ, aO, aB, aG) k v := by
  obtain ⟨T, X, hc, hM⟩ := h
  have e : fC = nI n := by rw [← hc]; exact X.2.2.2.2
  unfold wpX_put
  dsimp only
  refine hs_find0 X.1.1 (fun r hr => ?_)
  have er : r = -1 := by
    rcases hr with ⟨y, hy, ey, _⟩ | ⟨_, er⟩
    · exact absurd ey (hs_xabs (n := n) hM hp y hy)
    · exact er
  subst er
  refine br_f hs_m1p (br_t ?_ ?_)
  · rw [e]; exact nI_lt (b := 24) hn (by decide)
  · have hF : ∃ F, F < 24 ∧ aT F = 0 := by
      refine Classical.byContradiction fun q => ?_
      have := hs_cn_all (P := T) (n := 24) (fun i hi => (X.2.1 i).mpr ⟨hi, fun w => q ⟨i, hi, w⟩⟩)
      omega
    obtain ⟨F, hF, fF⟩ := hF
    exact ⟨F + 1, hs_xput23 X hc hM hp K hF fF (F + 1) 0 (by omega) (by omega)⟩
/-! take -/
theorem hs_takeX {post : SX → Prop} {x : Nat} (X : hs_X T fC fW fL fM fB fR aT aK aV aC aD aE aS aN aH aP aQ aO aB aG) (hx : T x) (K : ∀ fC fL fM fB fR aT aC aD aE aS aN aH aP aQ aO aB aG, hs_X (fun y => T y ∧ y ≠ x) fC fW fL fM fB fR aT aK aV aC aD aE aS aN aH aP aQ aO aB aG → post (fC, fW, fL, fM, fB, fR, aT, aK, aV, aC, aD, aE, aS, aN, aH, aP, aQ, aO, aB, aG)) : wpX_take post (fC, fW, fL, fM, fB, fR, aT, aK, aV, aC, aD, aE, aS, aN, aH, aP, aQ, aO, aB, aG) (nI x) := by
  have h24 := hs_X24 X hx
  refine hs_take h24 hx X.2.2.1 X.2.1 X.1 (fun fL fM fB fR aC aD aE aS aN aH aP aQ aO aB aG I2 => K _ _ _ _ _ _ _ _ _ _ _ _ _ _ _ _ _ ⟨I2, fun y => ?_, fun y z hy hz => X.2.2.1 y z hy.1 hz.1, fun y hy => X.2.2.2.1 y hy.1, ?_⟩)
  · by_cases w : y = x
    · subst w
      rw [pk_us]
      exact ⟨fun q => absurd rfl q.2, fun q => absurd rfl q.2⟩
    · rw [pk_un w, ← X.2.1 y]
      exact ⟨fun q => q.1, fun q => ⟨q, w⟩⟩
  · rw [X.2.2.2.2, hs_cn_del (P := T) hx h24]
    exact nI_pred _
theorem hs_xtake {n : Nat} {M : Int32 → Int32 → Prop} {post : SX → Prop} {x : Nat} {k : Int32} (X : hs_X T fC fW fL fM fB fR aT aK aV aC aD aE aS aN aH aP aQ aO aB aG) (hc : hs_cn T 24 = n) (hM : ∀ k v, M k v ↔ ∃ x, T x ∧ aK x = k ∧ aV x = v) (hx : T x) (hk : aK x = k)
    (K : ∀ fC fW fL fM fB fR aT aK aV aC aD aE aS aN aH aP aQ aO aB aG, hs_XM (n - 1) (hs_Md M k) fC fW fL fM fB fR aT aK aV aC aD aE aS aN aH aP aQ aO aB aG → post (fC, fW, fL, fM, fB, fR, aT, aK, aV, aC, aD, aE, aS, aN, aH, aP, aQ, aO, aB, aG)) : wpX_take post (fC, fW, fL, fM, fB, fR, aT, aK, aV, aC, aD, aE, aS, aN, aH, aP, aQ, aO, aB, aG) (nI x) := by
  refine hs_takeX X hx (fun fC fL fM fB fR aT aC aD aE aS aN aH aP aQ aO aB aG X2 => K _ _ _ _ _ _ _ _ _ _ _ _ _ _ _ _ _ _ _ _ ⟨_, X2, ?_, fun k' v' => ?_⟩)
  · have := hs_cn_del (P := T) hx (hs_X24 X hx)
    omega
  · constructor
    · rintro ⟨w1, w2⟩
      obtain ⟨y, y1, y2, y3⟩ := (hM k' v').mp w2
      exact ⟨y, ⟨y1, fun q => w1 (by rw [← y2, q, hk])⟩, y2, y3⟩
    · rintro ⟨y, y1, y2, y3⟩
      exact ⟨fun q => y1.2 (X.2.2.1 y x y1.1 hx (y2.trans (q.trans hk.symm))), (hM k' v').mpr ⟨y, y1.1, y2, y3⟩⟩
end
end
section
/-! the rest of a division -/
def hs_ro (m k : Int32) : Int32 := if 0 ≤ k - k / m * m then k - k / m * m else k - k / m * m + m
def hs_ry (m k : Int32) : Int32 := ((k - k / m * m) + m) - ((k - k / m * m) + m) / m * m
theorem hs_ro_ry {m k : Int32} (h1 : ¬ m < 1) (h2 : ¬ 1000 < m) : hs_ry m k = hs_ro m k := by
  have i1 : (1 : Int32).toInt = 1 := by decide
  have i2 : (1000 : Int32).toInt = 1000 := by decide
  have i0 : (0 : Int32).toInt = 0 := by decide
  rw [Int32.lt_iff_toInt_lt, i1] at h1
  rw [Int32.lt_iff_toInt_lt, i2] at h2
  have z := rem_toInt k m
  obtain ⟨b1, b2⟩ := tmod_bounds (a := k.toInt) (M := m.toInt) (by omega)
  unfold hs_ry hs_ro
  have w := rem_toInt ((k - k / m * m) + m) m
  generalize k - k / m * m = q at z w ⊢
  have s : (q + m).toInt = q.toInt + m.toInt := by
    rw [Int32.toInt_add]
    exact Int.bmod_eq_of_le (by omega) (by omega)
  rw [s, Int.tmod_eq_emod_of_nonneg (by omega)] at w
  apply Int32.toInt_inj.mp
  rw [w]
  by_cases c : 0 ≤ q
  · rw [if_pos c]
    rw [Int32.le_iff_toInt_le, i0] at c
    rw [Int.add_emod_right, Int.emod_eq_of_lt c (by omega)]
  · rw [if_neg c, s]
    rw [Int32.le_iff_toInt_le, i0] at c
    exact Int.emod_eq_of_lt (by omega) (by omega)
theorem hs_restOf {post : Int32 → Prop} {m k : Int32} (h1 : ¬ m < 1) (K : post (hs_ro m k)) : wpX_restOf post k m := by
  have h0 : ¬ m ≤ 0 := fun z => h1 (by
    have i1 : (1 : Int32).toInt = 1 := by decide
    have i0 : (0 : Int32).toInt = 0 := by decide
    rw [Int32.le_iff_toInt_le, i0] at z
    rw [Int32.lt_iff_toInt_lt, i1]
    omega)
  have hz : ¬ m = 0 := fun z => h0 (by rw [z]; decide)
  unfold wpX_restOf wX_restOf_11
  unfold hs_ro at K
  refine br_f h0 ⟨hz, br_c (fun c => ?_) (fun c => ?_)⟩
  · rw [if_pos c] at K; exact K
  · rw [if_neg c] at K; exact K
end
section
/-! sift, clear, scatter of X against a map -/
def hs_Ms (M : Int32 → Int32 → Prop) (m r : Int32) : Int32 → Int32 → Prop := fun k v => M k v ∧ ¬ hs_ro m k = r
section
variable {fC fW fL fM fB fR : Int32} {aT aK aV aC aD aE aS aN aH aP aQ aO aB aG : Nat → Int32} {T : Nat → Prop}
theorem hs_xsiftl {post : Int32 → SX → Prop} {m r : Int32} {T0 : Nat → Prop} {n0 : Nat} (hT0 : ∀ y, T0 y → y < 24) (h1 : ¬ m < 1)
    (K : ∀ c (T : Nat → Prop) fC fL fM fB fR aT aC aD aE aS aN aH aP aQ aO aB aG, hs_X T fC fW fL fM fB fR aT aK aV aC aD aE aS aN aH aP aQ aO aB aG → (∀ y, T y ↔ T0 y ∧ ¬ hs_ro m (aK y) = r) → c + hs_cn T 24 = n0 → post (nI c) (fC, fW, fL, fM, fB, fR, aT, aK, aV, aC, aD, aE, aS, aN, aH, aP, aQ, aO, aB, aG)) :
    ∀ n i c (T : Nat → Prop) fC fL fM fB fR aT aC aD aE aS aN aH aP aQ aO aB aG, i ≤ 24 → 24 - i < n → hs_X T fC fW fL fM fB fR aT aK aV aC aD aE aS aN aH aP aQ aO aB aG → (∀ y, T y ↔ T0 y ∧ (i ≤ y ∨ ¬ hs_ro m (aK y) = r)) → c + hs_cn T 24 = n0 → wX_sift_29 post m r n (nI c) (nI i) fC fW fL fM fB fR aT aK aV aC aD aE aS aN aH aP aQ aO aB aG := by
  intro n
  induction n with
  | zero => intro i c T fC fL fM fB fR aT aC aD aE aS aN aH aP aQ aO aB aG _ z; omega
  | succ n ih =>
    intro i c T fC fL fM fB fR aT aC aD aE aS aN aH aP aQ aO aB aG hi hn X hT hc
    have hi2 : i < 2 ^ 31 := by omega
    unfold wX_sift_29
    rw [nI_clamp hi2]
    refine pk_le 24 i (fun z => K c T _ _ _ _ _ _ _ _ _ _ _ _ _ _ _ _ _ X (fun y => (hT y).trans ⟨fun q => ⟨q.1, q.2.elim (fun w => absurd (hT0 y q.1) (by omega)) id⟩, fun q => ⟨q.1, Or.inr q.2⟩⟩) hc) (fun z => ?_)
    have hv : vp_in (nI i) 24 := vp_in_nI z (by decide)
    refine ⟨hv, br_c (fun e0 => nm_r (nI_1 i) (ih (i + 1) c T _ _ _ _ _ _ _ _ _ _ _ _ _ _ _ _ _ (by omega) (by omega) X (fun y => ?_) hc)) (fun e0 => ⟨hv, hs_restOf h1 (br_c (fun er => ?_) (fun er => nm_r (nI_1 i) (ih (i + 1) c T _ _ _ _ _ _ _ _ _ _ _ _ _ _ _ _ _ (by omega) (by omega) X (fun y => ?_) hc)))⟩)⟩
    · rw [hT y]
      refine ⟨fun q => ⟨q.1, q.2.elim (fun w => Or.inl ?_) Or.inr⟩, fun q => ⟨q.1, q.2.elim (fun w => Or.inl (by omega)) Or.inr⟩⟩
      have : y ≠ i := fun v => ((X.2.1 y).mp ((hT y).mpr q)).2 (by rw [v]; exact e0)
      omega
    · have hTi : T i := (X.2.1 i).mpr ⟨z, e0⟩
      refine hs_takeX X hTi (fun fC fL fM fB fR aT aC aD aE aS aN aH aP aQ aO aB aG X2 => nm_r (nI_1 c) (nm_r (nI_1 i) (ih (i + 1) (c + 1) _ _ _ _ _ _ _ _ _ _ _ _ _ _ _ _ _ _ (by omega) (by omega) X2 (fun y => ?_) ?_)))
      · rw [hT y]
        constructor
        · rintro ⟨⟨q1, q2⟩, q3⟩
          exact ⟨q1, q2.elim (fun w => Or.inl (by omega)) Or.inr⟩
        · rintro ⟨q1, q2⟩
          refine ⟨⟨q1, q2.elim (fun w => Or.inl (by omega)) Or.inr⟩, fun v => ?_⟩
          subst v
          exact q2.elim (fun w => by omega) (fun w => w er)
      · have := hs_cn_del (P := T) hTi z
        omega
    · rw [hT y]
      refine ⟨fun q => ⟨q.1, q.2.elim (fun w => ?_) Or.inr⟩, fun q => ⟨q.1, q.2.elim (fun w => Or.inl (by omega)) Or.inr⟩⟩
      by_cases v : y = i
      · subst v
        exact Or.inr er
      · exact Or.inl (by omega)
theorem hs_xsift {post : Int32 → SX → Prop} {m r : Int32} {n : Nat} {M : Int32 → Int32 → Prop} (h : hs_XM n M fC fW fL fM fB fR aT aK aV aC aD aE aS aN aH aP aQ aO aB aG) (h1 : ¬ m < 1) (h2 : ¬ 1000 < m) (h3 : ¬ r < 0) (h4 : r < m)
    (K : ∀ c n', c + n' = n → ∀ fC fW fL fM fB fR aT aK aV aC aD aE aS aN aH aP aQ aO aB aG, hs_XM n' (hs_Ms M m r) fC fW fL fM fB fR aT aK aV aC aD aE aS aN aH aP aQ aO aB aG → post (nI c) (fC, fW, fL, fM, fB, fR, aT, aK, aV, aC, aD, aE, aS, aN, aH, aP, aQ, aO, aB, aG)) : wpX_sift post (fC, fW, fL, fM, fB, fR, aT, aK, aV, aC, aD, aE, aS, aN, aH, aP, aQ, aO, aB, aG) m r := by
  obtain ⟨T, X, hc, hM⟩ := h
  unfold wpX_sift
  dsimp only
  refine br_f h1 (br_f h2 (br_f h3 (br_t h4 ⟨25, hs_xsiftl (T0 := T) (n0 := n) (fun y hy => hs_X24 X hy) h1 (fun c T' fC fL fM fB fR aT aC aD aE aS aN aH aP aQ aO aB aG X2 hT e => K c _ e _ _ _ _ _ _ _ _ _ _ _ _ _ _ _ _ _ _ _ _ ⟨T', X2, rfl, fun k v => ?_⟩) 25 0 0 T _ _ _ _ _ _ _ _ _ _ _ _ _ _ _ _ _ (by omega) (by omega) X (fun y => ⟨fun q => ⟨q, Or.inl (by omega)⟩, fun q => q.1⟩) (by omega)⟩)))
  constructor
  · rintro ⟨w1, w2⟩
    obtain ⟨y, y1, y2, y3⟩ := (hM k v).mp w1
    exact ⟨y, (hT y).mpr ⟨y1, by rw [y2]; exact w2⟩, y2, y3⟩
  · rintro ⟨y, y1, y2, y3⟩
    have q := (hT y).mp y1
    exact ⟨(hM k v).mpr ⟨y, q.1, y2, y3⟩, by rw [← y2]; exact q.2⟩
theorem hs_xclearl {post : Int32 → SX → Prop} {x1 : Int32} (K : ∀ fC fW fL fM fB fR aT aK aV aC aD aE aS aN aH aP aQ aO aB aG, hs_XM 0 (fun _ _ => False) fC fW fL fM fB fR aT aK aV aC aD aE aS aN aH aP aQ aO aB aG → post x1 (fC, fW, fL, fM, fB, fR, aT, aK, aV, aC, aD, aE, aS, aN, aH, aP, aQ, aO, aB, aG)) :
    ∀ n i aT, i ≤ 24 → 24 - i < n → (∀ j, j < i → aT j = 0) → wX_clear_7 post x1 fC fW fL fM fB fR n (nI i) aT aK aV aC aD aE aS aN aH aP aQ aO aB aG := by
  intro n
  induction n with
  | zero => intro i aT _ z; omega
  | succ n ih =>
    intro i aT hi hn h
    have hi2 : i < 2 ^ 31 := by omega
    unfold wX_clear_7
    rw [nI_clamp hi2]
    refine pk_le 24 i (fun z => ?_) (fun z => ⟨vp_in_nI z (by decide), nm_r (e' := upd aT i 0) (by rw [hs_o0]) (nm_r (nI_1 i) (ih (i + 1) _ (by omega) (by omega) (fun j hj => ?_)))⟩)
    · refine hs_start (fun aC aS aN aP aQ aH aO aB I => K _ _ _ _ _ _ _ _ _ _ _ _ _ _ _ _ _ _ _ _ ⟨fun _ => False, ⟨I, fun y => ⟨fun q => q.elim, fun q => q.2 (h y (by omega))⟩, fun y _ q => q.elim, fun y q => q.elim, ?_⟩, hs_cn_no (fun _ _ => id), fun k v => ⟨fun q => q.elim, fun ⟨x, q, _⟩ => q.elim⟩⟩)
      rw [hs_cn_no (fun _ _ => id)]
      rfl
    · by_cases v : j = i
      · rw [v, pk_us]
      · rw [pk_un v]; exact h j (by omega)
theorem hs_xclear {post : Int32 → SX → Prop} {n : Nat} {M : Int32 → Int32 → Prop} (h : hs_XM n M fC fW fL fM fB fR aT aK aV aC aD aE aS aN aH aP aQ aO aB aG) (K : ∀ fC fW fL fM fB fR aT aK aV aC aD aE aS aN aH aP aQ aO aB aG, hs_XM 0 (fun _ _ => False) fC fW fL fM fB fR aT aK aV aC aD aE aS aN aH aP aQ aO aB aG → post (nI n) (fC, fW, fL, fM, fB, fR, aT, aK, aV, aC, aD, aE, aS, aN, aH, aP, aQ, aO, aB, aG)) : wpX_clear post (fC, fW, fL, fM, fB, fR, aT, aK, aV, aC, aD, aE, aS, aN, aH, aP, aQ, aO, aB, aG) := by
  obtain ⟨T, X, hc, hM⟩ := h
  have e : fC = nI n := by rw [← hc]; exact X.2.2.2.2
  unfold wpX_clear
  rw [← e] at K
  exact ⟨25, hs_xclearl K 25 0 aT (by omega) (by omega) (fun j hj => absurd hj (by omega))⟩
theorem hs_xscatterl {post : SX → Prop} {n0 : Nat} {M : Int32 → Int32 → Prop} {T0 : Nat → Prop} (hT : ∀ x, T0 x ↔ (x < 24 ∧ ¬ aT x = 0)) (KI : ∀ x y, T0 x → T0 y → aK x = aK y → x = y) (hV : ∀ x, T0 x → ∀ e, e < 8 → aV (e * 24 + x) = aV x) (hc : hs_cn T0 24 = n0) (hM : ∀ k v, M k v ↔ ∃ x, T0 x ∧ aK x = k ∧ aV x = v)
    (K : ∀ fC fW fL fM fB fR aT aK aV aC aD aE aS aN aH aP aQ aO aB aG, hs_XM n0 M fC fW fL fM fB fR aT aK aV aC aD aE aS aN aH aP aQ aO aB aG → post (fC, fW, fL, fM, fB, fR, aT, aK, aV, aC, aD, aE, aS, aN, aH, aP, aQ, aO, aB, aG)) :
    ∀ n i fL fM fB fR aC aD aE aS aN aH aP aQ aO aB aG, i ≤ 24 → 24 - i < n → hs_I (fun y => T0 y ∧ y < i) fW fL fM fB fR aK aC aD aE aS aN aH aP aQ aO aB aG → wX_scatter_16 post n (nI i) (nI (hs_cn (fun y => T0 y ∧ y < i) 24)) fW fL fM fB fR aT aK aV aC aD aE aS aN aH aP aQ aO aB aG := by
  intro n
  induction n with
  | zero => intro i fL fM fB fR aC aD aE aS aN aH aP aQ aO aB aG _ z; omega
  | succ n ih =>
    intro i fL fM fB fR aC aD aE aS aN aH aP aQ aO aB aG hi hn I
    have hi2 : i < 2 ^ 31 := by omega
    unfold wX_scatter_16
    rw [nI_clamp hi2]
    refine pk_le 24 i (fun z => ?_) (fun z => ?_)
    · have e : (fun y => T0 y ∧ y < i) = T0 := funext fun y => propext ⟨fun q => q.1, fun q => ⟨q, by have := ((hT y).mp q).1; omega⟩⟩
      rw [e] at I ⊢
      exact K _ _ _ _ _ _ _ _ _ _ _ _ _ _ _ _ _ _ _ _ ⟨T0, ⟨I, hT, KI, hV, rfl⟩, hc, hM⟩
    · have hv : vp_in (nI i) 24 := vp_in_nI z (by decide)
      refine ⟨hv, br_c (fun e0 => ?_) (fun e0 => ?_)⟩
      · have e : (fun y => T0 y ∧ y < i) = (fun y => T0 y ∧ y < i + 1) := funext fun y => propext ⟨fun q => ⟨q.1, by omega⟩, fun q => ⟨q.1, by
          have : y ≠ i := fun v => ((hT y).mp q.1).2 (by rw [v]; exact e0)
          omega⟩⟩
        rw [e] at I ⊢
        exact nm_r (nI_1 i) (ih (i + 1) _ _ _ _ _ _ _ _ _ _ _ _ _ _ _ (by omega) (by omega) I)
      · have hTi : T0 i := (hT i).mpr ⟨z, e0⟩
        have e : (fun y => (T0 y ∧ y < i) ∨ y = i) = (fun y => T0 y ∧ y < i + 1) := funext fun y => propext ⟨fun q => q.elim (fun w => ⟨w.1, by omega⟩) (fun w => by rw [w]; exact ⟨hTi, by omega⟩), fun q => by
          by_cases v : y = i
          · exact Or.inr v
          · exact Or.inl ⟨q.1, by omega⟩⟩
        have ec : nI (hs_cn (fun y => T0 y ∧ y < i) 24) + 1 = nI (hs_cn (fun y => T0 y ∧ y < i + 1) 24) := by
          rw [nI_1, ← e, hs_cn_set (P := fun y => T0 y ∧ y < i) (fun q => absurd q.2 (by omega)) z]
        refine nm_r ec (hs_enter (T := fun y => T0 y ∧ y < i) z (fun q => absurd q.2 (by omega)) I (fun fL fM fB fR aC aD aE aS aN aH aP aQ aO aB aG I2 => nm_r (nI_1 i) ?_))
        rw [e] at I2
        exact ih (i + 1) _ _ _ _ _ _ _ _ _ _ _ _ _ _ _ (by omega) (by omega) I2
theorem hs_xscatter {post : SX → Prop} {n : Nat} {M : Int32 → Int32 → Prop} {w : Int32} (h : hs_XM n M fC fW fL fM fB fR aT aK aV aC aD aE aS aN aH aP aQ aO aB aG) (K : ∀ fC fW fL fM fB fR aT aK aV aC aD aE aS aN aH aP aQ aO aB aG, hs_XM n M fC fW fL fM fB fR aT aK aV aC aD aE aS aN aH aP aQ aO aB aG → post (fC, fW, fL, fM, fB, fR, aT, aK, aV, aC, aD, aE, aS, aN, aH, aP, aQ, aO, aB, aG)) : wpX_scatter post (fC, fW, fL, fM, fB, fR, aT, aK, aV, aC, aD, aE, aS, aN, aH, aP, aQ, aO, aB, aG) w := by
  obtain ⟨T, X, hc, hM⟩ := h
  unfold wpX_scatter
  refine hs_start (fun aC aS aN aP aQ aH aO aB I => ⟨25, ?_⟩)
  have e : (fun y => T y ∧ y < 0) = (fun _ => False) := funext fun y => propext ⟨fun q => absurd q.2 (by omega), fun q => q.elim⟩
  have g := hs_xscatterl (fW := w) X.2.1 X.2.2.1 X.2.2.2.1 hc hM K 25 0 0 0 2 2 aC aD aE aS aN aH aP aQ aO aB aG (by omega) (by omega) (by rw [e]; exact I)
  rw [e, hs_cn_no (fun _ _ => id)] at g
  exact g
end
end
section
/-! Y against a map M, n keys -/
def hs_YM (n : Nat) (M : Int32 → Int32 → Prop) (gC : Int32) (gK gV : Nat → Int32) : Prop :=
  gC = nI n ∧ n ≤ 24 ∧ (∀ i j, i < n → j < n → gK i = gK j → i = j) ∧ ∀ k v, M k v ↔ ∃ j, j < n ∧ gK j = k ∧ gV j = v
def hs_pv : Nat → Int32
  | 0 => -1
  | i + 1 => nI i
theorem hs_pv_m (i : Nat) : nI i + (-1) = hs_pv i := by
  cases i with
  | zero => decide
  | succ i => exact pk_m1 i
theorem hs_pv_s (i : Nat) : nI i - 1 = hs_pv i := by
  cases i with
  | zero => decide
  | succ i => exact nI_pred i
section
variable {gC : Int32} {gK gV : Nat → Int32} {n : Nat} {M : Int32 → Int32 → Prop}
theorem hs_yfl {post : Int32 → Prop} {k : Int32} (hn : n ≤ 24) (K1 : ∀ j, j < n → gK j = k → post (nI j)) (K2 : (∀ j, j < n → ¬ gK j = k) → post (-1)) :
    ∀ i f, i ≤ n → i < f → (∀ j, i ≤ j → j < n → ¬ gK j = k) → wY_find_7 post k gC gK gV f (hs_pv i) := by
  intro i
  induction i with
  | zero =>
    intro f _ hf h
    obtain ⟨f, rfl⟩ : ∃ g, f = g + 1 := ⟨f - 1, by omega⟩
    exact br_t hs_m1n (K2 (fun j hj => h j (by omega) hj))
  | succ i ih =>
    intro f hi hf h
    obtain ⟨f, rfl⟩ : ∃ g, f = g + 1 := ⟨f - 1, by omega⟩
    have hc : i < 2 ^ 31 := by omega
    show wY_find_7 post k gC gK gV (f + 1) (nI i)
    simp only [wY_find_7, nI_clamp hc]
    refine br_f (nI_pos hc) ⟨vp_in_nI (by omega) (by decide), br_c (fun e => K1 i (by omega) e) (fun e => nm_r (hs_pv_m i) (ih f (by omega) (by omega) (fun j hj hjn => ?_)))⟩
    by_cases w : j = i
    · rw [w]; exact e
    · exact h j (by omega) hjn
theorem hs_yfind {post : Int32 → Prop} {k : Int32} (hn : n ≤ 24) (K1 : ∀ j, j < n → gK j = k → post (nI j)) (K2 : (∀ j, j < n → ¬ gK j = k) → post (-1)) : wpY_find post (nI n, gK, gV) k := by
  unfold wpY_find
  dsimp only
  exact nm_r (hs_pv_s n) ⟨n + 1, hs_yfl hn K1 K2 n (n + 1) (by omega) (by omega) (fun j hj hjn => absurd hjn (by omega))⟩
theorem hs_yfindA {post : Int32 → Prop} {k v : Int32} (Y : hs_YM n M gC gK gV) (hp : M k v) (K : ∀ j, j < n → gK j = k → gV j = v → post (nI j)) : wpY_find post (gC, gK, gV) k := by
  obtain ⟨rfl, hn, D, hM⟩ := Y
  obtain ⟨i, i1, i2, i3⟩ := (hM k v).mp hp
  refine hs_yfind hn (fun j hj e => ?_) (fun h => absurd i2 (h i i1))
  have ij := D i j i1 hj (i2.trans e.symm)
  subst ij
  exact K i hj e i3
theorem hs_yfindB {post : Int32 → Prop} {k : Int32} (Y : hs_YM n M gC gK gV) (hp : ¬ ∃ v, M k v) (K : post (-1)) : wpY_find post (gC, gK, gV) k := by
  obtain ⟨rfl, hn, D, hM⟩ := Y
  exact hs_yfind hn (fun j hj e => absurd ⟨gV j, (hM k (gV j)).mpr ⟨j, hj, e, rfl⟩⟩ hp) (fun _ => K)
theorem hs_yputA {post : Int32 → SY → Prop} {k v : Int32} (Y : hs_YM n M gC gK gV) (hp : ∃ v0, M k v0) (K : ∀ gC gK gV, hs_YM n (hs_Mp M k v) gC gK gV → post (nI n) (gC, gK, gV)) : wpY_put post (gC, gK, gV) k v := by
  obtain ⟨v0, hp⟩ := hp
  unfold wpY_put
  dsimp only
  refine hs_yfindA Y hp (fun j hj e1 e2 => br_t (nI_pos' (by have := Y.2.1; omega)) ?_)
  obtain ⟨rfl, hn, D, hM⟩ := Y
  unfold wY_put_43
  rw [nI_clamp (by omega)]
  refine ⟨vp_in_nI (by omega) (by decide), nm_e (K _ _ _ ⟨rfl, hn, D, fun k' v' => ?_⟩)⟩
  constructor
  · rintro (⟨w1, w2⟩ | ⟨w1, w2⟩)
    · exact ⟨j, hj, e1.trans w1.symm, by rw [pk_us]; exact w2.symm⟩
    · obtain ⟨i, i1, i2, i3⟩ := (hM k' v').mp w2
      have ij : i ≠ j := fun q => w1 (by rw [← i2, q, e1])
      exact ⟨i, i1, i2, by rw [pk_un ij]; exact i3⟩
  · rintro ⟨i, i1, i2, i3⟩
    by_cases w : i = j
    · subst w
      rw [pk_us] at i3
      exact Or.inl ⟨i2.symm.trans e1, i3.symm⟩
    · rw [pk_un w] at i3
      exact Or.inr ⟨fun q => w (D i j i1 hj (i2.trans (q.trans e1.symm))), (hM k' v').mpr ⟨i, i1, i2, i3⟩⟩
theorem hs_yputB {post : Int32 → SY → Prop} {k v : Int32} (Y : hs_YM n M gC gK gV) (hp : ¬ ∃ v0, M k v0) (hn : ¬ n < 24) (K : post (-1) (gC, gK, gV)) : wpY_put post (gC, gK, gV) k v := by
  unfold wpY_put
  dsimp only
  refine hs_yfindB Y hp (br_f hs_m1p (br_f ?_ K))
  rw [Y.1]
  exact nI_nlt (b := 24) (by omega) (by have := Y.2.1; omega)
theorem hs_yputC {post : Int32 → SY → Prop} {k v : Int32} (Y : hs_YM n M gC gK gV) (hp : ¬ ∃ v0, M k v0) (hn : n < 24) (K : ∀ gC gK gV, hs_YM (n + 1) (hs_Mp M k v) gC gK gV → post (nI (n + 1)) (gC, gK, gV)) : wpY_put post (gC, gK, gV) k v := by
  unfold wpY_put
  dsimp only
  refine hs_yfindB Y hp (br_f hs_m1p ?_)
  obtain ⟨rfl, hn24, D, hM⟩ := Y
  have ab : ∀ j, j < n → ¬ gK j = k := fun j hj e => hp ⟨gV j, (hM k (gV j)).mpr ⟨j, hj, e, rfl⟩⟩
  have hv : vp_in (nI n) 24 := vp_in_nI hn (by decide)
  unfold wY_put_43
  rw [nI_clamp (show n < 2 ^ 31 by omega)]
  refine br_t (nI_lt (b := 24) hn (by decide)) ⟨hv, nm_e (nm_r (nI_1 n) ⟨hv, nm_e (K _ _ _ ⟨rfl, by omega, fun i j hi hj e => ?_, fun k' v' => ?_⟩)⟩)⟩
  · by_cases a : i = n
    · by_cases b : j = n
      · omega
      · rw [a, pk_us, pk_un b] at e
        exact absurd e.symm (ab j (by omega))
    · by_cases b : j = n
      · rw [b, pk_us, pk_un a] at e
        exact absurd e (ab i (by omega))
      · rw [pk_un a, pk_un b] at e
        exact D i j (by omega) (by omega) e
  · constructor
    · rintro (⟨w1, w2⟩ | ⟨w1, w2⟩)
      · exact ⟨n, by omega, by rw [pk_us]; exact w1.symm, by rw [pk_us]; exact w2.symm⟩
      · obtain ⟨i, i1, i2, i3⟩ := (hM k' v').mp w2
        exact ⟨i, by omega, by rw [pk_un (by omega)]; exact i2, by rw [pk_un (by omega)]; exact i3⟩
    · rintro ⟨i, i1, i2, i3⟩
      by_cases w : i = n
      · rw [w, pk_us] at i2 i3
        exact Or.inl ⟨i2.symm, i3.symm⟩
      · rw [pk_un w] at i2 i3
        exact Or.inr ⟨fun q => ab i (by omega) (i2.trans q), (hM k' v').mpr ⟨i, by omega, i2, i3⟩⟩
theorem hs_yremA {post : Int32 → SY → Prop} {k : Int32} (Y : hs_YM n M gC gK gV) (hp : ∃ v0, M k v0) (K : ∀ gC gK gV, hs_YM (n - 1) (hs_Md M k) gC gK gV → post 1 (gC, gK, gV)) : wpY_remove post (gC, gK, gV) k := by
  obtain ⟨v0, hp⟩ := hp
  unfold wpY_remove
  dsimp only
  refine hs_yfindA Y hp (fun j hj e1 e2 => br_t (nI_pos' (by have := Y.2.1; omega)) ?_)
  obtain ⟨rfl, hn, D, hM⟩ := Y
  obtain ⟨c, rfl⟩ : ∃ c, n = c + 1 := ⟨n - 1, by omega⟩
  have hvc : vp_in (nI c) 24 := vp_in_nI (by omega) (by decide)
  have hvj : vp_in (nI j) 24 := vp_in_nI (by omega) (by decide)
  refine nm_r (nI_pred c) ?_
  rw [nI_clamp (show c < 2 ^ 31 by omega), nI_clamp (show j < 2 ^ 31 by omega)]
  have g := K (nI c) (upd gK j (gK c)) (upd gV j (gV c)) ⟨rfl, by omega, fun p q hp1 hq1 e => ?_, fun k' v' => ?_⟩
  · exact ⟨hvc, hvj, nm_e ⟨hvc, hvj, nm_e g⟩⟩
  · by_cases a : p = j
    · by_cases b : q = j
      · omega
      · rw [a, pk_us, pk_un b] at e
        have := D c q (by omega) (by omega) e
        omega
    · by_cases b : q = j
      · rw [b, pk_us, pk_un a] at e
        have := D p c (by omega) (by omega) e
        omega
      · rw [pk_un a, pk_un b] at e
        exact D p q (by omega) (by omega) e
  · constructor
    · rintro ⟨w1, w2⟩
      obtain ⟨i, i1, i2, i3⟩ := (hM k' v').mp w2
      have ij : i ≠ j := fun q => w1 (by rw [← i2, q, e1])
      by_cases w : i = c
      · subst w
        exact ⟨j, by omega, by rw [pk_us]; exact i2, by rw [pk_us]; exact i3⟩
      · exact ⟨i, by omega, by rw [pk_un ij]; exact i2, by rw [pk_un ij]; exact i3⟩
    · rintro ⟨i, i1, i2, i3⟩
      by_cases w : i = j
      · rw [w, pk_us] at i2 i3
        refine ⟨fun q => ?_, (hM k' v').mpr ⟨c, by omega, i2, i3⟩⟩
        have := D c j (by omega) hj (i2.trans (q.trans e1.symm))
        omega
      · rw [pk_un w] at i2 i3
        exact ⟨fun q => w (D i j (by omega) hj (i2.trans (q.trans e1.symm))), (hM k' v').mpr ⟨i, by omega, i2, i3⟩⟩
theorem hs_yremB {post : Int32 → SY → Prop} {k : Int32} (Y : hs_YM n M gC gK gV) (hp : ¬ ∃ v0, M k v0) (K : post 0 (gC, gK, gV)) : wpY_remove post (gC, gK, gV) k := by
  unfold wpY_remove
  dsimp only
  exact hs_yfindB Y hp (br_f hs_m1p K)
/-! sift -/
theorem hs_ysiftl {post : Int32 → SY → Prop} {m r : Int32} (hn : n ≤ 24) (h0 : ¬ m = 0) (D : ∀ i j, i < n → j < n → gK i = gK j → i = j)
    (K : ∀ l gK' gV', l ≤ n → (∀ p, p < l → ∃ j, j < n ∧ ¬ hs_ry m (gK j) = r ∧ gK' p = gK j ∧ gV' p = gV j) → (∀ j, j < n → ¬ hs_ry m (gK j) = r → ∃ p, p < l ∧ gK' p = gK j ∧ gV' p = gV j) → (∀ p q, p < l → q < l → gK' p = gK' q → p = q) → post (nI (n - l)) (nI l, gK', gV')) :
    ∀ f l i gK' gV', l ≤ i → i ≤ n → n - i < f → (∀ j, i ≤ j → gK' j = gK j ∧ gV' j = gV j) → (∀ p, p < l → ∃ j, j < i ∧ ¬ hs_ry m (gK j) = r ∧ gK' p = gK j ∧ gV' p = gV j) → (∀ j, j < i → ¬ hs_ry m (gK j) = r → ∃ p, p < l ∧ gK' p = gK j ∧ gV' p = gV j) → (∀ p q, p < l → q < l → gK' p = gK' q → p = q) →
      wY_sift_29 post m r (nI n) f (nI l) (nI i) gK' gV' := by
  intro f
  induction f with
  | zero => intro l i gK' gV' _ _ z; omega
  | succ f ih =>
    intro l i gK' gV' hl hi hf U S F DD
    have hci : i < 2 ^ 31 := by omega
    have hcl : l < 2 ^ 31 := by omega
    simp only [wY_sift_29, nI_clamp hci, nI_clamp hcl]
    refine pk_le n i (fun z => ?_) (fun z => ?_)
    · have e : i = n := by omega
      subst e
      exact nm_r (pk_sub hl) (K l gK' gV' hl S F DD)
    · have hvi : vp_in (nI i) 24 := vp_in_nI (by omega) (by decide)
      have hvl : vp_in (nI l) 24 := vp_in_nI (by omega) (by decide)
      obtain ⟨u1, u2⟩ := U i (Nat.le_refl i)
      rw [u1, u2]
      refine ⟨hvi, h0, h0, br_c (fun e => ?_) (fun e => ⟨hvi, hvl, nm_e ⟨hvi, hvl, nm_e (nm_r (nI_1 l) (nm_r (nI_1 i) (ih (l + 1) (i + 1) _ _ (by omega) (by omega) (by omega) (fun j hj => ?_) (fun p hp => ?_) (fun j hj hk => ?_) (fun p q hp hq e2 => ?_))))⟩⟩)⟩
      · have e1 : hs_ry m (gK i) = r := e
        refine nm_r (nI_1 i) (ih l (i + 1) gK' gV' (by omega) (by omega) (by omega) (fun j hj => U j (by omega)) (fun p hp => ?_) (fun j hj hk => ?_) DD)
        · obtain ⟨j, j1, j2⟩ := S p hp
          exact ⟨j, by omega, j2⟩
        · have : j ≠ i := fun w => hk (by rw [w]; exact e1)
          exact F j (by omega) hk
      · rw [pk_un (by omega), pk_un (by omega)]
        exact U j (by omega)
      · by_cases w : p = l
        · rw [w, pk_us, pk_us]
          exact ⟨i, by omega, e, rfl, rfl⟩
        · rw [pk_un w, pk_un w]
          obtain ⟨j, j1, j2⟩ := S p (by omega)
          exact ⟨j, by omega, j2⟩
      · by_cases w : j = i
        · subst w
          exact ⟨l, by omega, pk_us, pk_us⟩
        · obtain ⟨p, p1, p2, p3⟩ := F j (by omega) hk
          exact ⟨p, by omega, by rw [pk_un (by omega)]; exact p2, by rw [pk_un (by omega)]; exact p3⟩
      · by_cases a : p = l
        · by_cases b : q = l
          · omega
          · rw [a, pk_us, pk_un b] at e2
            obtain ⟨j, j1, _, j3, _⟩ := S q (by omega)
            have := D i j (by omega) (by omega) (e2.trans j3)
            omega
        · by_cases b : q = l
          · rw [b, pk_us, pk_un a] at e2
            obtain ⟨j, j1, _, j3, _⟩ := S p (by omega)
            have := D j i (by omega) (by omega) (j3.symm.trans e2)
            omega
          · rw [pk_un a, pk_un b] at e2
            exact DD p q (by omega) (by omega) e2
theorem hs_ysift {post : Int32 → SY → Prop} {m r : Int32} (Y : hs_YM n M gC gK gV) (h1 : ¬ m < 1) (h2 : ¬ 1000 < m) (h3 : ¬ r < 0) (h4 : r < m)
    (K : ∀ n', n' ≤ n → ∀ gC gK gV, hs_YM n' (hs_Ms M m r) gC gK gV → post (nI (n - n')) (gC, gK, gV)) : wpY_sift post (gC, gK, gV) m r := by
  obtain ⟨rfl, hn, D, hM⟩ := Y
  have h0 : ¬ m = 0 := fun z => h1 (by rw [z]; decide)
  unfold wpY_sift
  dsimp only
  refine br_f h1 (br_f h2 (br_f h3 (br_t h4 ⟨n + 1, hs_ysiftl hn h0 D (fun l gK' gV' hl S F DD => K l hl _ _ _ ⟨rfl, by omega, DD, fun k v => ?_⟩) (n + 1) 0 0 gK gV (by omega) (by omega) (by omega) (fun j _ => ⟨rfl, rfl⟩) (fun p hp => absurd hp (by omega)) (fun j hj => absurd hj (by omega)) (fun p q hp => absurd hp (by omega))⟩)))
  constructor
  · rintro ⟨w1, w2⟩
    obtain ⟨j, j1, j2, j3⟩ := (hM k v).mp w1
    obtain ⟨p, p1, p2, p3⟩ := F j j1 (by rw [hs_ro_ry h1 h2, j2]; exact w2)
    exact ⟨p, p1, p2.trans j2, p3.trans j3⟩
  · rintro ⟨p, p1, p2, p3⟩
    obtain ⟨j, j1, j2, j3, j4⟩ := S p p1
    rw [hs_ro_ry h1 h2, ← j3, p2] at j2
    exact ⟨(hM k v).mpr ⟨j, j1, j3.symm.trans p2, j4.symm.trans p3⟩, j2⟩
/-! questions -/
theorem hs_yE1 {post : Int32 → Prop} {e : Nat} (he : e < 8) (K : post 1) : wpY_engine post (gC, gK, gV) (nI e) := br_f (nI_pos (by omega)) (br_f (nI_nlt (a := 7) (b := e) (by omega) (by omega)) K)
end
end
section
/-! Y's questions, and that both sides of one map answer alike -/
section
variable {gC : Int32} {gK gV : Nat → Int32} {n : Nat} {M : Int32 → Int32 → Prop}
theorem hs_yE0 {post : Int32 → Prop} {v : Int32} (hv : ¬ ∃ e, e < 8 ∧ v = nI e) (K : post 0) : wpY_engine post (gC, gK, gV) v := by
  rcases pk_ix v (n := 8) (by decide) with h | h | h
  · exact br_t h K
  · refine br_c (fun _ => K) (fun _ => br_t ?_ K)
    have i7 : (7 : Int32).toInt = 7 := by decide
    have i8 : (nI 8).toInt = 8 := by decide
    rw [Int32.le_iff_toInt_le, i8] at h
    rw [Int32.lt_iff_toInt_lt, i7]
    omega
  · exact absurd h hv
theorem hs_ycntl {post : Int32 → Prop} {v1 v : Int32} (hn : n ≤ 24) (K : wpY_engine (fun r => ((r = 0 → (post (-2))) ∧ (¬ r = 0 → (post (nI (hs_cn (fun j => gV j = v) n)))))) (nI n, gK, gV) v1) :
    ∀ f i, i ≤ n → n - i < f → wY_count_5 post v1 v (nI n) gK gV f (nI (hs_cn (fun j => gV j = v) i)) (nI i) := by
  intro f
  induction f with
  | zero => intro i _ z; omega
  | succ f ih =>
    intro i hi hf
    have hc : i < 2 ^ 31 := by omega
    simp only [wY_count_5, nI_clamp hc]
    refine pk_le n i (fun z => ?_) (fun z => ⟨vp_in_nI (by omega) (by decide), ?_⟩)
    · have : i = n := by omega
      subst this
      exact K
    · have I := ih (i + 1) (by omega) (by omega)
      refine br_c (fun q => ?_) (fun q => ?_)
      · rw [hs_cn_t (P := fun j => gV j = v) q] at I
        exact nm_r (nI_1 _) (nm_r (nI_1 i) I)
      · rw [hs_cn_f (P := fun j => gV j = v) q] at I
        exact nm_r (nI_1 i) I
theorem hs_ycnt {post : Int32 → Prop} {v1 v : Int32} (Y : hs_YM n M gC gK gV) (K : wpY_engine (fun r => ((r = 0 → (post (-2))) ∧ (¬ r = 0 → (post (nI (hs_cn (fun j => gV j = v) n)))))) (gC, gK, gV) v1) : wpY_count post (gC, gK, gV) v1 v := by
  obtain ⟨rfl, hn, D, hM⟩ := Y
  unfold wpY_count
  dsimp only
  exact ⟨n + 1, hs_ycntl hn K (n + 1) 0 (by omega) (by omega)⟩
theorem hs_ysuml {post : Int32 → Prop} {e : Nat} (he : e < 8) (hn : n ≤ 24) (K : post (hs_sm (fun _ => True) gV n)) :
    ∀ f i, i ≤ n → n - i < f → wY_sum_4 post (nI e) (nI n) gK gV f (hs_sm (fun _ => True) gV i) (nI i) := by
  intro f
  induction f with
  | zero => intro i _ z; omega
  | succ f ih =>
    intro i hi hf
    have hc : i < 2 ^ 31 := by omega
    simp only [wY_sum_4, nI_clamp hc]
    refine pk_le n i (fun z => ?_) (fun z => hs_yE1 he (br_f hs_10 ⟨vp_in_nI (by omega) (by decide), ?_⟩))
    · have : i = n := by omega
      subst this
      exact K
    · have I := ih (i + 1) (by omega) (by omega)
      rw [hs_sm_t (P := fun _ => True) trivial] at I
      exact nm_e (nm_r (nI_1 i) I)
theorem hs_ysum {post : Int32 → Prop} {e : Nat} (Y : hs_YM n M gC gK gV) (he : e < 8) (K : post (hs_sm (fun _ => True) gV n)) : wpY_sum post (gC, gK, gV) (nI e) := by
  obtain ⟨rfl, hn, D, hM⟩ := Y
  unfold wpY_sum
  dsimp only
  exact ⟨n + 1, hs_ysuml he hn K (n + 1) 0 (by omega) (by omega)⟩
theorem hs_ysumE {post : Int32 → Prop} {v : Int32} (Y : hs_YM n M gC gK gV) (hv : ¬ ∃ e, e < 8 ∧ v = nI e) (K : post 0) : wpY_sum post (gC, gK, gV) v := by
  unfold wpY_sum
  dsimp only
  exact ⟨1, br_c (fun _ => K) (fun _ => hs_yE0 hv (br_t rfl K))⟩
theorem hs_yleastl {post : Int32 → Prop} (hn : n ≤ 24) (K : ∀ r, hs_Mn (fun j => j < n) gK r → post r) :
    ∀ f i v, i ≤ n → n - i < f → (∃ b, b < n ∧ v = gK b ∧ ∀ y, y < i → gK b ≤ gK y) → wY_least_20 post (nI n) gK gV f v (nI i) := by
  intro f
  induction f with
  | zero => intro i v _ z; omega
  | succ f ih =>
    rintro i _ hi hf ⟨b, b1, rfl, b2⟩
    have hc : i < 2 ^ 31 := by omega
    simp only [wY_least_20, nI_clamp hc]
    refine pk_le n i (fun z => K _ (Or.inr ⟨b, b1, rfl, fun x hx => b2 x (by have : x < n := hx; omega)⟩)) (fun z => ?_)
    have hv : vp_in (nI i) 24 := vp_in_nI (by omega) (by decide)
    refine ⟨hv, br_c (fun le => nm_r (nI_1 i) (ih (i + 1) _ (by omega) (by omega) ⟨b, b1, rfl, fun y hy => ?_⟩)) (fun le => ⟨hv, nm_e (nm_r (nI_1 i) (ih (i + 1) _ (by omega) (by omega) ⟨i, z, rfl, fun y hy => ?_⟩))⟩)⟩
    · by_cases w : y = i
      · rw [w]; exact le
      · exact b2 y (by omega)
    · by_cases w : y = i
      · rw [w]; exact Int32.le_refl _
      · have l1 := b2 y (by omega)
        rw [Int32.le_iff_toInt_le] at l1 le ⊢
        omega
theorem hs_yleast {post : Int32 → Prop} (Y : hs_YM n M gC gK gV) (K : ∀ r, hs_Mn (fun j => j < n) gK r → post r) : wpY_least post (gC, gK, gV) := by
  obtain ⟨rfl, hn, D, hM⟩ := Y
  unfold wpY_least
  dsimp only
  refine pk_le n 0 (fun z => ⟨1, ?_⟩) (fun z => nm_e ⟨n + 1, hs_yleastl hn K (n + 1) 0 _ (by omega) (by omega) ⟨0, z, rfl, fun y hy => absurd hy (by omega)⟩⟩)
  have e : n = 0 := by omega
  subst e
  exact br_t (nI_le (a := 0) (b := 0) (by omega) (by omega)) (K 0 (Or.inl ⟨fun x hx => absurd hx (by omega), rfl⟩))
theorem hs_Mn_u {T T' : Nat → Prop} {k k' : Nat → Int32} {r r' : Int32} (h : hs_Mn T k r) (h' : hs_Mn T' k' r') (l1 : ∀ x, T x → ∃ j, T' j ∧ k' j = k x) (l2 : ∀ j, T' j → ∃ x, T x ∧ k x = k' j) : r' = r := by
  rcases h with ⟨h, rfl⟩ | ⟨b, b1, rfl, b2⟩
  · rcases h' with ⟨_, rfl⟩ | ⟨c, c1, _, _⟩
    · rfl
    · obtain ⟨x, hx, _⟩ := l2 c c1
      exact absurd hx (h x)
  · rcases h' with ⟨h', _⟩ | ⟨c, c1, rfl, c2⟩
    · obtain ⟨j, hj, _⟩ := l1 b b1
      exact absurd hj (h' j)
    · obtain ⟨j, j1, j2⟩ := l1 b b1
      obtain ⟨x, x1, x2⟩ := l2 c c1
      have p := c2 j j1
      have q := b2 x x1
      rw [j2] at p
      rw [x2] at q
      exact Int32.le_antisymm p q
end
section
variable {fC fW fL fM fB fR : Int32} {aT aK aV aC aD aE aS aN aH aP aQ aO aB aG : Nat → Int32} {gC : Int32} {gK gV : Nat → Int32} {n n' : Nat} {M : Int32 → Int32 → Prop} {T : Nat → Prop}
theorem hs_l1 (hM : ∀ k v, M k v ↔ ∃ x, T x ∧ aK x = k ∧ aV x = v) (Y : hs_YM n M gC gK gV) : ∀ x, T x → ∃ j, j < n ∧ gK j = aK x ∧ gV j = aV x := fun x hx => (Y.2.2.2 _ _).mp ((hM _ _).mpr ⟨x, hx, rfl, rfl⟩)
theorem hs_l2 (hM : ∀ k v, M k v ↔ ∃ x, T x ∧ aK x = k ∧ aV x = v) (Y : hs_YM n M gC gK gV) : ∀ j, j < n → ∃ x, T x ∧ aK x = gK j ∧ aV x = gV j := fun j hj => (hM _ _).mp ((Y.2.2.2 _ _).mpr ⟨j, hj, rfl, rfl⟩)
theorem hs_cnt_eq (X : hs_X T fC fW fL fM fB fR aT aK aV aC aD aE aS aN aH aP aQ aO aB aG) (hM : ∀ k v, M k v ↔ ∃ x, T x ∧ aK x = k ∧ aV x = v) (Y : hs_YM n M gC gK gV) (p : Int32 → Prop) : hs_cn (fun x => T x ∧ p (aV x)) 24 = hs_cn (fun j => p (gV j)) n := by
  refine hs_cn_bij (fun x j => T x ∧ j < n ∧ gK j = aK x) (fun x _ hx => ?_) (fun j hj hp => ?_) (fun x y j h1 h2 => X.2.2.1 x y h1.1 h2.1 (h1.2.2.symm.trans h2.2.2)) (fun x i j h1 h2 => Y.2.2.1 i j h1.2.1 h2.2.1 (h1.2.2.trans h2.2.2.symm))
  · obtain ⟨j, j1, j2, j3⟩ := hs_l1 hM Y x hx.1
    exact ⟨j, j1, by rw [j3]; exact hx.2, hx.1, j1, j2⟩
  · obtain ⟨x, x1, x2, x3⟩ := hs_l2 hM Y j hj
    exact ⟨x, hs_X24 X x1, ⟨x1, by rw [x3]; exact hp⟩, x1, hj, x2.symm⟩
theorem hs_sum_eq (X : hs_X T fC fW fL fM fB fR aT aK aV aC aD aE aS aN aH aP aQ aO aB aG) (hM : ∀ k v, M k v ↔ ∃ x, T x ∧ aK x = k ∧ aV x = v) (Y : hs_YM n M gC gK gV) : hs_sm T aV 24 = hs_sm (fun _ => True) gV n := by
  refine hs_sm_bij (fun x j => T x ∧ j < n ∧ gK j = aK x) (fun x _ hx => ?_) (fun j hj hp => ?_) (fun x y j h1 h2 => X.2.2.1 x y h1.1 h2.1 (h1.2.2.symm.trans h2.2.2)) (fun x i j h1 h2 => Y.2.2.1 i j h1.2.1 h2.2.1 (h1.2.2.trans h2.2.2.symm))
  · obtain ⟨j, j1, j2, j3⟩ := hs_l1 hM Y x hx
    exact ⟨j, j1, trivial, ⟨hx, j1, j2⟩, j3⟩
  · obtain ⟨x, x1, x2, x3⟩ := hs_l2 hM Y j hj
    exact ⟨x, hs_X24 X x1, x1, x1, hj, x2.symm⟩
theorem hs_card (h : hs_XM n M fC fW fL fM fB fR aT aK aV aC aD aE aS aN aH aP aQ aO aB aG) (Y : hs_YM n' M gC gK gV) : n = n' := by
  obtain ⟨T, X, hc, hM⟩ := h
  have a := hs_cnt_eq X hM Y (fun _ => True)
  have b := hs_cn_all (P := fun _ => True) (n := n') (fun _ _ => trivial)
  have c := hs_cn_eq (P := fun x => T x ∧ True) (Q := T) (n := 24) (fun x _ => ⟨fun q => q.1, fun q => ⟨q, trivial⟩⟩)
  omega
end
end
section
/-! remove, add, move of both sides against a map -/
section
variable {fC fW fL fM fB fR : Int32} {aT aK aV aC aD aE aS aN aH aP aQ aO aB aG : Nat → Int32} {n : Nat} {M : Int32 → Int32 → Prop}
theorem hs_xremA {post : Int32 → SX → Prop} {k : Int32} (h : hs_XM n M fC fW fL fM fB fR aT aK aV aC aD aE aS aN aH aP aQ aO aB aG) (hp : ∃ v0, M k v0) (K : ∀ fC fW fL fM fB fR aT aK aV aC aD aE aS aN aH aP aQ aO aB aG, hs_XM (n - 1) (hs_Md M k) fC fW fL fM fB fR aT aK aV aC aD aE aS aN aH aP aQ aO aB aG → post 1 (fC, fW, fL, fM, fB, fR, aT, aK, aV, aC, aD, aE, aS, aN, aH, aP, aQ, aO, aB, aG)) : wpX_remove post (fC, fW, fL, fM, fB, fR, aT, aK, aV, aC, aD, aE, aS, aN, aH, aP, aQ, aO, aB, aG) k := by
  obtain ⟨T, X, hc, hM⟩ := h
  obtain ⟨v0, hp⟩ := hp
  obtain ⟨x, x1, rfl, x3⟩ := (hM k v0).mp hp
  unfold wpX_remove
  exact hs_findy (e := 1) X (by decide) x1 (br_t (nI_pos' (by have := hs_X24 X x1; omega)) (hs_xtake X hc hM x1 rfl (fun fC fW fL fM fB fR aT aK aV aC aD aE aS aN aH aP aQ aO aB aG X2 => K fC fW fL fM fB fR aT aK aV aC aD aE aS aN aH aP aQ aO aB aG X2)))
theorem hs_xremB {post : Int32 → SX → Prop} {k : Int32} (h : hs_XM n M fC fW fL fM fB fR aT aK aV aC aD aE aS aN aH aP aQ aO aB aG) (hp : ¬ ∃ v0, M k v0) (K : post 0 (fC, fW, fL, fM, fB, fR, aT, aK, aV, aC, aD, aE, aS, aN, aH, aP, aQ, aO, aB, aG)) : wpX_remove post (fC, fW, fL, fM, fB, fR, aT, aK, aV, aC, aD, aE, aS, aN, aH, aP, aQ, aO, aB, aG) k := by
  obtain ⟨T, X, hc, hM⟩ := h
  unfold wpX_remove
  exact hs_findn (e := 1) X (by decide) (hs_xabs (n := n) hM hp) (br_f hs_m1p K)
theorem hs_xaddA {post : Int32 → SX → Prop} {k v0 d : Int32} (h : hs_XM n M fC fW fL fM fB fR aT aK aV aC aD aE aS aN aH aP aQ aO aB aG) (hp : M k v0) (K : ∀ fC fW fL fM fB fR aT aK aV aC aD aE aS aN aH aP aQ aO aB aG, hs_XM n (hs_Mp M k (v0 + d)) fC fW fL fM fB fR aT aK aV aC aD aE aS aN aH aP aQ aO aB aG → post (nI n) (fC, fW, fL, fM, fB, fR, aT, aK, aV, aC, aD, aE, aS, aN, aH, aP, aQ, aO, aB, aG)) : wpX_add post (fC, fW, fL, fM, fB, fR, aT, aK, aV, aC, aD, aE, aS, aN, aH, aP, aQ, aO, aB, aG) k d := by
  have h' := h
  obtain ⟨T, X, hc, hM⟩ := h'
  obtain ⟨x, x1, rfl, rfl⟩ := (hM k v0).mp hp
  have h24 := hs_X24 X x1
  unfold wpX_add
  refine hs_findy (e := 2) X (by decide) x1 (br_t (nI_pos' (by omega)) ⟨?_, ?_⟩)
  · rw [hs_p48]; exact vp_in_nI (by omega) (by decide)
  · rw [hs_p48, nI_clamp (by omega)]
    have e : aV (48 + x) = aV x := X.2.2.2.1 x x1 2 (by decide)
    rw [e]
    unfold wX_add_24
    exact hs_xputA h ⟨_, hp⟩ (fun fC fW fL fM fB fR aT aK aV aC aD aE aS aN aH aP aQ aO aB aG X2 => K fC fW fL fM fB fR aT aK aV aC aD aE aS aN aH aP aQ aO aB aG X2)
theorem hs_xaddB {post : Int32 → SX → Prop} {k d : Int32} (h : hs_XM n M fC fW fL fM fB fR aT aK aV aC aD aE aS aN aH aP aQ aO aB aG) (hp : ¬ ∃ v0, M k v0) (hn : ¬ n < 24) (K : post (-1) (fC, fW, fL, fM, fB, fR, aT, aK, aV, aC, aD, aE, aS, aN, aH, aP, aQ, aO, aB, aG)) : wpX_add post (fC, fW, fL, fM, fB, fR, aT, aK, aV, aC, aD, aE, aS, aN, aH, aP, aQ, aO, aB, aG) k d := by
  have h' := h
  obtain ⟨T, X, hc, hM⟩ := h'
  unfold wpX_add
  refine hs_findn (e := 2) X (by decide) (hs_xabs (n := n) hM hp) (br_f hs_m1p ?_)
  unfold wX_add_24
  exact hs_xputB h hp hn K
theorem hs_xaddC {post : Int32 → SX → Prop} {k d : Int32} (h : hs_XM n M fC fW fL fM fB fR aT aK aV aC aD aE aS aN aH aP aQ aO aB aG) (hp : ¬ ∃ v0, M k v0) (hn : n < 24) (K : ∀ fC fW fL fM fB fR aT aK aV aC aD aE aS aN aH aP aQ aO aB aG, hs_XM (n + 1) (hs_Mp M k d) fC fW fL fM fB fR aT aK aV aC aD aE aS aN aH aP aQ aO aB aG → post (nI (n + 1)) (fC, fW, fL, fM, fB, fR, aT, aK, aV, aC, aD, aE, aS, aN, aH, aP, aQ, aO, aB, aG)) : wpX_add post (fC, fW, fL, fM, fB, fR, aT, aK, aV, aC, aD, aE, aS, aN, aH, aP, aQ, aO, aB, aG) k d := by
  have h' := h
  obtain ⟨T, X, hc, hM⟩ := h'
  unfold wpX_add
  refine hs_findn (e := 2) X (by decide) (hs_xabs (n := n) hM hp) (br_f hs_m1p ?_)
  unfold wX_add_24
  rw [Int32.zero_add]
  exact hs_xputC h hp hn (fun fC fW fL fM fB fR aT aK aV aC aD aE aS aN aH aP aQ aO aB aG X2 => K fC fW fL fM fB fR aT aK aV aC aD aE aS aN aH aP aQ aO aB aG X2)
theorem hs_xmoveN {post : Int32 → SX → Prop} {f t : Int32} (h : hs_XM n M fC fW fL fM fB fR aT aK aV aC aD aE aS aN aH aP aQ aO aB aG) (hp : ¬ ∃ v0, M f v0) (K : post 0 (fC, fW, fL, fM, fB, fR, aT, aK, aV, aC, aD, aE, aS, aN, aH, aP, aQ, aO, aB, aG)) : wpX_move post (fC, fW, fL, fM, fB, fR, aT, aK, aV, aC, aD, aE, aS, aN, aH, aP, aQ, aO, aB, aG) f t := by
  obtain ⟨T, X, hc, hM⟩ := h
  unfold wpX_move
  exact hs_findn (e := 3) X (by decide) (hs_xabs (n := n) hM hp) (br_t hs_m1n K)
theorem hs_xmoveE {post : Int32 → SX → Prop} {f : Int32} (h : hs_XM n M fC fW fL fM fB fR aT aK aV aC aD aE aS aN aH aP aQ aO aB aG) (hp : ∃ v0, M f v0) (K : post 0 (fC, fW, fL, fM, fB, fR, aT, aK, aV, aC, aD, aE, aS, aN, aH, aP, aQ, aO, aB, aG)) : wpX_move post (fC, fW, fL, fM, fB, fR, aT, aK, aV, aC, aD, aE, aS, aN, aH, aP, aQ, aO, aB, aG) f f := by
  obtain ⟨T, X, hc, hM⟩ := h
  obtain ⟨v0, hp⟩ := hp
  obtain ⟨x, x1, rfl, x3⟩ := (hM f v0).mp hp
  unfold wpX_move
  exact hs_findy (e := 3) X (by decide) x1 (br_f (nI_pos (by have := hs_X24 X x1; omega)) (br_t rfl K))
theorem hs_xmoveP {post : Int32 → SX → Prop} {f t v0 : Int32} (h : hs_XM n M fC fW fL fM fB fR aT aK aV aC aD aE aS aN aH aP aQ aO aB aG) (hp : M f v0) (ne : ¬ f = t) (K : ∀ n' fC fW fL fM fB fR aT aK aV aC aD aE aS aN aH aP aQ aO aB aG, hs_XM n' (hs_Mp (hs_Md M f) t v0) fC fW fL fM fB fR aT aK aV aC aD aE aS aN aH aP aQ aO aB aG → post 1 (fC, fW, fL, fM, fB, fR, aT, aK, aV, aC, aD, aE, aS, aN, aH, aP, aQ, aO, aB, aG)) : wpX_move post (fC, fW, fL, fM, fB, fR, aT, aK, aV, aC, aD, aE, aS, aN, aH, aP, aQ, aO, aB, aG) f t := by
  obtain ⟨T, X, hc, hM⟩ := h
  obtain ⟨x, x1, rfl, rfl⟩ := (hM f v0).mp hp
  have h24 := hs_X24 X x1
  have l : n ≤ 24 := by rw [← hc]; exact hs_cn_le _ _
  unfold wpX_move
  refine hs_findy (e := 3) X (by decide) x1 (br_f (nI_pos (by omega)) (br_f ne ⟨?_, nm_r (e' := aV x) ?_ ?_⟩))
  · rw [hs_p72]; exact vp_in_nI (by omega) (by decide)
  · rw [hs_p72, nI_clamp (by omega)]
    exact X.2.2.2.1 x x1 3 (by decide)
  · by_cases ht : ∃ v, hs_Md M (aK x) t v
    · exact hs_xtake X hc hM x1 rfl (fun fC fW fL fM fB fR aT aK aV aC aD aE aS aN aH aP aQ aO aB aG X2 => hs_xputA X2 ht (fun fC fW fL fM fB fR aT aK aV aC aD aE aS aN aH aP aQ aO aB aG X3 => K _ fC fW fL fM fB fR aT aK aV aC aD aE aS aN aH aP aQ aO aB aG X3))
    · exact hs_xtake X hc hM x1 rfl (fun fC fW fL fM fB fR aT aK aV aC aD aE aS aN aH aP aQ aO aB aG X2 => hs_xputC X2 ht (by omega) (fun fC fW fL fM fB fR aT aK aV aC aD aE aS aN aH aP aQ aO aB aG X3 => K _ fC fW fL fM fB fR aT aK aV aC aD aE aS aN aH aP aQ aO aB aG X3))
end
section
variable {gC : Int32} {gK gV : Nat → Int32} {n : Nat} {M : Int32 → Int32 → Prop}
theorem hs_yaddA {post : Int32 → SY → Prop} {k v0 d : Int32} (Y : hs_YM n M gC gK gV) (hp : M k v0) (K : ∀ gC gK gV, hs_YM n (hs_Mp M k (v0 + d)) gC gK gV → post (nI n) (gC, gK, gV)) : wpY_add post (gC, gK, gV) k d := by
  have l := Y.2.1
  unfold wpY_add
  refine hs_yfindA Y hp (fun j hj e1 e2 => br_t (nI_pos' (by omega)) ⟨vp_in_nI (by omega) (by decide), ?_⟩)
  rw [nI_clamp (by omega), e2]
  unfold wY_add_24
  exact hs_yputA Y ⟨v0, hp⟩ (fun gC gK gV Y2 => K gC gK gV Y2)
theorem hs_yaddB {post : Int32 → SY → Prop} {k d : Int32} (Y : hs_YM n M gC gK gV) (hp : ¬ ∃ v0, M k v0) (hn : ¬ n < 24) (K : post (-1) (gC, gK, gV)) : wpY_add post (gC, gK, gV) k d := by
  unfold wpY_add
  refine hs_yfindB Y hp (br_f hs_m1p ?_)
  unfold wY_add_24
  exact hs_yputB Y hp hn K
theorem hs_yaddC {post : Int32 → SY → Prop} {k d : Int32} (Y : hs_YM n M gC gK gV) (hp : ¬ ∃ v0, M k v0) (hn : n < 24) (K : ∀ gC gK gV, hs_YM (n + 1) (hs_Mp M k d) gC gK gV → post (nI (n + 1)) (gC, gK, gV)) : wpY_add post (gC, gK, gV) k d := by
  unfold wpY_add
  refine hs_yfindB Y hp (br_f hs_m1p ?_)
  unfold wY_add_24
  exact hs_yputC Y hp hn (fun gC gK gV Y2 => K gC gK gV Y2)
theorem hs_ymoveN {post : Int32 → SY → Prop} {f t : Int32} (Y : hs_YM n M gC gK gV) (hp : ¬ ∃ v0, M f v0) (K : post 0 (gC, gK, gV)) : wpY_move post (gC, gK, gV) f t := by
  unfold wpY_move
  exact hs_yfindB Y hp (br_t hs_m1n K)
theorem hs_ymoveE {post : Int32 → SY → Prop} {f : Int32} (Y : hs_YM n M gC gK gV) (hp : ∃ v0, M f v0) (K : post 0 (gC, gK, gV)) : wpY_move post (gC, gK, gV) f f := by
  have l := Y.2.1
  obtain ⟨v0, hp⟩ := hp
  unfold wpY_move
  exact hs_yfindA Y hp (fun j hj e1 e2 => br_f (nI_pos (by omega)) (br_t rfl K))
theorem hs_ymoveP {post : Int32 → SY → Prop} {f t v0 : Int32} (Y : hs_YM n M gC gK gV) (hp : M f v0) (ne : ¬ f = t) (K : ∀ n' gC gK gV, hs_YM n' (hs_Mp (hs_Md M f) t v0) gC gK gV → post 1 (gC, gK, gV)) : wpY_move post (gC, gK, gV) f t := by
  have l := Y.2.1
  unfold wpY_move
  refine hs_yfindA Y hp (fun j hj e1 e2 => br_f (nI_pos (by omega)) (br_f ne ⟨vp_in_nI (by omega) (by decide), nm_r (e' := v0) ?_ ?_⟩))
  · rw [nI_clamp (by omega)]; exact e2
  · refine hs_yremA Y ⟨v0, hp⟩ (fun gC gK gV Y2 => ?_)
    by_cases ht : ∃ v, hs_Md M f t v
    · exact hs_yputA Y2 ht (fun gC gK gV Y3 => K _ gC gK gV Y3)
    · exact hs_yputC Y2 ht (by omega) (fun gC gK gV Y3 => K _ gC gK gV Y3)
end
theorem hs_ro1 (k : Int32) : hs_ro 1 k = 0 := by
  have z := rem_toInt k 1
  have i1 : (1 : Int32).toInt = 1 := by decide
  have i0 : (0 : Int32).toInt = 0 := by decide
  rw [i1, Int.tmod_one] at z
  have q : k - k / 1 * 1 = 0 := Int32.toInt_inj.mp (z.trans i0.symm)
  unfold hs_ro
  rw [q]
  decide
end
section
/-! the relation and what is owed -/
/-- both sides hold one map of n keys -/
def i_Rel (k : Nat) (u : SX) (v : SY) : Prop := ∃ (n : Nat) (M : Int32 → Int32 → Prop), hs_XM n M u.1 u.2.1 u.2.2.1 u.2.2.2.1 u.2.2.2.2.1 u.2.2.2.2.2.1 u.2.2.2.2.2.2.1 u.2.2.2.2.2.2.2.1 u.2.2.2.2.2.2.2.2.1 u.2.2.2.2.2.2.2.2.2.1 u.2.2.2.2.2.2.2.2.2.2.1 u.2.2.2.2.2.2.2.2.2.2.2.1 u.2.2.2.2.2.2.2.2.2.2.2.2.1 u.2.2.2.2.2.2.2.2.2.2.2.2.2.1 u.2.2.2.2.2.2.2.2.2.2.2.2.2.2.1 u.2.2.2.2.2.2.2.2.2.2.2.2.2.2.2.1 u.2.2.2.2.2.2.2.2.2.2.2.2.2.2.2.2.1 u.2.2.2.2.2.2.2.2.2.2.2.2.2.2.2.2.2.1 u.2.2.2.2.2.2.2.2.2.2.2.2.2.2.2.2.2.2.1 u.2.2.2.2.2.2.2.2.2.2.2.2.2.2.2.2.2.2.2 ∧ hs_YM n M v.1 v.2.1 v.2.2
theorem hs_mk {k : Nat} {fC fW fL fM fB fR : Int32} {aT aK aV aC aD aE aS aN aH aP aQ aO aB aG : Nat → Int32} {gC : Int32} {gK gV : Nat → Int32} {n : Nat} {M : Int32 → Int32 → Prop} (X : hs_XM n M fC fW fL fM fB fR aT aK aV aC aD aE aS aN aH aP aQ aO aB aG) (Y : hs_YM n M gC gK gV) : i_Rel k (fC, fW, fL, fM, fB, fR, aT, aK, aV, aC, aD, aE, aS, aN, aH, aP, aQ, aO, aB, aG) (gC, gK, gV) := ⟨n, M, X, Y⟩
theorem hs_el {k : Nat} {P : SX → SY → Prop} (h : ∀ n M fC fW fL fM fB fR aT aK aV aC aD aE aS aN aH aP aQ aO aB aG gC gK gV, hs_XM n M fC fW fL fM fB fR aT aK aV aC aD aE aS aN aH aP aQ aO aB aG → hs_YM n M gC gK gV → P (fC, fW, fL, fM, fB, fR, aT, aK, aV, aC, aD, aE, aS, aN, aH, aP, aQ, aO, aB, aG) (gC, gK, gV)) {u : SX} {v : SY} (I : i_Rel k u v) : P u v :=
  Exists.elim I (fun n I => Exists.elim I (fun M I => h n M u.1 u.2.1 u.2.2.1 u.2.2.2.1 u.2.2.2.2.1 u.2.2.2.2.2.1 u.2.2.2.2.2.2.1 u.2.2.2.2.2.2.2.1 u.2.2.2.2.2.2.2.2.1 u.2.2.2.2.2.2.2.2.2.1 u.2.2.2.2.2.2.2.2.2.2.1 u.2.2.2.2.2.2.2.2.2.2.2.1 u.2.2.2.2.2.2.2.2.2.2.2.2.1 u.2.2.2.2.2.2.2.2.2.2.2.2.2.1 u.2.2.2.2.2.2.2.2.2.2.2.2.2.2.1 u.2.2.2.2.2.2.2.2.2.2.2.2.2.2.2.1 u.2.2.2.2.2.2.2.2.2.2.2.2.2.2.2.2.1 u.2.2.2.2.2.2.2.2.2.2.2.2.2.2.2.2.2.1 u.2.2.2.2.2.2.2.2.2.2.2.2.2.2.2.2.2.2.1 u.2.2.2.2.2.2.2.2.2.2.2.2.2.2.2.2.2.2.2 v.1 v.2.1 v.2.2 I.1 I.2))
theorem i_up {k : Nat} {u : SX} {v : SY} (h : i_Rel k u v) : i_Rel (k + 3) u v := hs_el (P := fun u v => i_Rel (k + 3) u v) (fun n M fC fW fL fM fB fR aT aK aV aC aD aE aS aN aH aP aQ aO aB aG gC gK gV X Y => hs_mk X Y) h
theorem i_vc0 : wpX_init (fun u => wpY_init (fun v => i_Rel 0 u v)) := by
  unfold wpX_init
  refine hs_start (fun aC aS aN aP aQ aH aO aB I => ?_)
  refine hs_mk (k := 0) (n := 0) (M := fun _ _ => False) ⟨fun _ => False, ⟨I, fun x => ⟨fun q => q.elim, fun q => q.2 rfl⟩, fun x _ q => q.elim, fun x q => q.elim, ?_⟩, hs_cn_no (fun _ _ => id), fun k v => ⟨fun q => q.elim, fun ⟨x, q, _⟩ => q.elim⟩⟩ ⟨rfl, by decide, fun i j hi => absurd hi (by omega), fun k v => ⟨fun q => q.elim, fun ⟨j, q, _⟩ => absurd q (by omega)⟩⟩
  rw [hs_cn_no (fun _ _ => id)]
  rfl
theorem i_vc_put {k : Nat} {u : SX} {v : SY} (I : i_Rel k u v) (hk : k + 3 ≤ 1536) (v1 : Int32) (v2 : Int32) : wpX_put (fun r u' => wpY_put (fun r' v' => r' = r ∧ i_Rel (k + 3) u' v') v v1 v2) u v1 v2 := by
  refine hs_el (P := fun u v => wpX_put (fun r u' => wpY_put (fun r' v' => r' = r ∧ i_Rel (k + 3) u' v') v v1 v2) u v1 v2) (fun n M fC fW fL fM fB fR aT aK aV aC aD aE aS aN aH aP aQ aO aB aG gC gK gV X Y => ?_) I
  by_cases hp : ∃ v0, M v1 v0
  · exact hs_xputA X hp (fun fC fW fL fM fB fR aT aK aV aC aD aE aS aN aH aP aQ aO aB aG X2 => hs_yputA Y hp (fun gC gK gV Y2 => ⟨rfl, hs_mk X2 Y2⟩))
  · by_cases hn : n < 24
    · exact hs_xputC X hp hn (fun fC fW fL fM fB fR aT aK aV aC aD aE aS aN aH aP aQ aO aB aG X2 => hs_yputC Y hp hn (fun gC gK gV Y2 => ⟨rfl, hs_mk X2 Y2⟩))
    · exact hs_xputB X hp hn (hs_yputB Y hp hn ⟨rfl, hs_mk X Y⟩)
theorem i_vc_remove {k : Nat} {u : SX} {v : SY} (I : i_Rel k u v) (hk : k + 3 ≤ 1536) (v1 : Int32) : wpX_remove (fun r u' => wpY_remove (fun r' v' => r' = r ∧ i_Rel (k + 3) u' v') v v1) u v1 := by
  refine hs_el (P := fun u v => wpX_remove (fun r u' => wpY_remove (fun r' v' => r' = r ∧ i_Rel (k + 3) u' v') v v1) u v1) (fun n M fC fW fL fM fB fR aT aK aV aC aD aE aS aN aH aP aQ aO aB aG gC gK gV X Y => ?_) I
  by_cases hp : ∃ v0, M v1 v0
  · exact hs_xremA X hp (fun fC fW fL fM fB fR aT aK aV aC aD aE aS aN aH aP aQ aO aB aG X2 => hs_yremA Y hp (fun gC gK gV Y2 => ⟨rfl, hs_mk X2 Y2⟩))
  · exact hs_xremB X hp (hs_yremB Y hp ⟨rfl, hs_mk X Y⟩)
theorem i_vc_add {k : Nat} {u : SX} {v : SY} (I : i_Rel k u v) (hk : k + 3 ≤ 1536) (v1 : Int32) (v2 : Int32) : wpX_add (fun r u' => wpY_add (fun r' v' => r' = r ∧ i_Rel (k + 3) u' v') v v1 v2) u v1 v2 := by
  refine hs_el (P := fun u v => wpX_add (fun r u' => wpY_add (fun r' v' => r' = r ∧ i_Rel (k + 3) u' v') v v1 v2) u v1 v2) (fun n M fC fW fL fM fB fR aT aK aV aC aD aE aS aN aH aP aQ aO aB aG gC gK gV X Y => ?_) I
  by_cases hp : ∃ v0, M v1 v0
  · obtain ⟨v0, hp⟩ := hp
    exact hs_xaddA X hp (fun fC fW fL fM fB fR aT aK aV aC aD aE aS aN aH aP aQ aO aB aG X2 => hs_yaddA Y hp (fun gC gK gV Y2 => ⟨rfl, hs_mk X2 Y2⟩))
  · by_cases hn : n < 24
    · exact hs_xaddC X hp hn (fun fC fW fL fM fB fR aT aK aV aC aD aE aS aN aH aP aQ aO aB aG X2 => hs_yaddC Y hp hn (fun gC gK gV Y2 => ⟨rfl, hs_mk X2 Y2⟩))
    · exact hs_xaddB X hp hn (hs_yaddB Y hp hn ⟨rfl, hs_mk X Y⟩)
theorem i_vc_move {k : Nat} {u : SX} {v : SY} (I : i_Rel k u v) (hk : k + 3 ≤ 1536) (v1 : Int32) (v2 : Int32) : wpX_move (fun r u' => wpY_move (fun r' v' => r' = r ∧ i_Rel (k + 3) u' v') v v1 v2) u v1 v2 := by
  refine hs_el (P := fun u v => wpX_move (fun r u' => wpY_move (fun r' v' => r' = r ∧ i_Rel (k + 3) u' v') v v1 v2) u v1 v2) (fun n M fC fW fL fM fB fR aT aK aV aC aD aE aS aN aH aP aQ aO aB aG gC gK gV X Y => ?_) I
  by_cases hp : ∃ v0, M v1 v0
  · by_cases e : v1 = v2
    · subst e
      exact hs_xmoveE X hp (hs_ymoveE Y hp ⟨rfl, hs_mk X Y⟩)
    · obtain ⟨v0, hp⟩ := hp
      refine hs_xmoveP X hp e (fun n1 fC fW fL fM fB fR aT aK aV aC aD aE aS aN aH aP aQ aO aB aG X2 => hs_ymoveP Y hp e (fun n2 gC gK gV Y2 => ⟨rfl, ?_⟩))
      have c := hs_card X2 Y2
      subst c
      exact hs_mk X2 Y2
  · exact hs_xmoveN X hp (hs_ymoveN Y hp ⟨rfl, hs_mk X Y⟩)
theorem i_vc_sift {k : Nat} {u : SX} {v : SY} (I : i_Rel k u v) (hk : k + 3 ≤ 1536) (v1 : Int32) (v2 : Int32) : wpX_sift (fun r u' => wpY_sift (fun r' v' => r' = r ∧ i_Rel (k + 3) u' v') v v1 v2) u v1 v2 := by
  refine hs_el (P := fun u v => wpX_sift (fun r u' => wpY_sift (fun r' v' => r' = r ∧ i_Rel (k + 3) u' v') v v1 v2) u v1 v2) (fun n M fC fW fL fM fB fR aT aK aV aC aD aE aS aN aH aP aQ aO aB aG gC gK gV X Y => ?_) I
  by_cases h1 : v1 < 1
  · exact br_t h1 (br_t h1 ⟨rfl, hs_mk X Y⟩)
  · by_cases h2 : 1000 < v1
    · exact br_f h1 (br_t h2 (br_f h1 (br_t h2 ⟨rfl, hs_mk X Y⟩)))
    · by_cases h3 : v2 < 0
      · exact br_f h1 (br_f h2 (br_t h3 (br_f h1 (br_f h2 (br_t h3 ⟨rfl, hs_mk X Y⟩)))))
      · by_cases h4 : v2 < v1
        · refine hs_xsift X h1 h2 h3 h4 (fun c n1 e1 fC fW fL fM fB fR aT aK aV aC aD aE aS aN aH aP aQ aO aB aG X2 => hs_ysift Y h1 h2 h3 h4 (fun n2 l2 gC gK gV Y2 => ?_))
          have c2 := hs_card X2 Y2
          subst c2
          exact ⟨congrArg nI (by omega), hs_mk X2 Y2⟩
        · exact br_f h1 (br_f h2 (br_f h3 (br_f h4 (br_f h1 (br_f h2 (br_f h3 (br_f h4 ⟨rfl, hs_mk X Y⟩)))))))
theorem i_vc_clear {k : Nat} {u : SX} {v : SY} (I : i_Rel k u v) (hk : k + 3 ≤ 1536) : wpX_clear (fun r u' => wpY_clear (fun r' v' => r' = r ∧ i_Rel (k + 3) u' v') v) u := by
  refine hs_el (P := fun u v => wpX_clear (fun r u' => wpY_clear (fun r' v' => r' = r ∧ i_Rel (k + 3) u' v') v) u) (fun n M fC fW fL fM fB fR aT aK aV aC aD aE aS aN aH aP aQ aO aB aG gC gK gV X Y => ?_) I
  refine hs_xclear X (fun fC fW fL fM fB fR aT aK aV aC aD aE aS aN aH aP aQ aO aB aG X2 => ?_)
  show wpY_clear _ (gC, gK, gV)
  unfold wpY_clear
  refine hs_ysift Y (by decide) (by decide) (by decide) (by decide) (fun n2 l2 gC gK gV Y2 => ?_)
  have e : hs_Ms M 1 0 = fun _ _ => False := funext fun a => funext fun b => propext ⟨fun q => q.2 (hs_ro1 a), fun q => q.elim⟩
  rw [e] at Y2
  have c2 := hs_card X2 Y2
  subst c2
  exact ⟨rfl, hs_mk X2 Y2⟩
theorem i_vc_scatter {k : Nat} {u : SX} {v : SY} (I : i_Rel k u v) (hk : k + 3 ≤ 1536) (v1 : Int32) : wpX_scatter (fun u' => wpY_scatter (fun v' => i_Rel (k + 3) u' v') v v1) u v1 := by
  refine hs_el (P := fun u v => wpX_scatter (fun u' => wpY_scatter (fun v' => i_Rel (k + 3) u' v') v v1) u v1) (fun n M fC fW fL fM fB fR aT aK aV aC aD aE aS aN aH aP aQ aO aB aG gC gK gV X Y => ?_) I
  exact hs_xscatter X (fun fC fW fL fM fB fR aT aK aV aC aD aE aS aN aH aP aQ aO aB aG X2 => hs_mk (k := k + 3) X2 Y)
theorem i_vc_size {k : Nat} {u : SX} {v : SY} (I : i_Rel k u v) (hk : k + 3 ≤ 1536) : wpX_size (fun r => wpY_size (fun r' => r' = r ∧ i_Rel (k + 3) u v) v) u := by
  refine hs_el (P := fun u v => wpX_size (fun r => wpY_size (fun r' => r' = r ∧ i_Rel (k + 3) u v) v) u) (fun n M fC fW fL fM fB fR aT aK aV aC aD aE aS aN aH aP aQ aO aB aG gC gK gV X Y => ?_) I
  have e : gC = fC := by
    obtain ⟨T, X, hc, hM⟩ := X
    rw [Y.1, X.2.2.2.2, hc]
  exact And.intro e (hs_mk X Y)
theorem i_vc_has {k : Nat} {u : SX} {v : SY} (I : i_Rel k u v) (hk : k + 3 ≤ 1536) (v1 : Int32) (v2 : Int32) : wpX_has (fun r => wpY_has (fun r' => r' = r ∧ i_Rel (k + 3) u v) v v1 v2) u v1 v2 := by
  refine hs_el (P := fun u v => wpX_has (fun r => wpY_has (fun r' => r' = r ∧ i_Rel (k + 3) u v) v v1 v2) u v1 v2) (fun n M fC fW fL fM fB fR aT aK aV aC aD aE aS aN aH aP aQ aO aB aG gC gK gV X Y => ?_) I
  have l := Y.2.1
  have R : i_Rel (k + 3) (fC, fW, fL, fM, fB, fR, aT, aK, aV, aC, aD, aE, aS, aN, aH, aP, aQ, aO, aB, aG) (gC, gK, gV) := hs_mk X Y
  by_cases he : ∃ e, e < 8 ∧ v1 = nI e
  · obtain ⟨e, he, rfl⟩ := he
    obtain ⟨T, X, hc, hM⟩ := X
    by_cases hp : ∃ v0, M v2 v0
    · obtain ⟨v0, hp⟩ := hp
      obtain ⟨x, x1, rfl, x3⟩ := (hM v2 v0).mp hp
      refine hs_has1 X he x1 ?_
      show wpY_has _ (gC, gK, gV) _ _
      unfold wpY_has
      exact hs_yE1 he (br_f hs_10 (hs_yfindA Y hp (fun j hj e1 e2 => br_f (nI_pos (by omega)) ⟨rfl, R⟩)))
    · refine hs_has0 X he (hs_xabs (n := n) hM hp) ?_
      show wpY_has _ (gC, gK, gV) _ _
      unfold wpY_has
      exact hs_yE1 he (br_f hs_10 (hs_yfindB Y hp (br_t hs_m1n ⟨rfl, R⟩)))
  · refine hs_hasE he ?_
    show wpY_has _ (gC, gK, gV) _ _
    unfold wpY_has
    exact hs_yE0 he (br_t rfl ⟨rfl, R⟩)
theorem i_vc_get {k : Nat} {u : SX} {v : SY} (I : i_Rel k u v) (hk : k + 3 ≤ 1536) (v1 : Int32) (v2 : Int32) : wpX_get (fun r => wpY_get (fun r' => r' = r ∧ i_Rel (k + 3) u v) v v1 v2) u v1 v2 := by
  refine hs_el (P := fun u v => wpX_get (fun r => wpY_get (fun r' => r' = r ∧ i_Rel (k + 3) u v) v v1 v2) u v1 v2) (fun n M fC fW fL fM fB fR aT aK aV aC aD aE aS aN aH aP aQ aO aB aG gC gK gV X Y => ?_) I
  have l := Y.2.1
  have R : i_Rel (k + 3) (fC, fW, fL, fM, fB, fR, aT, aK, aV, aC, aD, aE, aS, aN, aH, aP, aQ, aO, aB, aG) (gC, gK, gV) := hs_mk X Y
  by_cases he : ∃ e, e < 8 ∧ v1 = nI e
  · obtain ⟨e, he, rfl⟩ := he
    obtain ⟨T, X, hc, hM⟩ := X
    by_cases hp : ∃ v0, M v2 v0
    · obtain ⟨v0, hp⟩ := hp
      obtain ⟨x, x1, rfl, rfl⟩ := (hM v2 v0).mp hp
      refine hs_get1 X he x1 ?_
      show wpY_get _ (gC, gK, gV) _ _
      unfold wpY_get
      refine hs_yfindA Y hp (fun j hj e1 e2 => hs_yE1 he (br_f hs_10 (br_f (nI_pos (by omega)) ⟨vp_in_nI (by omega) (by decide), ?_⟩)))
      rw [nI_clamp (by omega)]
      exact ⟨e2, R⟩
    · refine hs_get0 X he (hs_xabs (n := n) hM hp) ?_
      show wpY_get _ (gC, gK, gV) _ _
      unfold wpY_get
      exact hs_yfindB Y hp (hs_yE1 he (br_f hs_10 (br_t hs_m1n ⟨rfl, R⟩)))
  · refine hs_getE he ?_
    show wpY_get _ (gC, gK, gV) _ _
    unfold wpY_get
    obtain ⟨rfl, _⟩ := id Y
    exact hs_yfind l (fun j hj e => hs_yE0 he (br_t rfl ⟨rfl, R⟩)) (fun h => hs_yE0 he (br_t rfl ⟨rfl, R⟩))
theorem i_vc_count {k : Nat} {u : SX} {v : SY} (I : i_Rel k u v) (hk : k + 3 ≤ 1536) (v1 : Int32) (v2 : Int32) : wpX_count (fun r => wpY_count (fun r' => r' = r ∧ i_Rel (k + 3) u v) v v1 v2) u v1 v2 := by
  refine hs_el (P := fun u v => wpX_count (fun r => wpY_count (fun r' => r' = r ∧ i_Rel (k + 3) u v) v v1 v2) u v1 v2) (fun n M fC fW fL fM fB fR aT aK aV aC aD aE aS aN aH aP aQ aO aB aG gC gK gV X Y => ?_) I
  have R : i_Rel (k + 3) (fC, fW, fL, fM, fB, fR, aT, aK, aV, aC, aD, aE, aS, aN, aH, aP, aQ, aO, aB, aG) (gC, gK, gV) := hs_mk X Y
  by_cases he : ∃ e, e < 8 ∧ v1 = nI e
  · obtain ⟨e, he, rfl⟩ := he
    obtain ⟨T, X, hc, hM⟩ := X
    refine hs_cnt1 X he (hs_ycnt Y (hs_yE1 he (br_f hs_10 ⟨?_, R⟩)))
    exact congrArg nI (hs_cnt_eq X hM Y (fun a => a = v2)).symm
  · exact hs_cntE he (hs_ycnt Y (hs_yE0 he (br_t rfl ⟨rfl, R⟩)))
theorem i_vc_sum {k : Nat} {u : SX} {v : SY} (I : i_Rel k u v) (hk : k + 3 ≤ 1536) (v1 : Int32) : wpX_sum (fun r => wpY_sum (fun r' => r' = r ∧ i_Rel (k + 3) u v) v v1) u v1 := by
  refine hs_el (P := fun u v => wpX_sum (fun r => wpY_sum (fun r' => r' = r ∧ i_Rel (k + 3) u v) v v1) u v1) (fun n M fC fW fL fM fB fR aT aK aV aC aD aE aS aN aH aP aQ aO aB aG gC gK gV X Y => ?_) I
  have R : i_Rel (k + 3) (fC, fW, fL, fM, fB, fR, aT, aK, aV, aC, aD, aE, aS, aN, aH, aP, aQ, aO, aB, aG) (gC, gK, gV) := hs_mk X Y
  by_cases he : ∃ e, e < 8 ∧ v1 = nI e
  · obtain ⟨e, he, rfl⟩ := he
    obtain ⟨T, X, hc, hM⟩ := X
    exact hs_sum1 X he (hs_ysum Y he ⟨(hs_sum_eq X hM Y).symm, R⟩)
  · exact hs_sumE he (hs_ysumE Y he ⟨rfl, R⟩)
theorem i_vc_least {k : Nat} {u : SX} {v : SY} (I : i_Rel k u v) (hk : k + 3 ≤ 1536) : wpX_least (fun r => wpY_least (fun r' => r' = r ∧ i_Rel (k + 3) u v) v) u := by
  refine hs_el (P := fun u v => wpX_least (fun r => wpY_least (fun r' => r' = r ∧ i_Rel (k + 3) u v) v) u) (fun n M fC fW fL fM fB fR aT aK aV aC aD aE aS aN aH aP aQ aO aB aG gC gK gV X Y => ?_) I
  have R : i_Rel (k + 3) (fC, fW, fL, fM, fB, fR, aT, aK, aV, aC, aD, aE, aS, aN, aH, aP, aQ, aO, aB, aG) (gC, gK, gV) := hs_mk X Y
  obtain ⟨T, X, hc, hM⟩ := X
  refine hs_least X (fun r h => hs_yleast Y (fun r' h' => ⟨hs_Mn_u h h' (fun x hx => ?_) (fun j hj => ?_), R⟩))
  · obtain ⟨j, j1, j2, j3⟩ := hs_l1 hM Y x hx
    exact ⟨j, j1, j2⟩
  · obtain ⟨x, x1, x2, x3⟩ := hs_l2 hM Y j hj
    exact ⟨x, x1, x2⟩
theorem i_vc_agree {k : Nat} {u : SX} {v : SY} (I : i_Rel k u v) (hk : k + 3 ≤ 1536) (v1 : Int32) (v2 : Int32) : wpX_agree (fun r => wpY_agree (fun r' => r' = r ∧ i_Rel (k + 3) u v) v v1 v2) u v1 v2 := by
  refine hs_el (P := fun u v => wpX_agree (fun r => wpY_agree (fun r' => r' = r ∧ i_Rel (k + 3) u v) v v1 v2) u v1 v2) (fun n M fC fW fL fM fB fR aT aK aV aC aD aE aS aN aH aP aQ aO aB aG gC gK gV X Y => ?_) I
  have R : i_Rel (k + 3) (fC, fW, fL, fM, fB, fR, aT, aK, aV, aC, aD, aE, aS, aN, aH, aP, aQ, aO, aB, aG) (gC, gK, gV) := hs_mk X Y
  by_cases he : ∃ e, e < 8 ∧ v1 = nI e
  · obtain ⟨e, he, rfl⟩ := he
    by_cases hf : ∃ e, e < 8 ∧ v2 = nI e
    · obtain ⟨f, hf, rfl⟩ := hf
      obtain ⟨T, X, hc, hM⟩ := X
      refine hs_agree1 X he hf ?_
      show wpY_agree _ (gC, gK, gV) _ _
      unfold wpY_agree
      exact hs_yE1 he (br_f hs_10 (hs_yE1 hf (br_f hs_10 ⟨rfl, R⟩)))
    · refine hs_agreeF he hf ?_
      show wpY_agree _ (gC, gK, gV) _ _
      unfold wpY_agree
      exact hs_yE1 he (br_f hs_10 (hs_yE0 hf (br_t rfl ⟨rfl, R⟩)))
  · refine hs_agreeE he ?_
    show wpY_agree _ (gC, gK, gV) _ _
    unfold wpY_agree
    exact hs_yE0 he (br_t rfl ⟨rfl, R⟩)
theorem i_vc_sound {k : Nat} {u : SX} {v : SY} (I : i_Rel k u v) (hk : k + 3 ≤ 1536) : wpX_sound (fun r => wpY_sound (fun r' => r' = r ∧ i_Rel (k + 3) u v) v) u := by
  refine hs_el (P := fun u v => wpX_sound (fun r => wpY_sound (fun r' => r' = r ∧ i_Rel (k + 3) u v) v) u) (fun n M fC fW fL fM fB fR aT aK aV aC aD aE aS aN aH aP aQ aO aB aG gC gK gV X Y => ?_) I
  have R : i_Rel (k + 3) (fC, fW, fL, fM, fB, fR, aT, aK, aV, aC, aD, aE, aS, aN, aH, aP, aQ, aO, aB, aG) (gC, gK, gV) := hs_mk X Y
  obtain ⟨T, X, hc, hM⟩ := X
  exact hs_sound X ⟨rfl, R⟩
end
